/-! ===== 12 NUMBERS AS INTEGERS: cI z, cL z; rules over them; printed by tools/jrules.py ===== -/
def cI (z : Int) : Int32 := Int32.ofInt z
def cL (z : Int) : Int64 := Int64.ofInt z
abbrev inI (z : Int) : Prop := -2147483648 ≤ z ∧ z ≤ 2147483647
abbrev inL (z : Int) : Prop := -9223372036854775808 ≤ z ∧ z ≤ 9223372036854775807
theorem cI_add (a b : Int) : cI a + cI b = cI (a + b) := (Int32.ofInt_add a b).symm
theorem cI_sub (a b : Int) : cI a - cI b = cI (a - b) := (Int32.ofInt_sub a b).symm
theorem cI_mul (a b : Int) : cI a * cI b = cI (a * b) := (Int32.ofInt_mul a b).symm
theorem cI_neg (a : Int) : -cI a = cI (-a) := (Int32.ofInt_neg a).symm
theorem cL_add (a b : Int) : cL a + cL b = cL (a + b) := (Int64.ofInt_add a b).symm
theorem cL_sub (a b : Int) : cL a - cL b = cL (a - b) := (Int64.ofInt_sub a b).symm
theorem cL_mul (a b : Int) : cL a * cL b = cL (a * b) := (Int64.ofInt_mul a b).symm
theorem cI_t (x : Int32) : cI x.toInt = x := Int32.ofInt_toInt x
theorem cL_t (x : Int64) : cL x.toInt = x := Int64.ofInt_toInt x
theorem t_cI {z : Int} (h : inI z) : (cI z).toInt = z := Int32.toInt_ofInt_of_le (by omega) (by omega)
theorem t_cL {z : Int} (h : inL z) : (cL z).toInt = z := Int64.toInt_ofInt_of_le (by omega) (by omega)
theorem inI_t (x : Int32) : inI x.toInt := ⟨by have := x.le_toInt; omega, by have := x.toInt_lt; omega⟩
theorem inL_t (x : Int64) : inL x.toInt := ⟨by have := x.le_toInt; omega, by have := x.toInt_lt; omega⟩
theorem ex_cI (x : Int32) : ∃ z, inI z ∧ x = cI z := ⟨x.toInt, inI_t x, (cI_t x).symm⟩
theorem ex_cL (x : Int64) : ∃ z, inL z ∧ x = cL z := ⟨x.toInt, inL_t x, (cL_t x).symm⟩
theorem cI_lt {a b : Int} (ha : inI a) (hb : inI b) : cI a < cI b ↔ a < b := by rw [Int32.lt_iff_toInt_lt, t_cI ha, t_cI hb]
theorem cI_le {a b : Int} (ha : inI a) (hb : inI b) : cI a ≤ cI b ↔ a ≤ b := by rw [Int32.le_iff_toInt_le, t_cI ha, t_cI hb]
theorem cI_eq {a b : Int} (ha : inI a) (hb : inI b) : cI a = cI b ↔ a = b := by rw [← Int32.toInt_inj, t_cI ha, t_cI hb]
theorem cL_lt {a b : Int} (ha : inL a) (hb : inL b) : cL a < cL b ↔ a < b := by rw [Int64.lt_iff_toInt_lt, t_cL ha, t_cL hb]
theorem cL_le {a b : Int} (ha : inL a) (hb : inL b) : cL a ≤ cL b ↔ a ≤ b := by rw [Int64.le_iff_toInt_le, t_cL ha, t_cL hb]
theorem cL_eq {a b : Int} (ha : inL a) (hb : inL b) : cL a = cL b ↔ a = b := by rw [← Int64.toInt_inj, t_cL ha, t_cL hb]
theorem cI_inB {z : Int} {j n : Nat} (hz : z = (j : Int)) (hj : j < n) (hn : n ≤ 2147483647) : inB (cI z) n ∧ (cI z).toNatClampNeg = j := by
  have h : inI z := by constructor <;> omega
  refine ⟨vp_in_iff.mpr ?_, ?_⟩
  · rw [t_cI h]; omega
  · rw [← Int32.toNat_toInt, t_cI h]; omega
theorem cI_ix {z : Int} {j : Nat} (hz : z = (j : Int)) (hj : j ≤ 2147483647) : ¬ cI z < 0 ∧ (cI z).toNatClampNeg = j := by
  have h : inI z := by constructor <;> omega
  refine ⟨?_, ?_⟩
  · rw [show (0 : Int32) = cI 0 from rfl, cI_lt h (by decide)]; omega
  · rw [← Int32.toNat_toInt, t_cI h]; omega
theorem cI_l {z : Int} (h : inI z) : (cI z).toInt64 = cL z := Int32.toInt64_ofInt h.1 h.2
theorem cL_i (z : Int) : (cL z).toInt32 = cI z := Int64.toInt32_ofInt
theorem cI_div {a b : Int} (ha : 0 ≤ a ∧ a ≤ 2147483647) (hb : 0 < b ∧ b ≤ 2147483647) : cI a / cI b = cI (a / b) := by
  obtain ⟨n, rfl⟩ := Int.eq_ofNat_of_zero_le ha.1
  obtain ⟨m, rfl⟩ := Int.eq_ofNat_of_zero_le (Int.le_of_lt hb.1)
  have h := pk_div (a := n) (d := m) (by omega) (by omega) (by omega)
  show Int32.ofInt _ / Int32.ofInt _ = Int32.ofInt _
  rw [← Int.natCast_ediv, Int32.ofInt_eq_ofNat, Int32.ofInt_eq_ofNat, Int32.ofInt_eq_ofNat]
  exact h
theorem cI_rem {a b : Int} (ha : 0 ≤ a ∧ a ≤ 2147483647) (hb : 0 < b ∧ b ≤ 2147483647) : cI a - cI a / cI b * cI b = cI (a % b) := by
  rw [cI_div ha hb, cI_mul, cI_sub, Int.emod_def, Int.mul_comm]
theorem cL_div {a b : Int} (ha : 0 ≤ a ∧ a ≤ 9223372036854775807) (hb : 0 < b ∧ b ≤ 9223372036854775807) : cL a / cL b = cL (a / b) := by
  obtain ⟨n, rfl⟩ := Int.eq_ofNat_of_zero_le ha.1
  obtain ⟨m, rfl⟩ := Int.eq_ofNat_of_zero_le (Int.le_of_lt hb.1)
  have h := pk_lDiv (a := n) (b := m) (by omega) (by omega) (by omega)
  show Int64.ofInt _ / Int64.ofInt _ = Int64.ofInt _
  rw [← Int.natCast_ediv, Int64.ofInt_eq_ofNat, Int64.ofInt_eq_ofNat, Int64.ofInt_eq_ofNat]
  exact h
theorem cL_rem {a b : Int} (ha : 0 ≤ a ∧ a ≤ 9223372036854775807) (hb : 0 < b ∧ b ≤ 9223372036854775807) : cL a - cL a / cL b * cL b = cL (a % b) := by
  rw [cL_div ha hb, cL_mul, cL_sub, Int.emod_def, Int.mul_comm]
section
variable {Y : MI} {d rc rs pc : Nat} {lv : List (Nat × Value)} {st : List Value} {I : M32} {L : M64} {R : MR} {T : SH} {Q : QT}
theorem j_iconst {n : Int} (hd : decode Y.2.1 pc = .ok (.iconst n, 1)) (k : Run Y d rc rs (pc + 1) lv (.int (cI n) :: st) I L R T Q) : Run Y d rc rs pc lv st I L R T Q := q_iconst hd rfl k
theorem j_bipush {n : Int} (hd : decode Y.2.1 pc = .ok (.bipush n, 2)) (hn : (Int8.ofInt n).toInt32 = cI n) (k : Run Y d rc rs (pc + 2) lv (.int (cI n) :: st) I L R T Q) : Run Y d rc rs pc lv st I L R T Q := q_bipush hd hn k
theorem j_sipush {n : Int} (hd : decode Y.2.1 pc = .ok (.sipush n, 3)) (hn : (Int16.ofInt n).toInt32 = cI n) (k : Run Y d rc rs (pc + 3) lv (.int (cI n) :: st) I L R T Q) : Run Y d rc rs pc lv st I L R T Q := q_sipush hd hn k
theorem j_lconst {n : Fin 2} {z : Int} (hd : decode Y.2.1 pc = .ok (.lconst n, 1)) (hz : Int64.ofNat (n : Nat) = cL z) (k : Run Y d rc rs (pc + 1) lv (.long (cL z) :: st) I L R T Q) : Run Y d rc rs pc lv st I L R T Q := q_lconst hd hz k
theorem j_ldc {i : Nat} {v : Int32} {z : Int} (hd : decode Y.2.1 pc = .ok (.ldc i, 2)) (hw : Cond.constant Y.1 i v ∈ lw_tbl) (hz : v = cI z) (k : Run Y d rc rs (pc + 2) lv (.int (cI z) :: st) I L R T Q) : Run Y d rc rs pc lv st I L R T Q := q_ldc hd hw (by rw [hz]; exact k)
theorem j_ldcw {i : Nat} {v : Int32} {z : Int} (hd : decode Y.2.1 pc = .ok (.ldc_w i, 3)) (hw : Cond.constant Y.1 i v ∈ lw_tbl) (hz : v = cI z) (k : Run Y d rc rs (pc + 3) lv (.int (cI z) :: st) I L R T Q) : Run Y d rc rs pc lv st I L R T Q := q_ldcw hd hw (by rw [hz]; exact k)
theorem j_ldc2 {i : Nat} {v : Int64} {z : Int} (hd : decode Y.2.1 pc = .ok (.ldc2_w i, 3)) (hw : Cond.constantLong Y.1 i v ∈ lw_tbl) (hz : v = cL z) (k : Run Y d rc rs (pc + 3) lv (.long (cL z) :: st) I L R T Q) : Run Y d rc rs pc lv st I L R T Q := q_ldc2 hd hw (by rw [hz]; exact k)
theorem j_iinc {i : Nat} {n x : Int} {lv' : List (Nat × Value)} (hd : decode Y.2.1 pc = .ok (.iinc i n, 3)) (hi : lv.lookup i = some (.int (cI x))) (hn : i < Y.2.2.1) (hv : lvS i (.int (cI (x + n))) lv = lv') (k : Run Y d rc rs (pc + 3) lv' st I L R T Q) : Run Y d rc rs pc lv st I L R T Q := q_iinc hd hi (cI_add x n) hn hv k
theorem j_iadd {x y : Int} (hd : decode Y.2.1 pc = .ok (.iadd, 1)) (k : Run Y d rc rs (pc + 1) lv (.int (cI (x + y)) :: st) I L R T Q) : Run Y d rc rs pc lv (.int (cI y) :: .int (cI x) :: st) I L R T Q := q_iadd hd (by rw [cI_add]; exact k)
theorem j_isub {x y : Int} (hd : decode Y.2.1 pc = .ok (.isub, 1)) (k : Run Y d rc rs (pc + 1) lv (.int (cI (x - y)) :: st) I L R T Q) : Run Y d rc rs pc lv (.int (cI y) :: .int (cI x) :: st) I L R T Q := q_isub hd (by rw [cI_sub]; exact k)
theorem j_imul {x y : Int} (hd : decode Y.2.1 pc = .ok (.imul, 1)) (k : Run Y d rc rs (pc + 1) lv (.int (cI (x * y)) :: st) I L R T Q) : Run Y d rc rs pc lv (.int (cI y) :: .int (cI x) :: st) I L R T Q := q_imul hd (by rw [cI_mul]; exact k)
theorem j_ladd {x y : Int} (hd : decode Y.2.1 pc = .ok (.ladd, 1)) (k : Run Y d rc rs (pc + 1) lv (.long (cL (x + y)) :: st) I L R T Q) : Run Y d rc rs pc lv (.long (cL y) :: .long (cL x) :: st) I L R T Q := q_ladd hd (by rw [cL_add]; exact k)
theorem j_lsub {x y : Int} (hd : decode Y.2.1 pc = .ok (.lsub, 1)) (k : Run Y d rc rs (pc + 1) lv (.long (cL (x - y)) :: st) I L R T Q) : Run Y d rc rs pc lv (.long (cL y) :: .long (cL x) :: st) I L R T Q := q_lsub hd (by rw [cL_sub]; exact k)
theorem j_lmul {x y : Int} (hd : decode Y.2.1 pc = .ok (.lmul, 1)) (k : Run Y d rc rs (pc + 1) lv (.long (cL (x * y)) :: st) I L R T Q) : Run Y d rc rs pc lv (.long (cL y) :: .long (cL x) :: st) I L R T Q := q_lmul hd (by rw [cL_mul]; exact k)
theorem j_ineg {x : Int} (hd : decode Y.2.1 pc = .ok (.ineg, 1)) (k : Run Y d rc rs (pc + 1) lv (.int (cI (-x)) :: st) I L R T Q) : Run Y d rc rs pc lv (.int (cI x) :: st) I L R T Q := q_ineg hd (by rw [cI_neg]; exact k)
theorem j_idiv {x y : Int} (hd : decode Y.2.1 pc = .ok (.idiv, 1)) (hx : 0 ≤ x ∧ x ≤ 2147483647) (hy : 0 < y ∧ y ≤ 2147483647) (k : Run Y d rc rs (pc + 1) lv (.int (cI (x / y)) :: st) I L R T Q) : Run Y d rc rs pc lv (.int (cI y) :: .int (cI x) :: st) I L R T Q := q_idiv hd (by rw [show (0 : Int32) = cI 0 from rfl, cI_eq (by constructor <;> omega) (by decide)]; omega) (by rw [cI_div hx hy]; exact k)
theorem j_irem {x y : Int} (hd : decode Y.2.1 pc = .ok (.irem, 1)) (hx : 0 ≤ x ∧ x ≤ 2147483647) (hy : 0 < y ∧ y ≤ 2147483647) (k : Run Y d rc rs (pc + 1) lv (.int (cI (x % y)) :: st) I L R T Q) : Run Y d rc rs pc lv (.int (cI y) :: .int (cI x) :: st) I L R T Q := q_irem hd (by rw [show (0 : Int32) = cI 0 from rfl, cI_eq (by constructor <;> omega) (by decide)]; omega) (by rw [cI_rem hx hy]; exact k)
theorem j_ldiv {x y : Int} (hd : decode Y.2.1 pc = .ok (.ldiv, 1)) (hx : 0 ≤ x ∧ x ≤ 9223372036854775807) (hy : 0 < y ∧ y ≤ 9223372036854775807) (k : Run Y d rc rs (pc + 1) lv (.long (cL (x / y)) :: st) I L R T Q) : Run Y d rc rs pc lv (.long (cL y) :: .long (cL x) :: st) I L R T Q := q_ldiv hd (by rw [show (0 : Int64) = cL 0 from rfl, cL_eq (by constructor <;> omega) (by decide)]; omega) (by rw [cL_div hx hy]; exact k)
theorem j_lrem {x y : Int} (hd : decode Y.2.1 pc = .ok (.lrem, 1)) (hx : 0 ≤ x ∧ x ≤ 9223372036854775807) (hy : 0 < y ∧ y ≤ 9223372036854775807) (k : Run Y d rc rs (pc + 1) lv (.long (cL (x % y)) :: st) I L R T Q) : Run Y d rc rs pc lv (.long (cL y) :: .long (cL x) :: st) I L R T Q := q_lrem hd (by rw [show (0 : Int64) = cL 0 from rfl, cL_eq (by constructor <;> omega) (by decide)]; omega) (by rw [cL_rem hx hy]; exact k)
theorem j_i2l {x : Int} (hd : decode Y.2.1 pc = .ok (.i2l, 1)) (hx : inI x) (k : Run Y d rc rs (pc + 1) lv (.long (cL x) :: st) I L R T Q) : Run Y d rc rs pc lv (.int (cI x) :: st) I L R T Q := q_i2l hd (by rw [cI_l hx]; exact k)
theorem j_l2i {x : Int} (hd : decode Y.2.1 pc = .ok (.l2i, 1)) (k : Run Y d rc rs (pc + 1) lv (.int (cI x) :: st) I L R T Q) : Run Y d rc rs pc lv (.long (cL x) :: st) I L R T Q := q_l2i hd (by rw [cL_i]; exact k)
theorem j_if_eq {x : Int} {off : Int} {tgt : Nat} (hd : decode Y.2.1 pc = .ok (.ifCond .eq off, 3)) (ht : (pc : Int) + off = (tgt : Int)) (hx : inI x) (kt : (x = 0) → Run Y d rc rs tgt lv st I L R T Q) (kf : (¬ x = 0) → Run Y d rc rs (pc + 3) lv st I L R T Q) : Run Y d rc rs pc lv (.int (cI x) :: st) I L R T Q := by
  have hz : inI 0 := by decide
  exact q_if_eq hd ht (fun h => kt (by rwa [(show (0 : Int32) = cI 0 from rfl), cI_eq hx hz] at h)) (fun h => kf (by rwa [(show (0 : Int32) = cI 0 from rfl), cI_eq hx hz] at h))
theorem j_if_ne {x : Int} {off : Int} {tgt : Nat} (hd : decode Y.2.1 pc = .ok (.ifCond .ne off, 3)) (ht : (pc : Int) + off = (tgt : Int)) (hx : inI x) (kt : (¬ x = 0) → Run Y d rc rs tgt lv st I L R T Q) (kf : (x = 0) → Run Y d rc rs (pc + 3) lv st I L R T Q) : Run Y d rc rs pc lv (.int (cI x) :: st) I L R T Q := by
  have hz : inI 0 := by decide
  exact q_if_ne hd ht (fun h => kt (by rwa [(show (0 : Int32) = cI 0 from rfl), cI_eq hx hz] at h)) (fun h => kf (by rwa [(show (0 : Int32) = cI 0 from rfl), cI_eq hx hz] at h))
theorem j_if_lt {x : Int} {off : Int} {tgt : Nat} (hd : decode Y.2.1 pc = .ok (.ifCond .lt off, 3)) (ht : (pc : Int) + off = (tgt : Int)) (hx : inI x) (kt : (x < 0) → Run Y d rc rs tgt lv st I L R T Q) (kf : (0 ≤ x) → Run Y d rc rs (pc + 3) lv st I L R T Q) : Run Y d rc rs pc lv (.int (cI x) :: st) I L R T Q := by
  have hz : inI 0 := by decide
  exact q_if_lt hd ht (fun h => kt (by rwa [(show (0 : Int32) = cI 0 from rfl), cI_lt hx hz] at h)) (fun h => kf (by rw [(show (0 : Int32) = cI 0 from rfl), cI_lt hx hz] at h; omega))
theorem j_if_ge {x : Int} {off : Int} {tgt : Nat} (hd : decode Y.2.1 pc = .ok (.ifCond .ge off, 3)) (ht : (pc : Int) + off = (tgt : Int)) (hx : inI x) (kt : (0 ≤ x) → Run Y d rc rs tgt lv st I L R T Q) (kf : (x < 0) → Run Y d rc rs (pc + 3) lv st I L R T Q) : Run Y d rc rs pc lv (.int (cI x) :: st) I L R T Q := by
  have hz : inI 0 := by decide
  exact q_if_ge hd ht (fun h => kt (by rwa [(show (0 : Int32) = cI 0 from rfl), cI_le hz hx] at h)) (fun h => kf (by rw [(show (0 : Int32) = cI 0 from rfl), cI_le hz hx] at h; omega))
theorem j_if_gt {x : Int} {off : Int} {tgt : Nat} (hd : decode Y.2.1 pc = .ok (.ifCond .gt off, 3)) (ht : (pc : Int) + off = (tgt : Int)) (hx : inI x) (kt : (0 < x) → Run Y d rc rs tgt lv st I L R T Q) (kf : (x ≤ 0) → Run Y d rc rs (pc + 3) lv st I L R T Q) : Run Y d rc rs pc lv (.int (cI x) :: st) I L R T Q := by
  have hz : inI 0 := by decide
  exact q_if_gt hd ht (fun h => kt (by rwa [(show (0 : Int32) = cI 0 from rfl), cI_lt hz hx] at h)) (fun h => kf (by rw [(show (0 : Int32) = cI 0 from rfl), cI_lt hz hx] at h; omega))
theorem j_if_le {x : Int} {off : Int} {tgt : Nat} (hd : decode Y.2.1 pc = .ok (.ifCond .le off, 3)) (ht : (pc : Int) + off = (tgt : Int)) (hx : inI x) (kt : (x ≤ 0) → Run Y d rc rs tgt lv st I L R T Q) (kf : (0 < x) → Run Y d rc rs (pc + 3) lv st I L R T Q) : Run Y d rc rs pc lv (.int (cI x) :: st) I L R T Q := by
  have hz : inI 0 := by decide
  exact q_if_le hd ht (fun h => kt (by rwa [(show (0 : Int32) = cI 0 from rfl), cI_le hx hz] at h)) (fun h => kf (by rw [(show (0 : Int32) = cI 0 from rfl), cI_le hx hz] at h; omega))
theorem j_icmp_eq {x y : Int} {off : Int} {tgt : Nat} (hd : decode Y.2.1 pc = .ok (.if_icmp .eq off, 3)) (ht : (pc : Int) + off = (tgt : Int)) (hx : inI x) (hy : inI y) (kt : (x = y) → Run Y d rc rs tgt lv st I L R T Q) (kf : (¬ x = y) → Run Y d rc rs (pc + 3) lv st I L R T Q) : Run Y d rc rs pc lv (.int (cI y) :: .int (cI x) :: st) I L R T Q :=
  q_icmp_eq hd ht (fun h => kt (by rwa [cI_eq hx hy] at h)) (fun h => kf (by rwa [cI_eq hx hy] at h))
theorem j_icmp_ne {x y : Int} {off : Int} {tgt : Nat} (hd : decode Y.2.1 pc = .ok (.if_icmp .ne off, 3)) (ht : (pc : Int) + off = (tgt : Int)) (hx : inI x) (hy : inI y) (kt : (¬ x = y) → Run Y d rc rs tgt lv st I L R T Q) (kf : (x = y) → Run Y d rc rs (pc + 3) lv st I L R T Q) : Run Y d rc rs pc lv (.int (cI y) :: .int (cI x) :: st) I L R T Q :=
  q_icmp_ne hd ht (fun h => kt (by rwa [cI_eq hx hy] at h)) (fun h => kf (by rwa [cI_eq hx hy] at h))
theorem j_icmp_lt {x y : Int} {off : Int} {tgt : Nat} (hd : decode Y.2.1 pc = .ok (.if_icmp .lt off, 3)) (ht : (pc : Int) + off = (tgt : Int)) (hx : inI x) (hy : inI y) (kt : (x < y) → Run Y d rc rs tgt lv st I L R T Q) (kf : (y ≤ x) → Run Y d rc rs (pc + 3) lv st I L R T Q) : Run Y d rc rs pc lv (.int (cI y) :: .int (cI x) :: st) I L R T Q :=
  q_icmp_lt hd ht (fun h => kt (by rwa [cI_lt hx hy] at h)) (fun h => kf (by rw [cI_lt hx hy] at h; omega))
theorem j_icmp_ge {x y : Int} {off : Int} {tgt : Nat} (hd : decode Y.2.1 pc = .ok (.if_icmp .ge off, 3)) (ht : (pc : Int) + off = (tgt : Int)) (hx : inI x) (hy : inI y) (kt : (y ≤ x) → Run Y d rc rs tgt lv st I L R T Q) (kf : (x < y) → Run Y d rc rs (pc + 3) lv st I L R T Q) : Run Y d rc rs pc lv (.int (cI y) :: .int (cI x) :: st) I L R T Q :=
  q_icmp_ge hd ht (fun h => kt (by rwa [cI_le hy hx] at h)) (fun h => kf (by rw [cI_le hy hx] at h; omega))
theorem j_icmp_gt {x y : Int} {off : Int} {tgt : Nat} (hd : decode Y.2.1 pc = .ok (.if_icmp .gt off, 3)) (ht : (pc : Int) + off = (tgt : Int)) (hx : inI x) (hy : inI y) (kt : (y < x) → Run Y d rc rs tgt lv st I L R T Q) (kf : (x ≤ y) → Run Y d rc rs (pc + 3) lv st I L R T Q) : Run Y d rc rs pc lv (.int (cI y) :: .int (cI x) :: st) I L R T Q :=
  q_icmp_gt hd ht (fun h => kt (by rwa [cI_lt hy hx] at h)) (fun h => kf (by rw [cI_lt hy hx] at h; omega))
theorem j_icmp_le {x y : Int} {off : Int} {tgt : Nat} (hd : decode Y.2.1 pc = .ok (.if_icmp .le off, 3)) (ht : (pc : Int) + off = (tgt : Int)) (hx : inI x) (hy : inI y) (kt : (x ≤ y) → Run Y d rc rs tgt lv st I L R T Q) (kf : (y < x) → Run Y d rc rs (pc + 3) lv st I L R T Q) : Run Y d rc rs pc lv (.int (cI y) :: .int (cI x) :: st) I L R T Q :=
  q_icmp_le hd ht (fun h => kt (by rwa [cI_le hx hy] at h)) (fun h => kf (by rw [cI_le hx hy] at h; omega))
theorem lcmp_lt {x y : Int64} : lg_cmp x y < 0 ↔ x < y := by
  have h := lg_cmp_ge x y
  rw [← Int32.not_le, h, Int64.not_le]
theorem lcmp_eq {x y : Int64} : lg_cmp x y = 0 ↔ x = y := by
  unfold lg_cmp
  by_cases h1 : x > y
  · rw [if_pos h1]
    constructor
    · intro h; exact absurd h (by decide)
    · intro h; subst h; exact absurd h1 (Int64.lt_irrefl)
  · rw [if_neg h1]
    by_cases h2 : x = y
    · simp [h2]
    · rw [if_neg h2]
      constructor
      · intro h; exact absurd h (by decide)
      · intro h; exact absurd h h2
theorem lcmp_le {x y : Int64} : lg_cmp x y ≤ 0 ↔ x ≤ y := by
  rw [Int32.le_iff_lt_or_eq, lcmp_lt, lcmp_eq, Int64.le_iff_lt_or_eq]
theorem lcmp_gt {x y : Int64} : 0 < lg_cmp x y ↔ y < x := by
  rw [← Int32.not_le, lcmp_le, Int64.not_le]
theorem j_lcmp_eq {x y : Int} {off : Int} {tgt : Nat} (hd0 : decode Y.2.1 pc = .ok (.lcmp, 1)) (hd : decode Y.2.1 (pc + 1) = .ok (.ifCond .eq off, 3)) (ht : ((pc + 1 : Nat) : Int) + off = (tgt : Int)) (hx : inL x) (hy : inL y) (kt : (x = y) → Run Y d rc rs tgt lv st I L R T Q) (kf : (¬ x = y) → Run Y d rc rs (pc + 1 + 3) lv st I L R T Q) : Run Y d rc rs pc lv (.long (cL y) :: .long (cL x) :: st) I L R T Q :=
  q_lcmp hd0 (q_if_eq hd ht (fun h => kt (by rwa [lcmp_eq, cL_eq hx hy] at h)) (fun h => kf (by rwa [lcmp_eq, cL_eq hx hy] at h)))
theorem j_lcmp_ne {x y : Int} {off : Int} {tgt : Nat} (hd0 : decode Y.2.1 pc = .ok (.lcmp, 1)) (hd : decode Y.2.1 (pc + 1) = .ok (.ifCond .ne off, 3)) (ht : ((pc + 1 : Nat) : Int) + off = (tgt : Int)) (hx : inL x) (hy : inL y) (kt : (¬ x = y) → Run Y d rc rs tgt lv st I L R T Q) (kf : (x = y) → Run Y d rc rs (pc + 1 + 3) lv st I L R T Q) : Run Y d rc rs pc lv (.long (cL y) :: .long (cL x) :: st) I L R T Q :=
  q_lcmp hd0 (q_if_ne hd ht (fun h => kt (by rwa [lcmp_eq, cL_eq hx hy] at h)) (fun h => kf (by rwa [lcmp_eq, cL_eq hx hy] at h)))
theorem j_lcmp_lt {x y : Int} {off : Int} {tgt : Nat} (hd0 : decode Y.2.1 pc = .ok (.lcmp, 1)) (hd : decode Y.2.1 (pc + 1) = .ok (.ifCond .lt off, 3)) (ht : ((pc + 1 : Nat) : Int) + off = (tgt : Int)) (hx : inL x) (hy : inL y) (kt : (x < y) → Run Y d rc rs tgt lv st I L R T Q) (kf : (y ≤ x) → Run Y d rc rs (pc + 1 + 3) lv st I L R T Q) : Run Y d rc rs pc lv (.long (cL y) :: .long (cL x) :: st) I L R T Q :=
  q_lcmp hd0 (q_if_lt hd ht (fun h => kt (by rwa [lcmp_lt, cL_lt hx hy] at h)) (fun h => kf (by rw [lcmp_lt, cL_lt hx hy] at h; omega)))
theorem j_lcmp_ge {x y : Int} {off : Int} {tgt : Nat} (hd0 : decode Y.2.1 pc = .ok (.lcmp, 1)) (hd : decode Y.2.1 (pc + 1) = .ok (.ifCond .ge off, 3)) (ht : ((pc + 1 : Nat) : Int) + off = (tgt : Int)) (hx : inL x) (hy : inL y) (kt : (y ≤ x) → Run Y d rc rs tgt lv st I L R T Q) (kf : (x < y) → Run Y d rc rs (pc + 1 + 3) lv st I L R T Q) : Run Y d rc rs pc lv (.long (cL y) :: .long (cL x) :: st) I L R T Q :=
  q_lcmp hd0 (q_if_ge hd ht (fun h => kt (by rwa [lg_cmp_ge, cL_le hy hx] at h)) (fun h => kf (by rw [lg_cmp_ge, cL_le hy hx] at h; omega)))
theorem j_lcmp_gt {x y : Int} {off : Int} {tgt : Nat} (hd0 : decode Y.2.1 pc = .ok (.lcmp, 1)) (hd : decode Y.2.1 (pc + 1) = .ok (.ifCond .gt off, 3)) (ht : ((pc + 1 : Nat) : Int) + off = (tgt : Int)) (hx : inL x) (hy : inL y) (kt : (y < x) → Run Y d rc rs tgt lv st I L R T Q) (kf : (x ≤ y) → Run Y d rc rs (pc + 1 + 3) lv st I L R T Q) : Run Y d rc rs pc lv (.long (cL y) :: .long (cL x) :: st) I L R T Q :=
  q_lcmp hd0 (q_if_gt hd ht (fun h => kt (by rwa [lcmp_gt, cL_lt hy hx] at h)) (fun h => kf (by rw [lcmp_gt, cL_lt hy hx] at h; omega)))
theorem j_lcmp_le {x y : Int} {off : Int} {tgt : Nat} (hd0 : decode Y.2.1 pc = .ok (.lcmp, 1)) (hd : decode Y.2.1 (pc + 1) = .ok (.ifCond .le off, 3)) (ht : ((pc + 1 : Nat) : Int) + off = (tgt : Int)) (hx : inL x) (hy : inL y) (kt : (x ≤ y) → Run Y d rc rs tgt lv st I L R T Q) (kf : (y < x) → Run Y d rc rs (pc + 1 + 3) lv st I L R T Q) : Run Y d rc rs pc lv (.long (cL y) :: .long (cL x) :: st) I L R T Q :=
  q_lcmp hd0 (q_if_le hd ht (fun h => kt (by rwa [lcmp_le, cL_le hx hy] at h)) (fun h => kf (by rw [lcmp_le, cL_le hx hy] at h; omega)))
theorem j_getI {idx ci k a : Nat} {v : Int32} (hd : decode Y.2.1 pc = .ok (.getfield idx, 3)) (fl : FLk Y.1 idx ci k) (ht : T.1 a = ci + 1) (hf : kf ci k = 0 ∧ ci < 63) (hv : I a k = v) (kk : Run Y d rc rs (pc + 3) lv (.int v :: st) I L R T Q) : Run Y d rc rs pc lv (.ref a :: st) I L R T Q := q_getI hd fl ht hf (by rw [hv]; exact kk)
theorem j_getL {idx ci k a : Nat} {v : Int64} (hd : decode Y.2.1 pc = .ok (.getfield idx, 3)) (fl : FLk Y.1 idx ci k) (ht : T.1 a = ci + 1) (hf : kf ci k = 1 ∧ ci < 63) (hv : L a k = v) (kk : Run Y d rc rs (pc + 3) lv (.long v :: st) I L R T Q) : Run Y d rc rs pc lv (.ref a :: st) I L R T Q := q_getL hd fl ht hf (by rw [hv]; exact kk)
theorem j_iald {a j n : Nat} {z : Int} {v : Int32} (hd : decode Y.2.1 pc = .ok (.iaload, 1)) (ht : T.1 a = 64) (hn : T.2.1 a = n) (hz : z = (j : Int)) (hj : j < n) (hm : n ≤ 2147483647) (hv : I a j = v) (kk : Run Y d rc rs (pc + 1) lv (.int v :: st) I L R T Q) : Run Y d rc rs pc lv (.int (cI z) :: .ref a :: st) I L R T Q := by
  obtain ⟨h1, h2⟩ := cI_inB hz hj hm
  exact q_iald hd ht (by rw [hn]; exact h1) (by rw [h2, hv]; exact kk)
theorem j_bald {a j n : Nat} {z : Int} {v : Int32} (hd : decode Y.2.1 pc = .ok (.baload, 1)) (ht : T.1 a = 66) (hn : T.2.1 a = n) (hz : z = (j : Int)) (hj : j < n) (hm : n ≤ 2147483647) (hv : I a j = v) (kk : Run Y d rc rs (pc + 1) lv (.int v :: st) I L R T Q) : Run Y d rc rs pc lv (.int (cI z) :: .ref a :: st) I L R T Q := by
  obtain ⟨h1, h2⟩ := cI_inB hz hj hm
  exact q_bald hd ht (by rw [hn]; exact h1) (by rw [h2, hv]; exact kk)
theorem j_zald {a j n : Nat} {z : Int} {v : Int32} (hd : decode Y.2.1 pc = .ok (.baload, 1)) (ht : T.1 a = 67) (hn : T.2.1 a = n) (hz : z = (j : Int)) (hj : j < n) (hm : n ≤ 2147483647) (hv : I a j = v) (kk : Run Y d rc rs (pc + 1) lv (.int v :: st) I L R T Q) : Run Y d rc rs pc lv (.int (cI z) :: .ref a :: st) I L R T Q := by
  obtain ⟨h1, h2⟩ := cI_inB hz hj hm
  exact q_zald hd ht (by rw [hn]; exact h1) (by rw [h2, hv]; exact kk)
theorem j_lald {a j n : Nat} {z : Int} {v : Int64} (hd : decode Y.2.1 pc = .ok (.laload, 1)) (ht : T.1 a = 65) (hn : T.2.1 a = n) (hz : z = (j : Int)) (hj : j < n) (hm : n ≤ 2147483647) (hv : L a j = v) (kk : Run Y d rc rs (pc + 1) lv (.long v :: st) I L R T Q) : Run Y d rc rs pc lv (.int (cI z) :: .ref a :: st) I L R T Q := by
  obtain ⟨h1, h2⟩ := cI_inB hz hj hm
  exact q_lald hd ht (by rw [hn]; exact h1) (by rw [h2, hv]; exact kk)
theorem j_aald {a j n t : Nat} {z : Int} {v : Value} (hd : decode Y.2.1 pc = .ok (.aaload, 1)) (ht : T.1 a = t + 64) (ho : isO t = true ∧ ak t = 2) (hn : T.2.1 a = n) (hz : z = (j : Int)) (hj : j < n) (hm : n ≤ 2147483647) (hv : va_rf (R a j) = v) (kk : Run Y d rc rs (pc + 1) lv (v :: st) I L R T Q) : Run Y d rc rs pc lv (.int (cI z) :: .ref a :: st) I L R T Q := by
  obtain ⟨h1, h2⟩ := cI_inB hz hj hm
  exact q_aald hd ht ho (by rw [hn]; exact h1) (by rw [h2]; exact hv) kk
theorem j_iast {a j n : Nat} {z : Int} {x : Int32} (hd : decode Y.2.1 pc = .ok (.iastore, 1)) (ht : T.1 a = 64) (hn : T.2.1 a = n) (hz : z = (j : Int)) (hj : j < n) (hm : n ≤ 2147483647) (kk : Run Y d rc rs (pc + 1) lv st (up2 I a j x) L R T Q) : Run Y d rc rs pc lv (.int x :: .int (cI z) :: .ref a :: st) I L R T Q := by
  obtain ⟨h1, h2⟩ := cI_inB hz hj hm
  exact q_iast hd ht (by rw [hn]; exact h1) (by rw [h2]; exact kk)
theorem j_bast {a j n : Nat} {z : Int} {x : Int32} (hd : decode Y.2.1 pc = .ok (.bastore, 1)) (ht : T.1 a = 66) (hn : T.2.1 a = n) (hz : z = (j : Int)) (hj : j < n) (hm : n ≤ 2147483647) (kk : Run Y d rc rs (pc + 1) lv st (up2 I a j x.toInt8.toInt32) L R T Q) : Run Y d rc rs pc lv (.int x :: .int (cI z) :: .ref a :: st) I L R T Q := by
  obtain ⟨h1, h2⟩ := cI_inB hz hj hm
  exact q_bast hd ht (by rw [hn]; exact h1) (by rw [h2]; exact kk)
theorem j_last {a j n : Nat} {z : Int} {x : Int64} (hd : decode Y.2.1 pc = .ok (.lastore, 1)) (ht : T.1 a = 65) (hn : T.2.1 a = n) (hz : z = (j : Int)) (hj : j < n) (hm : n ≤ 2147483647) (kk : Run Y d rc rs (pc + 1) lv st I (up2 L a j x) R T Q) : Run Y d rc rs pc lv (.long x :: .int (cI z) :: .ref a :: st) I L R T Q := by
  obtain ⟨h1, h2⟩ := cI_inB hz hj hm
  exact q_last hd ht (by rw [hn]; exact h1) (by rw [h2]; exact kk)
theorem j_zast {a j n : Nat} {z : Int} {x : Int32} (hd : decode Y.2.1 pc = .ok (.bastore, 1)) (ht : T.1 a = 67) (hn : T.2.1 a = n) (hz : z = (j : Int)) (hj : j < n) (hm : n ≤ 2147483647) (hx : x = 0 ∨ x = 1) (kk : Run Y d rc rs (pc + 1) lv st (up2 I a j x) L R T Q) : Run Y d rc rs pc lv (.int x :: .int (cI z) :: .ref a :: st) I L R T Q := by
  obtain ⟨h1, h2⟩ := cI_inB hz hj hm
  exact q_zast hd ht (by rw [hn]; exact h1) hx (by rw [h2]; exact kk)
end
