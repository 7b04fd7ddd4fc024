/-! ===== 31 THE REFERENCE'S NUMBERS: a sign, how many digits, digits from the lowest on ===== -/
theorem d_Model_isIn_0 : decode m_Model_isIn.2.1 0 = .ok (.lload_n 0, 1) := by decide +kernel
theorem d_Model_isIn_1 : decode m_Model_isIn.2.1 1 = .ok (.lload_n 2, 1) := by decide +kernel
theorem d_Model_isIn_2 : decode m_Model_isIn.2.1 2 = .ok (.lcmp, 1) := by decide +kernel
theorem d_Model_isIn_3 : decode m_Model_isIn.2.1 3 = .ok (.ifCond .lt 14, 3) := by decide +kernel
theorem d_Model_isIn_6 : decode m_Model_isIn.2.1 6 = .ok (.lload_n 0, 1) := by decide +kernel
theorem d_Model_isIn_7 : decode m_Model_isIn.2.1 7 = .ok (.lload 4, 2) := by decide +kernel
theorem d_Model_isIn_9 : decode m_Model_isIn.2.1 9 = .ok (.lcmp, 1) := by decide +kernel
theorem d_Model_isIn_10 : decode m_Model_isIn.2.1 10 = .ok (.ifCond .gt 7, 3) := by decide +kernel
theorem d_Model_isIn_13 : decode m_Model_isIn.2.1 13 = .ok (.iconst 1, 1) := by decide +kernel
theorem d_Model_isIn_14 : decode m_Model_isIn.2.1 14 = .ok (.goto 4, 3) := by decide +kernel
theorem d_Model_isIn_17 : decode m_Model_isIn.2.1 17 = .ok (.iconst 0, 1) := by decide +kernel
theorem d_Model_isIn_18 : decode m_Model_isIn.2.1 18 = .ok (.ireturn, 1) := by decide +kernel
theorem d_Model_zero_0 : decode m_Model_zero.2.1 0 = .ok (.aload_n 0, 1) := by decide +kernel
theorem d_Model_zero_1 : decode m_Model_zero.2.1 1 = .ok (.getfield 428, 3) := by decide +kernel
theorem d_Model_zero_4 : decode m_Model_zero.2.1 4 = .ok (.istore_n 1, 1) := by decide +kernel
theorem d_Model_zero_5 : decode m_Model_zero.2.1 5 = .ok (.aload_n 0, 1) := by decide +kernel
theorem d_Model_zero_6 : decode m_Model_zero.2.1 6 = .ok (.getfield 17, 3) := by decide +kernel
theorem d_Model_zero_9 : decode m_Model_zero.2.1 9 = .ok (.iload_n 1, 1) := by decide +kernel
theorem d_Model_zero_10 : decode m_Model_zero.2.1 10 = .ok (.iconst 0, 1) := by decide +kernel
theorem d_Model_zero_11 : decode m_Model_zero.2.1 11 = .ok (.iastore, 1) := by decide +kernel
theorem d_Model_zero_12 : decode m_Model_zero.2.1 12 = .ok (.aload_n 0, 1) := by decide +kernel
theorem d_Model_zero_13 : decode m_Model_zero.2.1 13 = .ok (.getfield 17, 3) := by decide +kernel
theorem d_Model_zero_16 : decode m_Model_zero.2.1 16 = .ok (.iload_n 1, 1) := by decide +kernel
theorem d_Model_zero_17 : decode m_Model_zero.2.1 17 = .ok (.iconst 1, 1) := by decide +kernel
theorem d_Model_zero_18 : decode m_Model_zero.2.1 18 = .ok (.iadd, 1) := by decide +kernel
theorem d_Model_zero_19 : decode m_Model_zero.2.1 19 = .ok (.iconst 0, 1) := by decide +kernel
theorem d_Model_zero_20 : decode m_Model_zero.2.1 20 = .ok (.iastore, 1) := by decide +kernel
theorem d_Model_zero_21 : decode m_Model_zero.2.1 21 = .ok (.aload_n 0, 1) := by decide +kernel
theorem d_Model_zero_22 : decode m_Model_zero.2.1 22 = .ok (.dup, 1) := by decide +kernel
theorem d_Model_zero_23 : decode m_Model_zero.2.1 23 = .ok (.getfield 428, 3) := by decide +kernel
theorem d_Model_zero_26 : decode m_Model_zero.2.1 26 = .ok (.iconst 2, 1) := by decide +kernel
theorem d_Model_zero_27 : decode m_Model_zero.2.1 27 = .ok (.iadd, 1) := by decide +kernel
theorem d_Model_zero_28 : decode m_Model_zero.2.1 28 = .ok (.putfield 428, 3) := by decide +kernel
theorem d_Model_zero_31 : decode m_Model_zero.2.1 31 = .ok (.iload_n 1, 1) := by decide +kernel
theorem d_Model_zero_32 : decode m_Model_zero.2.1 32 = .ok (.ireturn, 1) := by decide +kernel
theorem d_Model_close_0 : decode m_Model_close.2.1 0 = .ok (.iload_n 2, 1) := by decide +kernel
theorem d_Model_close_1 : decode m_Model_close.2.1 1 = .ok (.istore 4, 2) := by decide +kernel
theorem d_Model_close_3 : decode m_Model_close.2.1 3 = .ok (.iload 4, 2) := by decide +kernel
theorem d_Model_close_5 : decode m_Model_close.2.1 5 = .ok (.ifCond .le 23, 3) := by decide +kernel
theorem d_Model_close_8 : decode m_Model_close.2.1 8 = .ok (.aload_n 0, 1) := by decide +kernel
theorem d_Model_close_9 : decode m_Model_close.2.1 9 = .ok (.getfield 17, 3) := by decide +kernel
theorem d_Model_close_12 : decode m_Model_close.2.1 12 = .ok (.iload_n 1, 1) := by decide +kernel
theorem d_Model_close_13 : decode m_Model_close.2.1 13 = .ok (.iconst 1, 1) := by decide +kernel
theorem d_Model_close_14 : decode m_Model_close.2.1 14 = .ok (.iadd, 1) := by decide +kernel
theorem d_Model_close_15 : decode m_Model_close.2.1 15 = .ok (.iload 4, 2) := by decide +kernel
theorem d_Model_close_17 : decode m_Model_close.2.1 17 = .ok (.iadd, 1) := by decide +kernel
theorem d_Model_close_18 : decode m_Model_close.2.1 18 = .ok (.iaload, 1) := by decide +kernel
theorem d_Model_close_19 : decode m_Model_close.2.1 19 = .ok (.ifCond .ne 9, 3) := by decide +kernel
theorem d_Model_close_22 : decode m_Model_close.2.1 22 = .ok (.iinc 4 (-1), 3) := by decide +kernel
theorem d_Model_close_25 : decode m_Model_close.2.1 25 = .ok (.goto (-22), 3) := by decide +kernel
theorem d_Model_close_28 : decode m_Model_close.2.1 28 = .ok (.aload_n 0, 1) := by decide +kernel
theorem d_Model_close_29 : decode m_Model_close.2.1 29 = .ok (.getfield 17, 3) := by decide +kernel
theorem d_Model_close_32 : decode m_Model_close.2.1 32 = .ok (.iload_n 1, 1) := by decide +kernel
theorem d_Model_close_33 : decode m_Model_close.2.1 33 = .ok (.iload 4, 2) := by decide +kernel
theorem d_Model_close_35 : decode m_Model_close.2.1 35 = .ok (.ifCond .ne 7, 3) := by decide +kernel
theorem d_Model_close_38 : decode m_Model_close.2.1 38 = .ok (.iconst 0, 1) := by decide +kernel
theorem d_Model_close_39 : decode m_Model_close.2.1 39 = .ok (.goto 4, 3) := by decide +kernel
theorem d_Model_close_42 : decode m_Model_close.2.1 42 = .ok (.iload_n 3, 1) := by decide +kernel
theorem d_Model_close_43 : decode m_Model_close.2.1 43 = .ok (.iastore, 1) := by decide +kernel
theorem d_Model_close_44 : decode m_Model_close.2.1 44 = .ok (.aload_n 0, 1) := by decide +kernel
theorem d_Model_close_45 : decode m_Model_close.2.1 45 = .ok (.getfield 17, 3) := by decide +kernel
theorem d_Model_close_48 : decode m_Model_close.2.1 48 = .ok (.iload_n 1, 1) := by decide +kernel
theorem d_Model_close_49 : decode m_Model_close.2.1 49 = .ok (.iconst 1, 1) := by decide +kernel
theorem d_Model_close_50 : decode m_Model_close.2.1 50 = .ok (.iadd, 1) := by decide +kernel
theorem d_Model_close_51 : decode m_Model_close.2.1 51 = .ok (.iload 4, 2) := by decide +kernel
theorem d_Model_close_53 : decode m_Model_close.2.1 53 = .ok (.iastore, 1) := by decide +kernel
theorem d_Model_close_54 : decode m_Model_close.2.1 54 = .ok (.aload_n 0, 1) := by decide +kernel
theorem d_Model_close_55 : decode m_Model_close.2.1 55 = .ok (.iload_n 1, 1) := by decide +kernel
theorem d_Model_close_56 : decode m_Model_close.2.1 56 = .ok (.iconst 2, 1) := by decide +kernel
theorem d_Model_close_57 : decode m_Model_close.2.1 57 = .ok (.iadd, 1) := by decide +kernel
theorem d_Model_close_58 : decode m_Model_close.2.1 58 = .ok (.iload 4, 2) := by decide +kernel
theorem d_Model_close_60 : decode m_Model_close.2.1 60 = .ok (.iadd, 1) := by decide +kernel
theorem d_Model_close_61 : decode m_Model_close.2.1 61 = .ok (.putfield 428, 3) := by decide +kernel
theorem d_Model_close_64 : decode m_Model_close.2.1 64 = .ok (.aload_n 0, 1) := by decide +kernel
theorem d_Model_close_65 : decode m_Model_close.2.1 65 = .ok (.aload_n 0, 1) := by decide +kernel
theorem d_Model_close_66 : decode m_Model_close.2.1 66 = .ok (.getfield 431, 3) := by decide +kernel
theorem d_Model_close_69 : decode m_Model_close.2.1 69 = .ok (.ifCond .ne 11, 3) := by decide +kernel
theorem d_Model_close_72 : decode m_Model_close.2.1 72 = .ok (.iload 4, 2) := by decide +kernel
theorem d_Model_close_74 : decode m_Model_close.2.1 74 = .ok (.sipush 300, 3) := by decide +kernel
theorem d_Model_close_77 : decode m_Model_close.2.1 77 = .ok (.if_icmp .le 7, 3) := by decide +kernel
theorem d_Model_close_80 : decode m_Model_close.2.1 80 = .ok (.iconst 1, 1) := by decide +kernel
theorem d_Model_close_81 : decode m_Model_close.2.1 81 = .ok (.goto 4, 3) := by decide +kernel
theorem d_Model_close_84 : decode m_Model_close.2.1 84 = .ok (.iconst 0, 1) := by decide +kernel
theorem d_Model_close_85 : decode m_Model_close.2.1 85 = .ok (.putfield 431, 3) := by decide +kernel
theorem d_Model_close_88 : decode m_Model_close.2.1 88 = .ok (.iload_n 1, 1) := by decide +kernel
theorem d_Model_close_89 : decode m_Model_close.2.1 89 = .ok (.ireturn, 1) := by decide +kernel
theorem d_Model_digit_0 : decode m_Model_digit.2.1 0 = .ok (.iload_n 2, 1) := by decide +kernel
theorem d_Model_digit_1 : decode m_Model_digit.2.1 1 = .ok (.aload_n 0, 1) := by decide +kernel
theorem d_Model_digit_2 : decode m_Model_digit.2.1 2 = .ok (.getfield 17, 3) := by decide +kernel
theorem d_Model_digit_5 : decode m_Model_digit.2.1 5 = .ok (.iload_n 1, 1) := by decide +kernel
theorem d_Model_digit_6 : decode m_Model_digit.2.1 6 = .ok (.iconst 1, 1) := by decide +kernel
theorem d_Model_digit_7 : decode m_Model_digit.2.1 7 = .ok (.iadd, 1) := by decide +kernel
theorem d_Model_digit_8 : decode m_Model_digit.2.1 8 = .ok (.iaload, 1) := by decide +kernel
theorem d_Model_digit_9 : decode m_Model_digit.2.1 9 = .ok (.if_icmp .ge 16, 3) := by decide +kernel
theorem d_Model_digit_12 : decode m_Model_digit.2.1 12 = .ok (.aload_n 0, 1) := by decide +kernel
theorem d_Model_digit_13 : decode m_Model_digit.2.1 13 = .ok (.getfield 17, 3) := by decide +kernel
theorem d_Model_digit_16 : decode m_Model_digit.2.1 16 = .ok (.iload_n 1, 1) := by decide +kernel
theorem d_Model_digit_17 : decode m_Model_digit.2.1 17 = .ok (.iconst 2, 1) := by decide +kernel
theorem d_Model_digit_18 : decode m_Model_digit.2.1 18 = .ok (.iadd, 1) := by decide +kernel
theorem d_Model_digit_19 : decode m_Model_digit.2.1 19 = .ok (.iload_n 2, 1) := by decide +kernel
theorem d_Model_digit_20 : decode m_Model_digit.2.1 20 = .ok (.iadd, 1) := by decide +kernel
theorem d_Model_digit_21 : decode m_Model_digit.2.1 21 = .ok (.iaload, 1) := by decide +kernel
theorem d_Model_digit_22 : decode m_Model_digit.2.1 22 = .ok (.goto 4, 3) := by decide +kernel
theorem d_Model_digit_25 : decode m_Model_digit.2.1 25 = .ok (.iconst 0, 1) := by decide +kernel
theorem d_Model_digit_26 : decode m_Model_digit.2.1 26 = .ok (.ireturn, 1) := by decide +kernel
theorem d_Model_copyOf_0 : decode m_Model_copyOf.2.1 0 = .ok (.aload_n 0, 1) := by decide +kernel
theorem d_Model_copyOf_1 : decode m_Model_copyOf.2.1 1 = .ok (.getfield 17, 3) := by decide +kernel
theorem d_Model_copyOf_4 : decode m_Model_copyOf.2.1 4 = .ok (.iload_n 1, 1) := by decide +kernel
theorem d_Model_copyOf_5 : decode m_Model_copyOf.2.1 5 = .ok (.iconst 1, 1) := by decide +kernel
theorem d_Model_copyOf_6 : decode m_Model_copyOf.2.1 6 = .ok (.iadd, 1) := by decide +kernel
theorem d_Model_copyOf_7 : decode m_Model_copyOf.2.1 7 = .ok (.iaload, 1) := by decide +kernel
theorem d_Model_copyOf_8 : decode m_Model_copyOf.2.1 8 = .ok (.istore_n 2, 1) := by decide +kernel
theorem d_Model_copyOf_9 : decode m_Model_copyOf.2.1 9 = .ok (.aload_n 0, 1) := by decide +kernel
theorem d_Model_copyOf_10 : decode m_Model_copyOf.2.1 10 = .ok (.getfield 428, 3) := by decide +kernel
theorem d_Model_copyOf_13 : decode m_Model_copyOf.2.1 13 = .ok (.istore_n 3, 1) := by decide +kernel
theorem d_Model_copyOf_14 : decode m_Model_copyOf.2.1 14 = .ok (.iconst 0, 1) := by decide +kernel
theorem d_Model_copyOf_15 : decode m_Model_copyOf.2.1 15 = .ok (.istore 4, 2) := by decide +kernel
theorem d_Model_copyOf_17 : decode m_Model_copyOf.2.1 17 = .ok (.iload 4, 2) := by decide +kernel
theorem d_Model_copyOf_19 : decode m_Model_copyOf.2.1 19 = .ok (.iload_n 2, 1) := by decide +kernel
theorem d_Model_copyOf_20 : decode m_Model_copyOf.2.1 20 = .ok (.iconst 2, 1) := by decide +kernel
theorem d_Model_copyOf_21 : decode m_Model_copyOf.2.1 21 = .ok (.iadd, 1) := by decide +kernel
theorem d_Model_copyOf_22 : decode m_Model_copyOf.2.1 22 = .ok (.if_icmp .ge 27, 3) := by decide +kernel
theorem d_Model_copyOf_25 : decode m_Model_copyOf.2.1 25 = .ok (.aload_n 0, 1) := by decide +kernel
theorem d_Model_copyOf_26 : decode m_Model_copyOf.2.1 26 = .ok (.getfield 17, 3) := by decide +kernel
theorem d_Model_copyOf_29 : decode m_Model_copyOf.2.1 29 = .ok (.iload_n 3, 1) := by decide +kernel
theorem d_Model_copyOf_30 : decode m_Model_copyOf.2.1 30 = .ok (.iload 4, 2) := by decide +kernel
theorem d_Model_copyOf_32 : decode m_Model_copyOf.2.1 32 = .ok (.iadd, 1) := by decide +kernel
theorem d_Model_copyOf_33 : decode m_Model_copyOf.2.1 33 = .ok (.aload_n 0, 1) := by decide +kernel
theorem d_Model_copyOf_34 : decode m_Model_copyOf.2.1 34 = .ok (.getfield 17, 3) := by decide +kernel
theorem d_Model_copyOf_37 : decode m_Model_copyOf.2.1 37 = .ok (.iload_n 1, 1) := by decide +kernel
theorem d_Model_copyOf_38 : decode m_Model_copyOf.2.1 38 = .ok (.iload 4, 2) := by decide +kernel
theorem d_Model_copyOf_40 : decode m_Model_copyOf.2.1 40 = .ok (.iadd, 1) := by decide +kernel
theorem d_Model_copyOf_41 : decode m_Model_copyOf.2.1 41 = .ok (.iaload, 1) := by decide +kernel
theorem d_Model_copyOf_42 : decode m_Model_copyOf.2.1 42 = .ok (.iastore, 1) := by decide +kernel
theorem d_Model_copyOf_43 : decode m_Model_copyOf.2.1 43 = .ok (.iinc 4 1, 3) := by decide +kernel
theorem d_Model_copyOf_46 : decode m_Model_copyOf.2.1 46 = .ok (.goto (-29), 3) := by decide +kernel
theorem d_Model_copyOf_49 : decode m_Model_copyOf.2.1 49 = .ok (.aload_n 0, 1) := by decide +kernel
theorem d_Model_copyOf_50 : decode m_Model_copyOf.2.1 50 = .ok (.iload_n 3, 1) := by decide +kernel
theorem d_Model_copyOf_51 : decode m_Model_copyOf.2.1 51 = .ok (.iload_n 2, 1) := by decide +kernel
theorem d_Model_copyOf_52 : decode m_Model_copyOf.2.1 52 = .ok (.iadd, 1) := by decide +kernel
theorem d_Model_copyOf_53 : decode m_Model_copyOf.2.1 53 = .ok (.iconst 2, 1) := by decide +kernel
theorem d_Model_copyOf_54 : decode m_Model_copyOf.2.1 54 = .ok (.iadd, 1) := by decide +kernel
theorem d_Model_copyOf_55 : decode m_Model_copyOf.2.1 55 = .ok (.putfield 428, 3) := by decide +kernel
theorem d_Model_copyOf_58 : decode m_Model_copyOf.2.1 58 = .ok (.iload_n 3, 1) := by decide +kernel
theorem d_Model_copyOf_59 : decode m_Model_copyOf.2.1 59 = .ok (.ireturn, 1) := by decide +kernel
theorem z01 {w : Int} (h : w = 0 ∨ w = 1) : cI w = 0 ∨ cI w = 1 := by
  rcases h with rfl | rfl
  · exact Or.inl rfl
  · exact Or.inr rfl
theorem c_Model_isIn (d : Nat) {v a b : Int} (h1 : inL v) (h2 : inL a) (h3 : inL b) {I : M32} {L : M64} {R : MR} {T : SH} : Call m_Model_isIn y_Model_isIn d 0 0 [.long (cL v), .long (cL a), .long (cL b)] I L R T (rI fun r I' L' R' T' => r = cI (bI (a ≤ v ∧ v ≤ b)) ∧ I' = I ∧ L' = L ∧ R' = R ∧ T' = T) := by
  refine Call.ofRun (by decide) ⟨rfl, rfl⟩ (Nat.le_of_ble_eq_true rfl) ?_
  refine Run.gen fun Q hQ => ?_
  suffices J : ∀ (w : Int), (((v < a) ∧ w = 0) ∨ ((a ≤ v) ∧ (b < v) ∧ w = 0) ∨ ((a ≤ v) ∧ (v ≤ b) ∧ w = 1)) → Run m_Model_isIn d 0 0 18 [(0, .long (cL v)), (2, .long (cL a)), (4, .long (cL b))] [.int (cI w)] I L R T Q by
    refine q_lload_n d_Model_isIn_0 rfl ?_
    refine q_lload_n d_Model_isIn_1 rfl ?_
    refine j_lcmp_lt (tgt := 17) d_Model_isIn_2 d_Model_isIn_3 (by decide) (by omega) (by omega) (fun hp1 => ?_) (fun hp1 => ?_)
    · refine j_iconst d_Model_isIn_17 ?_
      exact J _ (Or.inl ⟨hp1, rfl⟩)
    · refine q_lload_n d_Model_isIn_6 rfl ?_
      refine q_lload d_Model_isIn_7 rfl ?_
      refine j_lcmp_gt (tgt := 17) d_Model_isIn_9 d_Model_isIn_10 (by decide) (by omega) (by omega) (fun hp2 => ?_) (fun hp2 => ?_)
      · refine j_iconst d_Model_isIn_17 ?_
        exact J _ (Or.inr (Or.inl ⟨hp1, hp2, rfl⟩))
      · refine j_iconst d_Model_isIn_13 ?_
        refine q_goto (tgt := 18) d_Model_isIn_14 (by decide) ?_
        exact J _ (Or.inr (Or.inr ⟨hp1, hp2, rfl⟩))
  intro w hv
  refine q_ireturn d_Model_isIn_18 rfl (narrow_z (z01 (by omega))).1 ?_
  refine hQ _ _ _ _ _ ?_
  exact ⟨_, rfl, by rw [show w = bI (a ≤ v ∧ v ≤ b) by unfold bI; split <;> omega], rfl, rfl, rfl, rfl⟩
/-- n digits are x, and none is needless -/
def ND (x n : Nat) : Prop := x < 10 ^ n ∧ (0 < n → 10 ^ (n - 1) ≤ x)
theorem ND.uq {x n m : Nat} (h : ND x n) (g : ND x m) : n = m := by
  have h1 := n_of10 h.2 g.1
  have h2 := n_of10 g.2 h.1
  omega
theorem ND.zero {x n : Nat} (h : ND x n) : n = 0 ↔ x = 0 := by
  obtain ⟨h1, h2⟩ := h
  constructor
  · intro e; subst e; simpa using h1
  · intro e
    rcases Nat.eq_zero_or_pos n with q | q
    · exact q
    · have := h2 q
      have := pow10_pos (n - 1)
      omega
/-- the number v of n digits stands at r of the row p -/
def PolV (I : M32) (p r n : Nat) (v : Int) : Prop := ND v.natAbs n ∧ I p r = cI (cmpZ v 0) ∧ I p (r + 1) = cI n ∧ ∀ k, k < n → I p (r + k + 2) = cI (d10 v.natAbs k)
theorem PolV.congr {I J : M32} {p r n : Nat} {v : Int} (h : PolV I p r n v) (hq : ∀ k, r ≤ k → k < r + n + 2 → J p k = I p k) : PolV J p r n v :=
  ⟨h.1, by rw [hq r (by omega) (by omega)]; exact h.2.1, by rw [hq _ (by omega) (by omega)]; exact h.2.2.1, fun k hk => by rw [hq _ (by omega) (by omega)]; exact h.2.2.2 k hk⟩
theorem c_Model_zero (d : Nat) {M t : Nat} {I : M32} {L : M64} {R : MR} {T : SH} (hM : MdlS M R T) (ht : I M 7 = cI t) (hb : t + 2 ≤ 1100000) : Call m_Model_zero y_Model_zero d 0 0 [.ref M] I L R T (rI fun r I' L' R' T' => (r = cI t ∧ I' = up2 (up2 (up2 I (M + 3) t (cI 0)) (M + 3) (t + 1) (cI 0)) M 7 (cI (t + 2))) ∧ L' = L ∧ R' = R ∧ T' = T) := by
  refine Call.ofRun (by decide) ⟨rfl, rfl⟩ (Nat.le_of_ble_eq_true rfl) ?_
  refine Run.gen fun Q hQ => ?_
  refine q_aload_n d_Model_zero_0 rfl ?_
  refine j_getI (v := (cI (t : Int))) d_Model_zero_1 fl_Model_428 hM.1 ⟨rfl, by decide⟩ ht ?_
  refine q_istore_n (lv' := [(1, .int (cI (t : Int))), (0, .ref M)]) d_Model_zero_4 (by decide) rfl ?_
  refine q_aload_n d_Model_zero_5 rfl ?_
  refine q_getR d_Model_zero_6 fl_Model_17 hM.1 ⟨rfl, by decide⟩ (mR5 hM) ?_
  refine q_iload_n d_Model_zero_9 rfl ?_
  refine j_iconst d_Model_zero_10 ?_
  refine j_iast (j := t) d_Model_zero_11 (mT5 hM) (mN5 hM) (by omega) (by omega) (by omega) ?_
  refine q_aload_n d_Model_zero_12 rfl ?_
  refine q_getR d_Model_zero_13 fl_Model_17 hM.1 ⟨rfl, by decide⟩ (mR5 hM) ?_
  refine q_iload_n d_Model_zero_16 rfl ?_
  refine j_iconst d_Model_zero_17 ?_
  refine j_iadd d_Model_zero_18 ?_
  refine j_iconst d_Model_zero_19 ?_
  refine j_iast (j := (t + 1)) d_Model_zero_20 (mT5 hM) (mN5 hM) (by omega) (by omega) (by omega) ?_
  refine q_aload_n d_Model_zero_21 rfl ?_
  refine q_dup d_Model_zero_22 rfl ?_
  refine j_getI (v := (cI (t : Int))) d_Model_zero_23 fl_Model_428 hM.1 ⟨rfl, by decide⟩ ((up2_a _ _ _ (by omega)).trans ((up2_a _ _ _ (by omega)).trans (ht))) ?_
  refine j_iconst d_Model_zero_26 ?_
  refine j_iadd d_Model_zero_27 ?_
  refine q_putI d_Model_zero_28 fl_Model_428 hM.1 ⟨rfl, by decide, rfl, rfl⟩ ?_
  refine q_iload_n d_Model_zero_31 rfl ?_
  refine q_ireturn d_Model_zero_32 rfl rfl ?_
  refine hQ _ _ _ _ _ ?_
  exact ⟨_, rfl, ⟨rfl, rfl⟩, rfl, rfl, rfl⟩
theorem c_Model_digit (d : Nat) {M r n : Nat} {x k : Nat} {I : M32} {L : M64} {R : MR} {T : SH} (hM : MdlS M R T) (hn : I (M + 3) (r + 1) = cI n) (hD : ∀ k, k < n → I (M + 3) (r + k + 2) = cI (d10 x k)) (hx : x < 10 ^ n) (hr : r + n + 2 ≤ 1100000) (hk : k ≤ 1100000) :
    Call m_Model_digit y_Model_digit d 0 0 [.ref M, .int (cI r), .int (cI k)] I L R T (rI fun r I' L' R' T' => r = cI (d10 x k) ∧ I' = I ∧ L' = L ∧ R' = R ∧ T' = T) := by
  refine Call.ofRun (by decide) ⟨rfl, rfl⟩ (Nat.le_of_ble_eq_true rfl) ?_
  refine Run.gen fun Q hQ => ?_
  suffices J : ∀ (w : Int), ((((n : Int) ≤ (k : Int)) ∧ w = 0) ∨ (((k : Int) < (n : Int)) ∧ w = (d10 x k : Int))) → Run m_Model_digit d 0 0 26 [(0, .ref M), (1, .int (cI (r : Int))), (2, .int (cI (k : Int)))] [.int (cI w)] I L R T Q by
    refine q_iload_n d_Model_digit_0 rfl ?_
    refine q_aload_n d_Model_digit_1 rfl ?_
    refine q_getR d_Model_digit_2 fl_Model_17 hM.1 ⟨rfl, by decide⟩ (mR5 hM) ?_
    refine q_iload_n d_Model_digit_5 rfl ?_
    refine j_iconst d_Model_digit_6 ?_
    refine j_iadd d_Model_digit_7 ?_
    refine j_iald (j := (r + 1)) (v := (cI (n : Int))) d_Model_digit_8 (mT5 hM) (mN5 hM) (by omega) (by omega) (by omega) hn ?_
    refine j_icmp_ge (tgt := 25) d_Model_digit_9 (by decide) (by omega) (by omega) (fun hp3 => ?_) (fun hp3 => ?_)
    · refine j_iconst d_Model_digit_25 ?_
      exact J _ (Or.inl ⟨hp3, rfl⟩)
    · refine q_aload_n d_Model_digit_12 rfl ?_
      refine q_getR d_Model_digit_13 fl_Model_17 hM.1 ⟨rfl, by decide⟩ (mR5 hM) ?_
      refine q_iload_n d_Model_digit_16 rfl ?_
      refine j_iconst d_Model_digit_17 ?_
      refine j_iadd d_Model_digit_18 ?_
      refine q_iload_n d_Model_digit_19 rfl ?_
      refine j_iadd d_Model_digit_20 ?_
      refine j_iald (j := (r + k + 2)) (v := (cI (d10 x k : Int))) d_Model_digit_21 (mT5 hM) (mN5 hM) (by omega) (by omega) (by omega) (hD k (by omega)) ?_
      refine q_goto (tgt := 26) d_Model_digit_22 (by decide) ?_
      exact J _ (Or.inr ⟨hp3, rfl⟩)
  intro w hv
  have hw : w = (d10 x k : Int) := by
    rcases hv with ⟨h, e⟩ | ⟨h, e⟩
    · rw [e, d10_big hx (by omega)]; rfl
    · rw [e]
  refine q_ireturn d_Model_digit_26 rfl rfl ?_
  refine hQ _ _ _ _ _ ?_
  exact ⟨_, rfl, by rw [hw], rfl, rfl, rfl, rfl⟩
theorem c_Model_close (d : Nat) {M r n x : Nat} {s : Int} {P : Prop} [Decidable P] {I : M32} {L : M64} {R : MR} {T : SH} (hM : MdlS M R T) (hD : ∀ k, k < n → I (M + 3) (r + k + 2) = cI (d10 x k)) (hx : x < 10 ^ n) (hr : r + n + 2 ≤ 1100000) (hP : I M 8 = cI (bI P)) :
    Call m_Model_close y_Model_close d 0 0 [.ref M, .int (cI r), .int (cI n), .int (cI s)] I L R T (rI fun r' I' L' R' T' => (r' = cI r ∧ ∃ m, m ≤ n ∧ ND x m ∧ I' = up2 (up2 (up2 (up2 I (M + 3) r (cI (if m = 0 then 0 else s))) (M + 3) (r + 1) (cI m)) M 7 (cI (r + m + 2 : Nat))) M 8 (cI (bI (P ∨ 300 < m)))) ∧ L' = L ∧ R' = R ∧ T' = T) := by
  refine Call.ofRun (by decide) ⟨rfl, rfl⟩ (Nat.le_of_ble_eq_true rfl) ?_
  refine Run.gen fun Q hQ => ?_
  refine q_iload_n d_Model_close_0 rfl ?_
  refine q_istore (lv' := [(4, .int (cI (n : Int))), (0, .ref M), (1, .int (cI (r : Int))), (2, .int (cI (n : Int))), (3, .int (cI s))]) d_Model_close_1 (by decide) rfl ?_
  have fin : ∀ (m : Nat) (z : Int), z = m → m ≤ n → ND x m → Run m_Model_close d 0 0 28 [(0, .ref M), (1, .int (cI (r : Int))), (2, .int (cI (n : Int))), (3, .int (cI s)), (4, .int (cI z))] [] I L R T Q := by
    intro m z hz hm hN
    suffices J : ∀ (w : Int), (((¬ z = 0) ∧ w = s) ∨ ((z = 0) ∧ w = 0)) → Run m_Model_close d 0 0 43 [(0, .ref M), (1, .int (cI (r : Int))), (2, .int (cI (n : Int))), (3, .int (cI s)), (4, .int (cI z))] [.int (cI w), .int (cI (r : Int)), .ref (M + 3)] I L R T Q by
      refine q_aload_n d_Model_close_28 rfl ?_
      refine q_getR d_Model_close_29 fl_Model_17 hM.1 ⟨rfl, by decide⟩ (mR5 hM) ?_
      refine q_iload_n d_Model_close_32 rfl ?_
      refine q_iload d_Model_close_33 rfl ?_
      refine j_if_ne (tgt := 42) d_Model_close_35 (by decide) (by omega) (fun hp4 => ?_) (fun hp4 => ?_)
      · refine q_iload_n d_Model_close_42 rfl ?_
        exact J _ (Or.inl ⟨hp4, rfl⟩)
      · refine j_iconst d_Model_close_38 ?_
        refine q_goto (tgt := 43) d_Model_close_39 (by decide) ?_
        exact J _ (Or.inr ⟨hp4, rfl⟩)
    intro w hw
    refine j_iast (j := r) d_Model_close_43 (mT5 hM) (mN5 hM) (by omega) (by omega) (by omega) ?_
    refine q_aload_n d_Model_close_44 rfl ?_
    refine q_getR d_Model_close_45 fl_Model_17 hM.1 ⟨rfl, by decide⟩ (mR5 hM) ?_
    refine q_iload_n d_Model_close_48 rfl ?_
    refine j_iconst d_Model_close_49 ?_
    refine j_iadd d_Model_close_50 ?_
    refine q_iload d_Model_close_51 rfl ?_
    refine j_iast (j := (r + 1)) d_Model_close_53 (mT5 hM) (mN5 hM) (by omega) (by omega) (by omega) ?_
    refine q_aload_n d_Model_close_54 rfl ?_
    refine q_iload_n d_Model_close_55 rfl ?_
    refine j_iconst d_Model_close_56 ?_
    refine j_iadd d_Model_close_57 ?_
    refine q_iload d_Model_close_58 rfl ?_
    refine j_iadd d_Model_close_60 ?_
    refine q_putI d_Model_close_61 fl_Model_428 hM.1 ⟨rfl, by decide, rfl, rfl⟩ ?_
    refine q_aload_n d_Model_close_64 rfl ?_
    refine q_aload_n d_Model_close_65 rfl ?_
    refine j_getI (v := (cI (bI (P)))) d_Model_close_66 fl_Model_431 hM.1 ⟨rfl, by decide⟩ ((up2_k _ _ _ (by omega)).trans ((up2_a _ _ _ (by omega)).trans ((up2_a _ _ _ (by omega)).trans (hP)))) ?_
    suffices J : ∀ (u : Int), (((P) ∧ u = 1) ∨ ((¬ (P)) ∧ (z ≤ 300) ∧ u = 0) ∨ ((¬ (P)) ∧ (300 < z) ∧ u = 1)) → Run m_Model_close d 0 0 85 [(0, .ref M), (1, .int (cI (r : Int))), (2, .int (cI (n : Int))), (3, .int (cI s)), (4, .int (cI z))] [.int (cI u), .ref M] (up2 (up2 (up2 I (M + 3) r (cI w)) (M + 3) (r + 1) (cI z)) M 7 (cI (((r : Int) + 2) + z))) L R T Q by
      refine j_ifb_ne (tgt := 80) d_Model_close_69 (by decide) (fun hp5 => ?_) (fun hp5 => ?_)
      · refine j_iconst d_Model_close_80 ?_
        refine q_goto (tgt := 85) d_Model_close_81 (by decide) ?_
        exact J _ (Or.inl ⟨hp5, rfl⟩)
      · refine q_iload d_Model_close_72 rfl ?_
        refine j_sipush d_Model_close_74 (by decide) ?_
        refine j_icmp_le (tgt := 84) d_Model_close_77 (by decide) (by omega) (by omega) (fun hp6 => ?_) (fun hp6 => ?_)
        · refine j_iconst d_Model_close_84 ?_
          exact J _ (Or.inr (Or.inl ⟨hp5, hp6, rfl⟩))
        · refine j_iconst d_Model_close_80 ?_
          refine q_goto (tgt := 85) d_Model_close_81 (by decide) ?_
          exact J _ (Or.inr (Or.inr ⟨hp5, hp6, rfl⟩))
    intro u hu
    refine Run.top (v := .int (cI (bI (P ∨ 300 < m)))) (by rw [show u = bI (P ∨ 300 < m) by unfold bI; split <;> (first | omega | (rcases hu with ⟨h1, h2⟩ | ⟨h1, h2, h3⟩ | ⟨h1, h2, h3⟩ <;> simp_all <;> omega))]) ?_
    refine q_putZ d_Model_close_85 fl_Model_431 hM.1 ⟨rfl, by decide, rfl, rfl⟩ bI_z ?_
    refine q_iload_n d_Model_close_88 rfl ?_
    refine q_ireturn d_Model_close_89 rfl rfl ?_
    refine hQ _ _ _ _ _ ?_
    refine ⟨_, rfl, ⟨rfl, m, hm, hN, ?_⟩, rfl, rfl, rfl⟩
    rw [show w = (if m = 0 then 0 else s) by split <;> omega, show (r : Int) + 2 + z = ((r + m + 2 : Nat) : Int) by omega, hz]
  have loop : ∀ (f m : Nat) (z : Int), m < f → z = m → m ≤ n → x < 10 ^ m → Run m_Model_close d 0 0 3 [(0, .ref M), (1, .int (cI (r : Int))), (2, .int (cI (n : Int))), (3, .int (cI s)), (4, .int (cI z))] [] I L R T Q := by
    intro f
    induction f with
    | zero => intro m z h; omega
    | succ f ih =>
    intro m z hf hz hm hxm
    refine q_iload d_Model_close_3 rfl ?_
    refine j_if_le (tgt := 28) d_Model_close_5 (by decide) (by omega) (fun h1 => ?_) (fun h1 => ?_)
    · skip
      exact fin m z hz hm ⟨hxm, fun h => by omega⟩
    · skip
      have h9 := d10_lt x (m - 1)
      refine q_aload_n d_Model_close_8 rfl ?_
      refine q_getR d_Model_close_9 fl_Model_17 hM.1 ⟨rfl, by decide⟩ (mR5 hM) ?_
      refine q_iload_n d_Model_close_12 rfl ?_
      refine j_iconst d_Model_close_13 ?_
      refine j_iadd d_Model_close_14 ?_
      refine q_iload d_Model_close_15 rfl ?_
      refine j_iadd d_Model_close_17 ?_
      refine j_iald (j := (r + m + 1)) (v := (cI ((d10 x (m - 1) : Nat) : Int))) d_Model_close_18 (mT5 hM) (mN5 hM) (by omega) (by omega) (by omega) (by rw [show r + m + 1 = r + (m - 1) + 2 by omega]; exact hD _ (by omega)) ?_
      refine j_if_ne (tgt := 28) d_Model_close_19 (by decide) (by omega) (fun h2 => ?_) (fun h2 => ?_)
      · skip
        exact fin m z hz hm ⟨hxm, fun h => top_pos10 (n := m - 1) (by rw [show m - 1 + 1 = m by omega]; exact hxm) (by omega)⟩
      · skip
        refine j_iinc (lv' := [(4, .int (cI (z + (-1)))), (0, .ref M), (1, .int (cI (r : Int))), (2, .int (cI (n : Int))), (3, .int (cI s))]) d_Model_close_22 rfl (by decide) rfl ?_
        refine q_goto (tgt := 3) d_Model_close_25 (by decide) ?_
        refine Run.lv (lv' := [(0, .ref M), (1, .int (cI (r : Int))), (2, .int (cI (n : Int))), (3, .int (cI s)), (4, .int (cI (z + (-1))))]) (by intro q hq; simp only [List.mem_cons, List.not_mem_nil, or_false] at hq ⊢; rcases hq with rfl | rfl | rfl | rfl | rfl <;> simp) ?_
        exact ih (m - 1) _ (by omega) (by omega) (by omega) (top_zero10 (by rw [show m - 1 + 1 = m by omega]; exact hxm) (by omega))
  refine Run.lv (lv' := [(0, .ref M), (1, .int (cI (r : Int))), (2, .int (cI (n : Int))), (3, .int (cI s)), (4, .int (cI (n : Int)))]) (by intro q hq; simp only [List.mem_cons, List.not_mem_nil, or_false] at hq ⊢; rcases hq with rfl | rfl | rfl | rfl | rfl <;> simp) ?_
  exact loop (n + 1) n n (by omega) rfl (Nat.le_refl _) hx

