/-! ===== 20 BIG: numbers of nine digits a place; printed by tools/walk.py out of src/20.big.tmpl ===== -/
theorem d_Integer_compare_0 : decode m_Integer_compare.2.1 0 = .ok (.iload_n 0, 1) := by decide +kernel
theorem d_Integer_compare_1 : decode m_Integer_compare.2.1 1 = .ok (.iload_n 1, 1) := by decide +kernel
theorem d_Integer_compare_2 : decode m_Integer_compare.2.1 2 = .ok (.if_icmp .ge 7, 3) := by decide +kernel
theorem d_Integer_compare_5 : decode m_Integer_compare.2.1 5 = .ok (.iconst (-1), 1) := by decide +kernel
theorem d_Integer_compare_6 : decode m_Integer_compare.2.1 6 = .ok (.goto 13, 3) := by decide +kernel
theorem d_Integer_compare_9 : decode m_Integer_compare.2.1 9 = .ok (.iload_n 0, 1) := by decide +kernel
theorem d_Integer_compare_10 : decode m_Integer_compare.2.1 10 = .ok (.iload_n 1, 1) := by decide +kernel
theorem d_Integer_compare_11 : decode m_Integer_compare.2.1 11 = .ok (.if_icmp .ne 7, 3) := by decide +kernel
theorem d_Integer_compare_14 : decode m_Integer_compare.2.1 14 = .ok (.iconst 0, 1) := by decide +kernel
theorem d_Integer_compare_15 : decode m_Integer_compare.2.1 15 = .ok (.goto 4, 3) := by decide +kernel
theorem d_Integer_compare_18 : decode m_Integer_compare.2.1 18 = .ok (.iconst 1, 1) := by decide +kernel
theorem d_Integer_compare_19 : decode m_Integer_compare.2.1 19 = .ok (.ireturn, 1) := by decide +kernel
theorem d_Big_clear_0 : decode m_Big_clear.2.1 0 = .ok (.aload_n 0, 1) := by decide +kernel
theorem d_Big_clear_1 : decode m_Big_clear.2.1 1 = .ok (.iconst 0, 1) := by decide +kernel
theorem d_Big_clear_2 : decode m_Big_clear.2.1 2 = .ok (.putfield 15, 3) := by decide +kernel
theorem d_Big_clear_5 : decode m_Big_clear.2.1 5 = .ok (.aload_n 0, 1) := by decide +kernel
theorem d_Big_clear_6 : decode m_Big_clear.2.1 6 = .ok (.iconst 0, 1) := by decide +kernel
theorem d_Big_clear_7 : decode m_Big_clear.2.1 7 = .ok (.putfield 19, 3) := by decide +kernel
theorem d_Big_clear_10 : decode m_Big_clear.2.1 10 = .ok (.return_, 1) := by decide +kernel
theorem d_Big_isZero_0 : decode m_Big_isZero.2.1 0 = .ok (.aload_n 0, 1) := by decide +kernel
theorem d_Big_isZero_1 : decode m_Big_isZero.2.1 1 = .ok (.getfield 15, 3) := by decide +kernel
theorem d_Big_isZero_4 : decode m_Big_isZero.2.1 4 = .ok (.ifCond .ne 7, 3) := by decide +kernel
theorem d_Big_isZero_7 : decode m_Big_isZero.2.1 7 = .ok (.iconst 1, 1) := by decide +kernel
theorem d_Big_isZero_8 : decode m_Big_isZero.2.1 8 = .ok (.goto 4, 3) := by decide +kernel
theorem d_Big_isZero_11 : decode m_Big_isZero.2.1 11 = .ok (.iconst 0, 1) := by decide +kernel
theorem d_Big_isZero_12 : decode m_Big_isZero.2.1 12 = .ok (.ireturn, 1) := by decide +kernel
theorem d_Big_sign_0 : decode m_Big_sign.2.1 0 = .ok (.aload_n 0, 1) := by decide +kernel
theorem d_Big_sign_1 : decode m_Big_sign.2.1 1 = .ok (.getfield 15, 3) := by decide +kernel
theorem d_Big_sign_4 : decode m_Big_sign.2.1 4 = .ok (.ifCond .ne 7, 3) := by decide +kernel
theorem d_Big_sign_7 : decode m_Big_sign.2.1 7 = .ok (.iconst 0, 1) := by decide +kernel
theorem d_Big_sign_8 : decode m_Big_sign.2.1 8 = .ok (.goto 15, 3) := by decide +kernel
theorem d_Big_sign_11 : decode m_Big_sign.2.1 11 = .ok (.aload_n 0, 1) := by decide +kernel
theorem d_Big_sign_12 : decode m_Big_sign.2.1 12 = .ok (.getfield 19, 3) := by decide +kernel
theorem d_Big_sign_15 : decode m_Big_sign.2.1 15 = .ok (.ifCond .eq 7, 3) := by decide +kernel
theorem d_Big_sign_18 : decode m_Big_sign.2.1 18 = .ok (.iconst (-1), 1) := by decide +kernel
theorem d_Big_sign_19 : decode m_Big_sign.2.1 19 = .ok (.goto 4, 3) := by decide +kernel
theorem d_Big_sign_22 : decode m_Big_sign.2.1 22 = .ok (.iconst 1, 1) := by decide +kernel
theorem d_Big_sign_23 : decode m_Big_sign.2.1 23 = .ok (.ireturn, 1) := by decide +kernel
theorem d_Big_negate_0 : decode m_Big_negate.2.1 0 = .ok (.aload_n 0, 1) := by decide +kernel
theorem d_Big_negate_1 : decode m_Big_negate.2.1 1 = .ok (.aload_n 0, 1) := by decide +kernel
theorem d_Big_negate_2 : decode m_Big_negate.2.1 2 = .ok (.getfield 15, 3) := by decide +kernel
theorem d_Big_negate_5 : decode m_Big_negate.2.1 5 = .ok (.ifCond .le 14, 3) := by decide +kernel
theorem d_Big_negate_8 : decode m_Big_negate.2.1 8 = .ok (.aload_n 0, 1) := by decide +kernel
theorem d_Big_negate_9 : decode m_Big_negate.2.1 9 = .ok (.getfield 19, 3) := by decide +kernel
theorem d_Big_negate_12 : decode m_Big_negate.2.1 12 = .ok (.ifCond .ne 7, 3) := by decide +kernel
theorem d_Big_negate_15 : decode m_Big_negate.2.1 15 = .ok (.iconst 1, 1) := by decide +kernel
theorem d_Big_negate_16 : decode m_Big_negate.2.1 16 = .ok (.goto 4, 3) := by decide +kernel
theorem d_Big_negate_19 : decode m_Big_negate.2.1 19 = .ok (.iconst 0, 1) := by decide +kernel
theorem d_Big_negate_20 : decode m_Big_negate.2.1 20 = .ok (.putfield 19, 3) := by decide +kernel
theorem d_Big_negate_23 : decode m_Big_negate.2.1 23 = .ok (.return_, 1) := by decide +kernel
def cmpZ (a b : Int) : Int := if a < b then -1 else if a = b then 0 else 1
abbrev B9 : Nat := 1000000000
def dg (m k : Nat) : Nat := m / B9 ^ k % B9
theorem dg_lt (m k : Nat) : dg m k < 1000000000 := Nat.mod_lt _ (by decide)
/-- the shape of a number's two cells -/
def BigS (R : MR) (T : SH) (a : Nat) : Prop := T.1 a = 0 + 1 ∧ R a 0 = some (a + 1) ∧ T.1 (a + 1) = 64 ∧ T.2.1 (a + 1) = 36
/-- n places hold m, the sign is s -/
def BigW (I : M32) (a n m : Nat) (s : Bool) : Prop := m < B9 ^ n ∧ n ≤ 36 ∧ I a 1 = cI n ∧ (∀ k, k < n → I (a + 1) k = cI (dg m k)) ∧ I a 2 = cI (if s then 1 else 0)
/-- a number: no zeros on top, no sign at zero -/
def BigV (I : M32) (a : Nat) (v : Int) : Prop := ∃ n, BigW I a n v.natAbs (decide (v < 0)) ∧ (0 < n → B9 ^ (n - 1) ≤ v.natAbs)
/-- only the number at a may have changed -/
def FrB (a : Nat) (I I' : M32) : Prop := ∀ q, q ≠ a → q ≠ a + 1 → I' q = I q
theorem FrB.rf {a : Nat} {I : M32} : FrB a I I := fun _ _ _ => rfl
theorem FrB.tr {a : Nat} {I I1 I2 : M32} (h : FrB a I I1) (h2 : FrB a I1 I2) : FrB a I I2 := fun q e1 e2 => (h2 q e1 e2).trans (h q e1 e2)
theorem up2_row {α : Type} (f : Nat → Nat → α) {a k q : Nat} (v : α) (h : q ≠ a) : up2 f a k v q = f q := funext fun j => up2_a f j v h
theorem FrB.up {a k : Nat} {I : M32} {v : Int32} : FrB a I (up2 I a k v) := fun q e1 _ => up2_row I v e1
theorem FrB.upP {a k : Nat} {I : M32} {v : Int32} : FrB a I (up2 I (a + 1) k v) := fun q _ e2 => up2_row I v e2
theorem b2i_in (s : Bool) : inI (if s then 1 else 0) := by cases s <;> decide
theorem pow9_pos (n : Nat) : 0 < B9 ^ n := Nat.pow_pos (by decide)
theorem c_Integer_compare (d : Nat) {x y : Int} (hx : inI x) (hy : inI y) {I : M32} {L : M64} {R : MR} {T : SH} : Call m_Integer_compare y_Integer_compare d 0 0 [.int (cI x), .int (cI y)] I L R T (rI fun r I' L' R' T' => r = cI (cmpZ x y) ∧ I' = I ∧ L' = L ∧ R' = R ∧ T' = T) := by
  refine Call.ofRun (by decide) ⟨rfl, rfl⟩ (Nat.le_of_ble_eq_true rfl) ?_
  show Run m_Integer_compare d 0 0 0 [(0, .int (cI x)), (1, .int (cI y))] [] I L R T _
  refine q_iload_n d_Integer_compare_0 rfl ?_
  refine q_iload_n d_Integer_compare_1 rfl ?_
  refine j_icmp_ge (tgt := 9) d_Integer_compare_2 (by decide) (by omega) (by omega) (fun h => ?_) (fun h => ?_)
  · skip
    refine q_iload_n d_Integer_compare_9 rfl ?_
    refine q_iload_n d_Integer_compare_10 rfl ?_
    refine j_icmp_ne (tgt := 18) d_Integer_compare_11 (by decide) (by omega) (by omega) (fun h2 => ?_) (fun h2 => ?_)
    · skip
      refine j_iconst d_Integer_compare_18 ?_
      refine q_ireturn d_Integer_compare_19 rfl rfl ?_
      exact ⟨_, rfl, by rw [cmpZ, if_neg (by omega), if_neg h2], rfl, rfl, rfl, rfl⟩
    · skip
      refine j_iconst d_Integer_compare_14 ?_
      refine q_goto (tgt := 19) d_Integer_compare_15 (by decide) ?_
      refine q_ireturn d_Integer_compare_19 rfl rfl ?_
      exact ⟨_, rfl, by rw [cmpZ, if_neg (by omega), if_pos h2], rfl, rfl, rfl, rfl⟩
  · skip
    refine j_iconst d_Integer_compare_5 ?_
    refine q_goto (tgt := 19) d_Integer_compare_6 (by decide) ?_
    refine q_ireturn d_Integer_compare_19 rfl rfl ?_
    exact ⟨_, rfl, by rw [cmpZ, if_pos h], rfl, rfl, rfl, rfl⟩
theorem bigV_0 {I : M32} {a : Nat} (h1 : I a 1 = cI 0) (h2 : I a 2 = cI 0) : BigV I a 0 := ⟨0, ⟨by decide, by decide, h1, fun k h => by omega, h2⟩, fun h => by omega⟩
theorem c_Big_clear (d : Nat) {a : Nat} {I : M32} {L : M64} {R : MR} {T : SH} (hS : BigS R T a) : Call m_Big_clear y_Big_clear d 0 0 [.ref a] I L R T (rV fun I' L' R' T' => (I' = up2 (up2 I a 1 (cI 0)) a 2 (cI 0)) ∧ L' = L ∧ R' = R ∧ T' = T) := by
  refine Call.ofRun (by decide) ⟨rfl, rfl⟩ (Nat.le_of_ble_eq_true rfl) ?_
  show Run m_Big_clear d 0 0 0 [(0, .ref a)] [] I L R T _
  refine q_aload_n d_Big_clear_0 rfl ?_
  refine j_iconst d_Big_clear_1 ?_
  refine q_putI d_Big_clear_2 fl_Big_15 hS.1 ⟨rfl, by decide, rfl, rfl⟩ ?_
  refine q_aload_n d_Big_clear_5 rfl ?_
  refine j_iconst d_Big_clear_6 ?_
  refine q_putZ d_Big_clear_7 fl_Big_19 hS.1 ⟨rfl, by decide, rfl, rfl⟩ (Or.inl rfl) ?_
  refine q_return d_Big_clear_10 rfl ?_
  exact ⟨rfl, rfl, rfl, rfl, rfl⟩
theorem BigV.zero_iff {I : M32} {a n : Nat} {v : Int} (h : BigW I a n v.natAbs (decide (v < 0))) (h2 : 0 < n → B9 ^ (n - 1) ≤ v.natAbs) : n = 0 ↔ v = 0 := by
  constructor
  · intro e
    subst e
    have := h.1
    simp at this
    omega
  · intro e
    subst e
    rcases Nat.eq_zero_or_pos n with h0 | h0
    · exact h0
    · have := h2 h0
      have h9 := pow9_pos (n - 1)
      have h8 : (0 : Int).natAbs = 0 := rfl
      omega
theorem c_Big_isZero (d : Nat) {a : Nat} {v : Int} {I : M32} {L : M64} {R : MR} {T : SH} (hS : BigS R T a) (hV : BigV I a v) : Call m_Big_isZero y_Big_isZero d 0 0 [.ref a] I L R T (rI fun r I' L' R' T' => r = cI (if v = 0 then 1 else 0) ∧ I' = I ∧ L' = L ∧ R' = R ∧ T' = T) := by
  obtain ⟨n, hW, hN⟩ := hV
  have hz := BigV.zero_iff hW hN
  have hn := hW.2.1
  refine Call.ofRun (by decide) ⟨rfl, rfl⟩ (Nat.le_of_ble_eq_true rfl) ?_
  show Run m_Big_isZero d 0 0 0 [(0, .ref a)] [] I L R T _
  refine q_aload_n d_Big_isZero_0 rfl ?_
  refine j_getI (v := (cI (n : Int))) d_Big_isZero_1 fl_Big_15 hS.1 ⟨rfl, by decide⟩ hW.2.2.1 ?_
  refine j_if_ne (tgt := 11) d_Big_isZero_4 (by decide) (by omega) (fun h => ?_) (fun h => ?_)
  · skip
    refine j_iconst d_Big_isZero_11 ?_
    refine q_ireturn d_Big_isZero_12 rfl (narrow_z (Or.inl rfl)).1 ?_
    exact ⟨_, rfl, by rw [if_neg (fun e => h (by rw [hz.mpr e]; rfl))], rfl, rfl, rfl, rfl⟩
  · skip
    refine j_iconst d_Big_isZero_7 ?_
    refine q_goto (tgt := 12) d_Big_isZero_8 (by decide) ?_
    refine q_ireturn d_Big_isZero_12 rfl (narrow_z (Or.inr rfl)).1 ?_
    exact ⟨_, rfl, by rw [if_pos (hz.mp (by omega))], rfl, rfl, rfl, rfl⟩
theorem c_Big_sign (d : Nat) {a : Nat} {v : Int} {I : M32} {L : M64} {R : MR} {T : SH} (hS : BigS R T a) (hV : BigV I a v) : Call m_Big_sign y_Big_sign d 0 0 [.ref a] I L R T (rI fun r I' L' R' T' => r = cI (cmpZ v 0) ∧ I' = I ∧ L' = L ∧ R' = R ∧ T' = T) := by
  obtain ⟨n, hW, hN⟩ := hV
  have hz := BigV.zero_iff hW hN
  have hn := hW.2.1
  have hs := b2i_in (decide (v < 0))
  refine Call.ofRun (by decide) ⟨rfl, rfl⟩ (Nat.le_of_ble_eq_true rfl) ?_
  show Run m_Big_sign d 0 0 0 [(0, .ref a)] [] I L R T _
  refine q_aload_n d_Big_sign_0 rfl ?_
  refine j_getI (v := (cI (n : Int))) d_Big_sign_1 fl_Big_15 hS.1 ⟨rfl, by decide⟩ hW.2.2.1 ?_
  refine j_if_ne (tgt := 11) d_Big_sign_4 (by decide) (by omega) (fun h => ?_) (fun h => ?_)
  · skip
    have hv : ¬ v = 0 := fun e => h (by rw [hz.mpr e]; rfl)
    refine q_aload_n d_Big_sign_11 rfl ?_
    refine j_getI (v := (cI (if decide (v < 0) then 1 else 0))) d_Big_sign_12 fl_Big_19 hS.1 ⟨rfl, by decide⟩ hW.2.2.2.2 ?_
    refine j_if_eq (tgt := 22) d_Big_sign_15 (by decide) (by omega) (fun h2 => ?_) (fun h2 => ?_)
    · skip
      refine j_iconst d_Big_sign_22 ?_
      refine q_ireturn d_Big_sign_23 rfl rfl ?_
      exact ⟨_, rfl, by rw [cmpZ, if_neg (by intro e; simp [e] at h2), if_neg hv], rfl, rfl, rfl, rfl⟩
    · skip
      refine j_iconst d_Big_sign_18 ?_
      refine q_goto (tgt := 23) d_Big_sign_19 (by decide) ?_
      refine q_ireturn d_Big_sign_23 rfl rfl ?_
      exact ⟨_, rfl, by rw [cmpZ, if_pos (by by_cases e : v < 0; exact e; simp [e] at h2)], rfl, rfl, rfl, rfl⟩
  · skip
    have hv : v = 0 := hz.mp (by omega)
    subst hv
    refine j_iconst d_Big_sign_7 ?_
    refine q_goto (tgt := 23) d_Big_sign_8 (by decide) ?_
    refine q_ireturn d_Big_sign_23 rfl rfl ?_
    exact ⟨_, rfl, rfl, rfl, rfl, rfl, rfl⟩

