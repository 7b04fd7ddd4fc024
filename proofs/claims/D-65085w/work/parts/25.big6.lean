/-! ===== 25 BIG, the rest ===== -/
theorem d_Big_init_0 : decode m_Big_init.2.1 0 = .ok (.aload_n 0, 1) := by decide +kernel
theorem d_Big_init_1 : decode m_Big_init.2.1 1 = .ok (.invokespecial 3, 3) := by decide +kernel
theorem d_Big_init_4 : decode m_Big_init.2.1 4 = .ok (.aload_n 0, 1) := by decide +kernel
theorem d_Big_init_5 : decode m_Big_init.2.1 5 = .ok (.bipush 36, 2) := by decide +kernel
theorem d_Big_init_7 : decode m_Big_init.2.1 7 = .ok (.newarray .int, 2) := by decide +kernel
theorem d_Big_init_9 : decode m_Big_init.2.1 9 = .ok (.putfield 11, 3) := by decide +kernel
theorem d_Big_init_12 : decode m_Big_init.2.1 12 = .ok (.return_, 1) := by decide +kernel
theorem BigV.neg_up {I : M32} {a n : Nat} {v : Int} (hW : BigW I a n v.natAbs (decide (v < 0))) (hN : 0 < n → B9 ^ (n - 1) ≤ v.natAbs) (s : Int32) (h : s = cI (if decide (-v < 0) then 1 else 0)) : BigV (up2 I a 2 s) a (-v) := by
  refine ⟨n, ⟨by rw [Int.natAbs_neg]; exact hW.1, hW.2.1, ?_, ?_, ?_⟩, by rw [Int.natAbs_neg]; exact hN⟩
  · rw [up2_k _ _ _ (by decide)]; exact hW.2.2.1
  · intro j hj; rw [up2_a _ _ _ (by omega), Int.natAbs_neg]; exact hW.2.2.2.1 j hj
  · rw [up2_s, h]
theorem c_Big_negate (d : Nat) {a : Nat} {v : Int} {I : M32} {L : M64} {R : MR} {T : SH} (hS : BigS R T a) (hV : BigV I a v) : Call m_Big_negate y_Big_negate d 0 0 [.ref a] I L R T (rV fun I' L' R' T' => (BigV I' a (-v) ∧ FrB a I I') ∧ L' = L ∧ R' = R ∧ T' = T) := by
  obtain ⟨n, hW, hN⟩ := hV
  have hz := BigV.zero_iff hW hN
  have hn := hW.2.1
  have hs := b2i_in (decide (v < 0))
  refine Call.ofRun (by decide) ⟨rfl, rfl⟩ (Nat.le_of_ble_eq_true rfl) ?_
  show Run m_Big_negate d 0 0 0 [(0, .ref a)] [] I L R T _
  refine q_aload_n d_Big_negate_0 rfl ?_
  refine q_aload_n d_Big_negate_1 rfl ?_
  refine j_getI (v := (cI (n : Int))) d_Big_negate_2 fl_Big_15 hS.1 ⟨rfl, by decide⟩ hW.2.2.1 ?_
  refine j_if_le (tgt := 19) d_Big_negate_5 (by decide) (by omega) (fun h => ?_) (fun h => ?_)
  · skip
    have hv : v = 0 := hz.mp (by omega)
    subst hv
    refine j_iconst d_Big_negate_19 ?_
    refine q_putZ d_Big_negate_20 fl_Big_19 hS.1 ⟨rfl, by decide, rfl, rfl⟩ (Or.inl rfl) ?_
    refine q_return d_Big_negate_23 rfl ?_
    exact ⟨rfl, ⟨BigV.neg_up (v := 0) hW hN _ rfl, FrB.up⟩, rfl, rfl, rfl⟩
  · skip
    refine q_aload_n d_Big_negate_8 rfl ?_
    refine j_getI (v := (cI (if decide (v < 0) then 1 else 0))) d_Big_negate_9 fl_Big_19 hS.1 ⟨rfl, by decide⟩ hW.2.2.2.2 ?_
    refine j_if_ne (tgt := 19) d_Big_negate_12 (by decide) (by omega) (fun h2 => ?_) (fun h2 => ?_)
    · skip
      have hv : v < 0 := by by_cases e : v < 0; exact e; simp [e] at h2
      refine j_iconst d_Big_negate_19 ?_
      refine q_putZ d_Big_negate_20 fl_Big_19 hS.1 ⟨rfl, by decide, rfl, rfl⟩ (Or.inl rfl) ?_
      refine q_return d_Big_negate_23 rfl ?_
      exact ⟨rfl, ⟨BigV.neg_up hW hN _ (by rw [if_neg (by simp; omega)]), FrB.up⟩, rfl, rfl, rfl⟩
    · skip
      have hv : ¬ v < 0 := fun e => by simp [e] at h2
      have hv2 : v ≠ 0 := fun e => by have := hz.mpr e; omega
      refine j_iconst d_Big_negate_15 ?_
      refine q_goto (tgt := 20) d_Big_negate_16 (by decide) ?_
      refine q_putZ d_Big_negate_20 fl_Big_19 hS.1 ⟨rfl, by decide, rfl, rfl⟩ (Or.inr rfl) ?_
      refine q_return d_Big_negate_23 rfl ?_
      exact ⟨rfl, ⟨BigV.neg_up hW hN _ (by rw [if_pos (by simp; omega)]), FrB.up⟩, rfl, rfl, rfl⟩
theorem cmpZ_in (a b : Int) : inI (cmpZ a b) := by unfold cmpZ; split <;> (try split) <;> decide
theorem c_Big_compare (d : Nat) {a b : Nat} {v w : Int} {I : M32} {L : M64} {R : MR} {T : SH} (hd : 2 ≤ d) (hA : BigS R T a) (hB : BigS R T b) (hV : BigV I a v) (hU : BigV I b w) : Call m_Big_compare y_Big_compare d 0 0 [.ref a, .ref b] I L R T (rI fun r I' L' R' T' => r = cI (cmpZ v w) ∧ I' = I ∧ L' = L ∧ R' = R ∧ T' = T) := by
  refine Call.ofRun (by decide) ⟨rfl, rfl⟩ (Nat.le_of_ble_eq_true rfl) ?_
  show Run m_Big_compare d 0 0 0 [(0, .ref a), (1, .ref b)] [] I L R T _
  obtain ⟨n, hW, hN⟩ := id hV
  have sv := b2i_in (decide (v < 0))
  have c1 := cmpZ_in v 0
  have c2 := cmpZ_in w 0
  have c3 := cmpZ_in (v.natAbs : Int) (w.natAbs : Int)
  refine q_aload_n d_Big_compare_0 rfl ?_
  refine q_callV (ci := 0) (rc := 0) (rs := 0) (rest := []) d_Big_compare_1 ml_Big_40 ok_Big_sign rfl hA.1 (by decide) (c_Big_sign (d - 1) hA hV) rfl rfl (by omega) (Nat.le_of_ble_eq_true rfl) (kp_I ?_) kt_I
  refine q_aload_n d_Big_compare_4 rfl ?_
  refine q_callV (ci := 0) (rc := 0) (rs := 0) (rest := [.int (cI (cmpZ v 0))]) d_Big_compare_5 ml_Big_40 ok_Big_sign rfl hB.1 (by decide) (c_Big_sign (d - 1) hB hU) rfl rfl (by omega) (Nat.le_of_ble_eq_true rfl) (kp_I ?_) kt_I
  refine j_icmp_eq (tgt := 23) d_Big_compare_8 (by decide) (by omega) (by omega) (fun h => ?_) (fun h => ?_)
  · skip
    refine q_aload_n d_Big_compare_23 rfl ?_
    refine q_aload_n d_Big_compare_24 rfl ?_
    refine q_callS (rc := 0) (rs := 0) (rest := []) d_Big_compare_25 ml_Big_44 ok_Big_compareSizes (c_Big_compareSizes (d - 1) (by omega) hA hB hV hU) rfl rfl (by omega) (Nat.le_of_ble_eq_true rfl) (kp_I ?_) kt_I
    refine q_istore_n (lv' := [(2, .int (cI (cmpZ (v.natAbs : Int) (w.natAbs : Int)))), (0, .ref a), (1, .ref b)]) d_Big_compare_28 (by decide) rfl ?_
    refine q_aload_n d_Big_compare_29 rfl ?_
    refine j_getI (v := (cI (if decide (v < 0) then 1 else 0))) d_Big_compare_30 fl_Big_19 hA.1 ⟨rfl, by decide⟩ hW.2.2.2.2 ?_
    refine j_if_eq (tgt := 41) d_Big_compare_33 (by decide) (by omega) (fun h2 => ?_) (fun h2 => ?_)
    · skip
      refine q_iload_n d_Big_compare_41 rfl ?_
      refine q_ireturn d_Big_compare_42 rfl rfl ?_
      refine ⟨_, rfl, ?_, rfl, rfl, rfl, rfl⟩
      have hv : ¬ v < 0 := fun e => by simp [e] at h2
      congr 1
      unfold cmpZ at *
      by_cases q1 : v = 0 <;> by_cases q2 : w < 0 <;> by_cases q3 : w = 0 <;> simp [q1, q2, q3, hv] at h ⊢ <;> (repeat' split) <;> omega
    · skip
      have hv : v < 0 := by by_cases e : v < 0; exact e; simp [e] at h2
      refine q_iload_n d_Big_compare_36 rfl ?_
      refine j_ineg d_Big_compare_37 ?_
      refine q_goto (tgt := 42) d_Big_compare_38 (by decide) ?_
      refine q_ireturn d_Big_compare_42 rfl rfl ?_
      refine ⟨_, rfl, ?_, rfl, rfl, rfl, rfl⟩
      congr 1
      unfold cmpZ at *
      by_cases q2 : w < 0 <;> by_cases q3 : w = 0 <;> simp [q2, q3, hv] at h ⊢ <;> (repeat' split) <;> omega
  · skip
    refine q_aload_n d_Big_compare_11 rfl ?_
    refine q_callV (ci := 0) (rc := 0) (rs := 0) (rest := []) d_Big_compare_12 ml_Big_40 ok_Big_sign rfl hA.1 (by decide) (c_Big_sign (d - 1) hA hV) rfl rfl (by omega) (Nat.le_of_ble_eq_true rfl) (kp_I ?_) kt_I
    refine q_aload_n d_Big_compare_15 rfl ?_
    refine q_callV (ci := 0) (rc := 0) (rs := 0) (rest := [.int (cI (cmpZ v 0))]) d_Big_compare_16 ml_Big_40 ok_Big_sign rfl hB.1 (by decide) (c_Big_sign (d - 1) hB hU) rfl rfl (by omega) (Nat.le_of_ble_eq_true rfl) (kp_I ?_) kt_I
    refine q_callS (rc := 0) (rs := 0) (rest := []) d_Big_compare_19 ml_Big_34 ok_Integer_compare (c_Integer_compare (d - 1) c1 c2) rfl rfl (by omega) (Nat.le_of_ble_eq_true rfl) (kp_I ?_) kt_I
    refine q_ireturn d_Big_compare_22 rfl rfl ?_
    refine ⟨_, rfl, ?_, rfl, rfl, rfl, rfl⟩
    congr 1
    unfold cmpZ at *
    by_cases q1 : v < 0 <;> by_cases q2 : v = 0 <;> by_cases q3 : w < 0 <;> by_cases q4 : w = 0 <;> simp [q1, q2, q3, q4] at h ⊢ <;> (repeat' split) <;> omega
theorem c_Big_time (d : Nat) {a : Nat} {v : Int} {I : M32} {L : M64} {R : MR} {T : SH} (hA : BigS R T a) (hV : BigV I a v) : Call m_Big_time y_Big_time d 0 0 [.ref a] I L R T (rL fun r I' L' R' T' => r = cL (if 0 ≤ v ∧ v ≤ 1000000000000000 then v else -1) ∧ I' = I ∧ L' = L ∧ R' = R ∧ T' = T) := by
  refine Call.ofRun (by decide) ⟨rfl, rfl⟩ (Nat.le_of_ble_eq_true rfl) ?_
  show Run m_Big_time d 0 0 0 [(0, .ref a)] [] I L R T _
  generalize hQ : (rL fun r I' L' R' T' => r = cL (if 0 ≤ v ∧ v ≤ 1000000000000000 then v else -1) ∧ I' = I ∧ L' = L ∧ R' = R ∧ T' = T) = Q
  obtain ⟨n, hW, hN⟩ := hV
  have hn := hW.2.1
  have sv := b2i_in (decide (v < 0))
  have d0 := dg_lt v.natAbs 0
  have d1 := dg_lt v.natAbs 1
  refine q_aload_n d_Big_time_0 rfl ?_
  refine j_getI (v := (cI (if decide (v < 0) then 1 else 0))) d_Big_time_1 fl_Big_19 hA.1 ⟨rfl, by decide⟩ hW.2.2.2.2 ?_
  refine j_if_ne (tgt := 15) d_Big_time_4 (by decide) (by omega) (fun h => ?_) (fun h => ?_)
  · skip
    have hv : v < 0 := by by_cases e : v < 0; exact e; simp [e] at h
    refine j_ldc2 (z := (-1)) d_Big_time_15 (inT5 95 rfl) (by decide) ?_
    refine q_lreturn d_Big_time_18 rfl ?_
    subst hQ
    exact ⟨_, rfl, by rw [if_neg (by omega)], rfl, rfl, rfl, rfl⟩
  · skip
    have hv : ¬ v < 0 := fun e => by simp [e] at h
    refine q_aload_n d_Big_time_7 rfl ?_
    refine j_getI (v := (cI (n : Int))) d_Big_time_8 fl_Big_15 hA.1 ⟨rfl, by decide⟩ hW.2.2.1 ?_
    refine j_iconst d_Big_time_11 ?_
    refine j_icmp_le (tgt := 19) d_Big_time_12 (by decide) (by omega) (by omega) (fun h2 => ?_) (fun h2 => ?_)
    · skip
      have hv2 : (dg v.natAbs 0 : Int) + 1000000000 * (dg v.natAbs 1 : Int) = v := by
        have hlt : v.natAbs < B9 ^ 2 := Nat.lt_of_lt_of_le hW.1 (Nat.pow_le_pow_right (by decide) (by omega))
        have e0 : lo v.natAbs 1 = dg v.natAbs 0 := by rw [lo_s, lo_0]; simp
        have e1 := lo_s v.natAbs 1
        rw [lo_all hlt, e0, show B9 ^ 1 = 1000000000 by decide] at e1
        omega
      have J62 : Run m_Big_time d 0 0 62 [(1, .long (cL (dg v.natAbs 0 : Int))), (0, .ref a)] [.long (cL (1000000000 * (dg v.natAbs 1 : Int))), .long (cL (dg v.natAbs 0 : Int))] I L R T Q := by
        refine j_ladd d_Big_time_62 ?_
        refine q_lstore_n (lv' := [(1, .long (cL ((dg v.natAbs 0 : Int) + (1000000000 * (dg v.natAbs 1 : Int))))), (0, .ref a)]) d_Big_time_63 (by decide) rfl ?_
        refine q_lload_n d_Big_time_64 rfl ?_
        refine j_ldc2 (z := 1000000000000000) d_Big_time_65 (inT5 96 rfl) (by decide) ?_
        refine j_lcmp_gt (tgt := 76) d_Big_time_68 d_Big_time_69 (by decide) (by omega) (by omega) (fun h5 => ?_) (fun h5 => ?_)
        · skip
          refine j_ldc2 (z := (-1)) d_Big_time_76 (inT5 95 rfl) (by decide) ?_
          refine q_lreturn d_Big_time_79 rfl ?_
          subst hQ
          exact ⟨_, rfl, by rw [if_neg (by omega)], rfl, rfl, rfl, rfl⟩
        · skip
          refine q_lload_n d_Big_time_72 rfl ?_
          refine q_goto (tgt := 79) d_Big_time_73 (by decide) ?_
          refine q_lreturn d_Big_time_79 rfl ?_
          subst hQ
          exact ⟨_, rfl, by rw [if_pos (by omega), hv2], rfl, rfl, rfl, rfl⟩
      have J37 : Run m_Big_time d 0 0 37 [(0, .ref a)] [.long (cL (dg v.natAbs 0 : Int))] I L R T Q := by
        refine q_lstore_n (lv' := [(1, .long (cL (dg v.natAbs 0 : Int))), (0, .ref a)]) d_Big_time_37 (by decide) rfl ?_
        refine q_lload_n d_Big_time_38 rfl ?_
        refine q_aload_n d_Big_time_39 rfl ?_
        refine j_getI (v := (cI (n : Int))) d_Big_time_40 fl_Big_15 hA.1 ⟨rfl, by decide⟩ hW.2.2.1 ?_
        refine j_iconst d_Big_time_43 ?_
        refine j_icmp_le (tgt := 61) d_Big_time_44 (by decide) (by omega) (by omega) (fun h4 => ?_) (fun h4 => ?_)
        · skip
          refine j_lconst (z := 0) d_Big_time_61 (by decide) ?_
          refine Run.top (v := .long (cL (1000000000 * (dg v.natAbs 1 : Int)))) (by rw [show (0 : Int) = 1000000000 * (dg v.natAbs 1 : Int) by rw [dg_big hW.1 (by omega)]; rfl]) ?_
          exact J62
        · skip
          refine j_ldc2 (z := 1000000000) d_Big_time_47 (inT4 143 rfl) (by decide) ?_
          refine q_aload_n d_Big_time_50 rfl ?_
          refine q_getR d_Big_time_51 fl_Big_11 hA.1 ⟨rfl, by decide⟩ hA.2.1 ?_
          refine j_iconst d_Big_time_54 ?_
          refine j_iald (j := 1) (v := (cI (dg v.natAbs 1 : Int))) d_Big_time_55 hA.2.2.1 hA.2.2.2 (by omega) (by omega) (by omega) (hW.2.2.2.1 1 (by omega)) ?_
          refine j_i2l d_Big_time_56 (by omega) ?_
          refine j_lmul d_Big_time_57 ?_
          refine q_goto (tgt := 62) d_Big_time_58 (by decide) ?_
          exact J62
      refine q_aload_n d_Big_time_19 rfl ?_
      refine j_getI (v := (cI (n : Int))) d_Big_time_20 fl_Big_15 hA.1 ⟨rfl, by decide⟩ hW.2.2.1 ?_
      refine j_if_le (tgt := 36) d_Big_time_23 (by decide) (by omega) (fun h3 => ?_) (fun h3 => ?_)
      · skip
        refine j_lconst (z := 0) d_Big_time_36 (by decide) ?_
        refine Run.top (v := .long (cL (dg v.natAbs 0 : Int))) (by rw [show (0 : Int) = (dg v.natAbs 0 : Int) by rw [dg_big hW.1 (by omega)]; rfl]) ?_
        exact J37
      · skip
        refine q_aload_n d_Big_time_26 rfl ?_
        refine q_getR d_Big_time_27 fl_Big_11 hA.1 ⟨rfl, by decide⟩ hA.2.1 ?_
        refine j_iconst d_Big_time_30 ?_
        refine j_iald (j := 0) (v := (cI (dg v.natAbs 0 : Int))) d_Big_time_31 hA.2.2.1 hA.2.2.2 (by omega) (by omega) (by omega) (hW.2.2.2.1 0 (by omega)) ?_
        refine j_i2l d_Big_time_32 (by omega) ?_
        refine q_goto (tgt := 37) d_Big_time_33 (by decide) ?_
        exact J37
    · skip
      refine j_ldc2 (z := (-1)) d_Big_time_15 (inT5 95 rfl) (by decide) ?_
      refine q_lreturn d_Big_time_18 rfl ?_
      subst hQ
      refine ⟨_, rfl, ?_, rfl, rfl, rfl, rfl⟩
      have hb := hN (by omega)
      have hb2 : B9 ^ 2 ≤ B9 ^ (n - 1) := Nat.pow_le_pow_right (by decide) (by omega)
      have hb3 : B9 ^ 2 = 1000000000000000000 := by decide
      rw [if_neg (by omega)]
theorem c_Big_set2 (d : Nat) {a x : Nat} {I : M32} {L : M64} {R : MR} {T : SH} (hd : 1 ≤ d) (hA : BigS R T a) (hx : x < 9223372036854775808) : Call m_Big_set2 y_Big_set2 d 0 0 [.ref a, .long (cL x)] I L R T (rV fun I' L' R' T' => (BigV I' a x ∧ FrB a I I') ∧ L' = L ∧ R' = R ∧ T' = T) := by
  refine Call.ofRun (by decide) ⟨rfl, rfl⟩ (Nat.le_of_ble_eq_true rfl) ?_
  show Run m_Big_set2 d 0 0 0 [(0, .ref a), (1, .long (cL x))] [] I L R T _
  generalize hQ : (rV fun I' L' R' T' => (BigV I' a x ∧ FrB a I I') ∧ L' = L ∧ R' = R ∧ T' = T) = Q
  have hx4 : x < B9 ^ 4 := by have : B9 ^ 4 = 1000000000000000000000000000000000000 := by decide
                              omega
  have loop : ∀ (f k y : Nat) (z : Int) (J : M32), 4 - k < f → z = y → y = x / B9 ^ k → k ≤ 4 → (0 < k → B9 ^ (k - 1) ≤ x) → FrB a I J → J a 1 = cI k → J a 2 = cI 0 → (∀ j, j < k → J (a + 1) j = cI (dg x j)) → Run m_Big_set2 d 0 0 6 [(3, .long (cL z)), (0, .ref a), (1, .long (cL x))] [] J L R T Q := by
    intro f
    induction f with
    | zero => intro k y z J h; omega
    | succ f ih =>
      intro k y z J hf hz hy hk hp hF h1 h2 h3
      have hyx : y ≤ x := by rw [hy]; exact Nat.div_le_self _ _
      refine q_lload_n d_Big_set2_6 rfl ?_
      refine j_lconst (z := 0) d_Big_set2_7 (by decide) ?_
      refine j_lcmp_le (tgt := 43) d_Big_set2_8 d_Big_set2_9 (by decide) (by omega) (by omega) (fun h => ?_) (fun h => ?_)
      · skip
        refine q_return d_Big_set2_43 rfl ?_
        subst hQ
        have hk2 : x < B9 ^ k := by
          rcases Nat.lt_or_ge x (B9 ^ k) with q | q
          · exact q
          · have := Nat.div_pos q (pow9_pos k); omega
        exact ⟨rfl, ⟨⟨k, ⟨hk2, by omega, h1, h3, by rw [h2, if_neg (by simp)]⟩, hp⟩, hF⟩, rfl, rfl, rfl⟩
      · skip
        have hk4 : k < 4 := by
          rcases Nat.lt_or_ge k 4 with q | q
          · exact q
          · have e : k = 4 := by omega
            subst e
            rw [Nat.div_eq_of_lt hx4] at hy
            omega
        have hpk : B9 ^ k ≤ x := by
          rcases Nat.lt_or_ge x (B9 ^ k) with q | q
          · rw [Nat.div_eq_of_lt q] at hy; omega
          · exact q
        refine q_aload_n d_Big_set2_12 rfl ?_
        refine q_getR d_Big_set2_13 fl_Big_11 hA.1 ⟨rfl, by decide⟩ hA.2.1 ?_
        refine q_aload_n d_Big_set2_16 rfl ?_
        refine q_dup d_Big_set2_17 rfl ?_
        refine j_getI (v := (cI (k : Int))) d_Big_set2_18 fl_Big_15 hA.1 ⟨rfl, by decide⟩ h1 ?_
        refine q_dup_x1 d_Big_set2_21 rfl rfl ?_
        refine j_iconst d_Big_set2_22 ?_
        refine j_iadd d_Big_set2_23 ?_
        refine q_putI d_Big_set2_24 fl_Big_15 hA.1 ⟨rfl, by decide, rfl, rfl⟩ ?_
        refine q_lload_n d_Big_set2_27 rfl ?_
        refine j_ldc2 (z := 1000000000) d_Big_set2_28 (inT4 143 rfl) (by decide) ?_
        refine j_lrem d_Big_set2_31 (by omega) (by omega) ?_
        refine j_l2i d_Big_set2_32 ?_
        refine Run.top (v := .int (cI (dg x k : Int))) (by rw [show z % 1000000000 = (dg x k : Int) by unfold dg; rw [hz, hy]; rfl]) ?_
        refine j_iast (j := k) d_Big_set2_33 hA.2.2.1 hA.2.2.2 (by omega) (by omega) (by omega) ?_
        refine q_lload_n d_Big_set2_34 rfl ?_
        refine j_ldc2 (z := 1000000000) d_Big_set2_35 (inT4 143 rfl) (by decide) ?_
        refine j_ldiv d_Big_set2_38 (by omega) (by omega) ?_
        refine q_lstore_n (lv' := [(3, .long (cL (z / 1000000000))), (0, .ref a), (1, .long (cL (x : Int)))]) d_Big_set2_39 (by decide) rfl ?_
        refine q_goto (tgt := 6) d_Big_set2_40 (by decide) ?_
        refine ih (k + 1) (y / 1000000000) _ _ (by omega) (by rw [hz]; rfl) ?_ (by omega) (fun _ => hpk) (hF.tr (FrB.tr FrB.up FrB.upP)) ?_ ?_ ?_
        · rw [hy, Nat.pow_succ, ← Nat.div_div_eq_div_mul]
        · rw [up2_a _ _ _ (by omega), up2_s]; rfl
        · rw [up2_a _ _ _ (by omega), up2_k _ _ _ (by decide)]; exact h2
        · intro j hj
          by_cases e : j = k
          · subst e; rw [up2_s]
          · rw [up2_k _ _ _ e, up2_a _ _ _ (by omega)]; exact h3 j (by omega)
  refine q_aload_n d_Big_set2_0 rfl ?_
  refine q_callV (ci := 0) (rc := 0) (rs := 0) (rest := []) d_Big_set2_1 ml_Big_23 ok_Big_clear rfl hA.1 (by decide) (c_Big_clear (d - 1) hA) rfl rfl (by omega) (Nat.le_of_ble_eq_true rfl) (kv_V (fun J1 hJ1 => ?_)) kt_V
  subst hJ1
  refine q_lload_n d_Big_set2_4 rfl ?_
  refine q_lstore_n (lv' := [(3, .long (cL (x : Int))), (0, .ref a), (1, .long (cL (x : Int)))]) d_Big_set2_5 (by decide) rfl ?_
  refine loop 5 0 x _ _ (by omega) rfl (by simp) (by omega) (fun h => by omega) (FrB.tr FrB.up FrB.up) ?_ ?_ (fun j hj => by omega)
  · rw [up2_k _ _ _ (by decide), up2_s]; rfl
  · rw [up2_s]
/-- one step of times ten -/
theorem push_step {x s k c d : Nat} (h : s + c * B9 ^ k = 10 * lo x k + d) (hs : s < B9 ^ k) (hc : c ≤ 9) :
    ∃ c' r, dg x k * 10 + c = r + c' * 1000000000 ∧ r < 1000000000 ∧ c' ≤ 9 ∧ r = (dg x k * 10 + c) % 1000000000 ∧ c' = (dg x k * 10 + c) / 1000000000 ∧ (s + r * B9 ^ k) + c' * B9 ^ (k + 1) = 10 * lo x (k + 1) + d := by
  have h1 := dg_lt x k
  refine ⟨_, _, ?_, ?_, ?_, rfl, rfl, ?_⟩
  · omega
  · omega
  · omega
  · generalize hr : (dg x k * 10 + c) % 1000000000 = r
    generalize hq : (dg x k * 10 + c) / 1000000000 = q
    have h3 : dg x k * 10 + c = r + q * 1000000000 := by omega
    rw [lo_s, Nat.pow_succ]
    have e1 : q * (B9 ^ k * B9) = (q * 1000000000) * B9 ^ k := by show q * (B9 ^ k * 1000000000) = _; ac_rfl
    have e2 : (dg x k * 10 + c) * B9 ^ k = (r + q * 1000000000) * B9 ^ k := by rw [h3]
    simp only [Nat.add_mul] at e2
    have e3 : dg x k * 10 * B9 ^ k = 10 * (dg x k * B9 ^ k) := by ac_rfl
    rw [e1, Nat.mul_add]
    omega
theorem c_Big_push (d : Nat) {a x dd : Nat} {I : M32} {L : M64} {R : MR} {T : SH} (hA : BigS R T a) (hV : BigV I a (x : Int)) (hdd : dd ≤ 9) (hx : 10 * x + dd < B9 ^ 36) : Call m_Big_push y_Big_push d 0 0 [.ref a, .int (cI dd)] I L R T (rV fun I' L' R' T' => (BigV I' a ((10 * x + dd : Nat) : Int) ∧ FrB a I I') ∧ L' = L ∧ R' = R ∧ T' = T) := by
  refine Call.ofRun (by decide) ⟨rfl, rfl⟩ (Nat.le_of_ble_eq_true rfl) ?_
  show Run m_Big_push d 0 0 0 [(0, .ref a), (1, .int (cI dd))] [] I L R T _
  generalize hQ : (rV fun I' L' R' T' => (BigV I' a ((10 * x + dd : Nat) : Int) ∧ FrB a I I') ∧ L' = L ∧ R' = R ∧ T' = T) = Q
  obtain ⟨n, hW, hN⟩ := hV
  rw [Int.natAbs_natCast] at hW hN
  have hn := hW.2.1
  have hsg : I a 2 = cI 0 := by rw [hW.2.2.2.2, if_neg (by simp)]
  have loop : ∀ (f k c s : Nat) (z e : Int) (J : M32), n - k < f → z = k → e = c → k ≤ n → c ≤ 9 → s < B9 ^ k → s + c * B9 ^ k = 10 * lo x k + dd → Wr a k I J → (∀ j, j < k → J (a + 1) j = cI (dg s j)) →
      Run m_Big_push d 0 0 6 [(4, .int (cI z)), (2, .long (cL e)), (0, .ref a)] [] J L R T Q := by
    intro f
    induction f with
    | zero => intro k c s z e J h; omega
    | succ f ih =>
      intro k c s z e J hf hz he hk hc hs h1 hJ h2
      have ea : J a 1 = cI n := by rw [hJ.1 a (hA.ne hA)]; exact hW.2.2.1
      have eg : J a 2 = cI 0 := by rw [hJ.1 a (hA.ne hA)]; exact hsg
      have d1 := dg_lt x k
      refine q_iload d_Big_push_6 rfl ?_
      refine q_aload_n d_Big_push_8 rfl ?_
      refine j_getI (v := (cI (n : Int))) d_Big_push_9 fl_Big_15 hA.1 ⟨rfl, by decide⟩ ea ?_
      refine j_icmp_ge (tgt := 58) d_Big_push_12 (by decide) (by omega) (by omega) (fun h => ?_) (fun h => ?_)
      · skip
        have hkn : k = n := by omega
        subst hkn
        rw [lo_all hW.1] at h1
        refine q_lload_n d_Big_push_58 rfl ?_
        refine j_lconst (z := 0) d_Big_push_59 (by decide) ?_
        refine j_lcmp_le (tgt := 82) d_Big_push_60 d_Big_push_61 (by decide) (by omega) (by omega) (fun h3 => ?_) (fun h3 => ?_)
        · skip
          refine q_return d_Big_push_82 rfl ?_
          have hc0 : c = 0 := by omega
          subst hc0
          subst hQ
          rw [Nat.zero_mul, Nat.add_zero] at h1
          subst h1
          refine ⟨rfl, ⟨⟨k, ⟨by rw [Int.natAbs_natCast]; exact hs, by omega, ea, by rw [Int.natAbs_natCast]; exact h2, by rw [eg, if_neg (by simp; omega)]⟩, ?_⟩, hJ.FrB⟩, rfl, rfl, rfl⟩
          rw [Int.natAbs_natCast]
          intro hk0
          have := hN hk0
          omega
        · skip
          have hk36 : k < 36 := by
            rcases Nat.lt_or_ge k 36 with q | q
            · exact q
            · have e36 : k = 36 := by omega
              subst e36
              have : 1 * B9 ^ 36 ≤ c * B9 ^ 36 := Nat.mul_le_mul_right _ (by omega)
              omega
          refine q_aload_n d_Big_push_64 rfl ?_
          refine q_getR d_Big_push_65 fl_Big_11 hA.1 ⟨rfl, by decide⟩ hA.2.1 ?_
          refine q_aload_n d_Big_push_68 rfl ?_
          refine q_dup d_Big_push_69 rfl ?_
          refine j_getI (v := (cI (k : Int))) d_Big_push_70 fl_Big_15 hA.1 ⟨rfl, by decide⟩ ea ?_
          refine q_dup_x1 d_Big_push_73 rfl rfl ?_
          refine j_iconst d_Big_push_74 ?_
          refine j_iadd d_Big_push_75 ?_
          refine q_putI d_Big_push_76 fl_Big_15 hA.1 ⟨rfl, by decide, rfl, rfl⟩ ?_
          refine q_lload_n d_Big_push_79 rfl ?_
          refine j_l2i d_Big_push_80 ?_
          refine j_iast (j := k) d_Big_push_81 hA.2.2.1 hA.2.2.2 (by omega) (by omega) (by omega) ?_
          refine q_return d_Big_push_82 rfl ?_
          subst hQ
          have hlt := add_lt9 (r := c) hs (show c < 1000000000 by omega)
          have hge : B9 ^ k ≤ s + c * B9 ^ k := by
            have : 1 * B9 ^ k ≤ c * B9 ^ k := Nat.mul_le_mul_right _ (by omega)
            omega
          refine ⟨rfl, ⟨⟨k + 1, ⟨by rw [Int.natAbs_natCast, ← h1]; exact hlt, by omega, ?_, ?_, ?_⟩, ?_⟩, FrB.tr hJ.FrB (FrB.tr FrB.up FrB.upP)⟩, rfl, rfl, rfl⟩
          · rw [up2_a _ _ _ (by omega), up2_s]; rfl
          · rw [Int.natAbs_natCast, ← h1]
            intro j hj
            by_cases ej : j = k
            · subst ej; rw [up2_s, dg_add_hi hs (show c < 1000000000 by omega), he]
            · rw [up2_k _ _ _ ej, up2_a _ _ _ (by omega), dg_add_lo hs (by omega)]; exact h2 j (by omega)
          · rw [up2_a _ _ _ (by omega), up2_k _ _ _ (by decide), eg, if_neg (by simp; omega)]
          · rw [Int.natAbs_natCast, ← h1]
            intro _
            exact hge
      · skip
        obtain ⟨c', r, g1, g2, g3, g5, g6, g4⟩ := push_step h1 hs hc
        refine q_aload_n d_Big_push_15 rfl ?_
        refine q_getR d_Big_push_16 fl_Big_11 hA.1 ⟨rfl, by decide⟩ hA.2.1 ?_
        refine q_iload d_Big_push_19 rfl ?_
        refine j_iald (j := k) (v := (cI (dg x k : Int))) d_Big_push_21 hA.2.2.1 hA.2.2.2 (by omega) (by omega) (by omega) (by rw [hJ.at]; exact hW.2.2.2.1 k (by omega)) ?_
        refine j_i2l d_Big_push_22 (by omega) ?_
        refine j_ldc2 (z := 10) d_Big_push_23 (inT4 142 rfl) (by decide) ?_
        refine j_lmul d_Big_push_26 ?_
        refine q_lload_n d_Big_push_27 rfl ?_
        refine j_ladd d_Big_push_28 ?_
        refine q_lstore (lv' := [(5, .long (cL (((dg x k : Int) * 10) + e))), (4, .int (cI z)), (2, .long (cL e)), (0, .ref a)]) d_Big_push_29 (by decide) rfl ?_
        refine q_aload_n d_Big_push_31 rfl ?_
        refine q_getR d_Big_push_32 fl_Big_11 hA.1 ⟨rfl, by decide⟩ hA.2.1 ?_
        refine q_iload d_Big_push_35 rfl ?_
        refine q_lload d_Big_push_37 rfl ?_
        refine j_ldc2 (z := 1000000000) d_Big_push_39 (inT4 143 rfl) (by decide) ?_
        refine j_lrem d_Big_push_42 (by omega) (by omega) ?_
        refine j_l2i d_Big_push_43 ?_
        refine Run.top (v := .int (cI (r : Int))) (by rw [show ((dg x k : Int) * 10 + e) % 1000000000 = (r : Int) by omega]) ?_
        refine j_iast (j := k) d_Big_push_44 hA.2.2.1 hA.2.2.2 (by omega) (by omega) (by omega) ?_
        refine q_lload d_Big_push_45 rfl ?_
        refine j_ldc2 (z := 1000000000) d_Big_push_47 (inT4 143 rfl) (by decide) ?_
        refine j_ldiv d_Big_push_50 (by omega) (by omega) ?_
        refine Run.top (v := .long (cL (c' : Int))) (by rw [show ((dg x k : Int) * 10 + e) / 1000000000 = (c' : Int) by omega]) ?_
        refine q_lstore_n (lv' := [(2, .long (cL (c' : Int))), (5, .long (cL (((dg x k : Int) * 10) + e))), (4, .int (cI z)), (0, .ref a)]) d_Big_push_51 (by decide) rfl ?_
        refine j_iinc (lv' := [(4, .int (cI (z + 1))), (2, .long (cL (c' : Int))), (5, .long (cL (((dg x k : Int) * 10) + e))), (0, .ref a)]) d_Big_push_52 rfl (by decide) rfl ?_
        refine q_goto (tgt := 6) d_Big_push_55 (by decide) ?_
        refine Run.lv (by simp) (ih (k + 1) c' (s + r * B9 ^ k) (z + 1) c' _ (by omega) (by omega) rfl (by omega) g3 (add_lt9 hs g2) g4 (hJ.up _) (fun j hj => ?_))
        by_cases ej : j = k
        · subst ej; rw [up2_s, dg_add_hi hs g2]
        · rw [up2_k _ _ _ ej, dg_add_lo hs (by omega)]; exact h2 j (by omega)
  refine q_iload_n d_Big_push_0 rfl ?_
  refine j_i2l d_Big_push_1 (by omega) ?_
  refine q_lstore_n (lv' := [(2, .long (cL (dd : Int))), (0, .ref a), (1, .int (cI (dd : Int)))]) d_Big_push_2 (by decide) rfl ?_
  refine j_iconst d_Big_push_3 ?_
  refine q_istore (lv' := [(4, .int (cI 0)), (2, .long (cL (dd : Int))), (0, .ref a), (1, .int (cI (dd : Int)))]) d_Big_push_4 (by decide) rfl ?_
  exact Run.lv (by simp) (loop (n + 1) 0 dd 0 0 dd I (by omega) rfl rfl (by omega) hdd (by simp) (by simp [lo_0]) ⟨fun _ _ => rfl, fun _ _ => rfl⟩ (fun j hj => by omega))

