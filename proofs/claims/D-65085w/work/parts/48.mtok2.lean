/-! ===== 48 THE REFERENCE'S TOKENS: use, fail ===== -/
theorem d_Model_use_0 : decode m_Model_use.2.1 0 = .ok (.aload_n 0, 1) := by decide +kernel
theorem d_Model_use_1 : decode m_Model_use.2.1 1 = .ok (.aload_n 0, 1) := by decide +kernel
theorem d_Model_use_2 : decode m_Model_use.2.1 2 = .ok (.getfield 547, 3) := by decide +kernel
theorem d_Model_use_5 : decode m_Model_use.2.1 5 = .ok (.putfield 561, 3) := by decide +kernel
theorem d_Model_use_8 : decode m_Model_use.2.1 8 = .ok (.return_, 1) := by decide +kernel
theorem d_Model_fail_0 : decode m_Model_fail.2.1 0 = .ok (.aload_n 0, 1) := by decide +kernel
theorem d_Model_fail_1 : decode m_Model_fail.2.1 1 = .ok (.getfield 382, 3) := by decide +kernel
theorem d_Model_fail_4 : decode m_Model_fail.2.1 4 = .ok (.ifCond .ne 16, 3) := by decide +kernel
theorem d_Model_fail_7 : decode m_Model_fail.2.1 7 = .ok (.aload_n 0, 1) := by decide +kernel
theorem d_Model_fail_8 : decode m_Model_fail.2.1 8 = .ok (.iload_n 1, 1) := by decide +kernel
theorem d_Model_fail_9 : decode m_Model_fail.2.1 9 = .ok (.putfield 382, 3) := by decide +kernel
theorem d_Model_fail_12 : decode m_Model_fail.2.1 12 = .ok (.aload_n 0, 1) := by decide +kernel
theorem d_Model_fail_13 : decode m_Model_fail.2.1 13 = .ok (.aload_n 0, 1) := by decide +kernel
theorem d_Model_fail_14 : decode m_Model_fail.2.1 14 = .ok (.getfield 544, 3) := by decide +kernel
theorem d_Model_fail_17 : decode m_Model_fail.2.1 17 = .ok (.putfield 385, 3) := by decide +kernel
theorem d_Model_fail_20 : decode m_Model_fail.2.1 20 = .ok (.return_, 1) := by decide +kernel
theorem d_Model_failToken_0 : decode m_Model_failToken.2.1 0 = .ok (.aload_n 0, 1) := by decide +kernel
theorem d_Model_failToken_1 : decode m_Model_failToken.2.1 1 = .ok (.aload_n 0, 1) := by decide +kernel
theorem d_Model_failToken_2 : decode m_Model_failToken.2.1 2 = .ok (.getfield 550, 3) := by decide +kernel
theorem d_Model_failToken_5 : decode m_Model_failToken.2.1 5 = .ok (.bipush 9, 2) := by decide +kernel
theorem d_Model_failToken_7 : decode m_Model_failToken.2.1 7 = .ok (.if_icmp .ne 7, 3) := by decide +kernel
theorem d_Model_failToken_10 : decode m_Model_failToken.2.1 10 = .ok (.iconst 1, 1) := by decide +kernel
theorem d_Model_failToken_11 : decode m_Model_failToken.2.1 11 = .ok (.goto 28, 3) := by decide +kernel
theorem d_Model_failToken_14 : decode m_Model_failToken.2.1 14 = .ok (.aload_n 0, 1) := by decide +kernel
theorem d_Model_failToken_15 : decode m_Model_failToken.2.1 15 = .ok (.getfield 550, 3) := by decide +kernel
theorem d_Model_failToken_18 : decode m_Model_failToken.2.1 18 = .ok (.bipush 10, 2) := by decide +kernel
theorem d_Model_failToken_20 : decode m_Model_failToken.2.1 20 = .ok (.if_icmp .ne 7, 3) := by decide +kernel
theorem d_Model_failToken_23 : decode m_Model_failToken.2.1 23 = .ok (.iconst 2, 1) := by decide +kernel
theorem d_Model_failToken_24 : decode m_Model_failToken.2.1 24 = .ok (.goto 15, 3) := by decide +kernel
theorem d_Model_failToken_27 : decode m_Model_failToken.2.1 27 = .ok (.aload_n 0, 1) := by decide +kernel
theorem d_Model_failToken_28 : decode m_Model_failToken.2.1 28 = .ok (.getfield 550, 3) := by decide +kernel
theorem d_Model_failToken_31 : decode m_Model_failToken.2.1 31 = .ok (.ifCond .ne 7, 3) := by decide +kernel
theorem d_Model_failToken_34 : decode m_Model_failToken.2.1 34 = .ok (.iconst 3, 1) := by decide +kernel
theorem d_Model_failToken_35 : decode m_Model_failToken.2.1 35 = .ok (.goto 4, 3) := by decide +kernel
theorem d_Model_failToken_38 : decode m_Model_failToken.2.1 38 = .ok (.iconst 4, 1) := by decide +kernel
theorem d_Model_failToken_39 : decode m_Model_failToken.2.1 39 = .ok (.invokevirtual 573, 3) := by decide +kernel
theorem d_Model_failToken_42 : decode m_Model_failToken.2.1 42 = .ok (.return_, 1) := by decide +kernel
theorem c_Model_use (d : Nat) {M : Nat} {I : M32} {L : M64} {R : MR} {T : SH} (hM : MdlS M R T) : Call m_Model_use y_Model_use d 0 0 [.ref M] I L R T (rV fun I' L' R' T' => I' = up2 I M 12 (I M 15) ∧ L' = L ∧ R' = R ∧ T' = T) := by
  refine Call.ofRun (by decide) ⟨rfl, rfl⟩ (Nat.le_of_ble_eq_true rfl) ?_
  refine Run.gen fun Q hQ => ?_
  refine q_aload_n d_Model_use_0 rfl ?_
  refine q_aload_n d_Model_use_1 rfl ?_
  refine j_getI (v := (I M 15)) d_Model_use_2 fl_Model_547 hM.1 ⟨rfl, by decide⟩ rfl ?_
  refine q_putI d_Model_use_5 fl_Model_561 hM.1 ⟨rfl, by decide, rfl, rfl⟩ ?_
  refine q_return d_Model_use_8 rfl ?_
  refine hQ _ _ _ _ _ ?_
  exact ⟨rfl, rfl, rfl, rfl, rfl⟩
theorem c_Model_fail (d : Nat) {M : Nat} {w F : Int} {I : M32} {L : M64} {R : MR} {T : SH} (hM : MdlS M R T) (hF : I M 17 = cI F) (hFi : inI F) : Call m_Model_fail y_Model_fail d 0 0 [.ref M, .int (cI w)] I L R T (rV fun I' L' R' T' => I' = (if F = 0 then up2 (up2 I M 17 (cI w)) M 18 (I M 14) else I) ∧ L' = L ∧ R' = R ∧ T' = T) := by
  refine Call.ofRun (by decide) ⟨rfl, rfl⟩ (Nat.le_of_ble_eq_true rfl) ?_
  refine Run.gen fun Q hQ => ?_
  refine q_aload_n d_Model_fail_0 rfl ?_
  refine j_getI (v := (cI F)) d_Model_fail_1 fl_Model_382 hM.1 ⟨rfl, by decide⟩ hF ?_
  refine j_if_ne (tgt := 20) d_Model_fail_4 (by decide) (by omega) (fun h => ?_) (fun h => ?_)
  · skip
    refine q_return d_Model_fail_20 rfl ?_
    refine hQ _ _ _ _ _ ?_
    exact ⟨rfl, by rw [if_neg h], rfl, rfl, rfl⟩
  · skip
    refine q_aload_n d_Model_fail_7 rfl ?_
    refine q_iload_n d_Model_fail_8 rfl ?_
    refine q_putI d_Model_fail_9 fl_Model_382 hM.1 ⟨rfl, by decide, rfl, rfl⟩ ?_
    refine q_aload_n d_Model_fail_12 rfl ?_
    refine q_aload_n d_Model_fail_13 rfl ?_
    refine j_getI (v := (I M 14)) d_Model_fail_14 fl_Model_544 hM.1 ⟨rfl, by decide⟩ (up2_k _ _ _ (by omega)) ?_
    refine q_putI d_Model_fail_17 fl_Model_385 hM.1 ⟨rfl, by decide, rfl, rfl⟩ ?_
    refine q_return d_Model_fail_20 rfl ?_
    refine hQ _ _ _ _ _ ?_
    exact ⟨rfl, by rw [if_pos h], rfl, rfl, rfl⟩
theorem c_Model_failToken (d : Nat) {M : Nat} {k F : Int} {I : M32} {L : M64} {R : MR} {T : SH} (hd : 1 ≤ d) (hM : MdlS M R T) (hF : I M 17 = cI F) (hFi : inI F) (hk : I M 13 = cI k) (hki : inI k) : Call m_Model_failToken y_Model_failToken d 0 0 [.ref M] I L R T (rV fun I' L' R' T' => I' = (if F = 0 then up2 (up2 I M 17 (cI (if k = 9 then 1 else if k = 10 then 2 else if k = 0 then 3 else 4))) M 18 (I M 14) else I) ∧ L' = L ∧ R' = R ∧ T' = T) := by
  refine Call.ofRun (by decide) ⟨rfl, rfl⟩ (Nat.le_of_ble_eq_true rfl) ?_
  refine Run.gen fun Q hQ => ?_
  refine q_aload_n d_Model_failToken_0 rfl ?_
  suffices J : ∀ (w : Int), (((¬ k = 9) ∧ (¬ k = 10) ∧ (¬ k = 0) ∧ w = 4) ∨ ((¬ k = 9) ∧ (¬ k = 10) ∧ (k = 0) ∧ w = 3) ∨ ((¬ k = 9) ∧ (k = 10) ∧ w = 2) ∨ ((k = 9) ∧ w = 1)) → Run m_Model_failToken d 0 0 39 [(0, .ref M)] [.int (cI w), .ref M] I L R T Q by
    refine q_aload_n d_Model_failToken_1 rfl ?_
    refine j_getI (v := (cI k)) d_Model_failToken_2 fl_Model_550 hM.1 ⟨rfl, by decide⟩ hk ?_
    refine j_bipush d_Model_failToken_5 (by decide) ?_
    refine j_icmp_ne (tgt := 14) d_Model_failToken_7 (by decide) (by omega) (by omega) (fun hp1 => ?_) (fun hp1 => ?_)
    · refine q_aload_n d_Model_failToken_14 rfl ?_
      refine j_getI (v := (cI k)) d_Model_failToken_15 fl_Model_550 hM.1 ⟨rfl, by decide⟩ hk ?_
      refine j_bipush d_Model_failToken_18 (by decide) ?_
      refine j_icmp_ne (tgt := 27) d_Model_failToken_20 (by decide) (by omega) (by omega) (fun hp2 => ?_) (fun hp2 => ?_)
      · refine q_aload_n d_Model_failToken_27 rfl ?_
        refine j_getI (v := (cI k)) d_Model_failToken_28 fl_Model_550 hM.1 ⟨rfl, by decide⟩ hk ?_
        refine j_if_ne (tgt := 38) d_Model_failToken_31 (by decide) (by omega) (fun hp3 => ?_) (fun hp3 => ?_)
        · refine j_iconst d_Model_failToken_38 ?_
          exact J _ (Or.inl ⟨hp1, hp2, hp3, rfl⟩)
        · refine j_iconst d_Model_failToken_34 ?_
          refine q_goto (tgt := 39) d_Model_failToken_35 (by decide) ?_
          exact J _ (Or.inr (Or.inl ⟨hp1, hp2, hp3, rfl⟩))
      · refine j_iconst d_Model_failToken_23 ?_
        refine q_goto (tgt := 39) d_Model_failToken_24 (by decide) ?_
        exact J _ (Or.inr (Or.inr (Or.inl ⟨hp1, hp2, rfl⟩)))
    · refine j_iconst d_Model_failToken_10 ?_
      refine q_goto (tgt := 39) d_Model_failToken_11 (by decide) ?_
      exact J _ (Or.inr (Or.inr (Or.inr ⟨hp1, rfl⟩)))
  intro w hw
  have e : w = if k = 9 then 1 else if k = 10 then 2 else if k = 0 then 3 else 4 := by
    (repeat' split) <;> omega
  refine q_callV (ci := 17) (rc := 0) (rs := 0) (rest := []) d_Model_failToken_39 ml_Model_573 ok_Model_fail rfl hM.1 (by decide) (c_Model_fail (d - 1) hM hF hFi) rfl rfl (by omega) (Nat.le_of_ble_eq_true rfl) (kr_V (fun I1 L1 R1 T1 h => ?_)) kt_V
  obtain ⟨h1, h2, h3, h4⟩ := h
  refine q_return d_Model_failToken_42 rfl ?_
  refine hQ _ _ _ _ _ ?_
  exact ⟨rfl, by rw [h1, e], h2, h3, h4⟩

