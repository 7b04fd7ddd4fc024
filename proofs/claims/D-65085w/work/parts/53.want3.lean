/-! ===== 53 TOKENS: begin ===== -/
theorem d_Tokens_begin_0 : decode m_Tokens_begin.2.1 0 = .ok (.aload_n 0, 1) := by decide +kernel
theorem d_Tokens_begin_1 : decode m_Tokens_begin.2.1 1 = .ok (.iload_n 1, 1) := by decide +kernel
theorem d_Tokens_begin_2 : decode m_Tokens_begin.2.1 2 = .ok (.putfield 33, 3) := by decide +kernel
theorem d_Tokens_begin_5 : decode m_Tokens_begin.2.1 5 = .ok (.aload_n 0, 1) := by decide +kernel
theorem d_Tokens_begin_6 : decode m_Tokens_begin.2.1 6 = .ok (.iconst 0, 1) := by decide +kernel
theorem d_Tokens_begin_7 : decode m_Tokens_begin.2.1 7 = .ok (.putfield 37, 3) := by decide +kernel
theorem d_Tokens_begin_10 : decode m_Tokens_begin.2.1 10 = .ok (.aload_n 0, 1) := by decide +kernel
theorem d_Tokens_begin_11 : decode m_Tokens_begin.2.1 11 = .ok (.invokevirtual 40, 3) := by decide +kernel
theorem d_Tokens_begin_14 : decode m_Tokens_begin.2.1 14 = .ok (.return_, 1) := by decide +kernel
theorem c_Tokens_begin (d : Nat) {o P w N : Nat} {t : Nat → Nat} {I : M32} {L : M64} {R : MR} {T : SH} (hd : 4 ≤ d) (hS : TkS R T o P) (hP : T.1 P = 16 + 1) (hPw : R P 0 = some w) (hK : KwS R T w) (hKV : KwV L w) (hV : TxV I o N t) :
    Call m_Tokens_begin y_Tokens_begin d 0 0 [.ref o, .int (cI N)] I L R T (nxQ o t N 0 (up2 (up2 I o 1 (cI N)) o 2 (cI 0)) L R T) := by
  refine Call.ofRun (by decide) ⟨rfl, rfl⟩ (Nat.le_of_ble_eq_true rfl) ?_
  refine Run.gen fun Q hQ => ?_
  refine q_aload_n d_Tokens_begin_0 rfl ?_
  refine q_iload_n d_Tokens_begin_1 rfl ?_
  refine q_putI d_Tokens_begin_2 fl_Tokens_33 hS.1 ⟨rfl, by decide, rfl, rfl⟩ ?_
  refine q_aload_n d_Tokens_begin_5 rfl ?_
  refine j_iconst d_Tokens_begin_6 ?_
  refine q_putI d_Tokens_begin_7 fl_Tokens_37 hS.1 ⟨rfl, by decide, rfl, rfl⟩ ?_
  refine q_aload_n d_Tokens_begin_10 rfl ?_
  refine q_callV (ci := 5) (rc := 0) (rs := 0) (rest := []) d_Tokens_begin_11 ml_Tokens_40 ok_Tokens_next rfl hS.1 (by decide) (c_Tokens_next (d - 1) (a := 0) (N := N) (t := t) (by omega) hS hP hPw hK hKV ⟨hV.1, fun j hj => by rw [up2_a _ _ _ (by omega), up2_a _ _ _ (by omega)]; exact hV.2 j hj⟩ (by rw [up2_k _ _ _ (by decide), up2_s]) (by rw [up2_s]; rfl) (Nat.zero_le _)) rfl rfl (by omega) (Nat.le_of_ble_eq_true rfl) (fun v I1 L1 R1 T1 h => ?_) (fun y I1 L1 R1 T1 h => ?_)
  · skip
    have hv : v = none := by
      obtain ⟨b', e', kd, x, v', h3, ⟨-, h4, -⟩ | ⟨-, y, h4, -⟩⟩ := h
      · cases h4; rfl
      · cases h4
    subst hv
    refine q_return d_Tokens_begin_14 rfl ?_
    refine hQ _ _ _ _ _ ?_
    exact h
  · have hy : y = o + 4 ∧ T1 = T := by
      obtain ⟨b', e', kd, x, v', h3, ⟨-, h4, -⟩ | ⟨-, y, h4, h5⟩⟩ := h
      · cases h4
      · cases h4; exact ⟨h5.1, h5.2.2.2.2.2.2⟩
    obtain ⟨rfl, rfl⟩ := hy
    exact thr_out hS.tag (by decide) (by unfold Seek; rfl) (hQ _ _ _ _ _ h)

