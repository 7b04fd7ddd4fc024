/-! ===== 52 TOKENS: want ===== -/
theorem d_Tokens_want_0 : decode m_Tokens_want.2.1 0 = .ok (.aload_n 0, 1) := by decide +kernel
theorem d_Tokens_want_1 : decode m_Tokens_want.2.1 1 = .ok (.getfield 60, 3) := by decide +kernel
theorem d_Tokens_want_4 : decode m_Tokens_want.2.1 4 = .ok (.bipush 107, 2) := by decide +kernel
theorem d_Tokens_want_6 : decode m_Tokens_want.2.1 6 = .ok (.if_icmp .ne 8, 3) := by decide +kernel
theorem d_Tokens_want_9 : decode m_Tokens_want.2.1 9 = .ok (.aload_n 0, 1) := by decide +kernel
theorem d_Tokens_want_10 : decode m_Tokens_want.2.1 10 = .ok (.iconst 3, 1) := by decide +kernel
theorem d_Tokens_want_11 : decode m_Tokens_want.2.1 11 = .ok (.invokevirtual 96, 3) := by decide +kernel
theorem d_Tokens_want_14 : decode m_Tokens_want.2.1 14 = .ok (.aload_n 0, 1) := by decide +kernel
theorem d_Tokens_want_15 : decode m_Tokens_want.2.1 15 = .ok (.getfield 60, 3) := by decide +kernel
theorem d_Tokens_want_18 : decode m_Tokens_want.2.1 18 = .ok (.iload_n 1, 1) := by decide +kernel
theorem d_Tokens_want_19 : decode m_Tokens_want.2.1 19 = .ok (.if_icmp .eq 8, 3) := by decide +kernel
theorem d_Tokens_want_22 : decode m_Tokens_want.2.1 22 = .ok (.aload_n 0, 1) := by decide +kernel
theorem d_Tokens_want_23 : decode m_Tokens_want.2.1 23 = .ok (.iconst 4, 1) := by decide +kernel
theorem d_Tokens_want_24 : decode m_Tokens_want.2.1 24 = .ok (.invokevirtual 96, 3) := by decide +kernel
theorem d_Tokens_want_27 : decode m_Tokens_want.2.1 27 = .ok (.aload_n 0, 1) := by decide +kernel
theorem d_Tokens_want_28 : decode m_Tokens_want.2.1 28 = .ok (.invokevirtual 40, 3) := by decide +kernel
theorem d_Tokens_want_31 : decode m_Tokens_want.2.1 31 = .ok (.return_, 1) := by decide +kernel
/-- a token of kind due is wanted, one of kind k is there -/
def wnQ (o : Nat) (t : Nat → Nat) (N b a : Nat) (k due : Int) (I : M32) (L : M64) (R : MR) (T : SH) : QT := fun oc I' L' R' T' =>
  (k = 107 ∧ badQ (o + 4) 3 b I L R T oc I' L' R' T') ∨ (k ≠ 107 ∧ k ≠ due ∧ badQ (o + 4) 4 b I L R T oc I' L' R' T') ∨ (k ≠ 107 ∧ k = due ∧ nxQ o t N a I L R T oc I' L' R' T')
theorem c_Tokens_want (d : Nat) {o P w N a b : Nat} {k due : Int} {t : Nat → Nat} {I : M32} {L : M64} {R : MR} {T : SH} (hd : 4 ≤ d) (hS : TkS R T o P) (hP : T.1 P = 16 + 1) (hPw : R P 0 = some w) (hK : KwS R T w) (hKV : KwV L w) (hV : TxV I o N t) (hN : I o 1 = cI N) (ha : I o 2 = cI a) (haN : a ≤ N) (hk : I o 3 = cI k) (hki : inI k) (hdi : inI due) (hb : I o 4 = cI b) :
    Call m_Tokens_want y_Tokens_want d 0 0 [.ref o, .int (cI due)] I L R T (wnQ o t N b a k due I L R T) := by
  refine Call.ofRun (by decide) ⟨rfl, rfl⟩ (Nat.le_of_ble_eq_true rfl) ?_
  refine Run.gen fun Q hQ => ?_
  refine q_aload_n d_Tokens_want_0 rfl ?_
  refine j_getI (v := (cI k)) d_Tokens_want_1 fl_Tokens_60 hS.1 ⟨rfl, by decide⟩ hk ?_
  refine j_bipush d_Tokens_want_4 (by decide) ?_
  refine j_icmp_ne (tgt := 14) d_Tokens_want_6 (by decide) (by omega) (by omega) (fun h1 => ?_) (fun h1 => ?_)
  rotate_left
  · skip
    refine q_aload_n d_Tokens_want_9 rfl ?_
    refine j_iconst d_Tokens_want_10 ?_
    refine q_callV (ci := 5) (rc := 0) (rs := 0) (rest := []) d_Tokens_want_11 ml_Tokens_96 ok_Tokens_fail rfl hS.1 (by decide) (c_Tokens_fail (d - 1) (by omega) hS hb) rfl rfl (by omega) (Nat.le_of_ble_eq_true rfl) (fun v I' L' R' T' h => by cases h.1) (fun x I' L' R' T' h => ?_)
    obtain ⟨h0, rfl, rfl, rfl, rfl⟩ := h
    cases h0
    exact thr_out hS.tag (by decide) (by unfold Seek; rfl) (hQ _ _ _ _ _ (Or.inl ⟨h1, rfl, rfl, rfl, rfl, rfl⟩))
  refine q_aload_n d_Tokens_want_14 rfl ?_
  refine j_getI (v := (cI k)) d_Tokens_want_15 fl_Tokens_60 hS.1 ⟨rfl, by decide⟩ hk ?_
  refine q_iload_n d_Tokens_want_18 rfl ?_
  refine j_icmp_eq (tgt := 27) d_Tokens_want_19 (by decide) (by omega) (by omega) (fun h2 => ?_) (fun h2 => ?_)
  rotate_left
  · skip
    refine q_aload_n d_Tokens_want_22 rfl ?_
    refine j_iconst d_Tokens_want_23 ?_
    refine q_callV (ci := 5) (rc := 0) (rs := 0) (rest := []) d_Tokens_want_24 ml_Tokens_96 ok_Tokens_fail rfl hS.1 (by decide) (c_Tokens_fail (d - 1) (by omega) hS hb) rfl rfl (by omega) (Nat.le_of_ble_eq_true rfl) (fun v I' L' R' T' h => by cases h.1) (fun x I' L' R' T' h => ?_)
    obtain ⟨h0, rfl, rfl, rfl, rfl⟩ := h
    cases h0
    exact thr_out hS.tag (by decide) (by unfold Seek; rfl) (hQ _ _ _ _ _ (Or.inr (Or.inl ⟨h1, h2, rfl, rfl, rfl, rfl, rfl⟩)))
  refine q_aload_n d_Tokens_want_27 rfl ?_
  refine q_callV (ci := 5) (rc := 0) (rs := 0) (rest := []) d_Tokens_want_28 ml_Tokens_40 ok_Tokens_next rfl hS.1 (by decide) (c_Tokens_next (d - 1) (by omega) hS hP hPw hK hKV hV hN ha haN) rfl rfl (by omega) (Nat.le_of_ble_eq_true rfl) (fun v I1 L1 R1 T1 h => ?_) (fun y I1 L1 R1 T1 h => ?_)
  · skip
    have hv : v = none := by
      obtain ⟨b', e', kd, x, v', h3, ⟨-, h4, -⟩ | ⟨-, y, h4, -⟩⟩ := h
      · cases h4; rfl
      · cases h4
    subst hv
    refine q_return d_Tokens_want_31 rfl ?_
    refine hQ _ _ _ _ _ ?_
    exact Or.inr (Or.inr ⟨h1, h2, h⟩)
  · have hy : y = o + 4 ∧ T1 = T := by
      obtain ⟨b', e', kd, x, v', h3, ⟨-, h4, -⟩ | ⟨-, y, h4, h5⟩⟩ := h
      · cases h4
      · cases h4; exact ⟨h5.1, h5.2.2.2.2.2.2⟩
    obtain ⟨rfl, rfl⟩ := hy
    exact thr_out hS.tag (by decide) (by unfold Seek; rfl) (hQ _ _ _ _ _ (Or.inr (Or.inr ⟨h1, h2, h⟩)))

