/-! ===== 51 TOKENS: wantEnd, begin ===== -/
theorem d_Tokens_wantEnd_0 : decode m_Tokens_wantEnd.2.1 0 = .ok (.aload_n 0, 1) := by decide +kernel
theorem d_Tokens_wantEnd_1 : decode m_Tokens_wantEnd.2.1 1 = .ok (.getfield 60, 3) := by decide +kernel
theorem d_Tokens_wantEnd_4 : decode m_Tokens_wantEnd.2.1 4 = .ok (.bipush 107, 2) := by decide +kernel
theorem d_Tokens_wantEnd_6 : decode m_Tokens_wantEnd.2.1 6 = .ok (.if_icmp .eq 9, 3) := by decide +kernel
theorem d_Tokens_wantEnd_9 : decode m_Tokens_wantEnd.2.1 9 = .ok (.aload_n 0, 1) := by decide +kernel
theorem d_Tokens_wantEnd_10 : decode m_Tokens_wantEnd.2.1 10 = .ok (.bipush 9, 2) := by decide +kernel
theorem d_Tokens_wantEnd_12 : decode m_Tokens_wantEnd.2.1 12 = .ok (.invokevirtual 96, 3) := by decide +kernel
theorem d_Tokens_wantEnd_15 : decode m_Tokens_wantEnd.2.1 15 = .ok (.return_, 1) := by decide +kernel
theorem c_Tokens_wantEnd (d : Nat) {o P b : Nat} {k : Int} {I : M32} {L : M64} {R : MR} {T : SH} (hd : 2 ≤ d) (hS : TkS R T o P) (hk : I o 3 = cI k) (hki : inI k) (hb : I o 4 = cI b) :
    Call m_Tokens_wantEnd y_Tokens_wantEnd d 0 0 [.ref o] I L R T (fun oc I' L' R' T' => (k = 107 ∧ oc = .returned none ∧ I' = I ∧ L' = L ∧ R' = R ∧ T' = T) ∨ (k ≠ 107 ∧ badQ (o + 4) 9 b I L R T oc I' L' R' T')) := by
  refine Call.ofRun (by decide) ⟨rfl, rfl⟩ (Nat.le_of_ble_eq_true rfl) ?_
  refine Run.gen fun Q hQ => ?_
  refine q_aload_n d_Tokens_wantEnd_0 rfl ?_
  refine j_getI (v := (cI k)) d_Tokens_wantEnd_1 fl_Tokens_60 hS.1 ⟨rfl, by decide⟩ hk ?_
  refine j_bipush d_Tokens_wantEnd_4 (by decide) ?_
  refine j_icmp_eq (tgt := 15) d_Tokens_wantEnd_6 (by decide) (by omega) (by omega) (fun h1 => ?_) (fun h1 => ?_)
  · skip
    refine q_return d_Tokens_wantEnd_15 rfl ?_
    refine hQ _ _ _ _ _ ?_
    exact Or.inl ⟨h1, rfl, rfl, rfl, rfl, rfl⟩
  refine q_aload_n d_Tokens_wantEnd_9 rfl ?_
  refine j_bipush d_Tokens_wantEnd_10 (by decide) ?_
  refine q_callV (ci := 5) (rc := 0) (rs := 0) (rest := []) d_Tokens_wantEnd_12 ml_Tokens_96 ok_Tokens_fail rfl hS.1 (by decide) (c_Tokens_fail (d - 1) (by omega) hS hb) rfl rfl (by omega) (Nat.le_of_ble_eq_true rfl) (fun v I' L' R' T' h => by cases h.1) (fun x I' L' R' T' h => ?_)
  obtain ⟨h0, rfl, rfl, rfl, rfl⟩ := h
  cases h0
  exact thr_out hS.tag (by decide) (by unfold Seek; rfl) (hQ _ _ _ _ _ (Or.inr ⟨h1, rfl, rfl, rfl, rfl, rfl⟩))

