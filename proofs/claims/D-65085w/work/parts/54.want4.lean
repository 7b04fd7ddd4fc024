/-! ===== 54 TOKENS: wantName ===== -/
theorem d_Tokens_wantName_0 : decode m_Tokens_wantName.2.1 0 = .ok (.aload_n 0, 1) := by decide +kernel
theorem d_Tokens_wantName_1 : decode m_Tokens_wantName.2.1 1 = .ok (.getfield 86, 3) := by decide +kernel
theorem d_Tokens_wantName_4 : decode m_Tokens_wantName.2.1 4 = .ok (.lstore_n 1, 1) := by decide +kernel
theorem d_Tokens_wantName_5 : decode m_Tokens_wantName.2.1 5 = .ok (.aload_n 0, 1) := by decide +kernel
theorem d_Tokens_wantName_6 : decode m_Tokens_wantName.2.1 6 = .ok (.bipush 101, 2) := by decide +kernel
theorem d_Tokens_wantName_8 : decode m_Tokens_wantName.2.1 8 = .ok (.invokevirtual 113, 3) := by decide +kernel
theorem d_Tokens_wantName_11 : decode m_Tokens_wantName.2.1 11 = .ok (.lload_n 1, 1) := by decide +kernel
theorem d_Tokens_wantName_12 : decode m_Tokens_wantName.2.1 12 = .ok (.lreturn, 1) := by decide +kernel
theorem wnQ_v {o N b a : Nat} {t : Nat → Nat} {k due : Int} {I I' : M32} {L L' : M64} {R R' : MR} {T T' : SH} {v : Option Value} (h : wnQ o t N b a k due I L R T (.returned v) I' L' R' T') : v = none ∧ R' = R ∧ T' = T ∧ k = due := by
  obtain ⟨-, h4, -⟩ | ⟨-, -, h4, -⟩ | ⟨-, hk, b', e', kd, x, v', h3, ⟨-, h4, -, -, -, -, -, -, -, h5, h6⟩ | ⟨-, y, h4, -⟩⟩ := h
  · cases h4
  · cases h4
  · cases h4; exact ⟨rfl, h5, h6, hk⟩
  · cases h4
theorem wnQ_t {o N b a y : Nat} {t : Nat → Nat} {k due : Int} {I I' : M32} {L L' : M64} {R R' : MR} {T T' : SH} (h : wnQ o t N b a k due I L R T (.threw y) I' L' R' T') : y = o + 4 ∧ R' = R ∧ T' = T := by
  obtain ⟨-, h4, -, -, h5, h6⟩ | ⟨-, -, h4, -, -, h5, h6⟩ | ⟨-, hk, b', e', kd, x, v', h3, ⟨-, h4, -⟩ | ⟨-, y, h4, h5⟩⟩ := h
  · cases h4; exact ⟨rfl, h5, h6⟩
  · cases h4; exact ⟨rfl, h5, h6⟩
  · cases h4
  · cases h4; exact ⟨h5.1, h5.2.2.2.2.2.1, h5.2.2.2.2.2.2⟩
theorem c_Tokens_wantName (d : Nat) {o P w N a b : Nat} {k : Int} {t : Nat → Nat} {I : M32} {L : M64} {R : MR} {T : SH} (hd : 5 ≤ d) (hS : TkS R T o P) (hP : T.1 P = 16 + 1) (hPw : R P 0 = some w) (hK : KwS R T w) (hKV : KwV L w) (hV : TxV I o N t) (hN : I o 1 = cI N) (ha : I o 2 = cI a) (haN : a ≤ N) (hk : I o 3 = cI k) (hki : inI k) (hb : I o 4 = cI b) :
    Call m_Tokens_wantName y_Tokens_wantName d 0 0 [.ref o] I L R T (fun oc I' L' R' T' => (oc = .returned (some (.long (L o 5))) ∧ wnQ o t N b a k 101 I L R T (.returned none) I' L' R' T') ∨ (∃ y, oc = .threw y ∧ wnQ o t N b a k 101 I L R T (.threw y) I' L' R' T')) := by
  refine Call.ofRun (by decide) ⟨rfl, rfl⟩ (Nat.le_of_ble_eq_true rfl) ?_
  refine Run.gen fun Q hQ => ?_
  refine q_aload_n d_Tokens_wantName_0 rfl ?_
  refine j_getL (v := (L o 5)) d_Tokens_wantName_1 fl_Tokens_86 hS.1 ⟨rfl, by decide⟩ rfl ?_
  refine q_lstore_n (lv' := [(1, .long (L o 5)), (0, .ref o)]) d_Tokens_wantName_4 (by decide) rfl ?_
  refine q_aload_n d_Tokens_wantName_5 rfl ?_
  refine j_bipush d_Tokens_wantName_6 (by decide) ?_
  refine q_callV (ci := 5) (rc := 0) (rs := 0) (rest := []) d_Tokens_wantName_8 ml_Tokens_113 ok_Tokens_want rfl hS.1 (by decide) (c_Tokens_want (d - 1) (by omega) hS hP hPw hK hKV hV hN ha haN hk hki (by decide) hb) rfl rfl (by omega) (Nat.le_of_ble_eq_true rfl) (fun v I1 L1 R1 T1 h => ?_) (fun y I1 L1 R1 T1 h => ?_)
  · skip
    obtain ⟨rfl, -⟩ := wnQ_v h
    refine q_lload_n d_Tokens_wantName_11 rfl ?_
    refine q_lreturn d_Tokens_wantName_12 rfl ?_
    refine hQ _ _ _ _ _ ?_
    exact Or.inl ⟨rfl, h⟩
  · obtain ⟨rfl, -, rfl⟩ := wnQ_t h
    exact thr_out hS.tag (by decide) (by unfold Seek; rfl) (hQ _ _ _ _ _ (Or.inr ⟨_, rfl, h⟩))

