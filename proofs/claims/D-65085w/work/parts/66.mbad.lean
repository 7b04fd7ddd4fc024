/-! ===== 66 THE REFERENCE: a token that is none, whatever is wanted ===== -/
theorem cb_Model_readContract (d : Nat) {M N a : Nat} {u s dep : Int} {t : Nat → Nat} {I : M32} {L : M64} {R : MR} {T : SH} (hd : 2 ≤ d) (hM : MdlS M R T) (hT : TH M N a t I L) (hF : I M 17 = cI 0) (hK : tk (tkP t N) a < 0) : Call m_Model_readContract y_Model_readContract d 0 0 [.ref M, .int (cI u), .int (cI s), .int (cI dep)] I L R T (rV fun I' L' R' T' => erQ M (-(tk (tkP t N) a)) (tb (tkP t N) a) I L I' L' ∧ R' = R ∧ T' = T) := by
  refine Call.ofRun (by decide) ⟨rfl, rfl⟩ (Nat.le_of_ble_eq_true rfl) ?_
  refine Run.gen fun Q hQ => ?_
  have hfT := c_Model_failT (d - 1) (by omega) hM hT hF
  obtain ⟨hok0, h12, h13, h14, h15, h16⟩ := id hT
  have hok : TokR t N a (tb (tkP t N) a) (te (tkP t N) a) (tk (tkP t N) a) (tx (tkP t N) a) (tv (tkP t N) a) := hok0
  have hkd := hok.kd
  clear hok hok0 hT
  generalize tk (tkP t N) a = K at *
  generalize tb (tkP t N) a = b at *
  have hfc : fcF K = -K := by unfold fcF; rw [if_pos hK]
  rw [hfc] at hfT
  have hki := tkc_b hkd.1 hK
  refine q_aload_n d_Model_readContract_0 rfl ?_
  refine j_getI (v := (cI (tkc K))) d_Model_readContract_1 fl_Model_550 hM.1 ⟨rfl, by decide⟩ h13 ?_
  refine j_iconst d_Model_readContract_4 ?_
  refine j_icmp_ne (tgt := 18) d_Model_readContract_5 (by decide) (by omega) (by omega) (fun hx => ?_) (fun hx => by exfalso; omega)
  refine j_iconst d_Model_readContract_18 ?_
  refine q_istore (lv' := [(4, .int (cI 0)), (0, .ref M), (1, .int (cI u)), (2, .int (cI s)), (3, .int (cI dep))]) d_Model_readContract_19 (by decide) rfl ?_
  refine q_iload d_Model_readContract_21 rfl ?_
  refine j_if_ne (tgt := 31) d_Model_readContract_23 (by decide) (by omega) (fun hx => by exfalso; omega) (fun hx => ?_)
  refine q_aload_n d_Model_readContract_26 rfl ?_
  refine q_callV (ci := 17) (rc := 0) (rs := 0) (rest := []) d_Model_readContract_27 ml_Model_598 ok_Model_failToken rfl hM.1 (by decide) (hfT) rfl rfl (by omega) (Nat.le_of_ble_eq_true rfl) (kr_V (fun I1 L1 R1 T1 h => ?_)) kt_V
  refine q_return d_Model_readContract_30 rfl ?_
  refine hQ _ _ _ _ _ ?_
  exact ⟨rfl, h⟩
theorem cb_Model_readValue (d : Nat) {M N a : Nat} {u s dep : Int} {t : Nat → Nat} {I : M32} {L : M64} {R : MR} {T : SH} (hd : 2 ≤ d) (hM : MdlS M R T) (hT : TH M N a t I L) (hF : I M 17 = cI 0) (hK : tk (tkP t N) a < 0) : Call m_Model_readValue y_Model_readValue d 0 0 [.ref M, .int (cI u), .int (cI s), .int (cI dep)] I L R T (rV fun I' L' R' T' => erQ M (-(tk (tkP t N) a)) (tb (tkP t N) a) I L I' L' ∧ R' = R ∧ T' = T) := by
  refine Call.ofRun (by decide) ⟨rfl, rfl⟩ (Nat.le_of_ble_eq_true rfl) ?_
  refine Run.gen fun Q hQ => ?_
  have hfT := c_Model_failT (d - 1) (by omega) hM hT hF
  obtain ⟨hok0, h12, h13, h14, h15, h16⟩ := id hT
  have hok : TokR t N a (tb (tkP t N) a) (te (tkP t N) a) (tk (tkP t N) a) (tx (tkP t N) a) (tv (tkP t N) a) := hok0
  have hkd := hok.kd
  clear hok hok0 hT
  generalize tk (tkP t N) a = K at *
  generalize tb (tkP t N) a = b at *
  have hfc : fcF K = -K := by unfold fcF; rw [if_pos hK]
  rw [hfc] at hfT
  have hki := tkc_b hkd.1 hK
  refine q_aload_n d_Model_readValue_0 rfl ?_
  refine j_getI (v := (cI (tkc K))) d_Model_readValue_1 fl_Model_550 hM.1 ⟨rfl, by decide⟩ h13 ?_
  refine j_iconst d_Model_readValue_4 ?_
  refine j_icmp_ne (tgt := 13) d_Model_readValue_5 (by decide) (by omega) (by omega) (fun hx => ?_) (fun hx => by exfalso; omega)
  refine q_aload_n d_Model_readValue_13 rfl ?_
  refine j_getI (v := (cI (tkc K))) d_Model_readValue_14 fl_Model_550 hM.1 ⟨rfl, by decide⟩ h13 ?_
  refine j_iconst d_Model_readValue_17 ?_
  refine j_icmp_ne (tgt := 26) d_Model_readValue_18 (by decide) (by omega) (by omega) (fun hx => ?_) (fun hx => by exfalso; omega)
  refine q_aload_n d_Model_readValue_26 rfl ?_
  refine j_getI (v := (cI (tkc K))) d_Model_readValue_27 fl_Model_550 hM.1 ⟨rfl, by decide⟩ h13 ?_
  refine j_iconst d_Model_readValue_30 ?_
  refine j_icmp_ne (tgt := 44) d_Model_readValue_31 (by decide) (by omega) (by omega) (fun hx => ?_) (fun hx => by exfalso; omega)
  refine j_iconst d_Model_readValue_44 ?_
  refine q_istore (lv' := [(4, .int (cI 0)), (0, .ref M), (1, .int (cI u)), (2, .int (cI s)), (3, .int (cI dep))]) d_Model_readValue_45 (by decide) rfl ?_
  refine q_iload d_Model_readValue_47 rfl ?_
  refine j_if_ne (tgt := 57) d_Model_readValue_49 (by decide) (by omega) (fun hx => by exfalso; omega) (fun hx => ?_)
  refine q_aload_n d_Model_readValue_52 rfl ?_
  refine q_callV (ci := 17) (rc := 0) (rs := 0) (rest := []) d_Model_readValue_53 ml_Model_598 ok_Model_failToken rfl hM.1 (by decide) (hfT) rfl rfl (by omega) (Nat.le_of_ble_eq_true rfl) (kr_V (fun I1 L1 R1 T1 h => ?_)) kt_V
  refine q_return d_Model_readValue_56 rfl ?_
  refine hQ _ _ _ _ _ ?_
  exact ⟨rfl, h⟩
theorem cb_Model_readObservation (d : Nat) {M N a : Nat} {u s dep : Int} {t : Nat → Nat} {I : M32} {L : M64} {R : MR} {T : SH} (hd : 2 ≤ d) (hM : MdlS M R T) (hT : TH M N a t I L) (hF : I M 17 = cI 0) (hK : tk (tkP t N) a < 0) : Call m_Model_readObservation y_Model_readObservation d 0 0 [.ref M, .int (cI u), .int (cI s), .int (cI dep)] I L R T (rV fun I' L' R' T' => erQ M (-(tk (tkP t N) a)) (tb (tkP t N) a) I L I' L' ∧ R' = R ∧ T' = T) := by
  refine Call.ofRun (by decide) ⟨rfl, rfl⟩ (Nat.le_of_ble_eq_true rfl) ?_
  refine Run.gen fun Q hQ => ?_
  have hfT := c_Model_failT (d - 1) (by omega) hM hT hF
  obtain ⟨hok0, h12, h13, h14, h15, h16⟩ := id hT
  have hok : TokR t N a (tb (tkP t N) a) (te (tkP t N) a) (tk (tkP t N) a) (tx (tkP t N) a) (tv (tkP t N) a) := hok0
  have hkd := hok.kd
  clear hok hok0 hT
  generalize tk (tkP t N) a = K at *
  generalize tb (tkP t N) a = b at *
  have hfc : fcF K = -K := by unfold fcF; rw [if_pos hK]
  rw [hfc] at hfT
  have hki := tkc_b hkd.1 hK
  refine q_aload_n d_Model_readObservation_0 rfl ?_
  refine j_getI (v := (cI (tkc K))) d_Model_readObservation_1 fl_Model_550 hM.1 ⟨rfl, by decide⟩ h13 ?_
  refine j_iconst d_Model_readObservation_4 ?_
  refine j_icmp_ne (tgt := 18) d_Model_readObservation_5 (by decide) (by omega) (by omega) (fun hx => ?_) (fun hx => by exfalso; omega)
  refine j_iconst d_Model_readObservation_18 ?_
  refine q_istore (lv' := [(4, .int (cI 0)), (0, .ref M), (1, .int (cI u)), (2, .int (cI s)), (3, .int (cI dep))]) d_Model_readObservation_19 (by decide) rfl ?_
  refine q_iload d_Model_readObservation_21 rfl ?_
  refine j_if_ne (tgt := 31) d_Model_readObservation_23 (by decide) (by omega) (fun hx => by exfalso; omega) (fun hx => ?_)
  refine q_aload_n d_Model_readObservation_26 rfl ?_
  refine q_callV (ci := 17) (rc := 0) (rs := 0) (rest := []) d_Model_readObservation_27 ml_Model_598 ok_Model_failToken rfl hM.1 (by decide) (hfT) rfl rfl (by omega) (Nat.le_of_ble_eq_true rfl) (kr_V (fun I1 L1 R1 T1 h => ?_)) kt_V
  refine q_return d_Model_readObservation_30 rfl ?_
  refine hQ _ _ _ _ _ ?_
  exact ⟨rfl, h⟩
theorem cb_Model_readName (d : Nat) {M N a : Nat} {n s : Int} {t : Nat → Nat} {I : M32} {L : M64} {R : MR} {T : SH} (hd : 2 ≤ d) (hM : MdlS M R T) (hT : TH M N a t I L) (hF : I M 17 = cI 0) (hK : tk (tkP t N) a < 0) : Call m_Model_readName y_Model_readName d 0 0 [.ref M, .int (cI n), .int (cI s)] I L R T (rV fun I' L' R' T' => erQ M (-(tk (tkP t N) a)) (tb (tkP t N) a) I L I' L' ∧ R' = R ∧ T' = T) := by
  refine Call.ofRun (by decide) ⟨rfl, rfl⟩ (Nat.le_of_ble_eq_true rfl) ?_
  refine Run.gen fun Q hQ => ?_
  have hfT := c_Model_failT (d - 1) (by omega) hM hT hF
  obtain ⟨hok0, h12, h13, h14, h15, h16⟩ := id hT
  have hok : TokR t N a (tb (tkP t N) a) (te (tkP t N) a) (tk (tkP t N) a) (tx (tkP t N) a) (tv (tkP t N) a) := hok0
  have hkd := hok.kd
  clear hok hok0 hT
  generalize tk (tkP t N) a = K at *
  generalize tb (tkP t N) a = b at *
  have hfc : fcF K = -K := by unfold fcF; rw [if_pos hK]
  rw [hfc] at hfT
  have hki := tkc_b hkd.1 hK
  refine q_aload_n d_Model_readName_0 rfl ?_
  refine j_getI (v := (cI (tkc K))) d_Model_readName_1 fl_Model_550 hM.1 ⟨rfl, by decide⟩ h13 ?_
  refine j_iconst d_Model_readName_4 ?_
  refine j_icmp_eq (tgt := 13) d_Model_readName_5 (by decide) (by omega) (by omega) (fun hx => by exfalso; omega) (fun hx => ?_)
  refine q_aload_n d_Model_readName_8 rfl ?_
  refine q_callV (ci := 17) (rc := 0) (rs := 0) (rest := []) d_Model_readName_9 ml_Model_598 ok_Model_failToken rfl hM.1 (by decide) (hfT) rfl rfl (by omega) (Nat.le_of_ble_eq_true rfl) (kr_V (fun I1 L1 R1 T1 h => ?_)) kt_V
  refine q_return d_Model_readName_12 rfl ?_
  refine hQ _ _ _ _ _ ?_
  exact ⟨rfl, h⟩
theorem cb_Model_readCase (d : Nat) {M N a : Nat} {n s dep : Int} {t : Nat → Nat} {I : M32} {L : M64} {R : MR} {T : SH} (hd : 2 ≤ d) (hM : MdlS M R T) (hT : TH M N a t I L) (hF : I M 17 = cI 0) (hK : tk (tkP t N) a < 0) : Call m_Model_readCase y_Model_readCase d 0 0 [.ref M, .int (cI n), .int (cI s), .int (cI dep)] I L R T (rV fun I' L' R' T' => erQ M (-(tk (tkP t N) a)) (tb (tkP t N) a) I L I' L' ∧ R' = R ∧ T' = T) := by
  refine Call.ofRun (by decide) ⟨rfl, rfl⟩ (Nat.le_of_ble_eq_true rfl) ?_
  refine Run.gen fun Q hQ => ?_
  have hfT := c_Model_failT (d - 1) (by omega) hM hT hF
  obtain ⟨hok0, h12, h13, h14, h15, h16⟩ := id hT
  have hok : TokR t N a (tb (tkP t N) a) (te (tkP t N) a) (tk (tkP t N) a) (tx (tkP t N) a) (tv (tkP t N) a) := hok0
  have hkd := hok.kd
  clear hok hok0 hT
  generalize tk (tkP t N) a = K at *
  generalize tb (tkP t N) a = b at *
  have hfc : fcF K = -K := by unfold fcF; rw [if_pos hK]
  rw [hfc] at hfT
  have hki := tkc_b hkd.1 hK
  refine q_aload_n d_Model_readCase_0 rfl ?_
  refine j_getI (v := (cI (tkc K))) d_Model_readCase_1 fl_Model_550 hM.1 ⟨rfl, by decide⟩ h13 ?_
  refine j_bipush d_Model_readCase_4 (by decide) ?_
  refine j_icmp_ne (tgt := 14) d_Model_readCase_6 (by decide) (by omega) (by omega) (fun hx => ?_) (fun hx => by exfalso; omega)
  refine q_aload_n d_Model_readCase_14 rfl ?_
  refine j_getI (v := (cI (tkc K))) d_Model_readCase_15 fl_Model_550 hM.1 ⟨rfl, by decide⟩ h13 ?_
  refine j_iconst d_Model_readCase_18 ?_
  refine j_icmp_ne (tgt := 33) d_Model_readCase_19 (by decide) (by omega) (by omega) (fun hx => ?_) (fun hx => by exfalso; omega)
  refine q_aload_n d_Model_readCase_33 rfl ?_
  refine q_callV (ci := 17) (rc := 0) (rs := 0) (rest := []) d_Model_readCase_34 ml_Model_598 ok_Model_failToken rfl hM.1 (by decide) (hfT) rfl rfl (by omega) (Nat.le_of_ble_eq_true rfl) (kr_V (fun I1 L1 R1 T1 h => ?_)) kt_V
  refine q_return d_Model_readCase_37 rfl ?_
  refine hQ _ _ _ _ _ ?_
  exact ⟨rfl, h⟩
theorem cb_Model_readTime (d : Nat) {M N a : Nat} {n : Int} {t : Nat → Nat} {I : M32} {L : M64} {R : MR} {T : SH} (hd : 2 ≤ d) (hM : MdlS M R T) (hT : TH M N a t I L) (hF : I M 17 = cI 0) (hK : tk (tkP t N) a < 0) : Call m_Model_readTime y_Model_readTime d 0 0 [.ref M, .int (cI n)] I L R T (rV fun I' L' R' T' => erQ M (-(tk (tkP t N) a)) (tb (tkP t N) a) I L I' L' ∧ R' = R ∧ T' = T) := by
  refine Call.ofRun (by decide) ⟨rfl, rfl⟩ (Nat.le_of_ble_eq_true rfl) ?_
  refine Run.gen fun Q hQ => ?_
  have hfT := c_Model_failT (d - 1) (by omega) hM hT hF
  obtain ⟨hok0, h12, h13, h14, h15, h16⟩ := id hT
  have hok : TokR t N a (tb (tkP t N) a) (te (tkP t N) a) (tk (tkP t N) a) (tx (tkP t N) a) (tv (tkP t N) a) := hok0
  have hkd := hok.kd
  clear hok hok0 hT
  generalize tk (tkP t N) a = K at *
  generalize tb (tkP t N) a = b at *
  have hfc : fcF K = -K := by unfold fcF; rw [if_pos hK]
  rw [hfc] at hfT
  have hki := tkc_b hkd.1 hK
  refine q_aload_n d_Model_readTime_0 rfl ?_
  refine j_getI (v := (cI (tkc K))) d_Model_readTime_1 fl_Model_550 hM.1 ⟨rfl, by decide⟩ h13 ?_
  refine j_iconst d_Model_readTime_4 ?_
  refine j_icmp_ne (tgt := 30) d_Model_readTime_5 (by decide) (by omega) (by omega) (fun hx => ?_) (fun hx => by exfalso; omega)
  refine q_aload_n d_Model_readTime_30 rfl ?_
  refine j_getI (v := (cI (tkc K))) d_Model_readTime_31 fl_Model_550 hM.1 ⟨rfl, by decide⟩ h13 ?_
  refine j_iconst d_Model_readTime_34 ?_
  refine j_icmp_eq (tgt := 43) d_Model_readTime_35 (by decide) (by omega) (by omega) (fun hx => by exfalso; omega) (fun hx => ?_)
  refine q_aload_n d_Model_readTime_38 rfl ?_
  refine q_callV (ci := 17) (rc := 0) (rs := 0) (rest := []) d_Model_readTime_39 ml_Model_598 ok_Model_failToken rfl hM.1 (by decide) (hfT) rfl rfl (by omega) (Nat.le_of_ble_eq_true rfl) (kr_V (fun I1 L1 R1 T1 h => ?_)) kt_V
  refine q_return d_Model_readTime_42 rfl ?_
  refine hQ _ _ _ _ _ ?_
  exact ⟨rfl, h⟩
theorem cb_Model_readAction (d : Nat) {M N a : Nat} {n dep : Int} {t : Nat → Nat} {I : M32} {L : M64} {R : MR} {T : SH} (hd : 2 ≤ d) (hM : MdlS M R T) (hT : TH M N a t I L) (hF : I M 17 = cI 0) (hK : tk (tkP t N) a < 0) : Call m_Model_readAction y_Model_readAction d 0 0 [.ref M, .int (cI n), .int (cI dep)] I L R T (rV fun I' L' R' T' => erQ M (-(tk (tkP t N) a)) (tb (tkP t N) a) I L I' L' ∧ R' = R ∧ T' = T) := by
  refine Call.ofRun (by decide) ⟨rfl, rfl⟩ (Nat.le_of_ble_eq_true rfl) ?_
  refine Run.gen fun Q hQ => ?_
  have hfT := c_Model_failT (d - 1) (by omega) hM hT hF
  obtain ⟨hok0, h12, h13, h14, h15, h16⟩ := id hT
  have hok : TokR t N a (tb (tkP t N) a) (te (tkP t N) a) (tk (tkP t N) a) (tx (tkP t N) a) (tv (tkP t N) a) := hok0
  have hkd := hok.kd
  clear hok hok0 hT
  generalize tk (tkP t N) a = K at *
  generalize tb (tkP t N) a = b at *
  have hfc : fcF K = -K := by unfold fcF; rw [if_pos hK]
  rw [hfc] at hfT
  have hki := tkc_b hkd.1 hK
  refine q_aload_n d_Model_readAction_0 rfl ?_
  refine j_getI (v := (cI (tkc K))) d_Model_readAction_1 fl_Model_550 hM.1 ⟨rfl, by decide⟩ h13 ?_
  refine j_iconst d_Model_readAction_4 ?_
  refine j_icmp_ne (tgt := 45) d_Model_readAction_5 (by decide) (by omega) (by omega) (fun hx => ?_) (fun hx => by exfalso; omega)
  refine j_iconst d_Model_readAction_45 ?_
  refine q_istore_n (lv' := [(3, .int (cI 0)), (0, .ref M), (1, .int (cI n)), (2, .int (cI dep))]) d_Model_readAction_46 (by decide) rfl ?_
  refine q_iload_n d_Model_readAction_47 rfl ?_
  refine j_if_ne (tgt := 56) d_Model_readAction_48 (by decide) (by omega) (fun hx => by exfalso; omega) (fun hx => ?_)
  refine q_aload_n d_Model_readAction_51 rfl ?_
  refine q_callV (ci := 17) (rc := 0) (rs := 0) (rest := []) d_Model_readAction_52 ml_Model_598 ok_Model_failToken rfl hM.1 (by decide) (hfT) rfl rfl (by omega) (Nat.le_of_ble_eq_true rfl) (kr_V (fun I1 L1 R1 T1 h => ?_)) kt_V
  refine q_return d_Model_readAction_55 rfl ?_
  refine hQ _ _ _ _ _ ?_
  exact ⟨rfl, h⟩
theorem cb_Model_readBound (d : Nat) {M N a : Nat} {n s : Int} {t : Nat → Nat} {I : M32} {L : M64} {R : MR} {T : SH} (hd : 2 ≤ d) (hM : MdlS M R T) (hT : TH M N a t I L) (hF : I M 17 = cI 0) (hK : tk (tkP t N) a < 0) : Call m_Model_readBound y_Model_readBound d 0 0 [.ref M, .int (cI n), .int (cI s)] I L R T (rV fun I' L' R' T' => erQ M (-(tk (tkP t N) a)) (tb (tkP t N) a) I L I' L' ∧ R' = R ∧ T' = T) := by
  refine Call.ofRun (by decide) ⟨rfl, rfl⟩ (Nat.le_of_ble_eq_true rfl) ?_
  refine Run.gen fun Q hQ => ?_
  have hfT := c_Model_failT (d - 1) (by omega) hM hT hF
  obtain ⟨hok0, h12, h13, h14, h15, h16⟩ := id hT
  have hok : TokR t N a (tb (tkP t N) a) (te (tkP t N) a) (tk (tkP t N) a) (tx (tkP t N) a) (tv (tkP t N) a) := hok0
  have hkd := hok.kd
  clear hok hok0 hT
  generalize tk (tkP t N) a = K at *
  generalize tb (tkP t N) a = b at *
  have hfc : fcF K = -K := by unfold fcF; rw [if_pos hK]
  rw [hfc] at hfT
  have hki := tkc_b hkd.1 hK
  refine q_aload_n d_Model_readBound_0 rfl ?_
  refine j_getI (v := (cI (tkc K))) d_Model_readBound_1 fl_Model_550 hM.1 ⟨rfl, by decide⟩ h13 ?_
  refine j_bipush d_Model_readBound_4 (by decide) ?_
  refine j_icmp_ne (tgt := 18) d_Model_readBound_6 (by decide) (by omega) (by omega) (fun hx => ?_) (fun hx => by exfalso; omega)
  refine q_aload_n d_Model_readBound_18 rfl ?_
  refine j_getI (v := (cI (tkc K))) d_Model_readBound_19 fl_Model_550 hM.1 ⟨rfl, by decide⟩ h13 ?_
  refine j_iconst d_Model_readBound_22 ?_
  refine j_icmp_eq (tgt := 31) d_Model_readBound_23 (by decide) (by omega) (by omega) (fun hx => by exfalso; omega) (fun hx => ?_)
  refine q_aload_n d_Model_readBound_26 rfl ?_
  refine q_callV (ci := 17) (rc := 0) (rs := 0) (rest := []) d_Model_readBound_27 ml_Model_598 ok_Model_failToken rfl hM.1 (by decide) (hfT) rfl rfl (by omega) (Nat.le_of_ble_eq_true rfl) (kr_V (fun I1 L1 R1 T1 h => ?_)) kt_V
  refine q_return d_Model_readBound_30 rfl ?_
  refine hQ _ _ _ _ _ ?_
  exact ⟨rfl, h⟩
theorem cb_Model_readSecond (d : Nat) {M N a : Nat} {n s : Int} {t : Nat → Nat} {I : M32} {L : M64} {R : MR} {T : SH} (hd : 2 ≤ d) (hM : MdlS M R T) (hT : TH M N a t I L) (hF : I M 17 = cI 0) (hK : tk (tkP t N) a < 0) : Call m_Model_readSecond y_Model_readSecond d 0 0 [.ref M, .int (cI n), .int (cI s)] I L R T (rV fun I' L' R' T' => erQ M (-(tk (tkP t N) a)) (tb (tkP t N) a) I L I' L' ∧ R' = R ∧ T' = T) := by
  refine Call.ofRun (by decide) ⟨rfl, rfl⟩ (Nat.le_of_ble_eq_true rfl) ?_
  refine Run.gen fun Q hQ => ?_
  have hfT := c_Model_failT (d - 1) (by omega) hM hT hF
  obtain ⟨hok0, h12, h13, h14, h15, h16⟩ := id hT
  have hok : TokR t N a (tb (tkP t N) a) (te (tkP t N) a) (tk (tkP t N) a) (tx (tkP t N) a) (tv (tkP t N) a) := hok0
  have hkd := hok.kd
  clear hok hok0 hT
  generalize tk (tkP t N) a = K at *
  generalize tb (tkP t N) a = b at *
  have hfc : fcF K = -K := by unfold fcF; rw [if_pos hK]
  rw [hfc] at hfT
  have hki := tkc_b hkd.1 hK
  refine q_aload_n d_Model_readSecond_0 rfl ?_
  refine j_getI (v := (cI (tkc K))) d_Model_readSecond_1 fl_Model_550 hM.1 ⟨rfl, by decide⟩ h13 ?_
  refine j_iconst d_Model_readSecond_4 ?_
  refine j_icmp_eq (tgt := 13) d_Model_readSecond_5 (by decide) (by omega) (by omega) (fun hx => by exfalso; omega) (fun hx => ?_)
  refine q_aload_n d_Model_readSecond_8 rfl ?_
  refine q_callV (ci := 17) (rc := 0) (rs := 0) (rest := []) d_Model_readSecond_9 ml_Model_598 ok_Model_failToken rfl hM.1 (by decide) (hfT) rfl rfl (by omega) (Nat.le_of_ble_eq_true rfl) (kr_V (fun I1 L1 R1 T1 h => ?_)) kt_V
  refine q_return d_Model_readSecond_12 rfl ?_
  refine hQ _ _ _ _ _ ?_
  exact ⟨rfl, h⟩
theorem cb_Model_readSign (d : Nat) {M N a : Nat} {w n : Int} {t : Nat → Nat} {I : M32} {L : M64} {R : MR} {T : SH} (hd : 2 ≤ d) (hM : MdlS M R T) (hT : TH M N a t I L) (hF : I M 17 = cI 0) (hK : tk (tkP t N) a < 0) (hw : inI w) : Call m_Model_readSign y_Model_readSign d 0 0 [.ref M, .int (cI w), .int (cI n)] I L R T (rV fun I' L' R' T' => erQ M (-(tk (tkP t N) a)) (tb (tkP t N) a) I L I' L' ∧ R' = R ∧ T' = T) := by
  refine Call.ofRun (by decide) ⟨rfl, rfl⟩ (Nat.le_of_ble_eq_true rfl) ?_
  refine Run.gen fun Q hQ => ?_
  have hfT := c_Model_failT (d - 1) (by omega) hM hT hF
  obtain ⟨hok0, h12, h13, h14, h15, h16⟩ := id hT
  have hok : TokR t N a (tb (tkP t N) a) (te (tkP t N) a) (tk (tkP t N) a) (tx (tkP t N) a) (tv (tkP t N) a) := hok0
  have hkd := hok.kd
  clear hok hok0 hT
  generalize tk (tkP t N) a = K at *
  generalize tb (tkP t N) a = b at *
  have hfc : fcF K = -K := by unfold fcF; rw [if_pos hK]
  rw [hfc] at hfT
  have hki := tkc_b hkd.1 hK
  refine q_aload_n d_Model_readSign_0 rfl ?_
  refine j_getI (v := (cI (tkc K))) d_Model_readSign_1 fl_Model_550 hM.1 ⟨rfl, by decide⟩ h13 ?_
  refine j_iconst d_Model_readSign_4 ?_
  refine j_icmp_ne (tgt := 34) d_Model_readSign_5 (by decide) (by omega) (by omega) (fun hx => ?_) (fun hx => by exfalso; omega)
  refine j_iconst d_Model_readSign_34 ?_
  refine q_istore_n (lv' := [(3, .int (cI 0)), (0, .ref M), (1, .int (cI w)), (2, .int (cI n))]) d_Model_readSign_35 (by decide) rfl ?_
  suffices J : ∀ (v : Int), (((¬ w = 5) ∧ (¬ w = 6) ∧ (¬ (tkc K) = 7) ∧ v = 0) ∨ ((¬ w = 5) ∧ (¬ w = 6) ∧ ((tkc K) = 7) ∧ v = 1) ∨ ((¬ w = 5) ∧ (w = 6) ∧ v = 0) ∨ ((w = 5) ∧ (¬ (tkc K) = 6) ∧ v = 0) ∨ ((w = 5) ∧ ((tkc K) = 6) ∧ v = 1)) → Run m_Model_readSign d 0 0 82 [(0, .ref M), (1, .int (cI w)), (2, .int (cI n)), (3, .int (cI 0))] [.int (cI v)] I L R T Q by
    refine q_iload_n d_Model_readSign_36 rfl ?_
    refine j_iconst d_Model_readSign_37 ?_
    refine j_icmp_ne (tgt := 58) d_Model_readSign_38 (by decide) (by omega) (by omega) (fun hp1 => ?_) (fun hp1 => ?_)
    · refine q_iload_n d_Model_readSign_58 rfl ?_
      refine j_bipush d_Model_readSign_59 (by decide) ?_
      refine j_icmp_ne (tgt := 68) d_Model_readSign_61 (by decide) (by omega) (by omega) (fun hp2 => ?_) (fun hp2 => ?_)
      · refine q_aload_n d_Model_readSign_68 rfl ?_
        refine j_getI (v := (cI (tkc K))) d_Model_readSign_69 fl_Model_550 hM.1 ⟨rfl, by decide⟩ h13 ?_
        refine j_bipush d_Model_readSign_72 (by decide) ?_
        refine j_icmp_ne (tgt := 81) d_Model_readSign_74 (by decide) (by omega) (by omega) (fun hp3 => ?_) (fun hp3 => ?_)
        · refine j_iconst d_Model_readSign_81 ?_
          refine Run.lv (lv' := [(0, .ref M), (1, .int (cI w)), (2, .int (cI n)), (3, .int (cI 0))]) (by intro q hq; simp only [List.mem_cons, List.not_mem_nil, or_false] at hq ⊢; rcases hq with rfl | rfl | rfl | rfl <;> simp) ?_
          exact J _ (Or.inl ⟨hp1, hp2, hp3, rfl⟩)
        · refine j_iconst d_Model_readSign_77 ?_
          refine q_goto (tgt := 82) d_Model_readSign_78 (by decide) ?_
          refine Run.lv (lv' := [(0, .ref M), (1, .int (cI w)), (2, .int (cI n)), (3, .int (cI 0))]) (by intro q hq; simp only [List.mem_cons, List.not_mem_nil, or_false] at hq ⊢; rcases hq with rfl | rfl | rfl | rfl <;> simp) ?_
          exact J _ (Or.inr (Or.inl ⟨hp1, hp2, hp3, rfl⟩))
      · refine q_iload_n d_Model_readSign_64 rfl ?_
        refine q_goto (tgt := 82) d_Model_readSign_65 (by decide) ?_
        refine Run.lv (lv' := [(0, .ref M), (1, .int (cI w)), (2, .int (cI n)), (3, .int (cI 0))]) (by intro q hq; simp only [List.mem_cons, List.not_mem_nil, or_false] at hq ⊢; rcases hq with rfl | rfl | rfl | rfl <;> simp) ?_
        exact J _ (Or.inr (Or.inr (Or.inl ⟨hp1, hp2, rfl⟩)))
    · refine q_aload_n d_Model_readSign_41 rfl ?_
      refine j_getI (v := (cI (tkc K))) d_Model_readSign_42 fl_Model_550 hM.1 ⟨rfl, by decide⟩ h13 ?_
      refine j_bipush d_Model_readSign_45 (by decide) ?_
      refine j_icmp_ne (tgt := 54) d_Model_readSign_47 (by decide) (by omega) (by omega) (fun hp4 => ?_) (fun hp4 => ?_)
      · refine j_iconst d_Model_readSign_54 ?_
        refine q_goto (tgt := 82) d_Model_readSign_55 (by decide) ?_
        refine Run.lv (lv' := [(0, .ref M), (1, .int (cI w)), (2, .int (cI n)), (3, .int (cI 0))]) (by intro q hq; simp only [List.mem_cons, List.not_mem_nil, or_false] at hq ⊢; rcases hq with rfl | rfl | rfl | rfl <;> simp) ?_
        exact J _ (Or.inr (Or.inr (Or.inr (Or.inl ⟨hp1, hp4, rfl⟩))))
      · refine j_iconst d_Model_readSign_50 ?_
        refine q_goto (tgt := 82) d_Model_readSign_51 (by decide) ?_
        refine Run.lv (lv' := [(0, .ref M), (1, .int (cI w)), (2, .int (cI n)), (3, .int (cI 0))]) (by intro q hq; simp only [List.mem_cons, List.not_mem_nil, or_false] at hq ⊢; rcases hq with rfl | rfl | rfl | rfl <;> simp) ?_
        exact J _ (Or.inr (Or.inr (Or.inr (Or.inr ⟨hp1, hp4, rfl⟩))))
  intro v hv
  have hv0 : v = 0 := by omega
  subst hv0
  refine q_istore (lv' := [(4, .int (cI 0)), (0, .ref M), (1, .int (cI w)), (2, .int (cI n)), (3, .int (cI 0))]) d_Model_readSign_82 (by decide) rfl ?_
  refine q_iload d_Model_readSign_84 rfl ?_
  refine j_if_ne (tgt := 94) d_Model_readSign_86 (by decide) (by omega) (fun hx => by exfalso; omega) (fun hx => ?_)
  refine q_aload_n d_Model_readSign_89 rfl ?_
  refine q_callV (ci := 17) (rc := 0) (rs := 0) (rest := []) d_Model_readSign_90 ml_Model_598 ok_Model_failToken rfl hM.1 (by decide) (hfT) rfl rfl (by omega) (Nat.le_of_ble_eq_true rfl) (kr_V (fun I1 L1 R1 T1 h => ?_)) kt_V
  refine q_return d_Model_readSign_93 rfl ?_
  refine hQ _ _ _ _ _ ?_
  exact ⟨rfl, h⟩
/-- whatever is wanted: a token that is none is told -/
theorem cb_Model_readNext (d : Nat) {M N a : Nat} {w nd s u : Int} {t : Nat → Nat} {l : List Wt} {I : M32} {L : M64} {R : MR} {T : SH} (hd : 4 ≤ d) (hM : MdlS M R T) (hV : TxM I M N t) (hN : I M 11 = cI N) (ha : I M 12 = cI a) (haN : a ≤ N) (hA : PileV I M ((w, nd, s, u) :: l)) (hw0 : I M 43 = cI (l.length + 1 : Nat)) (hl : l.length + 2 < 30000) (hw : 1 ≤ w ∧ w ≤ 13) (hF : I M 17 = cI 0) (hK : tk (tkP t N) a < 0) :
    Call m_Model_readNext y_Model_readNext d 0 0 [.ref M] I L R T (rV fun I' L' R' T' => (TkOk t N a ∧ I' M 17 = cI (-(tk (tkP t N) a)) ∧ I' M 18 = cI (tb (tkP t N) a) ∧ Fx (fun x k => x = M ∧ (k = 43 ∨ (12 ≤ k ∧ k ≤ 15) ∨ k = 17 ∨ k = 18)) I I' ∧ Fx (fun x k => x = M ∧ k = 16) L L') ∧ R' = R ∧ T' = T) := by
  have hm : ∀ {Y : MI} {y : MethodName} {as : List Value} (I1 : M32) (L1 : M64), AL M N a t l I L I1 L1 → Call Y y (d - 1) 0 0 as I1 L1 R T (rV fun I' L' R' T' => erQ M (-(tk (tkP t N) a)) (tb (tkP t N) a) I1 L1 I' L' ∧ R' = R ∧ T' = T) → Call Y y (d - 1) 0 0 as I1 L1 R T (rV fun I' L' R' T' => (TkOk t N a ∧ I' M 17 = cI (-(tk (tkP t N) a)) ∧ I' M 18 = cI (tb (tkP t N) a) ∧ Fx (fun x k => x = M ∧ (k = 43 ∨ (12 ≤ k ∧ k ≤ 15) ∨ k = 17 ∨ k = 18)) I I' ∧ Fx (fun x k => x = M ∧ k = 16) L L') ∧ R' = R ∧ T' = T) := by
    intro Y y as I1 L1 h hc
    refine hc.mono ?_
    rintro o I' L' R' T' ⟨h1, ⟨h2, h3, h4, h5⟩, h6⟩
    exact ⟨h1, ⟨h.1.1, h2, h3, (h.2.2.2.1.mo fun x k e => by omega).tr (h4.mo fun x k e => by omega), by rw [h5]; exact h.2.2.2.2⟩, h6⟩
  have h17 : ∀ I1 L1, AL M N a t l I L I1 L1 → I1 M 17 = cI 0 := fun I1 L1 h => by rw [h.2.2.2.1 _ _ (by omega)]; exact hF
  refine c_Model_readNext d hd hM hV hN ha haN hA hw0 hl hw (fun _ _ _ _ h => by omega) ?_ ?_ ?_ ?_ ?_ ?_ ?_ ?_ ?_ ?_
  · exact fun I1 L1 h _ _ => hm I1 L1 h (cb_Model_readContract (d - 1) (by omega) hM h.1 (h17 I1 L1 h) hK)
  · exact fun I1 L1 h _ _ => hm I1 L1 h (cb_Model_readValue (d - 1) (by omega) hM h.1 (h17 I1 L1 h) hK)
  · exact fun I1 L1 h _ _ => hm I1 L1 h (cb_Model_readObservation (d - 1) (by omega) hM h.1 (h17 I1 L1 h) hK)
  · exact fun I1 L1 h _ => hm I1 L1 h (cb_Model_readName (d - 1) (by omega) hM h.1 (h17 I1 L1 h) hK)
  · exact fun I1 L1 h _ => hm I1 L1 h (cb_Model_readCase (d - 1) (by omega) hM h.1 (h17 I1 L1 h) hK)
  · exact fun I1 L1 h _ => hm I1 L1 h (cb_Model_readTime (d - 1) (by omega) hM h.1 (h17 I1 L1 h) hK)
  · exact fun I1 L1 h _ => hm I1 L1 h (cb_Model_readAction (d - 1) (by omega) hM h.1 (h17 I1 L1 h) hK)
  · exact fun I1 L1 h _ => hm I1 L1 h (cb_Model_readBound (d - 1) (by omega) hM h.1 (h17 I1 L1 h) hK)
  · exact fun I1 L1 h _ => hm I1 L1 h (cb_Model_readSecond (d - 1) (by omega) hM h.1 (h17 I1 L1 h) hK)
  · exact fun I1 L1 h _ => hm I1 L1 h (cb_Model_readSign (d - 1) (by omega) hM h.1 (h17 I1 L1 h) hK (by omega))

