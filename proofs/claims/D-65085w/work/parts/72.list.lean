/-! ===== 72 THE LIST OF NUMBERS: what reads it ===== -/
theorem d_ArrayList_size_0 : decode m_ArrayList_size.2.1 0 = .ok (.aload_n 0, 1) := by decide +kernel
theorem d_ArrayList_size_1 : decode m_ArrayList_size.2.1 1 = .ok (.getfield 48, 3) := by decide +kernel
theorem d_ArrayList_size_4 : decode m_ArrayList_size.2.1 4 = .ok (.ireturn, 1) := by decide +kernel
theorem d_ArrayList_elementData_0 : decode m_ArrayList_elementData.2.1 0 = .ok (.aload_n 0, 1) := by decide +kernel
theorem d_ArrayList_elementData_1 : decode m_ArrayList_elementData.2.1 1 = .ok (.getfield 9, 3) := by decide +kernel
theorem d_ArrayList_elementData_4 : decode m_ArrayList_elementData.2.1 4 = .ok (.iload_n 1, 1) := by decide +kernel
theorem d_ArrayList_elementData_5 : decode m_ArrayList_elementData.2.1 5 = .ok (.aaload, 1) := by decide +kernel
theorem d_ArrayList_elementData_6 : decode m_ArrayList_elementData.2.1 6 = .ok (.areturn, 1) := by decide +kernel
theorem d_ArrayList_get_0 : decode m_ArrayList_get.2.1 0 = .ok (.iload_n 1, 1) := by decide +kernel
theorem d_ArrayList_get_1 : decode m_ArrayList_get.2.1 1 = .ok (.aload_n 0, 1) := by decide +kernel
theorem d_ArrayList_get_2 : decode m_ArrayList_get.2.1 2 = .ok (.getfield 48, 3) := by decide +kernel
theorem d_ArrayList_get_5 : decode m_ArrayList_get.2.1 5 = .ok (.invokestatic 118, 3) := by decide +kernel
theorem d_ArrayList_get_8 : decode m_ArrayList_get.2.1 8 = .ok (.pop, 1) := by decide +kernel
theorem d_ArrayList_get_9 : decode m_ArrayList_get.2.1 9 = .ok (.aload_n 0, 1) := by decide +kernel
theorem d_ArrayList_get_10 : decode m_ArrayList_get.2.1 10 = .ok (.iload_n 1, 1) := by decide +kernel
theorem d_ArrayList_get_11 : decode m_ArrayList_get.2.1 11 = .ok (.invokevirtual 123, 3) := by decide +kernel
theorem d_ArrayList_get_14 : decode m_ArrayList_get.2.1 14 = .ok (.areturn, 1) := by decide +kernel
theorem d_Objects_checkIndex_0 : decode m_Objects_checkIndex.2.1 0 = .ok (.iload_n 0, 1) := by decide +kernel
theorem d_Objects_checkIndex_1 : decode m_Objects_checkIndex.2.1 1 = .ok (.iload_n 1, 1) := by decide +kernel
theorem d_Objects_checkIndex_2 : decode m_Objects_checkIndex.2.1 2 = .ok (.aconst_null, 1) := by decide +kernel
theorem d_Objects_checkIndex_3 : decode m_Objects_checkIndex.2.1 3 = .ok (.invokestatic 105, 3) := by decide +kernel
theorem d_Objects_checkIndex_6 : decode m_Objects_checkIndex.2.1 6 = .ok (.ireturn, 1) := by decide +kernel
theorem d_Nodes_numberAt_0 : decode m_Nodes_numberAt.2.1 0 = .ok (.aload_n 0, 1) := by decide +kernel
theorem d_Nodes_numberAt_1 : decode m_Nodes_numberAt.2.1 1 = .ok (.getfield 50, 3) := by decide +kernel
theorem d_Nodes_numberAt_4 : decode m_Nodes_numberAt.2.1 4 = .ok (.iload_n 1, 1) := by decide +kernel
theorem d_Nodes_numberAt_5 : decode m_Nodes_numberAt.2.1 5 = .ok (.invokevirtual 69, 3) := by decide +kernel
theorem d_Nodes_numberAt_8 : decode m_Nodes_numberAt.2.1 8 = .ok (.checkcast 62, 3) := by decide +kernel
theorem d_Nodes_numberAt_11 : decode m_Nodes_numberAt.2.1 11 = .ok (.areturn, 1) := by decide +kernel
theorem d_Math_min_0 : decode m_Math_min.2.1 0 = .ok (.iload_n 0, 1) := by decide +kernel
theorem d_Math_min_1 : decode m_Math_min.2.1 1 = .ok (.iload_n 1, 1) := by decide +kernel
theorem d_Math_min_2 : decode m_Math_min.2.1 2 = .ok (.if_icmp .gt 7, 3) := by decide +kernel
theorem d_Math_min_5 : decode m_Math_min.2.1 5 = .ok (.iload_n 0, 1) := by decide +kernel
theorem d_Math_min_6 : decode m_Math_min.2.1 6 = .ok (.goto 4, 3) := by decide +kernel
theorem d_Math_min_9 : decode m_Math_min.2.1 9 = .ok (.iload_n 1, 1) := by decide +kernel
theorem d_Math_min_10 : decode m_Math_min.2.1 10 = .ok (.ireturn, 1) := by decide +kernel
/-- the list at q: its row at e of room cp -/
def LsS (R : MR) (T : SH) (q e cp : Nat) : Prop := T.1 q = 7 + 1 ∧ R q 0 = some e ∧ T.1 e = 68 ∧ T.2.1 e = cp
theorem c_ArrayList_size (d : Nat) {q e cp n : Nat} {I : M32} {L : M64} {R : MR} {T : SH} (hS : LsS R T q e cp) (hn : I q 1 = cI n) : Call m_ArrayList_size y_ArrayList_size d 0 0 [.ref q] I L R T (rI fun r I' L' R' T' => r = cI n ∧ I' = I ∧ L' = L ∧ R' = R ∧ T' = T) := by
  refine Call.ofRun (by decide +kernel) ⟨rfl, rfl⟩ (Nat.le_of_ble_eq_true rfl) ?_
  refine Run.gen fun Q hQ => ?_
  refine q_aload_n d_ArrayList_size_0 rfl ?_
  refine j_getI (v := (cI (n : Int))) d_ArrayList_size_1 fl_ArrayList_48 hS.1 ⟨rfl, by decide⟩ hn ?_
  refine q_ireturn d_ArrayList_size_4 rfl rfl ?_
  refine hQ _ _ _ _ _ ?_
  exact ⟨_, rfl, rfl, rfl, rfl, rfl, rfl⟩
theorem c_Math_min (d : Nat) {x y : Int} (hx : inI x) (hy : inI y) {I : M32} {L : M64} {R : MR} {T : SH} : Call m_Math_min y_Math_min d 0 0 [.int (cI x), .int (cI y)] I L R T (rI fun r I' L' R' T' => r = cI (min x y) ∧ I' = I ∧ L' = L ∧ R' = R ∧ T' = T) := by
  refine Call.ofRun (by decide +kernel) ⟨rfl, rfl⟩ (Nat.le_of_ble_eq_true rfl) ?_
  refine Run.gen fun Q hQ => ?_
  refine q_iload_n d_Math_min_0 rfl ?_
  refine q_iload_n d_Math_min_1 rfl ?_
  refine j_icmp_gt (tgt := 9) d_Math_min_2 (by decide) (by omega) (by omega) (fun hp1 => ?_) (fun hp1 => ?_)
  · refine q_iload_n d_Math_min_9 rfl ?_
    refine q_ireturn d_Math_min_10 rfl rfl ?_
    refine hQ _ _ _ _ _ ?_
    exact ⟨_, rfl, by congr 1; omega, rfl, rfl, rfl, rfl⟩
  · refine q_iload_n d_Math_min_5 rfl ?_
    refine q_goto (tgt := 10) d_Math_min_6 (by decide) ?_
    refine q_ireturn d_Math_min_10 rfl rfl ?_
    refine hQ _ _ _ _ _ ?_
    exact ⟨_, rfl, by congr 1; omega, rfl, rfl, rfl, rfl⟩
theorem c_Objects_checkIndex (d : Nat) {j n : Nat} {I : M32} {L : M64} {R : MR} {T : SH} (hd : 1 ≤ d) (hj : j < n) (hn : n ≤ 2147483647) : Call m_Objects_checkIndex y_Objects_checkIndex d 0 0 [.int (cI j), .int (cI n)] I L R T (rI fun r I' L' R' T' => r = cI j ∧ I' = I ∧ L' = L ∧ R' = R ∧ T' = T) := by
  refine Call.ofRun (by decide +kernel) ⟨rfl, rfl⟩ (Nat.le_of_ble_eq_true rfl) ?_
  refine Run.gen fun Q hQ => ?_
  refine q_iload_n d_Objects_checkIndex_0 rfl ?_
  refine q_iload_n d_Objects_checkIndex_1 rfl ?_
  refine q_null d_Objects_checkIndex_2 ?_
  refine q_callS (rc := 0) (rs := 0) (rest := []) d_Objects_checkIndex_3 ml_Objects_105 ok_Preconditions_checkIndex (c_Preconditions_checkIndex (d - 1) (o := none) hj hn) rfl rfl (by omega) (Nat.le_of_ble_eq_true rfl) (kp_I ?_) kt_I
  refine q_ireturn d_Objects_checkIndex_6 rfl rfl ?_
  refine hQ _ _ _ _ _ ?_
  exact ⟨_, rfl, rfl, rfl, rfl, rfl, rfl⟩
theorem c_ArrayList_elementData (d : Nat) {q e cp k b : Nat} {I : M32} {L : M64} {R : MR} {T : SH} (hS : LsS R T q e cp) (hk : k < cp) (hcp : cp ≤ 100000) (hb : R e k = some b) : Call m_ArrayList_elementData y_ArrayList_elementData d 0 0 [.ref q, .int (cI k)] I L R T (rO fun r I' L' R' T' => r = some b ∧ I' = I ∧ L' = L ∧ R' = R ∧ T' = T) := by
  refine Call.ofRun (by decide +kernel) ⟨rfl, rfl⟩ (Nat.le_of_ble_eq_true rfl) ?_
  refine Run.gen fun Q hQ => ?_
  refine q_aload_n d_ArrayList_elementData_0 rfl ?_
  refine q_getR d_ArrayList_elementData_1 fl_ArrayList_9 hS.1 ⟨rfl, by decide⟩ hS.2.1 ?_
  refine q_iload_n d_ArrayList_elementData_4 rfl ?_
  refine j_aald (j := k) d_ArrayList_elementData_5 hS.2.2.1 ⟨rfl, rfl⟩ hS.2.2.2 (by omega) (by omega) (by omega) (by rw [hb]; first | done | rfl) ?_
  refine q_areturn d_ArrayList_elementData_6 rfl rfl (Or.inr ⟨_, rfl⟩) ?_
  refine hQ _ _ _ _ _ ?_
  exact ⟨some b, rfl, rfl, rfl, rfl, rfl, rfl⟩
theorem c_ArrayList_get (d : Nat) {q e cp n k b : Nat} {I : M32} {L : M64} {R : MR} {T : SH} (hd : 2 ≤ d) (hS : LsS R T q e cp) (hn : I q 1 = cI n) (hk : k < n) (hnc : n ≤ cp) (hcp : cp ≤ 100000) (hb : R e k = some b) : Call m_ArrayList_get y_ArrayList_get d 0 0 [.ref q, .int (cI k)] I L R T (rO fun r I' L' R' T' => r = some b ∧ I' = I ∧ L' = L ∧ R' = R ∧ T' = T) := by
  refine Call.ofRun (by decide +kernel) ⟨rfl, rfl⟩ (Nat.le_of_ble_eq_true rfl) ?_
  refine Run.gen fun Q hQ => ?_
  refine q_iload_n d_ArrayList_get_0 rfl ?_
  refine q_aload_n d_ArrayList_get_1 rfl ?_
  refine j_getI (v := (cI (n : Int))) d_ArrayList_get_2 fl_ArrayList_48 hS.1 ⟨rfl, by decide⟩ hn ?_
  refine q_callS (rc := 0) (rs := 0) (rest := []) d_ArrayList_get_5 ml_ArrayList_118 ok_Objects_checkIndex (c_Objects_checkIndex (d - 1) (by omega) hk (by omega)) rfl rfl (by omega) (Nat.le_of_ble_eq_true rfl) (kp_I ?_) kt_I
  refine q_pop d_ArrayList_get_8 rfl ?_
  refine q_aload_n d_ArrayList_get_9 rfl ?_
  refine q_iload_n d_ArrayList_get_10 rfl ?_
  refine q_callV (ci := 7) (rc := 0) (rs := 0) (rest := []) d_ArrayList_get_11 ml_ArrayList_123 ok_ArrayList_elementData rfl hS.1 (by decide) (c_ArrayList_elementData (d - 1) hS (by omega) hcp hb) rfl rfl (by omega) (Nat.le_of_ble_eq_true rfl) (kp_O ?_) kt_O
  refine q_areturn d_ArrayList_get_14 rfl rfl (Or.inr ⟨_, rfl⟩) ?_
  refine hQ _ _ _ _ _ ?_
  exact ⟨some b, rfl, rfl, rfl, rfl, rfl, rfl⟩
theorem c_Nodes_numberAt (d : Nat) {D P q e cp n k b : Nat} {I : M32} {L : M64} {R : MR} {T : SH} (hd : 3 ≤ d) (hN : NdS R T D P) (hq : R D 11 = some q) (hS : LsS R T q e cp) (hn : I q 1 = cI n) (hk : k < n) (hnc : n ≤ cp) (hcp : cp ≤ 100000) (hb : R e k = some b) (hB : T.1 b = 0 + 1) : Call m_Nodes_numberAt y_Nodes_numberAt d 0 0 [.ref D, .int (cI k)] I L R T (rO fun r I' L' R' T' => r = some b ∧ I' = I ∧ L' = L ∧ R' = R ∧ T' = T) := by
  refine Call.ofRun (by decide) ⟨rfl, rfl⟩ (Nat.le_of_ble_eq_true rfl) ?_
  refine Run.gen fun Q hQ => ?_
  refine q_aload_n d_Nodes_numberAt_0 rfl ?_
  refine q_getR d_Nodes_numberAt_1 fl_Nodes_50 hN.1 ⟨rfl, by decide⟩ hq ?_
  refine q_iload_n d_Nodes_numberAt_4 rfl ?_
  refine q_callV (ci := 7) (rc := 0) (rs := 0) (rest := []) d_Nodes_numberAt_5 ml_Nodes_69 ok_ArrayList_get rfl hS.1 (by decide) (c_ArrayList_get (d - 1) (by omega) hS hn hk hnc hcp hb) rfl rfl (by omega) (Nat.le_of_ble_eq_true rfl) (kp_O ?_) kt_O
  refine q_cast (ci := 0) d_Nodes_numberAt_8 (inT4 208 rfl) rfl hB (by decide) ?_
  refine q_areturn d_Nodes_numberAt_11 rfl rfl (Or.inr ⟨_, rfl⟩) ?_
  refine hQ _ _ _ _ _ ?_
  exact ⟨some b, rfl, rfl, rfl, rfl, rfl, rfl⟩

