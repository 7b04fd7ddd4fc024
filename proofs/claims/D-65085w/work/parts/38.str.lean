/-! ===== 38 STRING CONSTANTS ===== -/
theorem d_String_length_0 : decode m_String_length.2.1 0 = .ok (.aload_n 0, 1) := by decide +kernel
theorem d_String_length_1 : decode m_String_length.2.1 1 = .ok (.getfield 9, 3) := by decide +kernel
theorem d_String_length_4 : decode m_String_length.2.1 4 = .ok (.arraylength, 1) := by decide +kernel
theorem d_String_length_5 : decode m_String_length.2.1 5 = .ok (.aload_n 0, 1) := by decide +kernel
theorem d_String_length_6 : decode m_String_length.2.1 6 = .ok (.invokevirtual 335, 3) := by decide +kernel
theorem d_String_length_9 : decode m_String_length.2.1 9 = .ok (.ishr, 1) := by decide +kernel
theorem d_String_length_10 : decode m_String_length.2.1 10 = .ok (.ireturn, 1) := by decide +kernel
theorem d_String_coder_0 : decode m_String_coder.2.1 0 = .ok (.getstatic 38, 3) := by decide +kernel
theorem d_String_coder_3 : decode m_String_coder.2.1 3 = .ok (.ifCond .eq 10, 3) := by decide +kernel
theorem d_String_coder_6 : decode m_String_coder.2.1 6 = .ok (.aload_n 0, 1) := by decide +kernel
theorem d_String_coder_7 : decode m_String_coder.2.1 7 = .ok (.getfield 15, 3) := by decide +kernel
theorem d_String_coder_10 : decode m_String_coder.2.1 10 = .ok (.goto 4, 3) := by decide +kernel
theorem d_String_coder_13 : decode m_String_coder.2.1 13 = .ok (.iconst 1, 1) := by decide +kernel
theorem d_String_coder_14 : decode m_String_coder.2.1 14 = .ok (.ireturn, 1) := by decide +kernel
theorem d_String_isLatin1_0 : decode m_String_isLatin1.2.1 0 = .ok (.getstatic 38, 3) := by decide +kernel
theorem d_String_isLatin1_3 : decode m_String_isLatin1.2.1 3 = .ok (.ifCond .eq 14, 3) := by decide +kernel
theorem d_String_isLatin1_6 : decode m_String_isLatin1.2.1 6 = .ok (.aload_n 0, 1) := by decide +kernel
theorem d_String_isLatin1_7 : decode m_String_isLatin1.2.1 7 = .ok (.getfield 15, 3) := by decide +kernel
theorem d_String_isLatin1_10 : decode m_String_isLatin1.2.1 10 = .ok (.ifCond .ne 7, 3) := by decide +kernel
theorem d_String_isLatin1_13 : decode m_String_isLatin1.2.1 13 = .ok (.iconst 1, 1) := by decide +kernel
theorem d_String_isLatin1_14 : decode m_String_isLatin1.2.1 14 = .ok (.goto 4, 3) := by decide +kernel
theorem d_String_isLatin1_17 : decode m_String_isLatin1.2.1 17 = .ok (.iconst 0, 1) := by decide +kernel
theorem d_String_isLatin1_18 : decode m_String_isLatin1.2.1 18 = .ok (.ireturn, 1) := by decide +kernel
theorem d_String_charAt_0 : decode m_String_charAt.2.1 0 = .ok (.aload_n 0, 1) := by decide +kernel
theorem d_String_charAt_1 : decode m_String_charAt.2.1 1 = .ok (.invokevirtual 492, 3) := by decide +kernel
theorem d_String_charAt_4 : decode m_String_charAt.2.1 4 = .ok (.ifCond .eq 12, 3) := by decide +kernel
theorem d_String_charAt_7 : decode m_String_charAt.2.1 7 = .ok (.aload_n 0, 1) := by decide +kernel
theorem d_String_charAt_8 : decode m_String_charAt.2.1 8 = .ok (.getfield 9, 3) := by decide +kernel
theorem d_String_charAt_11 : decode m_String_charAt.2.1 11 = .ok (.iload_n 1, 1) := by decide +kernel
theorem d_String_charAt_12 : decode m_String_charAt.2.1 12 = .ok (.invokestatic 495, 3) := by decide +kernel
theorem d_String_charAt_15 : decode m_String_charAt.2.1 15 = .ok (.ireturn, 1) := by decide +kernel
theorem d_String_charAt_16 : decode m_String_charAt.2.1 16 = .ok (.aload_n 0, 1) := by decide +kernel
theorem d_String_charAt_17 : decode m_String_charAt.2.1 17 = .ok (.getfield 9, 3) := by decide +kernel
theorem d_String_charAt_20 : decode m_String_charAt.2.1 20 = .ok (.iload_n 1, 1) := by decide +kernel
theorem d_String_charAt_21 : decode m_String_charAt.2.1 21 = .ok (.invokestatic 498, 3) := by decide +kernel
theorem d_String_charAt_24 : decode m_String_charAt.2.1 24 = .ok (.ireturn, 1) := by decide +kernel
theorem d_StringLatin1_charAt_0 : decode m_StringLatin1_charAt.2.1 0 = .ok (.iload_n 1, 1) := by decide +kernel
theorem d_StringLatin1_charAt_1 : decode m_StringLatin1_charAt.2.1 1 = .ok (.aload_n 0, 1) := by decide +kernel
theorem d_StringLatin1_charAt_2 : decode m_StringLatin1_charAt.2.1 2 = .ok (.arraylength, 1) := by decide +kernel
theorem d_StringLatin1_charAt_3 : decode m_StringLatin1_charAt.2.1 3 = .ok (.invokestatic 9, 3) := by decide +kernel
theorem d_StringLatin1_charAt_6 : decode m_StringLatin1_charAt.2.1 6 = .ok (.aload_n 0, 1) := by decide +kernel
theorem d_StringLatin1_charAt_7 : decode m_StringLatin1_charAt.2.1 7 = .ok (.iload_n 1, 1) := by decide +kernel
theorem d_StringLatin1_charAt_8 : decode m_StringLatin1_charAt.2.1 8 = .ok (.baload, 1) := by decide +kernel
theorem d_StringLatin1_charAt_9 : decode m_StringLatin1_charAt.2.1 9 = .ok (.sipush 255, 3) := by decide +kernel
theorem d_StringLatin1_charAt_12 : decode m_StringLatin1_charAt.2.1 12 = .ok (.iand, 1) := by decide +kernel
theorem d_StringLatin1_charAt_13 : decode m_StringLatin1_charAt.2.1 13 = .ok (.i2c, 1) := by decide +kernel
theorem d_StringLatin1_charAt_14 : decode m_StringLatin1_charAt.2.1 14 = .ok (.ireturn, 1) := by decide +kernel
theorem d_String_checkIndex_0 : decode m_String_checkIndex.2.1 0 = .ok (.iload_n 0, 1) := by decide +kernel
theorem d_String_checkIndex_1 : decode m_String_checkIndex.2.1 1 = .ok (.iload_n 1, 1) := by decide +kernel
theorem d_String_checkIndex_2 : decode m_String_checkIndex.2.1 2 = .ok (.getstatic 1053, 3) := by decide +kernel
theorem d_String_checkIndex_5 : decode m_String_checkIndex.2.1 5 = .ok (.invokestatic 1059, 3) := by decide +kernel
theorem d_String_checkIndex_8 : decode m_String_checkIndex.2.1 8 = .ok (.pop, 1) := by decide +kernel
theorem d_String_checkIndex_9 : decode m_String_checkIndex.2.1 9 = .ok (.return_, 1) := by decide +kernel
theorem d_Preconditions_checkIndex_0 : decode m_Preconditions_checkIndex.2.1 0 = .ok (.iload_n 0, 1) := by decide +kernel
theorem d_Preconditions_checkIndex_1 : decode m_Preconditions_checkIndex.2.1 1 = .ok (.ifCond .lt 8, 3) := by decide +kernel
theorem d_Preconditions_checkIndex_4 : decode m_Preconditions_checkIndex.2.1 4 = .ok (.iload_n 0, 1) := by decide +kernel
theorem d_Preconditions_checkIndex_5 : decode m_Preconditions_checkIndex.2.1 5 = .ok (.iload_n 1, 1) := by decide +kernel
theorem d_Preconditions_checkIndex_6 : decode m_Preconditions_checkIndex.2.1 6 = .ok (.if_icmp .lt 10, 3) := by decide +kernel
theorem d_Preconditions_checkIndex_9 : decode m_Preconditions_checkIndex.2.1 9 = .ok (.aload_n 2, 1) := by decide +kernel
theorem d_Preconditions_checkIndex_10 : decode m_Preconditions_checkIndex.2.1 10 = .ok (.iload_n 0, 1) := by decide +kernel
theorem d_Preconditions_checkIndex_11 : decode m_Preconditions_checkIndex.2.1 11 = .ok (.iload_n 1, 1) := by decide +kernel
theorem d_Preconditions_checkIndex_12 : decode m_Preconditions_checkIndex.2.1 12 = .ok (.invokestatic 95, 3) := by decide +kernel
theorem d_Preconditions_checkIndex_15 : decode m_Preconditions_checkIndex.2.1 15 = .ok (.athrow, 1) := by decide +kernel
theorem d_Preconditions_checkIndex_16 : decode m_Preconditions_checkIndex.2.1 16 = .ok (.iload_n 0, 1) := by decide +kernel
theorem d_Preconditions_checkIndex_17 : decode m_Preconditions_checkIndex.2.1 17 = .ok (.ireturn, 1) := by decide +kernel
/-- the String constant i stands at a, its bytes at p: n of them, told by f -/
def StrC (I : M32) (R : MR) (T : SH) (i a p n : Nat) (f : Nat → Nat) : Prop := (∃ r, xsc[i]? = some r) ∧ R 0 (10 + i) = some a ∧ R 0 (20 + i) = some p ∧ T.1 p = 21 + 64 ∧ T.2.1 p = n ∧ n ≤ 1000 ∧ ∀ j, j < n → f j < 128 ∧ I p j = cI (f j)
section
variable {Y : MI} {d rc rs pc : Nat} {lv : List (Nat × Value)} {st : List Value} {I : M32} {L : M64} {R : MR} {T : SH} {Q : QT}
theorem kp_V {rest : List Value} (k : Run Y d rc rs pc lv rest I L R T Q) : ∀ v I' L' R' T', (rV fun I' L' R' T' => I' = I ∧ L' = L ∧ R' = R ∧ T' = T) (.returned v) I' L' R' T' → Run Y d rc rs pc lv (v.toList ++ rest) I' L' R' T' Q := by
  rintro v I' L' R' T' ⟨h, rfl, rfl, rfl, rfl⟩
  cases h
  exact k
theorem j_baldX {a j n : Nat} {z : Int} {v : Int32} (hd : decode Y.2.1 pc = .ok (.baload, 1)) (ht : T.1 a = 85) (hn : T.2.1 a = n) (hz : z = (j : Int)) (hj : j < n) (hm : n ≤ 2147483647) (hv : I a j = v) (kk : Run Y d rc rs (pc + 1) lv (.int v :: st) I L R T Q) : Run Y d rc rs pc lv (.int (cI z) :: .ref a :: st) I L R T Q := by
  obtain ⟨h1, h2⟩ := cI_inB hz hj hm
  exact q_baldX hd ht (by rw [hn]; exact h1) (by rw [h2, hv]; exact kk)
end
theorem c_String_coder (d : Nat) {i a p n : Nat} {f : Nat → Nat} {I : M32} {L : M64} {R : MR} {T : SH} (hS : StrC I R T i a p n f) : Call m_String_coder y_String_coder d 0 0 [.ref a] I L R T (rI fun r I' L' R' T' => r = cI 0 ∧ I' = I ∧ L' = L ∧ R' = R ∧ T' = T) := by
  refine Call.ofRun (by decide +kernel) ⟨rfl, rfl⟩ (Nat.le_of_ble_eq_true rfl) ?_
  refine Run.gen fun Q hQ => ?_
  obtain ⟨⟨r, hi⟩, ha, hp, ht, hn, hn9, hf⟩ := hS
  refine q_compact d_String_coder_0 (inT1 60 rfl) ?_
  refine j_if_eq (tgt := 13) d_String_coder_3 (by decide) (by omega) (fun hx => by exfalso; omega) (fun hx => ?_)
  refine q_aload_n d_String_coder_6 rfl ?_
  refine q_strF (i := i) (n := "coder") (D := "B") d_String_coder_7 (inT14 122 rfl) hi ha (Or.inl ⟨rfl, rfl, rfl⟩) ?_
  refine q_goto (tgt := 14) d_String_coder_10 (by decide) ?_
  refine q_ireturn d_String_coder_14 rfl rfl ?_
  exact hQ _ _ _ _ _ ⟨_, rfl, rfl, rfl, rfl, rfl, rfl⟩
theorem c_String_isLatin1 (d : Nat) {i a p n : Nat} {f : Nat → Nat} {I : M32} {L : M64} {R : MR} {T : SH} (hS : StrC I R T i a p n f) : Call m_String_isLatin1 y_String_isLatin1 d 0 0 [.ref a] I L R T (rI fun r I' L' R' T' => r = cI 1 ∧ I' = I ∧ L' = L ∧ R' = R ∧ T' = T) := by
  refine Call.ofRun (by decide +kernel) ⟨rfl, rfl⟩ (Nat.le_of_ble_eq_true rfl) ?_
  refine Run.gen fun Q hQ => ?_
  obtain ⟨⟨r, hi⟩, ha, hp, ht, hn, hn9, hf⟩ := hS
  refine q_compact d_String_isLatin1_0 (inT1 60 rfl) ?_
  refine j_if_eq (tgt := 17) d_String_isLatin1_3 (by decide) (by omega) (fun hx => by exfalso; omega) (fun hx => ?_)
  refine q_aload_n d_String_isLatin1_6 rfl ?_
  refine q_strF (i := i) (n := "coder") (D := "B") d_String_isLatin1_7 (inT14 122 rfl) hi ha (Or.inl ⟨rfl, rfl, rfl⟩) ?_
  refine j_if_ne (tgt := 17) d_String_isLatin1_10 (by decide) (by omega) (fun hx => by exfalso; omega) (fun hx => ?_)
  refine j_iconst d_String_isLatin1_13 ?_
  refine q_goto (tgt := 18) d_String_isLatin1_14 (by decide) ?_
  refine q_ireturn d_String_isLatin1_18 rfl (narrow_z (Or.inr rfl)).1 ?_
  refine hQ _ _ _ _ _ ?_
  exact ⟨_, rfl, rfl, rfl, rfl, rfl, rfl⟩
theorem c_String_length (d : Nat) {i a p n : Nat} {f : Nat → Nat} {I : M32} {L : M64} {R : MR} {T : SH} (hd : 1 ≤ d) (hS : StrC I R T i a p n f) : Call m_String_length y_String_length d 0 0 [.ref a] I L R T (rI fun r I' L' R' T' => r = cI n ∧ I' = I ∧ L' = L ∧ R' = R ∧ T' = T) := by
  refine Call.ofRun (by decide +kernel) ⟨rfl, rfl⟩ (Nat.le_of_ble_eq_true rfl) ?_
  refine Run.gen fun Q hQ => ?_
  obtain ⟨⟨r, hi⟩, ha, hp, ht, hn, hn9, hf⟩ := id hS
  refine q_aload_n d_String_length_0 rfl ?_
  refine q_strF (i := i) (n := "value") (D := "[B") (v := .ref p) d_String_length_1 (inT14 121 rfl) hi ha (Or.inr ⟨rfl, rfl, by rw [hp]; rfl⟩) ?_
  refine j_alen (n := n) d_String_length_4 ht hn ?_
  refine q_aload_n d_String_length_5 rfl ?_
  refine q_callVS (i := i) (rc := 0) (rs := 0) (rest := [.int (cI (n : Int))]) d_String_length_6 ml_String_335 ok_String_coder rfl hi ha (c_String_coder (d - 1) hS) rfl rfl (by omega) (Nat.le_of_ble_eq_true rfl) (kp_I ?_) kt_I
  refine q_ishr d_String_length_9 ?_
  refine Run.top (v := .int (cI (n : Int))) (by congr 1; show cI (n : Int) >>> ((0 : Int32) &&& 31) = _; rw [show cI (n : Int) = nI n by show Int32.ofInt n = Int32.ofNat n; rw [Int32.ofInt_eq_ofNat]]; exact sc_shr0 (by omega)) ?_
  refine q_ireturn d_String_length_10 rfl rfl ?_
  refine hQ _ _ _ _ _ ?_
  exact ⟨_, rfl, rfl, rfl, rfl, rfl, rfl⟩
theorem c_Preconditions_checkIndex (d : Nat) {j n : Nat} {o : Option Nat} {I : M32} {L : M64} {R : MR} {T : SH} (hj : j < n) (hn : n ≤ 2147483647) : Call m_Preconditions_checkIndex y_Preconditions_checkIndex d 0 0 [.int (cI j), .int (cI n), va_rf o] I L R T (rI fun r I' L' R' T' => r = cI j ∧ I' = I ∧ L' = L ∧ R' = R ∧ T' = T) := by
  refine Call.ofRun (by decide +kernel) ⟨rfl, rfl⟩ ?_ ?_
  · cases o <;> exact Nat.le_of_ble_eq_true rfl
  have hlv : lv_args 0 [Value.int (cI j), .int (cI n), va_rf o] = [(0, .int (cI j)), (1, .int (cI n)), (2, va_rf o)] := by cases o <;> rfl
  rw [hlv]
  refine Run.gen fun Q hQ => ?_
  refine q_iload_n d_Preconditions_checkIndex_0 rfl ?_
  refine j_if_lt (tgt := 9) d_Preconditions_checkIndex_1 (by decide) (by omega) (fun hx => by exfalso; omega) (fun hx => ?_)
  refine q_iload_n d_Preconditions_checkIndex_4 rfl ?_
  refine q_iload_n d_Preconditions_checkIndex_5 rfl ?_
  refine j_icmp_lt (tgt := 16) d_Preconditions_checkIndex_6 (by decide) (by omega) (by omega) (fun hx => ?_) (fun hx => by exfalso; omega)
  refine q_iload_n d_Preconditions_checkIndex_16 rfl ?_
  refine q_ireturn d_Preconditions_checkIndex_17 rfl rfl ?_
  refine hQ _ _ _ _ _ ?_
  exact ⟨_, rfl, rfl, rfl, rfl, rfl, rfl⟩
theorem c_String_checkIndex (d : Nat) {j n : Nat} {I : M32} {L : M64} {R : MR} {T : SH} (hd : 1 ≤ d) (hj : j < n) (hn : n ≤ 2147483647) : Call m_String_checkIndex y_String_checkIndex d 0 0 [.int (cI j), .int (cI n)] I L R T (rV fun I' L' R' T' => I' = I ∧ L' = L ∧ R' = R ∧ T' = T) := by
  refine Call.ofRun (by decide +kernel) ⟨rfl, rfl⟩ (Nat.le_of_ble_eq_true rfl) ?_
  refine Run.gen fun Q hQ => ?_
  refine q_iload_n d_String_checkIndex_0 rfl ?_
  refine q_iload_n d_String_checkIndex_1 rfl ?_
  refine q_gets (k := 3) d_String_checkIndex_2 (inT1 76 rfl) (List.mem_of_getElem? (i := 3) rfl) ?_
  refine q_callS (rc := 0) (rs := 0) (rest := []) d_String_checkIndex_5 ml_String_1059 ok_Preconditions_checkIndex (c_Preconditions_checkIndex (d - 1) hj hn) rfl rfl (by omega) (Nat.le_of_ble_eq_true rfl) (kp_I ?_) kt_I
  refine q_pop d_String_checkIndex_8 rfl ?_
  refine q_return d_String_checkIndex_9 rfl ?_
  refine hQ _ _ _ _ _ ?_
  exact ⟨rfl, rfl, rfl, rfl, rfl⟩
theorem c_StringLatin1_charAt (d : Nat) {i a p n j : Nat} {f : Nat → Nat} {I : M32} {L : M64} {R : MR} {T : SH} (hd : 2 ≤ d) (hS : StrC I R T i a p n f) (hj : j < n) : Call m_StringLatin1_charAt y_StringLatin1_charAt d 0 0 [.ref p, .int (cI j)] I L R T (rI fun r I' L' R' T' => r = cI (f j) ∧ I' = I ∧ L' = L ∧ R' = R ∧ T' = T) := by
  refine Call.ofRun (by decide +kernel) ⟨rfl, rfl⟩ (Nat.le_of_ble_eq_true rfl) ?_
  refine Run.gen fun Q hQ => ?_
  obtain ⟨⟨r, hi⟩, ha, hp, ht, hn, hn9, hf⟩ := id hS
  have hf' := hf j hj
  refine q_iload_n d_StringLatin1_charAt_0 rfl ?_
  refine q_aload_n d_StringLatin1_charAt_1 rfl ?_
  refine j_alen (n := n) d_StringLatin1_charAt_2 ht hn ?_
  refine q_callS (rc := 0) (rs := 0) (rest := []) d_StringLatin1_charAt_3 ml_StringLatin1_9 ok_String_checkIndex (c_String_checkIndex (d - 1) (by omega) hj (by omega)) rfl rfl (by omega) (Nat.le_of_ble_eq_true rfl) (kp_V ?_) kt_V
  refine q_aload_n d_StringLatin1_charAt_6 rfl ?_
  refine q_iload_n d_StringLatin1_charAt_7 rfl ?_
  refine j_baldX (j := j) (v := (cI (f j : Int))) d_StringLatin1_charAt_8 ht hn (by omega) (by omega) (by omega) hf'.2 ?_
  refine j_sipush d_StringLatin1_charAt_9 (by decide) ?_
  refine q_iand d_StringLatin1_charAt_12 ?_
  refine Run.top (v := .int (cI (f j : Int))) (by congr 1; rw [show (cI (f j : Int)) = nI (f j) by show Int32.ofInt _ = Int32.ofNat _; rw [Int32.ofInt_eq_ofNat]]; exact (pk_andN (n := f j) (by omega) (m := cI 255) 8 (by decide)).trans (by rw [Nat.mod_eq_of_lt (by omega)])) ?_
  refine q_i2c d_StringLatin1_charAt_13 (v := cI (f j : Int)) (by rw [show (cI (f j : Int)) = nI (f j) by show Int32.ofInt _ = Int32.ofNat _; rw [Int32.ofInt_eq_ofNat]]; rw [pk_char, pk_tn (by omega), Nat.mod_eq_of_lt (by omega)]) ?_
  refine q_ireturn d_StringLatin1_charAt_14 rfl (by rw [show (cI (f j : Int)) = nI (f j) by show Int32.ofInt _ = Int32.ofNat _; rw [Int32.ofInt_eq_ofNat]]; exact (pk_charN (by omega)).1) ?_
  exact hQ _ _ _ _ _ ⟨_, rfl, rfl, rfl, rfl, rfl, rfl⟩
theorem c_String_charAt (d : Nat) {i a p n j : Nat} {f : Nat → Nat} {I : M32} {L : M64} {R : MR} {T : SH} (hd : 3 ≤ d) (hS : StrC I R T i a p n f) (hj : j < n) : Call m_String_charAt y_String_charAt d 0 0 [.ref a, .int (cI j)] I L R T (rI fun r I' L' R' T' => r = cI (f j) ∧ I' = I ∧ L' = L ∧ R' = R ∧ T' = T) := by
  refine Call.ofRun (by decide +kernel) ⟨rfl, rfl⟩ (Nat.le_of_ble_eq_true rfl) ?_
  refine Run.gen fun Q hQ => ?_
  obtain ⟨⟨r, hi⟩, ha, hp, ht, hn, hn9, hf⟩ := id hS
  have hf' := hf j hj
  refine q_aload_n d_String_charAt_0 rfl ?_
  refine q_callVS (i := i) (rc := 0) (rs := 0) (rest := []) d_String_charAt_1 ml_String_492 ok_String_isLatin1 rfl hi ha (c_String_isLatin1 (d - 1) hS) rfl rfl (by omega) (Nat.le_of_ble_eq_true rfl) (kp_I ?_) kt_I
  refine j_if_eq (tgt := 16) d_String_charAt_4 (by decide) (by omega) (fun hx => by exfalso; omega) (fun hx => ?_)
  refine q_aload_n d_String_charAt_7 rfl ?_
  refine q_strF (i := i) (n := "value") (D := "[B") (v := .ref p) d_String_charAt_8 (inT14 121 rfl) hi ha (Or.inr ⟨rfl, rfl, by rw [hp]; rfl⟩) ?_
  refine q_iload_n d_String_charAt_11 rfl ?_
  refine q_callS (rc := 0) (rs := 0) (rest := []) d_String_charAt_12 ml_String_495 ok_StringLatin1_charAt (c_StringLatin1_charAt (d - 1) (by omega) hS hj) rfl rfl (by omega) (Nat.le_of_ble_eq_true rfl) (kp_I ?_) kt_I
  refine q_ireturn d_String_charAt_15 rfl (by rw [show (cI (f j : Int)) = nI (f j) by show Int32.ofInt _ = Int32.ofNat _; rw [Int32.ofInt_eq_ofNat]]; exact (pk_charN (by omega)).1) ?_
  exact hQ _ _ _ _ _ ⟨_, rfl, rfl, rfl, rfl, rfl, rfl⟩

