/-! ===== 65 THE REFERENCE: readNext ===== -/
theorem d_Model_readNext_0 : decode m_Model_readNext.2.1 0 = .ok (.aload_n 0, 1) := by decide +kernel
theorem d_Model_readNext_1 : decode m_Model_readNext.2.1 1 = .ok (.dup, 1) := by decide +kernel
theorem d_Model_readNext_2 : decode m_Model_readNext.2.1 2 = .ok (.getfield 582, 3) := by decide +kernel
theorem d_Model_readNext_5 : decode m_Model_readNext.2.1 5 = .ok (.iconst 1, 1) := by decide +kernel
theorem d_Model_readNext_6 : decode m_Model_readNext.2.1 6 = .ok (.isub, 1) := by decide +kernel
theorem d_Model_readNext_7 : decode m_Model_readNext.2.1 7 = .ok (.putfield 582, 3) := by decide +kernel
theorem d_Model_readNext_10 : decode m_Model_readNext.2.1 10 = .ok (.aload_n 0, 1) := by decide +kernel
theorem d_Model_readNext_11 : decode m_Model_readNext.2.1 11 = .ok (.getfield 73, 3) := by decide +kernel
theorem d_Model_readNext_14 : decode m_Model_readNext.2.1 14 = .ok (.aload_n 0, 1) := by decide +kernel
theorem d_Model_readNext_15 : decode m_Model_readNext.2.1 15 = .ok (.getfield 582, 3) := by decide +kernel
theorem d_Model_readNext_18 : decode m_Model_readNext.2.1 18 = .ok (.iaload, 1) := by decide +kernel
theorem d_Model_readNext_19 : decode m_Model_readNext.2.1 19 = .ok (.istore_n 1, 1) := by decide +kernel
theorem d_Model_readNext_20 : decode m_Model_readNext.2.1 20 = .ok (.aload_n 0, 1) := by decide +kernel
theorem d_Model_readNext_21 : decode m_Model_readNext.2.1 21 = .ok (.getfield 76, 3) := by decide +kernel
theorem d_Model_readNext_24 : decode m_Model_readNext.2.1 24 = .ok (.aload_n 0, 1) := by decide +kernel
theorem d_Model_readNext_25 : decode m_Model_readNext.2.1 25 = .ok (.getfield 582, 3) := by decide +kernel
theorem d_Model_readNext_28 : decode m_Model_readNext.2.1 28 = .ok (.iaload, 1) := by decide +kernel
theorem d_Model_readNext_29 : decode m_Model_readNext.2.1 29 = .ok (.istore_n 2, 1) := by decide +kernel
theorem d_Model_readNext_30 : decode m_Model_readNext.2.1 30 = .ok (.aload_n 0, 1) := by decide +kernel
theorem d_Model_readNext_31 : decode m_Model_readNext.2.1 31 = .ok (.getfield 79, 3) := by decide +kernel
theorem d_Model_readNext_34 : decode m_Model_readNext.2.1 34 = .ok (.aload_n 0, 1) := by decide +kernel
theorem d_Model_readNext_35 : decode m_Model_readNext.2.1 35 = .ok (.getfield 582, 3) := by decide +kernel
theorem d_Model_readNext_38 : decode m_Model_readNext.2.1 38 = .ok (.iaload, 1) := by decide +kernel
theorem d_Model_readNext_39 : decode m_Model_readNext.2.1 39 = .ok (.istore_n 3, 1) := by decide +kernel
theorem d_Model_readNext_40 : decode m_Model_readNext.2.1 40 = .ok (.aload_n 0, 1) := by decide +kernel
theorem d_Model_readNext_41 : decode m_Model_readNext.2.1 41 = .ok (.getfield 82, 3) := by decide +kernel
theorem d_Model_readNext_44 : decode m_Model_readNext.2.1 44 = .ok (.aload_n 0, 1) := by decide +kernel
theorem d_Model_readNext_45 : decode m_Model_readNext.2.1 45 = .ok (.getfield 582, 3) := by decide +kernel
theorem d_Model_readNext_48 : decode m_Model_readNext.2.1 48 = .ok (.iaload, 1) := by decide +kernel
theorem d_Model_readNext_49 : decode m_Model_readNext.2.1 49 = .ok (.istore 4, 2) := by decide +kernel
theorem d_Model_readNext_51 : decode m_Model_readNext.2.1 51 = .ok (.aload_n 0, 1) := by decide +kernel
theorem d_Model_readNext_52 : decode m_Model_readNext.2.1 52 = .ok (.invokevirtual 579, 3) := by decide +kernel
theorem d_Model_readNext_55 : decode m_Model_readNext.2.1 55 = .ok (.iload_n 1, 1) := by decide +kernel
theorem d_Model_readNext_56 : decode m_Model_readNext.2.1 56 = .ok (.iconst 3, 1) := by decide +kernel
theorem d_Model_readNext_57 : decode m_Model_readNext.2.1 57 = .ok (.if_icmp .gt 33, 3) := by decide +kernel
theorem d_Model_readNext_60 : decode m_Model_readNext.2.1 60 = .ok (.aload_n 0, 1) := by decide +kernel
theorem d_Model_readNext_61 : decode m_Model_readNext.2.1 61 = .ok (.getfield 550, 3) := by decide +kernel
theorem d_Model_readNext_64 : decode m_Model_readNext.2.1 64 = .ok (.iconst 5, 1) := by decide +kernel
theorem d_Model_readNext_65 : decode m_Model_readNext.2.1 65 = .ok (.if_icmp .ne 25, 3) := by decide +kernel
theorem d_Model_readNext_68 : decode m_Model_readNext.2.1 68 = .ok (.aload_n 0, 1) := by decide +kernel
theorem d_Model_readNext_69 : decode m_Model_readNext.2.1 69 = .ok (.invokevirtual 608, 3) := by decide +kernel
theorem d_Model_readNext_72 : decode m_Model_readNext.2.1 72 = .ok (.aload_n 0, 1) := by decide +kernel
theorem d_Model_readNext_73 : decode m_Model_readNext.2.1 73 = .ok (.iconst 5, 1) := by decide +kernel
theorem d_Model_readNext_74 : decode m_Model_readNext.2.1 74 = .ok (.iconst (-1), 1) := by decide +kernel
theorem d_Model_readNext_75 : decode m_Model_readNext.2.1 75 = .ok (.iconst 0, 1) := by decide +kernel
theorem d_Model_readNext_76 : decode m_Model_readNext.2.1 76 = .ok (.iconst 0, 1) := by decide +kernel
theorem d_Model_readNext_77 : decode m_Model_readNext.2.1 77 = .ok (.invokevirtual 611, 3) := by decide +kernel
theorem d_Model_readNext_80 : decode m_Model_readNext.2.1 80 = .ok (.aload_n 0, 1) := by decide +kernel
theorem d_Model_readNext_81 : decode m_Model_readNext.2.1 81 = .ok (.iload_n 1, 1) := by decide +kernel
theorem d_Model_readNext_82 : decode m_Model_readNext.2.1 82 = .ok (.iload_n 2, 1) := by decide +kernel
theorem d_Model_readNext_83 : decode m_Model_readNext.2.1 83 = .ok (.iload_n 3, 1) := by decide +kernel
theorem d_Model_readNext_84 : decode m_Model_readNext.2.1 84 = .ok (.iload 4, 2) := by decide +kernel
theorem d_Model_readNext_86 : decode m_Model_readNext.2.1 86 = .ok (.invokevirtual 611, 3) := by decide +kernel
theorem d_Model_readNext_89 : decode m_Model_readNext.2.1 89 = .ok (.return_, 1) := by decide +kernel
theorem d_Model_readNext_90 : decode m_Model_readNext.2.1 90 = .ok (.iload_n 1, 1) := by decide +kernel
theorem d_Model_readNext_91 : decode m_Model_readNext.2.1 91 = .ok (.tableswitch 154 1 13 #[65, 76, 87, 98, 154, 154, 154, 107, 118, 126, 154, 136, 145], 65) := by decide +kernel
theorem d_Model_readNext_156 : decode m_Model_readNext.2.1 156 = .ok (.aload_n 0, 1) := by decide +kernel
theorem d_Model_readNext_157 : decode m_Model_readNext.2.1 157 = .ok (.iload_n 2, 1) := by decide +kernel
theorem d_Model_readNext_158 : decode m_Model_readNext.2.1 158 = .ok (.iload_n 3, 1) := by decide +kernel
theorem d_Model_readNext_159 : decode m_Model_readNext.2.1 159 = .ok (.iload 4, 2) := by decide +kernel
theorem d_Model_readNext_161 : decode m_Model_readNext.2.1 161 = .ok (.invokevirtual 636, 3) := by decide +kernel
theorem d_Model_readNext_164 : decode m_Model_readNext.2.1 164 = .ok (.goto 87, 3) := by decide +kernel
theorem d_Model_readNext_167 : decode m_Model_readNext.2.1 167 = .ok (.aload_n 0, 1) := by decide +kernel
theorem d_Model_readNext_168 : decode m_Model_readNext.2.1 168 = .ok (.iload_n 2, 1) := by decide +kernel
theorem d_Model_readNext_169 : decode m_Model_readNext.2.1 169 = .ok (.iload_n 3, 1) := by decide +kernel
theorem d_Model_readNext_170 : decode m_Model_readNext.2.1 170 = .ok (.iload 4, 2) := by decide +kernel
theorem d_Model_readNext_172 : decode m_Model_readNext.2.1 172 = .ok (.invokevirtual 639, 3) := by decide +kernel
theorem d_Model_readNext_175 : decode m_Model_readNext.2.1 175 = .ok (.goto 76, 3) := by decide +kernel
theorem d_Model_readNext_178 : decode m_Model_readNext.2.1 178 = .ok (.aload_n 0, 1) := by decide +kernel
theorem d_Model_readNext_179 : decode m_Model_readNext.2.1 179 = .ok (.iload_n 2, 1) := by decide +kernel
theorem d_Model_readNext_180 : decode m_Model_readNext.2.1 180 = .ok (.iload_n 3, 1) := by decide +kernel
theorem d_Model_readNext_181 : decode m_Model_readNext.2.1 181 = .ok (.iload 4, 2) := by decide +kernel
theorem d_Model_readNext_183 : decode m_Model_readNext.2.1 183 = .ok (.invokevirtual 642, 3) := by decide +kernel
theorem d_Model_readNext_186 : decode m_Model_readNext.2.1 186 = .ok (.goto 65, 3) := by decide +kernel
theorem d_Model_readNext_189 : decode m_Model_readNext.2.1 189 = .ok (.aload_n 0, 1) := by decide +kernel
theorem d_Model_readNext_190 : decode m_Model_readNext.2.1 190 = .ok (.iload_n 2, 1) := by decide +kernel
theorem d_Model_readNext_191 : decode m_Model_readNext.2.1 191 = .ok (.iload_n 3, 1) := by decide +kernel
theorem d_Model_readNext_192 : decode m_Model_readNext.2.1 192 = .ok (.invokevirtual 645, 3) := by decide +kernel
theorem d_Model_readNext_195 : decode m_Model_readNext.2.1 195 = .ok (.goto 56, 3) := by decide +kernel
theorem d_Model_readNext_198 : decode m_Model_readNext.2.1 198 = .ok (.aload_n 0, 1) := by decide +kernel
theorem d_Model_readNext_199 : decode m_Model_readNext.2.1 199 = .ok (.iload_n 2, 1) := by decide +kernel
theorem d_Model_readNext_200 : decode m_Model_readNext.2.1 200 = .ok (.iload_n 3, 1) := by decide +kernel
theorem d_Model_readNext_201 : decode m_Model_readNext.2.1 201 = .ok (.iload 4, 2) := by decide +kernel
theorem d_Model_readNext_203 : decode m_Model_readNext.2.1 203 = .ok (.invokevirtual 649, 3) := by decide +kernel
theorem d_Model_readNext_206 : decode m_Model_readNext.2.1 206 = .ok (.goto 45, 3) := by decide +kernel
theorem d_Model_readNext_209 : decode m_Model_readNext.2.1 209 = .ok (.aload_n 0, 1) := by decide +kernel
theorem d_Model_readNext_210 : decode m_Model_readNext.2.1 210 = .ok (.iload_n 2, 1) := by decide +kernel
theorem d_Model_readNext_211 : decode m_Model_readNext.2.1 211 = .ok (.invokevirtual 652, 3) := by decide +kernel
theorem d_Model_readNext_214 : decode m_Model_readNext.2.1 214 = .ok (.goto 37, 3) := by decide +kernel
theorem d_Model_readNext_217 : decode m_Model_readNext.2.1 217 = .ok (.aload_n 0, 1) := by decide +kernel
theorem d_Model_readNext_218 : decode m_Model_readNext.2.1 218 = .ok (.iload_n 2, 1) := by decide +kernel
theorem d_Model_readNext_219 : decode m_Model_readNext.2.1 219 = .ok (.iload 4, 2) := by decide +kernel
theorem d_Model_readNext_221 : decode m_Model_readNext.2.1 221 = .ok (.invokevirtual 655, 3) := by decide +kernel
theorem d_Model_readNext_224 : decode m_Model_readNext.2.1 224 = .ok (.goto 27, 3) := by decide +kernel
theorem d_Model_readNext_227 : decode m_Model_readNext.2.1 227 = .ok (.aload_n 0, 1) := by decide +kernel
theorem d_Model_readNext_228 : decode m_Model_readNext.2.1 228 = .ok (.iload_n 2, 1) := by decide +kernel
theorem d_Model_readNext_229 : decode m_Model_readNext.2.1 229 = .ok (.iload_n 3, 1) := by decide +kernel
theorem d_Model_readNext_230 : decode m_Model_readNext.2.1 230 = .ok (.invokevirtual 658, 3) := by decide +kernel
theorem d_Model_readNext_233 : decode m_Model_readNext.2.1 233 = .ok (.goto 18, 3) := by decide +kernel
theorem d_Model_readNext_236 : decode m_Model_readNext.2.1 236 = .ok (.aload_n 0, 1) := by decide +kernel
theorem d_Model_readNext_237 : decode m_Model_readNext.2.1 237 = .ok (.iload_n 2, 1) := by decide +kernel
theorem d_Model_readNext_238 : decode m_Model_readNext.2.1 238 = .ok (.iload_n 3, 1) := by decide +kernel
theorem d_Model_readNext_239 : decode m_Model_readNext.2.1 239 = .ok (.invokevirtual 661, 3) := by decide +kernel
theorem d_Model_readNext_242 : decode m_Model_readNext.2.1 242 = .ok (.goto 9, 3) := by decide +kernel
theorem d_Model_readNext_245 : decode m_Model_readNext.2.1 245 = .ok (.aload_n 0, 1) := by decide +kernel
theorem d_Model_readNext_246 : decode m_Model_readNext.2.1 246 = .ok (.iload_n 1, 1) := by decide +kernel
theorem d_Model_readNext_247 : decode m_Model_readNext.2.1 247 = .ok (.iload_n 2, 1) := by decide +kernel
theorem d_Model_readNext_248 : decode m_Model_readNext.2.1 248 = .ok (.invokevirtual 664, 3) := by decide +kernel
theorem d_Model_readNext_251 : decode m_Model_readNext.2.1 251 = .ok (.return_, 1) := by decide +kernel
/-- after the next want is taken off the pile and the token is looked at -/
def AL (M N a : Nat) (t : Nat → Nat) (l : List Wt) (I : M32) (L : M64) (I1 : M32) (L1 : M64) : Prop := TH M N a t I1 L1 ∧ PileV I1 M l ∧ I1 M 43 = cI l.length ∧ Fx (fun x k => x = M ∧ (k = 43 ∨ (12 ≤ k ∧ k ≤ 15))) I I1 ∧ Fx (fun x k => x = M ∧ k = 16) L L1
theorem c_Model_readNext (d : Nat) {M N a : Nat} {w nd s u : Int} {t : Nat → Nat} {l : List Wt} {P : M32 → M64 → Prop} {I : M32} {L : M64} {R : MR} {T : SH} (hd : 4 ≤ d) (hM : MdlS M R T) (hV : TxM I M N t) (hN : I M 11 = cI N) (ha : I M 12 = cI a) (haN : a ≤ N) (hA : PileV I M ((w, nd, s, u) :: l)) (hw0 : I M 43 = cI (l.length + 1 : Nat)) (hl : l.length + 2 < 30000) (hw : 1 ≤ w ∧ w ≤ 13)
    (ho : ∀ I1 L1, AL M N a t l I L I1 L1 → w ≤ 3 → tk (tkP t N) a = 103 → ∀ I2, PileV I2 M ((w, nd, s, u) :: (5, -1, 0, 0) :: l) → I2 M 43 = cI (l.length + 2 : Nat) → I2 M 12 = cI (te (tkP t N) a) → Fx (fun x k => SPl M x k ∨ (x = M ∧ k = 12)) I1 I2 → P I2 L1)
    (h1 : ∀ I1 L1, AL M N a t l I L I1 L1 → w = 1 → tk (tkP t N) a ≠ 103 → Call m_Model_readContract y_Model_readContract (d - 1) 0 0 [.ref M, .int (cI nd), .int (cI s), .int (cI u)] I1 L1 R T (rV fun I' L' R' T' => P I' L' ∧ R' = R ∧ T' = T))
    (h2 : ∀ I1 L1, AL M N a t l I L I1 L1 → w = 2 → tk (tkP t N) a ≠ 103 → Call m_Model_readValue y_Model_readValue (d - 1) 0 0 [.ref M, .int (cI nd), .int (cI s), .int (cI u)] I1 L1 R T (rV fun I' L' R' T' => P I' L' ∧ R' = R ∧ T' = T))
    (h3 : ∀ I1 L1, AL M N a t l I L I1 L1 → w = 3 → tk (tkP t N) a ≠ 103 → Call m_Model_readObservation y_Model_readObservation (d - 1) 0 0 [.ref M, .int (cI nd), .int (cI s), .int (cI u)] I1 L1 R T (rV fun I' L' R' T' => P I' L' ∧ R' = R ∧ T' = T))
    (h4 : ∀ I1 L1, AL M N a t l I L I1 L1 → w = 4 → Call m_Model_readName y_Model_readName (d - 1) 0 0 [.ref M, .int (cI nd), .int (cI s)] I1 L1 R T (rV fun I' L' R' T' => P I' L' ∧ R' = R ∧ T' = T))
    (h8 : ∀ I1 L1, AL M N a t l I L I1 L1 → w = 8 → Call m_Model_readCase y_Model_readCase (d - 1) 0 0 [.ref M, .int (cI nd), .int (cI s), .int (cI u)] I1 L1 R T (rV fun I' L' R' T' => P I' L' ∧ R' = R ∧ T' = T))
    (h9 : ∀ I1 L1, AL M N a t l I L I1 L1 → w = 9 → Call m_Model_readTime y_Model_readTime (d - 1) 0 0 [.ref M, .int (cI nd)] I1 L1 R T (rV fun I' L' R' T' => P I' L' ∧ R' = R ∧ T' = T))
    (h10 : ∀ I1 L1, AL M N a t l I L I1 L1 → w = 10 → Call m_Model_readAction y_Model_readAction (d - 1) 0 0 [.ref M, .int (cI nd), .int (cI u)] I1 L1 R T (rV fun I' L' R' T' => P I' L' ∧ R' = R ∧ T' = T))
    (h12 : ∀ I1 L1, AL M N a t l I L I1 L1 → w = 12 → Call m_Model_readBound y_Model_readBound (d - 1) 0 0 [.ref M, .int (cI nd), .int (cI s)] I1 L1 R T (rV fun I' L' R' T' => P I' L' ∧ R' = R ∧ T' = T))
    (h13 : ∀ I1 L1, AL M N a t l I L I1 L1 → w = 13 → Call m_Model_readSecond y_Model_readSecond (d - 1) 0 0 [.ref M, .int (cI nd), .int (cI s)] I1 L1 R T (rV fun I' L' R' T' => P I' L' ∧ R' = R ∧ T' = T))
    (h0 : ∀ I1 L1, AL M N a t l I L I1 L1 → w = 5 ∨ w = 6 ∨ w = 7 ∨ w = 11 → Call m_Model_readSign y_Model_readSign (d - 1) 0 0 [.ref M, .int (cI w), .int (cI nd)] I1 L1 R T (rV fun I' L' R' T' => P I' L' ∧ R' = R ∧ T' = T)) :
    Call m_Model_readNext y_Model_readNext d 0 0 [.ref M] I L R T (rV fun I' L' R' T' => P I' L' ∧ R' = R ∧ T' = T) := by
  refine Call.ofRun (by decide) ⟨rfl, rfl⟩ (Nat.le_of_ble_eq_true rfl) ?_
  refine Run.gen fun Q hQ => ?_
  obtain ⟨lw, hlw⟩ : ∃ lw, lw = l.length := ⟨_, rfl⟩
  obtain ⟨⟨q1, q2, q3, q4⟩, q5⟩ := hA
  rw [← hlw] at hw0 hl q1 q2 q3 q4
  refine q_aload_n d_Model_readNext_0 rfl ?_
  refine q_dup d_Model_readNext_1 rfl ?_
  refine j_getI (v := (cI ((lw : Int) + 1))) d_Model_readNext_2 fl_Model_582 hM.1 ⟨rfl, by decide⟩ (by rw [hw0]; simp) ?_
  refine j_iconst d_Model_readNext_5 ?_
  refine j_isub d_Model_readNext_6 ?_
  refine q_putI d_Model_readNext_7 fl_Model_582 hM.1 ⟨rfl, by decide, rfl, rfl⟩ ?_
  refine q_aload_n d_Model_readNext_10 rfl ?_
  refine q_getR d_Model_readNext_11 fl_Model_73 hM.1 ⟨rfl, by decide⟩ (mR39 hM) ?_
  refine q_aload_n d_Model_readNext_14 rfl ?_
  refine j_getI (v := (cI (((lw : Int) + 1) - 1))) d_Model_readNext_15 fl_Model_582 hM.1 ⟨rfl, by decide⟩ (up2_s _ _ _ _) ?_
  refine j_iald (j := lw) (v := (cI w)) d_Model_readNext_18 (mT39 hM) (mN39 hM) (by omega) (by omega) (by omega) ((up2_a _ _ _ (by omega)).trans (q1)) ?_
  refine q_istore_n (lv' := [(1, .int (cI w)), (0, .ref M)]) d_Model_readNext_19 (by decide) rfl ?_
  refine q_aload_n d_Model_readNext_20 rfl ?_
  refine q_getR d_Model_readNext_21 fl_Model_76 hM.1 ⟨rfl, by decide⟩ (mR40 hM) ?_
  refine q_aload_n d_Model_readNext_24 rfl ?_
  refine j_getI (v := (cI (((lw : Int) + 1) - 1))) d_Model_readNext_25 fl_Model_582 hM.1 ⟨rfl, by decide⟩ (up2_s _ _ _ _) ?_
  refine j_iald (j := lw) (v := (cI nd)) d_Model_readNext_28 (mT40 hM) (mN40 hM) (by omega) (by omega) (by omega) ((up2_a _ _ _ (by omega)).trans (q2)) ?_
  refine q_istore_n (lv' := [(2, .int (cI nd)), (1, .int (cI w)), (0, .ref M)]) d_Model_readNext_29 (by decide) rfl ?_
  refine q_aload_n d_Model_readNext_30 rfl ?_
  refine q_getR d_Model_readNext_31 fl_Model_79 hM.1 ⟨rfl, by decide⟩ (mR41 hM) ?_
  refine q_aload_n d_Model_readNext_34 rfl ?_
  refine j_getI (v := (cI (((lw : Int) + 1) - 1))) d_Model_readNext_35 fl_Model_582 hM.1 ⟨rfl, by decide⟩ (up2_s _ _ _ _) ?_
  refine j_iald (j := lw) (v := (cI s)) d_Model_readNext_38 (mT41 hM) (mN41 hM) (by omega) (by omega) (by omega) ((up2_a _ _ _ (by omega)).trans (q3)) ?_
  refine q_istore_n (lv' := [(3, .int (cI s)), (2, .int (cI nd)), (1, .int (cI w)), (0, .ref M)]) d_Model_readNext_39 (by decide) rfl ?_
  refine q_aload_n d_Model_readNext_40 rfl ?_
  refine q_getR d_Model_readNext_41 fl_Model_82 hM.1 ⟨rfl, by decide⟩ (mR42 hM) ?_
  refine q_aload_n d_Model_readNext_44 rfl ?_
  refine j_getI (v := (cI (((lw : Int) + 1) - 1))) d_Model_readNext_45 fl_Model_582 hM.1 ⟨rfl, by decide⟩ (up2_s _ _ _ _) ?_
  refine j_iald (j := lw) (v := (cI u)) d_Model_readNext_48 (mT42 hM) (mN42 hM) (by omega) (by omega) (by omega) ((up2_a _ _ _ (by omega)).trans (q4)) ?_
  refine q_istore (lv' := [(4, .int (cI u)), (3, .int (cI s)), (2, .int (cI nd)), (1, .int (cI w)), (0, .ref M)]) d_Model_readNext_49 (by decide) rfl ?_
  refine q_aload_n d_Model_readNext_51 rfl ?_
  generalize hI0 : (up2 I M 43 (cI (((lw : Int) + 1) - 1))) = I0
  have f0 : Fx (fun x k => x = M ∧ k = 43) I I0 := by rw [← hI0]; exact Fx.up ⟨rfl, rfl⟩
  refine q_callV (ci := 17) (rc := 0) (rs := 0) (rest := []) d_Model_readNext_52 ml_Model_579 ok_Model_look rfl hM.1 (by decide) (c_Model_look (d - 1) (t := t) (N := N) (a := a) (by omega) hM ⟨hV.1, fun j hj => by rw [f0 _ _ (by omega)]; exact hV.2 j hj⟩ (by rw [f0 _ _ (by omega)]; exact hN) (by rw [f0 _ _ (by omega)]; exact ha) haN) rfl rfl (by omega) (Nat.le_of_ble_eq_true rfl) (kr_V (fun I1 L1 R1 T1 h => ?_)) kt_V
  obtain ⟨k1, k2, k3, rfl, rfl⟩ := h
  have k4 : Fx (fun x k => x = M ∧ (12 ≤ k ∧ k ≤ 15)) I0 I1 := fun x k e => by
    by_cases e1 : x = M
    · subst e1; exact k2.2 k (by omega) (by omega) (by omega) (by omega)
    · rw [k2.1 x e1]
  have hTH := k1.th
  have g43 : I1 M 43 = cI lw := by rw [k4 _ _ (by omega), ← hI0, up2_s]; congr 1; omega
  have hAL : AL M N a t l I L I1 L1 := ⟨hTH, q5.fx fun x k e1 e2 _ => by rw [k4 _ _ (by omega), f0 _ _ (by omega)], by rw [← hlw]; exact g43, (f0.mo fun a k h => by omega).tr (k4.mo fun a k h => by omega), fun x k e => k3 x k e⟩
  obtain ⟨hok0, j12, j13, j14, j15, j16⟩ := id hTH
  have hki : inI (tkc (tk (tkP t N) a)) := tkc_i
  have hk5 : tkc (tk (tkP t N) a) = 5 ↔ tk (tkP t N) a = 103 := tkc_5
  have disp : ∀ (hno : w ≤ 3 → tk (tkP t N) a ≠ 103), True → Run m_Model_readNext d 0 0 90 [(0, .ref M), (1, .int (cI w)), (2, .int (cI nd)), (3, .int (cI s)), (4, .int (cI u))] [] I1 L1 R1 T1 Q := by
    intro hno _
    refine q_iload_n d_Model_readNext_90 rfl ?_
    have hw13 : w = 1 ∨ w = 2 ∨ w = 3 ∨ w = 4 ∨ w = 8 ∨ w = 9 ∨ w = 10 ∨ w = 12 ∨ w = 13 ∨ w = 5 ∨ w = 6 ∨ w = 7 ∨ w = 11 := by omega
    rcases hw13 with e | e | e | e | e | e | e | e | e | e
    · refine j_tableIn (k := 1) (tgt := 156) d_Model_readNext_91 e (by decide) rfl (by decide) ?_
      refine q_aload_n d_Model_readNext_156 rfl ?_
      refine q_iload_n d_Model_readNext_157 rfl ?_
      refine q_iload_n d_Model_readNext_158 rfl ?_
      refine q_iload d_Model_readNext_159 rfl ?_
      refine q_callV (ci := 17) (rc := 0) (rs := 0) (rest := []) d_Model_readNext_161 ml_Model_636 ok_Model_readContract rfl hM.1 (by decide) (h1 I1 L1 hAL e (hno (by omega))) rfl rfl (by omega) (Nat.le_of_ble_eq_true rfl) (kr_V (fun I2 L2 R2 T2 h => ?_)) kt_V
      refine q_goto (tgt := 251) d_Model_readNext_164 (by decide) ?_
      refine q_return d_Model_readNext_251 rfl ?_
      refine hQ _ _ _ _ _ ?_
      exact ⟨rfl, h⟩
    · refine j_tableIn (k := 2) (tgt := 167) d_Model_readNext_91 e (by decide) rfl (by decide) ?_
      refine q_aload_n d_Model_readNext_167 rfl ?_
      refine q_iload_n d_Model_readNext_168 rfl ?_
      refine q_iload_n d_Model_readNext_169 rfl ?_
      refine q_iload d_Model_readNext_170 rfl ?_
      refine q_callV (ci := 17) (rc := 0) (rs := 0) (rest := []) d_Model_readNext_172 ml_Model_639 ok_Model_readValue rfl hM.1 (by decide) (h2 I1 L1 hAL e (hno (by omega))) rfl rfl (by omega) (Nat.le_of_ble_eq_true rfl) (kr_V (fun I2 L2 R2 T2 h => ?_)) kt_V
      refine q_goto (tgt := 251) d_Model_readNext_175 (by decide) ?_
      refine q_return d_Model_readNext_251 rfl ?_
      refine hQ _ _ _ _ _ ?_
      exact ⟨rfl, h⟩
    · refine j_tableIn (k := 3) (tgt := 178) d_Model_readNext_91 e (by decide) rfl (by decide) ?_
      refine q_aload_n d_Model_readNext_178 rfl ?_
      refine q_iload_n d_Model_readNext_179 rfl ?_
      refine q_iload_n d_Model_readNext_180 rfl ?_
      refine q_iload d_Model_readNext_181 rfl ?_
      refine q_callV (ci := 17) (rc := 0) (rs := 0) (rest := []) d_Model_readNext_183 ml_Model_642 ok_Model_readObservation rfl hM.1 (by decide) (h3 I1 L1 hAL e (hno (by omega))) rfl rfl (by omega) (Nat.le_of_ble_eq_true rfl) (kr_V (fun I2 L2 R2 T2 h => ?_)) kt_V
      refine q_goto (tgt := 251) d_Model_readNext_186 (by decide) ?_
      refine q_return d_Model_readNext_251 rfl ?_
      refine hQ _ _ _ _ _ ?_
      exact ⟨rfl, h⟩
    · refine j_tableIn (k := 4) (tgt := 189) d_Model_readNext_91 e (by decide) rfl (by decide) ?_
      refine q_aload_n d_Model_readNext_189 rfl ?_
      refine q_iload_n d_Model_readNext_190 rfl ?_
      refine q_iload_n d_Model_readNext_191 rfl ?_
      refine q_callV (ci := 17) (rc := 0) (rs := 0) (rest := []) d_Model_readNext_192 ml_Model_645 ok_Model_readName rfl hM.1 (by decide) (h4 I1 L1 hAL e) rfl rfl (by omega) (Nat.le_of_ble_eq_true rfl) (kr_V (fun I2 L2 R2 T2 h => ?_)) kt_V
      refine q_goto (tgt := 251) d_Model_readNext_195 (by decide) ?_
      refine q_return d_Model_readNext_251 rfl ?_
      refine hQ _ _ _ _ _ ?_
      exact ⟨rfl, h⟩
    · refine j_tableIn (k := 8) (tgt := 198) d_Model_readNext_91 e (by decide) rfl (by decide) ?_
      refine q_aload_n d_Model_readNext_198 rfl ?_
      refine q_iload_n d_Model_readNext_199 rfl ?_
      refine q_iload_n d_Model_readNext_200 rfl ?_
      refine q_iload d_Model_readNext_201 rfl ?_
      refine q_callV (ci := 17) (rc := 0) (rs := 0) (rest := []) d_Model_readNext_203 ml_Model_649 ok_Model_readCase rfl hM.1 (by decide) (h8 I1 L1 hAL e) rfl rfl (by omega) (Nat.le_of_ble_eq_true rfl) (kr_V (fun I2 L2 R2 T2 h => ?_)) kt_V
      refine q_goto (tgt := 251) d_Model_readNext_206 (by decide) ?_
      refine q_return d_Model_readNext_251 rfl ?_
      refine hQ _ _ _ _ _ ?_
      exact ⟨rfl, h⟩
    · refine j_tableIn (k := 9) (tgt := 209) d_Model_readNext_91 e (by decide) rfl (by decide) ?_
      refine q_aload_n d_Model_readNext_209 rfl ?_
      refine q_iload_n d_Model_readNext_210 rfl ?_
      refine q_callV (ci := 17) (rc := 0) (rs := 0) (rest := []) d_Model_readNext_211 ml_Model_652 ok_Model_readTime rfl hM.1 (by decide) (h9 I1 L1 hAL e) rfl rfl (by omega) (Nat.le_of_ble_eq_true rfl) (kr_V (fun I2 L2 R2 T2 h => ?_)) kt_V
      refine q_goto (tgt := 251) d_Model_readNext_214 (by decide) ?_
      refine q_return d_Model_readNext_251 rfl ?_
      refine hQ _ _ _ _ _ ?_
      exact ⟨rfl, h⟩
    · refine j_tableIn (k := 10) (tgt := 217) d_Model_readNext_91 e (by decide) rfl (by decide) ?_
      refine q_aload_n d_Model_readNext_217 rfl ?_
      refine q_iload_n d_Model_readNext_218 rfl ?_
      refine q_iload d_Model_readNext_219 rfl ?_
      refine q_callV (ci := 17) (rc := 0) (rs := 0) (rest := []) d_Model_readNext_221 ml_Model_655 ok_Model_readAction rfl hM.1 (by decide) (h10 I1 L1 hAL e) rfl rfl (by omega) (Nat.le_of_ble_eq_true rfl) (kr_V (fun I2 L2 R2 T2 h => ?_)) kt_V
      refine q_goto (tgt := 251) d_Model_readNext_224 (by decide) ?_
      refine q_return d_Model_readNext_251 rfl ?_
      refine hQ _ _ _ _ _ ?_
      exact ⟨rfl, h⟩
    · refine j_tableIn (k := 12) (tgt := 227) d_Model_readNext_91 e (by decide) rfl (by decide) ?_
      refine q_aload_n d_Model_readNext_227 rfl ?_
      refine q_iload_n d_Model_readNext_228 rfl ?_
      refine q_iload_n d_Model_readNext_229 rfl ?_
      refine q_callV (ci := 17) (rc := 0) (rs := 0) (rest := []) d_Model_readNext_230 ml_Model_658 ok_Model_readBound rfl hM.1 (by decide) (h12 I1 L1 hAL e) rfl rfl (by omega) (Nat.le_of_ble_eq_true rfl) (kr_V (fun I2 L2 R2 T2 h => ?_)) kt_V
      refine q_goto (tgt := 251) d_Model_readNext_233 (by decide) ?_
      refine q_return d_Model_readNext_251 rfl ?_
      refine hQ _ _ _ _ _ ?_
      exact ⟨rfl, h⟩
    · refine j_tableIn (k := 13) (tgt := 236) d_Model_readNext_91 e (by decide) rfl (by decide) ?_
      refine q_aload_n d_Model_readNext_236 rfl ?_
      refine q_iload_n d_Model_readNext_237 rfl ?_
      refine q_iload_n d_Model_readNext_238 rfl ?_
      refine q_callV (ci := 17) (rc := 0) (rs := 0) (rest := []) d_Model_readNext_239 ml_Model_661 ok_Model_readSecond rfl hM.1 (by decide) (h13 I1 L1 hAL e) rfl rfl (by omega) (Nat.le_of_ble_eq_true rfl) (kr_V (fun I2 L2 R2 T2 h => ?_)) kt_V
      refine q_goto (tgt := 251) d_Model_readNext_242 (by decide) ?_
      refine q_return d_Model_readNext_251 rfl ?_
      refine hQ _ _ _ _ _ ?_
      exact ⟨rfl, h⟩
    rcases e with e | e | e | e
    · refine j_tableIn (k := 5) (tgt := 245) d_Model_readNext_91 e (by decide) rfl (by decide) ?_
      refine q_aload_n d_Model_readNext_245 rfl ?_
      refine q_iload_n d_Model_readNext_246 rfl ?_
      refine q_iload_n d_Model_readNext_247 rfl ?_
      refine q_callV (ci := 17) (rc := 0) (rs := 0) (rest := []) d_Model_readNext_248 ml_Model_664 ok_Model_readSign rfl hM.1 (by decide) (h0 I1 L1 hAL (Or.inl e)) rfl rfl (by omega) (Nat.le_of_ble_eq_true rfl) (kr_V (fun I2 L2 R2 T2 h => ?_)) kt_V
      refine q_return d_Model_readNext_251 rfl ?_
      refine hQ _ _ _ _ _ ?_
      exact ⟨rfl, h⟩
    · refine j_tableIn (k := 6) (tgt := 245) d_Model_readNext_91 e (by decide) rfl (by decide) ?_
      refine q_aload_n d_Model_readNext_245 rfl ?_
      refine q_iload_n d_Model_readNext_246 rfl ?_
      refine q_iload_n d_Model_readNext_247 rfl ?_
      refine q_callV (ci := 17) (rc := 0) (rs := 0) (rest := []) d_Model_readNext_248 ml_Model_664 ok_Model_readSign rfl hM.1 (by decide) (h0 I1 L1 hAL (by omega)) rfl rfl (by omega) (Nat.le_of_ble_eq_true rfl) (kr_V (fun I2 L2 R2 T2 h => ?_)) kt_V
      refine q_return d_Model_readNext_251 rfl ?_
      refine hQ _ _ _ _ _ ?_
      exact ⟨rfl, h⟩
    · refine j_tableIn (k := 7) (tgt := 245) d_Model_readNext_91 e (by decide) rfl (by decide) ?_
      refine q_aload_n d_Model_readNext_245 rfl ?_
      refine q_iload_n d_Model_readNext_246 rfl ?_
      refine q_iload_n d_Model_readNext_247 rfl ?_
      refine q_callV (ci := 17) (rc := 0) (rs := 0) (rest := []) d_Model_readNext_248 ml_Model_664 ok_Model_readSign rfl hM.1 (by decide) (h0 I1 L1 hAL (by omega)) rfl rfl (by omega) (Nat.le_of_ble_eq_true rfl) (kr_V (fun I2 L2 R2 T2 h => ?_)) kt_V
      refine q_return d_Model_readNext_251 rfl ?_
      refine hQ _ _ _ _ _ ?_
      exact ⟨rfl, h⟩
    · refine j_tableIn (k := 11) (tgt := 245) d_Model_readNext_91 e (by decide) rfl (by decide) ?_
      refine q_aload_n d_Model_readNext_245 rfl ?_
      refine q_iload_n d_Model_readNext_246 rfl ?_
      refine q_iload_n d_Model_readNext_247 rfl ?_
      refine q_callV (ci := 17) (rc := 0) (rs := 0) (rest := []) d_Model_readNext_248 ml_Model_664 ok_Model_readSign rfl hM.1 (by decide) (h0 I1 L1 hAL (by omega)) rfl rfl (by omega) (Nat.le_of_ble_eq_true rfl) (kr_V (fun I2 L2 R2 T2 h => ?_)) kt_V
      refine q_return d_Model_readNext_251 rfl ?_
      refine hQ _ _ _ _ _ ?_
      exact ⟨rfl, h⟩
  refine q_iload_n d_Model_readNext_55 rfl ?_
  refine j_iconst d_Model_readNext_56 ?_
  refine j_icmp_gt (tgt := 90) d_Model_readNext_57 (by decide) (by omega) (by omega) (fun p1 => ?_) (fun p1 => ?_)
  · skip
    refine Run.lv (lv' := [(0, .ref M), (1, .int (cI w)), (2, .int (cI nd)), (3, .int (cI s)), (4, .int (cI u))]) (by intro q hq; simp only [List.mem_cons, List.not_mem_nil, or_false] at hq ⊢; rcases hq with rfl | rfl | rfl | rfl | rfl <;> simp) ?_
    exact disp (fun h => by omega) trivial
  · skip
    refine q_aload_n d_Model_readNext_60 rfl ?_
    refine j_getI (v := (cI (tkc (tk (tkP t N) a)))) d_Model_readNext_61 fl_Model_550 hM.1 ⟨rfl, by decide⟩ j13 ?_
    refine j_iconst d_Model_readNext_64 ?_
    refine j_icmp_ne (tgt := 90) d_Model_readNext_65 (by decide) (by omega) (by omega) (fun p2 => ?_) (fun p2 => ?_)
    · skip
      refine Run.lv (lv' := [(0, .ref M), (1, .int (cI w)), (2, .int (cI nd)), (3, .int (cI s)), (4, .int (cI u))]) (by intro q hq; simp only [List.mem_cons, List.not_mem_nil, or_false] at hq ⊢; rcases hq with rfl | rfl | rfl | rfl | rfl <;> simp) ?_
      exact disp (fun _ e9 => p2 (hk5.mpr e9)) trivial
    · skip
      refine q_aload_n d_Model_readNext_68 rfl ?_
      refine q_callV (ci := 17) (rc := 0) (rs := 0) (rest := []) d_Model_readNext_69 ml_Model_608 ok_Model_use rfl hM.1 (by decide) (c_Model_use (d - 1) hM) rfl rfl (by omega) (Nat.le_of_ble_eq_true rfl) (kp_V ?_) kt_V
      generalize hI3 : (up2 I1 M 12 (I1 M 15)) = I3
      have f3 : Fx (fun x k => x = M ∧ k = 12) I1 I3 := by rw [← hI3]; exact Fx.up ⟨rfl, rfl⟩
      have hA3 : PA M I3 I3 l := ⟨hAL.2.1.fx fun x k e1 e2 _ => f3 _ _ (by omega), by rw [f3 _ _ (by omega)]; exact hAL.2.2.1, Fx.rf⟩
      refine q_aload_n d_Model_readNext_72 rfl ?_
      refine j_iconst d_Model_readNext_73 ?_
      refine j_iconst d_Model_readNext_74 ?_
      refine j_iconst d_Model_readNext_75 ?_
      refine j_iconst d_Model_readNext_76 ?_
      refine q_callV (ci := 17) (rc := 0) (rs := 0) (rest := []) d_Model_readNext_77 ml_Model_611 ok_Model_push rfl hM.1 (by decide) (c_Model_push (d - 1) hM hA3 (by first | omega | (simp only [List.length_cons]; omega))) rfl rfl (by omega) (Nat.le_of_ble_eq_true rfl) (kv_V (fun G hA3 => ?_)) kt_V
      refine q_aload_n d_Model_readNext_80 rfl ?_
      refine q_iload_n d_Model_readNext_81 rfl ?_
      refine q_iload_n d_Model_readNext_82 rfl ?_
      refine q_iload_n d_Model_readNext_83 rfl ?_
      refine q_iload d_Model_readNext_84 rfl ?_
      refine q_callV (ci := 17) (rc := 0) (rs := 0) (rest := []) d_Model_readNext_86 ml_Model_611 ok_Model_push rfl hM.1 (by decide) (c_Model_push (d - 1) hM hA3 (by first | omega | (simp only [List.length_cons]; omega))) rfl rfl (by omega) (Nat.le_of_ble_eq_true rfl) (kv_V (fun G hA3 => ?_)) kt_V
      obtain ⟨g1, g2, g3⟩ := hA3
      refine q_return d_Model_readNext_89 rfl ?_
      refine hQ _ _ _ _ _ ?_
      exact ⟨rfl, ho I1 L1 hAL p1 (hk5.mp p2) G g1 g2 (by rw [g3 _ _ (by omega), ← hI3, up2_s]; exact j15) ((f3.mo fun x k h => Or.inr h).tr (g3.mo fun x k h => Or.inl h)), rfl, rfl⟩

