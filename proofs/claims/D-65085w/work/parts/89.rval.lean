/-! ===== 89 THE COMPONENT'S READER: values ===== -/
theorem d_Nodes_value_0 : decode m_Nodes_value.2.1 0 = .ok (.aload_n 0, 1) := by decide +kernel
theorem d_Nodes_value_1 : decode m_Nodes_value.2.1 1 = .ok (.invokevirtual 108, 3) := by decide +kernel
theorem d_Nodes_value_4 : decode m_Nodes_value.2.1 4 = .ok (.istore_n 2, 1) := by decide +kernel
theorem d_Nodes_value_5 : decode m_Nodes_value.2.1 5 = .ok (.aload_n 0, 1) := by decide +kernel
theorem d_Nodes_value_6 : decode m_Nodes_value.2.1 6 = .ok (.getfield 3, 3) := by decide +kernel
theorem d_Nodes_value_9 : decode m_Nodes_value.2.1 9 = .ok (.getfield 83, 3) := by decide +kernel
theorem d_Nodes_value_12 : decode m_Nodes_value.2.1 12 = .ok (.getfield 100, 3) := by decide +kernel
theorem d_Nodes_value_15 : decode m_Nodes_value.2.1 15 = .ok (.istore_n 3, 1) := by decide +kernel
theorem d_Nodes_value_16 : decode m_Nodes_value.2.1 16 = .ok (.iload_n 3, 1) := by decide +kernel
theorem d_Nodes_value_17 : decode m_Nodes_value.2.1 17 = .ok (.invokestatic 173, 3) := by decide +kernel
theorem d_Nodes_value_20 : decode m_Nodes_value.2.1 20 = .ok (.ifCond .ne 14, 3) := by decide +kernel
theorem d_Nodes_value_23 : decode m_Nodes_value.2.1 23 = .ok (.aload_n 0, 1) := by decide +kernel
theorem d_Nodes_value_24 : decode m_Nodes_value.2.1 24 = .ok (.getfield 3, 3) := by decide +kernel
theorem d_Nodes_value_27 : decode m_Nodes_value.2.1 27 = .ok (.getfield 83, 3) := by decide +kernel
theorem d_Nodes_value_30 : decode m_Nodes_value.2.1 30 = .ok (.iconst 4, 1) := by decide +kernel
theorem d_Nodes_value_31 : decode m_Nodes_value.2.1 31 = .ok (.invokevirtual 87, 3) := by decide +kernel
theorem d_Nodes_value_34 : decode m_Nodes_value.2.1 34 = .ok (.aload_n 0, 1) := by decide +kernel
theorem d_Nodes_value_35 : decode m_Nodes_value.2.1 35 = .ok (.iload_n 3, 1) := by decide +kernel
theorem d_Nodes_value_36 : decode m_Nodes_value.2.1 36 = .ok (.iload_n 1, 1) := by decide +kernel
theorem d_Nodes_value_37 : decode m_Nodes_value.2.1 37 = .ok (.invokevirtual 111, 3) := by decide +kernel
theorem d_Nodes_value_40 : decode m_Nodes_value.2.1 40 = .ok (.istore 4, 2) := by decide +kernel
theorem d_Nodes_value_42 : decode m_Nodes_value.2.1 42 = .ok (.aload_n 0, 1) := by decide +kernel
theorem d_Nodes_value_43 : decode m_Nodes_value.2.1 43 = .ok (.getfield 37, 3) := by decide +kernel
theorem d_Nodes_value_46 : decode m_Nodes_value.2.1 46 = .ok (.iload 4, 2) := by decide +kernel
theorem d_Nodes_value_48 : decode m_Nodes_value.2.1 48 = .ok (.iload_n 3, 1) := by decide +kernel
theorem d_Nodes_value_49 : decode m_Nodes_value.2.1 49 = .ok (.bipush 102, 2) := by decide +kernel
theorem d_Nodes_value_51 : decode m_Nodes_value.2.1 51 = .ok (.if_icmp .ne 16, 3) := by decide +kernel
theorem d_Nodes_value_54 : decode m_Nodes_value.2.1 54 = .ok (.aload_n 0, 1) := by decide +kernel
theorem d_Nodes_value_55 : decode m_Nodes_value.2.1 55 = .ok (.getfield 3, 3) := by decide +kernel
theorem d_Nodes_value_58 : decode m_Nodes_value.2.1 58 = .ok (.getfield 83, 3) := by decide +kernel
theorem d_Nodes_value_61 : decode m_Nodes_value.2.1 61 = .ok (.getfield 138, 3) := by decide +kernel
theorem d_Nodes_value_64 : decode m_Nodes_value.2.1 64 = .ok (.goto 4, 3) := by decide +kernel
theorem d_Nodes_value_67 : decode m_Nodes_value.2.1 67 = .ok (.lconst 0, 1) := by decide +kernel
theorem d_Nodes_value_68 : decode m_Nodes_value.2.1 68 = .ok (.lastore, 1) := by decide +kernel
theorem d_Nodes_value_69 : decode m_Nodes_value.2.1 69 = .ok (.aload_n 0, 1) := by decide +kernel
theorem d_Nodes_value_70 : decode m_Nodes_value.2.1 70 = .ok (.getfield 31, 3) := by decide +kernel
theorem d_Nodes_value_73 : decode m_Nodes_value.2.1 73 = .ok (.iload 4, 2) := by decide +kernel
theorem d_Nodes_value_75 : decode m_Nodes_value.2.1 75 = .ok (.iload_n 3, 1) := by decide +kernel
theorem d_Nodes_value_76 : decode m_Nodes_value.2.1 76 = .ok (.bipush 100, 2) := by decide +kernel
theorem d_Nodes_value_78 : decode m_Nodes_value.2.1 78 = .ok (.if_icmp .ne 20, 3) := by decide +kernel
theorem d_Nodes_value_81 : decode m_Nodes_value.2.1 81 = .ok (.aload_n 0, 1) := by decide +kernel
theorem d_Nodes_value_82 : decode m_Nodes_value.2.1 82 = .ok (.aload_n 0, 1) := by decide +kernel
theorem d_Nodes_value_83 : decode m_Nodes_value.2.1 83 = .ok (.getfield 3, 3) := by decide +kernel
theorem d_Nodes_value_86 : decode m_Nodes_value.2.1 86 = .ok (.getfield 83, 3) := by decide +kernel
theorem d_Nodes_value_89 : decode m_Nodes_value.2.1 89 = .ok (.getfield 142, 3) := by decide +kernel
theorem d_Nodes_value_92 : decode m_Nodes_value.2.1 92 = .ok (.invokevirtual 151, 3) := by decide +kernel
theorem d_Nodes_value_95 : decode m_Nodes_value.2.1 95 = .ok (.goto 4, 3) := by decide +kernel
theorem d_Nodes_value_98 : decode m_Nodes_value.2.1 98 = .ok (.iconst (-1), 1) := by decide +kernel
theorem d_Nodes_value_99 : decode m_Nodes_value.2.1 99 = .ok (.iastore, 1) := by decide +kernel
theorem d_Nodes_value_100 : decode m_Nodes_value.2.1 100 = .ok (.aload_n 0, 1) := by decide +kernel
theorem d_Nodes_value_101 : decode m_Nodes_value.2.1 101 = .ok (.getfield 3, 3) := by decide +kernel
theorem d_Nodes_value_104 : decode m_Nodes_value.2.1 104 = .ok (.getfield 83, 3) := by decide +kernel
theorem d_Nodes_value_107 : decode m_Nodes_value.2.1 107 = .ok (.invokevirtual 103, 3) := by decide +kernel
theorem d_Nodes_value_110 : decode m_Nodes_value.2.1 110 = .ok (.iload_n 3, 1) := by decide +kernel
theorem d_Nodes_value_111 : decode m_Nodes_value.2.1 111 = .ok (.tableswitch 207 12 22 #[57, 114, 131, 131, 131, 131, 57, 207, 207, 94, 162], 57) := by decide +kernel
theorem d_Nodes_value_168 : decode m_Nodes_value.2.1 168 = .ok (.aload_n 0, 1) := by decide +kernel
theorem d_Nodes_value_169 : decode m_Nodes_value.2.1 169 = .ok (.getfield 37, 3) := by decide +kernel
theorem d_Nodes_value_172 : decode m_Nodes_value.2.1 172 = .ok (.iload 4, 2) := by decide +kernel
theorem d_Nodes_value_174 : decode m_Nodes_value.2.1 174 = .ok (.aload_n 0, 1) := by decide +kernel
theorem d_Nodes_value_175 : decode m_Nodes_value.2.1 175 = .ok (.getfield 3, 3) := by decide +kernel
theorem d_Nodes_value_178 : decode m_Nodes_value.2.1 178 = .ok (.getfield 83, 3) := by decide +kernel
theorem d_Nodes_value_181 : decode m_Nodes_value.2.1 181 = .ok (.invokevirtual 125, 3) := by decide +kernel
theorem d_Nodes_value_184 : decode m_Nodes_value.2.1 184 = .ok (.lastore, 1) := by decide +kernel
theorem d_Nodes_value_185 : decode m_Nodes_value.2.1 185 = .ok (.aload_n 0, 1) := by decide +kernel
theorem d_Nodes_value_186 : decode m_Nodes_value.2.1 186 = .ok (.getfield 41, 3) := by decide +kernel
theorem d_Nodes_value_189 : decode m_Nodes_value.2.1 189 = .ok (.iload 4, 2) := by decide +kernel
theorem d_Nodes_value_191 : decode m_Nodes_value.2.1 191 = .ok (.aload_n 0, 1) := by decide +kernel
theorem d_Nodes_value_192 : decode m_Nodes_value.2.1 192 = .ok (.getfield 3, 3) := by decide +kernel
theorem d_Nodes_value_195 : decode m_Nodes_value.2.1 195 = .ok (.getfield 83, 3) := by decide +kernel
theorem d_Nodes_value_198 : decode m_Nodes_value.2.1 198 = .ok (.invokevirtual 125, 3) := by decide +kernel
theorem d_Nodes_value_201 : decode m_Nodes_value.2.1 201 = .ok (.lastore, 1) := by decide +kernel
theorem d_Nodes_value_202 : decode m_Nodes_value.2.1 202 = .ok (.goto 116, 3) := by decide +kernel
theorem d_Nodes_value_205 : decode m_Nodes_value.2.1 205 = .ok (.aload_n 0, 1) := by decide +kernel
theorem d_Nodes_value_206 : decode m_Nodes_value.2.1 206 = .ok (.getfield 37, 3) := by decide +kernel
theorem d_Nodes_value_209 : decode m_Nodes_value.2.1 209 = .ok (.iload 4, 2) := by decide +kernel
theorem d_Nodes_value_211 : decode m_Nodes_value.2.1 211 = .ok (.aload_n 0, 1) := by decide +kernel
theorem d_Nodes_value_212 : decode m_Nodes_value.2.1 212 = .ok (.getfield 3, 3) := by decide +kernel
theorem d_Nodes_value_215 : decode m_Nodes_value.2.1 215 = .ok (.getfield 83, 3) := by decide +kernel
theorem d_Nodes_value_218 : decode m_Nodes_value.2.1 218 = .ok (.invokevirtual 125, 3) := by decide +kernel
theorem d_Nodes_value_221 : decode m_Nodes_value.2.1 221 = .ok (.lastore, 1) := by decide +kernel
theorem d_Nodes_value_222 : decode m_Nodes_value.2.1 222 = .ok (.goto 96, 3) := by decide +kernel
theorem d_Nodes_value_225 : decode m_Nodes_value.2.1 225 = .ok (.aload_n 0, 1) := by decide +kernel
theorem d_Nodes_value_226 : decode m_Nodes_value.2.1 226 = .ok (.getfield 19, 3) := by decide +kernel
theorem d_Nodes_value_229 : decode m_Nodes_value.2.1 229 = .ok (.iload 4, 2) := by decide +kernel
theorem d_Nodes_value_231 : decode m_Nodes_value.2.1 231 = .ok (.aload_n 0, 1) := by decide +kernel
theorem d_Nodes_value_232 : decode m_Nodes_value.2.1 232 = .ok (.iload_n 1, 1) := by decide +kernel
theorem d_Nodes_value_233 : decode m_Nodes_value.2.1 233 = .ok (.iconst 1, 1) := by decide +kernel
theorem d_Nodes_value_234 : decode m_Nodes_value.2.1 234 = .ok (.iadd, 1) := by decide +kernel
theorem d_Nodes_value_235 : decode m_Nodes_value.2.1 235 = .ok (.invokevirtual 129, 3) := by decide +kernel
theorem d_Nodes_value_238 : decode m_Nodes_value.2.1 238 = .ok (.iastore, 1) := by decide +kernel
theorem d_Nodes_value_239 : decode m_Nodes_value.2.1 239 = .ok (.goto 79, 3) := by decide +kernel
theorem d_Nodes_value_242 : decode m_Nodes_value.2.1 242 = .ok (.aload_n 0, 1) := by decide +kernel
theorem d_Nodes_value_243 : decode m_Nodes_value.2.1 243 = .ok (.getfield 19, 3) := by decide +kernel
theorem d_Nodes_value_246 : decode m_Nodes_value.2.1 246 = .ok (.iload 4, 2) := by decide +kernel
theorem d_Nodes_value_248 : decode m_Nodes_value.2.1 248 = .ok (.aload_n 0, 1) := by decide +kernel
theorem d_Nodes_value_249 : decode m_Nodes_value.2.1 249 = .ok (.iload_n 1, 1) := by decide +kernel
theorem d_Nodes_value_250 : decode m_Nodes_value.2.1 250 = .ok (.iconst 1, 1) := by decide +kernel
theorem d_Nodes_value_251 : decode m_Nodes_value.2.1 251 = .ok (.iadd, 1) := by decide +kernel
theorem d_Nodes_value_252 : decode m_Nodes_value.2.1 252 = .ok (.invokevirtual 129, 3) := by decide +kernel
theorem d_Nodes_value_255 : decode m_Nodes_value.2.1 255 = .ok (.iastore, 1) := by decide +kernel
theorem d_Nodes_value_256 : decode m_Nodes_value.2.1 256 = .ok (.aload_n 0, 1) := by decide +kernel
theorem d_Nodes_value_257 : decode m_Nodes_value.2.1 257 = .ok (.getfield 22, 3) := by decide +kernel
theorem d_Nodes_value_260 : decode m_Nodes_value.2.1 260 = .ok (.iload 4, 2) := by decide +kernel
theorem d_Nodes_value_262 : decode m_Nodes_value.2.1 262 = .ok (.aload_n 0, 1) := by decide +kernel
theorem d_Nodes_value_263 : decode m_Nodes_value.2.1 263 = .ok (.iload_n 1, 1) := by decide +kernel
theorem d_Nodes_value_264 : decode m_Nodes_value.2.1 264 = .ok (.iconst 1, 1) := by decide +kernel
theorem d_Nodes_value_265 : decode m_Nodes_value.2.1 265 = .ok (.iadd, 1) := by decide +kernel
theorem d_Nodes_value_266 : decode m_Nodes_value.2.1 266 = .ok (.invokevirtual 129, 3) := by decide +kernel
theorem d_Nodes_value_269 : decode m_Nodes_value.2.1 269 = .ok (.iastore, 1) := by decide +kernel
theorem d_Nodes_value_270 : decode m_Nodes_value.2.1 270 = .ok (.goto 48, 3) := by decide +kernel
theorem d_Nodes_value_273 : decode m_Nodes_value.2.1 273 = .ok (.aload_n 0, 1) := by decide +kernel
theorem d_Nodes_value_274 : decode m_Nodes_value.2.1 274 = .ok (.getfield 19, 3) := by decide +kernel
theorem d_Nodes_value_277 : decode m_Nodes_value.2.1 277 = .ok (.iload 4, 2) := by decide +kernel
theorem d_Nodes_value_279 : decode m_Nodes_value.2.1 279 = .ok (.aload_n 0, 1) := by decide +kernel
theorem d_Nodes_value_280 : decode m_Nodes_value.2.1 280 = .ok (.iload_n 1, 1) := by decide +kernel
theorem d_Nodes_value_281 : decode m_Nodes_value.2.1 281 = .ok (.iconst 1, 1) := by decide +kernel
theorem d_Nodes_value_282 : decode m_Nodes_value.2.1 282 = .ok (.iadd, 1) := by decide +kernel
theorem d_Nodes_value_283 : decode m_Nodes_value.2.1 283 = .ok (.invokevirtual 119, 3) := by decide +kernel
theorem d_Nodes_value_286 : decode m_Nodes_value.2.1 286 = .ok (.iastore, 1) := by decide +kernel
theorem d_Nodes_value_287 : decode m_Nodes_value.2.1 287 = .ok (.aload_n 0, 1) := by decide +kernel
theorem d_Nodes_value_288 : decode m_Nodes_value.2.1 288 = .ok (.getfield 22, 3) := by decide +kernel
theorem d_Nodes_value_291 : decode m_Nodes_value.2.1 291 = .ok (.iload 4, 2) := by decide +kernel
theorem d_Nodes_value_293 : decode m_Nodes_value.2.1 293 = .ok (.aload_n 0, 1) := by decide +kernel
theorem d_Nodes_value_294 : decode m_Nodes_value.2.1 294 = .ok (.iload_n 1, 1) := by decide +kernel
theorem d_Nodes_value_295 : decode m_Nodes_value.2.1 295 = .ok (.iconst 1, 1) := by decide +kernel
theorem d_Nodes_value_296 : decode m_Nodes_value.2.1 296 = .ok (.iadd, 1) := by decide +kernel
theorem d_Nodes_value_297 : decode m_Nodes_value.2.1 297 = .ok (.invokevirtual 129, 3) := by decide +kernel
theorem d_Nodes_value_300 : decode m_Nodes_value.2.1 300 = .ok (.iastore, 1) := by decide +kernel
theorem d_Nodes_value_301 : decode m_Nodes_value.2.1 301 = .ok (.aload_n 0, 1) := by decide +kernel
theorem d_Nodes_value_302 : decode m_Nodes_value.2.1 302 = .ok (.getfield 25, 3) := by decide +kernel
theorem d_Nodes_value_305 : decode m_Nodes_value.2.1 305 = .ok (.iload 4, 2) := by decide +kernel
theorem d_Nodes_value_307 : decode m_Nodes_value.2.1 307 = .ok (.aload_n 0, 1) := by decide +kernel
theorem d_Nodes_value_308 : decode m_Nodes_value.2.1 308 = .ok (.iload_n 1, 1) := by decide +kernel
theorem d_Nodes_value_309 : decode m_Nodes_value.2.1 309 = .ok (.iconst 1, 1) := by decide +kernel
theorem d_Nodes_value_310 : decode m_Nodes_value.2.1 310 = .ok (.iadd, 1) := by decide +kernel
theorem d_Nodes_value_311 : decode m_Nodes_value.2.1 311 = .ok (.invokevirtual 129, 3) := by decide +kernel
theorem d_Nodes_value_314 : decode m_Nodes_value.2.1 314 = .ok (.iastore, 1) := by decide +kernel
theorem d_Nodes_value_315 : decode m_Nodes_value.2.1 315 = .ok (.goto 3, 3) := by decide +kernel
theorem d_Nodes_value_318 : decode m_Nodes_value.2.1 318 = .ok (.aload_n 0, 1) := by decide +kernel
theorem d_Nodes_value_319 : decode m_Nodes_value.2.1 319 = .ok (.iload_n 2, 1) := by decide +kernel
theorem d_Nodes_value_320 : decode m_Nodes_value.2.1 320 = .ok (.invokevirtual 132, 3) := by decide +kernel
theorem d_Nodes_value_323 : decode m_Nodes_value.2.1 323 = .ok (.iload 4, 2) := by decide +kernel
theorem d_Nodes_value_325 : decode m_Nodes_value.2.1 325 = .ok (.ireturn, 1) := by decide +kernel
theorem c_Nodes_value {P w o D N Z g F f : Nat} {t : Nat → Nat} (hNF : N < F) (hF9 : F ≤ 20000) (ihV : RdOk P w o D N Z g F t m_Nodes_value y_Nodes_value 2 f) (ihO : RdOk P w o D N Z g F t m_Nodes_observation y_Nodes_observation 3 f) : RdOk P w o D N Z g F t m_Nodes_value y_Nodes_value 2 (f + 1) := by
  intro dep n m sz a V I L R T d hd h102 h101 hC hB
  obtain ⟨tot, htot⟩ : ∃ tot, tot = psC (tkP t N) g F (f + 1) 2 dep n m a := ⟨_, rfl⟩
  rw [← htot] at hB ⊢
  refine Call.ofRun (by decide) ⟨rfl, rfl⟩ (Nat.le_of_ble_eq_true rfl) ?_
  refine Run.gen fun Q hQ => ?_
  have hE := EQ9.of hQ
  obtain ⟨s1, s2, s3, s4, s5, s6⟩ := id hC.1.1
  have hly := hC.1.2.2.2.2
  have hns := hC.2.2.2
  have hms := hC.1.2.2.2.1.lt
  refine q_aload_n d_Nodes_value_0 rfl ?_
  refine q_callV (ci := 6) (rc := (rmC sz (m + tot.1))) (rs := (rmS sz (m + tot.1))) (rest := []) d_Nodes_value_1 ml_Nodes_108 ok_Nodes_open rfl s6.1 (by decide) (c_Nodes_open (d - 1) (F := F) (by omega) hC.1.1 hC.1.2.1 hC.2.1 hns.2.2 (by omega)) rfl rfl (by omega) (Nat.le_of_ble_eq_true rfl) (fun v I1 L1 R1 T1 h => ?_) (fun y I1 L1 R1 T1 h => ?_)
  rotate_left
  · rcases hop : opn (tkP t N) F a with e | ⟨k, a1⟩
    · rw [hop] at h
      obtain ⟨⟨h1, h2⟩, f1, f2, rfl, rfl⟩ := h
      cases h1
      exact thr_bad rfl s5.tag (hQ _ _ _ _ _ (hC.ps_er RF.rf (htot.trans (psC_er1 hop)) f1 f2 h2))
    · rw [hop] at h; cases h.1.1
  rcases hop : opn (tkP t N) F a with e | ⟨k, a1⟩
  · rw [hop] at h; cases h.1.1
  rw [hop] at h
  obtain ⟨⟨h1, h2⟩, f1, f2, e1, e2⟩ := h
  subst R1 T1
  cases h1
  have hk9 := opn_le _ _ _ _ _ hop
  have hC1 : CS P w o D N Z g t a1 n m sz V I1 L1 R T := hC.tk f1 f2 h2
  have hF1 : RF D o Z n I L R T I1 L1 R T := RF.tk f1 f2
  have hkd := TokR.kd hC1.2.1.1
  have hk0 := hC1.2.1.2.1
  refine q_istore_n (lv' := [(2, .int (cI (k : Int))), (0, .ref D), (1, .int (cI (dep : Int)))]) d_Nodes_value_4 (by decide) rfl ?_
  refine q_aload_n d_Nodes_value_5 rfl ?_
  refine q_getR d_Nodes_value_6 fl_Nodes_3 s6.1 ⟨rfl, by decide⟩ s6.2.2 ?_
  refine q_getR d_Nodes_value_9 fl_Nodes_83 s1 ⟨rfl, by decide⟩ s3 ?_
  refine j_getI (v := (cI (tk (tkP t N) a1))) d_Nodes_value_12 fl_Nodes_100 s5.1 ⟨rfl, by decide⟩ hC1.2.1.2.2.2.2.1 ?_
  refine q_istore_n (lv' := [(3, .int (cI (tk (tkP t N) a1))), (2, .int (cI (k : Int))), (0, .ref D), (1, .int (cI (dep : Int)))]) d_Nodes_value_15 (by decide) rfl ?_
  refine q_iload_n d_Nodes_value_16 rfl ?_
  refine q_callS (rc := (rmC sz (m + tot.1))) (rs := (rmS sz (m + tot.1))) (rest := []) d_Nodes_value_17 ml_Nodes_173 ok_Nodes_isValue (c_Nodes_isValue (d - 1) (k := tk (tkP t N) a1) (by omega) (by omega)) rfl rfl (by omega) (Nat.le_of_ble_eq_true rfl) (kp_I ?_) kt_I
  refine j_ifb_ne (tgt := 34) d_Nodes_value_20 (by decide) (fun hb => ?_) (fun hb => ?_)
  rotate_left
  · skip
    refine q_aload_n d_Nodes_value_23 rfl ?_
    refine q_getR d_Nodes_value_24 fl_Nodes_3 s6.1 ⟨rfl, by decide⟩ s6.2.2 ?_
    refine q_getR d_Nodes_value_27 fl_Nodes_83 s1 ⟨rfl, by decide⟩ s3 ?_
    refine j_iconst d_Nodes_value_30 ?_
    refine q_callV (ci := 5) (rc := (rmC sz (m + tot.1))) (rs := (rmS sz (m + tot.1))) (rest := []) d_Nodes_value_31 ml_Nodes_87 ok_Tokens_fail rfl s5.1 (by decide) (c_Tokens_fail (d - 1) (by omega) s5 hC1.2.1.2.2.2.2.2.1) rfl rfl (by omega) (Nat.le_of_ble_eq_true rfl) (fun v I' L' R' T' h => by cases h.1) (fun x I' L' R' T' h => ?_)
    obtain ⟨h0, f3, h4, e1, e2, e3⟩ := badQ_fx h
    subst L' R' T'
    cases h0
    exact thr_bad rfl s5.tag (hQ _ _ _ _ _ (hC1.ps_er hF1 (htot.trans (psC_er2 hop hb)) f3 Fx.rf h4))
  have hok2 := hb
  have hok : tk (tkP t N) a1 = 100 ∨ tk (tkP t N) a1 = 102 ∨ (12 ≤ tk (tkP t N) a1 ∧ tk (tkP t N) a1 ≤ 22) := by unfold okS at hb; rw [if_neg (by decide), if_pos rfl, decide_eq_true_eq] at hb; exact hb
  refine q_aload_n d_Nodes_value_34 rfl ?_
  refine q_iload_n d_Nodes_value_35 rfl ?_
  refine q_iload_n d_Nodes_value_36 rfl ?_
  refine q_callV (ci := 6) (rc := (rmC sz (m + tot.1))) (rs := (rmS sz (m + tot.1))) (rest := []) d_Nodes_value_37 ml_Nodes_111 ok_Nodes_node rfl s6.1 (by decide) (c_Nodes_node (d - 1) (g := g) (dep := (dep : Int)) (kd := tk (tkP t N) a1) (by omega) hC1.1.1 hC1.2.1.2.2.2.2.2.1 hC1.2.2.1 hC1.1.2.2.1 hns.1 (by omega) (by omega) (by omega)) rfl rfl (by omega) (Nat.le_of_ble_eq_true rfl) (fun v I2 L2 R2 T2 h => ?_) (fun y I2 L2 R2 T2 h => ?_)
  rotate_left
  · rcases h with ⟨h1, h⟩ | ⟨h1, h, _⟩
    · have hbx := badQ_fx h
      obtain ⟨h3, f3, h4, e1, e2, e3⟩ := hbx
      subst L2 R2 T2
      cases h3
      exact thr_bad rfl s5.tag (hQ _ _ _ _ _ (hC1.ps_er hF1 (htot.trans (psC_er3 hop hok2 (by omega))) f3 Fx.rf h4))
    · cases h
  rcases h with ⟨h1, h⟩ | ⟨hnn, h3, h4, h5, f3, f4, e1, e2⟩
  · cases h.1
  subst R2 T2
  cases h3
  have hnn : ¬ (100 < dep ∨ n - g = 1000) := by omega
  obtain ⟨hC2, hF2⟩ := hC1.nd h5 f3 f4 (by omega)
  have hW2 : WK P w o D N Z g t n (n + 1) m sz V I L R T a1 [tk (tkP t N) a1, -1, -1, -1, -1, 0, 0, 0, -1, 0, (dep : Int)] [] [] I2 L2 R T := WK.start hC2 h4 rfl (hF1.tr hF2)
  have hge := psC_ge (f := f) (m := m) hop hok2 hnn
  rw [← htot] at hge
  refine Run.more (rc := rmC (max sz (m + ([] : List Int).length)) (m + tot.1)) (rs := rmS (max sz (m + ([] : List Int).length)) (m + tot.1)) ?_ (by rw [show max sz (m + ([] : List Int).length) = sz from by show max sz (m + 0) = sz; omega]; exact Nat.le_refl _) (by rw [show max sz (m + ([] : List Int).length) = sz from by show max sz (m + 0) = sz; omega]; exact Nat.le_refl _)
  have hkr2 := WK_kr hW2
  refine q_istore (lv' := [(4, .int (cI (n : Int))), (3, .int (cI (tk (tkP t N) a1))), (2, .int (cI (k : Int))), (0, .ref D), (1, .int (cI (dep : Int)))]) d_Nodes_value_40 (by decide) rfl ?_
  have fin : ∀ (a9 : Nat) (row9 : Row) (rs9 : List Row) (ns9 : List Int) (I9 : M32) (L9 : M64) (R9 : MR) (T9 : SH), WK P w o D N Z g t n (n + 1) m sz V I L R T a9 row9 rs9 ns9 I9 L9 R9 T9 → RsC tot (itmC (tkP t N) g (psC (tkP t N) g F f) dep) (n + 1) m (FinC (tkP t N) k) [] row9 rs9 ns9 a9 → Run m_Nodes_value d (rmC (max sz (m + ns9.length)) (m + tot.1)) (rmS (max sz (m + ns9.length)) (m + tot.1)) 318 [(0, .ref D), (1, .int (cI (dep : Int))), (2, .int (cI (k : Int))), (3, .int (cI (tk (tkP t N) a1))), (4, .int (cI (n : Int)))] [] I9 L9 R9 T9 Q := by
    intro a9 row9 rs9 ns9 I9 L9 R9 T9 hW9 hR9
    refine q_aload_n d_Nodes_value_318 rfl ?_
    refine q_iload_n d_Nodes_value_319 rfl ?_
    refine q_callV (ci := 6) (rc := (rmC (max sz (m + ns9.length)) (m + tot.1))) (rs := (rmS (max sz (m + ns9.length)) (m + tot.1))) (rest := []) d_Nodes_value_320 ml_Nodes_132 ok_Nodes_shut rfl hW9.nd.1 (by decide) (c_Nodes_shut (d - 1) (by omega) hW9.1.1.1 hW9.1.1.2.1 hW9.1.2.1 (by omega)) rfl rfl (by omega) (Nat.le_of_ble_eq_true rfl) (fun v I6 L6 R6 T6 h => ?_) (fun y I6 L6 R6 T6 h => ?_)
    rotate_left
    · rcases hs : shu (tkP t N) k a9 with e | a6
      · rw [hs] at h
        obtain ⟨⟨h1, h2⟩, f1, f2, e1, e2⟩ := h
        subst R6 T6
        cases h1
        exact thr_bad rfl hW9.bad (hQ _ _ _ _ _ (hW9.ps_er f1 f2 h2 (by rw [hR9.nil, FinC_er hs]; rfl)))
      · rw [hs] at h; cases h.1.1
    rcases hs : shu (tkP t N) k a9 with e | a6
    · rw [hs] at h; cases h.1.1
    rw [hs] at h
    obtain ⟨⟨h1, h2⟩, f1, f2, e1, e2⟩ := h
    subst R6 T6
    cases h1
    refine q_iload d_Nodes_value_323 rfl ?_
    refine q_ireturn d_Nodes_value_325 rfl rfl ?_
    refine hQ _ _ _ _ _ ?_
    exact hW9.fin f1 f2 h2 (by rw [hR9.nil, FinC_ok hs]; rfl)
  have t100 : ∀ (I5 : M32) (L5 : M64) (R5 : MR) (T5 : SH), WK P w o D N Z g t n (n + 1) m sz V I L R T a1 (ownR (tkP t N) a1 m dep) [] (ownN (tkP t N) a1) I5 L5 R5 T5 → Run m_Nodes_value d (rmC (max sz (m + (ownN (tkP t N) a1).length)) (m + tot.1)) (rmS (max sz (m + (ownN (tkP t N) a1).length)) (m + tot.1)) 100 [(0, .ref D), (1, .int (cI (dep : Int))), (2, .int (cI (k : Int))), (3, .int (cI (tk (tkP t N) a1))), (4, .int (cI (n : Int)))] [] I5 L5 R5 T5 Q := by
    intro I5 L5 R5 T5 hW5
    have hkr5 := WK_kr hW5
    refine q_aload_n d_Nodes_value_100 rfl ?_
    refine q_getR d_Nodes_value_101 fl_Nodes_3 hW5.nd.1 ⟨rfl, by decide⟩ hW5.nd.2.2 ?_
    refine q_getR d_Nodes_value_104 fl_Nodes_83 hW5.pt ⟨rfl, by decide⟩ hW5.po ?_
    refine q_tk (as := []) (st := []) hW5 d_Nodes_value_107 ml_Nodes_103 ok_Tokens_next rfl rfl (c_Tokens_nextT (d := d - 1) (by omega) hW5.tks hW5.pt hW5.1.1.1.2.1 hW5.1.1.1.2.2.2.1 hW5.1.1.2.1 hW5.1.2.1) rfl rfl (by omega) (Nat.le_of_ble_eq_true rfl) hE (fun e hr => by rw [htot, psC_er4 hop hok2 hnn hr]) (fun a6 I6 L6 hr6 hW6 => ?_)
    have hkr6 := WK_kr hW6
    have hR6 := psC_go2 (f := f) (m := m) hop hok2 hnn hr6
    rw [← htot] at hR6
    refine q_iload_n d_Nodes_value_110 rfl ?_
    obtain ⟨κ, hκ⟩ : ∃ κ, κ = tk (tkP t N) a1 := ⟨_, rfl⟩
    rw [← hκ] at hok hR6 fin ⊢
    have t168 : ∀ (hx : κ = 12 ∨ κ = 18), True → Run m_Nodes_value d (rmC (max sz (m + (ownN (tkP t N) a1).length)) (m + tot.1)) (rmS (max sz (m + (ownN (tkP t N) a1).length)) (m + tot.1)) 168 [(0, .ref D), (1, .int (cI (dep : Int))), (2, .int (cI (k : Int))), (3, .int (cI κ)), (4, .int (cI (n : Int)))] [] I6 L6 R5 T5 Q := by
      intro hx _
      rw [show itC κ = [(4, 1), (4, 2)] by rcases hx with rfl | rfl <;> rfl] at hR6
      have hkr6 := WK_kr hW6
      refine q_aload_n d_Nodes_value_168 rfl ?_
      refine q_getR d_Nodes_value_169 fl_Nodes_37 hW6.nd.1 ⟨rfl, by decide⟩ (nR7 hW6.nd) ?_
      refine q_iload d_Nodes_value_172 rfl ?_
      refine q_aload_n d_Nodes_value_174 rfl ?_
      refine q_getR d_Nodes_value_175 fl_Nodes_3 hW6.nd.1 ⟨rfl, by decide⟩ hW6.nd.2.2 ?_
      refine q_getR d_Nodes_value_178 fl_Nodes_83 hW6.pt ⟨rfl, by decide⟩ hW6.po ?_
      refine q_nm (dd := d - 1) hW6 hR6 (fun _ _ _ _ => rfl) (Or.inl rfl) d_Nodes_value_181 d_Nodes_value_184 ml_Nodes_125 rfl (by omega) (by omega) (Nat.le_of_ble_eq_true rfl) hE (fun a7 row7 I7 L7 hW7 hR7 hro7 => ?_)
      have hkr7 := WK_kr hW7
      refine q_aload_n d_Nodes_value_185 rfl ?_
      refine q_getR d_Nodes_value_186 fl_Nodes_41 hW7.nd.1 ⟨rfl, by decide⟩ (nR8 hW7.nd) ?_
      refine q_iload d_Nodes_value_189 rfl ?_
      refine q_aload_n d_Nodes_value_191 rfl ?_
      refine q_getR d_Nodes_value_192 fl_Nodes_3 hW7.nd.1 ⟨rfl, by decide⟩ hW7.nd.2.2 ?_
      refine q_getR d_Nodes_value_195 fl_Nodes_83 hW7.pt ⟨rfl, by decide⟩ hW7.po ?_
      refine q_nm (dd := d - 1) hW7 hR7 (fun _ _ _ _ => rfl) (Or.inr (Or.inl rfl)) d_Nodes_value_198 d_Nodes_value_201 ml_Nodes_125 rfl (by omega) (by omega) (Nat.le_of_ble_eq_true rfl) hE (fun a8 row8 I8 L8 hW8 hR8 hro8 => ?_)
      have hkr8 := WK_kr hW8
      refine q_goto (tgt := 318) d_Nodes_value_202 (by decide) ?_
      exact fin _ _ _ _ _ _ _ _ hW8 hR8
    have t205 : ∀ (hx : κ = 21), True → Run m_Nodes_value d (rmC (max sz (m + (ownN (tkP t N) a1).length)) (m + tot.1)) (rmS (max sz (m + (ownN (tkP t N) a1).length)) (m + tot.1)) 205 [(0, .ref D), (1, .int (cI (dep : Int))), (2, .int (cI (k : Int))), (3, .int (cI κ)), (4, .int (cI (n : Int)))] [] I6 L6 R5 T5 Q := by
      intro hx _
      rw [show itC κ = [(4, 1)] by subst hx; rfl] at hR6
      have hkr6 := WK_kr hW6
      refine q_aload_n d_Nodes_value_205 rfl ?_
      refine q_getR d_Nodes_value_206 fl_Nodes_37 hW6.nd.1 ⟨rfl, by decide⟩ (nR7 hW6.nd) ?_
      refine q_iload d_Nodes_value_209 rfl ?_
      refine q_aload_n d_Nodes_value_211 rfl ?_
      refine q_getR d_Nodes_value_212 fl_Nodes_3 hW6.nd.1 ⟨rfl, by decide⟩ hW6.nd.2.2 ?_
      refine q_getR d_Nodes_value_215 fl_Nodes_83 hW6.pt ⟨rfl, by decide⟩ hW6.po ?_
      refine q_nm (dd := d - 1) hW6 hR6 (fun _ _ _ _ => rfl) (Or.inl rfl) d_Nodes_value_218 d_Nodes_value_221 ml_Nodes_125 rfl (by omega) (by omega) (Nat.le_of_ble_eq_true rfl) hE (fun a7 row7 I7 L7 hW7 hR7 hro7 => ?_)
      have hkr7 := WK_kr hW7
      refine q_goto (tgt := 318) d_Nodes_value_222 (by decide) ?_
      exact fin _ _ _ _ _ _ _ _ hW7 hR7
    have t225 : ∀ (hx : κ = 13), True → Run m_Nodes_value d (rmC (max sz (m + (ownN (tkP t N) a1).length)) (m + tot.1)) (rmS (max sz (m + (ownN (tkP t N) a1).length)) (m + tot.1)) 225 [(0, .ref D), (1, .int (cI (dep : Int))), (2, .int (cI (k : Int))), (3, .int (cI κ)), (4, .int (cI (n : Int)))] [] I6 L6 R5 T5 Q := by
      intro hx _
      rw [show itC κ = [(2, 1)] by subst hx; rfl] at hR6
      have hkr6 := WK_kr hW6
      refine q_aload_n d_Nodes_value_225 rfl ?_
      refine q_getR d_Nodes_value_226 fl_Nodes_19 hW6.nd.1 ⟨rfl, by decide⟩ (nR1 hW6.nd) ?_
      refine q_iload d_Nodes_value_229 rfl ?_
      refine q_aload_n d_Nodes_value_231 rfl ?_
      refine q_iload_n d_Nodes_value_232 rfl ?_
      refine j_iconst d_Nodes_value_233 ?_
      refine j_iadd d_Nodes_value_234 ?_
      refine q_ch hW6 hR6 ihV (fun _ _ _ _ => rfl) (Or.inl rfl) d_Nodes_value_235 d_Nodes_value_238 ml_Nodes_129 ok_Nodes_value rfl rfl (by omega) (by omega) (by omega) hB (Nat.le_of_ble_eq_true rfl) hE (fun a7 row7 rs7 ns7 I7 L7 R7 T7 hW7 hR7 hro7 => ?_)
      have hkr7 := WK_kr hW7
      refine q_goto (tgt := 318) d_Nodes_value_239 (by decide) ?_
      exact fin _ _ _ _ _ _ _ _ hW7 hR7
    have t242 : ∀ (hx : κ = 14 ∨ κ = 15 ∨ κ = 16 ∨ κ = 17), True → Run m_Nodes_value d (rmC (max sz (m + (ownN (tkP t N) a1).length)) (m + tot.1)) (rmS (max sz (m + (ownN (tkP t N) a1).length)) (m + tot.1)) 242 [(0, .ref D), (1, .int (cI (dep : Int))), (2, .int (cI (k : Int))), (3, .int (cI κ)), (4, .int (cI (n : Int)))] [] I6 L6 R5 T5 Q := by
      intro hx _
      rw [show itC κ = [(2, 1), (2, 2)] by rcases hx with rfl | rfl | rfl | rfl <;> rfl] at hR6
      have hkr6 := WK_kr hW6
      refine q_aload_n d_Nodes_value_242 rfl ?_
      refine q_getR d_Nodes_value_243 fl_Nodes_19 hW6.nd.1 ⟨rfl, by decide⟩ (nR1 hW6.nd) ?_
      refine q_iload d_Nodes_value_246 rfl ?_
      refine q_aload_n d_Nodes_value_248 rfl ?_
      refine q_iload_n d_Nodes_value_249 rfl ?_
      refine j_iconst d_Nodes_value_250 ?_
      refine j_iadd d_Nodes_value_251 ?_
      refine q_ch hW6 hR6 ihV (fun _ _ _ _ => rfl) (Or.inl rfl) d_Nodes_value_252 d_Nodes_value_255 ml_Nodes_129 ok_Nodes_value rfl rfl (by omega) (by omega) (by omega) hB (Nat.le_of_ble_eq_true rfl) hE (fun a7 row7 rs7 ns7 I7 L7 R7 T7 hW7 hR7 hro7 => ?_)
      have hkr7 := WK_kr hW7
      refine q_aload_n d_Nodes_value_256 rfl ?_
      refine q_getR d_Nodes_value_257 fl_Nodes_22 hW7.nd.1 ⟨rfl, by decide⟩ (nR2 hW7.nd) ?_
      refine q_iload d_Nodes_value_260 rfl ?_
      refine q_aload_n d_Nodes_value_262 rfl ?_
      refine q_iload_n d_Nodes_value_263 rfl ?_
      refine j_iconst d_Nodes_value_264 ?_
      refine j_iadd d_Nodes_value_265 ?_
      refine q_ch hW7 hR7 ihV (fun _ _ _ _ => rfl) (Or.inr (Or.inl rfl)) d_Nodes_value_266 d_Nodes_value_269 ml_Nodes_129 ok_Nodes_value rfl rfl (by omega) (by omega) (by omega) hB (Nat.le_of_ble_eq_true rfl) hE (fun a8 row8 rs8 ns8 I8 L8 R8 T8 hW8 hR8 hro8 => ?_)
      have hkr8 := WK_kr hW8
      refine q_goto (tgt := 318) d_Nodes_value_270 (by decide) ?_
      exact fin _ _ _ _ _ _ _ _ hW8 hR8
    have t273 : ∀ (hx : κ = 22), True → Run m_Nodes_value d (rmC (max sz (m + (ownN (tkP t N) a1).length)) (m + tot.1)) (rmS (max sz (m + (ownN (tkP t N) a1).length)) (m + tot.1)) 273 [(0, .ref D), (1, .int (cI (dep : Int))), (2, .int (cI (k : Int))), (3, .int (cI κ)), (4, .int (cI (n : Int)))] [] I6 L6 R5 T5 Q := by
      intro hx _
      rw [show itC κ = [(3, 1), (2, 2), (2, 3)] by subst hx; rfl] at hR6
      have hkr6 := WK_kr hW6
      refine q_aload_n d_Nodes_value_273 rfl ?_
      refine q_getR d_Nodes_value_274 fl_Nodes_19 hW6.nd.1 ⟨rfl, by decide⟩ (nR1 hW6.nd) ?_
      refine q_iload d_Nodes_value_277 rfl ?_
      refine q_aload_n d_Nodes_value_279 rfl ?_
      refine q_iload_n d_Nodes_value_280 rfl ?_
      refine j_iconst d_Nodes_value_281 ?_
      refine j_iadd d_Nodes_value_282 ?_
      refine q_ch hW6 hR6 ihO (fun _ _ _ _ => rfl) (Or.inl rfl) d_Nodes_value_283 d_Nodes_value_286 ml_Nodes_119 ok_Nodes_observation rfl rfl (by omega) (by omega) (by omega) hB (Nat.le_of_ble_eq_true rfl) hE (fun a7 row7 rs7 ns7 I7 L7 R7 T7 hW7 hR7 hro7 => ?_)
      have hkr7 := WK_kr hW7
      refine q_aload_n d_Nodes_value_287 rfl ?_
      refine q_getR d_Nodes_value_288 fl_Nodes_22 hW7.nd.1 ⟨rfl, by decide⟩ (nR2 hW7.nd) ?_
      refine q_iload d_Nodes_value_291 rfl ?_
      refine q_aload_n d_Nodes_value_293 rfl ?_
      refine q_iload_n d_Nodes_value_294 rfl ?_
      refine j_iconst d_Nodes_value_295 ?_
      refine j_iadd d_Nodes_value_296 ?_
      refine q_ch hW7 hR7 ihV (fun _ _ _ _ => rfl) (Or.inr (Or.inl rfl)) d_Nodes_value_297 d_Nodes_value_300 ml_Nodes_129 ok_Nodes_value rfl rfl (by omega) (by omega) (by omega) hB (Nat.le_of_ble_eq_true rfl) hE (fun a8 row8 rs8 ns8 I8 L8 R8 T8 hW8 hR8 hro8 => ?_)
      have hkr8 := WK_kr hW8
      refine q_aload_n d_Nodes_value_301 rfl ?_
      refine q_getR d_Nodes_value_302 fl_Nodes_25 hW8.nd.1 ⟨rfl, by decide⟩ (nR3 hW8.nd) ?_
      refine q_iload d_Nodes_value_305 rfl ?_
      refine q_aload_n d_Nodes_value_307 rfl ?_
      refine q_iload_n d_Nodes_value_308 rfl ?_
      refine j_iconst d_Nodes_value_309 ?_
      refine j_iadd d_Nodes_value_310 ?_
      refine q_ch hW8 hR8 ihV (fun _ _ _ _ => rfl) (Or.inr (Or.inr rfl)) d_Nodes_value_311 d_Nodes_value_314 ml_Nodes_129 ok_Nodes_value rfl rfl (by omega) (by omega) (by omega) hB (Nat.le_of_ble_eq_true rfl) hE (fun a9 row9 rs9 ns9 I9 L9 R9 T9 hW9 hR9 hro9 => ?_)
      have hkr9 := WK_kr hW9
      refine q_goto (tgt := 318) d_Nodes_value_315 (by decide) ?_
      exact fin _ _ _ _ _ _ _ _ hW9 hR9
    have hcs : κ = 12 ∨ κ = 13 ∨ κ = 14 ∨ κ = 15 ∨ κ = 16 ∨ κ = 17 ∨ κ = 18 ∨ κ = 19 ∨ κ = 20 ∨ κ = 21 ∨ κ = 22 ∨ (κ = 100 ∨ κ = 102) := by omega
    rcases hcs with e | e | e | e | e | e | e | e | e | e | e | e
    · refine j_tableIn (k := 12) (tgt := 168) d_Nodes_value_111 e (by decide) rfl (by decide) ?_
      exact t168 (Or.inl e) trivial
    · refine j_tableIn (k := 13) (tgt := 225) d_Nodes_value_111 e (by decide) rfl (by decide) ?_
      exact t225 e trivial
    · refine j_tableIn (k := 14) (tgt := 242) d_Nodes_value_111 e (by decide) rfl (by decide) ?_
      exact t242 (by omega) trivial
    · refine j_tableIn (k := 15) (tgt := 242) d_Nodes_value_111 e (by decide) rfl (by decide) ?_
      exact t242 (by omega) trivial
    · refine j_tableIn (k := 16) (tgt := 242) d_Nodes_value_111 e (by decide) rfl (by decide) ?_
      exact t242 (by omega) trivial
    · refine j_tableIn (k := 17) (tgt := 242) d_Nodes_value_111 e (by decide) rfl (by decide) ?_
      exact t242 (by omega) trivial
    · refine j_tableIn (k := 18) (tgt := 168) d_Nodes_value_111 e (by decide) rfl (by decide) ?_
      exact t168 (Or.inr e) trivial
    · refine j_tableIn (k := 19) (tgt := 318) d_Nodes_value_111 e (by decide) rfl (by decide) ?_
      rw [show itC κ = [] by subst e; rfl] at hR6
      exact fin _ _ _ _ _ _ _ _ hW6 hR6
    · refine j_tableIn (k := 20) (tgt := 318) d_Nodes_value_111 e (by decide) rfl (by decide) ?_
      rw [show itC κ = [] by subst e; rfl] at hR6
      exact fin _ _ _ _ _ _ _ _ hW6 hR6
    · refine j_tableIn (k := 21) (tgt := 205) d_Nodes_value_111 e (by decide) rfl (by decide) ?_
      exact t205 e trivial
    · refine j_tableIn (k := 22) (tgt := 273) d_Nodes_value_111 e (by decide) rfl (by decide) ?_
      exact t273 e trivial
    · refine j_tableOut (tgt := 318) d_Nodes_value_111 (by omega) (by omega) (by decide) ?_
      rw [show itC κ = [] by rcases e with rfl | rfl <;> rfl] at hR6
      exact fin _ _ _ _ _ _ _ _ hW6 hR6
  rcases hok with h1 | h1 | h1
  · have hon : ownN (tkP t N) a1 = [tv (tkP t N) a1] := by unfold ownN; rw [if_pos h1]
    have hor : ownR (tkP t N) a1 m dep = [tk (tkP t N) a1, -1, -1, -1, -1, 0, 0, 0, (m : Int), 0, (dep : Int)] := by unfold ownR; rw [if_neg (by omega), if_pos h1]
    refine q_aload_n d_Nodes_value_42 rfl ?_
    refine q_getR d_Nodes_value_43 fl_Nodes_37 hW2.nd.1 ⟨rfl, by decide⟩ (nR7 hW2.nd) ?_
    refine q_iload d_Nodes_value_46 rfl ?_
    refine q_iload_n d_Nodes_value_48 rfl ?_
    refine j_bipush d_Nodes_value_49 (by decide) ?_
    refine j_icmp_ne (tgt := 67) d_Nodes_value_51 (by decide) (by omega) (by omega) (fun hx => ?_) (fun hx => by exfalso; omega)
    refine j_lconst (z := 0) d_Nodes_value_67 (by decide) ?_
    refine j_last (j := n) d_Nodes_value_68 (nT7 hW2.nd) (nN7 hW2.nd) (by omega) (by omega) (by omega) ?_
    have hW3 := hW2.stL1 (v := 0)
    generalize hL3 : (up2 L2 (D + 8) n (cL 0)) = L3 at hW3 ⊢
    have hkr3 := WK_kr hW3
    refine q_aload_n d_Nodes_value_69 rfl ?_
    refine q_getR d_Nodes_value_70 fl_Nodes_31 hW3.nd.1 ⟨rfl, by decide⟩ (nR5 hW3.nd) ?_
    refine q_iload d_Nodes_value_73 rfl ?_
    refine q_iload_n d_Nodes_value_75 rfl ?_
    refine j_bipush d_Nodes_value_76 (by decide) ?_
    refine j_icmp_ne (tgt := 98) d_Nodes_value_78 (by decide) (by omega) (by omega) (fun hx => by exfalso; omega) (fun hx => ?_)
    refine q_aload_n d_Nodes_value_81 rfl ?_
    refine q_aload_n d_Nodes_value_82 rfl ?_
    refine q_getR d_Nodes_value_83 fl_Nodes_3 hW3.nd.1 ⟨rfl, by decide⟩ hW3.nd.2.2 ?_
    refine q_getR d_Nodes_value_86 fl_Nodes_83 hW3.pt ⟨rfl, by decide⟩ hW3.po ?_
    refine q_getR d_Nodes_value_89 fl_Nodes_142 hW3.tks.1 ⟨rfl, by decide⟩ hW3.tks.2.2.2.2.1 ?_
    rw [hon] at hge t100
    refine q_num hW3 h1 d_Nodes_value_92 ml_Nodes_151 (by omega) hB hge (Nat.le_of_ble_eq_true rfl) (fun ns4 I4 L4 R4 T4 hn4 hW4 => ?_)
    have hkr4 := WK_kr hW4
    refine q_goto (tgt := 99) d_Nodes_value_95 (by decide) ?_
    refine j_iast (j := n) d_Nodes_value_99 (nT5 hW4.nd) (nN5 hW4.nd) (by omega) (by omega) (by omega) ?_
    have hW5 := hW4.stI (s := 8) (c := 6) (v := ((m : Nat) : Int)) (by omega)
    generalize hI5 : (up2 I4 (D + 6) n (cI (((m + ([] : List Int).length : Nat) : Int)))) = I5 at hW5 ⊢
    have hkr5 := WK_kr hW5
    subst hn4
    rw [hor] at t100
    refine Run.lv (lv' := [(0, .ref D), (1, .int (cI (dep : Int))), (2, .int (cI (k : Int))), (3, .int (cI (tk (tkP t N) a1))), (4, .int (cI (n : Int)))]) (by intro q hq; simp only [List.mem_cons, List.not_mem_nil, or_false] at hq ⊢; rcases hq with rfl | rfl | rfl | rfl | rfl <;> simp) ?_
    exact t100 _ _ _ _ hW5
  · have hon : ownN (tkP t N) a1 = [] := by unfold ownN; rw [if_neg (by omega)]
    have hor : ownR (tkP t N) a1 m dep = [tk (tkP t N) a1, -1, -1, -1, -1, (tx (tkP t N) a1 : Int), 0, 0, -1, 0, (dep : Int)] := by unfold ownR; rw [if_pos h1, if_neg (by omega)]
    rw [hon, hor] at t100
    refine q_aload_n d_Nodes_value_42 rfl ?_
    refine q_getR d_Nodes_value_43 fl_Nodes_37 hW2.nd.1 ⟨rfl, by decide⟩ (nR7 hW2.nd) ?_
    refine q_iload d_Nodes_value_46 rfl ?_
    refine q_iload_n d_Nodes_value_48 rfl ?_
    refine j_bipush d_Nodes_value_49 (by decide) ?_
    refine j_icmp_ne (tgt := 67) d_Nodes_value_51 (by decide) (by omega) (by omega) (fun hx => by exfalso; omega) (fun hx => ?_)
    refine q_aload_n d_Nodes_value_54 rfl ?_
    refine q_getR d_Nodes_value_55 fl_Nodes_3 hW2.nd.1 ⟨rfl, by decide⟩ hW2.nd.2.2 ?_
    refine q_getR d_Nodes_value_58 fl_Nodes_83 hW2.pt ⟨rfl, by decide⟩ hW2.po ?_
    refine j_getL (v := (cL (tx (tkP t N) a1))) d_Nodes_value_61 fl_Nodes_138 hW2.tks.1 ⟨rfl, by decide⟩ (hC2.2.1.2.2.2.2.2.2.1 (Or.inr (Or.inr h1))) ?_
    refine q_goto (tgt := 68) d_Nodes_value_64 (by decide) ?_
    refine j_last (j := n) d_Nodes_value_68 (nT7 hW2.nd) (nN7 hW2.nd) (by omega) (by omega) (by omega) ?_
    have hW3 := hW2.stL1 (v := ((tx (tkP t N) a1 : Nat) : Int))
    generalize hL3 : (up2 L2 (D + 8) n (cL (tx (tkP t N) a1))) = L3 at hW3 ⊢
    have hkr3 := WK_kr hW3
    refine q_aload_n d_Nodes_value_69 rfl ?_
    refine q_getR d_Nodes_value_70 fl_Nodes_31 hW3.nd.1 ⟨rfl, by decide⟩ (nR5 hW3.nd) ?_
    refine q_iload d_Nodes_value_73 rfl ?_
    refine q_iload_n d_Nodes_value_75 rfl ?_
    refine j_bipush d_Nodes_value_76 (by decide) ?_
    refine j_icmp_ne (tgt := 98) d_Nodes_value_78 (by decide) (by omega) (by omega) (fun hx => ?_) (fun hx => by exfalso; omega)
    refine j_iconst d_Nodes_value_98 ?_
    refine j_iast (j := n) d_Nodes_value_99 (nT5 hW3.nd) (nN5 hW3.nd) (by omega) (by omega) (by omega) ?_
    have hW4 := hW3.stI (s := 8) (c := 6) (v := -1) (by omega)
    generalize hI4 : (up2 I2 (D + 6) n (cI (-1))) = I4 at hW4 ⊢
    have hkr4 := WK_kr hW4
    refine Run.lv (lv' := [(0, .ref D), (1, .int (cI (dep : Int))), (2, .int (cI (k : Int))), (3, .int (cI (tk (tkP t N) a1))), (4, .int (cI (n : Int)))]) (by intro q hq; simp only [List.mem_cons, List.not_mem_nil, or_false] at hq ⊢; rcases hq with rfl | rfl | rfl | rfl | rfl <;> simp) ?_
    exact t100 _ _ _ _ hW4
  · have hon : ownN (tkP t N) a1 = [] := by unfold ownN; rw [if_neg (by omega)]
    have hor : ownR (tkP t N) a1 m dep = [tk (tkP t N) a1, -1, -1, -1, -1, 0, 0, 0, -1, 0, (dep : Int)] := by unfold ownR; rw [if_neg (by omega), if_neg (by omega)]
    rw [hon, hor] at t100
    refine q_aload_n d_Nodes_value_42 rfl ?_
    refine q_getR d_Nodes_value_43 fl_Nodes_37 hW2.nd.1 ⟨rfl, by decide⟩ (nR7 hW2.nd) ?_
    refine q_iload d_Nodes_value_46 rfl ?_
    refine q_iload_n d_Nodes_value_48 rfl ?_
    refine j_bipush d_Nodes_value_49 (by decide) ?_
    refine j_icmp_ne (tgt := 67) d_Nodes_value_51 (by decide) (by omega) (by omega) (fun hx => ?_) (fun hx => by exfalso; omega)
    refine j_lconst (z := 0) d_Nodes_value_67 (by decide) ?_
    refine j_last (j := n) d_Nodes_value_68 (nT7 hW2.nd) (nN7 hW2.nd) (by omega) (by omega) (by omega) ?_
    have hW3 := hW2.stL1 (v := 0)
    generalize hL3 : (up2 L2 (D + 8) n (cL 0)) = L3 at hW3 ⊢
    have hkr3 := WK_kr hW3
    refine q_aload_n d_Nodes_value_69 rfl ?_
    refine q_getR d_Nodes_value_70 fl_Nodes_31 hW3.nd.1 ⟨rfl, by decide⟩ (nR5 hW3.nd) ?_
    refine q_iload d_Nodes_value_73 rfl ?_
    refine q_iload_n d_Nodes_value_75 rfl ?_
    refine j_bipush d_Nodes_value_76 (by decide) ?_
    refine j_icmp_ne (tgt := 98) d_Nodes_value_78 (by decide) (by omega) (by omega) (fun hx => ?_) (fun hx => by exfalso; omega)
    refine j_iconst d_Nodes_value_98 ?_
    refine j_iast (j := n) d_Nodes_value_99 (nT5 hW3.nd) (nN5 hW3.nd) (by omega) (by omega) (by omega) ?_
    have hW4 := hW3.stI (s := 8) (c := 6) (v := -1) (by omega)
    generalize hI4 : (up2 I2 (D + 6) n (cI (-1))) = I4 at hW4 ⊢
    have hkr4 := WK_kr hW4
    refine Run.lv (lv' := [(0, .ref D), (1, .int (cI (dep : Int))), (2, .int (cI (k : Int))), (3, .int (cI (tk (tkP t N) a1))), (4, .int (cI (n : Int)))]) (by intro q hq; simp only [List.mem_cons, List.not_mem_nil, or_false] at hq ⊢; rcases hq with rfl | rfl | rfl | rfl | rfl <;> simp) ?_
    exact t100 _ _ _ _ hW4

