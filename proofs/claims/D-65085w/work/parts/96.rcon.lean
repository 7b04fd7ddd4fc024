/-! ===== 96 THE COMPONENT'S READER: contracts; the reader as a whole ===== -/
theorem d_Nodes_contract_0 : decode m_Nodes_contract.2.1 0 = .ok (.aload_n 0, 1) := by decide +kernel
theorem d_Nodes_contract_1 : decode m_Nodes_contract.2.1 1 = .ok (.invokevirtual 108, 3) := by decide +kernel
theorem d_Nodes_contract_4 : decode m_Nodes_contract.2.1 4 = .ok (.istore_n 2, 1) := by decide +kernel
theorem d_Nodes_contract_5 : decode m_Nodes_contract.2.1 5 = .ok (.aload_n 0, 1) := by decide +kernel
theorem d_Nodes_contract_6 : decode m_Nodes_contract.2.1 6 = .ok (.getfield 3, 3) := by decide +kernel
theorem d_Nodes_contract_9 : decode m_Nodes_contract.2.1 9 = .ok (.getfield 83, 3) := by decide +kernel
theorem d_Nodes_contract_12 : decode m_Nodes_contract.2.1 12 = .ok (.getfield 100, 3) := by decide +kernel
theorem d_Nodes_contract_15 : decode m_Nodes_contract.2.1 15 = .ok (.istore_n 3, 1) := by decide +kernel
theorem d_Nodes_contract_16 : decode m_Nodes_contract.2.1 16 = .ok (.iload_n 3, 1) := by decide +kernel
theorem d_Nodes_contract_17 : decode m_Nodes_contract.2.1 17 = .ok (.ifCond .eq 41, 3) := by decide +kernel
theorem d_Nodes_contract_20 : decode m_Nodes_contract.2.1 20 = .ok (.iload_n 3, 1) := by decide +kernel
theorem d_Nodes_contract_21 : decode m_Nodes_contract.2.1 21 = .ok (.iconst 1, 1) := by decide +kernel
theorem d_Nodes_contract_22 : decode m_Nodes_contract.2.1 22 = .ok (.if_icmp .eq 36, 3) := by decide +kernel
theorem d_Nodes_contract_25 : decode m_Nodes_contract.2.1 25 = .ok (.iload_n 3, 1) := by decide +kernel
theorem d_Nodes_contract_26 : decode m_Nodes_contract.2.1 26 = .ok (.iconst 4, 1) := by decide +kernel
theorem d_Nodes_contract_27 : decode m_Nodes_contract.2.1 27 = .ok (.if_icmp .eq 31, 3) := by decide +kernel
theorem d_Nodes_contract_30 : decode m_Nodes_contract.2.1 30 = .ok (.iload_n 3, 1) := by decide +kernel
theorem d_Nodes_contract_31 : decode m_Nodes_contract.2.1 31 = .ok (.iconst 5, 1) := by decide +kernel
theorem d_Nodes_contract_32 : decode m_Nodes_contract.2.1 32 = .ok (.if_icmp .eq 26, 3) := by decide +kernel
theorem d_Nodes_contract_35 : decode m_Nodes_contract.2.1 35 = .ok (.iload_n 3, 1) := by decide +kernel
theorem d_Nodes_contract_36 : decode m_Nodes_contract.2.1 36 = .ok (.bipush 10, 2) := by decide +kernel
theorem d_Nodes_contract_38 : decode m_Nodes_contract.2.1 38 = .ok (.if_icmp .eq 20, 3) := by decide +kernel
theorem d_Nodes_contract_41 : decode m_Nodes_contract.2.1 41 = .ok (.iload_n 3, 1) := by decide +kernel
theorem d_Nodes_contract_42 : decode m_Nodes_contract.2.1 42 = .ok (.bipush 11, 2) := by decide +kernel
theorem d_Nodes_contract_44 : decode m_Nodes_contract.2.1 44 = .ok (.if_icmp .eq 14, 3) := by decide +kernel
theorem d_Nodes_contract_47 : decode m_Nodes_contract.2.1 47 = .ok (.aload_n 0, 1) := by decide +kernel
theorem d_Nodes_contract_48 : decode m_Nodes_contract.2.1 48 = .ok (.getfield 3, 3) := by decide +kernel
theorem d_Nodes_contract_51 : decode m_Nodes_contract.2.1 51 = .ok (.getfield 83, 3) := by decide +kernel
theorem d_Nodes_contract_54 : decode m_Nodes_contract.2.1 54 = .ok (.iconst 4, 1) := by decide +kernel
theorem d_Nodes_contract_55 : decode m_Nodes_contract.2.1 55 = .ok (.invokevirtual 87, 3) := by decide +kernel
theorem d_Nodes_contract_58 : decode m_Nodes_contract.2.1 58 = .ok (.aload_n 0, 1) := by decide +kernel
theorem d_Nodes_contract_59 : decode m_Nodes_contract.2.1 59 = .ok (.iload_n 3, 1) := by decide +kernel
theorem d_Nodes_contract_60 : decode m_Nodes_contract.2.1 60 = .ok (.iload_n 1, 1) := by decide +kernel
theorem d_Nodes_contract_61 : decode m_Nodes_contract.2.1 61 = .ok (.invokevirtual 111, 3) := by decide +kernel
theorem d_Nodes_contract_64 : decode m_Nodes_contract.2.1 64 = .ok (.istore 4, 2) := by decide +kernel
theorem d_Nodes_contract_66 : decode m_Nodes_contract.2.1 66 = .ok (.aload_n 0, 1) := by decide +kernel
theorem d_Nodes_contract_67 : decode m_Nodes_contract.2.1 67 = .ok (.getfield 3, 3) := by decide +kernel
theorem d_Nodes_contract_70 : decode m_Nodes_contract.2.1 70 = .ok (.getfield 83, 3) := by decide +kernel
theorem d_Nodes_contract_73 : decode m_Nodes_contract.2.1 73 = .ok (.invokevirtual 103, 3) := by decide +kernel
theorem d_Nodes_contract_76 : decode m_Nodes_contract.2.1 76 = .ok (.iload_n 3, 1) := by decide +kernel
theorem d_Nodes_contract_77 : decode m_Nodes_contract.2.1 77 = .ok (.tableswitch 203 1 11 #[59, 203, 203, 69, 114, 203, 203, 203, 203, 124, 172], 59) := by decide +kernel
theorem d_Nodes_contract_136 : decode m_Nodes_contract.2.1 136 = .ok (.aload_n 0, 1) := by decide +kernel
theorem d_Nodes_contract_137 : decode m_Nodes_contract.2.1 137 = .ok (.iload 4, 2) := by decide +kernel
theorem d_Nodes_contract_139 : decode m_Nodes_contract.2.1 139 = .ok (.iload_n 1, 1) := by decide +kernel
theorem d_Nodes_contract_140 : decode m_Nodes_contract.2.1 140 = .ok (.invokevirtual 115, 3) := by decide +kernel
theorem d_Nodes_contract_143 : decode m_Nodes_contract.2.1 143 = .ok (.goto 137, 3) := by decide +kernel
theorem d_Nodes_contract_146 : decode m_Nodes_contract.2.1 146 = .ok (.aload_n 0, 1) := by decide +kernel
theorem d_Nodes_contract_147 : decode m_Nodes_contract.2.1 147 = .ok (.getfield 19, 3) := by decide +kernel
theorem d_Nodes_contract_150 : decode m_Nodes_contract.2.1 150 = .ok (.iload 4, 2) := by decide +kernel
theorem d_Nodes_contract_152 : decode m_Nodes_contract.2.1 152 = .ok (.aload_n 0, 1) := by decide +kernel
theorem d_Nodes_contract_153 : decode m_Nodes_contract.2.1 153 = .ok (.iload_n 1, 1) := by decide +kernel
theorem d_Nodes_contract_154 : decode m_Nodes_contract.2.1 154 = .ok (.iconst 1, 1) := by decide +kernel
theorem d_Nodes_contract_155 : decode m_Nodes_contract.2.1 155 = .ok (.iadd, 1) := by decide +kernel
theorem d_Nodes_contract_156 : decode m_Nodes_contract.2.1 156 = .ok (.invokevirtual 119, 3) := by decide +kernel
theorem d_Nodes_contract_159 : decode m_Nodes_contract.2.1 159 = .ok (.iastore, 1) := by decide +kernel
theorem d_Nodes_contract_160 : decode m_Nodes_contract.2.1 160 = .ok (.aload_n 0, 1) := by decide +kernel
theorem d_Nodes_contract_161 : decode m_Nodes_contract.2.1 161 = .ok (.getfield 22, 3) := by decide +kernel
theorem d_Nodes_contract_164 : decode m_Nodes_contract.2.1 164 = .ok (.iload 4, 2) := by decide +kernel
theorem d_Nodes_contract_166 : decode m_Nodes_contract.2.1 166 = .ok (.aload_n 0, 1) := by decide +kernel
theorem d_Nodes_contract_167 : decode m_Nodes_contract.2.1 167 = .ok (.iload_n 1, 1) := by decide +kernel
theorem d_Nodes_contract_168 : decode m_Nodes_contract.2.1 168 = .ok (.iconst 1, 1) := by decide +kernel
theorem d_Nodes_contract_169 : decode m_Nodes_contract.2.1 169 = .ok (.iadd, 1) := by decide +kernel
theorem d_Nodes_contract_170 : decode m_Nodes_contract.2.1 170 = .ok (.invokevirtual 93, 3) := by decide +kernel
theorem d_Nodes_contract_173 : decode m_Nodes_contract.2.1 173 = .ok (.iastore, 1) := by decide +kernel
theorem d_Nodes_contract_174 : decode m_Nodes_contract.2.1 174 = .ok (.aload_n 0, 1) := by decide +kernel
theorem d_Nodes_contract_175 : decode m_Nodes_contract.2.1 175 = .ok (.getfield 25, 3) := by decide +kernel
theorem d_Nodes_contract_178 : decode m_Nodes_contract.2.1 178 = .ok (.iload 4, 2) := by decide +kernel
theorem d_Nodes_contract_180 : decode m_Nodes_contract.2.1 180 = .ok (.aload_n 0, 1) := by decide +kernel
theorem d_Nodes_contract_181 : decode m_Nodes_contract.2.1 181 = .ok (.iload_n 1, 1) := by decide +kernel
theorem d_Nodes_contract_182 : decode m_Nodes_contract.2.1 182 = .ok (.iconst 1, 1) := by decide +kernel
theorem d_Nodes_contract_183 : decode m_Nodes_contract.2.1 183 = .ok (.iadd, 1) := by decide +kernel
theorem d_Nodes_contract_184 : decode m_Nodes_contract.2.1 184 = .ok (.invokevirtual 93, 3) := by decide +kernel
theorem d_Nodes_contract_187 : decode m_Nodes_contract.2.1 187 = .ok (.iastore, 1) := by decide +kernel
theorem d_Nodes_contract_188 : decode m_Nodes_contract.2.1 188 = .ok (.goto 92, 3) := by decide +kernel
theorem d_Nodes_contract_191 : decode m_Nodes_contract.2.1 191 = .ok (.aload_n 0, 1) := by decide +kernel
theorem d_Nodes_contract_192 : decode m_Nodes_contract.2.1 192 = .ok (.iload 4, 2) := by decide +kernel
theorem d_Nodes_contract_194 : decode m_Nodes_contract.2.1 194 = .ok (.iload_n 1, 1) := by decide +kernel
theorem d_Nodes_contract_195 : decode m_Nodes_contract.2.1 195 = .ok (.invokevirtual 122, 3) := by decide +kernel
theorem d_Nodes_contract_198 : decode m_Nodes_contract.2.1 198 = .ok (.goto 82, 3) := by decide +kernel
theorem d_Nodes_contract_201 : decode m_Nodes_contract.2.1 201 = .ok (.aload_n 0, 1) := by decide +kernel
theorem d_Nodes_contract_202 : decode m_Nodes_contract.2.1 202 = .ok (.getfield 37, 3) := by decide +kernel
theorem d_Nodes_contract_205 : decode m_Nodes_contract.2.1 205 = .ok (.iload 4, 2) := by decide +kernel
theorem d_Nodes_contract_207 : decode m_Nodes_contract.2.1 207 = .ok (.aload_n 0, 1) := by decide +kernel
theorem d_Nodes_contract_208 : decode m_Nodes_contract.2.1 208 = .ok (.getfield 3, 3) := by decide +kernel
theorem d_Nodes_contract_211 : decode m_Nodes_contract.2.1 211 = .ok (.getfield 83, 3) := by decide +kernel
theorem d_Nodes_contract_214 : decode m_Nodes_contract.2.1 214 = .ok (.invokevirtual 125, 3) := by decide +kernel
theorem d_Nodes_contract_217 : decode m_Nodes_contract.2.1 217 = .ok (.lastore, 1) := by decide +kernel
theorem d_Nodes_contract_218 : decode m_Nodes_contract.2.1 218 = .ok (.aload_n 0, 1) := by decide +kernel
theorem d_Nodes_contract_219 : decode m_Nodes_contract.2.1 219 = .ok (.getfield 19, 3) := by decide +kernel
theorem d_Nodes_contract_222 : decode m_Nodes_contract.2.1 222 = .ok (.iload 4, 2) := by decide +kernel
theorem d_Nodes_contract_224 : decode m_Nodes_contract.2.1 224 = .ok (.aload_n 0, 1) := by decide +kernel
theorem d_Nodes_contract_225 : decode m_Nodes_contract.2.1 225 = .ok (.iload_n 1, 1) := by decide +kernel
theorem d_Nodes_contract_226 : decode m_Nodes_contract.2.1 226 = .ok (.iconst 1, 1) := by decide +kernel
theorem d_Nodes_contract_227 : decode m_Nodes_contract.2.1 227 = .ok (.iadd, 1) := by decide +kernel
theorem d_Nodes_contract_228 : decode m_Nodes_contract.2.1 228 = .ok (.invokevirtual 129, 3) := by decide +kernel
theorem d_Nodes_contract_231 : decode m_Nodes_contract.2.1 231 = .ok (.iastore, 1) := by decide +kernel
theorem d_Nodes_contract_232 : decode m_Nodes_contract.2.1 232 = .ok (.aload_n 0, 1) := by decide +kernel
theorem d_Nodes_contract_233 : decode m_Nodes_contract.2.1 233 = .ok (.getfield 22, 3) := by decide +kernel
theorem d_Nodes_contract_236 : decode m_Nodes_contract.2.1 236 = .ok (.iload 4, 2) := by decide +kernel
theorem d_Nodes_contract_238 : decode m_Nodes_contract.2.1 238 = .ok (.aload_n 0, 1) := by decide +kernel
theorem d_Nodes_contract_239 : decode m_Nodes_contract.2.1 239 = .ok (.iload_n 1, 1) := by decide +kernel
theorem d_Nodes_contract_240 : decode m_Nodes_contract.2.1 240 = .ok (.iconst 1, 1) := by decide +kernel
theorem d_Nodes_contract_241 : decode m_Nodes_contract.2.1 241 = .ok (.iadd, 1) := by decide +kernel
theorem d_Nodes_contract_242 : decode m_Nodes_contract.2.1 242 = .ok (.invokevirtual 93, 3) := by decide +kernel
theorem d_Nodes_contract_245 : decode m_Nodes_contract.2.1 245 = .ok (.iastore, 1) := by decide +kernel
theorem d_Nodes_contract_246 : decode m_Nodes_contract.2.1 246 = .ok (.goto 34, 3) := by decide +kernel
theorem d_Nodes_contract_249 : decode m_Nodes_contract.2.1 249 = .ok (.aload_n 0, 1) := by decide +kernel
theorem d_Nodes_contract_250 : decode m_Nodes_contract.2.1 250 = .ok (.getfield 19, 3) := by decide +kernel
theorem d_Nodes_contract_253 : decode m_Nodes_contract.2.1 253 = .ok (.iload 4, 2) := by decide +kernel
theorem d_Nodes_contract_255 : decode m_Nodes_contract.2.1 255 = .ok (.aload_n 0, 1) := by decide +kernel
theorem d_Nodes_contract_256 : decode m_Nodes_contract.2.1 256 = .ok (.iload_n 1, 1) := by decide +kernel
theorem d_Nodes_contract_257 : decode m_Nodes_contract.2.1 257 = .ok (.iconst 1, 1) := by decide +kernel
theorem d_Nodes_contract_258 : decode m_Nodes_contract.2.1 258 = .ok (.iadd, 1) := by decide +kernel
theorem d_Nodes_contract_259 : decode m_Nodes_contract.2.1 259 = .ok (.invokevirtual 119, 3) := by decide +kernel
theorem d_Nodes_contract_262 : decode m_Nodes_contract.2.1 262 = .ok (.iastore, 1) := by decide +kernel
theorem d_Nodes_contract_263 : decode m_Nodes_contract.2.1 263 = .ok (.aload_n 0, 1) := by decide +kernel
theorem d_Nodes_contract_264 : decode m_Nodes_contract.2.1 264 = .ok (.getfield 22, 3) := by decide +kernel
theorem d_Nodes_contract_267 : decode m_Nodes_contract.2.1 267 = .ok (.iload 4, 2) := by decide +kernel
theorem d_Nodes_contract_269 : decode m_Nodes_contract.2.1 269 = .ok (.aload_n 0, 1) := by decide +kernel
theorem d_Nodes_contract_270 : decode m_Nodes_contract.2.1 270 = .ok (.iload_n 1, 1) := by decide +kernel
theorem d_Nodes_contract_271 : decode m_Nodes_contract.2.1 271 = .ok (.iconst 1, 1) := by decide +kernel
theorem d_Nodes_contract_272 : decode m_Nodes_contract.2.1 272 = .ok (.iadd, 1) := by decide +kernel
theorem d_Nodes_contract_273 : decode m_Nodes_contract.2.1 273 = .ok (.invokevirtual 93, 3) := by decide +kernel
theorem d_Nodes_contract_276 : decode m_Nodes_contract.2.1 276 = .ok (.iastore, 1) := by decide +kernel
theorem d_Nodes_contract_277 : decode m_Nodes_contract.2.1 277 = .ok (.goto 3, 3) := by decide +kernel
theorem d_Nodes_contract_280 : decode m_Nodes_contract.2.1 280 = .ok (.aload_n 0, 1) := by decide +kernel
theorem d_Nodes_contract_281 : decode m_Nodes_contract.2.1 281 = .ok (.iload_n 2, 1) := by decide +kernel
theorem d_Nodes_contract_282 : decode m_Nodes_contract.2.1 282 = .ok (.invokevirtual 132, 3) := by decide +kernel
theorem d_Nodes_contract_285 : decode m_Nodes_contract.2.1 285 = .ok (.iload 4, 2) := by decide +kernel
theorem d_Nodes_contract_287 : decode m_Nodes_contract.2.1 287 = .ok (.ireturn, 1) := by decide +kernel
section
variable {α : Type} {tot : CR α} {it : ITC} {n1 m0 : Nat} {F0 : Nat × Row × List Row × List Int → CR α} {ws : List (Nat × Nat)} {row : Row} {rs : List Row} {nums : List Int} {a : Nat}
theorem RsC.all_ok {c a' : Nat} {row' : Row} {rs' : List Row} {nums' : List Int} (h : RsC tot it n1 m0 F0 ws row rs nums a) (hi : itsC it ws row (n1 + rs.length) (m0 + nums.length) a = (c, .ok (a', row', rs', nums'))) (hc : c = nums'.length) : RsC tot it n1 m0 F0 [] row' (rs ++ rs') (nums ++ nums') a' := by
  unfold RsC at h ⊢
  rw [h, hi, bdC_ok, adC_adC, hc, List.length_append, itsC, bdC_ok, adC_0]
  simp only [List.append_nil]
theorem RsC.all_er {c : Nat} {e : Int × Nat} (h : RsC tot it n1 m0 F0 ws row rs nums a) (hi : itsC it ws row (n1 + rs.length) (m0 + nums.length) a = (c, .error e)) : tot = (nums.length + c, .error e) := by
  unfold RsC at h
  rw [h, hi]; rfl
theorem RsC.all_ge (h : RsC tot it n1 m0 F0 ws row rs nums a) : nums.length + (itsC it ws row (n1 + rs.length) (m0 + nums.length) a).1 ≤ tot.1 := by
  unfold RsC at h
  rw [h]
  exact Nat.add_le_add_left (bdC_ge _ _) _
end
theorem c_Nodes_contract {P w o D N Z g F f : Nat} {t : Nat → Nat} (hNF : N < F) (hF9 : F ≤ 20000) (ihV : RdOk P w o D N Z g F t m_Nodes_value y_Nodes_value 2 f) (ihO : RdOk P w o D N Z g F t m_Nodes_observation y_Nodes_observation 3 f) (ihC : RdOk P w o D N Z g F t m_Nodes_contract y_Nodes_contract 1 f) : RdOk P w o D N Z g F t m_Nodes_contract y_Nodes_contract 1 (f + 1) := by
  intro dep n m sz a V I L R T d hd h102 h101 hC hB
  obtain ⟨tot, htot⟩ : ∃ tot, tot = psC (tkP t N) g F (f + 1) 1 dep n m a := ⟨_, rfl⟩
  rw [← htot] at hB ⊢
  refine Call.ofRun (by decide) ⟨rfl, rfl⟩ (Nat.le_of_ble_eq_true rfl) ?_
  refine Run.gen fun Q hQ => ?_
  have hE := EQ9.of hQ
  obtain ⟨s1, s2, s3, s4, s5, s6⟩ := id hC.1.1
  have hly := hC.1.2.2.2.2
  have hns := hC.2.2.2
  have hms := hC.1.2.2.2.1.lt
  refine q_aload_n d_Nodes_contract_0 rfl ?_
  refine q_callV (ci := 6) (rc := (rmC sz (m + tot.1))) (rs := (rmS sz (m + tot.1))) (rest := []) d_Nodes_contract_1 ml_Nodes_108 ok_Nodes_open rfl s6.1 (by decide) (c_Nodes_open (d - 1) (F := F) (by omega) hC.1.1 hC.1.2.1 hC.2.1 hns.2.2 (by omega)) rfl rfl (by omega) (Nat.le_of_ble_eq_true rfl) (fun v I1 L1 R1 T1 h => ?_) (fun y I1 L1 R1 T1 h => ?_)
  rotate_left
  · rcases hop : opn (tkP t N) F a with e | ⟨k, a1⟩
    · rw [hop] at h
      obtain ⟨⟨h1, h2⟩, f1, f2, rfl, rfl⟩ := h
      cases h1
      exact thr_bad rfl s5.tag (hQ _ _ _ _ _ (hC.ps_er RF.rf (htot.trans (psC_er1 hop)) f1 f2 h2))
    · rw [hop] at h; cases h.1.1
  rcases hop : opn (tkP t N) F a with e | ⟨k, a1⟩
  · rw [hop] at h; cases h.1.1
  rw [hop] at h
  obtain ⟨⟨h1, h2⟩, f1, f2, e1, e2⟩ := h
  subst R1 T1
  cases h1
  have hk9 := opn_le _ _ _ _ _ hop
  have hC1 : CS P w o D N Z g t a1 n m sz V I1 L1 R T := hC.tk f1 f2 h2
  have hF1 : RF D o Z n I L R T I1 L1 R T := RF.tk f1 f2
  have hkd := TokR.kd hC1.2.1.1
  have hk0 := hC1.2.1.2.1
  refine q_istore_n (lv' := [(2, .int (cI (k : Int))), (0, .ref D), (1, .int (cI (dep : Int)))]) d_Nodes_contract_4 (by decide) rfl ?_
  refine q_aload_n d_Nodes_contract_5 rfl ?_
  refine q_getR d_Nodes_contract_6 fl_Nodes_3 s6.1 ⟨rfl, by decide⟩ s6.2.2 ?_
  refine q_getR d_Nodes_contract_9 fl_Nodes_83 s1 ⟨rfl, by decide⟩ s3 ?_
  refine j_getI (v := (cI (tk (tkP t N) a1))) d_Nodes_contract_12 fl_Nodes_100 s5.1 ⟨rfl, by decide⟩ hC1.2.1.2.2.2.2.1 ?_
  refine q_istore_n (lv' := [(3, .int (cI (tk (tkP t N) a1))), (2, .int (cI (k : Int))), (0, .ref D), (1, .int (cI (dep : Int)))]) d_Nodes_contract_15 (by decide) rfl ?_
  refine q_iload_n d_Nodes_contract_16 rfl ?_
  have hok : okS 1 (tk (tkP t N) a1) = true ↔ (tk (tkP t N) a1 = 0 ∨ tk (tkP t N) a1 = 1 ∨ tk (tkP t N) a1 = 4 ∨ tk (tkP t N) a1 = 5 ∨ tk (tkP t N) a1 = 10 ∨ tk (tkP t N) a1 = 11) := by unfold okS; rw [if_pos rfl, decide_eq_true_eq]
  by_cases hb : tk (tkP t N) a1 = 0 ∨ tk (tkP t N) a1 = 1 ∨ tk (tkP t N) a1 = 4 ∨ tk (tkP t N) a1 = 5 ∨ tk (tkP t N) a1 = 10 ∨ tk (tkP t N) a1 = 11
  rotate_left
  · refine j_if_eq (tgt := 58) d_Nodes_contract_17 (by decide) (by omega) (fun hx => by exfalso; omega) (fun hx => ?_)
    refine q_iload_n d_Nodes_contract_20 rfl ?_
    refine j_iconst d_Nodes_contract_21 ?_
    refine j_icmp_eq (tgt := 58) d_Nodes_contract_22 (by decide) (by omega) (by omega) (fun hx => by exfalso; omega) (fun hx => ?_)
    refine q_iload_n d_Nodes_contract_25 rfl ?_
    refine j_iconst d_Nodes_contract_26 ?_
    refine j_icmp_eq (tgt := 58) d_Nodes_contract_27 (by decide) (by omega) (by omega) (fun hx => by exfalso; omega) (fun hx => ?_)
    refine q_iload_n d_Nodes_contract_30 rfl ?_
    refine j_iconst d_Nodes_contract_31 ?_
    refine j_icmp_eq (tgt := 58) d_Nodes_contract_32 (by decide) (by omega) (by omega) (fun hx => by exfalso; omega) (fun hx => ?_)
    refine q_iload_n d_Nodes_contract_35 rfl ?_
    refine j_bipush d_Nodes_contract_36 (by decide) ?_
    refine j_icmp_eq (tgt := 58) d_Nodes_contract_38 (by decide) (by omega) (by omega) (fun hx => by exfalso; omega) (fun hx => ?_)
    refine q_iload_n d_Nodes_contract_41 rfl ?_
    refine j_bipush d_Nodes_contract_42 (by decide) ?_
    refine j_icmp_eq (tgt := 58) d_Nodes_contract_44 (by decide) (by omega) (by omega) (fun hx => by exfalso; omega) (fun hx => ?_)
    refine q_aload_n d_Nodes_contract_47 rfl ?_
    refine q_getR d_Nodes_contract_48 fl_Nodes_3 s6.1 ⟨rfl, by decide⟩ s6.2.2 ?_
    refine q_getR d_Nodes_contract_51 fl_Nodes_83 s1 ⟨rfl, by decide⟩ s3 ?_
    refine j_iconst d_Nodes_contract_54 ?_
    refine q_callV (ci := 5) (rc := (rmC sz (m + tot.1))) (rs := (rmS sz (m + tot.1))) (rest := []) d_Nodes_contract_55 ml_Nodes_87 ok_Tokens_fail rfl s5.1 (by decide) (c_Tokens_fail (d - 1) (by omega) s5 hC1.2.1.2.2.2.2.2.1) rfl rfl (by omega) (Nat.le_of_ble_eq_true rfl) (fun v I' L' R' T' h => by cases h.1) (fun x I' L' R' T' h => ?_)
    obtain ⟨h0, f3, h4, e1, e2, e3⟩ := badQ_fx h
    subst L' R' T'
    cases h0
    exact thr_bad rfl s5.tag (hQ _ _ _ _ _ (hC1.ps_er hF1 (htot.trans (psC_er2 hop (fun q => hb (hok.mp q)))) f3 Fx.rf h4))
  have t58 : ∀ (dummy : True), True → Run m_Nodes_contract d (rmC sz (m + tot.1)) (rmS sz (m + tot.1)) 58 [(0, .ref D), (1, .int (cI (dep : Int))), (2, .int (cI (k : Int))), (3, .int (cI (tk (tkP t N) a1)))] [] I1 L1 R T Q := by
    intro _ _
    have hok2 := hok.mpr hb
    refine q_aload_n d_Nodes_contract_58 rfl ?_
    refine q_iload_n d_Nodes_contract_59 rfl ?_
    refine q_iload_n d_Nodes_contract_60 rfl ?_
    refine q_callV (ci := 6) (rc := (rmC sz (m + tot.1))) (rs := (rmS sz (m + tot.1))) (rest := []) d_Nodes_contract_61 ml_Nodes_111 ok_Nodes_node rfl s6.1 (by decide) (c_Nodes_node (d - 1) (g := g) (dep := (dep : Int)) (kd := tk (tkP t N) a1) (by omega) hC1.1.1 hC1.2.1.2.2.2.2.2.1 hC1.2.2.1 hC1.1.2.2.1 hns.1 (by omega) (by omega) (by omega)) rfl rfl (by omega) (Nat.le_of_ble_eq_true rfl) (fun v I2 L2 R2 T2 h => ?_) (fun y I2 L2 R2 T2 h => ?_)
    rotate_left
    · rcases h with ⟨h1, h⟩ | ⟨h1, h, _⟩
      · have hbx := badQ_fx h
        obtain ⟨h3, f3, h4, e1, e2, e3⟩ := hbx
        subst L2 R2 T2
        cases h3
        exact thr_bad rfl s5.tag (hQ _ _ _ _ _ (hC1.ps_er hF1 (htot.trans (psC_er3 hop hok2 (by omega))) f3 Fx.rf h4))
      · cases h
    rcases h with ⟨h1, h⟩ | ⟨hnn, h3, h4, h5, f3, f4, e1, e2⟩
    · cases h.1
    subst R2 T2
    cases h3
    have hnn : ¬ (100 < dep ∨ n - g = 1000) := by omega
    obtain ⟨hC2, hF2⟩ := hC1.nd h5 f3 f4 (by omega)
    have hon : ownN (tkP t N) a1 = [] := by unfold ownN; rw [if_neg (by omega)]
    have hor : ownR (tkP t N) a1 m dep = [tk (tkP t N) a1, -1, -1, -1, -1, 0, 0, 0, -1, 0, (dep : Int)] := by unfold ownR; rw [if_neg (by omega), if_neg (by omega)]
    have hW2 : WK P w o D N Z g t n (n + 1) m sz V I L R T a1 (ownR (tkP t N) a1 m dep) [] [] I2 L2 R T := by
      rw [hor]; exact WK.start hC2 h4 rfl (hF1.tr hF2)
    refine Run.more (rc := rmC (max sz (m + ([] : List Int).length)) (m + tot.1)) (rs := rmS (max sz (m + ([] : List Int).length)) (m + tot.1)) ?_ (by rw [show max sz (m + ([] : List Int).length) = sz from by show max sz (m + 0) = sz; omega]; exact Nat.le_refl _) (by rw [show max sz (m + ([] : List Int).length) = sz from by show max sz (m + 0) = sz; omega]; exact Nat.le_refl _)
    refine q_istore (lv' := [(4, .int (cI (n : Int))), (0, .ref D), (1, .int (cI (dep : Int))), (2, .int (cI (k : Int))), (3, .int (cI (tk (tkP t N) a1)))]) d_Nodes_contract_64 (by decide) rfl ?_
    refine q_aload_n d_Nodes_contract_66 rfl ?_
    refine q_getR d_Nodes_contract_67 fl_Nodes_3 s6.1 ⟨rfl, by decide⟩ s6.2.2 ?_
    refine q_getR d_Nodes_contract_70 fl_Nodes_83 s1 ⟨rfl, by decide⟩ s3 ?_
    refine q_tk (as := []) (st := []) hW2 d_Nodes_contract_73 ml_Nodes_103 ok_Tokens_next rfl rfl (c_Tokens_nextT (d := d - 1) (by omega) s5 s1 s2 s4 hC2.1.2.1 hC2.2.1) rfl rfl (by omega) (Nat.le_of_ble_eq_true rfl) hE (fun e hr => by rw [htot, psC_er4 hop hok2 hnn hr, hon]) (fun a3 I3 L3 hr3 hW3 => ?_)
    have hkr3 := WK_kr hW3
    have hR3 := psC_go2 (f := f) (m := m) hop hok2 hnn hr3
    rw [← htot, hon] at hR3
    have fin : ∀ (a9 : Nat) (row9 : Row) (rs9 : List Row) (ns9 : List Int) (I9 : M32) (L9 : M64) (R9 : MR) (T9 : SH), WK P w o D N Z g t n (n + 1) m sz V I L R T a9 row9 rs9 ns9 I9 L9 R9 T9 → RsC tot (itmC (tkP t N) g (psC (tkP t N) g F f) dep) (n + 1) m (FinC (tkP t N) k) [] row9 rs9 ns9 a9 → Run m_Nodes_contract d (rmC (max sz (m + ns9.length)) (m + tot.1)) (rmS (max sz (m + ns9.length)) (m + tot.1)) 280 [(0, .ref D), (1, .int (cI (dep : Int))), (2, .int (cI (k : Int))), (3, .int (cI (tk (tkP t N) a1))), (4, .int (cI (n : Int)))] [] I9 L9 R9 T9 Q := by
      intro a9 row9 rs9 ns9 I9 L9 R9 T9 hW9 hR9
      refine q_aload_n d_Nodes_contract_280 rfl ?_
      refine q_iload_n d_Nodes_contract_281 rfl ?_
      refine q_callV (ci := 6) (rc := (rmC (max sz (m + ns9.length)) (m + tot.1))) (rs := (rmS (max sz (m + ns9.length)) (m + tot.1))) (rest := []) d_Nodes_contract_282 ml_Nodes_132 ok_Nodes_shut rfl hW9.nd.1 (by decide) (c_Nodes_shut (d - 1) (by omega) hW9.1.1.1 hW9.1.1.2.1 hW9.1.2.1 (by omega)) rfl rfl (by omega) (Nat.le_of_ble_eq_true rfl) (fun v I6 L6 R6 T6 h => ?_) (fun y I6 L6 R6 T6 h => ?_)
      rotate_left
      · rcases hs : shu (tkP t N) k a9 with e | a6
        · rw [hs] at h
          obtain ⟨⟨h1, h2⟩, f1, f2, e1, e2⟩ := h
          subst R6 T6
          cases h1
          exact thr_bad rfl hW9.bad (hQ _ _ _ _ _ (hW9.ps_er f1 f2 h2 (by rw [hR9.nil, FinC_er hs]; rfl)))
        · rw [hs] at h; cases h.1.1
      rcases hs : shu (tkP t N) k a9 with e | a6
      · rw [hs] at h; cases h.1.1
      rw [hs] at h
      obtain ⟨⟨h1, h2⟩, f1, f2, e1, e2⟩ := h
      subst R6 T6
      cases h1
      refine q_iload d_Nodes_contract_285 rfl ?_
      refine q_ireturn d_Nodes_contract_287 rfl rfl ?_
      refine hQ _ _ _ _ _ ?_
      exact hW9.fin f1 f2 h2 (by rw [hR9.nil, FinC_ok hs]; rfl)
    refine q_iload_n d_Nodes_contract_76 rfl ?_
    obtain ⟨κ, hκ⟩ : ∃ κ, κ = tk (tkP t N) a1 := ⟨_, rfl⟩
    have r9 : (ownR (tkP t N) a1 m dep).getD 1 0 = -1 := rfl
    rw [← hκ] at hb hR3 fin ⊢
    have t146 : ∀ (hx : κ = 4), True → Run m_Nodes_contract d (rmC (max sz (m + ([] : List Int).length)) (m + tot.1)) (rmS (max sz (m + ([] : List Int).length)) (m + tot.1)) 146 [(0, .ref D), (1, .int (cI (dep : Int))), (2, .int (cI (k : Int))), (3, .int (cI κ)), (4, .int (cI (n : Int)))] [] I3 L3 R T Q := by
      intro hx _
      rw [show itC κ = [(3, 1), (1, 2), (1, 3)] by subst hx; rfl] at hR3
      have hkr3 := WK_kr hW3
      refine q_aload_n d_Nodes_contract_146 rfl ?_
      refine q_getR d_Nodes_contract_147 fl_Nodes_19 hW3.nd.1 ⟨rfl, by decide⟩ (nR1 hW3.nd) ?_
      refine q_iload d_Nodes_contract_150 rfl ?_
      refine q_aload_n d_Nodes_contract_152 rfl ?_
      refine q_iload_n d_Nodes_contract_153 rfl ?_
      refine j_iconst d_Nodes_contract_154 ?_
      refine j_iadd d_Nodes_contract_155 ?_
      refine q_ch hW3 hR3 ihO (fun _ _ _ _ => rfl) (Or.inl rfl) d_Nodes_contract_156 d_Nodes_contract_159 ml_Nodes_119 ok_Nodes_observation rfl rfl (by omega) (by omega) (by omega) hB (Nat.le_of_ble_eq_true rfl) hE (fun a4 row4 rs4 ns4 I4 L4 R4 T4 hW4 hR4 hro4 => ?_)
      have hkr4 := WK_kr hW4
      refine q_aload_n d_Nodes_contract_160 rfl ?_
      refine q_getR d_Nodes_contract_161 fl_Nodes_22 hW4.nd.1 ⟨rfl, by decide⟩ (nR2 hW4.nd) ?_
      refine q_iload d_Nodes_contract_164 rfl ?_
      refine q_aload_n d_Nodes_contract_166 rfl ?_
      refine q_iload_n d_Nodes_contract_167 rfl ?_
      refine j_iconst d_Nodes_contract_168 ?_
      refine j_iadd d_Nodes_contract_169 ?_
      refine q_ch hW4 hR4 ihC (fun _ _ _ _ => rfl) (Or.inr (Or.inl rfl)) d_Nodes_contract_170 d_Nodes_contract_173 ml_Nodes_93 ok_Nodes_contract rfl rfl (by omega) (by omega) (by omega) hB (Nat.le_of_ble_eq_true rfl) hE (fun a5 row5 rs5 ns5 I5 L5 R5 T5 hW5 hR5 hro5 => ?_)
      have hkr5 := WK_kr hW5
      refine q_aload_n d_Nodes_contract_174 rfl ?_
      refine q_getR d_Nodes_contract_175 fl_Nodes_25 hW5.nd.1 ⟨rfl, by decide⟩ (nR3 hW5.nd) ?_
      refine q_iload d_Nodes_contract_178 rfl ?_
      refine q_aload_n d_Nodes_contract_180 rfl ?_
      refine q_iload_n d_Nodes_contract_181 rfl ?_
      refine j_iconst d_Nodes_contract_182 ?_
      refine j_iadd d_Nodes_contract_183 ?_
      refine q_ch hW5 hR5 ihC (fun _ _ _ _ => rfl) (Or.inr (Or.inr rfl)) d_Nodes_contract_184 d_Nodes_contract_187 ml_Nodes_93 ok_Nodes_contract rfl rfl (by omega) (by omega) (by omega) hB (Nat.le_of_ble_eq_true rfl) hE (fun a6 row6 rs6 ns6 I6 L6 R6 T6 hW6 hR6 hro6 => ?_)
      have hkr6 := WK_kr hW6
      refine q_goto (tgt := 280) d_Nodes_contract_188 (by decide) ?_
      exact fin _ _ _ _ _ _ _ _ hW6 hR6
    have t201 : ∀ (hx : κ = 10), True → Run m_Nodes_contract d (rmC (max sz (m + ([] : List Int).length)) (m + tot.1)) (rmS (max sz (m + ([] : List Int).length)) (m + tot.1)) 201 [(0, .ref D), (1, .int (cI (dep : Int))), (2, .int (cI (k : Int))), (3, .int (cI κ)), (4, .int (cI (n : Int)))] [] I3 L3 R T Q := by
      intro hx _
      rw [show itC κ = [(4, 1), (2, 1), (1, 2)] by subst hx; rfl] at hR3
      have hkr3 := WK_kr hW3
      refine q_aload_n d_Nodes_contract_201 rfl ?_
      refine q_getR d_Nodes_contract_202 fl_Nodes_37 hW3.nd.1 ⟨rfl, by decide⟩ (nR7 hW3.nd) ?_
      refine q_iload d_Nodes_contract_205 rfl ?_
      refine q_aload_n d_Nodes_contract_207 rfl ?_
      refine q_getR d_Nodes_contract_208 fl_Nodes_3 hW3.nd.1 ⟨rfl, by decide⟩ hW3.nd.2.2 ?_
      refine q_getR d_Nodes_contract_211 fl_Nodes_83 hW3.pt ⟨rfl, by decide⟩ hW3.po ?_
      refine q_nm (dd := d - 1) hW3 hR3 (fun _ _ _ _ => rfl) (Or.inl rfl) d_Nodes_contract_214 d_Nodes_contract_217 ml_Nodes_125 rfl (by omega) (by omega) (Nat.le_of_ble_eq_true rfl) hE (fun a4 row4 I4 L4 hW4 hR4 hro4 => ?_)
      have hkr4 := WK_kr hW4
      refine q_aload_n d_Nodes_contract_218 rfl ?_
      refine q_getR d_Nodes_contract_219 fl_Nodes_19 hW4.nd.1 ⟨rfl, by decide⟩ (nR1 hW4.nd) ?_
      refine q_iload d_Nodes_contract_222 rfl ?_
      refine q_aload_n d_Nodes_contract_224 rfl ?_
      refine q_iload_n d_Nodes_contract_225 rfl ?_
      refine j_iconst d_Nodes_contract_226 ?_
      refine j_iadd d_Nodes_contract_227 ?_
      refine q_ch hW4 hR4 ihV (fun _ _ _ _ => rfl) (Or.inl rfl) d_Nodes_contract_228 d_Nodes_contract_231 ml_Nodes_129 ok_Nodes_value rfl rfl (by omega) (by omega) (by omega) hB (Nat.le_of_ble_eq_true rfl) hE (fun a5 row5 rs5 ns5 I5 L5 R5 T5 hW5 hR5 hro5 => ?_)
      have hkr5 := WK_kr hW5
      refine q_aload_n d_Nodes_contract_232 rfl ?_
      refine q_getR d_Nodes_contract_233 fl_Nodes_22 hW5.nd.1 ⟨rfl, by decide⟩ (nR2 hW5.nd) ?_
      refine q_iload d_Nodes_contract_236 rfl ?_
      refine q_aload_n d_Nodes_contract_238 rfl ?_
      refine q_iload_n d_Nodes_contract_239 rfl ?_
      refine j_iconst d_Nodes_contract_240 ?_
      refine j_iadd d_Nodes_contract_241 ?_
      refine q_ch hW5 hR5 ihC (fun _ _ _ _ => rfl) (Or.inr (Or.inl rfl)) d_Nodes_contract_242 d_Nodes_contract_245 ml_Nodes_93 ok_Nodes_contract rfl rfl (by omega) (by omega) (by omega) hB (Nat.le_of_ble_eq_true rfl) hE (fun a6 row6 rs6 ns6 I6 L6 R6 T6 hW6 hR6 hro6 => ?_)
      have hkr6 := WK_kr hW6
      refine q_goto (tgt := 280) d_Nodes_contract_246 (by decide) ?_
      exact fin _ _ _ _ _ _ _ _ hW6 hR6
    have t249 : ∀ (hx : κ = 11), True → Run m_Nodes_contract d (rmC (max sz (m + ([] : List Int).length)) (m + tot.1)) (rmS (max sz (m + ([] : List Int).length)) (m + tot.1)) 249 [(0, .ref D), (1, .int (cI (dep : Int))), (2, .int (cI (k : Int))), (3, .int (cI κ)), (4, .int (cI (n : Int)))] [] I3 L3 R T Q := by
      intro hx _
      rw [show itC κ = [(3, 1), (1, 2)] by subst hx; rfl] at hR3
      have hkr3 := WK_kr hW3
      refine q_aload_n d_Nodes_contract_249 rfl ?_
      refine q_getR d_Nodes_contract_250 fl_Nodes_19 hW3.nd.1 ⟨rfl, by decide⟩ (nR1 hW3.nd) ?_
      refine q_iload d_Nodes_contract_253 rfl ?_
      refine q_aload_n d_Nodes_contract_255 rfl ?_
      refine q_iload_n d_Nodes_contract_256 rfl ?_
      refine j_iconst d_Nodes_contract_257 ?_
      refine j_iadd d_Nodes_contract_258 ?_
      refine q_ch hW3 hR3 ihO (fun _ _ _ _ => rfl) (Or.inl rfl) d_Nodes_contract_259 d_Nodes_contract_262 ml_Nodes_119 ok_Nodes_observation rfl rfl (by omega) (by omega) (by omega) hB (Nat.le_of_ble_eq_true rfl) hE (fun a4 row4 rs4 ns4 I4 L4 R4 T4 hW4 hR4 hro4 => ?_)
      have hkr4 := WK_kr hW4
      refine q_aload_n d_Nodes_contract_263 rfl ?_
      refine q_getR d_Nodes_contract_264 fl_Nodes_22 hW4.nd.1 ⟨rfl, by decide⟩ (nR2 hW4.nd) ?_
      refine q_iload d_Nodes_contract_267 rfl ?_
      refine q_aload_n d_Nodes_contract_269 rfl ?_
      refine q_iload_n d_Nodes_contract_270 rfl ?_
      refine j_iconst d_Nodes_contract_271 ?_
      refine j_iadd d_Nodes_contract_272 ?_
      refine q_ch hW4 hR4 ihC (fun _ _ _ _ => rfl) (Or.inr (Or.inl rfl)) d_Nodes_contract_273 d_Nodes_contract_276 ml_Nodes_93 ok_Nodes_contract rfl rfl (by omega) (by omega) (by omega) hB (Nat.le_of_ble_eq_true rfl) hE (fun a5 row5 rs5 ns5 I5 L5 R5 T5 hW5 hR5 hro5 => ?_)
      have hkr5 := WK_kr hW5
      refine q_goto (tgt := 280) d_Nodes_contract_277 (by decide) ?_
      exact fin _ _ _ _ _ _ _ _ hW5 hR5
    have t136 : ∀ (hx : κ = 1), True → Run m_Nodes_contract d (rmC (max sz (m + ([] : List Int).length)) (m + tot.1)) (rmS (max sz (m + ([] : List Int).length)) (m + tot.1)) 136 [(0, .ref D), (1, .int (cI (dep : Int))), (2, .int (cI (k : Int))), (3, .int (cI κ)), (4, .int (cI (n : Int)))] [] I3 L3 R T Q := by
      intro hx _
      rw [hx] at hR3
      have hg3 : ([] : List Int).length + (itsC (itmC (tkP t N) g (psC (tkP t N) g F f) dep) (itC 1) (ownR (tkP t N) a1 m dep) (n + 1) (m + ([] : List Int).length) a3).1 ≤ tot.1 := hR3.all_ge
      have hkr3 := WK_kr hW3
      refine q_aload_n d_Nodes_contract_136 rfl ?_
      refine q_iload d_Nodes_contract_137 rfl ?_
      refine q_iload_n d_Nodes_contract_139 rfl ?_
      refine q_sub (as := [.int (cI (n : Int)), .int (cI (dep : Int))]) (st := []) (r := itsC (itmC (tkP t N) g (psC (tkP t N) g F f) dep) (itC 1) (ownR (tkP t N) a1 m dep) (n + 1) (m + ([] : List Int).length) a3) hW3 d_Nodes_contract_140 ml_Nodes_115 ok_Nodes_pay rfl rfl (c_Nodes_pay (row := ownR (tkP t N) a1 m dep) (m := m + ([] : List Int).length) (d - 1) ihV ihC (by omega) (by omega) (by omega) hW3.1 hW3.2.1 hW3.2.2.2.1 (by have : ([] : List Int).length = 0 := rfl; omega)) rfl rfl (by omega) (Nat.le_of_ble_eq_true rfl) hE (hg3) (fun c e hr => hR3.all_er hr) (fun a4 row4 rs4 nz4 ns4 I4 L4 R4 T4 hn4 hr4 hW4 => ?_)
      have hkr4 := WK_kr hW4
      have hR4 := hR3.all_ok hr4 rfl
      rw [List.nil_append, ← hn4] at hR4
      refine q_goto (tgt := 280) d_Nodes_contract_143 (by decide) ?_
      exact fin _ _ _ _ _ _ _ _ hW4 hR4
    have t191 : ∀ (hx : κ = 5), True → Run m_Nodes_contract d (rmC (max sz (m + ([] : List Int).length)) (m + tot.1)) (rmS (max sz (m + ([] : List Int).length)) (m + tot.1)) 191 [(0, .ref D), (1, .int (cI (dep : Int))), (2, .int (cI (k : Int))), (3, .int (cI κ)), (4, .int (cI (n : Int)))] [] I3 L3 R T Q := by
      intro hx _
      rw [hx] at hR3
      have hg3 : ([] : List Int).length + (itsC (itmC (tkP t N) g (psC (tkP t N) g F f) dep) (itC 5) (ownR (tkP t N) a1 m dep) (n + 1) (m + ([] : List Int).length) a3).1 ≤ tot.1 := hR3.all_ge
      have hkr3 := WK_kr hW3
      refine q_aload_n d_Nodes_contract_191 rfl ?_
      refine q_iload d_Nodes_contract_192 rfl ?_
      refine q_iload_n d_Nodes_contract_194 rfl ?_
      refine q_sub (as := [.int (cI (n : Int)), .int (cI (dep : Int))]) (st := []) (r := itsC (itmC (tkP t N) g (psC (tkP t N) g F f) dep) (itC 5) (ownR (tkP t N) a1 m dep) (n + 1) (m + ([] : List Int).length) a3) hW3 d_Nodes_contract_195 ml_Nodes_122 ok_Nodes_when rfl rfl (c_Nodes_when (row := ownR (tkP t N) a1 m dep) (m := m + ([] : List Int).length) (d - 1) ihV ihO ihC (by omega) (by omega) (by omega) hW3.1 hW3.2.1 hW3.2.2.2.1 r9 (by have : ([] : List Int).length = 0 := rfl; omega)) rfl rfl (by omega) (Nat.le_of_ble_eq_true rfl) hE (hg3) (fun c e hr => hR3.all_er hr) (fun a4 row4 rs4 nz4 ns4 I4 L4 R4 T4 hn4 hr4 hW4 => ?_)
      have hkr4 := WK_kr hW4
      have hR4 := hR3.all_ok hr4 rfl
      rw [List.nil_append, ← hn4] at hR4
      refine q_goto (tgt := 280) d_Nodes_contract_198 (by decide) ?_
      exact fin _ _ _ _ _ _ _ _ hW4 hR4
    have hcs : κ = 0 ∨ κ = 1 ∨ κ = 4 ∨ κ = 5 ∨ κ = 10 ∨ κ = 11 := hb
    rcases hcs with e | e | e | e | e | e
    · refine j_tableOut (tgt := 280) d_Nodes_contract_77 (by omega) (by omega) (by decide) ?_
      rw [show itC κ = [] by subst e; rfl] at hR3
      refine Run.lv (lv' := [(0, .ref D), (1, .int (cI (dep : Int))), (2, .int (cI (k : Int))), (3, .int (cI κ)), (4, .int (cI (n : Int)))]) (by intro q hq; simp only [List.mem_cons, List.not_mem_nil, or_false] at hq ⊢; rcases hq with rfl | rfl | rfl | rfl | rfl <;> simp) ?_
      exact fin _ _ _ _ _ _ _ _ hW3 hR3
    · refine j_tableIn (k := 1) (tgt := 136) d_Nodes_contract_77 e (by decide) rfl (by decide) ?_
      refine Run.lv (lv' := [(0, .ref D), (1, .int (cI (dep : Int))), (2, .int (cI (k : Int))), (3, .int (cI κ)), (4, .int (cI (n : Int)))]) (by intro q hq; simp only [List.mem_cons, List.not_mem_nil, or_false] at hq ⊢; rcases hq with rfl | rfl | rfl | rfl | rfl <;> simp) ?_
      exact t136 e trivial
    · refine j_tableIn (k := 4) (tgt := 146) d_Nodes_contract_77 e (by decide) rfl (by decide) ?_
      refine Run.lv (lv' := [(0, .ref D), (1, .int (cI (dep : Int))), (2, .int (cI (k : Int))), (3, .int (cI κ)), (4, .int (cI (n : Int)))]) (by intro q hq; simp only [List.mem_cons, List.not_mem_nil, or_false] at hq ⊢; rcases hq with rfl | rfl | rfl | rfl | rfl <;> simp) ?_
      exact t146 e trivial
    · refine j_tableIn (k := 5) (tgt := 191) d_Nodes_contract_77 e (by decide) rfl (by decide) ?_
      refine Run.lv (lv' := [(0, .ref D), (1, .int (cI (dep : Int))), (2, .int (cI (k : Int))), (3, .int (cI κ)), (4, .int (cI (n : Int)))]) (by intro q hq; simp only [List.mem_cons, List.not_mem_nil, or_false] at hq ⊢; rcases hq with rfl | rfl | rfl | rfl | rfl <;> simp) ?_
      exact t191 e trivial
    · refine j_tableIn (k := 10) (tgt := 201) d_Nodes_contract_77 e (by decide) rfl (by decide) ?_
      refine Run.lv (lv' := [(0, .ref D), (1, .int (cI (dep : Int))), (2, .int (cI (k : Int))), (3, .int (cI κ)), (4, .int (cI (n : Int)))]) (by intro q hq; simp only [List.mem_cons, List.not_mem_nil, or_false] at hq ⊢; rcases hq with rfl | rfl | rfl | rfl | rfl <;> simp) ?_
      exact t201 e trivial
    · refine j_tableIn (k := 11) (tgt := 249) d_Nodes_contract_77 e (by decide) rfl (by decide) ?_
      refine Run.lv (lv' := [(0, .ref D), (1, .int (cI (dep : Int))), (2, .int (cI (k : Int))), (3, .int (cI κ)), (4, .int (cI (n : Int)))]) (by intro q hq; simp only [List.mem_cons, List.not_mem_nil, or_false] at hq ⊢; rcases hq with rfl | rfl | rfl | rfl | rfl <;> simp) ?_
      exact t249 e trivial
  rcases hb with e | e | e | e | e | e
  · refine j_if_eq (tgt := 58) d_Nodes_contract_17 (by decide) (by omega) (fun hx => ?_) (fun hx => by exfalso; omega)
    refine Run.lv (lv' := [(0, .ref D), (1, .int (cI (dep : Int))), (2, .int (cI (k : Int))), (3, .int (cI (tk (tkP t N) a1)))]) (by intro q hq; simp only [List.mem_cons, List.not_mem_nil, or_false] at hq ⊢; rcases hq with rfl | rfl | rfl | rfl <;> simp) ?_
    exact t58 trivial trivial
  · refine j_if_eq (tgt := 58) d_Nodes_contract_17 (by decide) (by omega) (fun hx => by exfalso; omega) (fun hx => ?_)
    refine q_iload_n d_Nodes_contract_20 rfl ?_
    refine j_iconst d_Nodes_contract_21 ?_
    refine j_icmp_eq (tgt := 58) d_Nodes_contract_22 (by decide) (by omega) (by omega) (fun hx => ?_) (fun hx => by exfalso; omega)
    refine Run.lv (lv' := [(0, .ref D), (1, .int (cI (dep : Int))), (2, .int (cI (k : Int))), (3, .int (cI (tk (tkP t N) a1)))]) (by intro q hq; simp only [List.mem_cons, List.not_mem_nil, or_false] at hq ⊢; rcases hq with rfl | rfl | rfl | rfl <;> simp) ?_
    exact t58 trivial trivial
  · refine j_if_eq (tgt := 58) d_Nodes_contract_17 (by decide) (by omega) (fun hx => by exfalso; omega) (fun hx => ?_)
    refine q_iload_n d_Nodes_contract_20 rfl ?_
    refine j_iconst d_Nodes_contract_21 ?_
    refine j_icmp_eq (tgt := 58) d_Nodes_contract_22 (by decide) (by omega) (by omega) (fun hx => by exfalso; omega) (fun hx => ?_)
    refine q_iload_n d_Nodes_contract_25 rfl ?_
    refine j_iconst d_Nodes_contract_26 ?_
    refine j_icmp_eq (tgt := 58) d_Nodes_contract_27 (by decide) (by omega) (by omega) (fun hx => ?_) (fun hx => by exfalso; omega)
    refine Run.lv (lv' := [(0, .ref D), (1, .int (cI (dep : Int))), (2, .int (cI (k : Int))), (3, .int (cI (tk (tkP t N) a1)))]) (by intro q hq; simp only [List.mem_cons, List.not_mem_nil, or_false] at hq ⊢; rcases hq with rfl | rfl | rfl | rfl <;> simp) ?_
    exact t58 trivial trivial
  · refine j_if_eq (tgt := 58) d_Nodes_contract_17 (by decide) (by omega) (fun hx => by exfalso; omega) (fun hx => ?_)
    refine q_iload_n d_Nodes_contract_20 rfl ?_
    refine j_iconst d_Nodes_contract_21 ?_
    refine j_icmp_eq (tgt := 58) d_Nodes_contract_22 (by decide) (by omega) (by omega) (fun hx => by exfalso; omega) (fun hx => ?_)
    refine q_iload_n d_Nodes_contract_25 rfl ?_
    refine j_iconst d_Nodes_contract_26 ?_
    refine j_icmp_eq (tgt := 58) d_Nodes_contract_27 (by decide) (by omega) (by omega) (fun hx => by exfalso; omega) (fun hx => ?_)
    refine q_iload_n d_Nodes_contract_30 rfl ?_
    refine j_iconst d_Nodes_contract_31 ?_
    refine j_icmp_eq (tgt := 58) d_Nodes_contract_32 (by decide) (by omega) (by omega) (fun hx => ?_) (fun hx => by exfalso; omega)
    refine Run.lv (lv' := [(0, .ref D), (1, .int (cI (dep : Int))), (2, .int (cI (k : Int))), (3, .int (cI (tk (tkP t N) a1)))]) (by intro q hq; simp only [List.mem_cons, List.not_mem_nil, or_false] at hq ⊢; rcases hq with rfl | rfl | rfl | rfl <;> simp) ?_
    exact t58 trivial trivial
  · refine j_if_eq (tgt := 58) d_Nodes_contract_17 (by decide) (by omega) (fun hx => by exfalso; omega) (fun hx => ?_)
    refine q_iload_n d_Nodes_contract_20 rfl ?_
    refine j_iconst d_Nodes_contract_21 ?_
    refine j_icmp_eq (tgt := 58) d_Nodes_contract_22 (by decide) (by omega) (by omega) (fun hx => by exfalso; omega) (fun hx => ?_)
    refine q_iload_n d_Nodes_contract_25 rfl ?_
    refine j_iconst d_Nodes_contract_26 ?_
    refine j_icmp_eq (tgt := 58) d_Nodes_contract_27 (by decide) (by omega) (by omega) (fun hx => by exfalso; omega) (fun hx => ?_)
    refine q_iload_n d_Nodes_contract_30 rfl ?_
    refine j_iconst d_Nodes_contract_31 ?_
    refine j_icmp_eq (tgt := 58) d_Nodes_contract_32 (by decide) (by omega) (by omega) (fun hx => by exfalso; omega) (fun hx => ?_)
    refine q_iload_n d_Nodes_contract_35 rfl ?_
    refine j_bipush d_Nodes_contract_36 (by decide) ?_
    refine j_icmp_eq (tgt := 58) d_Nodes_contract_38 (by decide) (by omega) (by omega) (fun hx => ?_) (fun hx => by exfalso; omega)
    refine Run.lv (lv' := [(0, .ref D), (1, .int (cI (dep : Int))), (2, .int (cI (k : Int))), (3, .int (cI (tk (tkP t N) a1)))]) (by intro q hq; simp only [List.mem_cons, List.not_mem_nil, or_false] at hq ⊢; rcases hq with rfl | rfl | rfl | rfl <;> simp) ?_
    exact t58 trivial trivial
  · refine j_if_eq (tgt := 58) d_Nodes_contract_17 (by decide) (by omega) (fun hx => by exfalso; omega) (fun hx => ?_)
    refine q_iload_n d_Nodes_contract_20 rfl ?_
    refine j_iconst d_Nodes_contract_21 ?_
    refine j_icmp_eq (tgt := 58) d_Nodes_contract_22 (by decide) (by omega) (by omega) (fun hx => by exfalso; omega) (fun hx => ?_)
    refine q_iload_n d_Nodes_contract_25 rfl ?_
    refine j_iconst d_Nodes_contract_26 ?_
    refine j_icmp_eq (tgt := 58) d_Nodes_contract_27 (by decide) (by omega) (by omega) (fun hx => by exfalso; omega) (fun hx => ?_)
    refine q_iload_n d_Nodes_contract_30 rfl ?_
    refine j_iconst d_Nodes_contract_31 ?_
    refine j_icmp_eq (tgt := 58) d_Nodes_contract_32 (by decide) (by omega) (by omega) (fun hx => by exfalso; omega) (fun hx => ?_)
    refine q_iload_n d_Nodes_contract_35 rfl ?_
    refine j_bipush d_Nodes_contract_36 (by decide) ?_
    refine j_icmp_eq (tgt := 58) d_Nodes_contract_38 (by decide) (by omega) (by omega) (fun hx => by exfalso; omega) (fun hx => ?_)
    refine q_iload_n d_Nodes_contract_41 rfl ?_
    refine j_bipush d_Nodes_contract_42 (by decide) ?_
    refine j_icmp_eq (tgt := 58) d_Nodes_contract_44 (by decide) (by omega) (by omega) (fun hx => ?_) (fun hx => by exfalso; omega)
    refine Run.lv (lv' := [(0, .ref D), (1, .int (cI (dep : Int))), (2, .int (cI (k : Int))), (3, .int (cI (tk (tkP t N) a1)))]) (by intro q hq; simp only [List.mem_cons, List.not_mem_nil, or_false] at hq ⊢; rcases hq with rfl | rfl | rfl | rfl <;> simp) ?_
    exact t58 trivial trivial
theorem rdAll {P w o D N Z g F : Nat} {t : Nat → Nat} (hNF : N < F) (hF9 : F ≤ 20000) : ∀ f, RdOk P w o D N Z g F t m_Nodes_value y_Nodes_value 2 f ∧ RdOk P w o D N Z g F t m_Nodes_observation y_Nodes_observation 3 f ∧ RdOk P w o D N Z g F t m_Nodes_contract y_Nodes_contract 1 f
  | 0 => ⟨fun dep n m sz a V I L R T d h1 h2 h3 => by omega, fun dep n m sz a V I L R T d h1 h2 h3 => by omega, fun dep n m sz a V I L R T d h1 h2 h3 => by omega⟩
  | f + 1 => by
    obtain ⟨h1, h2, h3⟩ := rdAll hNF hF9 f
    exact ⟨c_Nodes_value hNF hF9 h1 h2, c_Nodes_observation hNF hF9 h1 h2, c_Nodes_contract hNF hF9 h1 h2 h3⟩

