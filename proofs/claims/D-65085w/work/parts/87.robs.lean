/-! ===== 87 THE COMPONENT'S READER: observations ===== -/
theorem d_Nodes_observation_0 : decode m_Nodes_observation.2.1 0 = .ok (.aload_n 0, 1) := by decide +kernel
theorem d_Nodes_observation_1 : decode m_Nodes_observation.2.1 1 = .ok (.invokevirtual 108, 3) := by decide +kernel
theorem d_Nodes_observation_4 : decode m_Nodes_observation.2.1 4 = .ok (.istore_n 2, 1) := by decide +kernel
theorem d_Nodes_observation_5 : decode m_Nodes_observation.2.1 5 = .ok (.aload_n 0, 1) := by decide +kernel
theorem d_Nodes_observation_6 : decode m_Nodes_observation.2.1 6 = .ok (.getfield 3, 3) := by decide +kernel
theorem d_Nodes_observation_9 : decode m_Nodes_observation.2.1 9 = .ok (.getfield 83, 3) := by decide +kernel
theorem d_Nodes_observation_12 : decode m_Nodes_observation.2.1 12 = .ok (.getfield 100, 3) := by decide +kernel
theorem d_Nodes_observation_15 : decode m_Nodes_observation.2.1 15 = .ok (.istore_n 3, 1) := by decide +kernel
theorem d_Nodes_observation_16 : decode m_Nodes_observation.2.1 16 = .ok (.iload_n 3, 1) := by decide +kernel
theorem d_Nodes_observation_17 : decode m_Nodes_observation.2.1 17 = .ok (.i2l, 1) := by decide +kernel
theorem d_Nodes_observation_18 : decode m_Nodes_observation.2.1 18 = .ok (.ldc2_w 177, 3) := by decide +kernel
theorem d_Nodes_observation_21 : decode m_Nodes_observation.2.1 21 = .ok (.ldc2_w 179, 3) := by decide +kernel
theorem d_Nodes_observation_24 : decode m_Nodes_observation.2.1 24 = .ok (.invokestatic 169, 3) := by decide +kernel
theorem d_Nodes_observation_27 : decode m_Nodes_observation.2.1 27 = .ok (.ifCond .ne 14, 3) := by decide +kernel
theorem d_Nodes_observation_30 : decode m_Nodes_observation.2.1 30 = .ok (.aload_n 0, 1) := by decide +kernel
theorem d_Nodes_observation_31 : decode m_Nodes_observation.2.1 31 = .ok (.getfield 3, 3) := by decide +kernel
theorem d_Nodes_observation_34 : decode m_Nodes_observation.2.1 34 = .ok (.getfield 83, 3) := by decide +kernel
theorem d_Nodes_observation_37 : decode m_Nodes_observation.2.1 37 = .ok (.iconst 4, 1) := by decide +kernel
theorem d_Nodes_observation_38 : decode m_Nodes_observation.2.1 38 = .ok (.invokevirtual 87, 3) := by decide +kernel
theorem d_Nodes_observation_41 : decode m_Nodes_observation.2.1 41 = .ok (.aload_n 0, 1) := by decide +kernel
theorem d_Nodes_observation_42 : decode m_Nodes_observation.2.1 42 = .ok (.iload_n 3, 1) := by decide +kernel
theorem d_Nodes_observation_43 : decode m_Nodes_observation.2.1 43 = .ok (.iload_n 1, 1) := by decide +kernel
theorem d_Nodes_observation_44 : decode m_Nodes_observation.2.1 44 = .ok (.invokevirtual 111, 3) := by decide +kernel
theorem d_Nodes_observation_47 : decode m_Nodes_observation.2.1 47 = .ok (.istore 4, 2) := by decide +kernel
theorem d_Nodes_observation_49 : decode m_Nodes_observation.2.1 49 = .ok (.aload_n 0, 1) := by decide +kernel
theorem d_Nodes_observation_50 : decode m_Nodes_observation.2.1 50 = .ok (.getfield 3, 3) := by decide +kernel
theorem d_Nodes_observation_53 : decode m_Nodes_observation.2.1 53 = .ok (.getfield 83, 3) := by decide +kernel
theorem d_Nodes_observation_56 : decode m_Nodes_observation.2.1 56 = .ok (.invokevirtual 103, 3) := by decide +kernel
theorem d_Nodes_observation_59 : decode m_Nodes_observation.2.1 59 = .ok (.iload_n 3, 1) := by decide +kernel
theorem d_Nodes_observation_60 : decode m_Nodes_observation.2.1 60 = .ok (.tableswitch 168 23 31 #[52, 52, 83, 100, 137, 137, 137, 137, 137], 52) := by decide +kernel
theorem d_Nodes_observation_112 : decode m_Nodes_observation.2.1 112 = .ok (.aload_n 0, 1) := by decide +kernel
theorem d_Nodes_observation_113 : decode m_Nodes_observation.2.1 113 = .ok (.getfield 19, 3) := by decide +kernel
theorem d_Nodes_observation_116 : decode m_Nodes_observation.2.1 116 = .ok (.iload 4, 2) := by decide +kernel
theorem d_Nodes_observation_118 : decode m_Nodes_observation.2.1 118 = .ok (.aload_n 0, 1) := by decide +kernel
theorem d_Nodes_observation_119 : decode m_Nodes_observation.2.1 119 = .ok (.iload_n 1, 1) := by decide +kernel
theorem d_Nodes_observation_120 : decode m_Nodes_observation.2.1 120 = .ok (.iconst 1, 1) := by decide +kernel
theorem d_Nodes_observation_121 : decode m_Nodes_observation.2.1 121 = .ok (.iadd, 1) := by decide +kernel
theorem d_Nodes_observation_122 : decode m_Nodes_observation.2.1 122 = .ok (.invokevirtual 119, 3) := by decide +kernel
theorem d_Nodes_observation_125 : decode m_Nodes_observation.2.1 125 = .ok (.iastore, 1) := by decide +kernel
theorem d_Nodes_observation_126 : decode m_Nodes_observation.2.1 126 = .ok (.aload_n 0, 1) := by decide +kernel
theorem d_Nodes_observation_127 : decode m_Nodes_observation.2.1 127 = .ok (.getfield 22, 3) := by decide +kernel
theorem d_Nodes_observation_130 : decode m_Nodes_observation.2.1 130 = .ok (.iload 4, 2) := by decide +kernel
theorem d_Nodes_observation_132 : decode m_Nodes_observation.2.1 132 = .ok (.aload_n 0, 1) := by decide +kernel
theorem d_Nodes_observation_133 : decode m_Nodes_observation.2.1 133 = .ok (.iload_n 1, 1) := by decide +kernel
theorem d_Nodes_observation_134 : decode m_Nodes_observation.2.1 134 = .ok (.iconst 1, 1) := by decide +kernel
theorem d_Nodes_observation_135 : decode m_Nodes_observation.2.1 135 = .ok (.iadd, 1) := by decide +kernel
theorem d_Nodes_observation_136 : decode m_Nodes_observation.2.1 136 = .ok (.invokevirtual 119, 3) := by decide +kernel
theorem d_Nodes_observation_139 : decode m_Nodes_observation.2.1 139 = .ok (.iastore, 1) := by decide +kernel
theorem d_Nodes_observation_140 : decode m_Nodes_observation.2.1 140 = .ok (.goto 88, 3) := by decide +kernel
theorem d_Nodes_observation_143 : decode m_Nodes_observation.2.1 143 = .ok (.aload_n 0, 1) := by decide +kernel
theorem d_Nodes_observation_144 : decode m_Nodes_observation.2.1 144 = .ok (.getfield 19, 3) := by decide +kernel
theorem d_Nodes_observation_147 : decode m_Nodes_observation.2.1 147 = .ok (.iload 4, 2) := by decide +kernel
theorem d_Nodes_observation_149 : decode m_Nodes_observation.2.1 149 = .ok (.aload_n 0, 1) := by decide +kernel
theorem d_Nodes_observation_150 : decode m_Nodes_observation.2.1 150 = .ok (.iload_n 1, 1) := by decide +kernel
theorem d_Nodes_observation_151 : decode m_Nodes_observation.2.1 151 = .ok (.iconst 1, 1) := by decide +kernel
theorem d_Nodes_observation_152 : decode m_Nodes_observation.2.1 152 = .ok (.iadd, 1) := by decide +kernel
theorem d_Nodes_observation_153 : decode m_Nodes_observation.2.1 153 = .ok (.invokevirtual 119, 3) := by decide +kernel
theorem d_Nodes_observation_156 : decode m_Nodes_observation.2.1 156 = .ok (.iastore, 1) := by decide +kernel
theorem d_Nodes_observation_157 : decode m_Nodes_observation.2.1 157 = .ok (.goto 71, 3) := by decide +kernel
theorem d_Nodes_observation_160 : decode m_Nodes_observation.2.1 160 = .ok (.aload_n 0, 1) := by decide +kernel
theorem d_Nodes_observation_161 : decode m_Nodes_observation.2.1 161 = .ok (.getfield 37, 3) := by decide +kernel
theorem d_Nodes_observation_164 : decode m_Nodes_observation.2.1 164 = .ok (.iload 4, 2) := by decide +kernel
theorem d_Nodes_observation_166 : decode m_Nodes_observation.2.1 166 = .ok (.aload_n 0, 1) := by decide +kernel
theorem d_Nodes_observation_167 : decode m_Nodes_observation.2.1 167 = .ok (.getfield 3, 3) := by decide +kernel
theorem d_Nodes_observation_170 : decode m_Nodes_observation.2.1 170 = .ok (.getfield 83, 3) := by decide +kernel
theorem d_Nodes_observation_173 : decode m_Nodes_observation.2.1 173 = .ok (.invokevirtual 125, 3) := by decide +kernel
theorem d_Nodes_observation_176 : decode m_Nodes_observation.2.1 176 = .ok (.lastore, 1) := by decide +kernel
theorem d_Nodes_observation_177 : decode m_Nodes_observation.2.1 177 = .ok (.aload_n 0, 1) := by decide +kernel
theorem d_Nodes_observation_178 : decode m_Nodes_observation.2.1 178 = .ok (.getfield 41, 3) := by decide +kernel
theorem d_Nodes_observation_181 : decode m_Nodes_observation.2.1 181 = .ok (.iload 4, 2) := by decide +kernel
theorem d_Nodes_observation_183 : decode m_Nodes_observation.2.1 183 = .ok (.aload_n 0, 1) := by decide +kernel
theorem d_Nodes_observation_184 : decode m_Nodes_observation.2.1 184 = .ok (.getfield 3, 3) := by decide +kernel
theorem d_Nodes_observation_187 : decode m_Nodes_observation.2.1 187 = .ok (.getfield 83, 3) := by decide +kernel
theorem d_Nodes_observation_190 : decode m_Nodes_observation.2.1 190 = .ok (.invokevirtual 125, 3) := by decide +kernel
theorem d_Nodes_observation_193 : decode m_Nodes_observation.2.1 193 = .ok (.lastore, 1) := by decide +kernel
theorem d_Nodes_observation_194 : decode m_Nodes_observation.2.1 194 = .ok (.goto 34, 3) := by decide +kernel
theorem d_Nodes_observation_197 : decode m_Nodes_observation.2.1 197 = .ok (.aload_n 0, 1) := by decide +kernel
theorem d_Nodes_observation_198 : decode m_Nodes_observation.2.1 198 = .ok (.getfield 19, 3) := by decide +kernel
theorem d_Nodes_observation_201 : decode m_Nodes_observation.2.1 201 = .ok (.iload 4, 2) := by decide +kernel
theorem d_Nodes_observation_203 : decode m_Nodes_observation.2.1 203 = .ok (.aload_n 0, 1) := by decide +kernel
theorem d_Nodes_observation_204 : decode m_Nodes_observation.2.1 204 = .ok (.iload_n 1, 1) := by decide +kernel
theorem d_Nodes_observation_205 : decode m_Nodes_observation.2.1 205 = .ok (.iconst 1, 1) := by decide +kernel
theorem d_Nodes_observation_206 : decode m_Nodes_observation.2.1 206 = .ok (.iadd, 1) := by decide +kernel
theorem d_Nodes_observation_207 : decode m_Nodes_observation.2.1 207 = .ok (.invokevirtual 129, 3) := by decide +kernel
theorem d_Nodes_observation_210 : decode m_Nodes_observation.2.1 210 = .ok (.iastore, 1) := by decide +kernel
theorem d_Nodes_observation_211 : decode m_Nodes_observation.2.1 211 = .ok (.aload_n 0, 1) := by decide +kernel
theorem d_Nodes_observation_212 : decode m_Nodes_observation.2.1 212 = .ok (.getfield 22, 3) := by decide +kernel
theorem d_Nodes_observation_215 : decode m_Nodes_observation.2.1 215 = .ok (.iload 4, 2) := by decide +kernel
theorem d_Nodes_observation_217 : decode m_Nodes_observation.2.1 217 = .ok (.aload_n 0, 1) := by decide +kernel
theorem d_Nodes_observation_218 : decode m_Nodes_observation.2.1 218 = .ok (.iload_n 1, 1) := by decide +kernel
theorem d_Nodes_observation_219 : decode m_Nodes_observation.2.1 219 = .ok (.iconst 1, 1) := by decide +kernel
theorem d_Nodes_observation_220 : decode m_Nodes_observation.2.1 220 = .ok (.iadd, 1) := by decide +kernel
theorem d_Nodes_observation_221 : decode m_Nodes_observation.2.1 221 = .ok (.invokevirtual 129, 3) := by decide +kernel
theorem d_Nodes_observation_224 : decode m_Nodes_observation.2.1 224 = .ok (.iastore, 1) := by decide +kernel
theorem d_Nodes_observation_225 : decode m_Nodes_observation.2.1 225 = .ok (.goto 3, 3) := by decide +kernel
theorem d_Nodes_observation_228 : decode m_Nodes_observation.2.1 228 = .ok (.aload_n 0, 1) := by decide +kernel
theorem d_Nodes_observation_229 : decode m_Nodes_observation.2.1 229 = .ok (.iload_n 2, 1) := by decide +kernel
theorem d_Nodes_observation_230 : decode m_Nodes_observation.2.1 230 = .ok (.invokevirtual 132, 3) := by decide +kernel
theorem d_Nodes_observation_233 : decode m_Nodes_observation.2.1 233 = .ok (.iload 4, 2) := by decide +kernel
theorem d_Nodes_observation_235 : decode m_Nodes_observation.2.1 235 = .ok (.ireturn, 1) := by decide +kernel
theorem c_Nodes_observation {P w o D N Z g F f : Nat} {t : Nat → Nat} (hNF : N < F) (hF9 : F ≤ 20000) (ihV : RdOk P w o D N Z g F t m_Nodes_value y_Nodes_value 2 f) (ihO : RdOk P w o D N Z g F t m_Nodes_observation y_Nodes_observation 3 f) : RdOk P w o D N Z g F t m_Nodes_observation y_Nodes_observation 3 (f + 1) := by
  intro dep n m sz a V I L R T d hd h102 h101 hC hB
  obtain ⟨tot, htot⟩ : ∃ tot, tot = psC (tkP t N) g F (f + 1) 3 dep n m a := ⟨_, rfl⟩
  rw [← htot] at hB ⊢
  refine Call.ofRun (by decide) ⟨rfl, rfl⟩ (Nat.le_of_ble_eq_true rfl) ?_
  refine Run.gen fun Q hQ => ?_
  have hE := EQ9.of hQ
  obtain ⟨s1, s2, s3, s4, s5, s6⟩ := id hC.1.1
  have hly := hC.1.2.2.2.2
  have hns := hC.2.2.2
  have hms := hC.1.2.2.2.1.lt
  refine q_aload_n d_Nodes_observation_0 rfl ?_
  refine q_callV (ci := 6) (rc := (rmC sz (m + tot.1))) (rs := (rmS sz (m + tot.1))) (rest := []) d_Nodes_observation_1 ml_Nodes_108 ok_Nodes_open rfl s6.1 (by decide) (c_Nodes_open (d - 1) (F := F) (by omega) hC.1.1 hC.1.2.1 hC.2.1 hns.2.2 (by omega)) rfl rfl (by omega) (Nat.le_of_ble_eq_true rfl) (fun v I1 L1 R1 T1 h => ?_) (fun y I1 L1 R1 T1 h => ?_)
  rotate_left
  · rcases hop : opn (tkP t N) F a with e | ⟨k, a1⟩
    · rw [hop] at h
      obtain ⟨⟨h1, h2⟩, f1, f2, rfl, rfl⟩ := h
      cases h1
      exact thr_bad rfl s5.tag (hQ _ _ _ _ _ (hC.ps_er RF.rf (htot.trans (psC_er1 hop)) f1 f2 h2))
    · rw [hop] at h; cases h.1.1
  rcases hop : opn (tkP t N) F a with e | ⟨k, a1⟩
  · rw [hop] at h; cases h.1.1
  rw [hop] at h
  obtain ⟨⟨h1, h2⟩, f1, f2, e1, e2⟩ := h
  subst R1 T1
  cases h1
  have hk9 := opn_le _ _ _ _ _ hop
  have hC1 : CS P w o D N Z g t a1 n m sz V I1 L1 R T := hC.tk f1 f2 h2
  have hF1 : RF D o Z n I L R T I1 L1 R T := RF.tk f1 f2
  have hkd := TokR.kd hC1.2.1.1
  have hk0 := hC1.2.1.2.1
  refine q_istore_n (lv' := [(2, .int (cI (k : Int))), (0, .ref D), (1, .int (cI (dep : Int)))]) d_Nodes_observation_4 (by decide) rfl ?_
  refine q_aload_n d_Nodes_observation_5 rfl ?_
  refine q_getR d_Nodes_observation_6 fl_Nodes_3 s6.1 ⟨rfl, by decide⟩ s6.2.2 ?_
  refine q_getR d_Nodes_observation_9 fl_Nodes_83 s1 ⟨rfl, by decide⟩ s3 ?_
  refine j_getI (v := (cI (tk (tkP t N) a1))) d_Nodes_observation_12 fl_Nodes_100 s5.1 ⟨rfl, by decide⟩ hC1.2.1.2.2.2.2.1 ?_
  refine q_istore_n (lv' := [(3, .int (cI (tk (tkP t N) a1))), (2, .int (cI (k : Int))), (0, .ref D), (1, .int (cI (dep : Int)))]) d_Nodes_observation_15 (by decide) rfl ?_
  refine q_iload_n d_Nodes_observation_16 rfl ?_
  refine j_i2l d_Nodes_observation_17 (by omega) ?_
  refine j_ldc2 (z := 23) d_Nodes_observation_18 (inT5 56 rfl) (by decide) ?_
  refine j_ldc2 (z := 33) d_Nodes_observation_21 (inT5 57 rfl) (by decide) ?_
  refine q_callS (rc := (rmC sz (m + tot.1))) (rs := (rmS sz (m + tot.1))) (rest := []) d_Nodes_observation_24 ml_Nodes_169 ok_Platform_within (c_Platform_within (d - 1) (v := tk (tkP t N) a1) (a := 23) (b := 33) (by omega) (by decide) (by decide)) rfl rfl (by omega) (Nat.le_of_ble_eq_true rfl) (kp_I ?_) kt_I
  have hok : okS 3 (tk (tkP t N) a1) = true ↔ (23 ≤ tk (tkP t N) a1 ∧ tk (tkP t N) a1 ≤ 33) := by unfold okS; rw [if_neg (by decide), if_neg (by decide), decide_eq_true_eq]
  refine j_ifb_ne (tgt := 41) d_Nodes_observation_27 (by decide) (fun hb => ?_) (fun hb => ?_)
  rotate_left
  · skip
    refine q_aload_n d_Nodes_observation_30 rfl ?_
    refine q_getR d_Nodes_observation_31 fl_Nodes_3 s6.1 ⟨rfl, by decide⟩ s6.2.2 ?_
    refine q_getR d_Nodes_observation_34 fl_Nodes_83 s1 ⟨rfl, by decide⟩ s3 ?_
    refine j_iconst d_Nodes_observation_37 ?_
    refine q_callV (ci := 5) (rc := (rmC sz (m + tot.1))) (rs := (rmS sz (m + tot.1))) (rest := []) d_Nodes_observation_38 ml_Nodes_87 ok_Tokens_fail rfl s5.1 (by decide) (c_Tokens_fail (d - 1) (by omega) s5 hC1.2.1.2.2.2.2.2.1) rfl rfl (by omega) (Nat.le_of_ble_eq_true rfl) (fun v I' L' R' T' h => by cases h.1) (fun x I' L' R' T' h => ?_)
    obtain ⟨h0, f3, h4, e1, e2, e3⟩ := badQ_fx h
    subst L' R' T'
    cases h0
    exact thr_bad rfl s5.tag (hQ _ _ _ _ _ (hC1.ps_er hF1 (htot.trans (psC_er2 hop (fun q => hb (hok.mp q)))) f3 Fx.rf h4))
  have hok2 := hok.mpr hb
  refine q_aload_n d_Nodes_observation_41 rfl ?_
  refine q_iload_n d_Nodes_observation_42 rfl ?_
  refine q_iload_n d_Nodes_observation_43 rfl ?_
  refine q_callV (ci := 6) (rc := (rmC sz (m + tot.1))) (rs := (rmS sz (m + tot.1))) (rest := []) d_Nodes_observation_44 ml_Nodes_111 ok_Nodes_node rfl s6.1 (by decide) (c_Nodes_node (d - 1) (g := g) (dep := (dep : Int)) (kd := tk (tkP t N) a1) (by omega) hC1.1.1 hC1.2.1.2.2.2.2.2.1 hC1.2.2.1 hC1.1.2.2.1 hns.1 (by omega) (by omega) (by omega)) rfl rfl (by omega) (Nat.le_of_ble_eq_true rfl) (fun v I2 L2 R2 T2 h => ?_) (fun y I2 L2 R2 T2 h => ?_)
  rotate_left
  · rcases h with ⟨h1, h⟩ | ⟨h1, h, _⟩
    · have hbx := badQ_fx h
      obtain ⟨h3, f3, h4, e1, e2, e3⟩ := hbx
      subst L2 R2 T2
      cases h3
      exact thr_bad rfl s5.tag (hQ _ _ _ _ _ (hC1.ps_er hF1 (htot.trans (psC_er3 hop hok2 (by omega))) f3 Fx.rf h4))
    · cases h
  rcases h with ⟨h1, h⟩ | ⟨hnn, h3, h4, h5, f3, f4, e1, e2⟩
  · cases h.1
  subst R2 T2
  cases h3
  have hnn : ¬ (100 < dep ∨ n - g = 1000) := by omega
  obtain ⟨hC2, hF2⟩ := hC1.nd h5 f3 f4 (by omega)
  have hon : ownN (tkP t N) a1 = [] := by unfold ownN; rw [if_neg (by omega)]
  have hor : ownR (tkP t N) a1 m dep = [tk (tkP t N) a1, -1, -1, -1, -1, 0, 0, 0, -1, 0, (dep : Int)] := by unfold ownR; rw [if_neg (by omega), if_neg (by omega)]
  have hW2 : WK P w o D N Z g t n (n + 1) m sz V I L R T a1 (ownR (tkP t N) a1 m dep) [] [] I2 L2 R T := by
    rw [hor]; exact WK.start hC2 h4 rfl (hF1.tr hF2)
  refine Run.more (rc := rmC (max sz (m + ([] : List Int).length)) (m + tot.1)) (rs := rmS (max sz (m + ([] : List Int).length)) (m + tot.1)) ?_ (by rw [show max sz (m + ([] : List Int).length) = sz from by show max sz (m + 0) = sz; omega]; exact Nat.le_refl _) (by rw [show max sz (m + ([] : List Int).length) = sz from by show max sz (m + 0) = sz; omega]; exact Nat.le_refl _)
  refine q_istore (lv' := [(4, .int (cI (n : Int))), (3, .int (cI (tk (tkP t N) a1))), (2, .int (cI (k : Int))), (0, .ref D), (1, .int (cI (dep : Int)))]) d_Nodes_observation_47 (by decide) rfl ?_
  refine q_aload_n d_Nodes_observation_49 rfl ?_
  refine q_getR d_Nodes_observation_50 fl_Nodes_3 s6.1 ⟨rfl, by decide⟩ s6.2.2 ?_
  refine q_getR d_Nodes_observation_53 fl_Nodes_83 s1 ⟨rfl, by decide⟩ s3 ?_
  refine q_tk (as := []) (st := []) hW2 d_Nodes_observation_56 ml_Nodes_103 ok_Tokens_next rfl rfl (c_Tokens_nextT (d := d - 1) (by omega) s5 s1 s2 s4 hC2.1.2.1 hC2.2.1) rfl rfl (by omega) (Nat.le_of_ble_eq_true rfl) hE (fun e hr => by rw [htot, psC_er4 hop hok2 hnn hr, hon]) (fun a3 I3 L3 hr3 hW3 => ?_)
  have hkr3 := WK_kr hW3
  have hR3 := psC_go2 (f := f) (m := m) hop hok2 hnn hr3
  rw [← htot, hon] at hR3
  have fin : ∀ (a9 : Nat) (row9 : Row) (rs9 : List Row) (ns9 : List Int) (I9 : M32) (L9 : M64) (R9 : MR) (T9 : SH), WK P w o D N Z g t n (n + 1) m sz V I L R T a9 row9 rs9 ns9 I9 L9 R9 T9 → RsC tot (itmC (tkP t N) g (psC (tkP t N) g F f) dep) (n + 1) m (FinC (tkP t N) k) [] row9 rs9 ns9 a9 → Run m_Nodes_observation d (rmC (max sz (m + ns9.length)) (m + tot.1)) (rmS (max sz (m + ns9.length)) (m + tot.1)) 228 [(0, .ref D), (1, .int (cI (dep : Int))), (2, .int (cI (k : Int))), (3, .int (cI (tk (tkP t N) a1))), (4, .int (cI (n : Int)))] [] I9 L9 R9 T9 Q := by
    intro a9 row9 rs9 ns9 I9 L9 R9 T9 hW9 hR9
    refine q_aload_n d_Nodes_observation_228 rfl ?_
    refine q_iload_n d_Nodes_observation_229 rfl ?_
    refine q_callV (ci := 6) (rc := (rmC (max sz (m + ns9.length)) (m + tot.1))) (rs := (rmS (max sz (m + ns9.length)) (m + tot.1))) (rest := []) d_Nodes_observation_230 ml_Nodes_132 ok_Nodes_shut rfl hW9.nd.1 (by decide) (c_Nodes_shut (d - 1) (by omega) hW9.1.1.1 hW9.1.1.2.1 hW9.1.2.1 (by omega)) rfl rfl (by omega) (Nat.le_of_ble_eq_true rfl) (fun v I6 L6 R6 T6 h => ?_) (fun y I6 L6 R6 T6 h => ?_)
    rotate_left
    · rcases hs : shu (tkP t N) k a9 with e | a6
      · rw [hs] at h
        obtain ⟨⟨h1, h2⟩, f1, f2, e1, e2⟩ := h
        subst R6 T6
        cases h1
        exact thr_bad rfl hW9.bad (hQ _ _ _ _ _ (hW9.ps_er f1 f2 h2 (by rw [hR9.nil, FinC_er hs]; rfl)))
      · rw [hs] at h; cases h.1.1
    rcases hs : shu (tkP t N) k a9 with e | a6
    · rw [hs] at h; cases h.1.1
    rw [hs] at h
    obtain ⟨⟨h1, h2⟩, f1, f2, e1, e2⟩ := h
    subst R6 T6
    cases h1
    refine q_iload d_Nodes_observation_233 rfl ?_
    refine q_ireturn d_Nodes_observation_235 rfl rfl ?_
    refine hQ _ _ _ _ _ ?_
    exact hW9.fin f1 f2 h2 (by rw [hR9.nil, FinC_ok hs]; rfl)
  refine q_iload_n d_Nodes_observation_59 rfl ?_
  obtain ⟨κ, hκ⟩ : ∃ κ, κ = tk (tkP t N) a1 := ⟨_, rfl⟩
  rw [← hκ] at hb hR3 fin ⊢
  have t112 : ∀ (hx : κ = 23 ∨ κ = 24), True → Run m_Nodes_observation d (rmC (max sz (m + ([] : List Int).length)) (m + tot.1)) (rmS (max sz (m + ([] : List Int).length)) (m + tot.1)) 112 [(0, .ref D), (1, .int (cI (dep : Int))), (2, .int (cI (k : Int))), (3, .int (cI κ)), (4, .int (cI (n : Int)))] [] I3 L3 R T Q := by
    intro hx _
    rw [show itC κ = [(3, 1), (3, 2)] by rcases hx with rfl | rfl <;> rfl] at hR3
    have hkr3 := WK_kr hW3
    refine q_aload_n d_Nodes_observation_112 rfl ?_
    refine q_getR d_Nodes_observation_113 fl_Nodes_19 hW3.nd.1 ⟨rfl, by decide⟩ (nR1 hW3.nd) ?_
    refine q_iload d_Nodes_observation_116 rfl ?_
    refine q_aload_n d_Nodes_observation_118 rfl ?_
    refine q_iload_n d_Nodes_observation_119 rfl ?_
    refine j_iconst d_Nodes_observation_120 ?_
    refine j_iadd d_Nodes_observation_121 ?_
    refine q_ch hW3 hR3 ihO (fun _ _ _ _ => rfl) (Or.inl rfl) d_Nodes_observation_122 d_Nodes_observation_125 ml_Nodes_119 ok_Nodes_observation rfl rfl (by omega) (by omega) (by omega) hB (Nat.le_of_ble_eq_true rfl) hE (fun a4 row4 rs4 ns4 I4 L4 R4 T4 hW4 hR4 hro4 => ?_)
    have hkr4 := WK_kr hW4
    refine q_aload_n d_Nodes_observation_126 rfl ?_
    refine q_getR d_Nodes_observation_127 fl_Nodes_22 hW4.nd.1 ⟨rfl, by decide⟩ (nR2 hW4.nd) ?_
    refine q_iload d_Nodes_observation_130 rfl ?_
    refine q_aload_n d_Nodes_observation_132 rfl ?_
    refine q_iload_n d_Nodes_observation_133 rfl ?_
    refine j_iconst d_Nodes_observation_134 ?_
    refine j_iadd d_Nodes_observation_135 ?_
    refine q_ch hW4 hR4 ihO (fun _ _ _ _ => rfl) (Or.inr (Or.inl rfl)) d_Nodes_observation_136 d_Nodes_observation_139 ml_Nodes_119 ok_Nodes_observation rfl rfl (by omega) (by omega) (by omega) hB (Nat.le_of_ble_eq_true rfl) hE (fun a5 row5 rs5 ns5 I5 L5 R5 T5 hW5 hR5 hro5 => ?_)
    have hkr5 := WK_kr hW5
    refine q_goto (tgt := 228) d_Nodes_observation_140 (by decide) ?_
    exact fin _ _ _ _ _ _ _ _ hW5 hR5
  have t143 : ∀ (hx : κ = 25), True → Run m_Nodes_observation d (rmC (max sz (m + ([] : List Int).length)) (m + tot.1)) (rmS (max sz (m + ([] : List Int).length)) (m + tot.1)) 143 [(0, .ref D), (1, .int (cI (dep : Int))), (2, .int (cI (k : Int))), (3, .int (cI κ)), (4, .int (cI (n : Int)))] [] I3 L3 R T Q := by
    intro hx _
    rw [show itC κ = [(3, 1)] by subst hx; rfl] at hR3
    have hkr3 := WK_kr hW3
    refine q_aload_n d_Nodes_observation_143 rfl ?_
    refine q_getR d_Nodes_observation_144 fl_Nodes_19 hW3.nd.1 ⟨rfl, by decide⟩ (nR1 hW3.nd) ?_
    refine q_iload d_Nodes_observation_147 rfl ?_
    refine q_aload_n d_Nodes_observation_149 rfl ?_
    refine q_iload_n d_Nodes_observation_150 rfl ?_
    refine j_iconst d_Nodes_observation_151 ?_
    refine j_iadd d_Nodes_observation_152 ?_
    refine q_ch hW3 hR3 ihO (fun _ _ _ _ => rfl) (Or.inl rfl) d_Nodes_observation_153 d_Nodes_observation_156 ml_Nodes_119 ok_Nodes_observation rfl rfl (by omega) (by omega) (by omega) hB (Nat.le_of_ble_eq_true rfl) hE (fun a4 row4 rs4 ns4 I4 L4 R4 T4 hW4 hR4 hro4 => ?_)
    have hkr4 := WK_kr hW4
    refine q_goto (tgt := 228) d_Nodes_observation_157 (by decide) ?_
    exact fin _ _ _ _ _ _ _ _ hW4 hR4
  have t160 : ∀ (hx : κ = 26), True → Run m_Nodes_observation d (rmC (max sz (m + ([] : List Int).length)) (m + tot.1)) (rmS (max sz (m + ([] : List Int).length)) (m + tot.1)) 160 [(0, .ref D), (1, .int (cI (dep : Int))), (2, .int (cI (k : Int))), (3, .int (cI κ)), (4, .int (cI (n : Int)))] [] I3 L3 R T Q := by
    intro hx _
    rw [show itC κ = [(4, 1), (4, 2)] by subst hx; rfl] at hR3
    have hkr3 := WK_kr hW3
    refine q_aload_n d_Nodes_observation_160 rfl ?_
    refine q_getR d_Nodes_observation_161 fl_Nodes_37 hW3.nd.1 ⟨rfl, by decide⟩ (nR7 hW3.nd) ?_
    refine q_iload d_Nodes_observation_164 rfl ?_
    refine q_aload_n d_Nodes_observation_166 rfl ?_
    refine q_getR d_Nodes_observation_167 fl_Nodes_3 hW3.nd.1 ⟨rfl, by decide⟩ hW3.nd.2.2 ?_
    refine q_getR d_Nodes_observation_170 fl_Nodes_83 hW3.pt ⟨rfl, by decide⟩ hW3.po ?_
    refine q_nm (dd := d - 1) hW3 hR3 (fun _ _ _ _ => rfl) (Or.inl rfl) d_Nodes_observation_173 d_Nodes_observation_176 ml_Nodes_125 rfl (by omega) (by omega) (Nat.le_of_ble_eq_true rfl) hE (fun a4 row4 I4 L4 hW4 hR4 hro4 => ?_)
    have hkr4 := WK_kr hW4
    refine q_aload_n d_Nodes_observation_177 rfl ?_
    refine q_getR d_Nodes_observation_178 fl_Nodes_41 hW4.nd.1 ⟨rfl, by decide⟩ (nR8 hW4.nd) ?_
    refine q_iload d_Nodes_observation_181 rfl ?_
    refine q_aload_n d_Nodes_observation_183 rfl ?_
    refine q_getR d_Nodes_observation_184 fl_Nodes_3 hW4.nd.1 ⟨rfl, by decide⟩ hW4.nd.2.2 ?_
    refine q_getR d_Nodes_observation_187 fl_Nodes_83 hW4.pt ⟨rfl, by decide⟩ hW4.po ?_
    refine q_nm (dd := d - 1) hW4 hR4 (fun _ _ _ _ => rfl) (Or.inr (Or.inl rfl)) d_Nodes_observation_190 d_Nodes_observation_193 ml_Nodes_125 rfl (by omega) (by omega) (Nat.le_of_ble_eq_true rfl) hE (fun a5 row5 I5 L5 hW5 hR5 hro5 => ?_)
    have hkr5 := WK_kr hW5
    refine q_goto (tgt := 228) d_Nodes_observation_194 (by decide) ?_
    exact fin _ _ _ _ _ _ _ _ hW5 hR5
  have t197 : ∀ (hx : κ = 27 ∨ κ = 28 ∨ κ = 29 ∨ κ = 30 ∨ κ = 31), True → Run m_Nodes_observation d (rmC (max sz (m + ([] : List Int).length)) (m + tot.1)) (rmS (max sz (m + ([] : List Int).length)) (m + tot.1)) 197 [(0, .ref D), (1, .int (cI (dep : Int))), (2, .int (cI (k : Int))), (3, .int (cI κ)), (4, .int (cI (n : Int)))] [] I3 L3 R T Q := by
    intro hx _
    rw [show itC κ = [(2, 1), (2, 2)] by rcases hx with rfl | rfl | rfl | rfl | rfl <;> rfl] at hR3
    have hkr3 := WK_kr hW3
    refine q_aload_n d_Nodes_observation_197 rfl ?_
    refine q_getR d_Nodes_observation_198 fl_Nodes_19 hW3.nd.1 ⟨rfl, by decide⟩ (nR1 hW3.nd) ?_
    refine q_iload d_Nodes_observation_201 rfl ?_
    refine q_aload_n d_Nodes_observation_203 rfl ?_
    refine q_iload_n d_Nodes_observation_204 rfl ?_
    refine j_iconst d_Nodes_observation_205 ?_
    refine j_iadd d_Nodes_observation_206 ?_
    refine q_ch hW3 hR3 ihV (fun _ _ _ _ => rfl) (Or.inl rfl) d_Nodes_observation_207 d_Nodes_observation_210 ml_Nodes_129 ok_Nodes_value rfl rfl (by omega) (by omega) (by omega) hB (Nat.le_of_ble_eq_true rfl) hE (fun a4 row4 rs4 ns4 I4 L4 R4 T4 hW4 hR4 hro4 => ?_)
    have hkr4 := WK_kr hW4
    refine q_aload_n d_Nodes_observation_211 rfl ?_
    refine q_getR d_Nodes_observation_212 fl_Nodes_22 hW4.nd.1 ⟨rfl, by decide⟩ (nR2 hW4.nd) ?_
    refine q_iload d_Nodes_observation_215 rfl ?_
    refine q_aload_n d_Nodes_observation_217 rfl ?_
    refine q_iload_n d_Nodes_observation_218 rfl ?_
    refine j_iconst d_Nodes_observation_219 ?_
    refine j_iadd d_Nodes_observation_220 ?_
    refine q_ch hW4 hR4 ihV (fun _ _ _ _ => rfl) (Or.inr (Or.inl rfl)) d_Nodes_observation_221 d_Nodes_observation_224 ml_Nodes_129 ok_Nodes_value rfl rfl (by omega) (by omega) (by omega) hB (Nat.le_of_ble_eq_true rfl) hE (fun a5 row5 rs5 ns5 I5 L5 R5 T5 hW5 hR5 hro5 => ?_)
    have hkr5 := WK_kr hW5
    refine q_goto (tgt := 228) d_Nodes_observation_225 (by decide) ?_
    exact fin _ _ _ _ _ _ _ _ hW5 hR5
  have hcs : κ = 23 ∨ κ = 24 ∨ κ = 25 ∨ κ = 26 ∨ κ = 27 ∨ κ = 28 ∨ κ = 29 ∨ κ = 30 ∨ κ = 31 ∨ (κ = 32 ∨ κ = 33) := by omega
  rcases hcs with e | e | e | e | e | e | e | e | e | e
  · refine j_tableIn (k := 23) (tgt := 112) d_Nodes_observation_60 e (by decide) rfl (by decide) ?_
    refine Run.lv (lv' := [(0, .ref D), (1, .int (cI (dep : Int))), (2, .int (cI (k : Int))), (3, .int (cI κ)), (4, .int (cI (n : Int)))]) (by intro q hq; simp only [List.mem_cons, List.not_mem_nil, or_false] at hq ⊢; rcases hq with rfl | rfl | rfl | rfl | rfl <;> simp) ?_
    exact t112 (Or.inl e) trivial
  · refine j_tableIn (k := 24) (tgt := 112) d_Nodes_observation_60 e (by decide) rfl (by decide) ?_
    refine Run.lv (lv' := [(0, .ref D), (1, .int (cI (dep : Int))), (2, .int (cI (k : Int))), (3, .int (cI κ)), (4, .int (cI (n : Int)))]) (by intro q hq; simp only [List.mem_cons, List.not_mem_nil, or_false] at hq ⊢; rcases hq with rfl | rfl | rfl | rfl | rfl <;> simp) ?_
    exact t112 (Or.inr e) trivial
  · refine j_tableIn (k := 25) (tgt := 143) d_Nodes_observation_60 e (by decide) rfl (by decide) ?_
    refine Run.lv (lv' := [(0, .ref D), (1, .int (cI (dep : Int))), (2, .int (cI (k : Int))), (3, .int (cI κ)), (4, .int (cI (n : Int)))]) (by intro q hq; simp only [List.mem_cons, List.not_mem_nil, or_false] at hq ⊢; rcases hq with rfl | rfl | rfl | rfl | rfl <;> simp) ?_
    exact t143 e trivial
  · refine j_tableIn (k := 26) (tgt := 160) d_Nodes_observation_60 e (by decide) rfl (by decide) ?_
    refine Run.lv (lv' := [(0, .ref D), (1, .int (cI (dep : Int))), (2, .int (cI (k : Int))), (3, .int (cI κ)), (4, .int (cI (n : Int)))]) (by intro q hq; simp only [List.mem_cons, List.not_mem_nil, or_false] at hq ⊢; rcases hq with rfl | rfl | rfl | rfl | rfl <;> simp) ?_
    exact t160 e trivial
  · refine j_tableIn (k := 27) (tgt := 197) d_Nodes_observation_60 e (by decide) rfl (by decide) ?_
    refine Run.lv (lv' := [(0, .ref D), (1, .int (cI (dep : Int))), (2, .int (cI (k : Int))), (3, .int (cI κ)), (4, .int (cI (n : Int)))]) (by intro q hq; simp only [List.mem_cons, List.not_mem_nil, or_false] at hq ⊢; rcases hq with rfl | rfl | rfl | rfl | rfl <;> simp) ?_
    exact t197 (by omega) trivial
  · refine j_tableIn (k := 28) (tgt := 197) d_Nodes_observation_60 e (by decide) rfl (by decide) ?_
    refine Run.lv (lv' := [(0, .ref D), (1, .int (cI (dep : Int))), (2, .int (cI (k : Int))), (3, .int (cI κ)), (4, .int (cI (n : Int)))]) (by intro q hq; simp only [List.mem_cons, List.not_mem_nil, or_false] at hq ⊢; rcases hq with rfl | rfl | rfl | rfl | rfl <;> simp) ?_
    exact t197 (by omega) trivial
  · refine j_tableIn (k := 29) (tgt := 197) d_Nodes_observation_60 e (by decide) rfl (by decide) ?_
    refine Run.lv (lv' := [(0, .ref D), (1, .int (cI (dep : Int))), (2, .int (cI (k : Int))), (3, .int (cI κ)), (4, .int (cI (n : Int)))]) (by intro q hq; simp only [List.mem_cons, List.not_mem_nil, or_false] at hq ⊢; rcases hq with rfl | rfl | rfl | rfl | rfl <;> simp) ?_
    exact t197 (by omega) trivial
  · refine j_tableIn (k := 30) (tgt := 197) d_Nodes_observation_60 e (by decide) rfl (by decide) ?_
    refine Run.lv (lv' := [(0, .ref D), (1, .int (cI (dep : Int))), (2, .int (cI (k : Int))), (3, .int (cI κ)), (4, .int (cI (n : Int)))]) (by intro q hq; simp only [List.mem_cons, List.not_mem_nil, or_false] at hq ⊢; rcases hq with rfl | rfl | rfl | rfl | rfl <;> simp) ?_
    exact t197 (by omega) trivial
  · refine j_tableIn (k := 31) (tgt := 197) d_Nodes_observation_60 e (by decide) rfl (by decide) ?_
    refine Run.lv (lv' := [(0, .ref D), (1, .int (cI (dep : Int))), (2, .int (cI (k : Int))), (3, .int (cI κ)), (4, .int (cI (n : Int)))]) (by intro q hq; simp only [List.mem_cons, List.not_mem_nil, or_false] at hq ⊢; rcases hq with rfl | rfl | rfl | rfl | rfl <;> simp) ?_
    exact t197 (by omega) trivial
  · refine j_tableOut (tgt := 228) d_Nodes_observation_60 (by omega) (by omega) (by decide) ?_
    rw [show itC κ = [] by rcases e with rfl | rfl <;> rfl] at hR3
    refine Run.lv (lv' := [(0, .ref D), (1, .int (cI (dep : Int))), (2, .int (cI (k : Int))), (3, .int (cI κ)), (4, .int (cI (n : Int)))]) (by intro q hq; simp only [List.mem_cons, List.not_mem_nil, or_false] at hq ⊢; rcases hq with rfl | rfl | rfl | rfl | rfl <;> simp) ?_
    exact fin _ _ _ _ _ _ _ _ hW3 hR3

