/-! ===== 95 THE COMPONENT'S READER: when, the walk ===== -/
theorem c_Nodes_when {P w o D N Z g F f dep i n m sz a : Nat} {t : Nat → Nat} {V : Nat → Int} {row : Row} {I : M32} {L : M64} {R : MR} {T : SH} (d : Nat) (ihV : RdOk P w o D N Z g F t m_Nodes_value y_Nodes_value 2 f) (ihO : RdOk P w o D N Z g F t m_Nodes_observation y_Nodes_observation 3 f) (ihC : RdOk P w o D N Z g F t m_Nodes_contract y_Nodes_contract 1 f) (hd : 3 * f + 10 ≤ d) (h102 : 102 ≤ f + (dep + 1)) (h101 : dep + 1 ≤ 101) (hC : CS P w o D N Z g t a n m sz V I L R T) (hr : RowC I L D i row ∧ row.length = 11) (hi : i < n) (h1 : row.getD 1 0 = -1) (hB : m + (itsC (itmC (tkP t N) g (psC (tkP t N) g F f) dep) (itC 5) row n m a).1 ≤ 60000) :
    Call m_Nodes_when y_Nodes_when d (rmC sz (m + (itsC (itmC (tkP t N) g (psC (tkP t N) g F f) dep) (itC 5) row n m a).1)) (rmS sz (m + (itsC (itmC (tkP t N) g (psC (tkP t N) g F f) dep) (itC 5) row n m a).1)) [.ref D, .int (cI (i : Int)), .int (cI (dep : Int))] I L R T (ItQ P w o D N Z g t i n m sz V (itsC (itmC (tkP t N) g (psC (tkP t N) g F f) dep) (itC 5) row n m a) I L R T) := by
  obtain ⟨it, hit⟩ : ∃ it, it = itmC (tkP t N) g (psC (tkP t N) g F f) dep := ⟨_, rfl⟩
  obtain ⟨tot, htot⟩ : ∃ tot, tot = itsC (itmC (tkP t N) g (psC (tkP t N) g F f) dep) (itC 5) row n m a := ⟨_, rfl⟩
  rw [← htot] at hB ⊢
  refine Call.ofRun (by decide) ⟨rfl, rfl⟩ (Nat.le_of_ble_eq_true rfl) ?_
  refine Run.gen fun Q hQ => ?_
  have hE := EQ9.it hQ
  have hW3 := WK.start0 hC hr hi
  have hly := hW3.lay
  have hms := hC.1.2.2.2.1.lt
  have hns := hC.2.2.2
  have hR3 : RsC tot it n m okC [(7, 0), (8, 0), (9, 0), (1, 2)] row [] [] a := by rw [htot, ← hit]; exact RsC.init
  refine Run.more (rc := rmC (max sz (m + ([] : List Int).length)) (m + tot.1)) (rs := rmS (max sz (m + ([] : List Int).length)) (m + tot.1)) ?_ (by rw [show max sz (m + ([] : List Int).length) = sz from by show max sz (m + 0) = sz; omega]; exact Nat.le_refl _) (by rw [show max sz (m + ([] : List Int).length) = sz from by show max sz (m + 0) = sz; omega]; exact Nat.le_refl _)
  have t272 : ∀ (a9 : Nat) (row9 : Row) (rs9 : List Row) (ns9 : List Int) (I9 : M32) (L9 : M64) (R9 : MR) (T9 : SH), WK P w o D N Z g t i n m sz V I L R T a9 row9 rs9 ns9 I9 L9 R9 T9 → RsC tot it n m okC [(1, 2)] row9 rs9 ns9 a9 → Run m_Nodes_when d (rmC (max sz (m + ns9.length)) (m + tot.1)) (rmS (max sz (m + ns9.length)) (m + tot.1)) 272 [(0, .ref D), (1, .int (cI (i : Int))), (2, .int (cI (dep : Int)))] [] I9 L9 R9 T9 Q := by
    intro a9 row9 rs9 ns9 I9 L9 R9 T9 hW9 hR9
    have hkr9 := WK_kr hW9
    refine q_aload_n d_Nodes_when_272 rfl ?_
    refine q_getR d_Nodes_when_273 fl_Nodes_22 hW9.nd.1 ⟨rfl, by decide⟩ (nR2 hW9.nd) ?_
    refine q_iload_n d_Nodes_when_276 rfl ?_
    refine q_aload_n d_Nodes_when_277 rfl ?_
    refine q_iload_n d_Nodes_when_278 rfl ?_
    refine j_iconst d_Nodes_when_279 ?_
    refine j_iadd d_Nodes_when_280 ?_
    rw [hit] at hR9
    refine q_ch hW9 hR9 ihC (fun _ _ _ _ => rfl) (Or.inr (Or.inl rfl)) d_Nodes_when_281 d_Nodes_when_284 ml_Nodes_93 ok_Nodes_contract rfl rfl (by omega) (by omega) (by omega) hB (Nat.le_of_ble_eq_true rfl) hE (fun a10 row10 rs10 ns10 I10 L10 R10 T10 hW10 hR10 hro10 => ?_)
    have hkr10 := WK_kr hW10
    refine q_return d_Nodes_when_285 rfl ?_
    refine hQ _ _ _ _ _ ?_
    exact ItQ.fin hW10 hR10
  have fin : ∀ (a5 : Nat) (row5 : Row) (rs5 : List Row) (ns5 : List Int) (I5 : M32) (L5 : M64) (R5 : MR) (T5 : SH), WK P w o D N Z g t i n m sz V I L R T a5 row5 rs5 ns5 I5 L5 R5 T5 → tot = adC ns5.length (whH (tkP t N) it n m row5 rs5 ns5 a5) → Run m_Nodes_when d (rmC (max sz (m + ns5.length)) (m + tot.1)) (rmS (max sz (m + ns5.length)) (m + tot.1)) 128 [(0, .ref D), (1, .int (cI (i : Int))), (2, .int (cI (dep : Int)))] [] I5 L5 R5 T5 Q := by
    intro a5 row5 rs5 ns5 I5 L5 R5 T5 hW5 ht5
    have hkr5 := WK_kr hW5
    refine q_aload_n d_Nodes_when_128 rfl ?_
    refine q_getR d_Nodes_when_129 fl_Nodes_3 hW5.nd.1 ⟨rfl, by decide⟩ hW5.nd.2.2 ?_
    refine q_getR d_Nodes_when_132 fl_Nodes_83 hW5.pt ⟨rfl, by decide⟩ hW5.po ?_
    refine j_bipush d_Nodes_when_135 (by decide) ?_
    refine q_tk (as := [.int (cI 106)]) (st := []) hW5 d_Nodes_when_137 ml_Nodes_105 ok_Tokens_want rfl rfl (c_Tokens_wantT (d := d - 1) (due := 106) (by omega) hW5.tks hW5.pt hW5.1.1.1.2.1 hW5.1.1.1.2.2.2.1 hW5.1.1.2.1 hW5.1.2.1 (by omega)) rfl rfl (by omega) (Nat.le_of_ble_eq_true rfl) hE (fun e hr => by rw [ht5, whH, hr]; rfl) (fun a6 I6 L6 hr6 hW6 => ?_)
    have hkr6 := WK_kr hW6
    have hR6 : RsC tot it n m okC [(9, 0), (1, 2)] row5 rs5 ns5 a6 := by
      rw [ht5]; unfold whH RsC; rw [hr6, bdC_ok, adC_0]
    have it9 : ∀ n1 m1, it 9 0 row5 n1 m1 a6 = (if tk (tkP t N) a6 = 102 then bdC (lfC (wn (tkP t N) 102 a6)) fun a' => okC (a', row5.set 5 (tx (tkP t N) a6), [], []) else if tk (tkP t N) a6 = 100 ∧ ¬ (0 ≤ tv (tkP t N) a6 ∧ tv (tkP t N) a6 ≤ 1000000000000000) then erC (5, tb (tkP t N) a6) else adC (if tk (tkP t N) a6 = 100 then 1 else 0) (bdC (lfC (wn (tkP t N) 100 a6)) fun a' => okC (a', row5.set 8 m1, [], [tv (tkP t N) a6]))) := by
      intro n1 m1; rw [hit]; rfl
    by_cases h2 : tk (tkP t N) a6 = 102
    · refine q_aload_n d_Nodes_when_140 rfl ?_
      refine q_getR d_Nodes_when_141 fl_Nodes_3 hW6.nd.1 ⟨rfl, by decide⟩ hW6.nd.2.2 ?_
      refine q_getR d_Nodes_when_144 fl_Nodes_83 hW6.pt ⟨rfl, by decide⟩ hW6.po ?_
      refine j_getI (v := (cI (tk (tkP t N) a6))) d_Nodes_when_147 fl_Nodes_100 hW6.tks.1 ⟨rfl, by decide⟩ (WK_kd hW6) ?_
      refine j_bipush d_Nodes_when_150 (by decide) ?_
      refine j_icmp_ne (tgt := 174) d_Nodes_when_152 (by decide) (by omega) (by omega) (fun hx => by exfalso; omega) (fun hx => ?_)
      refine q_aload_n d_Nodes_when_155 rfl ?_
      refine q_getR d_Nodes_when_156 fl_Nodes_37 hW6.nd.1 ⟨rfl, by decide⟩ (nR7 hW6.nd) ?_
      refine q_iload_n d_Nodes_when_159 rfl ?_
      refine q_aload_n d_Nodes_when_160 rfl ?_
      refine q_getR d_Nodes_when_161 fl_Nodes_3 hW6.nd.1 ⟨rfl, by decide⟩ hW6.nd.2.2 ?_
      refine q_getR d_Nodes_when_164 fl_Nodes_83 hW6.pt ⟨rfl, by decide⟩ hW6.po ?_
      refine j_getL (v := (cL (tx (tkP t N) a6))) d_Nodes_when_167 fl_Nodes_138 hW6.tks.1 ⟨rfl, by decide⟩ (hW6.1.2.1.2.2.2.2.2.2.1 (Or.inr (Or.inr h2))) ?_
      refine j_last (j := i) d_Nodes_when_170 (nT7 hW6.nd) (nN7 hW6.nd) (by omega) (by omega) (by omega) ?_
      have hW7 := hW6.stL1 (v := ((tx (tkP t N) a6 : Nat) : Int))
      generalize hL7 : (up2 L6 (D + 8) i (cL (tx (tkP t N) a6))) = L7 at hW7 ⊢
      have hkr7 := WK_kr hW7
      refine q_goto (tgt := 240) d_Nodes_when_171 (by decide) ?_
      refine q_aload_n d_Nodes_when_240 rfl ?_
      refine q_getR d_Nodes_when_241 fl_Nodes_3 hW7.nd.1 ⟨rfl, by decide⟩ hW7.nd.2.2 ?_
      refine q_getR d_Nodes_when_244 fl_Nodes_83 hW7.pt ⟨rfl, by decide⟩ hW7.po ?_
      refine q_aload_n d_Nodes_when_247 rfl ?_
      refine q_getR d_Nodes_when_248 fl_Nodes_3 hW7.nd.1 ⟨rfl, by decide⟩ hW7.nd.2.2 ?_
      refine q_getR d_Nodes_when_251 fl_Nodes_83 hW7.pt ⟨rfl, by decide⟩ hW7.po ?_
      refine j_getI (v := (cI (tk (tkP t N) a6))) d_Nodes_when_254 fl_Nodes_100 hW7.tks.1 ⟨rfl, by decide⟩ (WK_kd hW7) ?_
      refine j_bipush d_Nodes_when_257 (by decide) ?_
      refine j_icmp_ne (tgt := 267) d_Nodes_when_259 (by decide) (by omega) (by omega) (fun hx => by exfalso; omega) (fun hx => ?_)
      refine j_bipush d_Nodes_when_262 (by decide) ?_
      refine q_goto (tgt := 269) d_Nodes_when_264 (by decide) ?_
      refine q_tk (as := [.int (cI 102)]) (st := []) hW7 d_Nodes_when_269 ml_Nodes_105 ok_Tokens_want rfl rfl (c_Tokens_wantT (d := d - 1) (due := 102) (by omega) hW7.tks hW7.pt hW7.1.1.1.2.1 hW7.1.1.1.2.2.2.1 hW7.1.1.2.1 hW7.1.2.1 (by omega)) rfl rfl (by omega) (Nat.le_of_ble_eq_true rfl) hE (fun e hr => hR6.er (c := 0) (by rw [it9, if_pos h2, hr]; rfl)) (fun a8 I8 L8 hr8 hW8 => ?_)
      have hkr8 := WK_kr hW8
      have hR8 := hR6.ok (c := 0) (a' := a8) (row' := row5.set 5 (tx (tkP t N) a6)) (rs' := []) (nums' := []) (by rw [it9, if_pos h2, hr8]; rfl) rfl
      rw [List.append_nil, List.append_nil] at hR8
      exact t272 _ _ _ _ _ _ _ _ hW8 hR8
    by_cases h3 : tk (tkP t N) a6 = 100
    rotate_left
    · refine q_aload_n d_Nodes_when_140 rfl ?_
      refine q_getR d_Nodes_when_141 fl_Nodes_3 hW6.nd.1 ⟨rfl, by decide⟩ hW6.nd.2.2 ?_
      refine q_getR d_Nodes_when_144 fl_Nodes_83 hW6.pt ⟨rfl, by decide⟩ hW6.po ?_
      refine j_getI (v := (cI (tk (tkP t N) a6))) d_Nodes_when_147 fl_Nodes_100 hW6.tks.1 ⟨rfl, by decide⟩ (WK_kd hW6) ?_
      refine j_bipush d_Nodes_when_150 (by decide) ?_
      refine j_icmp_ne (tgt := 174) d_Nodes_when_152 (by decide) (by omega) (by omega) (fun hx => ?_) (fun hx => by exfalso; omega)
      refine q_aload_n d_Nodes_when_174 rfl ?_
      refine q_getR d_Nodes_when_175 fl_Nodes_3 hW6.nd.1 ⟨rfl, by decide⟩ hW6.nd.2.2 ?_
      refine q_getR d_Nodes_when_178 fl_Nodes_83 hW6.pt ⟨rfl, by decide⟩ hW6.po ?_
      refine j_getI (v := (cI (tk (tkP t N) a6))) d_Nodes_when_181 fl_Nodes_100 hW6.tks.1 ⟨rfl, by decide⟩ (WK_kd hW6) ?_
      refine j_bipush d_Nodes_when_184 (by decide) ?_
      refine j_icmp_ne (tgt := 240) d_Nodes_when_186 (by decide) (by omega) (by omega) (fun hx => ?_) (fun hx => by exfalso; omega)
      refine q_aload_n d_Nodes_when_240 rfl ?_
      refine q_getR d_Nodes_when_241 fl_Nodes_3 hW6.nd.1 ⟨rfl, by decide⟩ hW6.nd.2.2 ?_
      refine q_getR d_Nodes_when_244 fl_Nodes_83 hW6.pt ⟨rfl, by decide⟩ hW6.po ?_
      refine q_aload_n d_Nodes_when_247 rfl ?_
      refine q_getR d_Nodes_when_248 fl_Nodes_3 hW6.nd.1 ⟨rfl, by decide⟩ hW6.nd.2.2 ?_
      refine q_getR d_Nodes_when_251 fl_Nodes_83 hW6.pt ⟨rfl, by decide⟩ hW6.po ?_
      refine j_getI (v := (cI (tk (tkP t N) a6))) d_Nodes_when_254 fl_Nodes_100 hW6.tks.1 ⟨rfl, by decide⟩ (WK_kd hW6) ?_
      refine j_bipush d_Nodes_when_257 (by decide) ?_
      refine j_icmp_ne (tgt := 267) d_Nodes_when_259 (by decide) (by omega) (by omega) (fun hx => ?_) (fun hx => by exfalso; omega)
      refine j_bipush d_Nodes_when_267 (by decide) ?_
      refine q_tk (as := [.int (cI 100)]) (st := []) hW6 d_Nodes_when_269 ml_Nodes_105 ok_Tokens_want rfl rfl (c_Tokens_wantT (d := d - 1) (due := 100) (by omega) hW6.tks hW6.pt hW6.1.1.1.2.1 hW6.1.1.1.2.2.2.1 hW6.1.1.2.1 hW6.1.2.1 (by omega)) rfl rfl (by omega) (Nat.le_of_ble_eq_true rfl) hE (fun e hr => hR6.er (c := 0) (by rw [it9, if_neg h2, if_neg (fun q => h3 q.1), if_neg h3, hr]; rfl)) (fun a7 I7 L7 hr7 hW7 => ?_)
      have hkr7 := WK_kr hW7
      exact absurd (wn_k hr7) h3
    refine q_aload_n d_Nodes_when_140 rfl ?_
    refine q_getR d_Nodes_when_141 fl_Nodes_3 hW6.nd.1 ⟨rfl, by decide⟩ hW6.nd.2.2 ?_
    refine q_getR d_Nodes_when_144 fl_Nodes_83 hW6.pt ⟨rfl, by decide⟩ hW6.po ?_
    refine j_getI (v := (cI (tk (tkP t N) a6))) d_Nodes_when_147 fl_Nodes_100 hW6.tks.1 ⟨rfl, by decide⟩ (WK_kd hW6) ?_
    refine j_bipush d_Nodes_when_150 (by decide) ?_
    refine j_icmp_ne (tgt := 174) d_Nodes_when_152 (by decide) (by omega) (by omega) (fun hx => ?_) (fun hx => by exfalso; omega)
    refine q_aload_n d_Nodes_when_174 rfl ?_
    refine q_getR d_Nodes_when_175 fl_Nodes_3 hW6.nd.1 ⟨rfl, by decide⟩ hW6.nd.2.2 ?_
    refine q_getR d_Nodes_when_178 fl_Nodes_83 hW6.pt ⟨rfl, by decide⟩ hW6.po ?_
    refine j_getI (v := (cI (tk (tkP t N) a6))) d_Nodes_when_181 fl_Nodes_100 hW6.tks.1 ⟨rfl, by decide⟩ (WK_kd hW6) ?_
    refine j_bipush d_Nodes_when_184 (by decide) ?_
    refine j_icmp_ne (tgt := 240) d_Nodes_when_186 (by decide) (by omega) (by omega) (fun hx => by exfalso; omega) (fun hx => ?_)
    refine q_aload_n d_Nodes_when_189 rfl ?_
    refine q_getR d_Nodes_when_190 fl_Nodes_3 hW6.nd.1 ⟨rfl, by decide⟩ hW6.nd.2.2 ?_
    refine q_getR d_Nodes_when_193 fl_Nodes_83 hW6.pt ⟨rfl, by decide⟩ hW6.po ?_
    refine q_getR d_Nodes_when_196 fl_Nodes_142 hW6.tks.1 ⟨rfl, by decide⟩ hW6.tks.2.2.2.2.1 ?_
    refine q_callV (ci := 0) (rc := (rmC (max sz (m + ns5.length)) (m + tot.1))) (rs := (rmS (max sz (m + ns5.length)) (m + tot.1))) (rest := []) d_Nodes_when_199 ml_Nodes_146 ok_Big_time rfl hW6.tks.2.2.2.2.2.1.1 (by decide) (c_Big_time (d - 1) hW6.tks.2.2.2.2.2.1 (WK_bg hW6 h3)) rfl rfl (by omega) (Nat.le_of_ble_eq_true rfl) (kp_L ?_) kt_L
    obtain ⟨tm, htm⟩ : ∃ tm, tm = (if 0 ≤ tv (tkP t N) a6 ∧ tv (tkP t N) a6 ≤ 1000000000000000 then tv (tkP t N) a6 else -1) := ⟨_, rfl⟩
    rw [← htm]
    have htm2 : -1 ≤ tm ∧ tm ≤ 1000000000000000 := by rw [htm]; split <;> omega
    refine j_ldc2 (z := (-1)) d_Nodes_when_202 (inT5 97 rfl) (by decide) ?_
    refine j_lcmp_ne (tgt := 220) d_Nodes_when_205 d_Nodes_when_206 (by decide) (by omega) (by omega) (fun h5 => ?_) (fun h5 => ?_)
    rotate_left
    · skip
      refine q_aload_n d_Nodes_when_209 rfl ?_
      refine q_getR d_Nodes_when_210 fl_Nodes_3 hW6.nd.1 ⟨rfl, by decide⟩ hW6.nd.2.2 ?_
      refine q_getR d_Nodes_when_213 fl_Nodes_83 hW6.pt ⟨rfl, by decide⟩ hW6.po ?_
      refine j_iconst d_Nodes_when_216 ?_
      have h6 : ¬ (0 ≤ tv (tkP t N) a6 ∧ tv (tkP t N) a6 ≤ 1000000000000000) := fun q => by rw [if_pos q] at htm; omega
      refine q_callV (ci := 5) (rc := (rmC (max sz (m + ns5.length)) (m + tot.1))) (rs := (rmS (max sz (m + ns5.length)) (m + tot.1))) (rest := []) d_Nodes_when_217 ml_Nodes_87 ok_Tokens_fail rfl hW6.tks.1 (by decide) (c_Tokens_fail (d - 1) (by omega) hW6.tks hW6.fb) rfl rfl (by omega) (Nat.le_of_ble_eq_true rfl) (fun v I' L' R' T' h => by cases h.1) (fun x I' L' R' T' h => ?_)
      obtain ⟨h0, f3, h4, e1, e2, e3⟩ := badQ_fx h
      subst L' R' T'
      cases h0
      exact thr_bad rfl hW6.bad (hE.use hW6 (e := (5, tb (tkP t N) a6)) (hR6.er (c := 0) (by rw [it9, if_neg h2, if_pos ⟨h3, h6⟩])) f3 Fx.rf h4)
    have h6 : 0 ≤ tv (tkP t N) a6 ∧ tv (tkP t N) a6 ≤ 1000000000000000 := Decidable.not_not.mp (fun q => by rw [if_neg q] at htm; omega)
    have it9' : ∀ n1 m1, it 9 0 row5 n1 m1 a6 = adC 1 (bdC (lfC (wn (tkP t N) 100 a6)) fun a' => okC (a', row5.set 8 m1, [], [tv (tkP t N) a6])) := by
      intro n1 m1; rw [it9, if_neg h2, if_neg (fun q => q.2 h6), if_pos h3]
    have g6 : ns5.length + 1 ≤ tot.1 := by
      have := hR6.ge
      rw [it9'] at this
      exact Nat.le_trans (Nat.add_le_add_left (Nat.le_add_right _ _) _) this
    refine q_aload_n d_Nodes_when_220 rfl ?_
    refine q_getR d_Nodes_when_221 fl_Nodes_31 hW6.nd.1 ⟨rfl, by decide⟩ (nR5 hW6.nd) ?_
    refine q_iload_n d_Nodes_when_224 rfl ?_
    refine q_aload_n d_Nodes_when_225 rfl ?_
    refine q_aload_n d_Nodes_when_226 rfl ?_
    refine q_getR d_Nodes_when_227 fl_Nodes_3 hW6.nd.1 ⟨rfl, by decide⟩ hW6.nd.2.2 ?_
    refine q_getR d_Nodes_when_230 fl_Nodes_83 hW6.pt ⟨rfl, by decide⟩ hW6.po ?_
    refine q_getR d_Nodes_when_233 fl_Nodes_142 hW6.tks.1 ⟨rfl, by decide⟩ hW6.tks.2.2.2.2.1 ?_
    refine q_num hW6 h3 d_Nodes_when_236 ml_Nodes_151 (by omega) hB g6 (Nat.le_of_ble_eq_true rfl) (fun ns7 I7 L7 R7 T7 hn7 hW7 => ?_)
    have hkr7 := WK_kr hW7
    refine j_iast (j := i) d_Nodes_when_239 (nT5 hW7.nd) (nN5 hW7.nd) (by omega) (by omega) (by omega) ?_
    have hW8 := hW7.stI (s := 8) (c := 6) (v := ((m + ns5.length : Nat) : Int)) (by omega)
    generalize hI8 : (up2 I7 (D + 6) i (cI (((m + ns5.length : Nat) : Int)))) = I8 at hW8 ⊢
    have hkr8 := WK_kr hW8
    refine q_aload_n d_Nodes_when_240 rfl ?_
    refine q_getR d_Nodes_when_241 fl_Nodes_3 hW8.nd.1 ⟨rfl, by decide⟩ hW8.nd.2.2 ?_
    refine q_getR d_Nodes_when_244 fl_Nodes_83 hW8.pt ⟨rfl, by decide⟩ hW8.po ?_
    refine q_aload_n d_Nodes_when_247 rfl ?_
    refine q_getR d_Nodes_when_248 fl_Nodes_3 hW8.nd.1 ⟨rfl, by decide⟩ hW8.nd.2.2 ?_
    refine q_getR d_Nodes_when_251 fl_Nodes_83 hW8.pt ⟨rfl, by decide⟩ hW8.po ?_
    refine j_getI (v := (cI (tk (tkP t N) a6))) d_Nodes_when_254 fl_Nodes_100 hW8.tks.1 ⟨rfl, by decide⟩ (WK_kd hW8) ?_
    refine j_bipush d_Nodes_when_257 (by decide) ?_
    refine j_icmp_ne (tgt := 267) d_Nodes_when_259 (by decide) (by omega) (by omega) (fun hx => ?_) (fun hx => by exfalso; omega)
    refine j_bipush d_Nodes_when_267 (by decide) ?_
    refine q_tk (as := [.int (cI 100)]) (st := []) hW8 d_Nodes_when_269 ml_Nodes_105 ok_Tokens_want rfl rfl (c_Tokens_wantT (d := d - 1) (due := 100) (by omega) hW8.tks hW8.pt hW8.1.1.1.2.1 hW8.1.1.1.2.2.2.1 hW8.1.1.2.1 hW8.1.2.1 (by omega)) rfl rfl (by omega) (Nat.le_of_ble_eq_true rfl) hE (fun e hr => by rw [hn7, List.length_append]; exact hR6.er (c := 1) (by rw [it9', hr]; rfl)) (fun a9 I9 L9 hr9 hW9 => ?_)
    have hkr9 := WK_kr hW9
    have hR9 := hR6.ok (c := 1) (a' := a9) (row' := row5.set 8 ((m + ns5.length : Nat) : Int)) (rs' := []) (nums' := [tv (tkP t N) a6]) (by rw [it9', hr9]; rfl) rfl
    rw [List.append_nil, ← hn7] at hR9
    exact t272 _ _ _ _ _ _ _ _ hW9 hR9
  have loop : ∀ (k cnt : Nat) (l : Option Nat) (zl : Int) (a5 : Nat) (row5 : Row) (rs5 : List Row) (ns5 : List Int) (I5 : M32) (L5 : M64) (R5 : MR) (T5 : SH), k + cnt = 9 ∧ cnt ≤ 8 → WK P w o D N Z g t i n m sz V I L R T a5 row5 rs5 ns5 I5 L5 R5 T5 → lsW l n row5 rs5 zl → CsR tot (tkP t N) g (psC (tkP t N) g F f) dep n m (whH (tkP t N) it n m) k cnt l row5 rs5 ns5 a5 → Run m_Nodes_when d (rmC (max sz (m + ns5.length)) (m + tot.1)) (rmS (max sz (m + ns5.length)) (m + tot.1)) 17 [(0, .ref D), (1, .int (cI (i : Int))), (2, .int (cI (dep : Int))), (3, .int (cI zl)), (4, .int (cI (cnt : Int)))] [] I5 L5 R5 T5 Q := by
    intro k
    induction k with
    | zero =>
      intro cnt l zl a5 row5 rs5 ns5 I5 L5 R5 T5 hkc hW5 hl5 hK5
      omega
    | succ k ih =>
      intro cnt l zl a5 row5 rs5 ns5 I5 L5 R5 T5 hkc hW5 hl5 hK5
      have hkr5 := WK_kr hW5
      have hCS := hW5.1
      have hns5 := hCS.2.2.2
      have hzl : -1 ≤ zl ∧ zl ≤ 5000 := by
        rcases hl5 with ⟨-, h, -⟩ | ⟨j, -, hj, h, -⟩ <;> omega
      refine q_aload_n d_Nodes_when_17 rfl ?_
      refine q_getR d_Nodes_when_18 fl_Nodes_3 hW5.nd.1 ⟨rfl, by decide⟩ hW5.nd.2.2 ?_
      refine q_getR d_Nodes_when_21 fl_Nodes_83 hW5.pt ⟨rfl, by decide⟩ hW5.po ?_
      refine j_getI (v := (cI (tk (tkP t N) a5))) d_Nodes_when_24 fl_Nodes_100 hW5.tks.1 ⟨rfl, by decide⟩ (WK_kd hW5) ?_
      refine j_bipush d_Nodes_when_27 (by decide) ?_
      refine j_icmp_ne (tgt := 128) d_Nodes_when_29 (by decide) (by omega) (by omega) (fun h6 => ?_) (fun h6 => ?_)
      · skip
        refine Run.lv (lv' := [(0, .ref D), (1, .int (cI (i : Int))), (2, .int (cI (dep : Int)))]) (by intro q hq; simp only [List.mem_cons, List.not_mem_nil, or_false] at hq ⊢; rcases hq with rfl | rfl | rfl <;> simp) ?_
        exact fin _ _ _ _ _ _ _ _ hW5 (hK5.end h6 hl5 hW5.2.1.2)
      refine q_aload_n d_Nodes_when_32 rfl ?_
      refine j_bipush d_Nodes_when_33 (by decide) ?_
      refine q_iload_n d_Nodes_when_35 rfl ?_
      refine j_iconst d_Nodes_when_36 ?_
      refine j_iadd d_Nodes_when_37 ?_
      refine q_callV (ci := 6) (rc := (rmC (max sz (m + ns5.length)) (m + tot.1))) (rs := (rmS (max sz (m + ns5.length)) (m + tot.1))) (rest := []) d_Nodes_when_38 ml_Nodes_111 ok_Nodes_node rfl hW5.nd.1 (by decide) (c_Nodes_node (d - 1) (n := n + rs5.length) (g := g) (dep := (dep : Int) + 1) (kd := 6) (by omega) hCS.1.1 hW5.fb hCS.2.2.1 hCS.1.2.2.1 hns5.1 (by omega) (by omega) (by omega)) rfl rfl (by omega) (Nat.le_of_ble_eq_true rfl) (fun v I6 L6 R6 T6 h => ?_) (fun y I6 L6 R6 T6 h => ?_)
      rotate_left
      · rcases h with ⟨h1, h⟩ | ⟨h1, h, _⟩
        · obtain ⟨h3, f3, h4, e1, e2, e3⟩ := badQ_fx h
          subst L6 R6 T6
          cases h3
          exact thr_bad rfl hW5.bad (hE.use hW5 (e := (7, tb (tkP t N) a5)) (hK5.er (casC_7 h6 (by omega))) f3 Fx.rf h4)
        · cases h
      rcases h with ⟨h1, h⟩ | ⟨hnn, h3, h4, h5, f3, f4, e1, e2⟩
      · cases h.1
      subst R6 T6
      cases h3
      have hnn : ¬ (100 < dep + 1 ∨ n + rs5.length - g = 1000) := by omega
      obtain ⟨hC6, hF6⟩ := hCS.nd h5 f3 f4 (by omega)
      have hWc : WK P w o D N Z g t (n + rs5.length) (n + rs5.length + 1) (m + ns5.length) (max sz (m + ns5.length)) (extV V m ns5) I5 L5 R5 T5 a5 (caR (dep + 1)) [] [] I6 L6 R5 T5 := WK.start hC6 h4 rfl hF6
      obtain ⟨totc, htc⟩ : ∃ totc, totc = bdC (casC (tkP t N) g (psC (tkP t N) g F f) dep (k + 1) cnt (n + rs5.length) (m + ns5.length) a5) (csH n (whH (tkP t N) it n m) l row5 rs5 ns5) := ⟨_, rfl⟩
      have htt : tot = adC ns5.length totc := by rw [htc]; exact hK5
      have hEc : EQ9 P w o D Z g (n + rs5.length) (m + ns5.length) (max sz (m + ns5.length)) (extV V m ns5) totc I5 L5 R5 T5 Q := hE.sub hW5 (by omega) (fun e he => by rw [htt]; show (_, _) = (_, _); rw [he])
      have hmt : m + tot.1 = m + ns5.length + totc.1 := by rw [htt, Nat.add_assoc]
      have hrm : max (max sz (m + ns5.length)) (m + ns5.length + ([] : List Int).length) = max sz (m + ns5.length) := by show max _ (m + ns5.length + 0) = _; omega
      refine q_istore (lv' := [(5, .int (cI (((n + rs5.length : Nat) : Int)))), (0, .ref D), (1, .int (cI (i : Int))), (2, .int (cI (dep : Int))), (3, .int (cI zl)), (4, .int (cI (cnt : Int)))]) d_Nodes_when_41 (by decide) rfl ?_
      refine q_iload d_Nodes_when_43 rfl ?_
      refine j_bipush d_Nodes_when_45 (by decide) ?_
      refine j_icmp_ne (tgt := 62) d_Nodes_when_47 (by decide) (by omega) (by omega) (fun h8 => ?_) (fun h8 => ?_)
      rotate_left
      · skip
        refine q_aload_n d_Nodes_when_50 rfl ?_
        refine q_getR d_Nodes_when_51 fl_Nodes_3 hWc.nd.1 ⟨rfl, by decide⟩ hWc.nd.2.2 ?_
        refine q_getR d_Nodes_when_54 fl_Nodes_83 hWc.pt ⟨rfl, by decide⟩ hWc.po ?_
        refine j_bipush d_Nodes_when_57 (by decide) ?_
        refine q_callV (ci := 5) (rc := (rmC (max sz (m + ns5.length)) (m + tot.1))) (rs := (rmS (max sz (m + ns5.length)) (m + tot.1))) (rest := []) d_Nodes_when_59 ml_Nodes_87 ok_Tokens_fail rfl hWc.tks.1 (by decide) (c_Tokens_fail (d - 1) (by omega) hWc.tks hWc.fb) rfl rfl (by omega) (Nat.le_of_ble_eq_true rfl) (fun v I' L' R' T' h => by cases h.1) (fun x I' L' R' T' h => ?_)
        obtain ⟨h0, f3, h4, e1, e2, e3⟩ := badQ_fx h
        subst L' R' T'
        cases h0
        exact thr_bad rfl hWc.bad (hEc.use hWc (e := (8, tb (tkP t N) a5)) (by rw [htc, casC_8 h6 hnn (by omega)]; rfl) f3 Fx.rf h4)
      refine j_iinc (lv' := [(4, .int (cI ((cnt : Int) + 1))), (5, .int (cI (((n + rs5.length : Nat) : Int)))), (0, .ref D), (1, .int (cI (i : Int))), (2, .int (cI (dep : Int))), (3, .int (cI zl))]) d_Nodes_when_62 rfl (by decide) rfl ?_
      rw [hmt]
      have hce := csC_s (α := Nat × Row × List Row × List Int) (k := k) (P := psC (tkP t N) g F f) (m := m + ns5.length) (K := csH n (whH (tkP t N) it n m) l row5 rs5 ns5) h6 hnn (show ¬ cnt = 8 by omega)
      rw [← htc] at hce
      rw [show (cnt : Int) + 1 = ((cnt + 1 : Nat) : Int) by omega]
      rw [← hrm]
      refine Run.lv (lv' := [(0, .ref D), (1, .int (cI (i : Int))), (2, .int (cI (dep : Int))), (3, .int (cI zl)), (4, .int (cI (((cnt + 1 : Nat) : Int)))), (5, .int (cI (((n + rs5.length : Nat) : Int))))]) (by intro q hq; simp only [List.mem_cons, List.not_mem_nil, or_false] at hq ⊢; rcases hq with rfl | rfl | rfl | rfl | rfl | rfl <;> simp) ?_
      refine when_case (a0 := 0) (dep := dep + 1) (dw := dep) (i := i) (zl := zl) (cnt := cnt + 1) ihV ihO ihC hd (by omega) (by omega) rfl hWc hce (by rw [← hmt]; exact hB) hEc ?_
      intro a7 crow crs cns I7 L7 R7 T7 hW7 hc4 ht7
      have hWn := hW5.case hW7
      have hK7 := CsR.go htt ht7
      have hrn : max (max sz (m + ns5.length)) (m + ns5.length + cns.length) = max sz (m + (ns5 ++ cns).length) := by rw [List.length_append]; omega
      rw [hrn, ← hmt]
      refine q_iload_n d_Nodes_when_98 rfl ?_
      refine j_iconst d_Nodes_when_99 ?_
      rcases hl5 with ⟨l1, l2, l3, l4⟩ | ⟨j, l1, l2, l3, l4, l5⟩
      · refine j_icmp_ne (tgt := 114) d_Nodes_when_100 (by decide) (by omega) (by omega) (fun hx => by exfalso; omega) (fun hx => ?_)
        refine q_aload_n d_Nodes_when_103 rfl ?_
        refine q_getR d_Nodes_when_104 fl_Nodes_19 hWn.nd.1 ⟨rfl, by decide⟩ (nR1 hWn.nd) ?_
        refine q_iload_n d_Nodes_when_107 rfl ?_
        refine q_iload d_Nodes_when_108 rfl ?_
        refine j_iast (j := i) d_Nodes_when_110 (nT1 hWn.nd) (nN1 hWn.nd) (by omega) (by omega) (by omega) ?_
        refine q_goto (tgt := 122) d_Nodes_when_111 (by decide) ?_
        refine q_iload d_Nodes_when_122 rfl ?_
        refine q_istore_n (lv' := [(3, .int (cI (((n + rs5.length : Nat) : Int)))), (0, .ref D), (1, .int (cI (i : Int))), (2, .int (cI (dep : Int))), (4, .int (cI (((cnt + 1 : Nat) : Int)))), (5, .int (cI (((n + rs5.length : Nat) : Int))))]) d_Nodes_when_124 (by decide) rfl ?_
        refine q_goto (tgt := 17) d_Nodes_when_125 (by decide) ?_
        have hW8 := hWn.stI (s := 1) (c := 2) (v := ((n + rs5.length : Nat) : Int)) (by omega)
        subst l1
        have hat : (rs5 ++ crow :: crs).getD rs5.length [] = crow := plW_at (l := none) (v := 0)
        have := ih (cnt + 1) (some rs5.length) ((n + rs5.length : Nat) : Int) a7 _ _ _ _ _ _ _ (by omega) hW8 (Or.inr ⟨rs5.length, rfl, by rw [List.length_append, List.length_cons]; omega, rfl, by rw [hat]; exact hW7.2.1.2, by rw [hat]; exact hc4⟩) hK7
        refine Run.lv (lv' := [(0, .ref D), (1, .int (cI (i : Int))), (2, .int (cI (dep : Int))), (3, .int (cI (((n + rs5.length : Nat) : Int)))), (4, .int (cI (((cnt + 1 : Nat) : Int))))]) (by intro q hq; simp only [List.mem_cons, List.not_mem_nil, or_false] at hq ⊢; rcases hq with rfl | rfl | rfl | rfl | rfl <;> simp) ?_
        exact this
      · skip
        refine j_icmp_ne (tgt := 114) d_Nodes_when_100 (by decide) (by omega) (by omega) (fun hx => ?_) (fun hx => by exfalso; omega)
        refine q_aload_n d_Nodes_when_114 rfl ?_
        refine q_getR d_Nodes_when_115 fl_Nodes_28 hWn.nd.1 ⟨rfl, by decide⟩ (nR4 hWn.nd) ?_
        refine q_iload_n d_Nodes_when_118 rfl ?_
        refine q_iload d_Nodes_when_119 rfl ?_
        refine j_iast (j := (n + j)) d_Nodes_when_121 (nT4 hWn.nd) (nN4 hWn.nd) (by omega) (by omega) (by omega) ?_
        refine q_iload d_Nodes_when_122 rfl ?_
        refine q_istore_n (lv' := [(3, .int (cI (((n + rs5.length : Nat) : Int)))), (0, .ref D), (1, .int (cI (i : Int))), (2, .int (cI (dep : Int))), (4, .int (cI (((cnt + 1 : Nat) : Int)))), (5, .int (cI (((n + rs5.length : Nat) : Int))))]) d_Nodes_when_124 (by decide) rfl ?_
        refine q_goto (tgt := 17) d_Nodes_when_125 (by decide) ?_
        have hj : (rs5 ++ crow :: crs).getD j [] = rs5.getD j [] := gapp_l _ _ _ l2
        have hW8 := hWn.nxt (j := j) (v := ((n + rs5.length : Nat) : Int)) (by rw [List.length_append]; omega) (by rw [hj]; exact l4)
        have hpl : (rs5 ++ crow :: crs).set j (((rs5 ++ crow :: crs).getD j []).set 4 ((n + rs5.length : Nat) : Int)) = plW (some j) rs5 ((n + rs5.length : Nat) : Int) ++ (crow :: crs) := by rw [hj, List.set_append_left _ _ l2]; rfl
        rw [hpl] at hW8
        subst l1
        have := ih (cnt + 1) (some rs5.length) ((n + rs5.length : Nat) : Int) a7 _ _ _ _ _ _ _ (by omega) hW8 (Or.inr ⟨rs5.length, rfl, by rw [List.length_append, plW_len, List.length_cons]; omega, rfl, by rw [plW_at]; exact hW7.2.1.2, by rw [plW_at]; exact hc4⟩) hK7
        refine Run.lv (lv' := [(0, .ref D), (1, .int (cI (i : Int))), (2, .int (cI (dep : Int))), (3, .int (cI (((n + rs5.length : Nat) : Int)))), (4, .int (cI (((cnt + 1 : Nat) : Int))))]) (by intro q hq; simp only [List.mem_cons, List.not_mem_nil, or_false] at hq ⊢; rcases hq with rfl | rfl | rfl | rfl | rfl <;> simp) ?_
        exact this
  have hkr3 := WK_kr hW3
  refine q_aload_n d_Nodes_when_0 rfl ?_
  refine q_getR d_Nodes_when_1 fl_Nodes_3 hW3.nd.1 ⟨rfl, by decide⟩ hW3.nd.2.2 ?_
  refine q_getR d_Nodes_when_4 fl_Nodes_83 hW3.pt ⟨rfl, by decide⟩ hW3.po ?_
  refine j_bipush d_Nodes_when_7 (by decide) ?_
  refine q_tk (as := [.int (cI 105)]) (st := []) hW3 d_Nodes_when_9 ml_Nodes_105 ok_Tokens_want rfl rfl (c_Tokens_wantT (d := d - 1) (due := 105) (by omega) hW3.tks hW3.pt hW3.1.1.1.2.1 hW3.1.1.1.2.2.2.1 hW3.1.1.2.1 hW3.1.2.1 (by omega)) rfl rfl (by omega) (Nat.le_of_ble_eq_true rfl) hE (fun e hr => hR3.er (c := 0) (by rw [hit]; show bdC (lfC (wn (tkP t N) 105 a)) _ = _; rw [hr]; rfl)) (fun a4 I4 L4 hr4 hW4 => ?_)
  have hkr4 := WK_kr hW4
  have hR4 := hR3.ok (c := 0) (a' := a4) (row' := row) (rs' := []) (nums' := []) (by rw [hit]; show bdC (lfC (wn (tkP t N) 105 a)) _ = _; rw [hr4]; rfl) rfl
  rw [List.append_nil, List.append_nil] at hR4
  have hK4 : CsR tot (tkP t N) g (psC (tkP t N) g F f) dep n m (whH (tkP t N) it n m) 9 0 none row [] [] a4 := by
    unfold RsC at hR4
    unfold CsR
    rw [hR4, bdC_id]
    congr 1
    show bdC (it 8 0 row n m a4) (fun q => bdC (itsC it [(9, 0), (1, 2)] q.2.1 (n + q.2.2.1.length) (m + q.2.2.2.length) q.1) fun r => okC (r.1, r.2.1, q.2.2.1 ++ r.2.2.1, q.2.2.2 ++ r.2.2.2)) = _
    have e8 : it 8 0 row n m a4 = bdC (casC (tkP t N) g (psC (tkP t N) g F f) dep 9 0 n m a4) fun q => bdC (lfC (wn (tkP t N) 106 q.1)) fun a' => okC (a', row.set 1 (if q.2.1 = [] then -1 else (n : Int)), q.2.1, q.2.2) := by rw [hit]; rfl
    rw [e8, bdC_bdC]
    show bdC (casC (tkP t N) g (psC (tkP t N) g F f) dep 9 0 n m a4) _ = bdC (casC (tkP t N) g (psC (tkP t N) g F f) dep 9 0 n m a4) _
    congr 1
    funext q
    rw [bdC_bdC]
    simp only [bdC_ok, adC_0]
    rfl
  refine j_iconst d_Nodes_when_12 ?_
  refine q_istore_n (lv' := [(3, .int (cI (-1))), (0, .ref D), (1, .int (cI (i : Int))), (2, .int (cI (dep : Int)))]) d_Nodes_when_13 (by decide) rfl ?_
  refine j_iconst d_Nodes_when_14 ?_
  refine q_istore (lv' := [(4, .int (cI 0)), (3, .int (cI (-1))), (0, .ref D), (1, .int (cI (i : Int))), (2, .int (cI (dep : Int)))]) d_Nodes_when_15 (by decide) rfl ?_
  refine Run.lv (lv' := [(0, .ref D), (1, .int (cI (i : Int))), (2, .int (cI (dep : Int))), (3, .int (cI (-1))), (4, .int (cI 0))]) (by intro q hq; simp only [List.mem_cons, List.not_mem_nil, or_false] at hq ⊢; rcases hq with rfl | rfl | rfl | rfl | rfl <;> simp) ?_
  exact loop 9 0 none (-1) _ _ _ _ _ _ _ _ (by omega) hW4 (Or.inl ⟨rfl, rfl, h1, rfl⟩) hK4

