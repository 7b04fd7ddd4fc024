/-! ===== 55 THE REFERENCE'S TOKENS: classify ===== -/
theorem d_Model_classify_0 : decode m_Model_classify.2.1 0 = .ok (.aload_n 0, 1) := by decide +kernel
theorem d_Model_classify_1 : decode m_Model_classify.2.1 1 = .ok (.getfield 23, 3) := by decide +kernel
theorem d_Model_classify_4 : decode m_Model_classify.2.1 4 = .ok (.aload_n 0, 1) := by decide +kernel
theorem d_Model_classify_5 : decode m_Model_classify.2.1 5 = .ok (.getfield 544, 3) := by decide +kernel
theorem d_Model_classify_8 : decode m_Model_classify.2.1 8 = .ok (.iaload, 1) := by decide +kernel
theorem d_Model_classify_9 : decode m_Model_classify.2.1 9 = .ok (.bipush 45, 2) := by decide +kernel
theorem d_Model_classify_11 : decode m_Model_classify.2.1 11 = .ok (.if_icmp .ne 12, 3) := by decide +kernel
theorem d_Model_classify_14 : decode m_Model_classify.2.1 14 = .ok (.aload_n 0, 1) := by decide +kernel
theorem d_Model_classify_15 : decode m_Model_classify.2.1 15 = .ok (.getfield 544, 3) := by decide +kernel
theorem d_Model_classify_18 : decode m_Model_classify.2.1 18 = .ok (.iconst 1, 1) := by decide +kernel
theorem d_Model_classify_19 : decode m_Model_classify.2.1 19 = .ok (.iadd, 1) := by decide +kernel
theorem d_Model_classify_20 : decode m_Model_classify.2.1 20 = .ok (.goto 7, 3) := by decide +kernel
theorem d_Model_classify_23 : decode m_Model_classify.2.1 23 = .ok (.aload_n 0, 1) := by decide +kernel
theorem d_Model_classify_24 : decode m_Model_classify.2.1 24 = .ok (.getfield 544, 3) := by decide +kernel
theorem d_Model_classify_27 : decode m_Model_classify.2.1 27 = .ok (.istore_n 1, 1) := by decide +kernel
theorem d_Model_classify_28 : decode m_Model_classify.2.1 28 = .ok (.iload_n 1, 1) := by decide +kernel
theorem d_Model_classify_29 : decode m_Model_classify.2.1 29 = .ok (.aload_n 0, 1) := by decide +kernel
theorem d_Model_classify_30 : decode m_Model_classify.2.1 30 = .ok (.getfield 547, 3) := by decide +kernel
theorem d_Model_classify_33 : decode m_Model_classify.2.1 33 = .ok (.if_icmp .ge 7, 3) := by decide +kernel
theorem d_Model_classify_36 : decode m_Model_classify.2.1 36 = .ok (.iconst 1, 1) := by decide +kernel
theorem d_Model_classify_37 : decode m_Model_classify.2.1 37 = .ok (.goto 4, 3) := by decide +kernel
theorem d_Model_classify_40 : decode m_Model_classify.2.1 40 = .ok (.iconst 0, 1) := by decide +kernel
theorem d_Model_classify_41 : decode m_Model_classify.2.1 41 = .ok (.istore_n 2, 1) := by decide +kernel
theorem d_Model_classify_42 : decode m_Model_classify.2.1 42 = .ok (.iload_n 1, 1) := by decide +kernel
theorem d_Model_classify_43 : decode m_Model_classify.2.1 43 = .ok (.istore_n 3, 1) := by decide +kernel
theorem d_Model_classify_44 : decode m_Model_classify.2.1 44 = .ok (.iload_n 3, 1) := by decide +kernel
theorem d_Model_classify_45 : decode m_Model_classify.2.1 45 = .ok (.aload_n 0, 1) := by decide +kernel
theorem d_Model_classify_46 : decode m_Model_classify.2.1 46 = .ok (.getfield 547, 3) := by decide +kernel
theorem d_Model_classify_49 : decode m_Model_classify.2.1 49 = .ok (.if_icmp .ge 38, 3) := by decide +kernel
theorem d_Model_classify_52 : decode m_Model_classify.2.1 52 = .ok (.iload_n 2, 1) := by decide +kernel
theorem d_Model_classify_53 : decode m_Model_classify.2.1 53 = .ok (.ifCond .eq 26, 3) := by decide +kernel
theorem d_Model_classify_56 : decode m_Model_classify.2.1 56 = .ok (.aload_n 0, 1) := by decide +kernel
theorem d_Model_classify_57 : decode m_Model_classify.2.1 57 = .ok (.getfield 23, 3) := by decide +kernel
theorem d_Model_classify_60 : decode m_Model_classify.2.1 60 = .ok (.iload_n 3, 1) := by decide +kernel
theorem d_Model_classify_61 : decode m_Model_classify.2.1 61 = .ok (.iaload, 1) := by decide +kernel
theorem d_Model_classify_62 : decode m_Model_classify.2.1 62 = .ok (.i2l, 1) := by decide +kernel
theorem d_Model_classify_63 : decode m_Model_classify.2.1 63 = .ok (.ldc2_w 540, 3) := by decide +kernel
theorem d_Model_classify_66 : decode m_Model_classify.2.1 66 = .ok (.ldc2_w 542, 3) := by decide +kernel
theorem d_Model_classify_69 : decode m_Model_classify.2.1 69 = .ok (.invokestatic 407, 3) := by decide +kernel
theorem d_Model_classify_72 : decode m_Model_classify.2.1 72 = .ok (.ifCond .eq 7, 3) := by decide +kernel
theorem d_Model_classify_75 : decode m_Model_classify.2.1 75 = .ok (.iconst 1, 1) := by decide +kernel
theorem d_Model_classify_76 : decode m_Model_classify.2.1 76 = .ok (.goto 4, 3) := by decide +kernel
theorem d_Model_classify_79 : decode m_Model_classify.2.1 79 = .ok (.iconst 0, 1) := by decide +kernel
theorem d_Model_classify_80 : decode m_Model_classify.2.1 80 = .ok (.istore_n 2, 1) := by decide +kernel
theorem d_Model_classify_81 : decode m_Model_classify.2.1 81 = .ok (.iinc 3 1, 3) := by decide +kernel
theorem d_Model_classify_84 : decode m_Model_classify.2.1 84 = .ok (.goto (-40), 3) := by decide +kernel
theorem d_Model_classify_87 : decode m_Model_classify.2.1 87 = .ok (.iload_n 2, 1) := by decide +kernel
theorem d_Model_classify_88 : decode m_Model_classify.2.1 88 = .ok (.ifCond .eq 53, 3) := by decide +kernel
theorem d_Model_classify_91 : decode m_Model_classify.2.1 91 = .ok (.iload_n 1, 1) := by decide +kernel
theorem d_Model_classify_92 : decode m_Model_classify.2.1 92 = .ok (.istore_n 3, 1) := by decide +kernel
theorem d_Model_classify_93 : decode m_Model_classify.2.1 93 = .ok (.iload_n 3, 1) := by decide +kernel
theorem d_Model_classify_94 : decode m_Model_classify.2.1 94 = .ok (.aload_n 0, 1) := by decide +kernel
theorem d_Model_classify_95 : decode m_Model_classify.2.1 95 = .ok (.getfield 547, 3) := by decide +kernel
theorem d_Model_classify_98 : decode m_Model_classify.2.1 98 = .ok (.if_icmp .ge 20, 3) := by decide +kernel
theorem d_Model_classify_101 : decode m_Model_classify.2.1 101 = .ok (.aload_n 0, 1) := by decide +kernel
theorem d_Model_classify_102 : decode m_Model_classify.2.1 102 = .ok (.getfield 23, 3) := by decide +kernel
theorem d_Model_classify_105 : decode m_Model_classify.2.1 105 = .ok (.iload_n 3, 1) := by decide +kernel
theorem d_Model_classify_106 : decode m_Model_classify.2.1 106 = .ok (.iaload, 1) := by decide +kernel
theorem d_Model_classify_107 : decode m_Model_classify.2.1 107 = .ok (.bipush 48, 2) := by decide +kernel
theorem d_Model_classify_109 : decode m_Model_classify.2.1 109 = .ok (.if_icmp .ne 9, 3) := by decide +kernel
theorem d_Model_classify_112 : decode m_Model_classify.2.1 112 = .ok (.iinc 3 1, 3) := by decide +kernel
theorem d_Model_classify_115 : decode m_Model_classify.2.1 115 = .ok (.goto (-22), 3) := by decide +kernel
theorem d_Model_classify_118 : decode m_Model_classify.2.1 118 = .ok (.aload_n 0, 1) := by decide +kernel
theorem d_Model_classify_119 : decode m_Model_classify.2.1 119 = .ok (.aload_n 0, 1) := by decide +kernel
theorem d_Model_classify_120 : decode m_Model_classify.2.1 120 = .ok (.getfield 547, 3) := by decide +kernel
theorem d_Model_classify_123 : decode m_Model_classify.2.1 123 = .ok (.iload_n 3, 1) := by decide +kernel
theorem d_Model_classify_124 : decode m_Model_classify.2.1 124 = .ok (.isub, 1) := by decide +kernel
theorem d_Model_classify_125 : decode m_Model_classify.2.1 125 = .ok (.sipush 300, 3) := by decide +kernel
theorem d_Model_classify_128 : decode m_Model_classify.2.1 128 = .ok (.if_icmp .le 8, 3) := by decide +kernel
theorem d_Model_classify_131 : decode m_Model_classify.2.1 131 = .ok (.bipush 10, 2) := by decide +kernel
theorem d_Model_classify_133 : decode m_Model_classify.2.1 133 = .ok (.goto 4, 3) := by decide +kernel
theorem d_Model_classify_136 : decode m_Model_classify.2.1 136 = .ok (.iconst 1, 1) := by decide +kernel
theorem d_Model_classify_137 : decode m_Model_classify.2.1 137 = .ok (.putfield 550, 3) := by decide +kernel
theorem d_Model_classify_140 : decode m_Model_classify.2.1 140 = .ok (.return_, 1) := by decide +kernel
theorem d_Model_classify_141 : decode m_Model_classify.2.1 141 = .ok (.aload_n 0, 1) := by decide +kernel
theorem d_Model_classify_142 : decode m_Model_classify.2.1 142 = .ok (.getfield 23, 3) := by decide +kernel
theorem d_Model_classify_145 : decode m_Model_classify.2.1 145 = .ok (.aload_n 0, 1) := by decide +kernel
theorem d_Model_classify_146 : decode m_Model_classify.2.1 146 = .ok (.getfield 544, 3) := by decide +kernel
theorem d_Model_classify_149 : decode m_Model_classify.2.1 149 = .ok (.iaload, 1) := by decide +kernel
theorem d_Model_classify_150 : decode m_Model_classify.2.1 150 = .ok (.bipush 63, 2) := by decide +kernel
theorem d_Model_classify_152 : decode m_Model_classify.2.1 152 = .ok (.if_icmp .ne 7, 3) := by decide +kernel
theorem d_Model_classify_155 : decode m_Model_classify.2.1 155 = .ok (.iconst 1, 1) := by decide +kernel
theorem d_Model_classify_156 : decode m_Model_classify.2.1 156 = .ok (.goto 4, 3) := by decide +kernel
theorem d_Model_classify_159 : decode m_Model_classify.2.1 159 = .ok (.iconst 0, 1) := by decide +kernel
theorem d_Model_classify_160 : decode m_Model_classify.2.1 160 = .ok (.istore_n 3, 1) := by decide +kernel
theorem d_Model_classify_161 : decode m_Model_classify.2.1 161 = .ok (.aload_n 0, 1) := by decide +kernel
theorem d_Model_classify_162 : decode m_Model_classify.2.1 162 = .ok (.aload_n 0, 1) := by decide +kernel
theorem d_Model_classify_163 : decode m_Model_classify.2.1 163 = .ok (.iload_n 3, 1) := by decide +kernel
theorem d_Model_classify_164 : decode m_Model_classify.2.1 164 = .ok (.ifCond .eq 12, 3) := by decide +kernel
theorem d_Model_classify_167 : decode m_Model_classify.2.1 167 = .ok (.aload_n 0, 1) := by decide +kernel
theorem d_Model_classify_168 : decode m_Model_classify.2.1 168 = .ok (.getfield 544, 3) := by decide +kernel
theorem d_Model_classify_171 : decode m_Model_classify.2.1 171 = .ok (.iconst 1, 1) := by decide +kernel
theorem d_Model_classify_172 : decode m_Model_classify.2.1 172 = .ok (.iadd, 1) := by decide +kernel
theorem d_Model_classify_173 : decode m_Model_classify.2.1 173 = .ok (.goto 7, 3) := by decide +kernel
theorem d_Model_classify_176 : decode m_Model_classify.2.1 176 = .ok (.aload_n 0, 1) := by decide +kernel
theorem d_Model_classify_177 : decode m_Model_classify.2.1 177 = .ok (.getfield 544, 3) := by decide +kernel
theorem d_Model_classify_180 : decode m_Model_classify.2.1 180 = .ok (.aload_n 0, 1) := by decide +kernel
theorem d_Model_classify_181 : decode m_Model_classify.2.1 181 = .ok (.getfield 547, 3) := by decide +kernel
theorem d_Model_classify_184 : decode m_Model_classify.2.1 184 = .ok (.invokevirtual 553, 3) := by decide +kernel
theorem d_Model_classify_187 : decode m_Model_classify.2.1 187 = .ok (.putfield 557, 3) := by decide +kernel
theorem d_Model_classify_190 : decode m_Model_classify.2.1 190 = .ok (.aload_n 0, 1) := by decide +kernel
theorem d_Model_classify_191 : decode m_Model_classify.2.1 191 = .ok (.getfield 557, 3) := by decide +kernel
theorem d_Model_classify_194 : decode m_Model_classify.2.1 194 = .ok (.invokestatic 532, 3) := by decide +kernel
theorem d_Model_classify_197 : decode m_Model_classify.2.1 197 = .ok (.istore 4, 2) := by decide +kernel
theorem d_Model_classify_199 : decode m_Model_classify.2.1 199 = .ok (.aload_n 0, 1) := by decide +kernel
theorem d_Model_classify_200 : decode m_Model_classify.2.1 200 = .ok (.aload_n 0, 1) := by decide +kernel
theorem d_Model_classify_201 : decode m_Model_classify.2.1 201 = .ok (.getfield 557, 3) := by decide +kernel
theorem d_Model_classify_204 : decode m_Model_classify.2.1 204 = .ok (.lconst 0, 1) := by decide +kernel
theorem d_Model_classify_205 : decode m_Model_classify.2.1 205 = .ok (.lcmp, 1) := by decide +kernel
theorem d_Model_classify_206 : decode m_Model_classify.2.1 206 = .ok (.ifCond .eq 12, 3) := by decide +kernel
theorem d_Model_classify_209 : decode m_Model_classify.2.1 209 = .ok (.iload_n 3, 1) := by decide +kernel
theorem d_Model_classify_210 : decode m_Model_classify.2.1 210 = .ok (.ifCond .eq 13, 3) := by decide +kernel
theorem d_Model_classify_213 : decode m_Model_classify.2.1 213 = .ok (.iload 4, 2) := by decide +kernel
theorem d_Model_classify_215 : decode m_Model_classify.2.1 215 = .ok (.ifCond .eq 8, 3) := by decide +kernel
theorem d_Model_classify_218 : decode m_Model_classify.2.1 218 = .ok (.bipush 9, 2) := by decide +kernel
theorem d_Model_classify_220 : decode m_Model_classify.2.1 220 = .ok (.goto 21, 3) := by decide +kernel
theorem d_Model_classify_223 : decode m_Model_classify.2.1 223 = .ok (.iload_n 3, 1) := by decide +kernel
theorem d_Model_classify_224 : decode m_Model_classify.2.1 224 = .ok (.ifCond .eq 7, 3) := by decide +kernel
theorem d_Model_classify_227 : decode m_Model_classify.2.1 227 = .ok (.iconst 4, 1) := by decide +kernel
theorem d_Model_classify_228 : decode m_Model_classify.2.1 228 = .ok (.goto 13, 3) := by decide +kernel
theorem d_Model_classify_231 : decode m_Model_classify.2.1 231 = .ok (.iload 4, 2) := by decide +kernel
theorem d_Model_classify_233 : decode m_Model_classify.2.1 233 = .ok (.ifCond .eq 7, 3) := by decide +kernel
theorem d_Model_classify_236 : decode m_Model_classify.2.1 236 = .ok (.iconst 2, 1) := by decide +kernel
theorem d_Model_classify_237 : decode m_Model_classify.2.1 237 = .ok (.goto 4, 3) := by decide +kernel
theorem d_Model_classify_240 : decode m_Model_classify.2.1 240 = .ok (.iconst 3, 1) := by decide +kernel
theorem d_Model_classify_241 : decode m_Model_classify.2.1 241 = .ok (.putfield 550, 3) := by decide +kernel
theorem d_Model_classify_244 : decode m_Model_classify.2.1 244 = .ok (.return_, 1) := by decide +kernel
/-- the reference's code of a token of the component's kind -/
def tkc (kind : Int) : Int := if kind = 107 then 0 else if kind = 100 then 1 else if kind = 101 then 3 else if kind = 102 then 4 else if kind = 103 then 5 else if kind = 104 then 6 else if kind = 105 then 7 else if kind = 106 then 8 else if kind = -1 then 9 else if kind = -2 then 10 else 2
theorem kwF_0 : kwF 0 = -1 := by decide +kernel
theorem nvF_pos {t : Nat → Nat} {g : Nat} (h : 0 < t g) : ∀ k, 0 < k → 0 < nvF t g k
  | 0, h => absurd h (Nat.lt_irrefl 0)
  | 1, _ => by show 0 < 0 * 256 + t (g + 0); simpa using h
  | k + 2, _ => by
    have := nvF_pos h (k + 1) (Nat.succ_pos k)
    show 0 < nvF t g (k + 1) * 256 + t (g + (k + 1))
    omega
/-- what the bytes from b to e are (they are a word): kind, name -/
def ClR (t : Nat → Nat) (b e : Nat) (kind : Int) (x : Nat) : Prop :=
  ((t b = 45 ∨ dgt (t b)) ∧ ∃ bad, RnR t (if t b = 45 then b + 1 else b) e bad ∧ kind = (if bad = 0 then 100 else -bad)) ∨
  (¬ (t b = 45 ∨ dgt (t b)) ∧ ((¬ NamR t (if t b = 63 then b + 1 else b) e ∧ kind = -1) ∨ (NamR t (if t b = 63 then b + 1 else b) e ∧ x = nvF t (if t b = 63 then b + 1 else b) (e - (if t b = 63 then b + 1 else b)) ∧ kind = (if t b = 63 then (if kwF x = -1 then 102 else -1) else if kwF x = -1 then 101 else kwF x))))
theorem c_Model_nameOfV (d : Nat) {M N e g x : Nat} {t : Nat → Nat} {I : M32} {L : M64} {R : MR} {T : SH} (hd : 1 ≤ d) (hM : MdlS M R T) (hV : TxM I M N t) (heN : e ≤ N) (hg : g ≤ e) (hx : (NamR t g e ∧ x = nvF t g (e - g)) ∨ (¬ NamR t g e ∧ x = 0)) :
    Call m_Model_nameOf y_Model_nameOf d 0 0 [.ref M, .int (cI g), .int (cI e)] I L R T (rL fun r I' L' R' T' => r = cL (x : Int) ∧ I' = I ∧ L' = L ∧ R' = R ∧ T' = T) :=
  (c_Model_nameOf d hd hM hV heN hg).mono fun _ _ _ _ _ ⟨r, h, ⟨h1, h2⟩, h3⟩ => ⟨r, h, by rcases hx with ⟨q, rfl⟩ | ⟨q, rfl⟩; exact h1 q; exact h2 q, h3⟩
theorem c_Model_classify (d : Nat) {M N b e : Nat} {t : Nat → Nat} {I : M32} {L : M64} {R : MR} {T : SH} (hd : 2 ≤ d) (hM : MdlS M R T) (hV : TxM I M N t) (hb : I M 14 = cI b) (he : I M 15 = cI e) (hbe : b < e) (heN : e ≤ N) :
    Call m_Model_classify y_Model_classify d 0 0 [.ref M] I L R T (rV fun I' L' R' T' => ∃ (kind : Int) (x : Nat), ClR t b e kind x ∧ I' = up2 I M 13 (cI (tkc kind)) ∧ (0 ≤ kind ∧ kind < 100 ∨ kind = 101 ∨ kind = 102 → L' M 16 = cL x) ∧ (∀ a k, ¬ (a = M ∧ k = 16) → L' a k = L a k) ∧ R' = R ∧ T' = T) := by
  refine Call.ofRun (by decide) ⟨rfl, rfl⟩ (Nat.le_of_ble_eq_true rfl) ?_
  refine Run.gen fun Q hQ => ?_
  have hN := hV.1
  have tb := (hV.2 b (by omega)).1
  obtain ⟨f, hf⟩ : ∃ f, f = if t b = 45 then b + 1 else b := ⟨_, rfl⟩
  have hfb : f = b ∨ f = b + 1 := by rw [hf]; split <;> omega
  refine q_aload_n d_Model_classify_0 rfl ?_
  refine q_getR d_Model_classify_1 fl_Model_23 hM.1 ⟨rfl, by decide⟩ (mR10 hM) ?_
  refine q_aload_n d_Model_classify_4 rfl ?_
  refine j_getI (v := (cI (b : Int))) d_Model_classify_5 fl_Model_544 hM.1 ⟨rfl, by decide⟩ hb ?_
  refine j_iald (j := b) (v := (cI (t b : Int))) d_Model_classify_8 (mT10 hM) (mN10 hM) (by omega) (by omega) (by omega) ((hV.2 b (by omega)).2) ?_
  refine j_bipush d_Model_classify_9 (by decide) ?_
  suffices J : ∀ (fz : Int), (((¬ (t b : Int) = 45) ∧ fz = (b : Int)) ∨ (((t b : Int) = 45) ∧ fz = ((b : Int) + 1))) → Run m_Model_classify d 0 0 27 [(0, .ref M)] [.int (cI fz)] I L R T Q by
    refine j_icmp_ne (tgt := 23) d_Model_classify_11 (by decide) (by omega) (by omega) (fun hp1 => ?_) (fun hp1 => ?_)
    · refine q_aload_n d_Model_classify_23 rfl ?_
      refine j_getI (v := (cI (b : Int))) d_Model_classify_24 fl_Model_544 hM.1 ⟨rfl, by decide⟩ hb ?_
      exact J _ (Or.inl ⟨hp1, rfl⟩)
    · refine q_aload_n d_Model_classify_14 rfl ?_
      refine j_getI (v := (cI (b : Int))) d_Model_classify_15 fl_Model_544 hM.1 ⟨rfl, by decide⟩ hb ?_
      refine j_iconst d_Model_classify_18 ?_
      refine j_iadd d_Model_classify_19 ?_
      refine q_goto (tgt := 27) d_Model_classify_20 (by decide) ?_
      exact J _ (Or.inr ⟨hp1, rfl⟩)
  intro fz hfz
  obtain rfl : fz = (f : Int) := by rw [hf]; split <;> omega
  refine q_istore_n (lv' := [(1, .int (cI (f : Int))), (0, .ref M)]) d_Model_classify_27 (by decide) rfl ?_
  refine q_iload_n d_Model_classify_28 rfl ?_
  refine q_aload_n d_Model_classify_29 rfl ?_
  refine j_getI (v := (cI (e : Int))) d_Model_classify_30 fl_Model_547 hM.1 ⟨rfl, by decide⟩ he ?_
  suffices J : ∀ (u : Int), ((((e : Int) ≤ (f : Int)) ∧ u = 0) ∨ (((f : Int) < (e : Int)) ∧ u = 1)) → Run m_Model_classify d 0 0 41 [(0, .ref M), (1, .int (cI (f : Int)))] [.int (cI u)] I L R T Q by
    refine j_icmp_ge (tgt := 40) d_Model_classify_33 (by decide) (by omega) (by omega) (fun hp2 => ?_) (fun hp2 => ?_)
    · refine j_iconst d_Model_classify_40 ?_
      refine Run.lv (lv' := [(0, .ref M), (1, .int (cI (f : Int)))]) (by intro q hq; simp only [List.mem_cons, List.not_mem_nil, or_false] at hq ⊢; rcases hq with rfl | rfl <;> simp) ?_
      exact J _ (Or.inl ⟨hp2, rfl⟩)
    · refine j_iconst d_Model_classify_36 ?_
      refine q_goto (tgt := 41) d_Model_classify_37 (by decide) ?_
      refine Run.lv (lv' := [(0, .ref M), (1, .int (cI (f : Int)))]) (by intro q hq; simp only [List.mem_cons, List.not_mem_nil, or_false] at hq ⊢; rcases hq with rfl | rfl <;> simp) ?_
      exact J _ (Or.inr ⟨hp2, rfl⟩)
  intro u hu
  have hu2 : u = bI (f < e) := by unfold bI; split <;> omega
  refine Run.top (v := .int (cI (bI (f < e)))) (by rw [hu2]) ?_
  refine q_istore_n (lv' := [(2, .int (cI (bI (f < e)))), (0, .ref M), (1, .int (cI (f : Int)))]) d_Model_classify_41 (by decide) rfl ?_
  refine q_iload_n d_Model_classify_42 rfl ?_
  refine q_istore_n (lv' := [(3, .int (cI (f : Int))), (2, .int (cI (bI (f < e)))), (0, .ref M), (1, .int (cI (f : Int)))]) d_Model_classify_43 (by decide) rfl ?_
  have name : ∀ (hnd : ¬ (f < e ∧ ∀ j, f ≤ j → j < e → dgt (t j))), True → Run m_Model_classify d 0 0 141 [(0, .ref M)] [] I L R T Q := by
    intro hnd _
    obtain ⟨g, hg⟩ : ∃ g, g = if t b = 63 then b + 1 else b := ⟨_, rfl⟩
    have hgb : g = b ∨ g = b + 1 := by rw [hg]; split <;> omega
    obtain ⟨x, hx⟩ : ∃ x, (NamR t g e ∧ x = nvF t g (e - g)) ∨ (¬ NamR t g e ∧ x = 0) := by
      by_cases q : NamR t g e
      · exact ⟨_, Or.inl ⟨q, rfl⟩⟩
      · exact ⟨_, Or.inr ⟨q, rfl⟩⟩
    have hx63 : x < 9223372036854775808 := by
      rcases hx with ⟨q, rfl⟩ | ⟨q, rfl⟩
      · exact nvF_63 q
      · decide
    refine q_aload_n d_Model_classify_141 rfl ?_
    refine q_getR d_Model_classify_142 fl_Model_23 hM.1 ⟨rfl, by decide⟩ (mR10 hM) ?_
    refine q_aload_n d_Model_classify_145 rfl ?_
    refine j_getI (v := (cI (b : Int))) d_Model_classify_146 fl_Model_544 hM.1 ⟨rfl, by decide⟩ hb ?_
    refine j_iald (j := b) (v := (cI (t b : Int))) d_Model_classify_149 (mT10 hM) (mN10 hM) (by omega) (by omega) (by omega) ((hV.2 b (by omega)).2) ?_
    refine j_bipush d_Model_classify_150 (by decide) ?_
    suffices J : ∀ (u : Int), (((¬ (t b : Int) = 63) ∧ u = 0) ∨ (((t b : Int) = 63) ∧ u = 1)) → Run m_Model_classify d 0 0 160 [(0, .ref M)] [.int (cI u)] I L R T Q by
      refine j_icmp_ne (tgt := 159) d_Model_classify_152 (by decide) (by omega) (by omega) (fun hp3 => ?_) (fun hp3 => ?_)
      · refine j_iconst d_Model_classify_159 ?_
        exact J _ (Or.inl ⟨hp3, rfl⟩)
      · refine j_iconst d_Model_classify_155 ?_
        refine q_goto (tgt := 160) d_Model_classify_156 (by decide) ?_
        exact J _ (Or.inr ⟨hp3, rfl⟩)
    intro u hu
    have hu2 : u = bI (t b = 63) := by unfold bI; split <;> omega
    refine Run.top (v := .int (cI (bI (t b = 63)))) (by rw [hu2]) ?_
    refine q_istore_n (lv' := [(3, .int (cI (bI (t b = 63)))), (0, .ref M)]) d_Model_classify_160 (by decide) rfl ?_
    refine q_aload_n d_Model_classify_161 rfl ?_
    refine q_aload_n d_Model_classify_162 rfl ?_
    refine q_iload_n d_Model_classify_163 rfl ?_
    suffices J : ∀ (gz : Int), (((¬ (t b = 63)) ∧ gz = (b : Int)) ∨ ((t b = 63) ∧ gz = ((b : Int) + 1))) → Run m_Model_classify d 0 0 180 [(0, .ref M), (3, .int (cI (bI (t b = 63))))] [.int (cI gz), .ref M, .ref M] I L R T Q by
      refine j_ifb_eq (tgt := 176) d_Model_classify_164 (by decide) (fun hp4 => ?_) (fun hp4 => ?_)
      · refine q_aload_n d_Model_classify_176 rfl ?_
        refine j_getI (v := (cI (b : Int))) d_Model_classify_177 fl_Model_544 hM.1 ⟨rfl, by decide⟩ hb ?_
        refine Run.lv (lv' := [(0, .ref M), (3, .int (cI (bI (t b = 63))))]) (by intro q hq; simp only [List.mem_cons, List.not_mem_nil, or_false] at hq ⊢; rcases hq with rfl | rfl <;> simp) ?_
        exact J _ (Or.inl ⟨hp4, rfl⟩)
      · refine q_aload_n d_Model_classify_167 rfl ?_
        refine j_getI (v := (cI (b : Int))) d_Model_classify_168 fl_Model_544 hM.1 ⟨rfl, by decide⟩ hb ?_
        refine j_iconst d_Model_classify_171 ?_
        refine j_iadd d_Model_classify_172 ?_
        refine q_goto (tgt := 180) d_Model_classify_173 (by decide) ?_
        refine Run.lv (lv' := [(0, .ref M), (3, .int (cI (bI (t b = 63))))]) (by intro q hq; simp only [List.mem_cons, List.not_mem_nil, or_false] at hq ⊢; rcases hq with rfl | rfl <;> simp) ?_
        exact J _ (Or.inr ⟨hp4, rfl⟩)
    intro gz hgz
    obtain rfl : gz = (g : Int) := by rw [hg]; split <;> omega
    refine q_aload_n d_Model_classify_180 rfl ?_
    refine j_getI (v := (cI (e : Int))) d_Model_classify_181 fl_Model_547 hM.1 ⟨rfl, by decide⟩ he ?_
    refine q_callV (ci := 17) (rc := 0) (rs := 0) (rest := [.ref M]) d_Model_classify_184 ml_Model_553 ok_Model_nameOf rfl hM.1 (by decide) (c_Model_nameOfV (d - 1) (by omega) hM hV heN (by omega) hx) rfl rfl (by omega) (Nat.le_of_ble_eq_true rfl) (kp_L ?_) kt_L
    refine q_putL d_Model_classify_187 fl_Model_557 hM.1 ⟨rfl, by decide, rfl, rfl⟩ ?_
    refine q_aload_n d_Model_classify_190 rfl ?_
    refine j_getL (v := (cL (x : Int))) d_Model_classify_191 fl_Model_557 hM.1 ⟨rfl, by decide⟩ (up2_s _ _ _ _) ?_
    refine q_callS (rc := 0) (rs := 0) (rest := []) d_Model_classify_194 ml_Model_532 ok_Model_isKeyword (c_Model_isKeyword (d - 1) hx63) rfl rfl (by omega) (Nat.le_of_ble_eq_true rfl) (kp_I ?_) kt_I
    have hfin : ∀ kd : Int, (x = 0 ∧ kd = -1) ∨ (x ≠ 0 ∧ kd = if t b = 63 then (if kwF x = -1 then 102 else -1) else if kwF x = -1 then 101 else kwF x) → Q (.returned none) (up2 I M 13 (cI (tkc kd))) (up2 L M 16 (cL x)) R T := by
      intro kd hkd
      refine hQ _ _ _ _ _ ⟨rfl, kd, x, ?_, rfl, fun _ => by rw [up2_s], fun a k h => ?_, rfl, rfl⟩
      · by_cases hc : t b = 45 ∨ dgt (t b)
        · have hgb2 : g = b := by rw [hg]; split <;> omega
          have hno : ¬ NamR t g e := fun q => by have := q.2.2.1; rw [hgb2] at this; omega
          have hx0 : x = 0 := by rcases hx with ⟨q, _⟩ | ⟨_, q⟩; exact absurd q hno; exact q
          have hkd1 : kd = -1 := by rcases hkd with ⟨_, q⟩ | ⟨q, _⟩; exact q; exact absurd hx0 q
          refine Or.inl ⟨hc, 1, Or.inl ⟨rfl, ?_⟩, by rw [hkd1]; rfl⟩
          rw [← hf]
          by_cases hfe : f < e
          · refine Or.inr ?_
            refine Classical.byContradiction fun hh => hnd ⟨hfe, fun j h1 h2 => Classical.byContradiction fun h3 => hh ⟨j, h1, h2, h3⟩⟩
          · exact Or.inl (by omega)
        · refine Or.inr ⟨hc, ?_⟩
          rw [← hg]
          rcases hx with ⟨q, q2⟩ | ⟨q, q2⟩
          · have : 0 < x := by rw [q2]; exact nvF_pos (by have := q.2.2.1; omega) _ (by have := q.1; omega)
            refine Or.inr ⟨q, q2, ?_⟩
            rcases hkd with ⟨z, _⟩ | ⟨_, z⟩
            · omega
            · exact z
          · refine Or.inl ⟨q, ?_⟩
            rcases hkd with ⟨_, z⟩ | ⟨z, _⟩
            · exact z
            · omega
      · by_cases e1 : a = M
        · subst e1; rw [up2_k _ _ _ (fun e2 => h ⟨rfl, e2⟩)]
        · rw [up2_row _ _ e1]
    have hkw := kwG_in x 34
    have hk34 : -1 ≤ kwF x ∧ kwF x < 34 := by unfold kwF; omega
    have hkeq : kwF 0 = -1 := kwF_0
    refine q_istore (lv' := [(4, .int (cI (bI (kwF x ≠ -1)))), (0, .ref M), (3, .int (cI (bI (t b = 63))))]) d_Model_classify_197 (by decide) rfl ?_
    refine q_aload_n d_Model_classify_199 rfl ?_
    refine q_aload_n d_Model_classify_200 rfl ?_
    refine j_getL (v := (cL (x : Int))) d_Model_classify_201 fl_Model_557 hM.1 ⟨rfl, by decide⟩ (up2_s _ _ _ _) ?_
    refine j_lconst (z := 0) d_Model_classify_204 (by decide) ?_
    have tok : ∀ (kd : Int), ((x = 0 ∧ kd = -1) ∨ (x ≠ 0 ∧ kd = if t b = 63 then (if kwF x = -1 then 102 else -1) else if kwF x = -1 then 101 else kwF x)) → Run m_Model_classify d 0 0 241 [(0, .ref M)] [.int (cI (tkc kd)), .ref M] I (up2 L M 16 (cL (x : Int))) R T Q := by
      intro kd hkd
      refine q_putI d_Model_classify_241 fl_Model_550 hM.1 ⟨rfl, by decide, rfl, rfl⟩ ?_
      refine q_return d_Model_classify_244 rfl ?_
      exact hfin kd hkd
    have nine : ∀ (h9 : x = 0 ∨ (t b = 63 ∧ kwF x ≠ -1)), True → Run m_Model_classify d 0 0 218 [(0, .ref M)] [.ref M] I (up2 L M 16 (cL (x : Int))) R T Q := by
      intro h9 _
      refine j_bipush d_Model_classify_218 (by decide) ?_
      refine q_goto (tgt := 241) d_Model_classify_220 (by decide) ?_
      refine Run.top (v := .int (cI (tkc (-1)))) (by rfl) ?_
      exact tok (-1) (by by_cases q : x = 0; exact Or.inl ⟨q, rfl⟩; exact Or.inr ⟨q, by rw [if_pos (by omega), if_neg (by omega)]⟩)
    have rest : ∀ (h9 : x ≠ 0 ∧ ¬ (t b = 63 ∧ kwF x ≠ -1)), True → Run m_Model_classify d 0 0 223 [(0, .ref M), (3, .int (cI (bI (t b = 63)))), (4, .int (cI (bI (kwF x ≠ -1))))] [.ref M] I (up2 L M 16 (cL (x : Int))) R T Q := by
      intro h9 _
      refine q_iload_n d_Model_classify_223 rfl ?_
      refine j_ifb_eq (tgt := 231) d_Model_classify_224 (by decide) (fun q1 => ?_) (fun q1 => ?_)
      · skip
        refine q_iload d_Model_classify_231 rfl ?_
        refine j_ifb_eq (tgt := 240) d_Model_classify_233 (by decide) (fun q2 => ?_) (fun q2 => ?_)
        · skip
          refine j_iconst d_Model_classify_240 ?_
          refine Run.top (v := .int (cI (tkc 101))) (by rfl) ?_
          refine Run.lv (lv' := [(0, .ref M)]) (by intro q hq; simp only [List.mem_cons, List.not_mem_nil, or_false] at hq ⊢; subst hq; simp) ?_
          exact tok 101 (Or.inr ⟨h9.1, by rw [if_neg q1, if_pos (by omega)]⟩)
        · skip
          refine j_iconst d_Model_classify_236 ?_
          refine q_goto (tgt := 241) d_Model_classify_237 (by decide) ?_
          refine Run.top (v := .int (cI (tkc (kwF x)))) (by (unfold tkc; congr 2; (repeat' split) <;> omega)) ?_
          refine Run.lv (lv' := [(0, .ref M)]) (by intro q hq; simp only [List.mem_cons, List.not_mem_nil, or_false] at hq ⊢; subst hq; simp) ?_
          exact tok (kwF x) (Or.inr ⟨h9.1, by rw [if_neg q1, if_neg (by omega)]⟩)
      · skip
        refine j_iconst d_Model_classify_227 ?_
        refine q_goto (tgt := 241) d_Model_classify_228 (by decide) ?_
        refine Run.top (v := .int (cI (tkc 102))) (by rfl) ?_
        refine Run.lv (lv' := [(0, .ref M)]) (by intro q hq; simp only [List.mem_cons, List.not_mem_nil, or_false] at hq ⊢; subst hq; simp) ?_
        exact tok 102 (Or.inr ⟨h9.1, by rw [if_pos q1, if_pos (by omega)]⟩)
    refine j_lcmp_eq (tgt := 218) d_Model_classify_205 d_Model_classify_206 (by decide) (by omega) (by omega) (fun p1 => ?_) (fun p1 => ?_)
    · skip
      refine Run.lv (lv' := [(0, .ref M)]) (by intro q hq; simp only [List.mem_cons, List.not_mem_nil, or_false] at hq ⊢; subst hq; simp) ?_
      exact nine (Or.inl (by omega)) trivial
    · skip
      refine q_iload_n d_Model_classify_209 rfl ?_
      refine j_ifb_eq (tgt := 223) d_Model_classify_210 (by decide) (fun p2 => ?_) (fun p2 => ?_)
      · skip
        refine Run.lv (lv' := [(0, .ref M), (3, .int (cI (bI (t b = 63)))), (4, .int (cI (bI (kwF x ≠ -1))))]) (by intro q hq; simp only [List.mem_cons, List.not_mem_nil, or_false] at hq ⊢; rcases hq with rfl | rfl | rfl <;> simp) ?_
        exact rest ⟨by omega, fun q => p2 q.1⟩ trivial
      · skip
        refine q_iload d_Model_classify_213 rfl ?_
        refine j_ifb_eq (tgt := 223) d_Model_classify_215 (by decide) (fun p3 => ?_) (fun p3 => ?_)
        · skip
          refine Run.lv (lv' := [(0, .ref M), (3, .int (cI (bI (t b = 63)))), (4, .int (cI (bI (kwF x ≠ -1))))]) (by intro q hq; simp only [List.mem_cons, List.not_mem_nil, or_false] at hq ⊢; rcases hq with rfl | rfl | rfl <;> simp) ?_
          exact rest ⟨by omega, fun q => p3 q.2⟩ trivial
        · skip
          refine Run.lv (lv' := [(0, .ref M)]) (by intro q hq; simp only [List.mem_cons, List.not_mem_nil, or_false] at hq ⊢; subst hq; simp) ?_
          exact nine (Or.inr ⟨p2, p3⟩) trivial
  have long : ∀ (hall : ∀ j, f ≤ j → j < e → dgt (t j)) (hfe : f < e), True → Run m_Model_classify d 0 0 91 [(0, .ref M), (1, .int (cI (f : Int)))] [] I L R T Q := by
    intro hall hfe _
    have hc : t b = 45 ∨ dgt (t b) := by
      by_cases q : t b = 45
      · exact Or.inl q
      · have : f = b := by rw [hf, if_neg q]
        exact Or.inr (hall b (by omega) hbe)
    refine q_iload_n d_Model_classify_91 rfl ?_
    refine q_istore_n (lv' := [(3, .int (cI (f : Int))), (0, .ref M), (1, .int (cI (f : Int)))]) d_Model_classify_92 (by decide) rfl ?_
    have loop : ∀ (fu q : Nat) (z : Int), e - q < fu → z = q → f ≤ q → q ≤ e → (∀ j, f ≤ j → j < q → t j = 48) → Run m_Model_classify d 0 0 93 [(0, .ref M), (1, .int (cI (f : Int))), (3, .int (cI z))] [] I L R T Q := by
      intro fu
      induction fu with
      | zero => intro q z h; omega
      | succ fu ih =>
      intro q z hfu hz hfq hq h48
      subst hz
      have stop : ∀ (hst : q = e ∨ t q ≠ 48), True → Run m_Model_classify d 0 0 118 [(0, .ref M), (1, .int (cI (f : Int))), (3, .int (cI (q : Int)))] [] I L R T Q := by
        intro hst _
        have hz0 : dvF t f (q - f) = 0 := dvF_zero _ fun j hj => h48 (f + j) (by omega) (by omega)
        have hdv : dvF t f (e - f) = dvF t q (e - q) := by
          have := dvF_add hz0 (e - q)
          rw [show q - f + (e - q) = e - f by omega, show f + (q - f) = q by omega] at this
          exact this
        refine q_aload_n d_Model_classify_118 rfl ?_
        refine q_aload_n d_Model_classify_119 rfl ?_
        refine j_getI (v := (cI (e : Int))) d_Model_classify_120 fl_Model_547 hM.1 ⟨rfl, by decide⟩ he ?_
        refine q_iload_n d_Model_classify_123 rfl ?_
        refine j_isub d_Model_classify_124 ?_
        refine j_sipush d_Model_classify_125 (by decide) ?_
        refine j_icmp_le (tgt := 136) d_Model_classify_128 (by decide) (by omega) (by omega) (fun h1 => ?_) (fun h1 => ?_)
        · skip
          refine j_iconst d_Model_classify_136 ?_
          refine q_putI d_Model_classify_137 fl_Model_550 hM.1 ⟨rfl, by decide, rfl, rfl⟩ ?_
          have hlt : dvF t f (e - f) < 10 ^ 300 := by
            rw [hdv]
            exact Nat.lt_of_lt_of_le (dvF_lt _ fun j hj => hall (q + j) (by omega) (by omega)) (Nat.pow_le_pow_right (by decide) (by omega))
          refine q_return d_Model_classify_140 rfl ?_
          refine hQ _ _ _ _ _ ?_
          exact ⟨rfl, 100, 0, Or.inl ⟨hc, 0, Or.inr ⟨by rw [← hf]; exact hfe, by rw [← hf]; exact hall, Or.inr ⟨rfl, by rw [← hf]; exact hlt⟩⟩, rfl⟩, rfl, fun h => by omega, fun _ _ _ => rfl, rfl, rfl⟩
        · skip
          refine j_bipush d_Model_classify_131 (by decide) ?_
          refine q_goto (tgt := 137) d_Model_classify_133 (by decide) ?_
          refine q_putI d_Model_classify_137 fl_Model_550 hM.1 ⟨rfl, by decide, rfl, rfl⟩ ?_
          have hge : 10 ^ 300 ≤ dvF t f (e - f) := by
            rw [hdv, show e - q = (e - q - 1) + 1 by omega]
            have h49 : 49 ≤ t q := by have := hall q hfq (by omega); rcases hst with z | z <;> omega
            exact Nat.le_trans (Nat.pow_le_pow_right (by decide) (by omega)) (dvF_ge h49 (e - q - 1))
          refine q_return d_Model_classify_140 rfl ?_
          refine hQ _ _ _ _ _ ?_
          exact ⟨rfl, -2, 0, Or.inl ⟨hc, 2, Or.inr ⟨by rw [← hf]; exact hfe, by rw [← hf]; exact hall, Or.inl ⟨rfl, by rw [← hf]; exact hge⟩⟩, rfl⟩, rfl, fun h => by omega, fun _ _ _ => rfl, rfl, rfl⟩
      refine q_iload_n d_Model_classify_93 rfl ?_
      refine q_aload_n d_Model_classify_94 rfl ?_
      refine j_getI (v := (cI (e : Int))) d_Model_classify_95 fl_Model_547 hM.1 ⟨rfl, by decide⟩ he ?_
      refine j_icmp_ge (tgt := 118) d_Model_classify_98 (by decide) (by omega) (by omega) (fun h1 => ?_) (fun h1 => ?_)
      · skip
        exact stop (Or.inl (by omega)) trivial
      · skip
        have tq := (hV.2 q (by omega)).1
        refine q_aload_n d_Model_classify_101 rfl ?_
        refine q_getR d_Model_classify_102 fl_Model_23 hM.1 ⟨rfl, by decide⟩ (mR10 hM) ?_
        refine q_iload_n d_Model_classify_105 rfl ?_
        refine j_iald (j := q) (v := (cI (t q : Int))) d_Model_classify_106 (mT10 hM) (mN10 hM) (by omega) (by omega) (by omega) ((hV.2 q (by omega)).2) ?_
        refine j_bipush d_Model_classify_107 (by decide) ?_
        refine j_icmp_ne (tgt := 118) d_Model_classify_109 (by decide) (by omega) (by omega) (fun h2 => ?_) (fun h2 => ?_)
        · skip
          exact stop (Or.inr (by omega)) trivial
        · skip
          refine j_iinc (lv' := [(3, .int (cI ((q : Int) + 1))), (0, .ref M), (1, .int (cI (f : Int)))]) d_Model_classify_112 rfl (by decide) rfl ?_
          refine q_goto (tgt := 93) d_Model_classify_115 (by decide) ?_
          refine Run.lv (lv' := [(0, .ref M), (1, .int (cI (f : Int))), (3, .int (cI ((q : Int) + 1)))]) (by intro q hq; simp only [List.mem_cons, List.not_mem_nil, or_false] at hq ⊢; rcases hq with rfl | rfl | rfl <;> simp) ?_
          exact ih (q + 1) _ (by omega) (by omega) (by omega) (by omega) (fun j a b => if z : j = q then (by subst z; omega) else h48 j a (by omega))
    refine Run.lv (lv' := [(0, .ref M), (1, .int (cI (f : Int))), (3, .int (cI (f : Int)))]) (by intro q hq; simp only [List.mem_cons, List.not_mem_nil, or_false] at hq ⊢; rcases hq with rfl | rfl | rfl <;> simp) ?_
    exact loop (e - f + 1) f _ (by omega) rfl (by omega) (by omega) (fun j a b => by omega)
  have dl : ∀ (fu k : Nat) (z y : Int), e - k < fu → z = k → f ≤ k → k ≤ max e f → ((y = 1 ∧ f < e ∧ ∀ j, f ≤ j → j < k → dgt (t j)) ∨ (y = 0 ∧ ¬ (f < e ∧ ∀ j, f ≤ j → j < k → dgt (t j)))) → Run m_Model_classify d 0 0 44 [(0, .ref M), (1, .int (cI (f : Int))), (2, .int (cI y)), (3, .int (cI z))] [] I L R T Q := by
    intro fu
    induction fu with
    | zero => intro k z y h; omega
    | succ fu ih =>
    intro k z y hfu hz hfk hk hy
    subst hz
    refine q_iload_n d_Model_classify_44 rfl ?_
    refine q_aload_n d_Model_classify_45 rfl ?_
    refine j_getI (v := (cI (e : Int))) d_Model_classify_46 fl_Model_547 hM.1 ⟨rfl, by decide⟩ he ?_
    refine j_icmp_ge (tgt := 87) d_Model_classify_49 (by decide) (by omega) (by omega) (fun h1 => ?_) (fun h1 => ?_)
    · skip
      refine q_iload_n d_Model_classify_87 rfl ?_
      refine j_if_eq (tgt := 141) d_Model_classify_88 (by decide) (by omega) (fun h2 => ?_) (fun h2 => ?_)
      · skip
        refine Run.lv (lv' := [(0, .ref M)]) (by intro q hq; simp only [List.mem_cons, List.not_mem_nil, or_false] at hq ⊢; subst hq; simp) ?_
        exact name (fun q => by rcases hy with ⟨z, _⟩ | ⟨_, z⟩; omega; exact z ⟨q.1, fun j a b => q.2 j a (by omega)⟩) trivial
      · skip
        have hy1 := hy.resolve_right fun z => h2 z.1
        refine Run.lv (lv' := [(0, .ref M), (1, .int (cI (f : Int)))]) (by intro q hq; simp only [List.mem_cons, List.not_mem_nil, or_false] at hq ⊢; rcases hq with rfl | rfl <;> simp) ?_
        exact long (fun j a b => hy1.2.2 j a (by omega)) hy1.2.1 trivial
    · skip
      have tk := (hV.2 k (by omega)).1
      have off : ∀ (h0 : y = 0 ∨ ¬ dgt (t k)), True → Run m_Model_classify d 0 0 79 [(0, .ref M), (1, .int (cI (f : Int))), (2, .int (cI y)), (3, .int (cI (k : Int)))] [] I L R T Q := by
        intro h0 _
        refine j_iconst d_Model_classify_79 ?_
        refine q_istore_n (lv' := [(2, .int (cI 0)), (0, .ref M), (1, .int (cI (f : Int))), (3, .int (cI (k : Int)))]) d_Model_classify_80 (by decide) rfl ?_
        refine j_iinc (lv' := [(3, .int (cI ((k : Int) + 1))), (2, .int (cI 0)), (0, .ref M), (1, .int (cI (f : Int)))]) d_Model_classify_81 rfl (by decide) rfl ?_
        refine q_goto (tgt := 44) d_Model_classify_84 (by decide) ?_
        refine Run.lv (lv' := [(0, .ref M), (1, .int (cI (f : Int))), (2, .int (cI 0)), (3, .int (cI ((k : Int) + 1)))]) (by intro q hq; simp only [List.mem_cons, List.not_mem_nil, or_false] at hq ⊢; rcases hq with rfl | rfl | rfl | rfl <;> simp) ?_
        exact ih (k + 1) _ 0 (by omega) (by omega) (by omega) (by omega) (Or.inr ⟨rfl, fun q => by rcases h0 with z | z; rcases hy with ⟨w, _⟩ | ⟨_, w⟩; omega; exact w ⟨q.1, fun j a b => q.2 j a (by omega)⟩; exact z (q.2 k (by omega) (by omega))⟩)
      refine q_iload_n d_Model_classify_52 rfl ?_
      refine j_if_eq (tgt := 79) d_Model_classify_53 (by decide) (by omega) (fun h2 => ?_) (fun h2 => ?_)
      · skip
        exact off (Or.inl (by omega)) trivial
      · skip
        have hy1 := hy.resolve_right fun z => h2 z.1
        refine q_aload_n d_Model_classify_56 rfl ?_
        refine q_getR d_Model_classify_57 fl_Model_23 hM.1 ⟨rfl, by decide⟩ (mR10 hM) ?_
        refine q_iload_n d_Model_classify_60 rfl ?_
        refine j_iald (j := k) (v := (cI (t k : Int))) d_Model_classify_61 (mT10 hM) (mN10 hM) (by omega) (by omega) (by omega) ((hV.2 k (by omega)).2) ?_
        refine j_i2l d_Model_classify_62 (by omega) ?_
        refine j_ldc2 (z := 48) d_Model_classify_63 (inT11 111 rfl) (by decide) ?_
        refine j_ldc2 (z := 57) d_Model_classify_66 (inT11 112 rfl) (by decide) ?_
        refine q_callS (rc := 0) (rs := 0) (rest := []) d_Model_classify_69 ml_Model_407 ok_Model_isIn (c_Model_isIn (d - 1) (by omega) (by omega) (by omega)) rfl rfl (by omega) (Nat.le_of_ble_eq_true rfl) (kp_I ?_) kt_I
        refine j_ifb_eq (tgt := 79) d_Model_classify_72 (by decide) (fun h3 => ?_) (fun h3 => ?_)
        · skip
          exact off (Or.inr (by omega)) trivial
        · skip
          refine j_iconst d_Model_classify_75 ?_
          refine q_goto (tgt := 80) d_Model_classify_76 (by decide) ?_
          refine q_istore_n (lv' := [(2, .int (cI 1)), (0, .ref M), (1, .int (cI (f : Int))), (3, .int (cI (k : Int)))]) d_Model_classify_80 (by decide) rfl ?_
          refine j_iinc (lv' := [(3, .int (cI ((k : Int) + 1))), (2, .int (cI 1)), (0, .ref M), (1, .int (cI (f : Int)))]) d_Model_classify_81 rfl (by decide) rfl ?_
          refine q_goto (tgt := 44) d_Model_classify_84 (by decide) ?_
          refine Run.lv (lv' := [(0, .ref M), (1, .int (cI (f : Int))), (2, .int (cI 1)), (3, .int (cI ((k : Int) + 1)))]) (by intro q hq; simp only [List.mem_cons, List.not_mem_nil, or_false] at hq ⊢; rcases hq with rfl | rfl | rfl | rfl <;> simp) ?_
          exact ih (k + 1) _ 1 (by omega) (by omega) (by omega) (by omega) (Or.inl ⟨rfl, hy1.2.1, fun j a b => if z : j = k then (by subst z; omega) else hy1.2.2 j a (by omega)⟩)
  refine Run.lv (lv' := [(0, .ref M), (1, .int (cI (f : Int))), (2, .int (cI (bI (f < e)))), (3, .int (cI (f : Int)))]) (by intro q hq; simp only [List.mem_cons, List.not_mem_nil, or_false] at hq ⊢; rcases hq with rfl | rfl | rfl | rfl <;> simp) ?_
  exact dl (e - f + 1) f _ _ (by omega) rfl (by omega) (by omega) (by unfold bI; split; exact Or.inl ⟨rfl, by assumption, fun j a b => by omega⟩; exact Or.inr ⟨rfl, fun q => by omega⟩)

