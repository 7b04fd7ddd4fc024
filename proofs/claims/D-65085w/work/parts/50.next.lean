/-! ===== 50 TOKENS: next ===== -/
theorem d_Tokens_next_0 : decode m_Tokens_next.2.1 0 = .ok (.aload_n 0, 1) := by decide +kernel
theorem d_Tokens_next_1 : decode m_Tokens_next.2.1 1 = .ok (.getfield 37, 3) := by decide +kernel
theorem d_Tokens_next_4 : decode m_Tokens_next.2.1 4 = .ok (.aload_n 0, 1) := by decide +kernel
theorem d_Tokens_next_5 : decode m_Tokens_next.2.1 5 = .ok (.getfield 33, 3) := by decide +kernel
theorem d_Tokens_next_8 : decode m_Tokens_next.2.1 8 = .ok (.if_icmp .ge 29, 3) := by decide +kernel
theorem d_Tokens_next_11 : decode m_Tokens_next.2.1 11 = .ok (.aload_n 0, 1) := by decide +kernel
theorem d_Tokens_next_12 : decode m_Tokens_next.2.1 12 = .ok (.aload_n 0, 1) := by decide +kernel
theorem d_Tokens_next_13 : decode m_Tokens_next.2.1 13 = .ok (.getfield 37, 3) := by decide +kernel
theorem d_Tokens_next_16 : decode m_Tokens_next.2.1 16 = .ok (.invokevirtual 56, 3) := by decide +kernel
theorem d_Tokens_next_19 : decode m_Tokens_next.2.1 19 = .ok (.bipush 32, 2) := by decide +kernel
theorem d_Tokens_next_21 : decode m_Tokens_next.2.1 21 = .ok (.if_icmp .gt 16, 3) := by decide +kernel
theorem d_Tokens_next_24 : decode m_Tokens_next.2.1 24 = .ok (.aload_n 0, 1) := by decide +kernel
theorem d_Tokens_next_25 : decode m_Tokens_next.2.1 25 = .ok (.dup, 1) := by decide +kernel
theorem d_Tokens_next_26 : decode m_Tokens_next.2.1 26 = .ok (.getfield 37, 3) := by decide +kernel
theorem d_Tokens_next_29 : decode m_Tokens_next.2.1 29 = .ok (.iconst 1, 1) := by decide +kernel
theorem d_Tokens_next_30 : decode m_Tokens_next.2.1 30 = .ok (.iadd, 1) := by decide +kernel
theorem d_Tokens_next_31 : decode m_Tokens_next.2.1 31 = .ok (.putfield 37, 3) := by decide +kernel
theorem d_Tokens_next_34 : decode m_Tokens_next.2.1 34 = .ok (.goto (-34), 3) := by decide +kernel
theorem d_Tokens_next_37 : decode m_Tokens_next.2.1 37 = .ok (.aload_n 0, 1) := by decide +kernel
theorem d_Tokens_next_38 : decode m_Tokens_next.2.1 38 = .ok (.aload_n 0, 1) := by decide +kernel
theorem d_Tokens_next_39 : decode m_Tokens_next.2.1 39 = .ok (.getfield 37, 3) := by decide +kernel
theorem d_Tokens_next_42 : decode m_Tokens_next.2.1 42 = .ok (.putfield 49, 3) := by decide +kernel
theorem d_Tokens_next_45 : decode m_Tokens_next.2.1 45 = .ok (.aload_n 0, 1) := by decide +kernel
theorem d_Tokens_next_46 : decode m_Tokens_next.2.1 46 = .ok (.getfield 37, 3) := by decide +kernel
theorem d_Tokens_next_49 : decode m_Tokens_next.2.1 49 = .ok (.aload_n 0, 1) := by decide +kernel
theorem d_Tokens_next_50 : decode m_Tokens_next.2.1 50 = .ok (.getfield 33, 3) := by decide +kernel
theorem d_Tokens_next_53 : decode m_Tokens_next.2.1 53 = .ok (.if_icmp .ne 10, 3) := by decide +kernel
theorem d_Tokens_next_56 : decode m_Tokens_next.2.1 56 = .ok (.aload_n 0, 1) := by decide +kernel
theorem d_Tokens_next_57 : decode m_Tokens_next.2.1 57 = .ok (.bipush 107, 2) := by decide +kernel
theorem d_Tokens_next_59 : decode m_Tokens_next.2.1 59 = .ok (.putfield 60, 3) := by decide +kernel
theorem d_Tokens_next_62 : decode m_Tokens_next.2.1 62 = .ok (.return_, 1) := by decide +kernel
theorem d_Tokens_next_63 : decode m_Tokens_next.2.1 63 = .ok (.aload_n 0, 1) := by decide +kernel
theorem d_Tokens_next_64 : decode m_Tokens_next.2.1 64 = .ok (.aload_n 0, 1) := by decide +kernel
theorem d_Tokens_next_65 : decode m_Tokens_next.2.1 65 = .ok (.getfield 37, 3) := by decide +kernel
theorem d_Tokens_next_68 : decode m_Tokens_next.2.1 68 = .ok (.invokevirtual 56, 3) := by decide +kernel
theorem d_Tokens_next_71 : decode m_Tokens_next.2.1 71 = .ok (.istore_n 1, 1) := by decide +kernel
theorem d_Tokens_next_72 : decode m_Tokens_next.2.1 72 = .ok (.aload_n 0, 1) := by decide +kernel
theorem d_Tokens_next_73 : decode m_Tokens_next.2.1 73 = .ok (.iload_n 1, 1) := by decide +kernel
theorem d_Tokens_next_74 : decode m_Tokens_next.2.1 74 = .ok (.invokevirtual 63, 3) := by decide +kernel
theorem d_Tokens_next_77 : decode m_Tokens_next.2.1 77 = .ok (.ifCond .eq 53, 3) := by decide +kernel
theorem d_Tokens_next_80 : decode m_Tokens_next.2.1 80 = .ok (.aload_n 0, 1) := by decide +kernel
theorem d_Tokens_next_81 : decode m_Tokens_next.2.1 81 = .ok (.dup, 1) := by decide +kernel
theorem d_Tokens_next_82 : decode m_Tokens_next.2.1 82 = .ok (.getfield 37, 3) := by decide +kernel
theorem d_Tokens_next_85 : decode m_Tokens_next.2.1 85 = .ok (.iconst 1, 1) := by decide +kernel
theorem d_Tokens_next_86 : decode m_Tokens_next.2.1 86 = .ok (.iadd, 1) := by decide +kernel
theorem d_Tokens_next_87 : decode m_Tokens_next.2.1 87 = .ok (.putfield 37, 3) := by decide +kernel
theorem d_Tokens_next_90 : decode m_Tokens_next.2.1 90 = .ok (.aload_n 0, 1) := by decide +kernel
theorem d_Tokens_next_91 : decode m_Tokens_next.2.1 91 = .ok (.iload_n 1, 1) := by decide +kernel
theorem d_Tokens_next_92 : decode m_Tokens_next.2.1 92 = .ok (.bipush 40, 2) := by decide +kernel
theorem d_Tokens_next_94 : decode m_Tokens_next.2.1 94 = .ok (.if_icmp .ne 8, 3) := by decide +kernel
theorem d_Tokens_next_97 : decode m_Tokens_next.2.1 97 = .ok (.bipush 103, 2) := by decide +kernel
theorem d_Tokens_next_99 : decode m_Tokens_next.2.1 99 = .ok (.goto 27, 3) := by decide +kernel
theorem d_Tokens_next_102 : decode m_Tokens_next.2.1 102 = .ok (.iload_n 1, 1) := by decide +kernel
theorem d_Tokens_next_103 : decode m_Tokens_next.2.1 103 = .ok (.bipush 41, 2) := by decide +kernel
theorem d_Tokens_next_105 : decode m_Tokens_next.2.1 105 = .ok (.if_icmp .ne 8, 3) := by decide +kernel
theorem d_Tokens_next_108 : decode m_Tokens_next.2.1 108 = .ok (.bipush 104, 2) := by decide +kernel
theorem d_Tokens_next_110 : decode m_Tokens_next.2.1 110 = .ok (.goto 16, 3) := by decide +kernel
theorem d_Tokens_next_113 : decode m_Tokens_next.2.1 113 = .ok (.iload_n 1, 1) := by decide +kernel
theorem d_Tokens_next_114 : decode m_Tokens_next.2.1 114 = .ok (.bipush 91, 2) := by decide +kernel
theorem d_Tokens_next_116 : decode m_Tokens_next.2.1 116 = .ok (.if_icmp .ne 8, 3) := by decide +kernel
theorem d_Tokens_next_119 : decode m_Tokens_next.2.1 119 = .ok (.bipush 105, 2) := by decide +kernel
theorem d_Tokens_next_121 : decode m_Tokens_next.2.1 121 = .ok (.goto 5, 3) := by decide +kernel
theorem d_Tokens_next_124 : decode m_Tokens_next.2.1 124 = .ok (.bipush 106, 2) := by decide +kernel
theorem d_Tokens_next_126 : decode m_Tokens_next.2.1 126 = .ok (.putfield 60, 3) := by decide +kernel
theorem d_Tokens_next_129 : decode m_Tokens_next.2.1 129 = .ok (.return_, 1) := by decide +kernel
theorem d_Tokens_next_130 : decode m_Tokens_next.2.1 130 = .ok (.aload_n 0, 1) := by decide +kernel
theorem d_Tokens_next_131 : decode m_Tokens_next.2.1 131 = .ok (.getfield 37, 3) := by decide +kernel
theorem d_Tokens_next_134 : decode m_Tokens_next.2.1 134 = .ok (.aload_n 0, 1) := by decide +kernel
theorem d_Tokens_next_135 : decode m_Tokens_next.2.1 135 = .ok (.getfield 33, 3) := by decide +kernel
theorem d_Tokens_next_138 : decode m_Tokens_next.2.1 138 = .ok (.if_icmp .ge 44, 3) := by decide +kernel
theorem d_Tokens_next_141 : decode m_Tokens_next.2.1 141 = .ok (.aload_n 0, 1) := by decide +kernel
theorem d_Tokens_next_142 : decode m_Tokens_next.2.1 142 = .ok (.aload_n 0, 1) := by decide +kernel
theorem d_Tokens_next_143 : decode m_Tokens_next.2.1 143 = .ok (.getfield 37, 3) := by decide +kernel
theorem d_Tokens_next_146 : decode m_Tokens_next.2.1 146 = .ok (.invokevirtual 56, 3) := by decide +kernel
theorem d_Tokens_next_149 : decode m_Tokens_next.2.1 149 = .ok (.bipush 32, 2) := by decide +kernel
theorem d_Tokens_next_151 : decode m_Tokens_next.2.1 151 = .ok (.if_icmp .le 31, 3) := by decide +kernel
theorem d_Tokens_next_154 : decode m_Tokens_next.2.1 154 = .ok (.aload_n 0, 1) := by decide +kernel
theorem d_Tokens_next_155 : decode m_Tokens_next.2.1 155 = .ok (.aload_n 0, 1) := by decide +kernel
theorem d_Tokens_next_156 : decode m_Tokens_next.2.1 156 = .ok (.aload_n 0, 1) := by decide +kernel
theorem d_Tokens_next_157 : decode m_Tokens_next.2.1 157 = .ok (.getfield 37, 3) := by decide +kernel
theorem d_Tokens_next_160 : decode m_Tokens_next.2.1 160 = .ok (.invokevirtual 56, 3) := by decide +kernel
theorem d_Tokens_next_163 : decode m_Tokens_next.2.1 163 = .ok (.invokevirtual 63, 3) := by decide +kernel
theorem d_Tokens_next_166 : decode m_Tokens_next.2.1 166 = .ok (.ifCond .ne 16, 3) := by decide +kernel
theorem d_Tokens_next_169 : decode m_Tokens_next.2.1 169 = .ok (.aload_n 0, 1) := by decide +kernel
theorem d_Tokens_next_170 : decode m_Tokens_next.2.1 170 = .ok (.dup, 1) := by decide +kernel
theorem d_Tokens_next_171 : decode m_Tokens_next.2.1 171 = .ok (.getfield 37, 3) := by decide +kernel
theorem d_Tokens_next_174 : decode m_Tokens_next.2.1 174 = .ok (.iconst 1, 1) := by decide +kernel
theorem d_Tokens_next_175 : decode m_Tokens_next.2.1 175 = .ok (.iadd, 1) := by decide +kernel
theorem d_Tokens_next_176 : decode m_Tokens_next.2.1 176 = .ok (.putfield 37, 3) := by decide +kernel
theorem d_Tokens_next_179 : decode m_Tokens_next.2.1 179 = .ok (.goto (-49), 3) := by decide +kernel
theorem d_Tokens_next_182 : decode m_Tokens_next.2.1 182 = .ok (.iload_n 1, 1) := by decide +kernel
theorem d_Tokens_next_183 : decode m_Tokens_next.2.1 183 = .ok (.bipush 45, 2) := by decide +kernel
theorem d_Tokens_next_185 : decode m_Tokens_next.2.1 185 = .ok (.if_icmp .eq 17, 3) := by decide +kernel
theorem d_Tokens_next_188 : decode m_Tokens_next.2.1 188 = .ok (.iload_n 1, 1) := by decide +kernel
theorem d_Tokens_next_189 : decode m_Tokens_next.2.1 189 = .ok (.i2l, 1) := by decide +kernel
theorem d_Tokens_next_190 : decode m_Tokens_next.2.1 190 = .ok (.ldc2_w 67, 3) := by decide +kernel
theorem d_Tokens_next_193 : decode m_Tokens_next.2.1 193 = .ok (.ldc2_w 69, 3) := by decide +kernel
theorem d_Tokens_next_196 : decode m_Tokens_next.2.1 196 = .ok (.invokestatic 71, 3) := by decide +kernel
theorem d_Tokens_next_199 : decode m_Tokens_next.2.1 199 = .ok (.ifCond .eq 10, 3) := by decide +kernel
theorem d_Tokens_next_202 : decode m_Tokens_next.2.1 202 = .ok (.aload_n 0, 1) := by decide +kernel
theorem d_Tokens_next_203 : decode m_Tokens_next.2.1 203 = .ok (.invokevirtual 75, 3) := by decide +kernel
theorem d_Tokens_next_206 : decode m_Tokens_next.2.1 206 = .ok (.goto 106, 3) := by decide +kernel
theorem d_Tokens_next_209 : decode m_Tokens_next.2.1 209 = .ok (.aload_n 0, 1) := by decide +kernel
theorem d_Tokens_next_210 : decode m_Tokens_next.2.1 210 = .ok (.iload_n 1, 1) := by decide +kernel
theorem d_Tokens_next_211 : decode m_Tokens_next.2.1 211 = .ok (.bipush 63, 2) := by decide +kernel
theorem d_Tokens_next_213 : decode m_Tokens_next.2.1 213 = .ok (.if_icmp .ne 12, 3) := by decide +kernel
theorem d_Tokens_next_216 : decode m_Tokens_next.2.1 216 = .ok (.aload_n 0, 1) := by decide +kernel
theorem d_Tokens_next_217 : decode m_Tokens_next.2.1 217 = .ok (.getfield 49, 3) := by decide +kernel
theorem d_Tokens_next_220 : decode m_Tokens_next.2.1 220 = .ok (.iconst 1, 1) := by decide +kernel
theorem d_Tokens_next_221 : decode m_Tokens_next.2.1 221 = .ok (.iadd, 1) := by decide +kernel
theorem d_Tokens_next_222 : decode m_Tokens_next.2.1 222 = .ok (.goto 7, 3) := by decide +kernel
theorem d_Tokens_next_225 : decode m_Tokens_next.2.1 225 = .ok (.aload_n 0, 1) := by decide +kernel
theorem d_Tokens_next_226 : decode m_Tokens_next.2.1 226 = .ok (.getfield 49, 3) := by decide +kernel
theorem d_Tokens_next_229 : decode m_Tokens_next.2.1 229 = .ok (.invokevirtual 78, 3) := by decide +kernel
theorem d_Tokens_next_232 : decode m_Tokens_next.2.1 232 = .ok (.iload_n 1, 1) := by decide +kernel
theorem d_Tokens_next_233 : decode m_Tokens_next.2.1 233 = .ok (.bipush 63, 2) := by decide +kernel
theorem d_Tokens_next_235 : decode m_Tokens_next.2.1 235 = .ok (.if_icmp .ne 7, 3) := by decide +kernel
theorem d_Tokens_next_238 : decode m_Tokens_next.2.1 238 = .ok (.iconst (-1), 1) := by decide +kernel
theorem d_Tokens_next_239 : decode m_Tokens_next.2.1 239 = .ok (.goto 17, 3) := by decide +kernel
theorem d_Tokens_next_242 : decode m_Tokens_next.2.1 242 = .ok (.aload_n 0, 1) := by decide +kernel
theorem d_Tokens_next_243 : decode m_Tokens_next.2.1 243 = .ok (.getfield 3, 3) := by decide +kernel
theorem d_Tokens_next_246 : decode m_Tokens_next.2.1 246 = .ok (.getfield 82, 3) := by decide +kernel
theorem d_Tokens_next_249 : decode m_Tokens_next.2.1 249 = .ok (.aload_n 0, 1) := by decide +kernel
theorem d_Tokens_next_250 : decode m_Tokens_next.2.1 250 = .ok (.getfield 86, 3) := by decide +kernel
theorem d_Tokens_next_253 : decode m_Tokens_next.2.1 253 = .ok (.invokevirtual 90, 3) := by decide +kernel
theorem d_Tokens_next_256 : decode m_Tokens_next.2.1 256 = .ok (.istore_n 2, 1) := by decide +kernel
theorem d_Tokens_next_257 : decode m_Tokens_next.2.1 257 = .ok (.iload_n 1, 1) := by decide +kernel
theorem d_Tokens_next_258 : decode m_Tokens_next.2.1 258 = .ok (.bipush 63, 2) := by decide +kernel
theorem d_Tokens_next_260 : decode m_Tokens_next.2.1 260 = .ok (.if_icmp .ne 26, 3) := by decide +kernel
theorem d_Tokens_next_263 : decode m_Tokens_next.2.1 263 = .ok (.aload_n 0, 1) := by decide +kernel
theorem d_Tokens_next_264 : decode m_Tokens_next.2.1 264 = .ok (.getfield 3, 3) := by decide +kernel
theorem d_Tokens_next_267 : decode m_Tokens_next.2.1 267 = .ok (.getfield 82, 3) := by decide +kernel
theorem d_Tokens_next_270 : decode m_Tokens_next.2.1 270 = .ok (.aload_n 0, 1) := by decide +kernel
theorem d_Tokens_next_271 : decode m_Tokens_next.2.1 271 = .ok (.getfield 86, 3) := by decide +kernel
theorem d_Tokens_next_274 : decode m_Tokens_next.2.1 274 = .ok (.invokevirtual 90, 3) := by decide +kernel
theorem d_Tokens_next_277 : decode m_Tokens_next.2.1 277 = .ok (.iconst (-1), 1) := by decide +kernel
theorem d_Tokens_next_278 : decode m_Tokens_next.2.1 278 = .ok (.if_icmp .eq 8, 3) := by decide +kernel
theorem d_Tokens_next_281 : decode m_Tokens_next.2.1 281 = .ok (.aload_n 0, 1) := by decide +kernel
theorem d_Tokens_next_282 : decode m_Tokens_next.2.1 282 = .ok (.iconst 1, 1) := by decide +kernel
theorem d_Tokens_next_283 : decode m_Tokens_next.2.1 283 = .ok (.invokevirtual 96, 3) := by decide +kernel
theorem d_Tokens_next_286 : decode m_Tokens_next.2.1 286 = .ok (.aload_n 0, 1) := by decide +kernel
theorem d_Tokens_next_287 : decode m_Tokens_next.2.1 287 = .ok (.iload_n 1, 1) := by decide +kernel
theorem d_Tokens_next_288 : decode m_Tokens_next.2.1 288 = .ok (.bipush 63, 2) := by decide +kernel
theorem d_Tokens_next_290 : decode m_Tokens_next.2.1 290 = .ok (.if_icmp .ne 8, 3) := by decide +kernel
theorem d_Tokens_next_293 : decode m_Tokens_next.2.1 293 = .ok (.bipush 102, 2) := by decide +kernel
theorem d_Tokens_next_295 : decode m_Tokens_next.2.1 295 = .ok (.goto 14, 3) := by decide +kernel
theorem d_Tokens_next_298 : decode m_Tokens_next.2.1 298 = .ok (.iload_n 2, 1) := by decide +kernel
theorem d_Tokens_next_299 : decode m_Tokens_next.2.1 299 = .ok (.iconst (-1), 1) := by decide +kernel
theorem d_Tokens_next_300 : decode m_Tokens_next.2.1 300 = .ok (.if_icmp .ne 8, 3) := by decide +kernel
theorem d_Tokens_next_303 : decode m_Tokens_next.2.1 303 = .ok (.bipush 101, 2) := by decide +kernel
theorem d_Tokens_next_305 : decode m_Tokens_next.2.1 305 = .ok (.goto 4, 3) := by decide +kernel
theorem d_Tokens_next_308 : decode m_Tokens_next.2.1 308 = .ok (.iload_n 2, 1) := by decide +kernel
theorem d_Tokens_next_309 : decode m_Tokens_next.2.1 309 = .ok (.putfield 60, 3) := by decide +kernel
theorem d_Tokens_next_312 : decode m_Tokens_next.2.1 312 = .ok (.return_, 1) := by decide +kernel
/-- what next comes to, from place a of a text of N bytes -/
def nxQ (o : Nat) (t : Nat → Nat) (N a : Nat) (I : M32) (L : M64) (R : MR) (T : SH) : QT := fun oc I' L' R' T' => ∃ (b e : Nat) (kind : Int) (x : Nat) (v : Int), TokR t N a b e kind x v ∧
  ((0 ≤ kind ∧ oc = .returned none ∧ I' o 2 = cI e ∧ I' o 3 = cI kind ∧ I' o 4 = cI b ∧ FrK o I I' ∧ (kind < 100 ∨ kind = 101 ∨ kind = 102 → L' o 5 = cL x) ∧ (kind = 100 → BigV I' (o + 2) v) ∧ (∀ a k, ¬ (a = o ∧ k = 5) → L' a k = L a k) ∧ R' = R ∧ T' = T) ∨
   (kind < 0 ∧ ∃ y, oc = .threw y ∧ badE o (-kind) b I L R T y I' L' R' T'))
theorem c_Tokens_next (d : Nat) {o P w N a : Nat} {t : Nat → Nat} {I : M32} {L : M64} {R : MR} {T : SH} (hd : 3 ≤ d) (hS : TkS R T o P) (hP : T.1 P = 16 + 1) (hPw : R P 0 = some w) (hK : KwS R T w) (hKV : KwV L w) (hV : TxV I o N t) (hN : I o 1 = cI N) (ha : I o 2 = cI a) (haN : a ≤ N) :
    Call m_Tokens_next y_Tokens_next d 0 0 [.ref o] I L R T (nxQ o t N a I L R T) := by
  refine Call.ofRun (by decide) ⟨rfl, rfl⟩ (Nat.le_of_ble_eq_true rfl) ?_
  refine Run.gen fun Q hQ => ?_
  have hN4 := hV.1
  have main : ∀ (b : Nat) (J : M32), SkR t N a b → (∀ k, k ≠ 2 → J o k = I o k) → (∀ q, q ≠ o → J q = I q) → J o 2 = cI b → Run m_Tokens_next d 0 0 37 [(0, .ref o)] [] J L R T Q := by
    intro b J hsk hJo hJq hJ2
    have hbN := hsk.2.1
    have hFJ : FrK o I J := ⟨fun q h _ _ _ => hJq q h, hJo 1 (by decide)⟩
    refine q_aload_n d_Tokens_next_37 rfl ?_
    refine q_aload_n d_Tokens_next_38 rfl ?_
    refine j_getI (v := (cI (b : Int))) d_Tokens_next_39 fl_Tokens_37 hS.1 ⟨rfl, by decide⟩ hJ2 ?_
    refine q_putI d_Tokens_next_42 fl_Tokens_49 hS.1 ⟨rfl, by decide, rfl, rfl⟩ ?_
    refine q_aload_n d_Tokens_next_45 rfl ?_
    refine j_getI (v := (cI (b : Int))) d_Tokens_next_46 fl_Tokens_37 hS.1 ⟨rfl, by decide⟩ ((up2_k _ _ _ (by omega)).trans (hJ2)) ?_
    refine q_aload_n d_Tokens_next_49 rfl ?_
    refine j_getI (v := (cI (N : Int))) d_Tokens_next_50 fl_Tokens_33 hS.1 ⟨rfl, by decide⟩ ((up2_k _ _ _ (by omega)).trans ((by rw [hJo 1 (by decide)]; exact hN))) ?_
    refine j_icmp_ne (tgt := 63) d_Tokens_next_53 (by decide) (by omega) (by omega) (fun h1 => ?_) (fun h1 => ?_)
    rotate_left
    · skip
      refine q_aload_n d_Tokens_next_56 rfl ?_
      refine j_bipush d_Tokens_next_57 (by decide) ?_
      refine q_putI d_Tokens_next_59 fl_Tokens_60 hS.1 ⟨rfl, by decide, rfl, rfl⟩ ?_
      refine q_return d_Tokens_next_62 rfl ?_
      refine hQ _ _ _ _ _ ?_
      exact ⟨b, b, 107, 0, 0, ⟨hsk, Or.inl ⟨by omega, rfl, rfl⟩⟩, Or.inl ⟨by decide, rfl, by rw [up2_k _ _ _ (by decide), up2_k _ _ _ (by decide)]; exact hJ2, by rw [up2_s], by rw [up2_k _ _ _ (by decide), up2_s], (hFJ.tr (FrK.up (by decide))).tr (FrK.up (by decide)), fun h => by omega, fun h => by omega, fun _ _ _ => rfl, rfl, rfl⟩⟩
    have tb := hV.2 b (by omega)
    generalize hJ1 : (up2 J o 4 (cI (b : Int))) = J1
    have hq1 : ∀ q, q ≠ o → J1 q = I q := fun q h => by rw [← hJ1, up2_row _ _ h]; exact hJq q h
    have ho1 : ∀ k, k ≠ 2 → k ≠ 4 → J1 o k = I o k := fun k h2 h4 => by rw [← hJ1, up2_k _ _ _ h4]; exact hJo k h2
    have hJ12 : J1 o 2 = cI b := by rw [← hJ1, up2_k _ _ _ (by decide)]; exact hJ2
    have hJ14 : J1 o 4 = cI b := by rw [← hJ1, up2_s]
    have hF1 : FrK o I J1 := by rw [← hJ1]; exact hFJ.tr (FrK.up (by decide))
    have hV1 : TxV J1 o N t := ⟨hN4, fun j hj => by rw [hq1 _ (by omega)]; exact hV.2 j hj⟩
    refine q_aload_n d_Tokens_next_63 rfl ?_
    refine q_aload_n d_Tokens_next_64 rfl ?_
    refine j_getI (v := (cI (b : Int))) d_Tokens_next_65 fl_Tokens_37 hS.1 ⟨rfl, by decide⟩ hJ12 ?_
    refine q_callV (ci := 5) (rc := 0) (rs := 0) (rest := []) d_Tokens_next_68 ml_Tokens_56 ok_Tokens_byteAt rfl hS.1 (by decide) (c_Tokens_byteAt (d - 1) hS hV1 (by omega)) rfl rfl (by omega) (Nat.le_of_ble_eq_true rfl) (kp_I ?_) kt_I
    refine q_istore_n (lv' := [(1, .int (cI (t b : Int))), (0, .ref o)]) d_Tokens_next_71 (by decide) rfl ?_
    refine q_aload_n d_Tokens_next_72 rfl ?_
    refine q_iload_n d_Tokens_next_73 rfl ?_
    refine q_callV (ci := 5) (rc := 0) (rs := 0) (rest := []) d_Tokens_next_74 ml_Tokens_63 ok_Tokens_isAlone rfl hS.1 (by decide) (c_Tokens_isAlone (d - 1) tb.1) rfl rfl (by omega) (Nat.le_of_ble_eq_true rfl) (kp_I ?_) kt_I
    refine j_ifb_eq (tgt := 130) d_Tokens_next_77 (by decide) (fun h2 => ?_) (fun h2 => ?_)
    rotate_left
    · skip
      refine q_aload_n d_Tokens_next_80 rfl ?_
      refine q_dup d_Tokens_next_81 rfl ?_
      refine j_getI (v := (cI (b : Int))) d_Tokens_next_82 fl_Tokens_37 hS.1 ⟨rfl, by decide⟩ hJ12 ?_
      refine j_iconst d_Tokens_next_85 ?_
      refine j_iadd d_Tokens_next_86 ?_
      refine q_putI d_Tokens_next_87 fl_Tokens_37 hS.1 ⟨rfl, by decide, rfl, rfl⟩ ?_
      refine q_aload_n d_Tokens_next_90 rfl ?_
      refine q_iload_n d_Tokens_next_91 rfl ?_
      refine j_bipush d_Tokens_next_92 (by decide) ?_
      suffices J : ∀ (u : Int), (((¬ (t b : Int) = 40) ∧ (¬ (t b : Int) = 41) ∧ (¬ (t b : Int) = 91) ∧ u = 106) ∨ ((¬ (t b : Int) = 40) ∧ (¬ (t b : Int) = 41) ∧ ((t b : Int) = 91) ∧ u = 105) ∨ ((¬ (t b : Int) = 40) ∧ ((t b : Int) = 41) ∧ u = 104) ∨ (((t b : Int) = 40) ∧ u = 103)) → Run m_Tokens_next d 0 0 126 [(0, .ref o), (1, .int (cI (t b : Int)))] [.int (cI u), .ref o] (up2 J1 o 2 (cI ((b : Int) + 1))) L R T Q by
        refine j_icmp_ne (tgt := 102) d_Tokens_next_94 (by decide) (by omega) (by omega) (fun hp1 => ?_) (fun hp1 => ?_)
        · refine q_iload_n d_Tokens_next_102 rfl ?_
          refine j_bipush d_Tokens_next_103 (by decide) ?_
          refine j_icmp_ne (tgt := 113) d_Tokens_next_105 (by decide) (by omega) (by omega) (fun hp2 => ?_) (fun hp2 => ?_)
          · refine q_iload_n d_Tokens_next_113 rfl ?_
            refine j_bipush d_Tokens_next_114 (by decide) ?_
            refine j_icmp_ne (tgt := 124) d_Tokens_next_116 (by decide) (by omega) (by omega) (fun hp3 => ?_) (fun hp3 => ?_)
            · refine j_bipush d_Tokens_next_124 (by decide) ?_
              refine Run.lv (lv' := [(0, .ref o), (1, .int (cI (t b : Int)))]) (by intro q hq; simp only [List.mem_cons, List.not_mem_nil, or_false] at hq ⊢; rcases hq with rfl | rfl <;> simp) ?_
              exact J _ (Or.inl ⟨hp1, hp2, hp3, rfl⟩)
            · refine j_bipush d_Tokens_next_119 (by decide) ?_
              refine q_goto (tgt := 126) d_Tokens_next_121 (by decide) ?_
              refine Run.lv (lv' := [(0, .ref o), (1, .int (cI (t b : Int)))]) (by intro q hq; simp only [List.mem_cons, List.not_mem_nil, or_false] at hq ⊢; rcases hq with rfl | rfl <;> simp) ?_
              exact J _ (Or.inr (Or.inl ⟨hp1, hp2, hp3, rfl⟩))
          · refine j_bipush d_Tokens_next_108 (by decide) ?_
            refine q_goto (tgt := 126) d_Tokens_next_110 (by decide) ?_
            refine Run.lv (lv' := [(0, .ref o), (1, .int (cI (t b : Int)))]) (by intro q hq; simp only [List.mem_cons, List.not_mem_nil, or_false] at hq ⊢; rcases hq with rfl | rfl <;> simp) ?_
            exact J _ (Or.inr (Or.inr (Or.inl ⟨hp1, hp2, rfl⟩)))
        · refine j_bipush d_Tokens_next_97 (by decide) ?_
          refine q_goto (tgt := 126) d_Tokens_next_99 (by decide) ?_
          refine Run.lv (lv' := [(0, .ref o), (1, .int (cI (t b : Int)))]) (by intro q hq; simp only [List.mem_cons, List.not_mem_nil, or_false] at hq ⊢; rcases hq with rfl | rfl <;> simp) ?_
          exact J _ (Or.inr (Or.inr (Or.inr ⟨hp1, rfl⟩)))
      intro u hu
      refine q_putI d_Tokens_next_126 fl_Tokens_60 hS.1 ⟨rfl, by decide, rfl, rfl⟩ ?_
      refine q_return d_Tokens_next_129 rfl ?_
      refine hQ _ _ _ _ _ ?_
      exact ⟨b, b + 1, u, 0, 0, ⟨hsk, Or.inr (Or.inl ⟨by omega, h2, rfl, by (repeat' split) <;> omega⟩)⟩, Or.inl ⟨by omega, rfl, by rw [up2_k _ _ _ (by decide), up2_s]; simp, by rw [up2_s], by rw [up2_k _ _ _ (by decide), up2_k _ _ _ (by decide)]; exact hJ14, (hF1.tr (FrK.up (by decide))).tr (FrK.up (by decide)), fun h => by omega, fun h => by omega, fun _ _ _ => rfl, rfl, rfl⟩⟩
    have word : ∀ (e : Nat) (K : M32), WeR t N b e → (∀ k, k ≠ 2 → K o k = J1 o k) → (∀ q, q ≠ o → K q = J1 q) → K o 2 = cI e → Run m_Tokens_next d 0 0 182 [(0, .ref o), (1, .int (cI (t b : Int)))] [] K L R T Q := by
      intro e K hwe hKo hKq hK2
      have hK4 : K o 4 = cI b := by rw [hKo 4 (by decide)]; exact hJ14
      have hVK : TxV K o N t := ⟨hN4, fun j hj => by rw [hKq _ (by omega)]; exact hV1.2 j hj⟩
      have hFK : FrK o I K := hF1.tr ⟨fun q h _ _ _ => hKq q h, hKo 1 (by decide)⟩
      obtain ⟨hbe, heN, -, -⟩ := id hwe
      have num : ∀ (hc : t b = 45 ∨ dgt (t b)), True → Run m_Tokens_next d 0 0 202 [(0, .ref o), (1, .int (cI (t b : Int)))] [] K L R T Q := by
        intro hc _
        refine q_aload_n d_Tokens_next_202 rfl ?_
        refine q_callV (ci := 5) (rc := 0) (rs := 0) (rest := []) d_Tokens_next_203 ml_Tokens_75 ok_Tokens_readNumber rfl hS.1 (by decide) (c_Tokens_readNumber (d - 1) (by omega) hS hVK hK4 hK2 hbe heN rfl) rfl rfl (by omega) (Nat.le_of_ble_eq_true rfl) (fun v I1 L1 R1 T1 h => ?_) (fun y I1 L1 R1 T1 h => ?_)
        · skip
          obtain ⟨bad, hR, hq⟩ := h
          rcases hq with ⟨hb0, hv, g1, g2, g3, g4, g5, rfl, rfl, rfl⟩ | ⟨hb0, y, hv, -⟩
          · cases hv
            refine q_goto (tgt := 312) d_Tokens_next_206 (by decide) ?_
            refine q_return d_Tokens_next_312 rfl ?_
            refine hQ _ _ _ _ _ ?_
            exact ⟨b, e, 100, 0, _, ⟨hsk, Or.inr (Or.inr (Or.inl ⟨by omega, h2, hwe, hc, bad, hR, by rw [if_pos hb0], fun _ => rfl⟩))⟩, Or.inl ⟨by decide, rfl, by rw [g2]; exact hK2, g1, by rw [g3]; exact hK4, hFK.tr g5, fun h => by omega, fun _ => (by by_cases hq : t b = 45 <;> simp only [hq, if_true, if_false] at g4 ⊢ <;> exact g4), fun _ _ _ => rfl, rfl, rfl⟩⟩
          · cases hv
        · obtain ⟨bad, hR, ⟨-, hv, -⟩ | ⟨hb0, y', hv, hE⟩⟩ := h
          · cases hv
          · cases hv
            obtain ⟨rfl, e1, e2, e3, e4, rfl, rfl⟩ := hE
            exact thr_out hS.tag (by decide) (by unfold Seek; rfl) (hQ _ _ _ _ _ ⟨b, e, -bad, 0, 0, ⟨hsk, Or.inr (Or.inr (Or.inl ⟨by omega, h2, hwe, hc, bad, hR, by rw [if_neg hb0], fun h => absurd h hb0⟩))⟩, Or.inr ⟨by rcases hR with ⟨h, _⟩ | ⟨_, _, ⟨h, _⟩ | ⟨h, _⟩⟩ <;> omega, _, rfl, rfl, by rw [e1, Int.neg_neg], e2, hFK.tr e3, e4, rfl, rfl⟩⟩)
      refine q_iload_n d_Tokens_next_182 rfl ?_
      refine j_bipush d_Tokens_next_183 (by decide) ?_
      refine j_icmp_eq (tgt := 202) d_Tokens_next_185 (by decide) (by omega) (by omega) (fun h6 => ?_) (fun h6 => ?_)
      · skip
        exact num (Or.inl (by omega)) trivial
      refine q_iload_n d_Tokens_next_188 rfl ?_
      refine j_i2l d_Tokens_next_189 (by omega) ?_
      refine j_ldc2 (z := 48) d_Tokens_next_190 (inT4 119 rfl) (by decide) ?_
      refine j_ldc2 (z := 57) d_Tokens_next_193 (inT4 120 rfl) (by decide) ?_
      refine q_callS (rc := 0) (rs := 0) (rest := []) d_Tokens_next_196 ml_Tokens_71 ok_Platform_within (c_Platform_within (d - 1) (by omega) (by omega) (by omega)) rfl rfl (by omega) (Nat.le_of_ble_eq_true rfl) (kp_I ?_) kt_I
      refine j_ifb_eq (tgt := 209) d_Tokens_next_199 (by decide) (fun h7 => ?_) (fun h7 => ?_)
      rotate_left
      · skip
        exact num (Or.inr (by omega)) trivial
      have hnc : ¬ (t b = 45 ∨ dgt (t b)) := by omega
      obtain ⟨g, hg⟩ : ∃ g, g = if t b = 63 then b + 1 else b := ⟨_, rfl⟩
      have hgb : g = b ∨ g = b + 1 := by rw [hg]; split <;> omega
      refine q_aload_n d_Tokens_next_209 rfl ?_
      refine q_iload_n d_Tokens_next_210 rfl ?_
      refine j_bipush d_Tokens_next_211 (by decide) ?_
      suffices J : ∀ (gz : Int), (((¬ (t b : Int) = 63) ∧ gz = (b : Int)) ∨ (((t b : Int) = 63) ∧ gz = ((b : Int) + 1))) → Run m_Tokens_next d 0 0 229 [(0, .ref o), (1, .int (cI (t b : Int)))] [.int (cI gz), .ref o] K L R T Q by
        refine j_icmp_ne (tgt := 225) d_Tokens_next_213 (by decide) (by omega) (by omega) (fun hp4 => ?_) (fun hp4 => ?_)
        · refine q_aload_n d_Tokens_next_225 rfl ?_
          refine j_getI (v := (cI (b : Int))) d_Tokens_next_226 fl_Tokens_49 hS.1 ⟨rfl, by decide⟩ hK4 ?_
          exact J _ (Or.inl ⟨hp4, rfl⟩)
        · refine q_aload_n d_Tokens_next_216 rfl ?_
          refine j_getI (v := (cI (b : Int))) d_Tokens_next_217 fl_Tokens_49 hS.1 ⟨rfl, by decide⟩ hK4 ?_
          refine j_iconst d_Tokens_next_220 ?_
          refine j_iadd d_Tokens_next_221 ?_
          refine q_goto (tgt := 229) d_Tokens_next_222 (by decide) ?_
          exact J _ (Or.inr ⟨hp4, rfl⟩)
      intro gz hgz
      obtain rfl : gz = (g : Int) := by rw [hg]; split <;> omega
      refine q_callV (ci := 5) (rc := 0) (rs := 0) (rest := []) d_Tokens_next_229 ml_Tokens_78 ok_Tokens_readName rfl hS.1 (by decide) (c_Tokens_readName (d - 1) (by omega) hS hVK hK4 hK2 hbe heN hgb) rfl rfl (by omega) (Nat.le_of_ble_eq_true rfl) (fun v I1 L1 R1 T1 h => ?_) (fun y I1 L1 R1 T1 h => ?_)
      · skip
        obtain ⟨hNm, hv, rfl, g5, gL, rfl, rfl⟩ | ⟨-, y', hv, -⟩ := h
        · cases hv
          have hkv : KwV L1 w := fun k hk => by rw [gL _ _ (fun q => by have h9 := hK.2.2.1; rw [q.1, hS.1] at h9; cases h9)]; exact hKV k hk
          have hx63 := nvF_63 hNm
          obtain ⟨x, hxx⟩ : ∃ x, x = nvF t g (e - g) := ⟨_, rfl⟩
          rw [← hxx] at g5 hx63
          have hkw := kwG_in x 34
          have hkI : inI (kwF x) := by unfold kwF; omega
          have hk34 : -1 ≤ kwF x ∧ kwF x < 34 := by unfold kwF; omega
          have hfin : ∀ kd : Int, 0 ≤ kd → kd ≠ 100 → kd = (if t b = 63 then (if kwF x = -1 then 102 else -1) else if kwF x = -1 then 101 else kwF x) → Q (.returned none) (up2 I1 o 3 (cI kd)) L1 R1 T1 := fun kd h0 h100 hkd => hQ _ _ _ _ _ ⟨b, e, kd, x, 0, ⟨hsk, Or.inr (Or.inr (Or.inr ⟨by omega, h2, hwe, hnc, Or.inr ⟨by rw [← hg]; exact hNm, by rw [← hg]; exact hxx, hkd⟩⟩))⟩, Or.inl ⟨h0, rfl, by rw [up2_k _ _ _ (by decide)]; exact hK2, by rw [up2_s], by rw [up2_k _ _ _ (by decide)]; exact hK4, hFK.tr (FrK.up (by decide)), fun _ => g5, fun h => absurd h h100, gL, rfl, rfl⟩⟩
          by_cases hq : t b = 63
          · refine q_iload_n d_Tokens_next_232 rfl ?_
            refine j_bipush d_Tokens_next_233 (by decide) ?_
            refine j_icmp_ne (tgt := 242) d_Tokens_next_235 (by decide) (by omega) (by omega) (fun hx => by exfalso; omega) (fun hx => ?_)
            refine j_iconst d_Tokens_next_238 ?_
            refine q_goto (tgt := 256) d_Tokens_next_239 (by decide) ?_
            refine q_istore_n (lv' := [(2, .int (cI (-1))), (0, .ref o), (1, .int (cI (t b : Int)))]) d_Tokens_next_256 (by decide) rfl ?_
            refine q_iload_n d_Tokens_next_257 rfl ?_
            refine j_bipush d_Tokens_next_258 (by decide) ?_
            refine j_icmp_ne (tgt := 286) d_Tokens_next_260 (by decide) (by omega) (by omega) (fun hx => by exfalso; omega) (fun hx => ?_)
            refine q_aload_n d_Tokens_next_263 rfl ?_
            refine q_getR d_Tokens_next_264 fl_Tokens_3 hS.1 ⟨rfl, by decide⟩ hS.2.2.2.2.2.2.2.2 ?_
            refine q_getR d_Tokens_next_267 fl_Tokens_82 hP ⟨rfl, by decide⟩ hPw ?_
            refine q_aload_n d_Tokens_next_270 rfl ?_
            refine j_getL (v := (cL (x : Int))) d_Tokens_next_271 fl_Tokens_86 hS.1 ⟨rfl, by decide⟩ g5 ?_
            refine q_callV (ci := 3) (rc := 0) (rs := 0) (rest := []) d_Tokens_next_274 ml_Tokens_90 ok_Keywords_find rfl hK.1 (by decide) (c_Keywords_find (d - 1) hK hkv hx63) rfl rfl (by omega) (Nat.le_of_ble_eq_true rfl) (kp_I ?_) kt_I
            refine j_iconst d_Tokens_next_277 ?_
            refine j_icmp_eq (tgt := 286) d_Tokens_next_278 (by decide) (by omega) (by omega) (fun h8 => ?_) (fun h8 => ?_)
            rotate_left
            · skip
              refine q_aload_n d_Tokens_next_281 rfl ?_
              refine j_iconst d_Tokens_next_282 ?_
              refine q_callV (ci := 5) (rc := 0) (rs := 0) (rest := []) d_Tokens_next_283 ml_Tokens_96 ok_Tokens_fail rfl hS.1 (by decide) (c_Tokens_fail (d - 1) (by omega) hS hK4) rfl rfl (by omega) (Nat.le_of_ble_eq_true rfl) (fun v I' L' R' T' h => by cases h.1) (fun x I' L' R' T' h => ?_)
              obtain ⟨h0, rfl, rfl, rfl, rfl⟩ := h
              cases h0
              skip
              exact thr_out hS.tag (by decide) (by unfold Seek; rfl) (hQ _ _ _ _ _ ⟨b, e, -1, x, 0, ⟨hsk, Or.inr (Or.inr (Or.inr ⟨by omega, h2, hwe, hnc, Or.inr ⟨by rw [← hg]; exact hNm, by rw [← hg]; exact hxx, by rw [if_pos hq, if_neg (by omega)]⟩⟩))⟩, Or.inr ⟨by decide, _, rfl, rfl, by rw [up2_k _ _ _ (by omega), up2_s]; rfl, by rw [up2_s], bad_fr hFK, gL, rfl, rfl⟩⟩)
            refine q_aload_n d_Tokens_next_286 rfl ?_
            refine q_iload_n d_Tokens_next_287 rfl ?_
            refine j_bipush d_Tokens_next_288 (by decide) ?_
            refine j_icmp_ne (tgt := 298) d_Tokens_next_290 (by decide) (by omega) (by omega) (fun hx => by exfalso; omega) (fun hx => ?_)
            refine j_bipush d_Tokens_next_293 (by decide) ?_
            refine q_goto (tgt := 309) d_Tokens_next_295 (by decide) ?_
            refine q_putI d_Tokens_next_309 fl_Tokens_60 hS.1 ⟨rfl, by decide, rfl, rfl⟩ ?_
            refine q_return d_Tokens_next_312 rfl ?_
            exact hfin 102 (by decide) (by decide) (by rw [if_pos hq, if_pos (by omega)])
          · refine q_iload_n d_Tokens_next_232 rfl ?_
            refine j_bipush d_Tokens_next_233 (by decide) ?_
            refine j_icmp_ne (tgt := 242) d_Tokens_next_235 (by decide) (by omega) (by omega) (fun hx => ?_) (fun hx => by exfalso; omega)
            refine q_aload_n d_Tokens_next_242 rfl ?_
            refine q_getR d_Tokens_next_243 fl_Tokens_3 hS.1 ⟨rfl, by decide⟩ hS.2.2.2.2.2.2.2.2 ?_
            refine q_getR d_Tokens_next_246 fl_Tokens_82 hP ⟨rfl, by decide⟩ hPw ?_
            refine q_aload_n d_Tokens_next_249 rfl ?_
            refine j_getL (v := (cL (x : Int))) d_Tokens_next_250 fl_Tokens_86 hS.1 ⟨rfl, by decide⟩ g5 ?_
            refine q_callV (ci := 3) (rc := 0) (rs := 0) (rest := []) d_Tokens_next_253 ml_Tokens_90 ok_Keywords_find rfl hK.1 (by decide) (c_Keywords_find (d - 1) hK hkv hx63) rfl rfl (by omega) (Nat.le_of_ble_eq_true rfl) (kp_I ?_) kt_I
            refine q_istore_n (lv' := [(2, .int (cI (kwF x))), (0, .ref o), (1, .int (cI (t b : Int)))]) d_Tokens_next_256 (by decide) rfl ?_
            refine q_iload_n d_Tokens_next_257 rfl ?_
            refine j_bipush d_Tokens_next_258 (by decide) ?_
            refine j_icmp_ne (tgt := 286) d_Tokens_next_260 (by decide) (by omega) (by omega) (fun hx => ?_) (fun hx => by exfalso; omega)
            refine q_aload_n d_Tokens_next_286 rfl ?_
            refine q_iload_n d_Tokens_next_287 rfl ?_
            refine j_bipush d_Tokens_next_288 (by decide) ?_
            refine j_icmp_ne (tgt := 298) d_Tokens_next_290 (by decide) (by omega) (by omega) (fun hx => ?_) (fun hx => by exfalso; omega)
            refine q_iload_n d_Tokens_next_298 rfl ?_
            refine j_iconst d_Tokens_next_299 ?_
            suffices J : ∀ (u : Int), (((¬ (kwF x) = (-1)) ∧ u = (kwF x)) ∨ (((kwF x) = (-1)) ∧ u = 101)) → Run m_Tokens_next d 0 0 309 [(0, .ref o), (1, .int (cI (t b : Int))), (2, .int (cI (kwF x)))] [.int (cI u), .ref o] I1 L1 R1 T1 Q by
              refine j_icmp_ne (tgt := 308) d_Tokens_next_300 (by decide) (by omega) (by omega) (fun hp5 => ?_) (fun hp5 => ?_)
              · refine q_iload_n d_Tokens_next_308 rfl ?_
                refine Run.lv (lv' := [(0, .ref o), (1, .int (cI (t b : Int))), (2, .int (cI (kwF x)))]) (by intro q hq; simp only [List.mem_cons, List.not_mem_nil, or_false] at hq ⊢; rcases hq with rfl | rfl | rfl <;> simp) ?_
                exact J _ (Or.inl ⟨hp5, rfl⟩)
              · refine j_bipush d_Tokens_next_303 (by decide) ?_
                refine q_goto (tgt := 309) d_Tokens_next_305 (by decide) ?_
                refine Run.lv (lv' := [(0, .ref o), (1, .int (cI (t b : Int))), (2, .int (cI (kwF x)))]) (by intro q hq; simp only [List.mem_cons, List.not_mem_nil, or_false] at hq ⊢; rcases hq with rfl | rfl | rfl <;> simp) ?_
                exact J _ (Or.inr ⟨hp5, rfl⟩)
            intro u hu
            refine q_putI d_Tokens_next_309 fl_Tokens_60 hS.1 ⟨rfl, by decide, rfl, rfl⟩ ?_
            refine q_return d_Tokens_next_312 rfl ?_
            exact hfin u (by omega) (by omega) (by rw [if_neg hq]; split <;> omega)
        · cases hv
      · obtain ⟨-, hv, -⟩ | ⟨hno, y', hv, hE⟩ := h
        · cases hv
        · cases hv
          obtain ⟨rfl, e1, e2, e3, e4, rfl, rfl⟩ := hE
          exact thr_out hS.tag (by decide) (by unfold Seek; rfl) (hQ _ _ _ _ _ ⟨b, e, -1, 0, 0, ⟨hsk, Or.inr (Or.inr (Or.inr ⟨by omega, h2, hwe, hnc, Or.inl ⟨by rw [← hg]; exact hno, rfl⟩⟩))⟩, Or.inr ⟨by decide, _, rfl, rfl, e1, e2, hFK.tr e3, e4, rfl, rfl⟩⟩)
    have scan : ∀ (f k : Nat) (K : M32), N - k < f → b ≤ k → k ≤ N → (∀ j, b < j → j < k → 32 < t j ∧ ¬ alone (t j)) → (∀ k', k' ≠ 2 → K o k' = J1 o k') → (∀ q, q ≠ o → K q = J1 q) → K o 2 = cI k → Run m_Tokens_next d 0 0 130 [(0, .ref o), (1, .int (cI (t b : Int)))] [] K L R T Q := by
      intro f
      induction f with
      | zero => intro k K h; omega
      | succ f ih =>
      intro k K hf hbk hk hall hKo hKq hK2
      have hVK : TxV K o N t := ⟨hN4, fun j hj => by rw [hKq _ (by omega)]; exact hV1.2 j hj⟩
      refine q_aload_n d_Tokens_next_130 rfl ?_
      refine j_getI (v := (cI (k : Int))) d_Tokens_next_131 fl_Tokens_37 hS.1 ⟨rfl, by decide⟩ hK2 ?_
      refine q_aload_n d_Tokens_next_134 rfl ?_
      refine j_getI (v := (cI (N : Int))) d_Tokens_next_135 fl_Tokens_33 hS.1 ⟨rfl, by decide⟩ (by rw [hKo 1 (by decide), ho1 1 (by decide) (by decide)]; exact hN) ?_
      refine j_icmp_ge (tgt := 182) d_Tokens_next_138 (by decide) (by omega) (by omega) (fun h3 => ?_) (fun h3 => ?_)
      · skip
        exact word k K ⟨by omega, hk, hall, fun h => by omega⟩ hKo hKq hK2
      have tk := hV.2 k (by omega)
      refine q_aload_n d_Tokens_next_141 rfl ?_
      refine q_aload_n d_Tokens_next_142 rfl ?_
      refine j_getI (v := (cI (k : Int))) d_Tokens_next_143 fl_Tokens_37 hS.1 ⟨rfl, by decide⟩ hK2 ?_
      refine q_callV (ci := 5) (rc := 0) (rs := 0) (rest := []) d_Tokens_next_146 ml_Tokens_56 ok_Tokens_byteAt rfl hS.1 (by decide) (c_Tokens_byteAt (d - 1) hS hVK (by omega)) rfl rfl (by omega) (Nat.le_of_ble_eq_true rfl) (kp_I ?_) kt_I
      refine j_bipush d_Tokens_next_149 (by decide) ?_
      refine j_icmp_le (tgt := 182) d_Tokens_next_151 (by decide) (by omega) (by omega) (fun h4 => ?_) (fun h4 => ?_)
      · skip
        have hkb : b ≠ k := fun e => by have := hsk.2.2.2 (by omega); subst e; omega
        exact word k K ⟨by omega, hk, hall, fun _ => Or.inl (by omega)⟩ hKo hKq hK2
      refine q_aload_n d_Tokens_next_154 rfl ?_
      refine q_aload_n d_Tokens_next_155 rfl ?_
      refine q_aload_n d_Tokens_next_156 rfl ?_
      refine j_getI (v := (cI (k : Int))) d_Tokens_next_157 fl_Tokens_37 hS.1 ⟨rfl, by decide⟩ hK2 ?_
      refine q_callV (ci := 5) (rc := 0) (rs := 0) (rest := [.ref o]) d_Tokens_next_160 ml_Tokens_56 ok_Tokens_byteAt rfl hS.1 (by decide) (c_Tokens_byteAt (d - 1) hS hVK (by omega)) rfl rfl (by omega) (Nat.le_of_ble_eq_true rfl) (kp_I ?_) kt_I
      refine q_callV (ci := 5) (rc := 0) (rs := 0) (rest := []) d_Tokens_next_163 ml_Tokens_63 ok_Tokens_isAlone rfl hS.1 (by decide) (c_Tokens_isAlone (d - 1) tk.1) rfl rfl (by omega) (Nat.le_of_ble_eq_true rfl) (kp_I ?_) kt_I
      refine j_ifb_ne (tgt := 182) d_Tokens_next_166 (by decide) (fun h5 => ?_) (fun h5 => ?_)
      · skip
        have hkb : b ≠ k := fun e => by subst e; exact h2 h5
        exact word k K ⟨by omega, hk, hall, fun _ => Or.inr h5⟩ hKo hKq hK2
      refine q_aload_n d_Tokens_next_169 rfl ?_
      refine q_dup d_Tokens_next_170 rfl ?_
      refine j_getI (v := (cI (k : Int))) d_Tokens_next_171 fl_Tokens_37 hS.1 ⟨rfl, by decide⟩ hK2 ?_
      refine j_iconst d_Tokens_next_174 ?_
      refine j_iadd d_Tokens_next_175 ?_
      refine q_putI d_Tokens_next_176 fl_Tokens_37 hS.1 ⟨rfl, by decide, rfl, rfl⟩ ?_
      refine q_goto (tgt := 130) d_Tokens_next_179 (by decide) ?_
      exact ih (k + 1) _ (by omega) (by omega) (by omega) (fun j h1 h2 => if q : j = k then (by subst q; exact ⟨by omega, h5⟩) else hall j h1 (by omega)) (fun k' hk' => by rw [up2_k _ _ _ hk']; exact hKo k' hk') (fun q hq => by rw [up2_row _ _ hq]; exact hKq q hq) (by rw [up2_s]; simp)
    refine Run.lv (lv' := [(0, .ref o), (1, .int (cI (t b : Int)))]) (by intro q hq; simp only [List.mem_cons, List.not_mem_nil, or_false] at hq ⊢; rcases hq with rfl | rfl <;> simp) ?_
    exact scan (N - b + 1) b J1 (by omega) (Nat.le_refl _) (by omega) (fun j h1 h2 => by omega) (fun _ _ => rfl) (fun _ _ => rfl) hJ12
  have skip : ∀ (f k : Nat) (J : M32), N - k < f → a ≤ k → k ≤ N → (∀ j, a ≤ j → j < k → t j ≤ 32) → (∀ k', k' ≠ 2 → J o k' = I o k') → (∀ q, q ≠ o → J q = I q) → J o 2 = cI k → Run m_Tokens_next d 0 0 0 [(0, .ref o)] [] J L R T Q := by
    intro f
    induction f with
    | zero => intro k J h; omega
    | succ f ih =>
    intro k J hf hak hk hall hJo hJq hJ2
    have hVJ : TxV J o N t := ⟨hN4, fun j hj => by rw [hJq _ (by omega)]; exact hV.2 j hj⟩
    refine q_aload_n d_Tokens_next_0 rfl ?_
    refine j_getI (v := (cI (k : Int))) d_Tokens_next_1 fl_Tokens_37 hS.1 ⟨rfl, by decide⟩ hJ2 ?_
    refine q_aload_n d_Tokens_next_4 rfl ?_
    refine j_getI (v := (cI (N : Int))) d_Tokens_next_5 fl_Tokens_33 hS.1 ⟨rfl, by decide⟩ (by rw [hJo 1 (by decide)]; exact hN) ?_
    refine j_icmp_ge (tgt := 37) d_Tokens_next_8 (by decide) (by omega) (by omega) (fun h1 => ?_) (fun h1 => ?_)
    · skip
      exact main k J ⟨hak, hk, hall, fun h => by omega⟩ hJo hJq hJ2
    have tk := hV.2 k (by omega)
    refine q_aload_n d_Tokens_next_11 rfl ?_
    refine q_aload_n d_Tokens_next_12 rfl ?_
    refine j_getI (v := (cI (k : Int))) d_Tokens_next_13 fl_Tokens_37 hS.1 ⟨rfl, by decide⟩ hJ2 ?_
    refine q_callV (ci := 5) (rc := 0) (rs := 0) (rest := []) d_Tokens_next_16 ml_Tokens_56 ok_Tokens_byteAt rfl hS.1 (by decide) (c_Tokens_byteAt (d - 1) hS hVJ (by omega)) rfl rfl (by omega) (Nat.le_of_ble_eq_true rfl) (kp_I ?_) kt_I
    refine j_bipush d_Tokens_next_19 (by decide) ?_
    refine j_icmp_gt (tgt := 37) d_Tokens_next_21 (by decide) (by omega) (by omega) (fun h2 => ?_) (fun h2 => ?_)
    · skip
      exact main k J ⟨hak, hk, hall, fun _ => by omega⟩ hJo hJq hJ2
    refine q_aload_n d_Tokens_next_24 rfl ?_
    refine q_dup d_Tokens_next_25 rfl ?_
    refine j_getI (v := (cI (k : Int))) d_Tokens_next_26 fl_Tokens_37 hS.1 ⟨rfl, by decide⟩ hJ2 ?_
    refine j_iconst d_Tokens_next_29 ?_
    refine j_iadd d_Tokens_next_30 ?_
    refine q_putI d_Tokens_next_31 fl_Tokens_37 hS.1 ⟨rfl, by decide, rfl, rfl⟩ ?_
    refine q_goto (tgt := 0) d_Tokens_next_34 (by decide) ?_
    exact ih (k + 1) _ (by omega) (by omega) (by omega) (fun j h1 h2 => if q : j = k then (by subst q; omega) else hall j h1 (by omega)) (fun k' hk' => by rw [up2_k _ _ _ hk']; exact hJo k' hk') (fun q hq => by rw [up2_row _ _ hq]; exact hJq q hq) (by rw [up2_s]; simp)
  exact skip (N - a + 1) a I (by omega) (Nat.le_refl _) haN (fun j h1 h2 => by omega) (fun _ _ => rfl) (fun _ _ => rfl) ha

