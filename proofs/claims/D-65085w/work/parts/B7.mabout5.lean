/-! ===== B7 WHAT IS TOLD OF A CONTRACT: the reference's about ===== -/
theorem d_Model_about_0 : decode m_Model_about.2.1 0 = .ok (.aload_n 0, 1) := by decide +kernel
theorem d_Model_about_1 : decode m_Model_about.2.1 1 = .ok (.iconst 3, 1) := by decide +kernel
theorem d_Model_about_2 : decode m_Model_about.2.1 2 = .ok (.iload_n 1, 1) := by decide +kernel
theorem d_Model_about_3 : decode m_Model_about.2.1 3 = .ok (.i2l, 1) := by decide +kernel
theorem d_Model_about_4 : decode m_Model_about.2.1 4 = .ok (.lconst 0, 1) := by decide +kernel
theorem d_Model_about_5 : decode m_Model_about.2.1 5 = .ok (.ldc2_w 689, 3) := by decide +kernel
theorem d_Model_about_8 : decode m_Model_about.2.1 8 = .ok (.invokestatic 407, 3) := by decide +kernel
theorem d_Model_about_11 : decode m_Model_about.2.1 11 = .ok (.iload_n 2, 1) := by decide +kernel
theorem d_Model_about_12 : decode m_Model_about.2.1 12 = .ok (.i2l, 1) := by decide +kernel
theorem d_Model_about_13 : decode m_Model_about.2.1 13 = .ok (.lconst 0, 1) := by decide +kernel
theorem d_Model_about_14 : decode m_Model_about.2.1 14 = .ok (.ldc2_w 745, 3) := by decide +kernel
theorem d_Model_about_17 : decode m_Model_about.2.1 17 = .ok (.invokestatic 407, 3) := by decide +kernel
theorem d_Model_about_20 : decode m_Model_about.2.1 20 = .ok (.iload_n 1, 1) := by decide +kernel
theorem d_Model_about_21 : decode m_Model_about.2.1 21 = .ok (.i2l, 1) := by decide +kernel
theorem d_Model_about_22 : decode m_Model_about.2.1 22 = .ok (.lconst 0, 1) := by decide +kernel
theorem d_Model_about_23 : decode m_Model_about.2.1 23 = .ok (.ldc2_w 689, 3) := by decide +kernel
theorem d_Model_about_26 : decode m_Model_about.2.1 26 = .ok (.invokestatic 407, 3) := by decide +kernel
theorem d_Model_about_29 : decode m_Model_about.2.1 29 = .ok (.ifCond .eq 16, 3) := by decide +kernel
theorem d_Model_about_32 : decode m_Model_about.2.1 32 = .ok (.aload_n 0, 1) := by decide +kernel
theorem d_Model_about_33 : decode m_Model_about.2.1 33 = .ok (.getfield 100, 3) := by decide +kernel
theorem d_Model_about_36 : decode m_Model_about.2.1 36 = .ok (.iload_n 1, 1) := by decide +kernel
theorem d_Model_about_37 : decode m_Model_about.2.1 37 = .ok (.baload, 1) := by decide +kernel
theorem d_Model_about_38 : decode m_Model_about.2.1 38 = .ok (.ifCond .eq 7, 3) := by decide +kernel
theorem d_Model_about_41 : decode m_Model_about.2.1 41 = .ok (.iconst 1, 1) := by decide +kernel
theorem d_Model_about_42 : decode m_Model_about.2.1 42 = .ok (.goto 4, 3) := by decide +kernel
theorem d_Model_about_45 : decode m_Model_about.2.1 45 = .ok (.iconst 0, 1) := by decide +kernel
theorem d_Model_about_46 : decode m_Model_about.2.1 46 = .ok (.invokevirtual 398, 3) := by decide +kernel
theorem d_Model_about_49 : decode m_Model_about.2.1 49 = .ok (.ifCond .ne 5, 3) := by decide +kernel
theorem d_Model_about_52 : decode m_Model_about.2.1 52 = .ok (.lconst 0, 1) := by decide +kernel
theorem d_Model_about_53 : decode m_Model_about.2.1 53 = .ok (.lreturn, 1) := by decide +kernel
theorem d_Model_about_54 : decode m_Model_about.2.1 54 = .ok (.aload_n 0, 1) := by decide +kernel
theorem d_Model_about_55 : decode m_Model_about.2.1 55 = .ok (.getfield 103, 3) := by decide +kernel
theorem d_Model_about_58 : decode m_Model_about.2.1 58 = .ok (.iload_n 1, 1) := by decide +kernel
theorem d_Model_about_59 : decode m_Model_about.2.1 59 = .ok (.iaload, 1) := by decide +kernel
theorem d_Model_about_60 : decode m_Model_about.2.1 60 = .ok (.istore_n 3, 1) := by decide +kernel
theorem d_Model_about_61 : decode m_Model_about.2.1 61 = .ok (.iload_n 3, 1) := by decide +kernel
theorem d_Model_about_62 : decode m_Model_about.2.1 62 = .ok (.aload_n 0, 1) := by decide +kernel
theorem d_Model_about_63 : decode m_Model_about.2.1 63 = .ok (.getfield 106, 3) := by decide +kernel
theorem d_Model_about_66 : decode m_Model_about.2.1 66 = .ok (.iload_n 1, 1) := by decide +kernel
theorem d_Model_about_67 : decode m_Model_about.2.1 67 = .ok (.iaload, 1) := by decide +kernel
theorem d_Model_about_68 : decode m_Model_about.2.1 68 = .ok (.iadd, 1) := by decide +kernel
theorem d_Model_about_69 : decode m_Model_about.2.1 69 = .ok (.istore 4, 2) := by decide +kernel
theorem d_Model_about_71 : decode m_Model_about.2.1 71 = .ok (.iload_n 2, 1) := by decide +kernel
theorem d_Model_about_72 : decode m_Model_about.2.1 72 = .ok (.iconst 1, 1) := by decide +kernel
theorem d_Model_about_73 : decode m_Model_about.2.1 73 = .ok (.if_icmp .ne 11, 3) := by decide +kernel
theorem d_Model_about_76 : decode m_Model_about.2.1 76 = .ok (.aload_n 0, 1) := by decide +kernel
theorem d_Model_about_77 : decode m_Model_about.2.1 77 = .ok (.getfield 106, 3) := by decide +kernel
theorem d_Model_about_80 : decode m_Model_about.2.1 80 = .ok (.iload_n 1, 1) := by decide +kernel
theorem d_Model_about_81 : decode m_Model_about.2.1 81 = .ok (.iaload, 1) := by decide +kernel
theorem d_Model_about_82 : decode m_Model_about.2.1 82 = .ok (.i2l, 1) := by decide +kernel
theorem d_Model_about_83 : decode m_Model_about.2.1 83 = .ok (.lreturn, 1) := by decide +kernel
theorem d_Model_about_84 : decode m_Model_about.2.1 84 = .ok (.iload_n 2, 1) := by decide +kernel
theorem d_Model_about_85 : decode m_Model_about.2.1 85 = .ok (.iconst 3, 1) := by decide +kernel
theorem d_Model_about_86 : decode m_Model_about.2.1 86 = .ok (.if_icmp .ne 12, 3) := by decide +kernel
theorem d_Model_about_89 : decode m_Model_about.2.1 89 = .ok (.aload_n 0, 1) := by decide +kernel
theorem d_Model_about_90 : decode m_Model_about.2.1 90 = .ok (.iload_n 3, 1) := by decide +kernel
theorem d_Model_about_91 : decode m_Model_about.2.1 91 = .ok (.iload 4, 2) := by decide +kernel
theorem d_Model_about_93 : decode m_Model_about.2.1 93 = .ok (.invokevirtual 747, 3) := by decide +kernel
theorem d_Model_about_96 : decode m_Model_about.2.1 96 = .ok (.i2l, 1) := by decide +kernel
theorem d_Model_about_97 : decode m_Model_about.2.1 97 = .ok (.lreturn, 1) := by decide +kernel
theorem d_Model_about_98 : decode m_Model_about.2.1 98 = .ok (.ldc2_w 438, 3) := by decide +kernel
theorem d_Model_about_101 : decode m_Model_about.2.1 101 = .ok (.lstore 5, 2) := by decide +kernel
theorem d_Model_about_103 : decode m_Model_about.2.1 103 = .ok (.aload_n 0, 1) := by decide +kernel
theorem d_Model_about_104 : decode m_Model_about.2.1 104 = .ok (.iconst 0, 1) := by decide +kernel
theorem d_Model_about_105 : decode m_Model_about.2.1 105 = .ok (.putfield 739, 3) := by decide +kernel
theorem d_Model_about_108 : decode m_Model_about.2.1 108 = .ok (.iload_n 3, 1) := by decide +kernel
theorem d_Model_about_109 : decode m_Model_about.2.1 109 = .ok (.istore 7, 2) := by decide +kernel
theorem d_Model_about_111 : decode m_Model_about.2.1 111 = .ok (.iload 7, 2) := by decide +kernel
theorem d_Model_about_113 : decode m_Model_about.2.1 113 = .ok (.iload 4, 2) := by decide +kernel
theorem d_Model_about_115 : decode m_Model_about.2.1 115 = .ok (.if_icmp .ge 176, 3) := by decide +kernel
theorem d_Model_about_118 : decode m_Model_about.2.1 118 = .ok (.aload_n 0, 1) := by decide +kernel
theorem d_Model_about_119 : decode m_Model_about.2.1 119 = .ok (.getfield 26, 3) := by decide +kernel
theorem d_Model_about_122 : decode m_Model_about.2.1 122 = .ok (.iload 7, 2) := by decide +kernel
theorem d_Model_about_124 : decode m_Model_about.2.1 124 = .ok (.iaload, 1) := by decide +kernel
theorem d_Model_about_125 : decode m_Model_about.2.1 125 = .ok (.iconst 5, 1) := by decide +kernel
theorem d_Model_about_126 : decode m_Model_about.2.1 126 = .ok (.if_icmp .ne 36, 3) := by decide +kernel
theorem d_Model_about_129 : decode m_Model_about.2.1 129 = .ok (.aload_n 0, 1) := by decide +kernel
theorem d_Model_about_130 : decode m_Model_about.2.1 130 = .ok (.getfield 57, 3) := by decide +kernel
theorem d_Model_about_133 : decode m_Model_about.2.1 133 = .ok (.iload 7, 2) := by decide +kernel
theorem d_Model_about_135 : decode m_Model_about.2.1 135 = .ok (.baload, 1) := by decide +kernel
theorem d_Model_about_136 : decode m_Model_about.2.1 136 = .ok (.ifCond .ne 26, 3) := by decide +kernel
theorem d_Model_about_139 : decode m_Model_about.2.1 139 = .ok (.aload_n 0, 1) := by decide +kernel
theorem d_Model_about_140 : decode m_Model_about.2.1 140 = .ok (.getfield 54, 3) := by decide +kernel
theorem d_Model_about_143 : decode m_Model_about.2.1 143 = .ok (.iload 7, 2) := by decide +kernel
theorem d_Model_about_145 : decode m_Model_about.2.1 145 = .ok (.laload, 1) := by decide +kernel
theorem d_Model_about_146 : decode m_Model_about.2.1 146 = .ok (.lload 5, 2) := by decide +kernel
theorem d_Model_about_148 : decode m_Model_about.2.1 148 = .ok (.lcmp, 1) := by decide +kernel
theorem d_Model_about_149 : decode m_Model_about.2.1 149 = .ok (.ifCond .le 13, 3) := by decide +kernel
theorem d_Model_about_152 : decode m_Model_about.2.1 152 = .ok (.aload_n 0, 1) := by decide +kernel
theorem d_Model_about_153 : decode m_Model_about.2.1 153 = .ok (.getfield 54, 3) := by decide +kernel
theorem d_Model_about_156 : decode m_Model_about.2.1 156 = .ok (.iload 7, 2) := by decide +kernel
theorem d_Model_about_158 : decode m_Model_about.2.1 158 = .ok (.laload, 1) := by decide +kernel
theorem d_Model_about_159 : decode m_Model_about.2.1 159 = .ok (.goto 5, 3) := by decide +kernel
theorem d_Model_about_162 : decode m_Model_about.2.1 162 = .ok (.lload 5, 2) := by decide +kernel
theorem d_Model_about_164 : decode m_Model_about.2.1 164 = .ok (.lstore 5, 2) := by decide +kernel
theorem d_Model_about_166 : decode m_Model_about.2.1 166 = .ok (.iload_n 2, 1) := by decide +kernel
theorem d_Model_about_167 : decode m_Model_about.2.1 167 = .ok (.iconst 2, 1) := by decide +kernel
theorem d_Model_about_168 : decode m_Model_about.2.1 168 = .ok (.if_icmp .ne 48, 3) := by decide +kernel
theorem d_Model_about_171 : decode m_Model_about.2.1 171 = .ok (.aload_n 0, 1) := by decide +kernel
theorem d_Model_about_172 : decode m_Model_about.2.1 172 = .ok (.getfield 26, 3) := by decide +kernel
theorem d_Model_about_175 : decode m_Model_about.2.1 175 = .ok (.iload 7, 2) := by decide +kernel
theorem d_Model_about_177 : decode m_Model_about.2.1 177 = .ok (.iaload, 1) := by decide +kernel
theorem d_Model_about_178 : decode m_Model_about.2.1 178 = .ok (.bipush 21, 2) := by decide +kernel
theorem d_Model_about_180 : decode m_Model_about.2.1 180 = .ok (.if_icmp .eq 24, 3) := by decide +kernel
theorem d_Model_about_183 : decode m_Model_about.2.1 183 = .ok (.aload_n 0, 1) := by decide +kernel
theorem d_Model_about_184 : decode m_Model_about.2.1 184 = .ok (.getfield 26, 3) := by decide +kernel
theorem d_Model_about_187 : decode m_Model_about.2.1 187 = .ok (.iload 7, 2) := by decide +kernel
theorem d_Model_about_189 : decode m_Model_about.2.1 189 = .ok (.iaload, 1) := by decide +kernel
theorem d_Model_about_190 : decode m_Model_about.2.1 190 = .ok (.iconst 5, 1) := by decide +kernel
theorem d_Model_about_191 : decode m_Model_about.2.1 191 = .ok (.if_icmp .ne 25, 3) := by decide +kernel
theorem d_Model_about_194 : decode m_Model_about.2.1 194 = .ok (.aload_n 0, 1) := by decide +kernel
theorem d_Model_about_195 : decode m_Model_about.2.1 195 = .ok (.getfield 57, 3) := by decide +kernel
theorem d_Model_about_198 : decode m_Model_about.2.1 198 = .ok (.iload 7, 2) := by decide +kernel
theorem d_Model_about_200 : decode m_Model_about.2.1 200 = .ok (.baload, 1) := by decide +kernel
theorem d_Model_about_201 : decode m_Model_about.2.1 201 = .ok (.ifCond .eq 15, 3) := by decide +kernel
theorem d_Model_about_204 : decode m_Model_about.2.1 204 = .ok (.aload_n 0, 1) := by decide +kernel
theorem d_Model_about_205 : decode m_Model_about.2.1 205 = .ok (.aload_n 0, 1) := by decide +kernel
theorem d_Model_about_206 : decode m_Model_about.2.1 206 = .ok (.getfield 29, 3) := by decide +kernel
theorem d_Model_about_209 : decode m_Model_about.2.1 209 = .ok (.iload 7, 2) := by decide +kernel
theorem d_Model_about_211 : decode m_Model_about.2.1 211 = .ok (.laload, 1) := by decide +kernel
theorem d_Model_about_212 : decode m_Model_about.2.1 212 = .ok (.lconst 0, 1) := by decide +kernel
theorem d_Model_about_213 : decode m_Model_about.2.1 213 = .ok (.invokevirtual 750, 3) := by decide +kernel
theorem d_Model_about_216 : decode m_Model_about.2.1 216 = .ok (.iload_n 2, 1) := by decide +kernel
theorem d_Model_about_217 : decode m_Model_about.2.1 217 = .ok (.iconst 4, 1) := by decide +kernel
theorem d_Model_about_218 : decode m_Model_about.2.1 218 = .ok (.if_icmp .ne 33, 3) := by decide +kernel
theorem d_Model_about_221 : decode m_Model_about.2.1 221 = .ok (.aload_n 0, 1) := by decide +kernel
theorem d_Model_about_222 : decode m_Model_about.2.1 222 = .ok (.getfield 26, 3) := by decide +kernel
theorem d_Model_about_225 : decode m_Model_about.2.1 225 = .ok (.iload 7, 2) := by decide +kernel
theorem d_Model_about_227 : decode m_Model_about.2.1 227 = .ok (.iaload, 1) := by decide +kernel
theorem d_Model_about_228 : decode m_Model_about.2.1 228 = .ok (.bipush 8, 2) := by decide +kernel
theorem d_Model_about_230 : decode m_Model_about.2.1 230 = .ok (.if_icmp .ne 21, 3) := by decide +kernel
theorem d_Model_about_233 : decode m_Model_about.2.1 233 = .ok (.aload_n 0, 1) := by decide +kernel
theorem d_Model_about_234 : decode m_Model_about.2.1 234 = .ok (.aload_n 0, 1) := by decide +kernel
theorem d_Model_about_235 : decode m_Model_about.2.1 235 = .ok (.getfield 29, 3) := by decide +kernel
theorem d_Model_about_238 : decode m_Model_about.2.1 238 = .ok (.iload 7, 2) := by decide +kernel
theorem d_Model_about_240 : decode m_Model_about.2.1 240 = .ok (.laload, 1) := by decide +kernel
theorem d_Model_about_241 : decode m_Model_about.2.1 241 = .ok (.aload_n 0, 1) := by decide +kernel
theorem d_Model_about_242 : decode m_Model_about.2.1 242 = .ok (.getfield 36, 3) := by decide +kernel
theorem d_Model_about_245 : decode m_Model_about.2.1 245 = .ok (.iload 7, 2) := by decide +kernel
theorem d_Model_about_247 : decode m_Model_about.2.1 247 = .ok (.laload, 1) := by decide +kernel
theorem d_Model_about_248 : decode m_Model_about.2.1 248 = .ok (.invokevirtual 750, 3) := by decide +kernel
theorem d_Model_about_251 : decode m_Model_about.2.1 251 = .ok (.iload_n 2, 1) := by decide +kernel
theorem d_Model_about_252 : decode m_Model_about.2.1 252 = .ok (.iconst 4, 1) := by decide +kernel
theorem d_Model_about_253 : decode m_Model_about.2.1 253 = .ok (.if_icmp .ne 32, 3) := by decide +kernel
theorem d_Model_about_256 : decode m_Model_about.2.1 256 = .ok (.aload_n 0, 1) := by decide +kernel
theorem d_Model_about_257 : decode m_Model_about.2.1 257 = .ok (.getfield 26, 3) := by decide +kernel
theorem d_Model_about_260 : decode m_Model_about.2.1 260 = .ok (.iload 7, 2) := by decide +kernel
theorem d_Model_about_262 : decode m_Model_about.2.1 262 = .ok (.iaload, 1) := by decide +kernel
theorem d_Model_about_263 : decode m_Model_about.2.1 263 = .ok (.iconst 3, 1) := by decide +kernel
theorem d_Model_about_264 : decode m_Model_about.2.1 264 = .ok (.if_icmp .ne 21, 3) := by decide +kernel
theorem d_Model_about_267 : decode m_Model_about.2.1 267 = .ok (.aload_n 0, 1) := by decide +kernel
theorem d_Model_about_268 : decode m_Model_about.2.1 268 = .ok (.aload_n 0, 1) := by decide +kernel
theorem d_Model_about_269 : decode m_Model_about.2.1 269 = .ok (.getfield 33, 3) := by decide +kernel
theorem d_Model_about_272 : decode m_Model_about.2.1 272 = .ok (.iload 7, 2) := by decide +kernel
theorem d_Model_about_274 : decode m_Model_about.2.1 274 = .ok (.laload, 1) := by decide +kernel
theorem d_Model_about_275 : decode m_Model_about.2.1 275 = .ok (.aload_n 0, 1) := by decide +kernel
theorem d_Model_about_276 : decode m_Model_about.2.1 276 = .ok (.getfield 36, 3) := by decide +kernel
theorem d_Model_about_279 : decode m_Model_about.2.1 279 = .ok (.iload 7, 2) := by decide +kernel
theorem d_Model_about_281 : decode m_Model_about.2.1 281 = .ok (.laload, 1) := by decide +kernel
theorem d_Model_about_282 : decode m_Model_about.2.1 282 = .ok (.invokevirtual 750, 3) := by decide +kernel
theorem d_Model_about_285 : decode m_Model_about.2.1 285 = .ok (.iinc 7 1, 3) := by decide +kernel
theorem d_Model_about_288 : decode m_Model_about.2.1 288 = .ok (.goto (-177), 3) := by decide +kernel
theorem d_Model_about_291 : decode m_Model_about.2.1 291 = .ok (.iload_n 2, 1) := by decide +kernel
theorem d_Model_about_292 : decode m_Model_about.2.1 292 = .ok (.ifCond .ne 8, 3) := by decide +kernel
theorem d_Model_about_295 : decode m_Model_about.2.1 295 = .ok (.lload 5, 2) := by decide +kernel
theorem d_Model_about_297 : decode m_Model_about.2.1 297 = .ok (.goto 8, 3) := by decide +kernel
theorem d_Model_about_300 : decode m_Model_about.2.1 300 = .ok (.aload_n 0, 1) := by decide +kernel
theorem d_Model_about_301 : decode m_Model_about.2.1 301 = .ok (.getfield 739, 3) := by decide +kernel
theorem d_Model_about_304 : decode m_Model_about.2.1 304 = .ok (.i2l, 1) := by decide +kernel
theorem d_Model_about_305 : decode m_Model_about.2.1 305 = .ok (.lreturn, 1) := by decide +kernel
section
variable {M tp pt d LO HI : Nat} {ρ : Nat → Row} {V : Nat → Int} {I : M32} {L : M64} {R : MR} {T : SH}
/-- what is told: by number -/
def abV (ρ : Nat → Row) (V : Nat → Int) (f n k w : Nat) : Int := if w = 0 then gtF ρ V n k else if w = 1 then (k : Int) else if w = 2 then (cntF (fun i => isPar (ρ i)) (parK ρ) n k : Nat) else if w = 3 then (whF ρ f (n : Int) : Nat) else (cntF (fun i => isAcc (ρ i)) (accK ρ) n k : Nat)
/-- what telling may change -/
def FrA (M : Nat) (I : M32) (L : M64) (I' : M32) (L' : M64) : Prop := (∀ a, a ≠ M → a ≠ M + 37 → I' a = I a) ∧ (∀ k, k ≠ 0 → k ≠ 58 → I' M k = I M k) ∧ ∀ a, a ≠ M + 35 → a ≠ M + 36 → L' a = L a
theorem seenF_s {A : Nat → Prop} [DecidablePred A] {K : Nat → Int × Int} {n k : Nat} : seenF A K n (k + 1) = if A (n + k) then (if K (n + k) ∈ seenF A K n k then seenF A K n k else seenF A K n k ++ [K (n + k)]) else seenF A K n k := by
  show (if A (n + k) ∧ ¬ K (n + k) ∈ seenF A K n k then seenF A K n k ++ [K (n + k)] else seenF A K n k) = _
  by_cases h : A (n + k)
  · rw [if_pos h]
    by_cases h2 : K (n + k) ∈ seenF A K n k
    · rw [if_pos h2, if_neg (fun q => q.2 h2)]
    · rw [if_neg h2, if_pos ⟨h, h2⟩]
  · rw [if_neg h, if_neg (fun q => h q.1)]
theorem ptyF_v {ρ : Nat → Row} {V : Nat → Int} {mh i : Nat} (h : NdQ ρ V mh i) : 0 ≤ ptyF (ρ i) ∧ ptyF (ρ i) < 9223372036854775808 := by
  unfold ptyF
  split
  · exact h.1.2.1.v
  · exact h.1.1.v
theorem kdM_k {k h : Int} (hk : 0 ≤ k ∧ k ≤ 102) (hr : k = 6 → h = 7 ∨ h = 8 ∨ h = 9) (hs : ∀ j : Int, k = j → j < 34 ∨ j = 100 ∨ j = 102) : (kdM k h = 21 ↔ k = 102) ∧ (kdM k h = 8 ↔ k = 6 ∧ h = 7) ∧ (kdM k h = 3 ↔ k = 1 ∧ h = 1) := by
  have := hs k rfl
  unfold kdM
  (repeat' split) <;> omega
theorem c_Model_about {C : Prop} [Decidable C] {H : Nat → Prop} [DecidablePred H] {f s m m' mh : Nat} {z w : Int} {n cn : Nat → Nat} (d : Nat) (hd : 3 ≤ d) (hM : MdlS M R T) (hz : inI z) (hw : inI w) (hC : I M 173 = cI (bI C)) (hH : ∀ k, k < 16 → I (M + 30) k = cI (bI (H k)) ∧ I (M + 31) k = cI (n k : Int) ∧ I (M + 32) k = cI (cn k : Int)) (hr : ∀ k, k < 16 → H k → LO ≤ n k ∧ n k + cn k ≤ HI ∧ cn k < 1000 ∧ Wf ρ V f s (n k) m (n k + cn k) m' ∧ ∀ i, n k ≤ i → i < n k + cn k → RowM I L M tp pt V i (ρ i) ∧ NdQ ρ V mh i ∧ ((ρ i).getD 0 0 < 34 ∨ (ρ i).getD 0 0 = 100 ∨ (ρ i).getD 0 0 = 102)) (hHI : HI ≤ 5100) (hf : f ≤ 1000) :
    Call m_Model_about y_Model_about d 0 0 [.ref M, .int (cI z), .int (cI w)] I L R T (rL fun r I' L' R' T' => (r = cL (if mayF C 3 (0 ≤ z ∧ z ≤ 15) (0 ≤ w ∧ w ≤ 4) ((0 ≤ z ∧ z ≤ 15) ∧ H z.toNat) = 0 then abV ρ V f (n z.toNat) (cn z.toNat) w.toNat else 0) ∧ I' M 0 = cI (mayF C 3 (0 ≤ z ∧ z ≤ 15) (0 ≤ w ∧ w ≤ 4) ((0 ≤ z ∧ z ≤ 15) ∧ H z.toNat) : Nat) ∧ FrA M I L I' L') ∧ R' = R ∧ T' = T) := by
  refine Call.ofRun (by decide) ⟨rfl, rfl⟩ (Nat.le_of_ble_eq_true rfl) ?_
  refine Run.gen fun Q hQ => ?_
  refine q_aload_n d_Model_about_0 rfl ?_
  refine j_iconst d_Model_about_1 ?_
  refine q_iload_n d_Model_about_2 rfl ?_
  refine j_i2l d_Model_about_3 (by omega) ?_
  refine j_lconst (z := 0) d_Model_about_4 (by decide) ?_
  refine j_ldc2 (z := 15) d_Model_about_5 (inT11 79 rfl) (by decide) ?_
  refine q_callS (rc := 0) (rs := 0) (rest := [.int (cI 3), .ref M]) d_Model_about_8 ml_Model_407 ok_Model_isIn (c_Model_isIn (d - 1) (v := z) (a := 0) (b := 15) (by omega) (by decide) (by decide)) rfl rfl (by omega) (Nat.le_of_ble_eq_true rfl) (kp_I ?_) kt_I
  refine q_iload_n d_Model_about_11 rfl ?_
  refine j_i2l d_Model_about_12 (by omega) ?_
  refine j_lconst (z := 0) d_Model_about_13 (by decide) ?_
  refine j_ldc2 (z := 4) d_Model_about_14 (inT12 109 rfl) (by decide) ?_
  refine q_callS (rc := 0) (rs := 0) (rest := [.int (cI (bI (0 ≤ z ∧ z ≤ 15))), .int (cI 3), .ref M]) d_Model_about_17 ml_Model_407 ok_Model_isIn (c_Model_isIn (d - 1) (v := w) (a := 0) (b := 4) (by omega) (by decide) (by decide)) rfl rfl (by omega) (Nat.le_of_ble_eq_true rfl) (kp_I ?_) kt_I
  refine q_iload_n d_Model_about_20 rfl ?_
  refine j_i2l d_Model_about_21 (by omega) ?_
  refine j_lconst (z := 0) d_Model_about_22 (by decide) ?_
  refine j_ldc2 (z := 15) d_Model_about_23 (inT11 79 rfl) (by decide) ?_
  refine q_callS (rc := 0) (rs := 0) (rest := [.int (cI (bI (0 ≤ w ∧ w ≤ 4))), .int (cI (bI (0 ≤ z ∧ z ≤ 15))), .int (cI 3), .ref M]) d_Model_about_26 ml_Model_407 ok_Model_isIn (c_Model_isIn (d - 1) (v := z) (a := 0) (b := 15) (by omega) (by decide) (by decide)) rfl rfl (by omega) (Nat.le_of_ble_eq_true rfl) (kp_I ?_) kt_I
  have t46 : ∀ (u : Int), u = bI ((0 ≤ z ∧ z ≤ 15) ∧ H z.toNat) → Run m_Model_about d 0 0 46 [(0, .ref M), (1, .int (cI z)), (2, .int (cI w))] [.int (cI u), .int (cI (bI (0 ≤ w ∧ w ≤ 4))), .int (cI (bI (0 ≤ z ∧ z ≤ 15))), .int (cI 3), .ref M] I L R T Q := by
    intro u hu
    rw [hu]
    obtain ⟨cd, hcd⟩ : ∃ cd, cd = mayF C 3 (0 ≤ z ∧ z ≤ 15) (0 ≤ w ∧ w ≤ 4) ((0 ≤ z ∧ z ≤ 15) ∧ H z.toNat) := ⟨_, rfl⟩
    have hcm := c_Model_may (L := L) (d - 1) (p := 3) (a := 0 ≤ z ∧ z ≤ 15) (b := 0 ≤ w ∧ w ≤ 4) (c := (0 ≤ z ∧ z ≤ 15) ∧ H z.toNat) hM (by decide) hC
    rw [← hcd] at hcm hQ
    refine q_callV (ci := 17) (rc := 0) (rs := 0) (rest := []) d_Model_about_46 ml_Model_398 ok_Model_may rfl hM.1 (by decide) (hcm) rfl rfl (by omega) (Nat.le_of_ble_eq_true rfl) (kp_I ?_) kt_I
    generalize hI1 : (up2 I M 0 (cI (cd : Int))) = I1
    have fa : ∀ a, a ≠ M → I1 a = I a := fun a e => by rw [← hI1, up2_row _ _ e]
    have fk : ∀ k, k ≠ 0 → I1 M k = I M k := fun k e => by rw [← hI1, up2_k _ _ _ e]
    have i0 : I1 M 0 = cI (cd : Int) := by rw [← hI1, up2_s]
    by_cases h0 : cd = 0
    rotate_left
    · refine j_ifb_ne (tgt := 54) d_Model_about_49 (by decide) (fun hx => by exfalso; omega) (fun hx => ?_)
      refine j_lconst (z := 0) d_Model_about_52 (by decide) ?_
      refine q_lreturn d_Model_about_53 rfl ?_
      refine hQ _ _ _ _ _ ?_
      refine ⟨_, rfl, ⟨by rw [if_neg h0], i0, ⟨fun a e _ => fa a e, fun k e _ => fk k e, fun _ _ _ => rfl⟩⟩, rfl, rfl⟩
    rw [if_pos h0] at hQ
    have hall : (0 ≤ w ∧ w ≤ 4) ∧ (0 ≤ z ∧ z ≤ 15) ∧ H z.toNat := by
      unfold mayF at hcd
      by_cases q0 : C
      · rw [if_pos q0] at hcd; omega
      · rw [if_neg q0] at hcd
        by_cases q1 : 0 ≤ z ∧ z ≤ 15
        · rw [if_neg (fun q => q q1)] at hcd
          by_cases q2 : 0 ≤ w ∧ w ≤ 4
          · rw [if_neg (fun q => q q2)] at hcd
            by_cases q3 : (0 ≤ z ∧ z ≤ 15) ∧ H z.toNat
            · exact ⟨q2, q3⟩
            · rw [if_pos q3] at hcd; omega
          · rw [if_pos q2] at hcd; omega
        · rw [if_pos q1] at hcd; omega
    obtain ⟨hw4, hz15, hHz⟩ := hall
    obtain ⟨k, hk⟩ : ∃ k : Nat, z = (k : Int) := ⟨z.toNat, by omega⟩
    obtain ⟨wn, hwn⟩ : ∃ wn : Nat, w = (wn : Int) := ⟨w.toNat, by omega⟩
    rw [hk, Int.toNat_natCast] at hHz
    simp only [hk, hwn, Int.toNat_natCast] at hQ
    obtain ⟨-, hH2, hH3⟩ := hH k (by omega)
    obtain ⟨r1, r2, r3, r4, r5⟩ := hr k (by omega) hHz
    obtain ⟨nk, hnk⟩ : ∃ nk, nk = n k := ⟨_, rfl⟩
    obtain ⟨ck, hck⟩ : ∃ ck, ck = cn k := ⟨_, rfl⟩
    rw [← hnk, ← hck] at hQ r2 r4 r5
    rw [← hnk] at hH2 r1
    rw [← hck] at hH3 r3
    have hrI : ∀ J, (∀ a, a ≠ M → a ≠ M + 37 → J a = I a) → ∀ LL : M64, (∀ a, a ≠ M + 35 → a ≠ M + 36 → LL a = L a) → ∀ i, nk ≤ i → i < nk + ck → RowM J LL M tp pt V i (ρ i) := fun J hJ LL hL i i1 i2 => (r5 i i1 i2).1.fx (fun a h1 h2 => by rw [hJ a (by omega) (by omega)]) (fun a h1 h2 => by rw [hL a (by omega) (by omega)]) (fun k _ => by rw [hJ _ (by omega) (by omega)]) (fun k _ => ⟨by rw [hJ _ (by omega) (by omega)], by rw [hJ _ (by omega) (by omega)]⟩) (Nat.le_refl _) (Nat.le_refl _)
    subst hk hwn
    refine j_ifb_ne (tgt := 54) d_Model_about_49 (by decide) (fun hx => ?_) (fun hx => by exfalso; omega)
    refine q_aload_n d_Model_about_54 rfl ?_
    refine q_getR d_Model_about_55 fl_Model_103 hM.1 ⟨rfl, by decide⟩ (mR51 hM) ?_
    refine q_iload_n d_Model_about_58 rfl ?_
    refine j_iald (j := k) (v := (cI (nk : Int))) d_Model_about_59 (mT51 hM) (mN51 hM) (by omega) (by omega) (by omega) (by rw [fa _ (by omega)]; exact hH2) ?_
    refine q_istore_n (lv' := [(3, .int (cI (nk : Int))), (0, .ref M), (1, .int (cI (k : Int))), (2, .int (cI (wn : Int)))]) d_Model_about_60 (by decide) rfl ?_
    refine q_iload_n d_Model_about_61 rfl ?_
    refine q_aload_n d_Model_about_62 rfl ?_
    refine q_getR d_Model_about_63 fl_Model_106 hM.1 ⟨rfl, by decide⟩ (mR52 hM) ?_
    refine q_iload_n d_Model_about_66 rfl ?_
    refine j_iald (j := k) (v := (cI (ck : Int))) d_Model_about_67 (mT52 hM) (mN52 hM) (by omega) (by omega) (by omega) (by rw [fa _ (by omega)]; exact hH3) ?_
    refine j_iadd d_Model_about_68 ?_
    refine q_istore (lv' := [(4, .int (cI ((nk : Int) + (ck : Int)))), (3, .int (cI (nk : Int))), (0, .ref M), (1, .int (cI (k : Int))), (2, .int (cI (wn : Int)))]) d_Model_about_69 (by decide) rfl ?_
    refine q_iload_n d_Model_about_71 rfl ?_
    refine j_iconst d_Model_about_72 ?_
    by_cases w1 : wn = 1
    · refine j_icmp_ne (tgt := 84) d_Model_about_73 (by decide) (by omega) (by omega) (fun hx => by exfalso; omega) (fun hx => ?_)
      refine q_aload_n d_Model_about_76 rfl ?_
      refine q_getR d_Model_about_77 fl_Model_106 hM.1 ⟨rfl, by decide⟩ (mR52 hM) ?_
      refine q_iload_n d_Model_about_80 rfl ?_
      refine j_iald (j := k) (v := (cI (ck : Int))) d_Model_about_81 (mT52 hM) (mN52 hM) (by omega) (by omega) (by omega) (by rw [fa _ (by omega)]; exact hH3) ?_
      refine j_i2l d_Model_about_82 (by omega) ?_
      refine q_lreturn d_Model_about_83 rfl ?_
      refine hQ _ _ _ _ _ ?_
      refine ⟨_, rfl, ⟨?_, i0, ⟨fun a e _ => fa a e, fun k e _ => fk k e, fun _ _ _ => rfl⟩⟩, rfl, rfl⟩
      unfold abV; rw [w1, if_neg (by decide), if_pos rfl]
    refine j_icmp_ne (tgt := 84) d_Model_about_73 (by decide) (by omega) (by omega) (fun hx => ?_) (fun hx => by exfalso; omega)
    refine q_iload_n d_Model_about_84 rfl ?_
    refine j_iconst d_Model_about_85 ?_
    by_cases w3 : wn = 3
    · refine j_icmp_ne (tgt := 98) d_Model_about_86 (by decide) (by omega) (by omega) (fun hx => by exfalso; omega) (fun hx => ?_)
      refine q_aload_n d_Model_about_89 rfl ?_
      refine q_iload_n d_Model_about_90 rfl ?_
      refine q_iload d_Model_about_91 rfl ?_
      rw [show (nk : Int) + (ck : Int) = ((nk + ck : Nat) : Int) by omega]
      refine q_callV (ci := 17) (rc := 0) (rs := 0) (rest := []) d_Model_about_93 ml_Model_747 ok_Model_mostWhens rfl hM.1 (by decide) (c_Model_mostWhens (LO := nk) (HI := nk + ck) (d - 1) (by omega) hM (fun i i1 i2 => ⟨hrI I1 (fun a e _ => fa a e) L (fun _ _ _ => rfl) i i1 i2, (r5 i i1 i2).2.1.2.1⟩) (by omega) r4 (Nat.le_refl _) (Nat.le_refl _) hf) rfl rfl (by omega) (Nat.le_of_ble_eq_true rfl) (kr_I (fun r I2 L2 R2 T2 h2 => ?_)) kt_I
      obtain ⟨e1, f2, rfl, rfl, rfl⟩ := h2
      have hwl := whF_le ρ f (nk : Int)
      rw [e1]
      refine j_i2l d_Model_about_96 (by omega) ?_
      refine q_lreturn d_Model_about_97 rfl ?_
      refine hQ _ _ _ _ _ ?_
      refine ⟨_, rfl, ⟨?_, by rw [f2 _ (by omega)]; exact i0, ⟨fun a e e2 => by rw [f2 _ e2, fa a e], fun k e _ => by rw [f2 _ (by omega), fk k e], fun _ _ _ => rfl⟩⟩, rfl, rfl⟩
      unfold abV; rw [w3, if_neg (by decide), if_neg (by decide), if_neg (by decide), if_pos rfl]
    refine j_icmp_ne (tgt := 98) d_Model_about_86 (by decide) (by omega) (by omega) (fun hx => ?_) (fun hx => by exfalso; omega)
    refine j_ldc2 (z := (-1)) d_Model_about_98 (inT11 221 rfl) (by decide) ?_
    refine q_lstore (lv' := [(5, .long (cL (-1))), (4, .int (cI ((nk : Int) + (ck : Int)))), (3, .int (cI (nk : Int))), (0, .ref M), (1, .int (cI (k : Int))), (2, .int (cI (wn : Int)))]) d_Model_about_101 (by decide) rfl ?_
    refine q_aload_n d_Model_about_103 rfl ?_
    refine j_iconst d_Model_about_104 ?_
    refine q_putI d_Model_about_105 fl_Model_739 hM.1 ⟨rfl, by decide, rfl, rfl⟩ ?_
    refine q_iload_n d_Model_about_108 rfl ?_
    refine q_istore (lv' := [(7, .int (cI (nk : Int))), (5, .long (cL (-1))), (4, .int (cI ((nk : Int) + (ck : Int)))), (3, .int (cI (nk : Int))), (0, .ref M), (1, .int (cI (k : Int))), (2, .int (cI (wn : Int)))]) d_Model_about_109 (by decide) rfl ?_
    generalize hI2 : (up2 I1 M 58 (cI 0)) = I2
    rw [show (nk : Int) + (ck : Int) = ((nk + ck : Nat) : Int) by omega]
    have fa2 : ∀ a, a ≠ M → I2 a = I a := fun a e => by rw [← hI2, up2_row _ _ e, fa a e]
    have i02 : I2 M 0 = cI (cd : Int) := by rw [← hI2, up2_k _ _ _ (by decide)]; exact i0
    have fk2 : ∀ k, k ≠ 0 → k ≠ 58 → I2 M k = I M k := fun k e e2 => by rw [← hI2, up2_k _ _ _ e2, fk k e]
    have s58 : I2 M 58 = cI 0 := by rw [← hI2, up2_s]
    obtain ⟨slF, hslF⟩ : ∃ slF : Nat → List (Int × Int), slF = fun j => if wn = 2 then seenF (fun i => isPar (ρ i)) (parK ρ) nk j else if wn = 4 then seenF (fun i => isAcc (ρ i)) (accK ρ) nk j else [] := ⟨_, rfl⟩
    have hsp : ∀ j, wn = 2 → slF j = seenF (fun i => isPar (ρ i)) (parK ρ) nk j := fun j e => by rw [hslF]; dsimp only; rw [if_pos e]
    have hsa : ∀ j, wn = 4 → slF j = seenF (fun i => isAcc (ρ i)) (accK ρ) nk j := fun j e => by rw [hslF]; dsimp only; rw [if_neg (by omega), if_pos e]
    have hsl0 : slF 0 = [] := by rw [hslF]; dsimp only; (repeat' split) <;> rfl
    have hsll : ∀ j, (slF j).length ≤ j := fun j => by
      rw [hslF]; dsimp only
      split
      · rw [seenF_len]; exact cntF_le _ _ _ _
      · split
        · rw [seenF_len]; exact cntF_le _ _ _ _
        · exact Nat.zero_le _
    have loop : ∀ (fl j i : Nat) (g : Int) (J : M32) (LL : M64), i = nk + j → i + fl = nk + ck → g = gtF ρ V nk j → SeenV M (slF j) J LL → FrS M I2 L J LL → Run m_Model_about d 0 0 111 [(0, .ref M), (1, .int (cI (k : Int))), (2, .int (cI (wn : Int))), (3, .int (cI (nk : Int))), (4, .int (cI (((nk + ck : Nat) : Int)))), (5, .long (cL g)), (7, .int (cI (i : Int)))] [] J LL R T Q := by
      intro fl
      induction fl with
      | zero =>
        intro j i g J LL hi1 hi2 hg hS hF
        obtain rfl : j = ck := by omega
        have hl := hsll j
        have hfin : FrA M I L J LL := ⟨fun a e _ => by rw [hF.1 a e, fa2 a e], fun k e e2 => by rw [hF.2.1 k e2, fk2 k e e2], fun a e1 e2 => hF.2.2 a e1 e2⟩
        have hj0 : J M 0 = cI (cd : Int) := by rw [hF.2.1 _ (by decide)]; exact i02
        refine q_iload d_Model_about_111 rfl ?_
        refine q_iload d_Model_about_113 rfl ?_
        refine j_icmp_ge (tgt := 291) d_Model_about_115 (by decide) (by omega) (by omega) (fun hx => ?_) (fun hx => by exfalso; omega)
        refine q_iload_n d_Model_about_291 rfl ?_
        by_cases w0 : wn = 0
        · refine j_if_ne (tgt := 300) d_Model_about_292 (by decide) (by omega) (fun hx => by exfalso; omega) (fun hx => ?_)
          refine q_lload d_Model_about_295 rfl ?_
          refine q_goto (tgt := 305) d_Model_about_297 (by decide) ?_
          refine q_lreturn d_Model_about_305 rfl ?_
          refine hQ _ _ _ _ _ ?_
          refine ⟨_, rfl, ⟨?_, hj0, hfin⟩, rfl, rfl⟩
          unfold abV; rw [w0, if_pos rfl, hg]
        refine j_if_ne (tgt := 300) d_Model_about_292 (by decide) (by omega) (fun hx => ?_) (fun hx => by exfalso; omega)
        refine q_aload_n d_Model_about_300 rfl ?_
        refine j_getI (v := (cI ((((slF j).length : Nat) : Int)))) d_Model_about_301 fl_Model_739 hM.1 ⟨rfl, by decide⟩ hS.1 ?_
        refine j_i2l d_Model_about_304 (by omega) ?_
        refine q_lreturn d_Model_about_305 rfl ?_
        refine hQ _ _ _ _ _ ?_
        refine ⟨_, rfl, ⟨?_, hj0, hfin⟩, rfl, rfl⟩
        unfold abV
        rw [if_neg w0, if_neg w1, if_neg w3, hslF]
        dsimp only
        by_cases w2 : wn = 2
        · rw [if_pos w2, if_pos w2, seenF_len]
        · rw [if_neg w2, if_neg w2, if_pos (by omega), seenF_len]
      | succ fl ih =>
        intro j i g J LL hi1 hi2 hg hS hF
        obtain ⟨-, hq, hq2⟩ := r5 i (by omega) (by omega)
        have hrow := hrI J (fun a e _ => by rw [hF.1 a e, fa2 a e]) LL (fun a e1 e2 => hF.2.2 a e1 e2) i (by omega) (by omega)
        have hgi := gtF_in (ρ := ρ) (V := V) (mh := mh) (n := nk) j (fun i h1 h2 => (r5 i h1 (by omega)).2.1)
        rw [← hg] at hgi
        obtain ⟨κ, hκ⟩ : ∃ κ, κ = (ρ i).getD 0 0 := ⟨_, rfl⟩
        obtain ⟨z3, hz3⟩ : ∃ z, z = (ρ i).getD 3 0 := ⟨_, rfl⟩
        obtain ⟨z8, hz8⟩ : ∃ z, z = (ρ i).getD 8 0 := ⟨_, rfl⟩
        obtain ⟨kd, hkd⟩ : ∃ kd, kd = kdM κ z3 := ⟨_, rfl⟩
        obtain ⟨hn, hκi, hq5, hq102, hq6, hq1⟩ := hq
        rw [← hκ] at hκi hq5 hq102 hq6 hq2
        rw [← hz3] at hq6
        rw [← hz8] at hq5
        have k5 := kdM_5 (h := z3) hκi
        have kk := kdM_k (h := z3) hκi hq6 (fun j e => by rw [← e]; exact hq2)
        rw [← hkd] at k5 kk
        have hki : inI kd := by
          rw [hkd]; unfold kdM
          (repeat' split) <;> omega
        have v5 := hn.1.v
        have v6 := hn.2.1.v
        have v7 := hn.2.2.v
        have hipar : isPar (ρ i) ↔ κ = 102 ∨ (κ = 5 ∧ z8 = -1) := by rw [hκ, hz8]
        have hiacc : isAcc (ρ i) ↔ (κ = 6 ∧ z3 = 7) ∨ (κ = 1 ∧ z3 = 1) := by rw [hκ, hz3]
        have hsz := hsll j
        have has : κ = 5 → ∃ ab : Int, J (M + 16) i = cI ab ∧ ((ab = 1 ∧ z8 = -1) ∨ (ab = 0 ∧ ∃ m1 : Nat, z8 = (m1 : Int) ∧ 0 ≤ V m1 ∧ V m1 ≤ 1000000000000000 ∧ LL (M + 15) i = cL (V m1))) := fun e5 => by
          obtain ⟨y1, y2⟩ := hrow.2.2.1 (hκ.symm.trans e5)
          rw [← hz8] at y1 y2
          rcases hq5 e5 with ⟨⟨x, x1, x2⟩, x3⟩ | ⟨x1, m1, x2, x3, x4, x5⟩
          · rw [if_pos ⟨x3, by rw [x1]; have := x2.1; omega⟩] at y1
            exact ⟨1, y1, Or.inl ⟨rfl, x3⟩⟩
          · rw [if_neg (fun q => q.2 x1)] at y1
            have y3 := y2 (by omega)
            rw [x2, Int.toNat_natCast] at y3
            exact ⟨0, y1, Or.inr ⟨rfl, m1, x2, x4, x5, y3.1⟩⟩
        have hst : gtF ρ V nk (j + 1) = if κ = 5 ∧ z8 ≠ -1 then max g (V z8.toNat) else g := by
          show (if (ρ (nk + j)).getD 0 0 = 5 ∧ (ρ (nk + j)).getD 8 0 ≠ -1 then max (gtF ρ V nk j) (V ((ρ (nk + j)).getD 8 0).toNat) else gtF ρ V nk j) = _
          rw [← hi1, ← hκ, ← hz8, ← hg]
        have t285 : ∀ (g' : Int) (J' : M32) (LL' : M64), g' = gtF ρ V nk (j + 1) → SeenV M (slF (j + 1)) J' LL' → FrS M I2 L J' LL' → Run m_Model_about d 0 0 285 [(0, .ref M), (1, .int (cI (k : Int))), (2, .int (cI (wn : Int))), (3, .int (cI (nk : Int))), (4, .int (cI (((nk + ck : Nat) : Int)))), (5, .long (cL g')), (7, .int (cI (i : Int)))] [] J' LL' R T Q := by
          intro g' J' LL' hg' hS' hF'
          refine j_iinc (lv' := [(7, .int (cI ((i : Int) + 1))), (0, .ref M), (1, .int (cI (k : Int))), (2, .int (cI (wn : Int))), (3, .int (cI (nk : Int))), (4, .int (cI (((nk + ck : Nat) : Int)))), (5, .long (cL g'))]) d_Model_about_285 rfl (by decide) rfl ?_
          refine q_goto (tgt := 111) d_Model_about_288 (by decide) ?_
          rw [show (i : Int) + 1 = ((i + 1 : Nat) : Int) by omega]
          refine Run.lv (lv' := [(0, .ref M), (1, .int (cI (k : Int))), (2, .int (cI (wn : Int))), (3, .int (cI (nk : Int))), (4, .int (cI (((nk + ck : Nat) : Int)))), (5, .long (cL g')), (7, .int (cI (((i + 1 : Nat) : Int))))]) (by intro q hq; simp only [List.mem_cons, List.not_mem_nil, or_false] at hq ⊢; rcases hq with rfl | rfl | rfl | rfl | rfl | rfl | rfl <;> simp) ?_
          exact ih (j + 1) (i + 1) g' J' LL' (by omega) (by omega) hg' hS' hF'
        have t164 : ∀ (g' : Int), g' = gtF ρ V nk (j + 1) → Run m_Model_about d 0 0 164 [(0, .ref M), (1, .int (cI (k : Int))), (2, .int (cI (wn : Int))), (3, .int (cI (nk : Int))), (4, .int (cI (((nk + ck : Nat) : Int)))), (5, .long (cL g)), (7, .int (cI (i : Int)))] [.long (cL g')] J LL R T Q := by
          intro g' hg'
          refine q_lstore (lv' := [(5, .long (cL g')), (0, .ref M), (1, .int (cI (k : Int))), (2, .int (cI (wn : Int))), (3, .int (cI (nk : Int))), (4, .int (cI (((nk + ck : Nat) : Int)))), (7, .int (cI (i : Int)))]) d_Model_about_164 (by decide) rfl ?_
          refine q_iload_n d_Model_about_166 rfl ?_
          refine j_iconst d_Model_about_167 ?_
          have hslp : wn = 2 → slF (j + 1) = if isPar (ρ i) then (if parK ρ i ∈ slF j then slF j else slF j ++ [parK ρ i]) else slF j := fun e => by
            simp only [hsp _ e]
            rw [seenF_s, ← hi1]
          have hsla : wn = 4 → slF (j + 1) = if isAcc (ρ i) then (if accK ρ i ∈ slF j then slF j else slF j ++ [accK ρ i]) else slF j := fun e => by
            simp only [hsa _ e]
            rw [seenF_s, ← hi1]
          by_cases w2 : wn = 2
          rotate_left
          · refine j_icmp_ne (tgt := 216) d_Model_about_168 (by decide) (by omega) (by omega) (fun hx => ?_) (fun hx => by exfalso; omega)
            refine q_iload_n d_Model_about_216 rfl ?_
            refine j_iconst d_Model_about_217 ?_
            by_cases w4 : wn = 4
            rotate_left
            · have hs0 : slF (j + 1) = slF j := by
                rw [hslF]; dsimp only
                rw [if_neg w2, if_neg w4, if_neg w2, if_neg w4]
              refine j_icmp_ne (tgt := 251) d_Model_about_218 (by decide) (by omega) (by omega) (fun hx => ?_) (fun hx => by exfalso; omega)
              refine q_iload_n d_Model_about_251 rfl ?_
              refine j_iconst d_Model_about_252 ?_
              refine j_icmp_ne (tgt := 285) d_Model_about_253 (by decide) (by omega) (by omega) (fun hx => ?_) (fun hx => by exfalso; omega)
              refine Run.lv (lv' := [(0, .ref M), (1, .int (cI (k : Int))), (2, .int (cI (wn : Int))), (3, .int (cI (nk : Int))), (4, .int (cI (((nk + ck : Nat) : Int)))), (5, .long (cL g')), (7, .int (cI (i : Int)))]) (by intro q hq; simp only [List.mem_cons, List.not_mem_nil, or_false] at hq ⊢; rcases hq with rfl | rfl | rfl | rfl | rfl | rfl | rfl <;> simp) ?_
              exact t285 g' J LL hg' (by rw [hs0]; exact hS) hF
            have hsl4 := hsla w4
            refine j_icmp_ne (tgt := 251) d_Model_about_218 (by decide) (by omega) (by omega) (fun hx => by exfalso; omega) (fun hx => ?_)
            refine q_aload_n d_Model_about_221 rfl ?_
            refine q_getR d_Model_about_222 fl_Model_26 hM.1 ⟨rfl, by decide⟩ (mR19 hM) ?_
            refine q_iload d_Model_about_225 rfl ?_
            refine j_iald (j := i) (v := (cI kd)) d_Model_about_227 (mT19 hM) (mN19 hM) (by omega) (by omega) (by omega) (hrow.1.1.trans (by rw [hkd, hκ, hz3])) ?_
            refine j_bipush d_Model_about_228 (by decide) ?_
            by_cases a8 : kd = 8
            · refine j_icmp_ne (tgt := 251) d_Model_about_230 (by decide) (by omega) (by omega) (fun hx => by exfalso; omega) (fun hx => ?_)
              refine q_aload_n d_Model_about_233 rfl ?_
              refine q_aload_n d_Model_about_234 rfl ?_
              refine q_getR d_Model_about_235 fl_Model_29 hM.1 ⟨rfl, by decide⟩ (mR20 hM) ?_
              refine q_iload d_Model_about_238 rfl ?_
              refine j_lald (j := i) (v := (cL ((ρ i).getD 5 0))) d_Model_about_240 (mT20 hM) (mN20 hM) (by omega) (by omega) (by omega) hrow.1.2.2.2.2.2.1 ?_
              refine q_aload_n d_Model_about_241 rfl ?_
              refine q_getR d_Model_about_242 fl_Model_36 hM.1 ⟨rfl, by decide⟩ (mR22 hM) ?_
              refine q_iload d_Model_about_245 rfl ?_
              refine j_lald (j := i) (v := (cL ((ρ i).getD 7 0))) d_Model_about_247 (mT22 hM) (mN22 hM) (by omega) (by omega) (by omega) hrow.1.2.2.2.2.2.2.2.1 ?_
              refine q_callV (ci := 17) (rc := 0) (rs := 0) (rest := []) d_Model_about_248 ml_Model_750 ok_Model_see rfl hM.1 (by decide) (c_Model_see (d - 1) (x := (ρ i).getD 5 0) (y := (ρ i).getD 7 0) hM hS v5 v7 (by omega)) rfl rfl (by omega) (Nat.le_of_ble_eq_true rfl) (kr_V (fun J1 L1 R1 T1 h1 => ?_)) kt_V
              obtain ⟨⟨h1, h2⟩, rfl, rfl⟩ := h1
              have hk6 := kk.2.1.mp a8
              have hrow1 := hrI J1 (fun a e _ => by rw [h2.1 a e, hF.1 a e, fa2 a e]) L1 (fun a e1 e2 => by rw [h2.2.2 a e1 e2, hF.2.2 a e1 e2]) i (by omega) (by omega)
              refine q_iload_n d_Model_about_251 rfl ?_
              refine j_iconst d_Model_about_252 ?_
              refine j_icmp_ne (tgt := 285) d_Model_about_253 (by decide) (by omega) (by omega) (fun hx => by exfalso; omega) (fun hx => ?_)
              refine q_aload_n d_Model_about_256 rfl ?_
              refine q_getR d_Model_about_257 fl_Model_26 hM.1 ⟨rfl, by decide⟩ (mR19 hM) ?_
              refine q_iload d_Model_about_260 rfl ?_
              refine j_iald (j := i) (v := (cI kd)) d_Model_about_262 (mT19 hM) (mN19 hM) (by omega) (by omega) (by omega) (hrow1.1.1.trans (by rw [hkd, hκ, hz3])) ?_
              refine j_iconst d_Model_about_263 ?_
              refine j_icmp_ne (tgt := 285) d_Model_about_264 (by decide) (by omega) (by omega) (fun hx => ?_) (fun hx => by exfalso; omega)
              refine Run.lv (lv' := [(0, .ref M), (1, .int (cI (k : Int))), (2, .int (cI (wn : Int))), (3, .int (cI (nk : Int))), (4, .int (cI (((nk + ck : Nat) : Int)))), (5, .long (cL g')), (7, .int (cI (i : Int)))]) (by intro q hq; simp only [List.mem_cons, List.not_mem_nil, or_false] at hq ⊢; rcases hq with rfl | rfl | rfl | rfl | rfl | rfl | rfl <;> simp) ?_
              exact t285 g' J1 L1 hg' (by
                rw [hsl4, if_pos (hiacc.mpr (Or.inl hk6))]
                have : accK ρ i = ((ρ i).getD 5 0, (ρ i).getD 7 0) := by unfold accK ptyF; rw [← hκ, if_neg (by omega)]
                rw [this]; exact h1) (hF.tr h2)
            refine j_icmp_ne (tgt := 251) d_Model_about_230 (by decide) (by omega) (by omega) (fun hx => ?_) (fun hx => by exfalso; omega)
            refine q_iload_n d_Model_about_251 rfl ?_
            refine j_iconst d_Model_about_252 ?_
            refine j_icmp_ne (tgt := 285) d_Model_about_253 (by decide) (by omega) (by omega) (fun hx => by exfalso; omega) (fun hx => ?_)
            refine q_aload_n d_Model_about_256 rfl ?_
            refine q_getR d_Model_about_257 fl_Model_26 hM.1 ⟨rfl, by decide⟩ (mR19 hM) ?_
            refine q_iload d_Model_about_260 rfl ?_
            refine j_iald (j := i) (v := (cI kd)) d_Model_about_262 (mT19 hM) (mN19 hM) (by omega) (by omega) (by omega) (hrow.1.1.trans (by rw [hkd, hκ, hz3])) ?_
            refine j_iconst d_Model_about_263 ?_
            by_cases a3 : kd = 3
            · have hk1 := kk.2.2.mp a3
              refine j_icmp_ne (tgt := 285) d_Model_about_264 (by decide) (by omega) (by omega) (fun hx => by exfalso; omega) (fun hx => ?_)
              refine q_aload_n d_Model_about_267 rfl ?_
              refine q_aload_n d_Model_about_268 rfl ?_
              refine q_getR d_Model_about_269 fl_Model_33 hM.1 ⟨rfl, by decide⟩ (mR21 hM) ?_
              refine q_iload d_Model_about_272 rfl ?_
              refine j_lald (j := i) (v := (cL ((ρ i).getD 6 0))) d_Model_about_274 (mT21 hM) (mN21 hM) (by omega) (by omega) (by omega) hrow.1.2.2.2.2.2.2.1 ?_
              refine q_aload_n d_Model_about_275 rfl ?_
              refine q_getR d_Model_about_276 fl_Model_36 hM.1 ⟨rfl, by decide⟩ (mR22 hM) ?_
              refine q_iload d_Model_about_279 rfl ?_
              refine j_lald (j := i) (v := (cL ((ρ i).getD 7 0))) d_Model_about_281 (mT22 hM) (mN22 hM) (by omega) (by omega) (by omega) hrow.1.2.2.2.2.2.2.2.1 ?_
              refine q_callV (ci := 17) (rc := 0) (rs := 0) (rest := []) d_Model_about_282 ml_Model_750 ok_Model_see rfl hM.1 (by decide) (c_Model_see (d - 1) (x := (ρ i).getD 6 0) (y := (ρ i).getD 7 0) hM hS v6 v7 (by omega)) rfl rfl (by omega) (Nat.le_of_ble_eq_true rfl) (kr_V (fun J1 L1 R1 T1 h1 => ?_)) kt_V
              obtain ⟨⟨h1, h2⟩, rfl, rfl⟩ := h1
              refine Run.lv (lv' := [(0, .ref M), (1, .int (cI (k : Int))), (2, .int (cI (wn : Int))), (3, .int (cI (nk : Int))), (4, .int (cI (((nk + ck : Nat) : Int)))), (5, .long (cL g')), (7, .int (cI (i : Int)))]) (by intro q hq; simp only [List.mem_cons, List.not_mem_nil, or_false] at hq ⊢; rcases hq with rfl | rfl | rfl | rfl | rfl | rfl | rfl <;> simp) ?_
              exact t285 g' J1 L1 hg' (by
                rw [hsl4, if_pos (hiacc.mpr (Or.inr hk1))]
                have : accK ρ i = ((ρ i).getD 6 0, (ρ i).getD 7 0) := by unfold accK ptyF; rw [← hκ, if_pos hk1.1]
                rw [this]; exact h1) (hF.tr h2)
            refine j_icmp_ne (tgt := 285) d_Model_about_264 (by decide) (by omega) (by omega) (fun hx => ?_) (fun hx => by exfalso; omega)
            refine Run.lv (lv' := [(0, .ref M), (1, .int (cI (k : Int))), (2, .int (cI (wn : Int))), (3, .int (cI (nk : Int))), (4, .int (cI (((nk + ck : Nat) : Int)))), (5, .long (cL g')), (7, .int (cI (i : Int)))]) (by intro q hq; simp only [List.mem_cons, List.not_mem_nil, or_false] at hq ⊢; rcases hq with rfl | rfl | rfl | rfl | rfl | rfl | rfl <;> simp) ?_
            exact t285 g' J LL hg' (by
              rw [hsl4, if_neg (fun q => by
                rcases hiacc.mp q with q | q
                · exact a8 (kk.2.1.mpr q)
                · exact a3 (kk.2.2.mpr q))]
              exact hS) hF
          have hsl2 := hslp w2
          have t216 : ∀ (J' : M32) (LL' : M64), SeenV M (slF (j + 1)) J' LL' → FrS M I2 L J' LL' → Run m_Model_about d 0 0 216 [(0, .ref M), (1, .int (cI (k : Int))), (2, .int (cI (wn : Int))), (3, .int (cI (nk : Int))), (4, .int (cI (((nk + ck : Nat) : Int)))), (5, .long (cL g')), (7, .int (cI (i : Int)))] [] J' LL' R T Q := by
            intro J' LL' hS' hF'
            refine q_iload_n d_Model_about_216 rfl ?_
            refine j_iconst d_Model_about_217 ?_
            refine j_icmp_ne (tgt := 251) d_Model_about_218 (by decide) (by omega) (by omega) (fun hx => ?_) (fun hx => by exfalso; omega)
            refine q_iload_n d_Model_about_251 rfl ?_
            refine j_iconst d_Model_about_252 ?_
            refine j_icmp_ne (tgt := 285) d_Model_about_253 (by decide) (by omega) (by omega) (fun hx => ?_) (fun hx => by exfalso; omega)
            exact t285 g' J' LL' hg' hS' hF'
          have t204 : ∀ (hp : isPar (ρ i)), True → Run m_Model_about d 0 0 204 [(0, .ref M), (1, .int (cI (k : Int))), (2, .int (cI (wn : Int))), (3, .int (cI (nk : Int))), (4, .int (cI (((nk + ck : Nat) : Int)))), (5, .long (cL g')), (7, .int (cI (i : Int)))] [] J LL R T Q := by
            intro hp _
            refine q_aload_n d_Model_about_204 rfl ?_
            refine q_aload_n d_Model_about_205 rfl ?_
            refine q_getR d_Model_about_206 fl_Model_29 hM.1 ⟨rfl, by decide⟩ (mR20 hM) ?_
            refine q_iload d_Model_about_209 rfl ?_
            refine j_lald (j := i) (v := (cL ((ρ i).getD 5 0))) d_Model_about_211 (mT20 hM) (mN20 hM) (by omega) (by omega) (by omega) hrow.1.2.2.2.2.2.1 ?_
            refine j_lconst (z := 0) d_Model_about_212 (by decide) ?_
            refine q_callV (ci := 17) (rc := 0) (rs := 0) (rest := []) d_Model_about_213 ml_Model_750 ok_Model_see rfl hM.1 (by decide) (c_Model_see (d - 1) (x := (ρ i).getD 5 0) (y := 0) hM hS v5 (by decide) (by omega)) rfl rfl (by omega) (Nat.le_of_ble_eq_true rfl) (kr_V (fun J1 L1 R1 T1 h1 => ?_)) kt_V
            obtain ⟨⟨h1, h2⟩, rfl, rfl⟩ := h1
            exact t216 J1 L1 (by rw [hsl2, if_pos hp]; exact h1) (hF.tr h2)
          refine j_icmp_ne (tgt := 216) d_Model_about_168 (by decide) (by omega) (by omega) (fun hx => by exfalso; omega) (fun hx => ?_)
          refine q_aload_n d_Model_about_171 rfl ?_
          refine q_getR d_Model_about_172 fl_Model_26 hM.1 ⟨rfl, by decide⟩ (mR19 hM) ?_
          refine q_iload d_Model_about_175 rfl ?_
          refine j_iald (j := i) (v := (cI kd)) d_Model_about_177 (mT19 hM) (mN19 hM) (by omega) (by omega) (by omega) (hrow.1.1.trans (by rw [hkd, hκ, hz3])) ?_
          refine j_bipush d_Model_about_178 (by decide) ?_
          by_cases a21 : kd = 21
          · refine j_icmp_eq (tgt := 204) d_Model_about_180 (by decide) (by omega) (by omega) (fun hx => ?_) (fun hx => by exfalso; omega)
            refine Run.lv (lv' := [(0, .ref M), (1, .int (cI (k : Int))), (2, .int (cI (wn : Int))), (3, .int (cI (nk : Int))), (4, .int (cI (((nk + ck : Nat) : Int)))), (5, .long (cL g')), (7, .int (cI (i : Int)))]) (by intro q hq; simp only [List.mem_cons, List.not_mem_nil, or_false] at hq ⊢; rcases hq with rfl | rfl | rfl | rfl | rfl | rfl | rfl <;> simp) ?_
            exact t204 (hipar.mpr (Or.inl (kk.1.mp a21))) trivial
          refine j_icmp_eq (tgt := 204) d_Model_about_180 (by decide) (by omega) (by omega) (fun hx => by exfalso; omega) (fun hx => ?_)
          refine q_aload_n d_Model_about_183 rfl ?_
          refine q_getR d_Model_about_184 fl_Model_26 hM.1 ⟨rfl, by decide⟩ (mR19 hM) ?_
          refine q_iload d_Model_about_187 rfl ?_
          refine j_iald (j := i) (v := (cI kd)) d_Model_about_189 (mT19 hM) (mN19 hM) (by omega) (by omega) (by omega) (hrow.1.1.trans (by rw [hkd, hκ, hz3])) ?_
          refine j_iconst d_Model_about_190 ?_
          by_cases a5 : kd = 5
          rotate_left
          · refine j_icmp_ne (tgt := 216) d_Model_about_191 (by decide) (by omega) (by omega) (fun hx => ?_) (fun hx => by exfalso; omega)
            refine Run.lv (lv' := [(0, .ref M), (1, .int (cI (k : Int))), (2, .int (cI (wn : Int))), (3, .int (cI (nk : Int))), (4, .int (cI (((nk + ck : Nat) : Int)))), (5, .long (cL g')), (7, .int (cI (i : Int)))]) (by intro q hq; simp only [List.mem_cons, List.not_mem_nil, or_false] at hq ⊢; rcases hq with rfl | rfl | rfl | rfl | rfl | rfl | rfl <;> simp) ?_
            exact t216 J LL (by
              rw [hsl2, if_neg (fun q => by
                rcases hipar.mp q with q | q
                · exact a21 (kk.1.mpr q)
                · exact a5 (k5.mpr q.1))]
              exact hS) hF
          obtain ⟨ab, hab, hab2⟩ := has (k5.mp a5)
          refine j_icmp_ne (tgt := 216) d_Model_about_191 (by decide) (by omega) (by omega) (fun hx => by exfalso; omega) (fun hx => ?_)
          refine q_aload_n d_Model_about_194 rfl ?_
          refine q_getR d_Model_about_195 fl_Model_57 hM.1 ⟨rfl, by decide⟩ (mR29 hM) ?_
          refine q_iload d_Model_about_198 rfl ?_
          refine j_zald (j := i) (v := (cI ab)) d_Model_about_200 (mT29 hM) (mN29 hM) (by omega) (by omega) (by omega) hab ?_
          rcases hab2 with ⟨y1, y2⟩ | ⟨y1, m1, y2, -⟩
          · refine j_if_eq (tgt := 216) d_Model_about_201 (by decide) (by omega) (fun hx => by exfalso; omega) (fun hx => ?_)
            refine Run.lv (lv' := [(0, .ref M), (1, .int (cI (k : Int))), (2, .int (cI (wn : Int))), (3, .int (cI (nk : Int))), (4, .int (cI (((nk + ck : Nat) : Int)))), (5, .long (cL g')), (7, .int (cI (i : Int)))]) (by intro q hq; simp only [List.mem_cons, List.not_mem_nil, or_false] at hq ⊢; rcases hq with rfl | rfl | rfl | rfl | rfl | rfl | rfl <;> simp) ?_
            exact t204 (hipar.mpr (Or.inr ⟨k5.mp a5, y2⟩)) trivial
          refine j_if_eq (tgt := 216) d_Model_about_201 (by decide) (by omega) (fun hx => ?_) (fun hx => by exfalso; omega)
          refine Run.lv (lv' := [(0, .ref M), (1, .int (cI (k : Int))), (2, .int (cI (wn : Int))), (3, .int (cI (nk : Int))), (4, .int (cI (((nk + ck : Nat) : Int)))), (5, .long (cL g')), (7, .int (cI (i : Int)))]) (by intro q hq; simp only [List.mem_cons, List.not_mem_nil, or_false] at hq ⊢; rcases hq with rfl | rfl | rfl | rfl | rfl | rfl | rfl <;> simp) ?_
          exact t216 J LL (by
              rw [hsl2, if_neg (fun q => by
                rcases hipar.mp q with q | q
                · exact a21 (kk.1.mpr q)
                · omega)]
              exact hS) hF
        refine q_iload d_Model_about_111 rfl ?_
        refine q_iload d_Model_about_113 rfl ?_
        refine j_icmp_ge (tgt := 291) d_Model_about_115 (by decide) (by omega) (by omega) (fun hx => by exfalso; omega) (fun hx => ?_)
        refine q_aload_n d_Model_about_118 rfl ?_
        refine q_getR d_Model_about_119 fl_Model_26 hM.1 ⟨rfl, by decide⟩ (mR19 hM) ?_
        refine q_iload d_Model_about_122 rfl ?_
        refine j_iald (j := i) (v := (cI kd)) d_Model_about_124 (mT19 hM) (mN19 hM) (by omega) (by omega) (by omega) (hrow.1.1.trans (by rw [hkd, hκ, hz3])) ?_
        refine j_iconst d_Model_about_125 ?_
        by_cases a5 : kd = 5
        rotate_left
        · refine j_icmp_ne (tgt := 162) d_Model_about_126 (by decide) (by omega) (by omega) (fun hx => ?_) (fun hx => by exfalso; omega)
          refine q_lload d_Model_about_162 rfl ?_
          exact t164 g (by rw [hst, if_neg (fun q => a5 (k5.mpr q.1))])
        obtain ⟨ab, hab, hab2⟩ := has (k5.mp a5)
        refine j_icmp_ne (tgt := 162) d_Model_about_126 (by decide) (by omega) (by omega) (fun hx => by exfalso; omega) (fun hx => ?_)
        refine q_aload_n d_Model_about_129 rfl ?_
        refine q_getR d_Model_about_130 fl_Model_57 hM.1 ⟨rfl, by decide⟩ (mR29 hM) ?_
        refine q_iload d_Model_about_133 rfl ?_
        refine j_zald (j := i) (v := (cI ab)) d_Model_about_135 (mT29 hM) (mN29 hM) (by omega) (by omega) (by omega) hab ?_
        rcases hab2 with ⟨y1, y2⟩ | ⟨y1, m1, y2, y3, y4, y5⟩
        · refine j_if_ne (tgt := 162) d_Model_about_136 (by decide) (by omega) (fun hx => ?_) (fun hx => by exfalso; omega)
          refine q_lload d_Model_about_162 rfl ?_
          exact t164 g (by rw [hst, if_neg (fun q => q.2 y2)])
        refine j_if_ne (tgt := 162) d_Model_about_136 (by decide) (by omega) (fun hx => by exfalso; omega) (fun hx => ?_)
        refine q_aload_n d_Model_about_139 rfl ?_
        refine q_getR d_Model_about_140 fl_Model_54 hM.1 ⟨rfl, by decide⟩ (mR28 hM) ?_
        refine q_iload d_Model_about_143 rfl ?_
        refine j_lald (j := i) (v := (cL (V m1))) d_Model_about_145 (mT28 hM) (mN28 hM) (by omega) (by omega) (by omega) y5 ?_
        refine q_lload d_Model_about_146 rfl ?_
        rw [if_pos ⟨k5.mp a5, by omega⟩, y2, Int.toNat_natCast] at hst
        by_cases hgt : V m1 ≤ g
        · refine j_lcmp_le (tgt := 162) d_Model_about_148 d_Model_about_149 (by decide) (by omega) (by omega) (fun hx => ?_) (fun hx => by exfalso; omega)
          refine q_lload d_Model_about_162 rfl ?_
          exact t164 g (by rw [hst]; omega)
        refine j_lcmp_le (tgt := 162) d_Model_about_148 d_Model_about_149 (by decide) (by omega) (by omega) (fun hx => by exfalso; omega) (fun hx => ?_)
        refine q_aload_n d_Model_about_152 rfl ?_
        refine q_getR d_Model_about_153 fl_Model_54 hM.1 ⟨rfl, by decide⟩ (mR28 hM) ?_
        refine q_iload d_Model_about_156 rfl ?_
        refine j_lald (j := i) (v := (cL (V m1))) d_Model_about_158 (mT28 hM) (mN28 hM) (by omega) (by omega) (by omega) y5 ?_
        refine q_goto (tgt := 164) d_Model_about_159 (by decide) ?_
        exact t164 (V m1) (by rw [hst]; omega)
    refine Run.lv (lv' := [(0, .ref M), (1, .int (cI (k : Int))), (2, .int (cI (wn : Int))), (3, .int (cI (nk : Int))), (4, .int (cI (((nk + ck : Nat) : Int)))), (5, .long (cL (-1))), (7, .int (cI (nk : Int)))]) (by intro q hq; simp only [List.mem_cons, List.not_mem_nil, or_false] at hq ⊢; rcases hq with rfl | rfl | rfl | rfl | rfl | rfl | rfl <;> simp) ?_
    exact loop ck 0 nk (-1) I2 L (by omega) (by omega) rfl (by rw [hsl0]; exact ⟨s58, Nat.zero_le _, fun j hj => absurd hj (Nat.not_lt_zero j)⟩) FrS.rf
  by_cases hz15 : 0 ≤ z ∧ z ≤ 15
  rotate_left
  · refine j_ifb_eq (tgt := 45) d_Model_about_29 (by decide) (fun hx => ?_) (fun hx => by exfalso; omega)
    refine j_iconst d_Model_about_45 ?_
    exact t46 0 (by unfold bI; rw [if_neg (fun q => hz15 q.1)])
  obtain ⟨k, hk⟩ : ∃ k : Nat, z = (k : Int) := ⟨z.toNat, by omega⟩
  obtain ⟨hH1, -, -⟩ := hH k (by omega)
  obtain ⟨hb, hhb, hhb2⟩ : ∃ u : Int, bI (H k) = u ∧ ((u = 1 ∧ H k) ∨ (u = 0 ∧ ¬ H k)) := bI_ex
  rw [hhb] at hH1
  refine j_ifb_eq (tgt := 45) d_Model_about_29 (by decide) (fun hx => by exfalso; omega) (fun hx => ?_)
  refine q_aload_n d_Model_about_32 rfl ?_
  refine q_getR d_Model_about_33 fl_Model_100 hM.1 ⟨rfl, by decide⟩ (mR50 hM) ?_
  refine q_iload_n d_Model_about_36 rfl ?_
  refine j_zald (j := k) (v := (cI hb)) d_Model_about_37 (mT50 hM) (mN50 hM) (by omega) (by omega) (by omega) hH1 ?_
  rcases hhb2 with ⟨e1, e2⟩ | ⟨e1, e2⟩
  · refine j_if_eq (tgt := 45) d_Model_about_38 (by decide) (by omega) (fun hx => by exfalso; omega) (fun hx => ?_)
    refine j_iconst d_Model_about_41 ?_
    refine q_goto (tgt := 46) d_Model_about_42 (by decide) ?_
    exact t46 1 (by unfold bI; rw [if_pos ⟨hz15, by rw [hk, Int.toNat_natCast]; exact e2⟩])
  refine j_if_eq (tgt := 45) d_Model_about_38 (by decide) (by omega) (fun hx => ?_) (fun hx => by exfalso; omega)
  refine j_iconst d_Model_about_45 ?_
  exact t46 0 (by unfold bI; rw [if_neg (fun q => e2 (by rw [hk, Int.toNat_natCast] at q; exact q.2))])
end

