/-! ===== 61 THE REFERENCE: a contract, a value, an observation is read ===== -/
theorem d_Model_readContract_0 : decode m_Model_readContract.2.1 0 = .ok (.aload_n 0, 1) := by decide +kernel
theorem d_Model_readContract_1 : decode m_Model_readContract.2.1 1 = .ok (.getfield 550, 3) := by decide +kernel
theorem d_Model_readContract_4 : decode m_Model_readContract.2.1 4 = .ok (.iconst 2, 1) := by decide +kernel
theorem d_Model_readContract_5 : decode m_Model_readContract.2.1 5 = .ok (.if_icmp .ne 13, 3) := by decide +kernel
theorem d_Model_readContract_8 : decode m_Model_readContract.2.1 8 = .ok (.aload_n 0, 1) := by decide +kernel
theorem d_Model_readContract_9 : decode m_Model_readContract.2.1 9 = .ok (.getfield 557, 3) := by decide +kernel
theorem d_Model_readContract_12 : decode m_Model_readContract.2.1 12 = .ok (.invokestatic 594, 3) := by decide +kernel
theorem d_Model_readContract_15 : decode m_Model_readContract.2.1 15 = .ok (.goto 4, 3) := by decide +kernel
theorem d_Model_readContract_18 : decode m_Model_readContract.2.1 18 = .ok (.iconst 0, 1) := by decide +kernel
theorem d_Model_readContract_19 : decode m_Model_readContract.2.1 19 = .ok (.istore 4, 2) := by decide +kernel
theorem d_Model_readContract_21 : decode m_Model_readContract.2.1 21 = .ok (.iload 4, 2) := by decide +kernel
theorem d_Model_readContract_23 : decode m_Model_readContract.2.1 23 = .ok (.ifCond .ne 8, 3) := by decide +kernel
theorem d_Model_readContract_26 : decode m_Model_readContract.2.1 26 = .ok (.aload_n 0, 1) := by decide +kernel
theorem d_Model_readContract_27 : decode m_Model_readContract.2.1 27 = .ok (.invokevirtual 598, 3) := by decide +kernel
theorem d_Model_readContract_30 : decode m_Model_readContract.2.1 30 = .ok (.return_, 1) := by decide +kernel
theorem d_Model_readContract_31 : decode m_Model_readContract.2.1 31 = .ok (.aload_n 0, 1) := by decide +kernel
theorem d_Model_readContract_32 : decode m_Model_readContract.2.1 32 = .ok (.iload 4, 2) := by decide +kernel
theorem d_Model_readContract_34 : decode m_Model_readContract.2.1 34 = .ok (.iload_n 3, 1) := by decide +kernel
theorem d_Model_readContract_35 : decode m_Model_readContract.2.1 35 = .ok (.invokevirtual 601, 3) := by decide +kernel
theorem d_Model_readContract_38 : decode m_Model_readContract.2.1 38 = .ok (.istore 5, 2) := by decide +kernel
theorem d_Model_readContract_40 : decode m_Model_readContract.2.1 40 = .ok (.iload 5, 2) := by decide +kernel
theorem d_Model_readContract_42 : decode m_Model_readContract.2.1 42 = .ok (.iconst (-1), 1) := by decide +kernel
theorem d_Model_readContract_43 : decode m_Model_readContract.2.1 43 = .ok (.if_icmp .ne 4, 3) := by decide +kernel
theorem d_Model_readContract_46 : decode m_Model_readContract.2.1 46 = .ok (.return_, 1) := by decide +kernel
theorem d_Model_readContract_47 : decode m_Model_readContract.2.1 47 = .ok (.aload_n 0, 1) := by decide +kernel
theorem d_Model_readContract_48 : decode m_Model_readContract.2.1 48 = .ok (.iload_n 1, 1) := by decide +kernel
theorem d_Model_readContract_49 : decode m_Model_readContract.2.1 49 = .ok (.iload_n 2, 1) := by decide +kernel
theorem d_Model_readContract_50 : decode m_Model_readContract.2.1 50 = .ok (.iload 5, 2) := by decide +kernel
theorem d_Model_readContract_52 : decode m_Model_readContract.2.1 52 = .ok (.invokevirtual 604, 3) := by decide +kernel
theorem d_Model_readContract_55 : decode m_Model_readContract.2.1 55 = .ok (.aload_n 0, 1) := by decide +kernel
theorem d_Model_readContract_56 : decode m_Model_readContract.2.1 56 = .ok (.invokevirtual 608, 3) := by decide +kernel
theorem d_Model_readContract_59 : decode m_Model_readContract.2.1 59 = .ok (.iload 4, 2) := by decide +kernel
theorem d_Model_readContract_61 : decode m_Model_readContract.2.1 61 = .ok (.iconst 5, 1) := by decide +kernel
theorem d_Model_readContract_62 : decode m_Model_readContract.2.1 62 = .ok (.if_icmp .ne 47, 3) := by decide +kernel
theorem d_Model_readContract_65 : decode m_Model_readContract.2.1 65 = .ok (.aload_n 0, 1) := by decide +kernel
theorem d_Model_readContract_66 : decode m_Model_readContract.2.1 66 = .ok (.iconst 1, 1) := by decide +kernel
theorem d_Model_readContract_67 : decode m_Model_readContract.2.1 67 = .ok (.iload 5, 2) := by decide +kernel
theorem d_Model_readContract_69 : decode m_Model_readContract.2.1 69 = .ok (.iconst 2, 1) := by decide +kernel
theorem d_Model_readContract_70 : decode m_Model_readContract.2.1 70 = .ok (.iload_n 3, 1) := by decide +kernel
theorem d_Model_readContract_71 : decode m_Model_readContract.2.1 71 = .ok (.iconst 1, 1) := by decide +kernel
theorem d_Model_readContract_72 : decode m_Model_readContract.2.1 72 = .ok (.iadd, 1) := by decide +kernel
theorem d_Model_readContract_73 : decode m_Model_readContract.2.1 73 = .ok (.invokevirtual 611, 3) := by decide +kernel
theorem d_Model_readContract_76 : decode m_Model_readContract.2.1 76 = .ok (.aload_n 0, 1) := by decide +kernel
theorem d_Model_readContract_77 : decode m_Model_readContract.2.1 77 = .ok (.bipush 9, 2) := by decide +kernel
theorem d_Model_readContract_79 : decode m_Model_readContract.2.1 79 = .ok (.iload 5, 2) := by decide +kernel
theorem d_Model_readContract_81 : decode m_Model_readContract.2.1 81 = .ok (.iconst 0, 1) := by decide +kernel
theorem d_Model_readContract_82 : decode m_Model_readContract.2.1 82 = .ok (.iload_n 3, 1) := by decide +kernel
theorem d_Model_readContract_83 : decode m_Model_readContract.2.1 83 = .ok (.invokevirtual 611, 3) := by decide +kernel
theorem d_Model_readContract_86 : decode m_Model_readContract.2.1 86 = .ok (.aload_n 0, 1) := by decide +kernel
theorem d_Model_readContract_87 : decode m_Model_readContract.2.1 87 = .ok (.bipush 8, 2) := by decide +kernel
theorem d_Model_readContract_89 : decode m_Model_readContract.2.1 89 = .ok (.iload 5, 2) := by decide +kernel
theorem d_Model_readContract_91 : decode m_Model_readContract.2.1 91 = .ok (.iconst 0, 1) := by decide +kernel
theorem d_Model_readContract_92 : decode m_Model_readContract.2.1 92 = .ok (.iload_n 3, 1) := by decide +kernel
theorem d_Model_readContract_93 : decode m_Model_readContract.2.1 93 = .ok (.invokevirtual 611, 3) := by decide +kernel
theorem d_Model_readContract_96 : decode m_Model_readContract.2.1 96 = .ok (.aload_n 0, 1) := by decide +kernel
theorem d_Model_readContract_97 : decode m_Model_readContract.2.1 97 = .ok (.bipush 7, 2) := by decide +kernel
theorem d_Model_readContract_99 : decode m_Model_readContract.2.1 99 = .ok (.iload 5, 2) := by decide +kernel
theorem d_Model_readContract_101 : decode m_Model_readContract.2.1 101 = .ok (.iconst 0, 1) := by decide +kernel
theorem d_Model_readContract_102 : decode m_Model_readContract.2.1 102 = .ok (.iload_n 3, 1) := by decide +kernel
theorem d_Model_readContract_103 : decode m_Model_readContract.2.1 103 = .ok (.invokevirtual 611, 3) := by decide +kernel
theorem d_Model_readContract_106 : decode m_Model_readContract.2.1 106 = .ok (.goto 134, 3) := by decide +kernel
theorem d_Model_readContract_109 : decode m_Model_readContract.2.1 109 = .ok (.iload 4, 2) := by decide +kernel
theorem d_Model_readContract_111 : decode m_Model_readContract.2.1 111 = .ok (.iconst 4, 1) := by decide +kernel
theorem d_Model_readContract_112 : decode m_Model_readContract.2.1 112 = .ok (.if_icmp .ne 39, 3) := by decide +kernel
theorem d_Model_readContract_115 : decode m_Model_readContract.2.1 115 = .ok (.aload_n 0, 1) := by decide +kernel
theorem d_Model_readContract_116 : decode m_Model_readContract.2.1 116 = .ok (.iconst 1, 1) := by decide +kernel
theorem d_Model_readContract_117 : decode m_Model_readContract.2.1 117 = .ok (.iload 5, 2) := by decide +kernel
theorem d_Model_readContract_119 : decode m_Model_readContract.2.1 119 = .ok (.iconst 3, 1) := by decide +kernel
theorem d_Model_readContract_120 : decode m_Model_readContract.2.1 120 = .ok (.iload_n 3, 1) := by decide +kernel
theorem d_Model_readContract_121 : decode m_Model_readContract.2.1 121 = .ok (.iconst 1, 1) := by decide +kernel
theorem d_Model_readContract_122 : decode m_Model_readContract.2.1 122 = .ok (.iadd, 1) := by decide +kernel
theorem d_Model_readContract_123 : decode m_Model_readContract.2.1 123 = .ok (.invokevirtual 611, 3) := by decide +kernel
theorem d_Model_readContract_126 : decode m_Model_readContract.2.1 126 = .ok (.aload_n 0, 1) := by decide +kernel
theorem d_Model_readContract_127 : decode m_Model_readContract.2.1 127 = .ok (.iconst 1, 1) := by decide +kernel
theorem d_Model_readContract_128 : decode m_Model_readContract.2.1 128 = .ok (.iload 5, 2) := by decide +kernel
theorem d_Model_readContract_130 : decode m_Model_readContract.2.1 130 = .ok (.iconst 2, 1) := by decide +kernel
theorem d_Model_readContract_131 : decode m_Model_readContract.2.1 131 = .ok (.iload_n 3, 1) := by decide +kernel
theorem d_Model_readContract_132 : decode m_Model_readContract.2.1 132 = .ok (.iconst 1, 1) := by decide +kernel
theorem d_Model_readContract_133 : decode m_Model_readContract.2.1 133 = .ok (.iadd, 1) := by decide +kernel
theorem d_Model_readContract_134 : decode m_Model_readContract.2.1 134 = .ok (.invokevirtual 611, 3) := by decide +kernel
theorem d_Model_readContract_137 : decode m_Model_readContract.2.1 137 = .ok (.aload_n 0, 1) := by decide +kernel
theorem d_Model_readContract_138 : decode m_Model_readContract.2.1 138 = .ok (.iconst 3, 1) := by decide +kernel
theorem d_Model_readContract_139 : decode m_Model_readContract.2.1 139 = .ok (.iload 5, 2) := by decide +kernel
theorem d_Model_readContract_141 : decode m_Model_readContract.2.1 141 = .ok (.iconst 1, 1) := by decide +kernel
theorem d_Model_readContract_142 : decode m_Model_readContract.2.1 142 = .ok (.iload_n 3, 1) := by decide +kernel
theorem d_Model_readContract_143 : decode m_Model_readContract.2.1 143 = .ok (.iconst 1, 1) := by decide +kernel
theorem d_Model_readContract_144 : decode m_Model_readContract.2.1 144 = .ok (.iadd, 1) := by decide +kernel
theorem d_Model_readContract_145 : decode m_Model_readContract.2.1 145 = .ok (.invokevirtual 611, 3) := by decide +kernel
theorem d_Model_readContract_148 : decode m_Model_readContract.2.1 148 = .ok (.goto 92, 3) := by decide +kernel
theorem d_Model_readContract_151 : decode m_Model_readContract.2.1 151 = .ok (.iload 4, 2) := by decide +kernel
theorem d_Model_readContract_153 : decode m_Model_readContract.2.1 153 = .ok (.iconst 1, 1) := by decide +kernel
theorem d_Model_readContract_154 : decode m_Model_readContract.2.1 154 = .ok (.if_icmp .eq 86, 3) := by decide +kernel
theorem d_Model_readContract_157 : decode m_Model_readContract.2.1 157 = .ok (.aload_n 0, 1) := by decide +kernel
theorem d_Model_readContract_158 : decode m_Model_readContract.2.1 158 = .ok (.iconst 1, 1) := by decide +kernel
theorem d_Model_readContract_159 : decode m_Model_readContract.2.1 159 = .ok (.iload 5, 2) := by decide +kernel
theorem d_Model_readContract_161 : decode m_Model_readContract.2.1 161 = .ok (.iconst 2, 1) := by decide +kernel
theorem d_Model_readContract_162 : decode m_Model_readContract.2.1 162 = .ok (.iload_n 3, 1) := by decide +kernel
theorem d_Model_readContract_163 : decode m_Model_readContract.2.1 163 = .ok (.iconst 1, 1) := by decide +kernel
theorem d_Model_readContract_164 : decode m_Model_readContract.2.1 164 = .ok (.iadd, 1) := by decide +kernel
theorem d_Model_readContract_165 : decode m_Model_readContract.2.1 165 = .ok (.invokevirtual 611, 3) := by decide +kernel
theorem d_Model_readContract_168 : decode m_Model_readContract.2.1 168 = .ok (.aload_n 0, 1) := by decide +kernel
theorem d_Model_readContract_169 : decode m_Model_readContract.2.1 169 = .ok (.iload 4, 2) := by decide +kernel
theorem d_Model_readContract_171 : decode m_Model_readContract.2.1 171 = .ok (.bipush 7, 2) := by decide +kernel
theorem d_Model_readContract_173 : decode m_Model_readContract.2.1 173 = .ok (.if_icmp .ne 7, 3) := by decide +kernel
theorem d_Model_readContract_176 : decode m_Model_readContract.2.1 176 = .ok (.iconst 3, 1) := by decide +kernel
theorem d_Model_readContract_177 : decode m_Model_readContract.2.1 177 = .ok (.goto 4, 3) := by decide +kernel
theorem d_Model_readContract_180 : decode m_Model_readContract.2.1 180 = .ok (.iconst 2, 1) := by decide +kernel
theorem d_Model_readContract_181 : decode m_Model_readContract.2.1 181 = .ok (.iload 5, 2) := by decide +kernel
theorem d_Model_readContract_183 : decode m_Model_readContract.2.1 183 = .ok (.iconst 1, 1) := by decide +kernel
theorem d_Model_readContract_184 : decode m_Model_readContract.2.1 184 = .ok (.iload_n 3, 1) := by decide +kernel
theorem d_Model_readContract_185 : decode m_Model_readContract.2.1 185 = .ok (.iconst 1, 1) := by decide +kernel
theorem d_Model_readContract_186 : decode m_Model_readContract.2.1 186 = .ok (.iadd, 1) := by decide +kernel
theorem d_Model_readContract_187 : decode m_Model_readContract.2.1 187 = .ok (.invokevirtual 611, 3) := by decide +kernel
theorem d_Model_readContract_190 : decode m_Model_readContract.2.1 190 = .ok (.iload 4, 2) := by decide +kernel
theorem d_Model_readContract_192 : decode m_Model_readContract.2.1 192 = .ok (.iconst 2, 1) := by decide +kernel
theorem d_Model_readContract_193 : decode m_Model_readContract.2.1 193 = .ok (.if_icmp .ne 31, 3) := by decide +kernel
theorem d_Model_readContract_196 : decode m_Model_readContract.2.1 196 = .ok (.aload_n 0, 1) := by decide +kernel
theorem d_Model_readContract_197 : decode m_Model_readContract.2.1 197 = .ok (.iconst 4, 1) := by decide +kernel
theorem d_Model_readContract_198 : decode m_Model_readContract.2.1 198 = .ok (.iload 5, 2) := by decide +kernel
theorem d_Model_readContract_200 : decode m_Model_readContract.2.1 200 = .ok (.iconst 3, 1) := by decide +kernel
theorem d_Model_readContract_201 : decode m_Model_readContract.2.1 201 = .ok (.iload_n 3, 1) := by decide +kernel
theorem d_Model_readContract_202 : decode m_Model_readContract.2.1 202 = .ok (.invokevirtual 611, 3) := by decide +kernel
theorem d_Model_readContract_205 : decode m_Model_readContract.2.1 205 = .ok (.aload_n 0, 1) := by decide +kernel
theorem d_Model_readContract_206 : decode m_Model_readContract.2.1 206 = .ok (.iconst 4, 1) := by decide +kernel
theorem d_Model_readContract_207 : decode m_Model_readContract.2.1 207 = .ok (.iload 5, 2) := by decide +kernel
theorem d_Model_readContract_209 : decode m_Model_readContract.2.1 209 = .ok (.iconst 2, 1) := by decide +kernel
theorem d_Model_readContract_210 : decode m_Model_readContract.2.1 210 = .ok (.iload_n 3, 1) := by decide +kernel
theorem d_Model_readContract_211 : decode m_Model_readContract.2.1 211 = .ok (.invokevirtual 611, 3) := by decide +kernel
theorem d_Model_readContract_214 : decode m_Model_readContract.2.1 214 = .ok (.aload_n 0, 1) := by decide +kernel
theorem d_Model_readContract_215 : decode m_Model_readContract.2.1 215 = .ok (.bipush 6, 2) := by decide +kernel
theorem d_Model_readContract_217 : decode m_Model_readContract.2.1 217 = .ok (.iload 5, 2) := by decide +kernel
theorem d_Model_readContract_219 : decode m_Model_readContract.2.1 219 = .ok (.iconst 0, 1) := by decide +kernel
theorem d_Model_readContract_220 : decode m_Model_readContract.2.1 220 = .ok (.iload_n 3, 1) := by decide +kernel
theorem d_Model_readContract_221 : decode m_Model_readContract.2.1 221 = .ok (.invokevirtual 611, 3) := by decide +kernel
theorem d_Model_readContract_224 : decode m_Model_readContract.2.1 224 = .ok (.iload 4, 2) := by decide +kernel
theorem d_Model_readContract_226 : decode m_Model_readContract.2.1 226 = .ok (.bipush 7, 2) := by decide +kernel
theorem d_Model_readContract_228 : decode m_Model_readContract.2.1 228 = .ok (.if_icmp .eq 12, 3) := by decide +kernel
theorem d_Model_readContract_231 : decode m_Model_readContract.2.1 231 = .ok (.aload_n 0, 1) := by decide +kernel
theorem d_Model_readContract_232 : decode m_Model_readContract.2.1 232 = .ok (.iconst 4, 1) := by decide +kernel
theorem d_Model_readContract_233 : decode m_Model_readContract.2.1 233 = .ok (.iload 5, 2) := by decide +kernel
theorem d_Model_readContract_235 : decode m_Model_readContract.2.1 235 = .ok (.iconst 1, 1) := by decide +kernel
theorem d_Model_readContract_236 : decode m_Model_readContract.2.1 236 = .ok (.iload_n 3, 1) := by decide +kernel
theorem d_Model_readContract_237 : decode m_Model_readContract.2.1 237 = .ok (.invokevirtual 611, 3) := by decide +kernel
theorem d_Model_readContract_240 : decode m_Model_readContract.2.1 240 = .ok (.return_, 1) := by decide +kernel
/-- the token at place a is the one of the function -/
def TkOk (t : Nat → Nat) (N a : Nat) : Prop := TokR t N a (tb (tkP t N) a) (te (tkP t N) a) (tk (tkP t N) a) (tx (tkP t N) a) (tv (tkP t N) a)
theorem TokR.ok {t : Nat → Nat} {N a b e x : Nat} {k v : Int} (h : TokR t N a b e k x v) : TkOk t N a :=
  Classical.epsilon_spec (p := fun p : Nat × Nat × Int × Nat × Int => TokR t N a p.1 p.2.1 p.2.2.1 p.2.2.2.1 p.2.2.2.2) ⟨(b, e, k, x, v), h⟩
theorem TokR.kw {t : Nat → Nat} {N a b e x : Nat} {k v : Int} (h : TokR t N a b e k x v) (hk : 0 ≤ k ∧ k < 100) : kwF x = k ∧ ∃ g, NamR t g e ∧ x = nvF t g (e - g) := by
  obtain ⟨-, h2⟩ := h
  rcases h2 with ⟨p1, p2, p3⟩ | ⟨p1, p2, p3, p4⟩ | ⟨p1, p2, p3, p4, bad, p5, p6, p7⟩ | ⟨p1, p2, p3, p4, p5⟩
  · omega
  · exfalso; (repeat' split at p4) <;> omega
  · exfalso
    have : bad = 0 ∨ bad = 1 ∨ bad = 2 := by rcases p5 with ⟨z, _⟩ | ⟨_, _, ⟨z, _⟩ | ⟨z, _⟩⟩ <;> omega
    split at p6 <;> omega
  · rcases p5 with ⟨p5, p6⟩ | ⟨p5, p6, p7⟩
    · omega
    · refine ⟨?_, _, p5, p6⟩
      (repeat' split at p7) <;> omega
theorem TokR.nm {t : Nat → Nat} {N a b e x : Nat} {k v : Int} (h : TokR t N a b e k x v) (hk : k = 101 ∨ k = 102) : kwF x = -1 ∧ ∃ g, NamR t g e ∧ x = nvF t g (e - g) := by
  obtain ⟨-, h2⟩ := h
  rcases h2 with ⟨p1, p2, p3⟩ | ⟨p1, p2, p3, p4⟩ | ⟨p1, p2, p3, p4, bad, p5, p6, p7⟩ | ⟨p1, p2, p3, p4, p5⟩
  · omega
  · exfalso; (repeat' split at p4) <;> omega
  · exfalso
    have : bad = 0 ∨ bad = 1 ∨ bad = 2 := by rcases p5 with ⟨z, _⟩ | ⟨_, _, ⟨z, _⟩ | ⟨z, _⟩⟩ <;> omega
    split at p6 <;> omega
  · rcases p5 with ⟨p5, p6⟩ | ⟨p5, p6, p7⟩
    · omega
    · refine ⟨?_, _, p5, p6⟩
      have := kwG_in x 34
      have h3 : kwF x < 34 := this.2
      (repeat' split at p7) <;> omega
theorem TokR.num {t : Nat → Nat} {N a b e x : Nat} {v : Int} (h : TokR t N a b e 100 x v) : (if t b = 45 then b + 1 else b) < e ∧ (∀ j, (if t b = 45 then b + 1 else b) ≤ j → j < e → dgt (t j)) ∧ dvF t (if t b = 45 then b + 1 else b) (e - (if t b = 45 then b + 1 else b)) < 10 ^ 300 ∧ v = if t b = 45 then -(dvF t (if t b = 45 then b + 1 else b) (e - (if t b = 45 then b + 1 else b)) : Int) else (dvF t (if t b = 45 then b + 1 else b) (e - (if t b = 45 then b + 1 else b)) : Int) := by
  obtain ⟨-, h2⟩ := h
  rcases h2 with ⟨p1, p2, p3⟩ | ⟨p1, p2, p3, p4⟩ | ⟨p1, p2, p3, p4, bad, p5, p6, p7⟩ | ⟨p1, p2, p3, p4, p5⟩
  · omega
  · exfalso; (repeat' split at p4) <;> omega
  · have hb : bad = 0 := by
      have : bad = 0 ∨ bad = 1 ∨ bad = 2 := by rcases p5 with ⟨z, _⟩ | ⟨_, _, ⟨z, _⟩ | ⟨z, _⟩⟩ <;> omega
      split at p6 <;> omega
    subst hb
    rcases p5 with ⟨z, _⟩ | ⟨q1, q2, ⟨z, _⟩ | ⟨_, q3⟩⟩
    · omega
    · omega
    · refine ⟨q1, q2, q3, ?_⟩
      rw [p7 rfl]
      by_cases q : t b = 45
      · simp only [q, if_true]
      · simp only [q, if_false]
  · rcases p5 with ⟨p5, p6⟩ | ⟨p5, p6, p7⟩
    · omega
    · exfalso
      have := kwG_in x 34
      have h3 : kwF x < 34 := this.2
      (repeat' split at p7) <;> omega
theorem TokR.kd {t : Nat → Nat} {N a b e x : Nat} {k v : Int} (h : TokR t N a b e k x v) : -2 ≤ k ∧ k ≤ 107 ∧ (k < 34 ∨ 100 ≤ k) := by
  obtain ⟨-, h2⟩ := h
  rcases h2 with ⟨p1, p2, p3⟩ | ⟨p1, p2, p3, p4⟩ | ⟨p1, p2, p3, p4, bad, p5, p6, p7⟩ | ⟨p1, p2, p3, p4, p5⟩
  · omega
  · (repeat' split at p4) <;> omega
  · have : bad = 0 ∨ bad = 1 ∨ bad = 2 := by rcases p5 with ⟨z, _⟩ | ⟨_, _, ⟨z, _⟩ | ⟨z, _⟩⟩ <;> omega
    split at p6 <;> omega
  · rcases p5 with ⟨p5, p6⟩ | ⟨p5, p6, p7⟩
    · omega
    · have h2 : -1 ≤ kwF x ∧ kwF x < 34 := by unfold kwF; have := kwG_in x 34; omega
      (repeat' split at p7) <;> omega
theorem fkc {k : Int} (h : -2 ≤ k ∧ k ≤ 107 ∧ (k < 34 ∨ 100 ≤ k)) : (if tkc k = 9 then 1 else if tkc k = 10 then 2 else if tkc k = 0 then 3 else 4) = if k < 0 then -k else if k = 107 then (3 : Int) else 4 := by
  unfold tkc
  (repeat' split) <;> omega
theorem TokR.x63 {t : Nat → Nat} {N a b e x : Nat} {k v : Int} (h : TokR t N a b e k x v) (hk : 0 ≤ k ∧ k < 100 ∨ k = 101 ∨ k = 102) : x < 9223372036854775808 ∧ 0 < x := by
  have h1 : ∃ g, NamR t g e ∧ x = nvF t g (e - g) := by
    rcases hk with q | q
    · exact (h.kw q).2
    · exact (h.nm q).2
  obtain ⟨g, hg, hx⟩ := h1
  rw [hx]
  exact ⟨nvF_63 hg, nvF_pos (by have := hg.2.2.1; omega) _ (by have := hg.1; omega)⟩
/-- the token at hand of the reference, read from place a on -/
def TH (M N a : Nat) (t : Nat → Nat) (I : M32) (L : M64) : Prop := TkOk t N a ∧ I M 12 = cI (tb (tkP t N) a) ∧ I M 13 = cI (tkc (tk (tkP t N) a)) ∧ I M 14 = cI (tb (tkP t N) a) ∧ I M 15 = cI (te (tkP t N) a) ∧ (0 ≤ tk (tkP t N) a ∧ tk (tkP t N) a < 100 ∨ tk (tkP t N) a = 101 ∨ tk (tkP t N) a = 102 → L M 16 = cL (tx (tkP t N) a))
theorem TkM.th {M N a : Nat} {t : Nat → Nat} {I : M32} {L : M64} (h : TkM M N a t I L) : TH M N a t I L := by
  obtain ⟨b, e, k, x, v, h1, h2, h3, h4, h5, h6⟩ := h
  obtain ⟨e1, e2, e3, e4, e5⟩ := tkP_ok h1
  refine ⟨h1.ok, ?_, ?_, ?_, ?_, fun hq => ?_⟩
  · show _ = cI ((tkP t N a).1 : Int); rw [e1]; exact h2
  · show _ = cI (tkc (tkP t N a).2.2.1); rw [e3]; exact h3
  · show _ = cI ((tkP t N a).1 : Int); rw [e1]; exact h4
  · show _ = cI ((tkP t N a).2.1 : Int); rw [e2]; exact h5
  · have hq' : 0 ≤ k ∧ k < 100 ∨ k = 101 ∨ k = 102 := by rw [← e3]; exact hq
    show _ = cL ((tkP t N a).2.2.2.1 : Int)
    rw [e4 hq']; exact h6 hq'
/-- the pile begins with what a node wants -/
def PI (nd : Int) (dep : Nat) : List (Nat × Nat) → List Wt → List Wt → Prop
  | [], q, l => q = l
  | w :: ws, p :: q, l => (p.1 = w.1 ∧ p.2.1 = nd ∧ p.2.2.1 = w.2 ∧ (w.1 ≤ 3 → p.2.2.2 = dep + 1) ∧ (w.1 = 8 → p.2.2.2 = dep)) ∧ PI nd dep ws q l
  | _ :: _, [], _ => False
abbrev SEr (M a k : Nat) : Prop := a = M ∧ (k = 17 ∨ k = 18)
/-- the code that failToken tells -/
def fcF (K : Int) : Int := if K < 0 then -K else if K = 107 then 3 else 4
/-- the cell that links a node to its upper one -/
def lkC (M : Nat) (I : M32) (u s : Int) (n : Nat) : Prop := (u = -1 → I M 38 = cI n) ∧ (u ≠ -1 → (s = 1 → I (M + 10) u.toNat = cI n) ∧ (s = 2 → I (M + 11) u.toNat = cI n) ∧ (s = 3 → I (M + 12) u.toNat = cI n))
/-- row u is as it was but for the cell of slot s -/
def RwU (M : Nat) (u s : Int) (I I' : M32) : Prop := 0 ≤ u → 1 ≤ s → s ≤ 3 → ∀ a, M + 6 ≤ a → a ≤ M + 18 → (a : Int) ≠ M + 9 + s → I' a u.toNat = I a u.toNat
/-- what the reading of a node comes to -/
def rdQ (M n g dep tp : Nat) (u s : Int) (so : Nat) (K : Int) (b e x : Nat) (v : Int) (l : List Wt) (z : Int32) (I : M32) (L : M64) (I' : M32) (L' : M64) : Prop :=
  (okS so K = false ∧ I' M 17 = cI (fcF K) ∧ I' M 18 = cI b ∧ Fx (SEr M) I I' ∧ L' = L) ∨
  (okS so K = true ∧ (100 < dep ∨ n - g = 1000) ∧ I' M 17 = cI 7 ∧ I' M 18 = cI b ∧ Fx (SEr M) I I' ∧ L' = L) ∨
  (okS so K = true ∧ ¬ (100 < dep ∨ n - g = 1000) ∧ ∃ (ql : List Wt) (tp' : Nat), PI n dep (itC K) ql l ∧ PileV I' M ql ∧ I' M 43 = cI ql.length ∧ ql.length ≤ l.length + 6 ∧ I' M 12 = cI e ∧
    NdM I' L' M n (kdM K (-1)) (-1) (-1) (-1) (-1) (if K = 102 then (x : Int) else 0) 0 0 0 0 ∧ I' M 37 = cI (n + 1 : Nat) ∧ lkC M I' u s n ∧ I' M 7 = cI tp' ∧
    (K = 100 → ∃ m, m ≤ 300 ∧ tp' = tp + m + 2 ∧ I' (M + 14) n = cI tp ∧ PolV I' (M + 3) tp m v) ∧ (K ≠ 100 → tp' = tp) ∧ I' M 8 = z ∧ (∀ pt, FA M u n pt tp I I') ∧ FF M [7, 8, 12, 37, 38, 43] I I' ∧ (u ≠ -1 → I' M 38 = I M 38) ∧ RwU M u s I I' ∧ FLn M (-1) n L L')
theorem lkI_a {M n pt tp c : Nat} {u s : Int} {I : M32} (hu : -1 ≤ u) : FA M u n pt tp I (lkI M I u s c) := by
  unfold lkI
  split
  · exact FA.of (Fx.up (S := fun a k => a = M ∧ k = 38) ⟨rfl, rfl⟩) (fun a k h => by omega) (fun a k h => by omega) (fun a k h => by omega) (fun k h => by omega)
  · split
    · exact FA.of (Fx.up (S := fun a k => a = M + 10 ∧ k = u.toNat) ⟨rfl, rfl⟩) (fun a k h => by omega) (fun a k h => by omega) (fun a k h => by omega) (fun k h => by omega)
    · split
      · exact FA.of (Fx.up (S := fun a k => a = M + 11 ∧ k = u.toNat) ⟨rfl, rfl⟩) (fun a k h => by omega) (fun a k h => by omega) (fun a k h => by omega) (fun k h => by omega)
      · exact FA.of (Fx.up (S := fun a k => a = M + 12 ∧ k = u.toNat) ⟨rfl, rfl⟩) (fun a k h => by omega) (fun a k h => by omega) (fun a k h => by omega) (fun k h => by omega)
theorem lkI_f {M c : Nat} {u s : Int} {I : M32} : FF M [38] I (lkI M I u s c) := by
  unfold lkI
  split
  · exact FF.up (by decide)
  · split
    · exact fun k _ => up2_a _ _ _ (by omega)
    · split
      · exact fun k _ => up2_a _ _ _ (by omega)
      · exact fun k _ => up2_a _ _ _ (by omega)
theorem lkI_38 {M c : Nat} {u s : Int} {I : M32} (hu : u ≠ -1) : lkI M I u s c M 38 = I M 38 := by
  unfold lkI
  rw [if_neg hu]
  split
  · exact up2_a _ _ _ (by omega)
  · split
    · exact up2_a _ _ _ (by omega)
    · exact up2_a _ _ _ (by omega)
theorem lkI_r {M c : Nat} {u s : Int} {I : M32} : RwU M u s I (lkI M I u s c) := by
  intro hu h1 h3 a e1 e2 e3
  unfold lkI
  rw [if_neg (by omega)]
  split
  · exact up2_a _ _ _ (by omega)
  · split
    · exact up2_a _ _ _ (by omega)
    · exact up2_a _ _ _ (by omega)
theorem lkI_n {M c n : Nat} {u s : Int} {I : M32} (hu : -1 ≤ u) (hun : u < n) : ∀ a, M + 6 ≤ a → lkI M I u s c a n = I a n := by
  intro a h
  have key : ∀ (b : Nat) (v : Int32), u ≠ -1 → up2 I b u.toNat v a n = I a n := fun b v hne => by
    by_cases e : a = b
    · subst e; exact up2_k _ _ _ (by omega)
    · exact up2_a _ _ _ e
  unfold lkI
  split
  · exact up2_a _ _ _ (by omega)
  · next hne =>
    split
    · exact key _ _ hne
    · split
      · exact key _ _ hne
      · exact key _ _ hne
theorem lkI_p {M c : Nat} {u s : Int} {I : M32} : ∀ a k, M + 21 ≤ a → lkI M I u s c a k = I a k := by
  intro a k h
  unfold lkI
  split
  · exact up2_a _ _ _ (by omega)
  · split
    · exact up2_a _ _ _ (by omega)
    · split
      · exact up2_a _ _ _ (by omega)
      · exact up2_a _ _ _ (by omega)
theorem lkI_c {M n : Nat} {u s : Int} {I J : M32} (h38 : J M 38 = lkI M I u s n M 38) (hr : ∀ a, M + 10 ≤ a → a ≤ M + 12 → J a u.toNat = lkI M I u s n a u.toNat) : lkC M J u s n := by
  refine ⟨fun e => ?_, fun e => ⟨fun e1 => ?_, fun e1 => ?_, fun e1 => ?_⟩⟩
  · rw [h38]; unfold lkI; rw [if_pos e, up2_s]
  · rw [hr _ (by omega) (by omega)]; unfold lkI; rw [if_neg e, if_pos e1, up2_s]
  · rw [hr _ (by omega) (by omega)]; unfold lkI; rw [if_neg e, if_neg (by omega), if_pos e1, up2_s]
  · rw [hr _ (by omega) (by omega)]; unfold lkI; rw [if_neg e, if_neg (by omega), if_neg (by omega), up2_s]
abbrev S3 (M n tp a k : Nat) : Prop := (a = M ∧ (k = 7 ∨ k = 8 ∨ k = 12)) ∨ (a = M + 3 ∧ tp ≤ k) ∨ (a = M + 14 ∧ k = n)
theorem rd_fin {M n g dep tp tp' b e x : Nat} {u s K v : Int} {so : Nat} {l ql : List Wt} {z : Int32} {I I1 I3 J : M32} {L L1 L3 : M64}
    (ho : okS so K = true) (hb : ¬ (100 < dep ∨ n - g = 1000)) (hnd : NdM I1 L1 M n (kdM K (-1)) (-1) (-1) (-1) (-1) 0 0 0 0 0) (h37 : I1 M 37 = cI (n + 1 : Nat)) (hF1 : Fx (SNd M n) I I1) (hl1 : Fx (SNl M n) L L1) (hu : -1 ≤ u) (hun : u < n)
    (hF3 : Fx (S3 M n tp) (lkI M I1 u s n) I3) (h12 : I3 M 12 = cI e) (hL3 : Fx (fun a k => a = M + 7 ∧ k = n) L1 L3) (hLn : L3 (M + 7) n = cL (if K = 102 then (x : Int) else 0))
    (h7 : I3 M 7 = cI tp') (h100 : K = 100 → ∃ m, m ≤ 300 ∧ tp' = tp + m + 2 ∧ I3 (M + 14) n = cI tp ∧ PolV I3 (M + 3) tp m v) (hne : K ≠ 100 → tp' = tp) (h8 : I3 M 8 = z)
    (hPI : PI n dep (itC K) ql l) (hA : PA M I3 J ql) (hlen : ql.length ≤ l.length + 6) : rdQ M n g dep tp u s so K b e x v l z I L J L3 := by
  obtain ⟨hA1, hA2, hA3⟩ := hA
  have a3 : ∀ k, k ≠ 43 → J M k = I3 M k := fun k h => hA3 _ _ (by omega)
  have a4 : ∀ y k, M < y → y < M + 21 → J y k = I3 y k := fun y k h1 h2 => hA3 _ _ (by omega)
  have c3 : ∀ y k, M + 6 ≤ y → y ≤ M + 18 → y ≠ M + 14 → I3 y k = lkI M I1 u s n y k := fun y k h1 h2 h3 => hF3 _ _ (by omega)
  have hrow : ∀ y, M + 6 ≤ y → y ≤ M + 18 → y ≠ M + 14 → J y n = I1 y n := fun y h1 h2 h3 => by
    rw [a4 _ _ (by omega) (by omega), c3 _ _ h1 h2 h3, lkI_n hu hun _ h1]
  have d1 : ∀ pt, FA M u n pt tp I I1 := fun pt => FA.of hF1 (fun a k h => by omega) (fun a k h => by omega) (fun a k h => by omega) (fun k h => by omega)
  have d3 : ∀ pt, FA M u n pt tp (lkI M I1 u s n) I3 := fun pt => FA.of hF3 (fun a k h => by omega) (fun a k h => by omega) (fun a k h => by omega) (fun k h => by omega)
  have d4 : ∀ pt, FA M u n pt tp I3 J := fun pt => FA.of hA3 (fun a k h => by omega) (fun a k h => by omega) (fun a k h => by omega) (fun k h => by omega)
  have f1 : FF M [37] I I1 := FF.of hF1 fun k h => by obtain rfl : k = 37 := (by omega); decide
  have f3 : FF M [7, 8, 12] (lkI M I1 u s n) I3 := FF.of hF3 fun k h => by rcases (show k = 7 ∨ k = 8 ∨ k = 12 by omega) with rfl | rfl | rfl <;> decide
  have f4 : FF M [43] I3 J := FF.of hA3 fun k h => by obtain rfl : k = 43 := (by omega); decide
  refine Or.inr (Or.inr ⟨ho, hb, ql, tp', hPI, hA1, hA2, hlen, by rw [a3 _ (by decide)]; exact h12, ?_, ?_, ?_, by rw [a3 _ (by decide)]; exact h7, fun e9 => ?_, hne, by rw [a3 _ (by decide)]; exact h8, fun pt => (((d1 pt).tr (lkI_a hu)).tr (d3 pt)).tr (d4 pt), ?_, fun e9 => ?_, fun g1 g2 g3 y y1 y2 y3 => ?_, ?_⟩)
  · obtain ⟨q1, q2, q3, q4, q5, q6, q7, q8, q9, q10⟩ := hnd
    exact ⟨by rw [hrow _ (by omega) (by omega) (by omega)]; exact q1, by rw [hrow _ (by omega) (by omega) (by omega)]; exact q2, by rw [hrow _ (by omega) (by omega) (by omega)]; exact q3, by rw [hrow _ (by omega) (by omega) (by omega)]; exact q4, by rw [hrow _ (by omega) (by omega) (by omega)]; exact q5, hLn, by rw [hL3 _ _ (by omega)]; exact q7, by rw [hL3 _ _ (by omega)]; exact q8, by rw [hrow _ (by omega) (by omega) (by omega)]; exact q9, by rw [hrow _ (by omega) (by omega) (by omega)]; exact q10⟩
  · rw [f4 _ (by decide), f3 _ (by decide), lkI_f _ (by decide)]; exact h37
  · exact lkI_c (by rw [f4 _ (by decide), f3 _ (by decide)]) (fun y y1 y2 => by rw [a4 _ _ (by omega) (by omega), c3 _ _ (by omega) (by omega) (by omega)])
  · obtain ⟨m, e1, e2, e3, e4⟩ := h100 e9
    exact ⟨m, e1, e2, by rw [a4 _ _ (by omega) (by omega)]; exact e3, e4.congr fun k _ _ => a4 _ _ (by omega) (by omega)⟩
  · exact (((f1.mo (by decide)).tr (lkI_f.mo (by decide))).tr (f3.mo (by decide))).tr (f4.mo (by decide))
  · rw [f4 _ (by decide), f3 _ (by decide), lkI_38 e9, f1 _ (by decide)]
  · by_cases e14 : y = M + 14
    · subst e14
      rw [a4 _ _ (by omega) (by omega), hF3 _ _ (by omega), lkI_r g1 g2 g3 _ y1 y2 y3, hF1 _ _ (by omega)]
    · rw [a4 _ _ (by omega) (by omega), c3 _ _ y1 y2 e14, lkI_r g1 g2 g3 _ y1 y2 y3, hF1 _ _ (by omega)]
  · exact (FLn.of hl1 fun a k h => by omega).tr (FLn.of hL3 fun a k h => by omega)
theorem c_Model_readContract (d : Nat) {M N a n g dep tp : Nat} {u s : Int} {t : Nat → Nat} {l : List Wt} {I : M32} {L : M64} {R : MR} {T : SH} (hd : 2 ≤ d) (hM : MdlS M R T) (hT : TH M N a t I L) (hn : I M 37 = cI n) (hg : I M 36 = cI g) (hgn : g ≤ n) (hn5 : n < 5100) (hF : I M 17 = cI 0) (hA : PileV I M l) (hw0 : I M 43 = cI l.length) (hl : l.length + 6 < 30000) (hu : -1 ≤ u) (hun : u < n) (hs : inI s) (hdp : dep < 1000) (htp : I M 7 = cI tp) :
    Call m_Model_readContract y_Model_readContract d 0 0 [.ref M, .int (cI u), .int (cI s), .int (cI dep)] I L R T (rV fun I' L' R' T' => rdQ M n g dep tp u s 1 (tk (tkP t N) a) (tb (tkP t N) a) (te (tkP t N) a) (tx (tkP t N) a) (tv (tkP t N) a) l (I M 8) I L I' L' ∧ R' = R ∧ T' = T) := by
  refine Call.ofRun (by decide) ⟨rfl, rfl⟩ (Nat.le_of_ble_eq_true rfl) ?_
  refine Run.gen fun Q hQ => ?_
  obtain ⟨hok0, h12, h13, h14, h15, h16⟩ := id hT
  have hok : TokR t N a (tb (tkP t N) a) (te (tkP t N) a) (tk (tkP t N) a) (tx (tkP t N) a) (tv (tkP t N) a) := hok0
  have hkd := hok.kd
  have hx63 := hok.x63
  have hkw := hok.kw
  generalize hK : tk (tkP t N) a = K at *
  generalize hX : tx (tkP t N) a = x at *
  generalize tb (tkP t N) a = b at *
  generalize te (tkP t N) a = e at *
  generalize tv (tkP t N) a = v at *
  have hki : inI (tkc K) := tkc_i
  have main : ∀ (w : Int), w = (if okS 1 K then kdM K (-1) else 0) → Run m_Model_readContract d 0 0 19 [(0, .ref M), (1, .int (cI u)), (2, .int (cI s)), (3, .int (cI (dep : Int)))] [.int (cI w)] I L R T Q := by
    intro w hw
    by_cases ho : okS 1 K = true
    · have hwK : (K = 0 ∧ w = 1) ∨ (K = 1 ∧ w = 2) ∨ (K = 4 ∧ w = 4) ∨ (K = 5 ∧ w = 5) ∨ (K = 10 ∧ w = 6) ∨ (K = 11 ∧ w = 7) := by
        rw [if_pos ho] at hw
        unfold okS at ho
        rw [if_pos rfl, decide_eq_true_eq] at ho
        rcases ho with h | h | h | h | h | h <;> subst h <;> simp [kdM] at hw <;> omega
      have hwk : w = kdM K (-1) := by rw [hw, if_pos ho]
      refine q_istore (lv' := [(4, .int (cI w)), (0, .ref M), (1, .int (cI u)), (2, .int (cI s)), (3, .int (cI (dep : Int)))]) d_Model_readContract_19 (by decide) rfl ?_
      refine q_iload d_Model_readContract_21 rfl ?_
      refine j_if_ne (tgt := 31) d_Model_readContract_23 (by decide) (by omega) (fun hx => ?_) (fun hx => by exfalso; omega)
      refine q_aload_n d_Model_readContract_31 rfl ?_
      refine q_iload d_Model_readContract_32 rfl ?_
      refine q_iload_n d_Model_readContract_34 rfl ?_
      refine q_callV (ci := 17) (rc := 0) (rs := 0) (rest := []) d_Model_readContract_35 ml_Model_601 ok_Model_node rfl hM.1 (by decide) (c_Model_node (d - 1) (by omega) hM hn hg hgn hn5 (by omega) hF) rfl rfl (by omega) (Nat.le_of_ble_eq_true rfl) (kr_I (fun r I1 L1 R1 T1 h => ?_)) kt_I
      obtain ⟨h, rfl, rfl⟩ := h
      rcases h with ⟨hb, rfl, hI1, hL1⟩ | ⟨hb, rfl, hnd, hI37, hFx, hFl⟩
      · skip
        refine q_istore (lv' := [(5, .int (cI (-1))), (4, .int (cI w)), (0, .ref M), (1, .int (cI u)), (2, .int (cI s)), (3, .int (cI (dep : Int)))]) d_Model_readContract_38 (by decide) rfl ?_
        refine q_iload d_Model_readContract_40 rfl ?_
        refine j_iconst d_Model_readContract_42 ?_
        refine j_icmp_ne (tgt := 47) d_Model_readContract_43 (by decide) (by omega) (by omega) (fun hx => by exfalso; omega) (fun hx => ?_)
        refine q_return d_Model_readContract_46 rfl ?_
        refine hQ _ _ _ _ _ ?_
        exact ⟨rfl, Or.inr (Or.inl ⟨ho, by omega, by rw [hI1, up2_k _ _ _ (by decide), up2_s], by rw [hI1, up2_s]; exact h14, by rw [hI1]; exact (Fx.up ⟨rfl, Or.inl rfl⟩).tu ⟨rfl, Or.inr rfl⟩, hL1⟩), rfl, rfl⟩
      · skip
        refine q_istore (lv' := [(5, .int (cI (n : Int))), (4, .int (cI w)), (0, .ref M), (1, .int (cI u)), (2, .int (cI s)), (3, .int (cI (dep : Int)))]) d_Model_readContract_38 (by decide) rfl ?_
        refine q_iload d_Model_readContract_40 rfl ?_
        refine j_iconst d_Model_readContract_42 ?_
        refine j_icmp_ne (tgt := 47) d_Model_readContract_43 (by decide) (by omega) (by omega) (fun hx => ?_) (fun hx => by exfalso; omega)
        refine q_aload_n d_Model_readContract_47 rfl ?_
        refine q_iload_n d_Model_readContract_48 rfl ?_
        refine q_iload_n d_Model_readContract_49 rfl ?_
        refine q_iload d_Model_readContract_50 rfl ?_
        refine q_callV (ci := 17) (rc := 0) (rs := 0) (rest := []) d_Model_readContract_52 ml_Model_604 ok_Model_link rfl hM.1 (by decide) (c_Model_link (d - 1) (c := (n : Int)) hM hu (by omega) hs) rfl rfl (by omega) (Nat.le_of_ble_eq_true rfl) (kp_V ?_) kt_V
        generalize hI2 : lkI M I1 u s (n : Int) = I2
        have hF2 : FF M [37, 38] I I2 := by rw [← hI2]; exact (FF.of hFx fun k h => by obtain rfl : k = 37 := (by omega); decide).tr (lkI_f.mo (by decide))
        have hP2 : ∀ a k, M + 21 ≤ a → a ≤ M + 24 → I2 a k = I a k := fun a k e1 e2 => by rw [← hI2, lkI_p _ _ e1, hFx _ _ (by omega)]
        refine q_aload_n d_Model_readContract_55 rfl ?_
        refine q_callV (ci := 17) (rc := 0) (rs := 0) (rest := []) d_Model_readContract_56 ml_Model_608 ok_Model_use rfl hM.1 (by decide) (c_Model_use (d - 1) hM) rfl rfl (by omega) (Nat.le_of_ble_eq_true rfl) (kp_V ?_) kt_V
        generalize hI3 : (up2 I2 M 12 (I2 M 15)) = I3
        have hF3 : Fx (S3 M n tp) I2 I3 := by rw [← hI3]; exact Fx.up (Or.inl ⟨rfl, by omega⟩)
        have hA : PA M I3 I3 l := ⟨hA.fx fun a k e1 e2 _ => by rw [hF3 _ _ (by omega), hP2 _ _ e1 e2], by rw [← hI3, up2_k _ _ _ (by decide), hF2 _ (by decide)]; exact hw0, Fx.rf⟩
        have fin : ∀ (J : M32) (ql : List Wt), PI n dep (itC K) ql l → ql.length ≤ l.length + 6 → PA M I3 J ql → Q (.returned none) J L1 R1 T1 := fun J ql h1 h2 h3 => hQ _ _ _ _ _ ⟨rfl, rd_fin ho (by omega) (by rw [← hwk]; exact hnd) hI37 hFx hFl hu hun (by rw [hI2]; exact hF3) (by rw [← hI3, up2_s, hF2 _ (by decide)]; exact h15) Fx.rf (by rw [if_neg (by omega)]; exact hnd.2.2.2.2.2.1) (by rw [← hI3, up2_k _ _ _ (by decide), hF2 _ (by decide)]; exact htp) (fun e9 => by omega) (fun _ => rfl) (by rw [← hI3, up2_k _ _ _ (by decide), hF2 _ (by decide)]) h1 h3 h2, rfl, rfl⟩
        refine q_iload d_Model_readContract_59 rfl ?_
        refine j_iconst d_Model_readContract_61 ?_
        refine j_icmp_ne (tgt := 109) d_Model_readContract_62 (by decide) (by omega) (by omega) (fun hp1 => ?_) (fun hp1 => ?_)
        · refine q_iload d_Model_readContract_109 rfl ?_
          refine j_iconst d_Model_readContract_111 ?_
          refine j_icmp_ne (tgt := 151) d_Model_readContract_112 (by decide) (by omega) (by omega) (fun hp2 => ?_) (fun hp2 => ?_)
          · refine q_iload d_Model_readContract_151 rfl ?_
            refine j_iconst d_Model_readContract_153 ?_
            refine j_icmp_eq (tgt := 240) d_Model_readContract_154 (by decide) (by omega) (by omega) (fun hp3 => ?_) (fun hp3 => ?_)
            · refine q_return d_Model_readContract_240 rfl ?_
              exact fin _ _ (by rcases hwK with h | h | h | h | h | h <;> first | (exfalso; omega) | (rw [h.1]; simp [PI, itC])) (by first | omega | (simp only [List.length_cons]; omega)) hA
            · refine q_aload_n d_Model_readContract_157 rfl ?_
              refine j_iconst d_Model_readContract_158 ?_
              refine q_iload d_Model_readContract_159 rfl ?_
              refine j_iconst d_Model_readContract_161 ?_
              refine q_iload_n d_Model_readContract_162 rfl ?_
              refine j_iconst d_Model_readContract_163 ?_
              refine j_iadd d_Model_readContract_164 ?_
              refine q_callV (ci := 17) (rc := 0) (rs := 0) (rest := []) d_Model_readContract_165 ml_Model_611 ok_Model_push rfl hM.1 (by decide) (c_Model_push (d - 1) hM hA (by first | omega | (simp only [List.length_cons]; omega))) rfl rfl (by omega) (Nat.le_of_ble_eq_true rfl) (kv_V (fun J hA => ?_)) kt_V
              refine q_aload_n d_Model_readContract_168 rfl ?_
              refine q_iload d_Model_readContract_169 rfl ?_
              refine j_bipush d_Model_readContract_171 (by decide) ?_
              refine j_icmp_ne (tgt := 180) d_Model_readContract_173 (by decide) (by omega) (by omega) (fun hp4 => ?_) (fun hp4 => ?_)
              · refine j_iconst d_Model_readContract_180 ?_
                refine q_iload d_Model_readContract_181 rfl ?_
                refine j_iconst d_Model_readContract_183 ?_
                refine q_iload_n d_Model_readContract_184 rfl ?_
                refine j_iconst d_Model_readContract_185 ?_
                refine j_iadd d_Model_readContract_186 ?_
                refine q_callV (ci := 17) (rc := 0) (rs := 0) (rest := []) d_Model_readContract_187 ml_Model_611 ok_Model_push rfl hM.1 (by decide) (c_Model_push (d - 1) hM hA (by first | omega | (simp only [List.length_cons]; omega))) rfl rfl (by omega) (Nat.le_of_ble_eq_true rfl) (kv_V (fun J hA => ?_)) kt_V
                refine q_iload d_Model_readContract_190 rfl ?_
                refine j_iconst d_Model_readContract_192 ?_
                refine j_icmp_ne (tgt := 224) d_Model_readContract_193 (by decide) (by omega) (by omega) (fun hp5 => ?_) (fun hp5 => ?_)
                · refine q_iload d_Model_readContract_224 rfl ?_
                  refine j_bipush d_Model_readContract_226 (by decide) ?_
                  refine j_icmp_eq (tgt := 240) d_Model_readContract_228 (by decide) (by omega) (by omega) (fun hp6 => ?_) (fun hp6 => ?_)
                  · refine q_return d_Model_readContract_240 rfl ?_
                    exact fin _ _ (by rcases hwK with h | h | h | h | h | h <;> first | (exfalso; omega) | (rw [h.1]; simp [PI, itC])) (by first | omega | (simp only [List.length_cons]; omega)) hA
                  · refine q_aload_n d_Model_readContract_231 rfl ?_
                    refine j_iconst d_Model_readContract_232 ?_
                    refine q_iload d_Model_readContract_233 rfl ?_
                    refine j_iconst d_Model_readContract_235 ?_
                    refine q_iload_n d_Model_readContract_236 rfl ?_
                    refine q_callV (ci := 17) (rc := 0) (rs := 0) (rest := []) d_Model_readContract_237 ml_Model_611 ok_Model_push rfl hM.1 (by decide) (c_Model_push (d - 1) hM hA (by first | omega | (simp only [List.length_cons]; omega))) rfl rfl (by omega) (Nat.le_of_ble_eq_true rfl) (kv_V (fun J hA => ?_)) kt_V
                    refine q_return d_Model_readContract_240 rfl ?_
                    exact fin _ _ (by rcases hwK with h | h | h | h | h | h <;> first | (exfalso; omega) | (rw [h.1]; simp [PI, itC])) (by first | omega | (simp only [List.length_cons]; omega)) hA
                · refine q_aload_n d_Model_readContract_196 rfl ?_
                  refine j_iconst d_Model_readContract_197 ?_
                  refine q_iload d_Model_readContract_198 rfl ?_
                  refine j_iconst d_Model_readContract_200 ?_
                  refine q_iload_n d_Model_readContract_201 rfl ?_
                  refine q_callV (ci := 17) (rc := 0) (rs := 0) (rest := []) d_Model_readContract_202 ml_Model_611 ok_Model_push rfl hM.1 (by decide) (c_Model_push (d - 1) hM hA (by first | omega | (simp only [List.length_cons]; omega))) rfl rfl (by omega) (Nat.le_of_ble_eq_true rfl) (kv_V (fun J hA => ?_)) kt_V
                  refine q_aload_n d_Model_readContract_205 rfl ?_
                  refine j_iconst d_Model_readContract_206 ?_
                  refine q_iload d_Model_readContract_207 rfl ?_
                  refine j_iconst d_Model_readContract_209 ?_
                  refine q_iload_n d_Model_readContract_210 rfl ?_
                  refine q_callV (ci := 17) (rc := 0) (rs := 0) (rest := []) d_Model_readContract_211 ml_Model_611 ok_Model_push rfl hM.1 (by decide) (c_Model_push (d - 1) hM hA (by first | omega | (simp only [List.length_cons]; omega))) rfl rfl (by omega) (Nat.le_of_ble_eq_true rfl) (kv_V (fun J hA => ?_)) kt_V
                  refine q_aload_n d_Model_readContract_214 rfl ?_
                  refine j_bipush d_Model_readContract_215 (by decide) ?_
                  refine q_iload d_Model_readContract_217 rfl ?_
                  refine j_iconst d_Model_readContract_219 ?_
                  refine q_iload_n d_Model_readContract_220 rfl ?_
                  refine q_callV (ci := 17) (rc := 0) (rs := 0) (rest := []) d_Model_readContract_221 ml_Model_611 ok_Model_push rfl hM.1 (by decide) (c_Model_push (d - 1) hM hA (by first | omega | (simp only [List.length_cons]; omega))) rfl rfl (by omega) (Nat.le_of_ble_eq_true rfl) (kv_V (fun J hA => ?_)) kt_V
                  refine q_iload d_Model_readContract_224 rfl ?_
                  refine j_bipush d_Model_readContract_226 (by decide) ?_
                  refine j_icmp_eq (tgt := 240) d_Model_readContract_228 (by decide) (by omega) (by omega) (fun hp7 => ?_) (fun hp7 => ?_)
                  · refine q_return d_Model_readContract_240 rfl ?_
                    exact fin _ _ (by rcases hwK with h | h | h | h | h | h <;> first | (exfalso; omega) | (rw [h.1]; simp [PI, itC])) (by first | omega | (simp only [List.length_cons]; omega)) hA
                  · refine q_aload_n d_Model_readContract_231 rfl ?_
                    refine j_iconst d_Model_readContract_232 ?_
                    refine q_iload d_Model_readContract_233 rfl ?_
                    refine j_iconst d_Model_readContract_235 ?_
                    refine q_iload_n d_Model_readContract_236 rfl ?_
                    refine q_callV (ci := 17) (rc := 0) (rs := 0) (rest := []) d_Model_readContract_237 ml_Model_611 ok_Model_push rfl hM.1 (by decide) (c_Model_push (d - 1) hM hA (by first | omega | (simp only [List.length_cons]; omega))) rfl rfl (by omega) (Nat.le_of_ble_eq_true rfl) (kv_V (fun J hA => ?_)) kt_V
                    refine q_return d_Model_readContract_240 rfl ?_
                    exact fin _ _ (by rcases hwK with h | h | h | h | h | h <;> first | (exfalso; omega) | (rw [h.1]; simp [PI, itC])) (by first | omega | (simp only [List.length_cons]; omega)) hA
              · refine j_iconst d_Model_readContract_176 ?_
                refine q_goto (tgt := 181) d_Model_readContract_177 (by decide) ?_
                refine q_iload d_Model_readContract_181 rfl ?_
                refine j_iconst d_Model_readContract_183 ?_
                refine q_iload_n d_Model_readContract_184 rfl ?_
                refine j_iconst d_Model_readContract_185 ?_
                refine j_iadd d_Model_readContract_186 ?_
                refine q_callV (ci := 17) (rc := 0) (rs := 0) (rest := []) d_Model_readContract_187 ml_Model_611 ok_Model_push rfl hM.1 (by decide) (c_Model_push (d - 1) hM hA (by first | omega | (simp only [List.length_cons]; omega))) rfl rfl (by omega) (Nat.le_of_ble_eq_true rfl) (kv_V (fun J hA => ?_)) kt_V
                refine q_iload d_Model_readContract_190 rfl ?_
                refine j_iconst d_Model_readContract_192 ?_
                refine j_icmp_ne (tgt := 224) d_Model_readContract_193 (by decide) (by omega) (by omega) (fun hp8 => ?_) (fun hp8 => ?_)
                · refine q_iload d_Model_readContract_224 rfl ?_
                  refine j_bipush d_Model_readContract_226 (by decide) ?_
                  refine j_icmp_eq (tgt := 240) d_Model_readContract_228 (by decide) (by omega) (by omega) (fun hp9 => ?_) (fun hp9 => ?_)
                  · refine q_return d_Model_readContract_240 rfl ?_
                    exact fin _ _ (by rcases hwK with h | h | h | h | h | h <;> first | (exfalso; omega) | (rw [h.1]; simp [PI, itC])) (by first | omega | (simp only [List.length_cons]; omega)) hA
                  · refine q_aload_n d_Model_readContract_231 rfl ?_
                    refine j_iconst d_Model_readContract_232 ?_
                    refine q_iload d_Model_readContract_233 rfl ?_
                    refine j_iconst d_Model_readContract_235 ?_
                    refine q_iload_n d_Model_readContract_236 rfl ?_
                    refine q_callV (ci := 17) (rc := 0) (rs := 0) (rest := []) d_Model_readContract_237 ml_Model_611 ok_Model_push rfl hM.1 (by decide) (c_Model_push (d - 1) hM hA (by first | omega | (simp only [List.length_cons]; omega))) rfl rfl (by omega) (Nat.le_of_ble_eq_true rfl) (kv_V (fun J hA => ?_)) kt_V
                    refine q_return d_Model_readContract_240 rfl ?_
                    exact fin _ _ (by rcases hwK with h | h | h | h | h | h <;> first | (exfalso; omega) | (rw [h.1]; simp [PI, itC])) (by first | omega | (simp only [List.length_cons]; omega)) hA
                · refine q_aload_n d_Model_readContract_196 rfl ?_
                  refine j_iconst d_Model_readContract_197 ?_
                  refine q_iload d_Model_readContract_198 rfl ?_
                  refine j_iconst d_Model_readContract_200 ?_
                  refine q_iload_n d_Model_readContract_201 rfl ?_
                  refine q_callV (ci := 17) (rc := 0) (rs := 0) (rest := []) d_Model_readContract_202 ml_Model_611 ok_Model_push rfl hM.1 (by decide) (c_Model_push (d - 1) hM hA (by first | omega | (simp only [List.length_cons]; omega))) rfl rfl (by omega) (Nat.le_of_ble_eq_true rfl) (kv_V (fun J hA => ?_)) kt_V
                  refine q_aload_n d_Model_readContract_205 rfl ?_
                  refine j_iconst d_Model_readContract_206 ?_
                  refine q_iload d_Model_readContract_207 rfl ?_
                  refine j_iconst d_Model_readContract_209 ?_
                  refine q_iload_n d_Model_readContract_210 rfl ?_
                  refine q_callV (ci := 17) (rc := 0) (rs := 0) (rest := []) d_Model_readContract_211 ml_Model_611 ok_Model_push rfl hM.1 (by decide) (c_Model_push (d - 1) hM hA (by first | omega | (simp only [List.length_cons]; omega))) rfl rfl (by omega) (Nat.le_of_ble_eq_true rfl) (kv_V (fun J hA => ?_)) kt_V
                  refine q_aload_n d_Model_readContract_214 rfl ?_
                  refine j_bipush d_Model_readContract_215 (by decide) ?_
                  refine q_iload d_Model_readContract_217 rfl ?_
                  refine j_iconst d_Model_readContract_219 ?_
                  refine q_iload_n d_Model_readContract_220 rfl ?_
                  refine q_callV (ci := 17) (rc := 0) (rs := 0) (rest := []) d_Model_readContract_221 ml_Model_611 ok_Model_push rfl hM.1 (by decide) (c_Model_push (d - 1) hM hA (by first | omega | (simp only [List.length_cons]; omega))) rfl rfl (by omega) (Nat.le_of_ble_eq_true rfl) (kv_V (fun J hA => ?_)) kt_V
                  refine q_iload d_Model_readContract_224 rfl ?_
                  refine j_bipush d_Model_readContract_226 (by decide) ?_
                  refine j_icmp_eq (tgt := 240) d_Model_readContract_228 (by decide) (by omega) (by omega) (fun hp10 => ?_) (fun hp10 => ?_)
                  · refine q_return d_Model_readContract_240 rfl ?_
                    exact fin _ _ (by rcases hwK with h | h | h | h | h | h <;> first | (exfalso; omega) | (rw [h.1]; simp [PI, itC])) (by first | omega | (simp only [List.length_cons]; omega)) hA
                  · refine q_aload_n d_Model_readContract_231 rfl ?_
                    refine j_iconst d_Model_readContract_232 ?_
                    refine q_iload d_Model_readContract_233 rfl ?_
                    refine j_iconst d_Model_readContract_235 ?_
                    refine q_iload_n d_Model_readContract_236 rfl ?_
                    refine q_callV (ci := 17) (rc := 0) (rs := 0) (rest := []) d_Model_readContract_237 ml_Model_611 ok_Model_push rfl hM.1 (by decide) (c_Model_push (d - 1) hM hA (by first | omega | (simp only [List.length_cons]; omega))) rfl rfl (by omega) (Nat.le_of_ble_eq_true rfl) (kv_V (fun J hA => ?_)) kt_V
                    refine q_return d_Model_readContract_240 rfl ?_
                    exact fin _ _ (by rcases hwK with h | h | h | h | h | h <;> first | (exfalso; omega) | (rw [h.1]; simp [PI, itC])) (by first | omega | (simp only [List.length_cons]; omega)) hA
          · refine q_aload_n d_Model_readContract_115 rfl ?_
            refine j_iconst d_Model_readContract_116 ?_
            refine q_iload d_Model_readContract_117 rfl ?_
            refine j_iconst d_Model_readContract_119 ?_
            refine q_iload_n d_Model_readContract_120 rfl ?_
            refine j_iconst d_Model_readContract_121 ?_
            refine j_iadd d_Model_readContract_122 ?_
            refine q_callV (ci := 17) (rc := 0) (rs := 0) (rest := []) d_Model_readContract_123 ml_Model_611 ok_Model_push rfl hM.1 (by decide) (c_Model_push (d - 1) hM hA (by first | omega | (simp only [List.length_cons]; omega))) rfl rfl (by omega) (Nat.le_of_ble_eq_true rfl) (kv_V (fun J hA => ?_)) kt_V
            refine q_aload_n d_Model_readContract_126 rfl ?_
            refine j_iconst d_Model_readContract_127 ?_
            refine q_iload d_Model_readContract_128 rfl ?_
            refine j_iconst d_Model_readContract_130 ?_
            refine q_iload_n d_Model_readContract_131 rfl ?_
            refine j_iconst d_Model_readContract_132 ?_
            refine j_iadd d_Model_readContract_133 ?_
            refine q_callV (ci := 17) (rc := 0) (rs := 0) (rest := []) d_Model_readContract_134 ml_Model_611 ok_Model_push rfl hM.1 (by decide) (c_Model_push (d - 1) hM hA (by first | omega | (simp only [List.length_cons]; omega))) rfl rfl (by omega) (Nat.le_of_ble_eq_true rfl) (kv_V (fun J hA => ?_)) kt_V
            refine q_aload_n d_Model_readContract_137 rfl ?_
            refine j_iconst d_Model_readContract_138 ?_
            refine q_iload d_Model_readContract_139 rfl ?_
            refine j_iconst d_Model_readContract_141 ?_
            refine q_iload_n d_Model_readContract_142 rfl ?_
            refine j_iconst d_Model_readContract_143 ?_
            refine j_iadd d_Model_readContract_144 ?_
            refine q_callV (ci := 17) (rc := 0) (rs := 0) (rest := []) d_Model_readContract_145 ml_Model_611 ok_Model_push rfl hM.1 (by decide) (c_Model_push (d - 1) hM hA (by first | omega | (simp only [List.length_cons]; omega))) rfl rfl (by omega) (Nat.le_of_ble_eq_true rfl) (kv_V (fun J hA => ?_)) kt_V
            refine q_goto (tgt := 240) d_Model_readContract_148 (by decide) ?_
            refine q_return d_Model_readContract_240 rfl ?_
            exact fin _ _ (by rcases hwK with h | h | h | h | h | h <;> first | (exfalso; omega) | (rw [h.1]; simp [PI, itC])) (by first | omega | (simp only [List.length_cons]; omega)) hA
        · refine q_aload_n d_Model_readContract_65 rfl ?_
          refine j_iconst d_Model_readContract_66 ?_
          refine q_iload d_Model_readContract_67 rfl ?_
          refine j_iconst d_Model_readContract_69 ?_
          refine q_iload_n d_Model_readContract_70 rfl ?_
          refine j_iconst d_Model_readContract_71 ?_
          refine j_iadd d_Model_readContract_72 ?_
          refine q_callV (ci := 17) (rc := 0) (rs := 0) (rest := []) d_Model_readContract_73 ml_Model_611 ok_Model_push rfl hM.1 (by decide) (c_Model_push (d - 1) hM hA (by first | omega | (simp only [List.length_cons]; omega))) rfl rfl (by omega) (Nat.le_of_ble_eq_true rfl) (kv_V (fun J hA => ?_)) kt_V
          refine q_aload_n d_Model_readContract_76 rfl ?_
          refine j_bipush d_Model_readContract_77 (by decide) ?_
          refine q_iload d_Model_readContract_79 rfl ?_
          refine j_iconst d_Model_readContract_81 ?_
          refine q_iload_n d_Model_readContract_82 rfl ?_
          refine q_callV (ci := 17) (rc := 0) (rs := 0) (rest := []) d_Model_readContract_83 ml_Model_611 ok_Model_push rfl hM.1 (by decide) (c_Model_push (d - 1) hM hA (by first | omega | (simp only [List.length_cons]; omega))) rfl rfl (by omega) (Nat.le_of_ble_eq_true rfl) (kv_V (fun J hA => ?_)) kt_V
          refine q_aload_n d_Model_readContract_86 rfl ?_
          refine j_bipush d_Model_readContract_87 (by decide) ?_
          refine q_iload d_Model_readContract_89 rfl ?_
          refine j_iconst d_Model_readContract_91 ?_
          refine q_iload_n d_Model_readContract_92 rfl ?_
          refine q_callV (ci := 17) (rc := 0) (rs := 0) (rest := []) d_Model_readContract_93 ml_Model_611 ok_Model_push rfl hM.1 (by decide) (c_Model_push (d - 1) hM hA (by first | omega | (simp only [List.length_cons]; omega))) rfl rfl (by omega) (Nat.le_of_ble_eq_true rfl) (kv_V (fun J hA => ?_)) kt_V
          refine q_aload_n d_Model_readContract_96 rfl ?_
          refine j_bipush d_Model_readContract_97 (by decide) ?_
          refine q_iload d_Model_readContract_99 rfl ?_
          refine j_iconst d_Model_readContract_101 ?_
          refine q_iload_n d_Model_readContract_102 rfl ?_
          refine q_callV (ci := 17) (rc := 0) (rs := 0) (rest := []) d_Model_readContract_103 ml_Model_611 ok_Model_push rfl hM.1 (by decide) (c_Model_push (d - 1) hM hA (by first | omega | (simp only [List.length_cons]; omega))) rfl rfl (by omega) (Nat.le_of_ble_eq_true rfl) (kv_V (fun J hA => ?_)) kt_V
          refine q_goto (tgt := 240) d_Model_readContract_106 (by decide) ?_
          refine q_return d_Model_readContract_240 rfl ?_
          exact fin _ _ (by rcases hwK with h | h | h | h | h | h <;> first | (exfalso; omega) | (rw [h.1]; simp [PI, itC])) (by first | omega | (simp only [List.length_cons]; omega)) hA
    · have hwz : w = 0 := by rw [hw, if_neg ho]
      subst hwz
      refine q_istore (lv' := [(4, .int (cI 0)), (0, .ref M), (1, .int (cI u)), (2, .int (cI s)), (3, .int (cI (dep : Int)))]) d_Model_readContract_19 (by decide) rfl ?_
      refine q_iload d_Model_readContract_21 rfl ?_
      refine j_if_ne (tgt := 31) d_Model_readContract_23 (by decide) (by omega) (fun hx => by exfalso; omega) (fun hx => ?_)
      refine q_aload_n d_Model_readContract_26 rfl ?_
      refine q_callV (ci := 17) (rc := 0) (rs := 0) (rest := []) d_Model_readContract_27 ml_Model_598 ok_Model_failToken rfl hM.1 (by decide) (c_Model_failToken (d - 1) (by omega) hM hF (by decide) h13 hki) rfl rfl (by omega) (Nat.le_of_ble_eq_true rfl) (kr_V (fun I1 L1 R1 T1 h => ?_)) kt_V
      obtain ⟨e1, e2, e3, e4⟩ := h
      refine q_return d_Model_readContract_30 rfl ?_
      refine hQ _ _ _ _ _ ?_
      exact ⟨rfl, Or.inl ⟨by simpa using ho, by rw [e1, if_pos rfl, up2_k _ _ _ (by decide), up2_s, fkc hkd]; rfl, by rw [e1, if_pos rfl, up2_s]; exact h14, by rw [e1, if_pos rfl]; exact (Fx.up ⟨rfl, Or.inl rfl⟩).tu ⟨rfl, Or.inr rfl⟩, e2⟩, e3, e4⟩
  by_cases hk : 0 ≤ K ∧ K < 100
  · have ht2 : tkc K = 2 := (tkc_2 hkd).mpr hk
    have hX6 := h16 (Or.inl hk)
    refine q_aload_n d_Model_readContract_0 rfl ?_
    refine j_getI (v := (cI (tkc K))) d_Model_readContract_1 fl_Model_550 hM.1 ⟨rfl, by decide⟩ h13 ?_
    refine j_iconst d_Model_readContract_4 ?_
    refine j_icmp_ne (tgt := 18) d_Model_readContract_5 (by decide) (by omega) (by omega) (fun hx => by exfalso; omega) (fun hx => ?_)
    refine q_aload_n d_Model_readContract_8 rfl ?_
    refine j_getL (v := (cL (x : Int))) d_Model_readContract_9 fl_Model_557 hM.1 ⟨rfl, by decide⟩ hX6 ?_
    refine q_callS (rc := 0) (rs := 0) (rest := []) d_Model_readContract_12 ml_Model_594 ok_Model_contractOf (c_Model_contractOf (d - 1) (hx63 (Or.inl hk)).1) rfl rfl (by omega) (Nat.le_of_ble_eq_true rfl) (kp_I ?_) kt_I
    refine q_goto (tgt := 19) d_Model_readContract_15 (by decide) ?_
    exact main _ (by rw [ctF_kw, (hkw hk).1])
  · have ht2 : tkc K ≠ 2 := fun q => hk ((tkc_2 hkd).mp q)
    refine q_aload_n d_Model_readContract_0 rfl ?_
    refine j_getI (v := (cI (tkc K))) d_Model_readContract_1 fl_Model_550 hM.1 ⟨rfl, by decide⟩ h13 ?_
    refine j_iconst d_Model_readContract_4 ?_
    refine j_icmp_ne (tgt := 18) d_Model_readContract_5 (by decide) (by omega) (by omega) (fun hx => ?_) (fun hx => by exfalso; omega)
    refine j_iconst d_Model_readContract_18 ?_
    exact main _ (by unfold okS; rw [if_pos rfl, if_neg]; rw [decide_eq_true_eq]; omega)

