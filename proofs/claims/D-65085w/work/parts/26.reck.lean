/-! ===== 26 RECKONER: products ===== -/
theorem d_Reckoner_multiply_0 : decode m_Reckoner_multiply.2.1 0 = .ok (.aload_n 1, 1) := by decide +kernel
theorem d_Reckoner_multiply_1 : decode m_Reckoner_multiply.2.1 1 = .ok (.getfield 23, 3) := by decide +kernel
theorem d_Reckoner_multiply_4 : decode m_Reckoner_multiply.2.1 4 = .ok (.aload_n 2, 1) := by decide +kernel
theorem d_Reckoner_multiply_5 : decode m_Reckoner_multiply.2.1 5 = .ok (.getfield 23, 3) := by decide +kernel
theorem d_Reckoner_multiply_8 : decode m_Reckoner_multiply.2.1 8 = .ok (.iadd, 1) := by decide +kernel
theorem d_Reckoner_multiply_9 : decode m_Reckoner_multiply.2.1 9 = .ok (.bipush 36, 2) := by decide +kernel
theorem d_Reckoner_multiply_11 : decode m_Reckoner_multiply.2.1 11 = .ok (.if_icmp .le 9, 3) := by decide +kernel
theorem d_Reckoner_multiply_14 : decode m_Reckoner_multiply.2.1 14 = .ok (.aload_n 3, 1) := by decide +kernel
theorem d_Reckoner_multiply_15 : decode m_Reckoner_multiply.2.1 15 = .ok (.invokevirtual 27, 3) := by decide +kernel
theorem d_Reckoner_multiply_18 : decode m_Reckoner_multiply.2.1 18 = .ok (.iconst 0, 1) := by decide +kernel
theorem d_Reckoner_multiply_19 : decode m_Reckoner_multiply.2.1 19 = .ok (.ireturn, 1) := by decide +kernel
theorem d_Reckoner_multiply_20 : decode m_Reckoner_multiply.2.1 20 = .ok (.iconst 0, 1) := by decide +kernel
theorem d_Reckoner_multiply_21 : decode m_Reckoner_multiply.2.1 21 = .ok (.istore 4, 2) := by decide +kernel
theorem d_Reckoner_multiply_23 : decode m_Reckoner_multiply.2.1 23 = .ok (.iload 4, 2) := by decide +kernel
theorem d_Reckoner_multiply_25 : decode m_Reckoner_multiply.2.1 25 = .ok (.aload_n 1, 1) := by decide +kernel
theorem d_Reckoner_multiply_26 : decode m_Reckoner_multiply.2.1 26 = .ok (.getfield 23, 3) := by decide +kernel
theorem d_Reckoner_multiply_29 : decode m_Reckoner_multiply.2.1 29 = .ok (.aload_n 2, 1) := by decide +kernel
theorem d_Reckoner_multiply_30 : decode m_Reckoner_multiply.2.1 30 = .ok (.getfield 23, 3) := by decide +kernel
theorem d_Reckoner_multiply_33 : decode m_Reckoner_multiply.2.1 33 = .ok (.iadd, 1) := by decide +kernel
theorem d_Reckoner_multiply_34 : decode m_Reckoner_multiply.2.1 34 = .ok (.if_icmp .ge 17, 3) := by decide +kernel
theorem d_Reckoner_multiply_37 : decode m_Reckoner_multiply.2.1 37 = .ok (.aload_n 0, 1) := by decide +kernel
theorem d_Reckoner_multiply_38 : decode m_Reckoner_multiply.2.1 38 = .ok (.getfield 9, 3) := by decide +kernel
theorem d_Reckoner_multiply_41 : decode m_Reckoner_multiply.2.1 41 = .ok (.iload 4, 2) := by decide +kernel
theorem d_Reckoner_multiply_43 : decode m_Reckoner_multiply.2.1 43 = .ok (.lconst 0, 1) := by decide +kernel
theorem d_Reckoner_multiply_44 : decode m_Reckoner_multiply.2.1 44 = .ok (.lastore, 1) := by decide +kernel
theorem d_Reckoner_multiply_45 : decode m_Reckoner_multiply.2.1 45 = .ok (.iinc 4 1, 3) := by decide +kernel
theorem d_Reckoner_multiply_48 : decode m_Reckoner_multiply.2.1 48 = .ok (.goto (-25), 3) := by decide +kernel
theorem d_Reckoner_multiply_51 : decode m_Reckoner_multiply.2.1 51 = .ok (.iconst 0, 1) := by decide +kernel
theorem d_Reckoner_multiply_52 : decode m_Reckoner_multiply.2.1 52 = .ok (.istore 4, 2) := by decide +kernel
theorem d_Reckoner_multiply_54 : decode m_Reckoner_multiply.2.1 54 = .ok (.iload 4, 2) := by decide +kernel
theorem d_Reckoner_multiply_56 : decode m_Reckoner_multiply.2.1 56 = .ok (.aload_n 1, 1) := by decide +kernel
theorem d_Reckoner_multiply_57 : decode m_Reckoner_multiply.2.1 57 = .ok (.getfield 23, 3) := by decide +kernel
theorem d_Reckoner_multiply_60 : decode m_Reckoner_multiply.2.1 60 = .ok (.if_icmp .ge 104, 3) := by decide +kernel
theorem d_Reckoner_multiply_63 : decode m_Reckoner_multiply.2.1 63 = .ok (.lconst 0, 1) := by decide +kernel
theorem d_Reckoner_multiply_64 : decode m_Reckoner_multiply.2.1 64 = .ok (.lstore 5, 2) := by decide +kernel
theorem d_Reckoner_multiply_66 : decode m_Reckoner_multiply.2.1 66 = .ok (.iconst 0, 1) := by decide +kernel
theorem d_Reckoner_multiply_67 : decode m_Reckoner_multiply.2.1 67 = .ok (.istore 7, 2) := by decide +kernel
theorem d_Reckoner_multiply_69 : decode m_Reckoner_multiply.2.1 69 = .ok (.iload 7, 2) := by decide +kernel
theorem d_Reckoner_multiply_71 : decode m_Reckoner_multiply.2.1 71 = .ok (.aload_n 2, 1) := by decide +kernel
theorem d_Reckoner_multiply_72 : decode m_Reckoner_multiply.2.1 72 = .ok (.getfield 23, 3) := by decide +kernel
theorem d_Reckoner_multiply_75 : decode m_Reckoner_multiply.2.1 75 = .ok (.if_icmp .ge 66, 3) := by decide +kernel
theorem d_Reckoner_multiply_78 : decode m_Reckoner_multiply.2.1 78 = .ok (.aload_n 0, 1) := by decide +kernel
theorem d_Reckoner_multiply_79 : decode m_Reckoner_multiply.2.1 79 = .ok (.getfield 9, 3) := by decide +kernel
theorem d_Reckoner_multiply_82 : decode m_Reckoner_multiply.2.1 82 = .ok (.iload 4, 2) := by decide +kernel
theorem d_Reckoner_multiply_84 : decode m_Reckoner_multiply.2.1 84 = .ok (.iload 7, 2) := by decide +kernel
theorem d_Reckoner_multiply_86 : decode m_Reckoner_multiply.2.1 86 = .ok (.iadd, 1) := by decide +kernel
theorem d_Reckoner_multiply_87 : decode m_Reckoner_multiply.2.1 87 = .ok (.laload, 1) := by decide +kernel
theorem d_Reckoner_multiply_88 : decode m_Reckoner_multiply.2.1 88 = .ok (.aload_n 1, 1) := by decide +kernel
theorem d_Reckoner_multiply_89 : decode m_Reckoner_multiply.2.1 89 = .ok (.getfield 30, 3) := by decide +kernel
theorem d_Reckoner_multiply_92 : decode m_Reckoner_multiply.2.1 92 = .ok (.iload 4, 2) := by decide +kernel
theorem d_Reckoner_multiply_94 : decode m_Reckoner_multiply.2.1 94 = .ok (.iaload, 1) := by decide +kernel
theorem d_Reckoner_multiply_95 : decode m_Reckoner_multiply.2.1 95 = .ok (.i2l, 1) := by decide +kernel
theorem d_Reckoner_multiply_96 : decode m_Reckoner_multiply.2.1 96 = .ok (.aload_n 2, 1) := by decide +kernel
theorem d_Reckoner_multiply_97 : decode m_Reckoner_multiply.2.1 97 = .ok (.getfield 30, 3) := by decide +kernel
theorem d_Reckoner_multiply_100 : decode m_Reckoner_multiply.2.1 100 = .ok (.iload 7, 2) := by decide +kernel
theorem d_Reckoner_multiply_102 : decode m_Reckoner_multiply.2.1 102 = .ok (.iaload, 1) := by decide +kernel
theorem d_Reckoner_multiply_103 : decode m_Reckoner_multiply.2.1 103 = .ok (.i2l, 1) := by decide +kernel
theorem d_Reckoner_multiply_104 : decode m_Reckoner_multiply.2.1 104 = .ok (.lmul, 1) := by decide +kernel
theorem d_Reckoner_multiply_105 : decode m_Reckoner_multiply.2.1 105 = .ok (.ladd, 1) := by decide +kernel
theorem d_Reckoner_multiply_106 : decode m_Reckoner_multiply.2.1 106 = .ok (.lload 5, 2) := by decide +kernel
theorem d_Reckoner_multiply_108 : decode m_Reckoner_multiply.2.1 108 = .ok (.ladd, 1) := by decide +kernel
theorem d_Reckoner_multiply_109 : decode m_Reckoner_multiply.2.1 109 = .ok (.lstore 8, 2) := by decide +kernel
theorem d_Reckoner_multiply_111 : decode m_Reckoner_multiply.2.1 111 = .ok (.aload_n 0, 1) := by decide +kernel
theorem d_Reckoner_multiply_112 : decode m_Reckoner_multiply.2.1 112 = .ok (.getfield 9, 3) := by decide +kernel
theorem d_Reckoner_multiply_115 : decode m_Reckoner_multiply.2.1 115 = .ok (.iload 4, 2) := by decide +kernel
theorem d_Reckoner_multiply_117 : decode m_Reckoner_multiply.2.1 117 = .ok (.iload 7, 2) := by decide +kernel
theorem d_Reckoner_multiply_119 : decode m_Reckoner_multiply.2.1 119 = .ok (.iadd, 1) := by decide +kernel
theorem d_Reckoner_multiply_120 : decode m_Reckoner_multiply.2.1 120 = .ok (.lload 8, 2) := by decide +kernel
theorem d_Reckoner_multiply_122 : decode m_Reckoner_multiply.2.1 122 = .ok (.ldc2_w 33, 3) := by decide +kernel
theorem d_Reckoner_multiply_125 : decode m_Reckoner_multiply.2.1 125 = .ok (.lrem, 1) := by decide +kernel
theorem d_Reckoner_multiply_126 : decode m_Reckoner_multiply.2.1 126 = .ok (.lastore, 1) := by decide +kernel
theorem d_Reckoner_multiply_127 : decode m_Reckoner_multiply.2.1 127 = .ok (.lload 8, 2) := by decide +kernel
theorem d_Reckoner_multiply_129 : decode m_Reckoner_multiply.2.1 129 = .ok (.ldc2_w 33, 3) := by decide +kernel
theorem d_Reckoner_multiply_132 : decode m_Reckoner_multiply.2.1 132 = .ok (.ldiv, 1) := by decide +kernel
theorem d_Reckoner_multiply_133 : decode m_Reckoner_multiply.2.1 133 = .ok (.lstore 5, 2) := by decide +kernel
theorem d_Reckoner_multiply_135 : decode m_Reckoner_multiply.2.1 135 = .ok (.iinc 7 1, 3) := by decide +kernel
theorem d_Reckoner_multiply_138 : decode m_Reckoner_multiply.2.1 138 = .ok (.goto (-69), 3) := by decide +kernel
theorem d_Reckoner_multiply_141 : decode m_Reckoner_multiply.2.1 141 = .ok (.aload_n 0, 1) := by decide +kernel
theorem d_Reckoner_multiply_142 : decode m_Reckoner_multiply.2.1 142 = .ok (.getfield 9, 3) := by decide +kernel
theorem d_Reckoner_multiply_145 : decode m_Reckoner_multiply.2.1 145 = .ok (.iload 4, 2) := by decide +kernel
theorem d_Reckoner_multiply_147 : decode m_Reckoner_multiply.2.1 147 = .ok (.aload_n 2, 1) := by decide +kernel
theorem d_Reckoner_multiply_148 : decode m_Reckoner_multiply.2.1 148 = .ok (.getfield 23, 3) := by decide +kernel
theorem d_Reckoner_multiply_151 : decode m_Reckoner_multiply.2.1 151 = .ok (.iadd, 1) := by decide +kernel
theorem d_Reckoner_multiply_152 : decode m_Reckoner_multiply.2.1 152 = .ok (.dup2, 1) := by decide +kernel
theorem d_Reckoner_multiply_153 : decode m_Reckoner_multiply.2.1 153 = .ok (.laload, 1) := by decide +kernel
theorem d_Reckoner_multiply_154 : decode m_Reckoner_multiply.2.1 154 = .ok (.lload 5, 2) := by decide +kernel
theorem d_Reckoner_multiply_156 : decode m_Reckoner_multiply.2.1 156 = .ok (.ladd, 1) := by decide +kernel
theorem d_Reckoner_multiply_157 : decode m_Reckoner_multiply.2.1 157 = .ok (.lastore, 1) := by decide +kernel
theorem d_Reckoner_multiply_158 : decode m_Reckoner_multiply.2.1 158 = .ok (.iinc 4 1, 3) := by decide +kernel
theorem d_Reckoner_multiply_161 : decode m_Reckoner_multiply.2.1 161 = .ok (.goto (-107), 3) := by decide +kernel
theorem d_Reckoner_multiply_164 : decode m_Reckoner_multiply.2.1 164 = .ok (.aload_n 3, 1) := by decide +kernel
theorem d_Reckoner_multiply_165 : decode m_Reckoner_multiply.2.1 165 = .ok (.aload_n 1, 1) := by decide +kernel
theorem d_Reckoner_multiply_166 : decode m_Reckoner_multiply.2.1 166 = .ok (.getfield 23, 3) := by decide +kernel
theorem d_Reckoner_multiply_169 : decode m_Reckoner_multiply.2.1 169 = .ok (.aload_n 2, 1) := by decide +kernel
theorem d_Reckoner_multiply_170 : decode m_Reckoner_multiply.2.1 170 = .ok (.getfield 23, 3) := by decide +kernel
theorem d_Reckoner_multiply_173 : decode m_Reckoner_multiply.2.1 173 = .ok (.iadd, 1) := by decide +kernel
theorem d_Reckoner_multiply_174 : decode m_Reckoner_multiply.2.1 174 = .ok (.putfield 23, 3) := by decide +kernel
theorem d_Reckoner_multiply_177 : decode m_Reckoner_multiply.2.1 177 = .ok (.iconst 0, 1) := by decide +kernel
theorem d_Reckoner_multiply_178 : decode m_Reckoner_multiply.2.1 178 = .ok (.istore 4, 2) := by decide +kernel
theorem d_Reckoner_multiply_180 : decode m_Reckoner_multiply.2.1 180 = .ok (.iload 4, 2) := by decide +kernel
theorem d_Reckoner_multiply_182 : decode m_Reckoner_multiply.2.1 182 = .ok (.aload_n 3, 1) := by decide +kernel
theorem d_Reckoner_multiply_183 : decode m_Reckoner_multiply.2.1 183 = .ok (.getfield 23, 3) := by decide +kernel
theorem d_Reckoner_multiply_186 : decode m_Reckoner_multiply.2.1 186 = .ok (.if_icmp .ge 24, 3) := by decide +kernel
theorem d_Reckoner_multiply_189 : decode m_Reckoner_multiply.2.1 189 = .ok (.aload_n 3, 1) := by decide +kernel
theorem d_Reckoner_multiply_190 : decode m_Reckoner_multiply.2.1 190 = .ok (.getfield 30, 3) := by decide +kernel
theorem d_Reckoner_multiply_193 : decode m_Reckoner_multiply.2.1 193 = .ok (.iload 4, 2) := by decide +kernel
theorem d_Reckoner_multiply_195 : decode m_Reckoner_multiply.2.1 195 = .ok (.aload_n 0, 1) := by decide +kernel
theorem d_Reckoner_multiply_196 : decode m_Reckoner_multiply.2.1 196 = .ok (.getfield 9, 3) := by decide +kernel
theorem d_Reckoner_multiply_199 : decode m_Reckoner_multiply.2.1 199 = .ok (.iload 4, 2) := by decide +kernel
theorem d_Reckoner_multiply_201 : decode m_Reckoner_multiply.2.1 201 = .ok (.laload, 1) := by decide +kernel
theorem d_Reckoner_multiply_202 : decode m_Reckoner_multiply.2.1 202 = .ok (.l2i, 1) := by decide +kernel
theorem d_Reckoner_multiply_203 : decode m_Reckoner_multiply.2.1 203 = .ok (.iastore, 1) := by decide +kernel
theorem d_Reckoner_multiply_204 : decode m_Reckoner_multiply.2.1 204 = .ok (.iinc 4 1, 3) := by decide +kernel
theorem d_Reckoner_multiply_207 : decode m_Reckoner_multiply.2.1 207 = .ok (.goto (-27), 3) := by decide +kernel
theorem d_Reckoner_multiply_210 : decode m_Reckoner_multiply.2.1 210 = .ok (.aload_n 3, 1) := by decide +kernel
theorem d_Reckoner_multiply_211 : decode m_Reckoner_multiply.2.1 211 = .ok (.aload_n 1, 1) := by decide +kernel
theorem d_Reckoner_multiply_212 : decode m_Reckoner_multiply.2.1 212 = .ok (.getfield 35, 3) := by decide +kernel
theorem d_Reckoner_multiply_215 : decode m_Reckoner_multiply.2.1 215 = .ok (.aload_n 2, 1) := by decide +kernel
theorem d_Reckoner_multiply_216 : decode m_Reckoner_multiply.2.1 216 = .ok (.getfield 35, 3) := by decide +kernel
theorem d_Reckoner_multiply_219 : decode m_Reckoner_multiply.2.1 219 = .ok (.if_icmp .eq 7, 3) := by decide +kernel
theorem d_Reckoner_multiply_222 : decode m_Reckoner_multiply.2.1 222 = .ok (.iconst 1, 1) := by decide +kernel
theorem d_Reckoner_multiply_223 : decode m_Reckoner_multiply.2.1 223 = .ok (.goto 4, 3) := by decide +kernel
theorem d_Reckoner_multiply_226 : decode m_Reckoner_multiply.2.1 226 = .ok (.iconst 0, 1) := by decide +kernel
theorem d_Reckoner_multiply_227 : decode m_Reckoner_multiply.2.1 227 = .ok (.putfield 35, 3) := by decide +kernel
theorem d_Reckoner_multiply_230 : decode m_Reckoner_multiply.2.1 230 = .ok (.aload_n 3, 1) := by decide +kernel
theorem d_Reckoner_multiply_231 : decode m_Reckoner_multiply.2.1 231 = .ok (.invokevirtual 39, 3) := by decide +kernel
theorem d_Reckoner_multiply_234 : decode m_Reckoner_multiply.2.1 234 = .ok (.aload_n 3, 1) := by decide +kernel
theorem d_Reckoner_multiply_235 : decode m_Reckoner_multiply.2.1 235 = .ok (.invokevirtual 42, 3) := by decide +kernel
theorem d_Reckoner_multiply_238 : decode m_Reckoner_multiply.2.1 238 = .ok (.ifCond .ne 7, 3) := by decide +kernel
theorem d_Reckoner_multiply_241 : decode m_Reckoner_multiply.2.1 241 = .ok (.iconst 1, 1) := by decide +kernel
theorem d_Reckoner_multiply_242 : decode m_Reckoner_multiply.2.1 242 = .ok (.goto 4, 3) := by decide +kernel
theorem d_Reckoner_multiply_245 : decode m_Reckoner_multiply.2.1 245 = .ok (.iconst 0, 1) := by decide +kernel
theorem d_Reckoner_multiply_246 : decode m_Reckoner_multiply.2.1 246 = .ok (.ireturn, 1) := by decide +kernel
def RkS (R : MR) (T : SH) (q : Nat) : Prop := T.1 q = 1 + 1 ∧ R q 0 = some (q + 1) ∧ R q 1 = some (q + 2) ∧ R q 3 = some (q + 3) ∧ T.1 (q + 1) = 65 ∧ T.2.1 (q + 1) = 72 ∧ T.1 (q + 2) = 64 ∧ T.2.1 (q + 2) = 72 ∧ T.1 (q + 3) = 66 ∧ T.2.1 (q + 3) = 324
/-- only row a of longs may have changed -/
def FrL (a : Nat) (L L' : M64) : Prop := ∀ q, q ≠ a → L' q = L q
theorem FrL.rf {a : Nat} {L : M64} : FrL a L L := fun _ _ => rfl
theorem FrL.tr {a : Nat} {I I1 I2 : M64} (h : FrL a I I1) (h2 : FrL a I1 I2) : FrL a I I2 := fun q e => (h2 q e).trans (h q e)
theorem FrL.up {a k : Nat} {L : M64} {v : Int64} : FrL a L (up2 L a k v) := fun q e => up2_row L v e
theorem dg_split (s p : Nat) : s = lo s p + dg s p * B9 ^ p + s / B9 ^ (p + 1) * B9 ^ (p + 1) := by
  rw [← lo_s]
  unfold lo
  have := Nat.div_add_mod s (B9 ^ (p + 1))
  rw [Nat.mul_comm] at this
  omega
/-- the digit at p is set to r -/
theorem dg_set {s p r : Nat} (hr : r < B9) : ∃ s', s' + dg s p * B9 ^ p = s + r * B9 ^ p ∧ dg s' p = r ∧ (∀ j, j ≠ p → dg s' j = dg s j) ∧ (∀ n, p < n → s < B9 ^ n → s' < B9 ^ n) := by
  have hsp := dg_split s p
  have hl := lo_lt s p
  have hd : dg s p < B9 := dg_lt s p
  generalize hh : s / B9 ^ (p + 1) = h at hsp
  have key : ∀ d, d < B9 → ∀ j, dg (lo s p + d * B9 ^ p + h * B9 ^ (p + 1)) j = if j < p then dg (lo s p) j else if j = p then d else h / B9 ^ (j - (p + 1)) % B9 := by
    intro d hd' j
    have hlt := add_lt9 hl hd'
    by_cases q1 : j < p
    · rw [if_pos q1, dg_add_lo hlt (by omega), dg_add_lo hl q1]
    · rw [if_neg q1]
      by_cases q2 : j = p
      · subst q2; rw [if_pos rfl, dg_add_lo hlt (by omega), dg_add_hi hl hd']
      · rw [if_neg q2]
        unfold dg
        obtain ⟨i, rfl⟩ : ∃ i, j = p + 1 + i := ⟨j - (p + 1), by omega⟩
        rw [Nat.pow_add B9 (p + 1) i, ← Nat.div_div_eq_div_mul, Nat.add_mul_div_right _ _ (pow9_pos (p + 1)), Nat.div_eq_of_lt hlt, Nat.zero_add, show p + 1 + i - (p + 1) = i by omega]
  refine ⟨lo s p + r * B9 ^ p + h * B9 ^ (p + 1), by omega, ?_, ?_, ?_⟩
  · rw [key r hr p, if_neg (by omega), if_pos rfl]
  · intro j hj
    rw [key r hr j]
    have e := key (dg s p) hd j
    rw [← hsp] at e
    rw [e]
    by_cases q1 : j < p
    · rw [if_pos q1, if_pos q1]
    · rw [if_neg q1, if_neg q1, if_neg hj, if_neg hj]
  · intro n hn hs
    have hlt := add_lt9 hl hr
    obtain ⟨i, rfl⟩ : ∃ i, n = p + 1 + i := ⟨n - (p + 1), by omega⟩
    rw [Nat.pow_add B9 (p + 1) i] at hs ⊢
    have hh2 : h < B9 ^ i := by
      rw [← hh]
      exact Nat.div_lt_of_lt_mul hs
    have h3 : (h + 1) * B9 ^ (p + 1) ≤ B9 ^ i * B9 ^ (p + 1) := Nat.mul_le_mul_right _ hh2
    rw [Nat.add_mul, Nat.one_mul] at h3
    rw [Nat.mul_comm (B9 ^ (p + 1))]
    omega
/-- one step of a product's row: at place i + j -/
theorem mul_step {x y s i j c P : Nat} (h : s + c * B9 ^ (i + j) = P + dg x i * (lo y j) * B9 ^ i) (hc : c ≤ 999999999) (u : Nat) (hu : u = dg s (i + j) + dg x i * dg y j + c) :
    u ≤ 999999999999999999 ∧ ∃ s', (∀ k, k ≠ i + j → dg s' k = dg s k) ∧ dg s' (i + j) = u % 1000000000 ∧ (∀ n, i + j < n → s < B9 ^ n → s' < B9 ^ n) ∧ u / 1000000000 ≤ 999999999 ∧ s' + u / 1000000000 * B9 ^ (i + (j + 1)) = P + dg x i * (lo y (j + 1)) * B9 ^ i := by
  have d1 := dg_lt s (i + j)
  have d2 := dg_lt x i
  have d3 := dg_lt y j
  have hp : dg x i * dg y j ≤ 999999999 * 999999999 := Nat.mul_le_mul (by omega) (by omega)
  obtain ⟨s', e1, e2, e3, e4⟩ := dg_set (s := s) (p := i + j) (r := u % 1000000000) (Nat.mod_lt _ (by decide))
  refine ⟨by omega, s', e3, e2, e4, by omega, ?_⟩
  have hu2 : u = u % 1000000000 + 1000000000 * (u / 1000000000) := by omega
  have e5 : u * B9 ^ (i + j) = (u % 1000000000) * B9 ^ (i + j) + (u / 1000000000) * B9 ^ (i + (j + 1)) := by
    rw [show i + (j + 1) = (i + j) + 1 by omega, Nat.pow_succ]
    show _ = _ + (u / 1000000000) * (B9 ^ (i + j) * 1000000000)
    rw [show (u / 1000000000) * (B9 ^ (i + j) * 1000000000) = 1000000000 * (u / 1000000000) * B9 ^ (i + j) by ac_rfl, ← Nat.add_mul, ← hu2]
  have e6 : u * B9 ^ (i + j) = dg s (i + j) * B9 ^ (i + j) + dg x i * dg y j * B9 ^ (i + j) + c * B9 ^ (i + j) := by rw [hu]; simp only [Nat.add_mul]
  rw [lo_s, Nat.mul_add, Nat.add_mul]
  have e7 : dg x i * (dg y j * B9 ^ j) * B9 ^ i = dg x i * dg y j * B9 ^ (i + j) := by rw [Nat.pow_add]; ac_rfl
  rw [e7]
  omega
theorem c_Reckoner_multiply (d : Nat) {q a b t : Nat} {v w : Int} {I : M32} {L : M64} {R : MR} {T : SH} (hd : 1 ≤ d) (hQ0 : RkS R T q) (hA : BigS R T a) (hB : BigS R T b) (hT : BigS R T t) (hta : t ≠ a) (htb : t ≠ b) (hV : BigV I a v) (hU : BigV I b w) :
    Call m_Reckoner_multiply y_Reckoner_multiply d 0 0 [.ref q, .ref a, .ref b, .ref t] I L R T (rI fun r I' L' R' T' => (∃ u, BigV I' t u ∧ FrB t I I' ∧ ((v * w).natAbs < 10 ^ 300 ∧ u = v * w ∧ r = cI 1 ∨ 10 ^ 300 ≤ (v * w).natAbs ∧ r = cI 0)) ∧ FrL (q + 1) L L' ∧ R' = R ∧ T' = T) := by
  refine Call.ofRun (by decide) ⟨rfl, rfl⟩ (Nat.le_of_ble_eq_true rfl) ?_
  show Run m_Reckoner_multiply d 0 0 0 [(0, .ref q), (1, .ref a), (2, .ref b), (3, .ref t)] [] I L R T _
  generalize hQ : (rI fun r I' L' R' T' => (∃ u, BigV I' t u ∧ FrB t I I' ∧ ((v * w).natAbs < 10 ^ 300 ∧ u = v * w ∧ r = cI 1 ∨ 10 ^ 300 ≤ (v * w).natAbs ∧ r = cI 0)) ∧ FrL (q + 1) L L' ∧ R' = R ∧ T' = T) = Q
  obtain ⟨n, hW, hN⟩ := id hV
  obtain ⟨m, hX, hM⟩ := id hU
  have hn := hW.2.1
  have hm := hX.2.1
  have sv := b2i_in (decide (v < 0))
  have sw := b2i_in (decide (w < 0))
  obtain ⟨a1, a2, a3, a4⟩ := hT.apart hA hta
  obtain ⟨b1, b2, b3, b4⟩ := hT.apart hB htb
  generalize hx : v.natAbs = x at *
  generalize hy : w.natAbs = y at *
  have hxy : (v * w).natAbs = x * y := by rw [Int.natAbs_mul, hx, hy]
  rw [hxy] at hQ
  -- the end: places are copied, the sign is set
  have fin : ∀ (K : M64) (z : Int) (k f : Nat) (J : M32), n + m ≤ 36 → (n + m) - k < f → z = k → k ≤ n + m → FrL (q + 1) L K → (∀ j, j < n + m → K (q + 1) j = cL (dg (x * y) j)) → x * y < B9 ^ (n + m) → FrB t I J → J t 1 = cI ((n + m : Nat) : Int) → (∀ j, j < k → J (t + 1) j = cI (dg (x * y) j)) →
      Run m_Reckoner_multiply d 0 0 180 [(4, .int (cI z)), (0, .ref q), (1, .ref a), (2, .ref b), (3, .ref t)] [] J K R T Q := by
    intro K z k f
    induction f generalizing k z with
    | zero => intro J _ h; omega
    | succ f ih =>
      intro J h36 hf hz hk hK hrow hlt hF h1 h2
      have d1 := dg_lt (x * y) k
      refine q_iload d_Reckoner_multiply_180 rfl ?_
      refine q_aload_n d_Reckoner_multiply_182 rfl ?_
      refine j_getI (v := (cI (((n + m : Nat) : Int)))) d_Reckoner_multiply_183 fl_Reckoner_23 hT.1 ⟨rfl, by decide⟩ h1 ?_
      refine j_icmp_ge (tgt := 210) d_Reckoner_multiply_186 (by decide) (by omega) (by omega) (fun h => ?_) (fun h => ?_)
      · skip
        have hkn : k = n + m := by omega
        obtain ⟨sg, hsg⟩ : ∃ sg : Bool, sg = (decide (v < 0) ^^ decide (w < 0)) := ⟨_, rfl⟩
        have hsg2 := b2i_in sg
        have J227 : Run m_Reckoner_multiply d 0 0 227 [(4, .int (cI z)), (0, .ref q), (1, .ref a), (2, .ref b), (3, .ref t)] [.int (cI (if sg then 1 else 0)), .ref t] J K R T Q := by
          refine q_putZ d_Reckoner_multiply_227 fl_Reckoner_35 hT.1 ⟨rfl, by decide, rfl, rfl⟩ (by cases sg; exact Or.inl rfl; exact Or.inr rfl) ?_
          refine q_aload_n d_Reckoner_multiply_230 rfl ?_
          have hBN : BigN (up2 J t 2 (cI (if sg then 1 else 0))) t (n + m) (x * y) := ⟨hlt, h36, by rw [up2_k _ _ _ (by decide)]; exact h1, fun j hj => by rw [up2_a _ _ _ (by omega)]; exact h2 j (by omega)⟩
          refine q_callV (ci := 0) (rc := 0) (rs := 0) (rest := []) d_Reckoner_multiply_231 ml_Reckoner_39 ok_Big_trim rfl hT.1 (by decide) (c_Big_trim (d - 1) hT hBN (up2_s _ _ _ _)) rfl rfl (by omega) (Nat.le_of_ble_eq_true rfl) (kv_V (fun J2 hJ2 => ?_)) kt_V
          have hval : (if sg then -((x * y : Nat) : Int) else ((x * y : Nat) : Int)) = v * w := by
            rw [hsg]
            by_cases q1 : v < 0 <;> by_cases q2 : w < 0 <;> simp [q1, q2]
            · rw [← Int.neg_mul_neg]; congr 1 <;> omega
            · rw [show (x : Int) = -v by omega, show (y : Int) = w by omega, Int.neg_mul, Int.neg_neg]
            · rw [show (x : Int) = v by omega, show (y : Int) = -w by omega, Int.mul_neg, Int.neg_neg]
            · rw [show (x : Int) = v by omega, show (y : Int) = w by omega]
          rw [hval] at hJ2
          refine q_aload_n d_Reckoner_multiply_234 rfl ?_
          refine q_callV (ci := 0) (rc := 0) (rs := 0) (rest := []) d_Reckoner_multiply_235 ml_Reckoner_42 ok_Big_isLarge rfl hT.1 (by decide) (c_Big_isLarge (d - 1) hT hJ2.1) rfl rfl (by omega) (Nat.le_of_ble_eq_true rfl) (kp_I ?_) kt_I
          have hl2 : inI (if 10 ^ 300 ≤ (v * w).natAbs then 1 else 0) := by split <;> decide
          refine j_if_ne (tgt := 245) d_Reckoner_multiply_238 (by decide) (by omega) (fun h9 => ?_) (fun h9 => ?_)
          · skip
            refine j_iconst d_Reckoner_multiply_245 ?_
            refine q_ireturn d_Reckoner_multiply_246 rfl (narrow_z (Or.inl rfl)).1 ?_
            subst hQ
            refine ⟨_, rfl, ⟨_, hJ2.1, FrB.tr hF (FrB.tr FrB.up hJ2.2), Or.inr ⟨?_, rfl⟩⟩, hK, rfl, rfl⟩
            rw [← hxy]
            by_cases e : 10 ^ 300 ≤ (v * w).natAbs
            · exact e
            · rw [if_neg e] at h9; exact absurd rfl h9
          · skip
            refine j_iconst d_Reckoner_multiply_241 ?_
            refine q_goto (tgt := 246) d_Reckoner_multiply_242 (by decide) ?_
            refine q_ireturn d_Reckoner_multiply_246 rfl (narrow_z (Or.inr rfl)).1 ?_
            subst hQ
            refine ⟨_, rfl, ⟨_, hJ2.1, FrB.tr hF (FrB.tr FrB.up hJ2.2), Or.inl ⟨?_, rfl, rfl⟩⟩, hK, rfl, rfl⟩
            rw [← hxy]
            by_cases e : 10 ^ 300 ≤ (v * w).natAbs
            · rw [if_pos e] at h9; exact absurd h9 (by decide)
            · omega
        refine q_aload_n d_Reckoner_multiply_210 rfl ?_
        refine q_aload_n d_Reckoner_multiply_211 rfl ?_
        refine j_getI (v := (cI (if decide (v < 0) then 1 else 0))) d_Reckoner_multiply_212 fl_Reckoner_35 hA.1 ⟨rfl, by decide⟩ (by rw [hF a a1 a2]; exact hW.2.2.2.2) ?_
        refine q_aload_n d_Reckoner_multiply_215 rfl ?_
        refine j_getI (v := (cI (if decide (w < 0) then 1 else 0))) d_Reckoner_multiply_216 fl_Reckoner_35 hB.1 ⟨rfl, by decide⟩ (by rw [hF b b1 b2]; exact hX.2.2.2.2) ?_
        refine j_icmp_eq (tgt := 226) d_Reckoner_multiply_219 (by decide) (by omega) (by omega) (fun h8 => ?_) (fun h8 => ?_)
        · skip
          refine j_iconst d_Reckoner_multiply_226 ?_
          refine Run.top (v := .int (cI (if sg then 1 else 0))) (by rw [b2i_eq] at h8; rw [hsg, h8]; simp) ?_
          exact J227
        · skip
          refine j_iconst d_Reckoner_multiply_222 ?_
          refine q_goto (tgt := 227) d_Reckoner_multiply_223 (by decide) ?_
          refine Run.top (v := .int (cI (if sg then 1 else 0))) (by rw [b2i_eq] at h8; rw [hsg]; by_cases q1 : v < 0 <;> by_cases q2 : w < 0 <;> simp [q1, q2] at h8 ⊢) ?_
          exact J227
      · skip
        refine q_aload_n d_Reckoner_multiply_189 rfl ?_
        refine q_getR d_Reckoner_multiply_190 fl_Reckoner_30 hT.1 ⟨rfl, by decide⟩ hT.2.1 ?_
        refine q_iload d_Reckoner_multiply_193 rfl ?_
        refine q_aload_n d_Reckoner_multiply_195 rfl ?_
        refine q_getR d_Reckoner_multiply_196 fl_Reckoner_9 hQ0.1 ⟨rfl, by decide⟩ hQ0.2.1 ?_
        refine q_iload d_Reckoner_multiply_199 rfl ?_
        refine j_lald (j := k) (v := (cL (dg (x * y) k : Int))) d_Reckoner_multiply_201 hQ0.2.2.2.2.1 hQ0.2.2.2.2.2.1 (by omega) (by omega) (by omega) (hrow k (by omega)) ?_
        refine j_l2i d_Reckoner_multiply_202 ?_
        refine j_iast (j := k) d_Reckoner_multiply_203 hT.2.2.1 hT.2.2.2 (by omega) (by omega) (by omega) ?_
        refine j_iinc (lv' := [(4, .int (cI (z + 1))), (0, .ref q), (1, .ref a), (2, .ref b), (3, .ref t)]) d_Reckoner_multiply_204 rfl (by decide) rfl ?_
        refine q_goto (tgt := 180) d_Reckoner_multiply_207 (by decide) ?_
        refine ih (z + 1) (k + 1) _ h36 (by omega) (by omega) (by omega) hK hrow hlt (hF.tr FrB.upP) ?_ ?_
        · rw [up2_a _ _ _ (by omega)]; exact h1
        · intro j hj
          by_cases e : j = k
          · subst e; rw [up2_s]
          · rw [up2_k _ _ _ e]; exact h2 j (by omega)
  have outer : ∀ (f i : Nat) (z : Int) (K : M64), n + m ≤ 36 → n - i < f → z = i → i ≤ n → FrL (q + 1) L K → (∀ j, j < n + m → K (q + 1) j = cL (dg (lo x i * y) j)) → Run m_Reckoner_multiply d 0 0 54 [(4, .int (cI z)), (0, .ref q), (1, .ref a), (2, .ref b), (3, .ref t)] [] I K R T Q := by
    intro f
    induction f with
    | zero => intro i z K _ h; omega
    | succ f ih =>
      intro i z K h36 hf hz hi hK hrow
      refine q_iload d_Reckoner_multiply_54 rfl ?_
      refine q_aload_n d_Reckoner_multiply_56 rfl ?_
      refine j_getI (v := (cI (n : Int))) d_Reckoner_multiply_57 fl_Reckoner_23 hA.1 ⟨rfl, by decide⟩ hW.2.2.1 ?_
      refine j_icmp_ge (tgt := 164) d_Reckoner_multiply_60 (by decide) (by omega) (by omega) (fun h => ?_) (fun h => ?_)
      · skip
        have hin : i = n := by omega
        subst hin
        rw [lo_all hW.1] at hrow
        refine q_aload_n d_Reckoner_multiply_164 rfl ?_
        refine q_aload_n d_Reckoner_multiply_165 rfl ?_
        refine j_getI (v := (cI (i : Int))) d_Reckoner_multiply_166 fl_Reckoner_23 hA.1 ⟨rfl, by decide⟩ hW.2.2.1 ?_
        refine q_aload_n d_Reckoner_multiply_169 rfl ?_
        refine j_getI (v := (cI (m : Int))) d_Reckoner_multiply_170 fl_Reckoner_23 hB.1 ⟨rfl, by decide⟩ hX.2.2.1 ?_
        refine j_iadd d_Reckoner_multiply_173 ?_
        refine q_putI d_Reckoner_multiply_174 fl_Reckoner_23 hT.1 ⟨rfl, by decide, rfl, rfl⟩ ?_
        refine j_iconst d_Reckoner_multiply_177 ?_
        refine q_istore (lv' := [(4, .int (cI 0)), (0, .ref q), (1, .ref a), (2, .ref b), (3, .ref t)]) d_Reckoner_multiply_178 (by decide) rfl ?_
        have hlt : x * y < B9 ^ (i + m) := by rw [Nat.pow_add]; exact Nat.mul_lt_mul'' hW.1 hX.1
        exact fin K 0 0 (i + m + 1) _ h36 (by omega) rfl (by omega) hK hrow hlt FrB.up (by rw [up2_s]; rfl) (fun j hj => by omega)
      · skip
        refine j_lconst (z := 0) d_Reckoner_multiply_63 (by decide) ?_
        refine q_lstore (lv' := [(5, .long (cL 0)), (4, .int (cI z)), (0, .ref q), (1, .ref a), (2, .ref b), (3, .ref t)]) d_Reckoner_multiply_64 (by decide) rfl ?_
        refine j_iconst d_Reckoner_multiply_66 ?_
        refine q_istore (lv' := [(7, .int (cI 0)), (5, .long (cL 0)), (4, .int (cI z)), (0, .ref q), (1, .ref a), (2, .ref b), (3, .ref t)]) d_Reckoner_multiply_67 (by decide) rfl ?_
        have d1 := dg_lt x i
        have hP : lo x i * y < B9 ^ (i + m) := by
          rw [Nat.pow_add]; exact Nat.mul_lt_mul'' (lo_lt x i) hX.1
        have inner : ∀ (g j c s : Nat) (zj zc : Int) (K : M64), m - j < g → zj = j → zc = c → j ≤ m → c ≤ 999999999 → s < B9 ^ (i + m) → s + c * B9 ^ (i + j) = lo x i * y + dg x i * lo y j * B9 ^ i → (j < m → s < B9 ^ (i + j + 1) ∨ True) → FrL (q + 1) L K → (∀ k, k < n + m → K (q + 1) k = cL (dg s k)) →
            Run m_Reckoner_multiply d 0 0 69 [(7, .int (cI zj)), (5, .long (cL zc)), (4, .int (cI z)), (0, .ref q), (1, .ref a), (2, .ref b), (3, .ref t)] [] I K R T Q := by
          intro g
          induction g with
          | zero => intro j c s zj zc K h; omega
          | succ g ihg =>
            intro j c s zj zc K hg hzj hzc hj hc hs hsum _ hK hrow
            have d2 := dg_lt y j
            have d3 := dg_lt s (i + j)
            refine q_iload d_Reckoner_multiply_69 rfl ?_
            refine q_aload_n d_Reckoner_multiply_71 rfl ?_
            refine j_getI (v := (cI (m : Int))) d_Reckoner_multiply_72 fl_Reckoner_23 hB.1 ⟨rfl, by decide⟩ hX.2.2.1 ?_
            refine j_icmp_ge (tgt := 141) d_Reckoner_multiply_75 (by decide) (by omega) (by omega) (fun h2 => ?_) (fun h2 => ?_)
            · skip
              have hjm : j = m := by omega
              subst hjm
              rw [lo_all hX.1] at hsum
              have hz0 : dg s (i + j) = 0 := dg_big hs (Nat.le_refl _)
              refine q_aload_n d_Reckoner_multiply_141 rfl ?_
              refine q_getR d_Reckoner_multiply_142 fl_Reckoner_9 hQ0.1 ⟨rfl, by decide⟩ hQ0.2.1 ?_
              refine q_iload d_Reckoner_multiply_145 rfl ?_
              refine q_aload_n d_Reckoner_multiply_147 rfl ?_
              refine j_getI (v := (cI (j : Int))) d_Reckoner_multiply_148 fl_Reckoner_23 hB.1 ⟨rfl, by decide⟩ hX.2.2.1 ?_
              refine j_iadd d_Reckoner_multiply_151 ?_
              refine q_dup2_11 d_Reckoner_multiply_152 rfl rfl ?_
              refine j_lald (j := (i + j)) (v := (cL 0)) d_Reckoner_multiply_153 hQ0.2.2.2.2.1 hQ0.2.2.2.2.2.1 (by omega) (by omega) (by omega) (by rw [hrow (i + j) (by omega), hz0]; rfl) ?_
              refine q_lload d_Reckoner_multiply_154 rfl ?_
              refine j_ladd d_Reckoner_multiply_156 ?_
              refine j_last (j := (i + j)) d_Reckoner_multiply_157 hQ0.2.2.2.2.1 hQ0.2.2.2.2.2.1 (by omega) (by omega) (by omega) ?_
              refine j_iinc (lv' := [(4, .int (cI (z + 1))), (7, .int (cI zj)), (5, .long (cL zc)), (0, .ref q), (1, .ref a), (2, .ref b), (3, .ref t)]) d_Reckoner_multiply_158 rfl (by decide) rfl ?_
              refine q_goto (tgt := 54) d_Reckoner_multiply_161 (by decide) ?_
              refine Run.lv (lv' := [(4, .int (cI (z + 1))), (0, .ref q), (1, .ref a), (2, .ref b), (3, .ref t)]) (by simp) (ih (i + 1) (z + 1) _ h36 (by omega) (by omega) (by omega) (hK.tr FrL.up) (fun k hk => ?_))
              have e1 : lo x (i + 1) * y = s + c * B9 ^ (i + j) := by rw [hsum, lo_s, Nat.add_mul]; congr 1; ac_rfl
              rw [e1]
              by_cases e : k = i + j
              · subst e; rw [up2_s, dg_add_hi hs (show c < 1000000000 by omega), hzc, Int.zero_add]
              · rw [up2_k _ _ _ e, hrow k hk]
                by_cases e2 : k < i + j
                · rw [dg_add_lo hs e2]
                · rw [dg_big hs (by omega), dg_big (add_lt9 hs (show c < 1000000000 by omega)) (by omega)]
            · skip
              obtain ⟨u, hu⟩ : ∃ u, u = dg s (i + j) + dg x i * dg y j + c := ⟨_, rfl⟩
              have hpq : dg x i * dg y j ≤ 999999999 * 999999999 := Nat.mul_le_mul (by omega) (by omega)
              have hpz : ((dg x i * dg y j : Nat) : Int) = (dg x i : Int) * (dg y j : Int) := Int.natCast_mul _ _
              obtain ⟨u1, s', g1, g2, g3, g4, g5⟩ := mul_step (P := lo x i * y) hsum (s := s) hc u hu
              refine q_aload_n d_Reckoner_multiply_78 rfl ?_
              refine q_getR d_Reckoner_multiply_79 fl_Reckoner_9 hQ0.1 ⟨rfl, by decide⟩ hQ0.2.1 ?_
              refine q_iload d_Reckoner_multiply_82 rfl ?_
              refine q_iload d_Reckoner_multiply_84 rfl ?_
              refine j_iadd d_Reckoner_multiply_86 ?_
              refine j_lald (j := (i + j)) (v := (cL (dg s (i + j) : Int))) d_Reckoner_multiply_87 hQ0.2.2.2.2.1 hQ0.2.2.2.2.2.1 (by omega) (by omega) (by omega) (hrow (i + j) (by omega)) ?_
              refine q_aload_n d_Reckoner_multiply_88 rfl ?_
              refine q_getR d_Reckoner_multiply_89 fl_Reckoner_30 hA.1 ⟨rfl, by decide⟩ hA.2.1 ?_
              refine q_iload d_Reckoner_multiply_92 rfl ?_
              refine j_iald (j := i) (v := (cI (dg x i : Int))) d_Reckoner_multiply_94 hA.2.2.1 hA.2.2.2 (by omega) (by omega) (by omega) (hW.2.2.2.1 i (by omega)) ?_
              refine j_i2l d_Reckoner_multiply_95 (by omega) ?_
              refine q_aload_n d_Reckoner_multiply_96 rfl ?_
              refine q_getR d_Reckoner_multiply_97 fl_Reckoner_30 hB.1 ⟨rfl, by decide⟩ hB.2.1 ?_
              refine q_iload d_Reckoner_multiply_100 rfl ?_
              refine j_iald (j := j) (v := (cI (dg y j : Int))) d_Reckoner_multiply_102 hB.2.2.1 hB.2.2.2 (by omega) (by omega) (by omega) (hX.2.2.2.1 j (by omega)) ?_
              refine j_i2l d_Reckoner_multiply_103 (by omega) ?_
              refine j_lmul d_Reckoner_multiply_104 ?_
              refine j_ladd d_Reckoner_multiply_105 ?_
              refine q_lload d_Reckoner_multiply_106 rfl ?_
              refine j_ladd d_Reckoner_multiply_108 ?_
              refine Run.top (v := .long (cL (u : Int))) (by rw [show (dg s (i + j) : Int) + (dg x i : Int) * (dg y j : Int) + zc = (u : Int) by omega]) ?_
              refine q_lstore (lv' := [(8, .long (cL (u : Int))), (7, .int (cI zj)), (5, .long (cL zc)), (4, .int (cI z)), (0, .ref q), (1, .ref a), (2, .ref b), (3, .ref t)]) d_Reckoner_multiply_109 (by decide) rfl ?_
              refine q_aload_n d_Reckoner_multiply_111 rfl ?_
              refine q_getR d_Reckoner_multiply_112 fl_Reckoner_9 hQ0.1 ⟨rfl, by decide⟩ hQ0.2.1 ?_
              refine q_iload d_Reckoner_multiply_115 rfl ?_
              refine q_iload d_Reckoner_multiply_117 rfl ?_
              refine j_iadd d_Reckoner_multiply_119 ?_
              refine q_lload d_Reckoner_multiply_120 rfl ?_
              refine j_ldc2 (z := 1000000000) d_Reckoner_multiply_122 (inT6 147 rfl) (by decide) ?_
              refine j_lrem d_Reckoner_multiply_125 (by omega) (by omega) ?_
              refine j_last (j := (i + j)) d_Reckoner_multiply_126 hQ0.2.2.2.2.1 hQ0.2.2.2.2.2.1 (by omega) (by omega) (by omega) ?_
              refine q_lload d_Reckoner_multiply_127 rfl ?_
              refine j_ldc2 (z := 1000000000) d_Reckoner_multiply_129 (inT6 147 rfl) (by decide) ?_
              refine j_ldiv d_Reckoner_multiply_132 (by omega) (by omega) ?_
              refine q_lstore (lv' := [(5, .long (cL ((u : Int) / 1000000000))), (8, .long (cL (u : Int))), (7, .int (cI zj)), (4, .int (cI z)), (0, .ref q), (1, .ref a), (2, .ref b), (3, .ref t)]) d_Reckoner_multiply_133 (by decide) rfl ?_
              refine j_iinc (lv' := [(7, .int (cI (zj + 1))), (5, .long (cL ((u : Int) / 1000000000))), (8, .long (cL (u : Int))), (4, .int (cI z)), (0, .ref q), (1, .ref a), (2, .ref b), (3, .ref t)]) d_Reckoner_multiply_135 rfl (by decide) rfl ?_
              refine q_goto (tgt := 69) d_Reckoner_multiply_138 (by decide) ?_
              refine Run.lv (lv' := [(7, .int (cI (zj + 1))), (5, .long (cL ((u : Int) / 1000000000))), (4, .int (cI z)), (0, .ref q), (1, .ref a), (2, .ref b), (3, .ref t)]) (by simp) (ihg (j + 1) (u / 1000000000) s' (zj + 1) ((u : Int) / 1000000000) _ (by omega) (by omega) rfl (by omega) g4 (g3 _ (by omega) hs) g5 (fun _ => Or.inr trivial) (hK.tr FrL.up) (fun k hk => ?_))
              by_cases e : k = i + j
              · subst e; rw [up2_s, g2]; rfl
              · rw [up2_k _ _ _ e, g1 k e]; exact hrow k hk
        exact inner (m + 1) 0 0 (lo x i * y) 0 0 K (by omega) rfl rfl (by omega) (by omega) hP (by simp [lo_0]) (fun _ => Or.inr trivial) hK hrow
  refine q_aload_n d_Reckoner_multiply_0 rfl ?_
  refine j_getI (v := (cI (n : Int))) d_Reckoner_multiply_1 fl_Reckoner_23 hA.1 ⟨rfl, by decide⟩ hW.2.2.1 ?_
  refine q_aload_n d_Reckoner_multiply_4 rfl ?_
  refine j_getI (v := (cI (m : Int))) d_Reckoner_multiply_5 fl_Reckoner_23 hB.1 ⟨rfl, by decide⟩ hX.2.2.1 ?_
  refine j_iadd d_Reckoner_multiply_8 ?_
  refine j_bipush d_Reckoner_multiply_9 (by decide) ?_
  refine j_icmp_le (tgt := 20) d_Reckoner_multiply_11 (by decide) (by omega) (by omega) (fun h => ?_) (fun h => ?_)
  · skip
    have zero : ∀ (f k : Nat) (z : Int) (K : M64), (n + m) - k < f → z = k → k ≤ n + m → FrL (q + 1) L K → (∀ j, j < k → K (q + 1) j = cL 0) → Run m_Reckoner_multiply d 0 0 23 [(4, .int (cI z)), (0, .ref q), (1, .ref a), (2, .ref b), (3, .ref t)] [] I K R T Q := by
      intro f
      induction f with
      | zero => intro k z K h; omega
      | succ f ih =>
        intro k z K hf hz hk hK h0
        refine q_iload d_Reckoner_multiply_23 rfl ?_
        refine q_aload_n d_Reckoner_multiply_25 rfl ?_
        refine j_getI (v := (cI (n : Int))) d_Reckoner_multiply_26 fl_Reckoner_23 hA.1 ⟨rfl, by decide⟩ hW.2.2.1 ?_
        refine q_aload_n d_Reckoner_multiply_29 rfl ?_
        refine j_getI (v := (cI (m : Int))) d_Reckoner_multiply_30 fl_Reckoner_23 hB.1 ⟨rfl, by decide⟩ hX.2.2.1 ?_
        refine j_iadd d_Reckoner_multiply_33 ?_
        refine j_icmp_ge (tgt := 51) d_Reckoner_multiply_34 (by decide) (by omega) (by omega) (fun h2 => ?_) (fun h2 => ?_)
        · skip
          refine j_iconst d_Reckoner_multiply_51 ?_
          refine q_istore (lv' := [(4, .int (cI 0)), (0, .ref q), (1, .ref a), (2, .ref b), (3, .ref t)]) d_Reckoner_multiply_52 (by decide) rfl ?_
          refine Run.lv (by simp) (outer (n + 1) 0 0 K (by omega) (by omega) rfl (by omega) hK (fun j hj => ?_))
          rw [h0 j (by omega), lo_0, Nat.zero_mul]
          unfold dg
          simp
        · skip
          refine q_aload_n d_Reckoner_multiply_37 rfl ?_
          refine q_getR d_Reckoner_multiply_38 fl_Reckoner_9 hQ0.1 ⟨rfl, by decide⟩ hQ0.2.1 ?_
          refine q_iload d_Reckoner_multiply_41 rfl ?_
          refine j_lconst (z := 0) d_Reckoner_multiply_43 (by decide) ?_
          refine j_last (j := k) d_Reckoner_multiply_44 hQ0.2.2.2.2.1 hQ0.2.2.2.2.2.1 (by omega) (by omega) (by omega) ?_
          refine j_iinc (lv' := [(4, .int (cI (z + 1))), (0, .ref q), (1, .ref a), (2, .ref b), (3, .ref t)]) d_Reckoner_multiply_45 rfl (by decide) rfl ?_
          refine q_goto (tgt := 23) d_Reckoner_multiply_48 (by decide) ?_
          refine ih (k + 1) (z + 1) _ (by omega) (by omega) (by omega) (hK.tr FrL.up) (fun j hj => ?_)
          by_cases e : j = k
          · subst e; rw [up2_s]
          · rw [up2_k _ _ _ e]; exact h0 j (by omega)
    refine j_iconst d_Reckoner_multiply_20 ?_
    refine q_istore (lv' := [(4, .int (cI 0)), (0, .ref q), (1, .ref a), (2, .ref b), (3, .ref t)]) d_Reckoner_multiply_21 (by decide) rfl ?_
    exact zero (n + m + 1) 0 0 L (by omega) rfl (by omega) FrL.rf (fun j hj => by omega)
  · skip
    refine q_aload_n d_Reckoner_multiply_14 rfl ?_
    refine q_callV (ci := 0) (rc := 0) (rs := 0) (rest := []) d_Reckoner_multiply_15 ml_Reckoner_27 ok_Big_clear rfl hT.1 (by decide) (c_Big_clear (d - 1) hT) rfl rfl (by omega) (Nat.le_of_ble_eq_true rfl) (kv_V (fun J1 hJ1 => ?_)) kt_V
    subst hJ1
    refine j_iconst d_Reckoner_multiply_18 ?_
    refine q_ireturn d_Reckoner_multiply_19 rfl (narrow_z (Or.inl rfl)).1 ?_
    subst hQ
    refine ⟨_, rfl, ⟨0, bigV_0 (by rw [up2_k _ _ _ (by decide), up2_s]) (up2_s _ _ _ _), FrB.tr FrB.up FrB.up, Or.inr ⟨?_, rfl⟩⟩, FrL.rf, rfl, rfl⟩
    have h1 := hN (by omega)
    have h2 := hM (by omega)
    have h3 : B9 ^ (n - 1) * B9 ^ (m - 1) ≤ x * y := Nat.mul_le_mul h1 h2
    rw [← Nat.pow_add] at h3
    have h4 : B9 ^ 35 ≤ B9 ^ (n - 1 + (m - 1)) := Nat.pow_le_pow_right (by decide) (by omega)
    have h5 : 10 ^ 300 ≤ B9 ^ 35 := by decide +kernel
    omega

