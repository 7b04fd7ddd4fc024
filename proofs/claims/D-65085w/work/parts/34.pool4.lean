/-! ===== 34 THE REFERENCE'S NUMBERS: products ===== -/
theorem d_Model_times_0 : decode m_Model_times.2.1 0 = .ok (.aload_n 0, 1) := by decide +kernel
theorem d_Model_times_1 : decode m_Model_times.2.1 1 = .ok (.getfield 17, 3) := by decide +kernel
theorem d_Model_times_4 : decode m_Model_times.2.1 4 = .ok (.iload_n 1, 1) := by decide +kernel
theorem d_Model_times_5 : decode m_Model_times.2.1 5 = .ok (.iconst 1, 1) := by decide +kernel
theorem d_Model_times_6 : decode m_Model_times.2.1 6 = .ok (.iadd, 1) := by decide +kernel
theorem d_Model_times_7 : decode m_Model_times.2.1 7 = .ok (.iaload, 1) := by decide +kernel
theorem d_Model_times_8 : decode m_Model_times.2.1 8 = .ok (.aload_n 0, 1) := by decide +kernel
theorem d_Model_times_9 : decode m_Model_times.2.1 9 = .ok (.getfield 17, 3) := by decide +kernel
theorem d_Model_times_12 : decode m_Model_times.2.1 12 = .ok (.iload_n 2, 1) := by decide +kernel
theorem d_Model_times_13 : decode m_Model_times.2.1 13 = .ok (.iconst 1, 1) := by decide +kernel
theorem d_Model_times_14 : decode m_Model_times.2.1 14 = .ok (.iadd, 1) := by decide +kernel
theorem d_Model_times_15 : decode m_Model_times.2.1 15 = .ok (.iaload, 1) := by decide +kernel
theorem d_Model_times_16 : decode m_Model_times.2.1 16 = .ok (.iadd, 1) := by decide +kernel
theorem d_Model_times_17 : decode m_Model_times.2.1 17 = .ok (.istore_n 3, 1) := by decide +kernel
theorem d_Model_times_18 : decode m_Model_times.2.1 18 = .ok (.aload_n 0, 1) := by decide +kernel
theorem d_Model_times_19 : decode m_Model_times.2.1 19 = .ok (.getfield 428, 3) := by decide +kernel
theorem d_Model_times_22 : decode m_Model_times.2.1 22 = .ok (.istore 4, 2) := by decide +kernel
theorem d_Model_times_24 : decode m_Model_times.2.1 24 = .ok (.iconst 0, 1) := by decide +kernel
theorem d_Model_times_25 : decode m_Model_times.2.1 25 = .ok (.istore 5, 2) := by decide +kernel
theorem d_Model_times_27 : decode m_Model_times.2.1 27 = .ok (.iload 5, 2) := by decide +kernel
theorem d_Model_times_29 : decode m_Model_times.2.1 29 = .ok (.iload_n 3, 1) := by decide +kernel
theorem d_Model_times_30 : decode m_Model_times.2.1 30 = .ok (.if_icmp .ge 22, 3) := by decide +kernel
theorem d_Model_times_33 : decode m_Model_times.2.1 33 = .ok (.aload_n 0, 1) := by decide +kernel
theorem d_Model_times_34 : decode m_Model_times.2.1 34 = .ok (.getfield 17, 3) := by decide +kernel
theorem d_Model_times_37 : decode m_Model_times.2.1 37 = .ok (.iload 4, 2) := by decide +kernel
theorem d_Model_times_39 : decode m_Model_times.2.1 39 = .ok (.iconst 2, 1) := by decide +kernel
theorem d_Model_times_40 : decode m_Model_times.2.1 40 = .ok (.iadd, 1) := by decide +kernel
theorem d_Model_times_41 : decode m_Model_times.2.1 41 = .ok (.iload 5, 2) := by decide +kernel
theorem d_Model_times_43 : decode m_Model_times.2.1 43 = .ok (.iadd, 1) := by decide +kernel
theorem d_Model_times_44 : decode m_Model_times.2.1 44 = .ok (.iconst 0, 1) := by decide +kernel
theorem d_Model_times_45 : decode m_Model_times.2.1 45 = .ok (.iastore, 1) := by decide +kernel
theorem d_Model_times_46 : decode m_Model_times.2.1 46 = .ok (.iinc 5 1, 3) := by decide +kernel
theorem d_Model_times_49 : decode m_Model_times.2.1 49 = .ok (.goto (-22), 3) := by decide +kernel
theorem d_Model_times_52 : decode m_Model_times.2.1 52 = .ok (.iconst 0, 1) := by decide +kernel
theorem d_Model_times_53 : decode m_Model_times.2.1 53 = .ok (.istore 5, 2) := by decide +kernel
theorem d_Model_times_55 : decode m_Model_times.2.1 55 = .ok (.iload 5, 2) := by decide +kernel
theorem d_Model_times_57 : decode m_Model_times.2.1 57 = .ok (.aload_n 0, 1) := by decide +kernel
theorem d_Model_times_58 : decode m_Model_times.2.1 58 = .ok (.getfield 17, 3) := by decide +kernel
theorem d_Model_times_61 : decode m_Model_times.2.1 61 = .ok (.iload_n 1, 1) := by decide +kernel
theorem d_Model_times_62 : decode m_Model_times.2.1 62 = .ok (.iconst 1, 1) := by decide +kernel
theorem d_Model_times_63 : decode m_Model_times.2.1 63 = .ok (.iadd, 1) := by decide +kernel
theorem d_Model_times_64 : decode m_Model_times.2.1 64 = .ok (.iaload, 1) := by decide +kernel
theorem d_Model_times_65 : decode m_Model_times.2.1 65 = .ok (.if_icmp .ge 139, 3) := by decide +kernel
theorem d_Model_times_68 : decode m_Model_times.2.1 68 = .ok (.iconst 0, 1) := by decide +kernel
theorem d_Model_times_69 : decode m_Model_times.2.1 69 = .ok (.istore 6, 2) := by decide +kernel
theorem d_Model_times_71 : decode m_Model_times.2.1 71 = .ok (.iconst 0, 1) := by decide +kernel
theorem d_Model_times_72 : decode m_Model_times.2.1 72 = .ok (.istore 7, 2) := by decide +kernel
theorem d_Model_times_74 : decode m_Model_times.2.1 74 = .ok (.iload 7, 2) := by decide +kernel
theorem d_Model_times_76 : decode m_Model_times.2.1 76 = .ok (.aload_n 0, 1) := by decide +kernel
theorem d_Model_times_77 : decode m_Model_times.2.1 77 = .ok (.getfield 17, 3) := by decide +kernel
theorem d_Model_times_80 : decode m_Model_times.2.1 80 = .ok (.iload_n 2, 1) := by decide +kernel
theorem d_Model_times_81 : decode m_Model_times.2.1 81 = .ok (.iconst 1, 1) := by decide +kernel
theorem d_Model_times_82 : decode m_Model_times.2.1 82 = .ok (.iadd, 1) := by decide +kernel
theorem d_Model_times_83 : decode m_Model_times.2.1 83 = .ok (.iaload, 1) := by decide +kernel
theorem d_Model_times_84 : decode m_Model_times.2.1 84 = .ok (.if_icmp .ge 80, 3) := by decide +kernel
theorem d_Model_times_87 : decode m_Model_times.2.1 87 = .ok (.aload_n 0, 1) := by decide +kernel
theorem d_Model_times_88 : decode m_Model_times.2.1 88 = .ok (.getfield 17, 3) := by decide +kernel
theorem d_Model_times_91 : decode m_Model_times.2.1 91 = .ok (.iload 4, 2) := by decide +kernel
theorem d_Model_times_93 : decode m_Model_times.2.1 93 = .ok (.iconst 2, 1) := by decide +kernel
theorem d_Model_times_94 : decode m_Model_times.2.1 94 = .ok (.iadd, 1) := by decide +kernel
theorem d_Model_times_95 : decode m_Model_times.2.1 95 = .ok (.iload 5, 2) := by decide +kernel
theorem d_Model_times_97 : decode m_Model_times.2.1 97 = .ok (.iadd, 1) := by decide +kernel
theorem d_Model_times_98 : decode m_Model_times.2.1 98 = .ok (.iload 7, 2) := by decide +kernel
theorem d_Model_times_100 : decode m_Model_times.2.1 100 = .ok (.iadd, 1) := by decide +kernel
theorem d_Model_times_101 : decode m_Model_times.2.1 101 = .ok (.iaload, 1) := by decide +kernel
theorem d_Model_times_102 : decode m_Model_times.2.1 102 = .ok (.aload_n 0, 1) := by decide +kernel
theorem d_Model_times_103 : decode m_Model_times.2.1 103 = .ok (.getfield 17, 3) := by decide +kernel
theorem d_Model_times_106 : decode m_Model_times.2.1 106 = .ok (.iload_n 1, 1) := by decide +kernel
theorem d_Model_times_107 : decode m_Model_times.2.1 107 = .ok (.iconst 2, 1) := by decide +kernel
theorem d_Model_times_108 : decode m_Model_times.2.1 108 = .ok (.iadd, 1) := by decide +kernel
theorem d_Model_times_109 : decode m_Model_times.2.1 109 = .ok (.iload 5, 2) := by decide +kernel
theorem d_Model_times_111 : decode m_Model_times.2.1 111 = .ok (.iadd, 1) := by decide +kernel
theorem d_Model_times_112 : decode m_Model_times.2.1 112 = .ok (.iaload, 1) := by decide +kernel
theorem d_Model_times_113 : decode m_Model_times.2.1 113 = .ok (.aload_n 0, 1) := by decide +kernel
theorem d_Model_times_114 : decode m_Model_times.2.1 114 = .ok (.getfield 17, 3) := by decide +kernel
theorem d_Model_times_117 : decode m_Model_times.2.1 117 = .ok (.iload_n 2, 1) := by decide +kernel
theorem d_Model_times_118 : decode m_Model_times.2.1 118 = .ok (.iconst 2, 1) := by decide +kernel
theorem d_Model_times_119 : decode m_Model_times.2.1 119 = .ok (.iadd, 1) := by decide +kernel
theorem d_Model_times_120 : decode m_Model_times.2.1 120 = .ok (.iload 7, 2) := by decide +kernel
theorem d_Model_times_122 : decode m_Model_times.2.1 122 = .ok (.iadd, 1) := by decide +kernel
theorem d_Model_times_123 : decode m_Model_times.2.1 123 = .ok (.iaload, 1) := by decide +kernel
theorem d_Model_times_124 : decode m_Model_times.2.1 124 = .ok (.imul, 1) := by decide +kernel
theorem d_Model_times_125 : decode m_Model_times.2.1 125 = .ok (.iadd, 1) := by decide +kernel
theorem d_Model_times_126 : decode m_Model_times.2.1 126 = .ok (.iload 6, 2) := by decide +kernel
theorem d_Model_times_128 : decode m_Model_times.2.1 128 = .ok (.iadd, 1) := by decide +kernel
theorem d_Model_times_129 : decode m_Model_times.2.1 129 = .ok (.istore 8, 2) := by decide +kernel
theorem d_Model_times_131 : decode m_Model_times.2.1 131 = .ok (.aload_n 0, 1) := by decide +kernel
theorem d_Model_times_132 : decode m_Model_times.2.1 132 = .ok (.getfield 17, 3) := by decide +kernel
theorem d_Model_times_135 : decode m_Model_times.2.1 135 = .ok (.iload 4, 2) := by decide +kernel
theorem d_Model_times_137 : decode m_Model_times.2.1 137 = .ok (.iconst 2, 1) := by decide +kernel
theorem d_Model_times_138 : decode m_Model_times.2.1 138 = .ok (.iadd, 1) := by decide +kernel
theorem d_Model_times_139 : decode m_Model_times.2.1 139 = .ok (.iload 5, 2) := by decide +kernel
theorem d_Model_times_141 : decode m_Model_times.2.1 141 = .ok (.iadd, 1) := by decide +kernel
theorem d_Model_times_142 : decode m_Model_times.2.1 142 = .ok (.iload 7, 2) := by decide +kernel
theorem d_Model_times_144 : decode m_Model_times.2.1 144 = .ok (.iadd, 1) := by decide +kernel
theorem d_Model_times_145 : decode m_Model_times.2.1 145 = .ok (.iload 8, 2) := by decide +kernel
theorem d_Model_times_147 : decode m_Model_times.2.1 147 = .ok (.bipush 10, 2) := by decide +kernel
theorem d_Model_times_149 : decode m_Model_times.2.1 149 = .ok (.irem, 1) := by decide +kernel
theorem d_Model_times_150 : decode m_Model_times.2.1 150 = .ok (.iastore, 1) := by decide +kernel
theorem d_Model_times_151 : decode m_Model_times.2.1 151 = .ok (.iload 8, 2) := by decide +kernel
theorem d_Model_times_153 : decode m_Model_times.2.1 153 = .ok (.bipush 10, 2) := by decide +kernel
theorem d_Model_times_155 : decode m_Model_times.2.1 155 = .ok (.idiv, 1) := by decide +kernel
theorem d_Model_times_156 : decode m_Model_times.2.1 156 = .ok (.istore 6, 2) := by decide +kernel
theorem d_Model_times_158 : decode m_Model_times.2.1 158 = .ok (.iinc 7 1, 3) := by decide +kernel
theorem d_Model_times_161 : decode m_Model_times.2.1 161 = .ok (.goto (-87), 3) := by decide +kernel
theorem d_Model_times_164 : decode m_Model_times.2.1 164 = .ok (.aload_n 0, 1) := by decide +kernel
theorem d_Model_times_165 : decode m_Model_times.2.1 165 = .ok (.getfield 17, 3) := by decide +kernel
theorem d_Model_times_168 : decode m_Model_times.2.1 168 = .ok (.iload_n 2, 1) := by decide +kernel
theorem d_Model_times_169 : decode m_Model_times.2.1 169 = .ok (.iconst 1, 1) := by decide +kernel
theorem d_Model_times_170 : decode m_Model_times.2.1 170 = .ok (.iadd, 1) := by decide +kernel
theorem d_Model_times_171 : decode m_Model_times.2.1 171 = .ok (.iaload, 1) := by decide +kernel
theorem d_Model_times_172 : decode m_Model_times.2.1 172 = .ok (.ifCond .le 26, 3) := by decide +kernel
theorem d_Model_times_175 : decode m_Model_times.2.1 175 = .ok (.aload_n 0, 1) := by decide +kernel
theorem d_Model_times_176 : decode m_Model_times.2.1 176 = .ok (.getfield 17, 3) := by decide +kernel
theorem d_Model_times_179 : decode m_Model_times.2.1 179 = .ok (.iload 4, 2) := by decide +kernel
theorem d_Model_times_181 : decode m_Model_times.2.1 181 = .ok (.iconst 2, 1) := by decide +kernel
theorem d_Model_times_182 : decode m_Model_times.2.1 182 = .ok (.iadd, 1) := by decide +kernel
theorem d_Model_times_183 : decode m_Model_times.2.1 183 = .ok (.iload 5, 2) := by decide +kernel
theorem d_Model_times_185 : decode m_Model_times.2.1 185 = .ok (.iadd, 1) := by decide +kernel
theorem d_Model_times_186 : decode m_Model_times.2.1 186 = .ok (.aload_n 0, 1) := by decide +kernel
theorem d_Model_times_187 : decode m_Model_times.2.1 187 = .ok (.getfield 17, 3) := by decide +kernel
theorem d_Model_times_190 : decode m_Model_times.2.1 190 = .ok (.iload_n 2, 1) := by decide +kernel
theorem d_Model_times_191 : decode m_Model_times.2.1 191 = .ok (.iconst 1, 1) := by decide +kernel
theorem d_Model_times_192 : decode m_Model_times.2.1 192 = .ok (.iadd, 1) := by decide +kernel
theorem d_Model_times_193 : decode m_Model_times.2.1 193 = .ok (.iaload, 1) := by decide +kernel
theorem d_Model_times_194 : decode m_Model_times.2.1 194 = .ok (.iadd, 1) := by decide +kernel
theorem d_Model_times_195 : decode m_Model_times.2.1 195 = .ok (.iload 6, 2) := by decide +kernel
theorem d_Model_times_197 : decode m_Model_times.2.1 197 = .ok (.iastore, 1) := by decide +kernel
theorem d_Model_times_198 : decode m_Model_times.2.1 198 = .ok (.iinc 5 1, 3) := by decide +kernel
theorem d_Model_times_201 : decode m_Model_times.2.1 201 = .ok (.goto (-146), 3) := by decide +kernel
theorem d_Model_times_204 : decode m_Model_times.2.1 204 = .ok (.aload_n 0, 1) := by decide +kernel
theorem d_Model_times_205 : decode m_Model_times.2.1 205 = .ok (.iload 4, 2) := by decide +kernel
theorem d_Model_times_207 : decode m_Model_times.2.1 207 = .ok (.iload_n 3, 1) := by decide +kernel
theorem d_Model_times_208 : decode m_Model_times.2.1 208 = .ok (.aload_n 0, 1) := by decide +kernel
theorem d_Model_times_209 : decode m_Model_times.2.1 209 = .ok (.getfield 17, 3) := by decide +kernel
theorem d_Model_times_212 : decode m_Model_times.2.1 212 = .ok (.iload_n 1, 1) := by decide +kernel
theorem d_Model_times_213 : decode m_Model_times.2.1 213 = .ok (.iaload, 1) := by decide +kernel
theorem d_Model_times_214 : decode m_Model_times.2.1 214 = .ok (.aload_n 0, 1) := by decide +kernel
theorem d_Model_times_215 : decode m_Model_times.2.1 215 = .ok (.getfield 17, 3) := by decide +kernel
theorem d_Model_times_218 : decode m_Model_times.2.1 218 = .ok (.iload_n 2, 1) := by decide +kernel
theorem d_Model_times_219 : decode m_Model_times.2.1 219 = .ok (.iaload, 1) := by decide +kernel
theorem d_Model_times_220 : decode m_Model_times.2.1 220 = .ok (.imul, 1) := by decide +kernel
theorem d_Model_times_221 : decode m_Model_times.2.1 221 = .ok (.invokevirtual 434, 3) := by decide +kernel
theorem d_Model_times_224 : decode m_Model_times.2.1 224 = .ok (.ireturn, 1) := by decide +kernel
theorem d10_0 (j : Nat) : d10 0 j = 0 := by simp [d10]
theorem c_Model_times (d : Nat) {M a b n m t : Nat} {v w : Int} {c : Bool} {I : M32} {L : M64} {R : MR} {T : SH} (hd : 1 ≤ d) (hM : MdlS M R T) (hV : PolV I (M + 3) a n v) (hW : PolV I (M + 3) b m w) (ht : I M 7 = cI t) (h8 : I M 8 = cI (bI (c = true))) (ha : a + n + 2 ≤ t) (hb : b + m + 2 ≤ t) (h1 : t + n + m + 2 ≤ 1100000) :
    Call m_Model_times y_Model_times d 0 0 [.ref M, .int (cI a), .int (cI b)] I L R T (rI fun r' I' L' R' T' => (r' = cI t ∧ ∃ k, k ≤ n + m ∧ PolV I' (M + 3) t k (v * w) ∧ I' M 7 = cI (t + k + 2 : Nat) ∧ I' M 8 = cI (bI (c = true ∨ 300 < k)) ∧ FrP M t I I') ∧ L' = L ∧ R' = R ∧ T' = T) := by
  refine Call.ofRun (by decide) ⟨rfl, rfl⟩ (Nat.le_of_ble_eq_true rfl) ?_
  refine Run.gen fun Q hQ => ?_
  refine q_aload_n d_Model_times_0 rfl ?_
  refine q_getR d_Model_times_1 fl_Model_17 hM.1 ⟨rfl, by decide⟩ (mR5 hM) ?_
  refine q_iload_n d_Model_times_4 rfl ?_
  refine j_iconst d_Model_times_5 ?_
  refine j_iadd d_Model_times_6 ?_
  refine j_iald (j := (a + 1)) (v := (cI (n : Int))) d_Model_times_7 (mT5 hM) (mN5 hM) (by omega) (by omega) (by omega) hV.2.2.1 ?_
  refine q_aload_n d_Model_times_8 rfl ?_
  refine q_getR d_Model_times_9 fl_Model_17 hM.1 ⟨rfl, by decide⟩ (mR5 hM) ?_
  refine q_iload_n d_Model_times_12 rfl ?_
  refine j_iconst d_Model_times_13 ?_
  refine j_iadd d_Model_times_14 ?_
  refine j_iald (j := (b + 1)) (v := (cI (m : Int))) d_Model_times_15 (mT5 hM) (mN5 hM) (by omega) (by omega) (by omega) hW.2.2.1 ?_
  refine j_iadd d_Model_times_16 ?_
  refine q_istore_n (lv' := [(3, .int (cI ((n : Int) + (m : Int)))), (0, .ref M), (1, .int (cI (a : Int))), (2, .int (cI (b : Int)))]) d_Model_times_17 (by decide) rfl ?_
  refine q_aload_n d_Model_times_18 rfl ?_
  refine j_getI (v := (cI (t : Int))) d_Model_times_19 fl_Model_428 hM.1 ⟨rfl, by decide⟩ ht ?_
  refine q_istore (lv' := [(4, .int (cI (t : Int))), (3, .int (cI ((n : Int) + (m : Int)))), (0, .ref M), (1, .int (cI (a : Int))), (2, .int (cI (b : Int)))]) d_Model_times_22 (by decide) rfl ?_
  refine j_iconst d_Model_times_24 ?_
  refine q_istore (lv' := [(5, .int (cI 0)), (4, .int (cI (t : Int))), (3, .int (cI ((n : Int) + (m : Int)))), (0, .ref M), (1, .int (cI (a : Int))), (2, .int (cI (b : Int)))]) d_Model_times_25 (by decide) rfl ?_
  have hxy : v.natAbs * w.natAbs < 10 ^ (n + m) := by
    rw [Nat.pow_add]
    exact Nat.mul_lt_mul'' hV.1.1 hW.1.1
  have fin : ∀ (s : Nat) (z : Int) (J : M32), s = v.natAbs * w.natAbs → z = n → (∀ j, j < n + m → J (M + 3) (t + j + 2) = cI (d10 s j)) → J M = I M → FrP M t I J → Run m_Model_times d 0 0 204 [(0, .ref M), (1, .int (cI (a : Int))), (2, .int (cI (b : Int))), (3, .int (cI ((n : Int) + m))), (4, .int (cI (t : Int))), (5, .int (cI z))] [] J L R T Q := by
    intro s z J hs hz hD hJM hF
    have hVJ := hV.keep hF ha
    have hWJ := hW.keep hF hb
    have hu : (v * w).natAbs = s := by rw [Int.natAbs_mul, hs]
    refine q_aload_n d_Model_times_204 rfl ?_
    refine q_iload d_Model_times_205 rfl ?_
    refine q_iload_n d_Model_times_207 rfl ?_
    refine q_aload_n d_Model_times_208 rfl ?_
    refine q_getR d_Model_times_209 fl_Model_17 hM.1 ⟨rfl, by decide⟩ (mR5 hM) ?_
    refine q_iload_n d_Model_times_212 rfl ?_
    refine j_iald (j := a) (v := (cI (cmpZ v 0))) d_Model_times_213 (mT5 hM) (mN5 hM) (by omega) (by omega) (by omega) hVJ.2.1 ?_
    refine q_aload_n d_Model_times_214 rfl ?_
    refine q_getR d_Model_times_215 fl_Model_17 hM.1 ⟨rfl, by decide⟩ (mR5 hM) ?_
    refine q_iload_n d_Model_times_218 rfl ?_
    refine j_iald (j := b) (v := (cI (cmpZ w 0))) d_Model_times_219 (mT5 hM) (mN5 hM) (by omega) (by omega) (by omega) hWJ.2.1 ?_
    refine j_imul d_Model_times_220 ?_
    refine Run.top (v := .int (cI (cmpZ (v * w) 0))) (by congr 2; rcases cmpZ_cases v with ⟨g1, g2⟩ | ⟨g1, g2⟩ | ⟨g1, g2⟩ <;> rcases cmpZ_cases w with ⟨k1, k2⟩ | ⟨k1, k2⟩ | ⟨k1, k2⟩ <;> rw [g2, k2] <;> unfold cmpZ <;> first | (rw [if_neg (by have := Int.mul_pos_of_neg_of_neg g1 k1; omega), if_neg (by have := Int.mul_pos_of_neg_of_neg g1 k1; omega)]; rfl) | (rw [if_neg (by have := Int.mul_pos g1 k1; omega), if_neg (by have := Int.mul_pos g1 k1; omega)]; rfl) | (rw [if_pos (Int.mul_neg_of_neg_of_pos g1 k1)]; rfl) | (rw [if_pos (Int.mul_neg_of_pos_of_neg g1 k1)]; rfl) | (subst g1; simp) | (subst k1; simp)) ?_
    refine Run.top2 (v := .int (cI ((n + m : Nat) : Int))) (by congr 2) ?_
    refine q_callV (ci := 17) (rc := 0) (rs := 0) (rest := []) d_Model_times_221 ml_Model_434 ok_Model_close rfl hM.1 (by decide) (c_Model_closeV (d - 1) (u := v * w) (P := c = true) hM (by rw [hu]; exact hD) (by rw [Int.natAbs_mul]; exact hxy) (by omega) (by rw [hJM]; exact h8) (fun _ => rfl)) rfl rfl (by omega) (Nat.le_of_ble_eq_true rfl) (kv_I (fun q K hK => ?_)) kt_I
    obtain ⟨rfl, k', hk', g1, g2, g3, g4⟩ := hK
    refine q_ireturn d_Model_times_224 rfl rfl ?_
    refine hQ _ _ _ _ _ ?_
    exact ⟨_, rfl, ⟨rfl, k', hk', g1, g2, g3, hF.tr g4 (Nat.le_refl _)⟩, rfl, rfl, rfl⟩
  have out : ∀ (f i s : Nat) (z : Int) (J : M32), n - i < f → z = i → i ≤ n → s = l10 v.natAbs i * w.natAbs → (∀ j, j < n + m → J (M + 3) (t + j + 2) = cI (d10 s j)) → J M = I M → FrP M t I J → Run m_Model_times d 0 0 55 [(0, .ref M), (1, .int (cI (a : Int))), (2, .int (cI (b : Int))), (3, .int (cI ((n : Int) + m))), (4, .int (cI (t : Int))), (5, .int (cI z))] [] J L R T Q := by
    intro f
    induction f with
    | zero => intro i s z J h; omega
    | succ f ihf =>
    intro i s z J hf hz hi hs hD hJM hF
    subst hz
    have hVJ := hV.keep hF ha
    have hWJ := hW.keep hF hb
    refine q_iload d_Model_times_55 rfl ?_
    refine q_aload_n d_Model_times_57 rfl ?_
    refine q_getR d_Model_times_58 fl_Model_17 hM.1 ⟨rfl, by decide⟩ (mR5 hM) ?_
    refine q_iload_n d_Model_times_61 rfl ?_
    refine j_iconst d_Model_times_62 ?_
    refine j_iadd d_Model_times_63 ?_
    refine j_iald (j := (a + 1)) (v := (cI (n : Int))) d_Model_times_64 (mT5 hM) (mN5 hM) (by omega) (by omega) (by omega) hVJ.2.2.1 ?_
    refine j_icmp_ge (tgt := 204) d_Model_times_65 (by decide) (by omega) (by omega) (fun h3 => ?_) (fun h3 => ?_)
    · skip
      obtain rfl : n = i := by omega
      exact fin s _ J (by rw [hs, l10_all hV.1.1]) rfl hD hJM hF
    have dx := d10_lt v.natAbs i
    have hsl : s < 10 ^ (i + m) := by rw [hs, Nat.pow_add]; exact Nat.mul_lt_mul'' (l10_lt _ _) hW.1.1
    refine j_iconst d_Model_times_68 ?_
    refine q_istore (lv' := [(6, .int (cI 0)), (0, .ref M), (1, .int (cI (a : Int))), (2, .int (cI (b : Int))), (3, .int (cI ((n : Int) + m))), (4, .int (cI (t : Int))), (5, .int (cI (i : Int)))]) d_Model_times_69 (by decide) rfl ?_
    refine j_iconst d_Model_times_71 ?_
    refine q_istore (lv' := [(7, .int (cI 0)), (6, .int (cI 0)), (0, .ref M), (1, .int (cI (a : Int))), (2, .int (cI (b : Int))), (3, .int (cI ((n : Int) + m))), (4, .int (cI (t : Int))), (5, .int (cI (i : Int)))]) d_Model_times_72 (by decide) rfl ?_
    have inn : ∀ (f2 j c2 s2 : Nat) (y e : Int) (K : M32), m - j < f2 → y = j → e = c2 → j ≤ m → c2 ≤ 9 → s2 < 10 ^ (i + m) → s2 + c2 * 10 ^ (i + j) = s + d10 v.natAbs i * (l10 w.natAbs j) * 10 ^ i → (∀ k, k < n + m → K (M + 3) (t + k + 2) = cI (d10 s2 k)) → K M = I M → FrP M t I K → Run m_Model_times d 0 0 74 [(0, .ref M), (1, .int (cI (a : Int))), (2, .int (cI (b : Int))), (3, .int (cI ((n : Int) + m))), (4, .int (cI (t : Int))), (5, .int (cI (i : Int))), (6, .int (cI e)), (7, .int (cI y))] [] K L R T Q := by
      intro f2
      induction f2 with
      | zero => intro j c2 s2 y e K h; omega
      | succ f2 ih =>
      intro j c2 s2 y e K hf2 hy he hj hc hs2 hsum hDK hKM hFK
      subst hy he
      have hVK := hV.keep hFK ha
      have hWK := hW.keep hFK hb
      refine q_iload d_Model_times_74 rfl ?_
      refine q_aload_n d_Model_times_76 rfl ?_
      refine q_getR d_Model_times_77 fl_Model_17 hM.1 ⟨rfl, by decide⟩ (mR5 hM) ?_
      refine q_iload_n d_Model_times_80 rfl ?_
      refine j_iconst d_Model_times_81 ?_
      refine j_iadd d_Model_times_82 ?_
      refine j_iald (j := (b + 1)) (v := (cI (m : Int))) d_Model_times_83 (mT5 hM) (mN5 hM) (by omega) (by omega) (by omega) hWK.2.2.1 ?_
      refine j_icmp_ge (tgt := 164) d_Model_times_84 (by decide) (by omega) (by omega) (fun h4 => ?_) (fun h4 => ?_)
      · skip
        obtain rfl : m = j := by omega
        rw [l10_all hW.1.1] at hsum
        have hnx : s2 + c2 * 10 ^ (i + m) = l10 v.natAbs (i + 1) * w.natAbs := by
          rw [hsum, hs, l10_s, Nat.add_mul]
          congr 1; ac_rfl
        refine q_aload_n d_Model_times_164 rfl ?_
        refine q_getR d_Model_times_165 fl_Model_17 hM.1 ⟨rfl, by decide⟩ (mR5 hM) ?_
        refine q_iload_n d_Model_times_168 rfl ?_
        refine j_iconst d_Model_times_169 ?_
        refine j_iadd d_Model_times_170 ?_
        refine j_iald (j := (b + 1)) (v := (cI (m : Int))) d_Model_times_171 (mT5 hM) (mN5 hM) (by omega) (by omega) (by omega) hWK.2.2.1 ?_
        refine j_if_le (tgt := 198) d_Model_times_172 (by decide) (by omega) (fun h5 => ?_) (fun h5 => ?_)
        · skip
          have hm0 : m = 0 := by omega
          have hw0 : w.natAbs = 0 := by have := hW.1.1; rw [hm0] at this; simpa using this
          have hs0 : s2 = l10 v.natAbs (i + 1) * w.natAbs := by
            rw [hw0, Nat.mul_zero] at hnx ⊢
            omega
          refine j_iinc (lv' := [(5, .int (cI ((i : Int) + 1))), (0, .ref M), (1, .int (cI (a : Int))), (2, .int (cI (b : Int))), (3, .int (cI ((n : Int) + m))), (4, .int (cI (t : Int))), (6, .int (cI (c2 : Int))), (7, .int (cI (m : Int)))]) d_Model_times_198 rfl (by decide) rfl ?_
          refine q_goto (tgt := 55) d_Model_times_201 (by decide) ?_
          refine Run.lv (lv' := [(0, .ref M), (1, .int (cI (a : Int))), (2, .int (cI (b : Int))), (3, .int (cI ((n : Int) + m))), (4, .int (cI (t : Int))), (5, .int (cI ((i : Int) + 1)))]) (by intro q hq; simp only [List.mem_cons, List.not_mem_nil, or_false] at hq ⊢; rcases hq with rfl | rfl | rfl | rfl | rfl | rfl <;> simp) ?_
          exact ihf (i + 1) s2 _ K (by omega) (by omega) (by omega) hs0 hDK hKM hFK
        · skip
          refine q_aload_n d_Model_times_175 rfl ?_
          refine q_getR d_Model_times_176 fl_Model_17 hM.1 ⟨rfl, by decide⟩ (mR5 hM) ?_
          refine q_iload d_Model_times_179 rfl ?_
          refine j_iconst d_Model_times_181 ?_
          refine j_iadd d_Model_times_182 ?_
          refine q_iload d_Model_times_183 rfl ?_
          refine j_iadd d_Model_times_185 ?_
          refine q_aload_n d_Model_times_186 rfl ?_
          refine q_getR d_Model_times_187 fl_Model_17 hM.1 ⟨rfl, by decide⟩ (mR5 hM) ?_
          refine q_iload_n d_Model_times_190 rfl ?_
          refine j_iconst d_Model_times_191 ?_
          refine j_iadd d_Model_times_192 ?_
          refine j_iald (j := (b + 1)) (v := (cI (m : Int))) d_Model_times_193 (mT5 hM) (mN5 hM) (by omega) (by omega) (by omega) hWK.2.2.1 ?_
          refine j_iadd d_Model_times_194 ?_
          refine q_iload d_Model_times_195 rfl ?_
          refine j_iast (j := (t + i + m + 2)) d_Model_times_197 (mT5 hM) (mN5 hM) (by omega) (by omega) (by omega) ?_
          refine j_iinc (lv' := [(5, .int (cI ((i : Int) + 1))), (0, .ref M), (1, .int (cI (a : Int))), (2, .int (cI (b : Int))), (3, .int (cI ((n : Int) + m))), (4, .int (cI (t : Int))), (6, .int (cI (c2 : Int))), (7, .int (cI (m : Int)))]) d_Model_times_198 rfl (by decide) rfl ?_
          refine q_goto (tgt := 55) d_Model_times_201 (by decide) ?_
          refine Run.lv (lv' := [(0, .ref M), (1, .int (cI (a : Int))), (2, .int (cI (b : Int))), (3, .int (cI ((n : Int) + m))), (4, .int (cI (t : Int))), (5, .int (cI ((i : Int) + 1)))]) (by intro q hq; simp only [List.mem_cons, List.not_mem_nil, or_false] at hq ⊢; rcases hq with rfl | rfl | rfl | rfl | rfl | rfl <;> simp) ?_
          refine ihf (i + 1) (s2 + c2 * 10 ^ (i + m)) _ _ (by omega) (by omega) (by omega) hnx (fun k hk => ?_) (by rw [up2_row _ _ (by omega)]; exact hKM) (hFK.p (by omega) _)
          rw [show t + i + m + 2 = t + (i + m) + 2 by omega]
          by_cases e : k = i + m
          · subst e; rw [up2_s, d10_add_hi hs2 (by omega)]
          · rw [up2_k _ _ _ (by omega), hDK k hk]
            congr 2
            rcases Nat.lt_or_ge k (i + m) with q | q
            · rw [d10_add_lo hs2 q]
            · rw [d10_big hs2 (by omega), d10_big (add_lt10 hs2 (show c2 < 10 by omega)) (by omega)]
      obtain ⟨u, hu⟩ : ∃ u, u = d10 s2 (i + j) + d10 v.natAbs i * d10 w.natAbs j + c2 := ⟨_, rfl⟩
      obtain ⟨hu99, s3, k1, k2, k3, k4, k5⟩ := mul_step10 (P := s) hsum hc u hu
      have huZ : (u : Int) = (d10 s2 (i + j) : Int) + (d10 v.natAbs i : Int) * (d10 w.natAbs j : Int) + (c2 : Int) := by rw [hu]; simp
      refine q_aload_n d_Model_times_87 rfl ?_
      refine q_getR d_Model_times_88 fl_Model_17 hM.1 ⟨rfl, by decide⟩ (mR5 hM) ?_
      refine q_iload d_Model_times_91 rfl ?_
      refine j_iconst d_Model_times_93 ?_
      refine j_iadd d_Model_times_94 ?_
      refine q_iload d_Model_times_95 rfl ?_
      refine j_iadd d_Model_times_97 ?_
      refine q_iload d_Model_times_98 rfl ?_
      refine j_iadd d_Model_times_100 ?_
      refine j_iald (j := (t + i + j + 2)) (v := (cI (d10 s2 (i + j) : Int))) d_Model_times_101 (mT5 hM) (mN5 hM) (by omega) (by omega) (by omega) (by rw [show t + i + j + 2 = t + (i + j) + 2 by omega]; exact hDK _ (by omega)) ?_
      refine q_aload_n d_Model_times_102 rfl ?_
      refine q_getR d_Model_times_103 fl_Model_17 hM.1 ⟨rfl, by decide⟩ (mR5 hM) ?_
      refine q_iload_n d_Model_times_106 rfl ?_
      refine j_iconst d_Model_times_107 ?_
      refine j_iadd d_Model_times_108 ?_
      refine q_iload d_Model_times_109 rfl ?_
      refine j_iadd d_Model_times_111 ?_
      refine j_iald (j := (a + i + 2)) (v := (cI (d10 v.natAbs i : Int))) d_Model_times_112 (mT5 hM) (mN5 hM) (by omega) (by omega) (by omega) (hVK.2.2.2 i (by omega)) ?_
      refine q_aload_n d_Model_times_113 rfl ?_
      refine q_getR d_Model_times_114 fl_Model_17 hM.1 ⟨rfl, by decide⟩ (mR5 hM) ?_
      refine q_iload_n d_Model_times_117 rfl ?_
      refine j_iconst d_Model_times_118 ?_
      refine j_iadd d_Model_times_119 ?_
      refine q_iload d_Model_times_120 rfl ?_
      refine j_iadd d_Model_times_122 ?_
      refine j_iald (j := (b + j + 2)) (v := (cI (d10 w.natAbs j : Int))) d_Model_times_123 (mT5 hM) (mN5 hM) (by omega) (by omega) (by omega) (hWK.2.2.2 j (by omega)) ?_
      refine j_imul d_Model_times_124 ?_
      refine j_iadd d_Model_times_125 ?_
      refine q_iload d_Model_times_126 rfl ?_
      refine j_iadd d_Model_times_128 ?_
      refine Run.top (v := .int (cI (u : Int))) (by congr 2; exact huZ.symm) ?_
      refine q_istore (lv' := [(8, .int (cI (u : Int))), (0, .ref M), (1, .int (cI (a : Int))), (2, .int (cI (b : Int))), (3, .int (cI ((n : Int) + m))), (4, .int (cI (t : Int))), (5, .int (cI (i : Int))), (6, .int (cI (c2 : Int))), (7, .int (cI (j : Int)))]) d_Model_times_129 (by decide) rfl ?_
      refine q_aload_n d_Model_times_131 rfl ?_
      refine q_getR d_Model_times_132 fl_Model_17 hM.1 ⟨rfl, by decide⟩ (mR5 hM) ?_
      refine q_iload d_Model_times_135 rfl ?_
      refine j_iconst d_Model_times_137 ?_
      refine j_iadd d_Model_times_138 ?_
      refine q_iload d_Model_times_139 rfl ?_
      refine j_iadd d_Model_times_141 ?_
      refine q_iload d_Model_times_142 rfl ?_
      refine j_iadd d_Model_times_144 ?_
      refine q_iload d_Model_times_145 rfl ?_
      refine j_bipush d_Model_times_147 (by decide) ?_
      refine j_irem d_Model_times_149 (by omega) (by omega) ?_
      refine j_iast (j := (t + i + j + 2)) d_Model_times_150 (mT5 hM) (mN5 hM) (by omega) (by omega) (by omega) ?_
      refine q_iload d_Model_times_151 rfl ?_
      refine j_bipush d_Model_times_153 (by decide) ?_
      refine j_idiv d_Model_times_155 (by omega) (by omega) ?_
      refine q_istore (lv' := [(6, .int (cI ((u : Int) / 10))), (8, .int (cI (u : Int))), (0, .ref M), (1, .int (cI (a : Int))), (2, .int (cI (b : Int))), (3, .int (cI ((n : Int) + m))), (4, .int (cI (t : Int))), (5, .int (cI (i : Int))), (7, .int (cI (j : Int)))]) d_Model_times_156 (by decide) rfl ?_
      refine j_iinc (lv' := [(7, .int (cI ((j : Int) + 1))), (6, .int (cI ((u : Int) / 10))), (8, .int (cI (u : Int))), (0, .ref M), (1, .int (cI (a : Int))), (2, .int (cI (b : Int))), (3, .int (cI ((n : Int) + m))), (4, .int (cI (t : Int))), (5, .int (cI (i : Int)))]) d_Model_times_158 rfl (by decide) rfl ?_
      refine q_goto (tgt := 74) d_Model_times_161 (by decide) ?_
      refine Run.lv (lv' := [(0, .ref M), (1, .int (cI (a : Int))), (2, .int (cI (b : Int))), (3, .int (cI ((n : Int) + m))), (4, .int (cI (t : Int))), (5, .int (cI (i : Int))), (6, .int (cI ((u : Int) / 10))), (7, .int (cI ((j : Int) + 1)))]) (by intro q hq; simp only [List.mem_cons, List.not_mem_nil, or_false] at hq ⊢; rcases hq with rfl | rfl | rfl | rfl | rfl | rfl | rfl | rfl <;> simp) ?_
      refine ih (j + 1) (u / 10) s3 _ _ _ (by omega) (by omega) (by omega) (by omega) k4 (k3 _ (by omega) hs2) k5 (fun k hk => ?_) (by rw [up2_row _ _ (by omega)]; exact hKM) (hFK.p (by omega) _)
      rw [show t + i + j + 2 = t + (i + j) + 2 by omega]
      by_cases e : k = i + j
      · subst e; rw [up2_s, k2]; congr 1
      · rw [up2_k _ _ _ (by omega), hDK k hk, k1 k e]
    refine Run.lv (lv' := [(0, .ref M), (1, .int (cI (a : Int))), (2, .int (cI (b : Int))), (3, .int (cI ((n : Int) + m))), (4, .int (cI (t : Int))), (5, .int (cI (i : Int))), (6, .int (cI 0)), (7, .int (cI 0))]) (by intro q hq; simp only [List.mem_cons, List.not_mem_nil, or_false] at hq ⊢; rcases hq with rfl | rfl | rfl | rfl | rfl | rfl | rfl | rfl <;> simp) ?_
    exact inn (m + 1) 0 0 s _ _ J (by omega) rfl rfl (by omega) (by omega) hsl (by simp [l10_0]) hD hJM hF
  have zer : ∀ (f k : Nat) (z : Int) (J : M32), n + m - k < f → z = k → k ≤ n + m → (∀ j, j < k → J (M + 3) (t + j + 2) = cI 0) → J M = I M → FrP M t I J → Run m_Model_times d 0 0 27 [(0, .ref M), (1, .int (cI (a : Int))), (2, .int (cI (b : Int))), (3, .int (cI ((n : Int) + m))), (4, .int (cI (t : Int))), (5, .int (cI z))] [] J L R T Q := by
    intro f
    induction f with
    | zero => intro k z J h; omega
    | succ f ih =>
    intro k z J hf hz hk hD hJM hF
    subst hz
    refine q_iload d_Model_times_27 rfl ?_
    refine q_iload_n d_Model_times_29 rfl ?_
    refine j_icmp_ge (tgt := 52) d_Model_times_30 (by decide) (by omega) (by omega) (fun h3 => ?_) (fun h3 => ?_)
    · skip
      refine j_iconst d_Model_times_52 ?_
      refine q_istore (lv' := [(5, .int (cI 0)), (0, .ref M), (1, .int (cI (a : Int))), (2, .int (cI (b : Int))), (3, .int (cI ((n : Int) + m))), (4, .int (cI (t : Int)))]) d_Model_times_53 (by decide) rfl ?_
      refine Run.lv (lv' := [(0, .ref M), (1, .int (cI (a : Int))), (2, .int (cI (b : Int))), (3, .int (cI ((n : Int) + m))), (4, .int (cI (t : Int))), (5, .int (cI 0))]) (by intro q hq; simp only [List.mem_cons, List.not_mem_nil, or_false] at hq ⊢; rcases hq with rfl | rfl | rfl | rfl | rfl | rfl <;> simp) ?_
      exact out (n + 1) 0 0 _ J (by omega) rfl (by omega) (by simp [l10_0]) (fun j hj => by rw [hD j (by omega), d10_0]; rfl) hJM hF
    refine q_aload_n d_Model_times_33 rfl ?_
    refine q_getR d_Model_times_34 fl_Model_17 hM.1 ⟨rfl, by decide⟩ (mR5 hM) ?_
    refine q_iload d_Model_times_37 rfl ?_
    refine j_iconst d_Model_times_39 ?_
    refine j_iadd d_Model_times_40 ?_
    refine q_iload d_Model_times_41 rfl ?_
    refine j_iadd d_Model_times_43 ?_
    refine j_iconst d_Model_times_44 ?_
    refine j_iast (j := (t + k + 2)) d_Model_times_45 (mT5 hM) (mN5 hM) (by omega) (by omega) (by omega) ?_
    refine j_iinc (lv' := [(5, .int (cI ((k : Int) + 1))), (0, .ref M), (1, .int (cI (a : Int))), (2, .int (cI (b : Int))), (3, .int (cI ((n : Int) + m))), (4, .int (cI (t : Int)))]) d_Model_times_46 rfl (by decide) rfl ?_
    refine q_goto (tgt := 27) d_Model_times_49 (by decide) ?_
    refine Run.lv (lv' := [(0, .ref M), (1, .int (cI (a : Int))), (2, .int (cI (b : Int))), (3, .int (cI ((n : Int) + m))), (4, .int (cI (t : Int))), (5, .int (cI ((k : Int) + 1)))]) (by intro q hq; simp only [List.mem_cons, List.not_mem_nil, or_false] at hq ⊢; rcases hq with rfl | rfl | rfl | rfl | rfl | rfl <;> simp) ?_
    refine ih (k + 1) _ _ (by omega) (by omega) (by omega) (fun j hj => ?_) (by rw [up2_row _ _ (by omega)]; exact hJM) (hF.p (by omega) _)
    by_cases e : j = k
    · subst e; rw [up2_s]
    · rw [up2_k _ _ _ (by omega)]; exact hD j (by omega)
  refine Run.lv (lv' := [(0, .ref M), (1, .int (cI (a : Int))), (2, .int (cI (b : Int))), (3, .int (cI ((n : Int) + m))), (4, .int (cI (t : Int))), (5, .int (cI 0))]) (by intro q hq; simp only [List.mem_cons, List.not_mem_nil, or_false] at hq ⊢; rcases hq with rfl | rfl | rfl | rfl | rfl | rfl <;> simp) ?_
  exact zer (n + m + 1) 0 0 I (by omega) rfl (by omega) (fun j hj => by omega) rfl FrP.rf

