/-! ===== 44 TOKENS: small ones ===== -/
theorem d_Tokens_byteAt_0 : decode m_Tokens_byteAt.2.1 0 = .ok (.aload_n 0, 1) := by decide +kernel
theorem d_Tokens_byteAt_1 : decode m_Tokens_byteAt.2.1 1 = .ok (.getfield 15, 3) := by decide +kernel
theorem d_Tokens_byteAt_4 : decode m_Tokens_byteAt.2.1 4 = .ok (.iload_n 1, 1) := by decide +kernel
theorem d_Tokens_byteAt_5 : decode m_Tokens_byteAt.2.1 5 = .ok (.baload, 1) := by decide +kernel
theorem d_Tokens_byteAt_6 : decode m_Tokens_byteAt.2.1 6 = .ok (.sipush 255, 3) := by decide +kernel
theorem d_Tokens_byteAt_9 : decode m_Tokens_byteAt.2.1 9 = .ok (.iand, 1) := by decide +kernel
theorem d_Tokens_byteAt_10 : decode m_Tokens_byteAt.2.1 10 = .ok (.ireturn, 1) := by decide +kernel
theorem d_Tokens_isAlone_0 : decode m_Tokens_isAlone.2.1 0 = .ok (.iload_n 1, 1) := by decide +kernel
theorem d_Tokens_isAlone_1 : decode m_Tokens_isAlone.2.1 1 = .ok (.bipush 40, 2) := by decide +kernel
theorem d_Tokens_isAlone_3 : decode m_Tokens_isAlone.2.1 3 = .ok (.if_icmp .eq 21, 3) := by decide +kernel
theorem d_Tokens_isAlone_6 : decode m_Tokens_isAlone.2.1 6 = .ok (.iload_n 1, 1) := by decide +kernel
theorem d_Tokens_isAlone_7 : decode m_Tokens_isAlone.2.1 7 = .ok (.bipush 41, 2) := by decide +kernel
theorem d_Tokens_isAlone_9 : decode m_Tokens_isAlone.2.1 9 = .ok (.if_icmp .eq 15, 3) := by decide +kernel
theorem d_Tokens_isAlone_12 : decode m_Tokens_isAlone.2.1 12 = .ok (.iload_n 1, 1) := by decide +kernel
theorem d_Tokens_isAlone_13 : decode m_Tokens_isAlone.2.1 13 = .ok (.bipush 91, 2) := by decide +kernel
theorem d_Tokens_isAlone_15 : decode m_Tokens_isAlone.2.1 15 = .ok (.if_icmp .eq 9, 3) := by decide +kernel
theorem d_Tokens_isAlone_18 : decode m_Tokens_isAlone.2.1 18 = .ok (.iload_n 1, 1) := by decide +kernel
theorem d_Tokens_isAlone_19 : decode m_Tokens_isAlone.2.1 19 = .ok (.bipush 93, 2) := by decide +kernel
theorem d_Tokens_isAlone_21 : decode m_Tokens_isAlone.2.1 21 = .ok (.if_icmp .ne 7, 3) := by decide +kernel
theorem d_Tokens_isAlone_24 : decode m_Tokens_isAlone.2.1 24 = .ok (.iconst 1, 1) := by decide +kernel
theorem d_Tokens_isAlone_25 : decode m_Tokens_isAlone.2.1 25 = .ok (.goto 4, 3) := by decide +kernel
theorem d_Tokens_isAlone_28 : decode m_Tokens_isAlone.2.1 28 = .ok (.iconst 0, 1) := by decide +kernel
theorem d_Tokens_isAlone_29 : decode m_Tokens_isAlone.2.1 29 = .ok (.ireturn, 1) := by decide +kernel
theorem d_Tokens_fail_0 : decode m_Tokens_fail.2.1 0 = .ok (.aload_n 0, 1) := by decide +kernel
theorem d_Tokens_fail_1 : decode m_Tokens_fail.2.1 1 = .ok (.iload_n 1, 1) := by decide +kernel
theorem d_Tokens_fail_2 : decode m_Tokens_fail.2.1 2 = .ok (.aload_n 0, 1) := by decide +kernel
theorem d_Tokens_fail_3 : decode m_Tokens_fail.2.1 3 = .ok (.getfield 49, 3) := by decide +kernel
theorem d_Tokens_fail_6 : decode m_Tokens_fail.2.1 6 = .ok (.invokevirtual 52, 3) := by decide +kernel
theorem d_Tokens_fail_9 : decode m_Tokens_fail.2.1 9 = .ok (.return_, 1) := by decide +kernel
theorem d_Tokens_fail2_0 : decode m_Tokens_fail2.2.1 0 = .ok (.aload_n 0, 1) := by decide +kernel
theorem d_Tokens_fail2_1 : decode m_Tokens_fail2.2.1 1 = .ok (.getfield 29, 3) := by decide +kernel
theorem d_Tokens_fail2_4 : decode m_Tokens_fail2.2.1 4 = .ok (.iload_n 1, 1) := by decide +kernel
theorem d_Tokens_fail2_5 : decode m_Tokens_fail2.2.1 5 = .ok (.putfield 43, 3) := by decide +kernel
theorem d_Tokens_fail2_8 : decode m_Tokens_fail2.2.1 8 = .ok (.aload_n 0, 1) := by decide +kernel
theorem d_Tokens_fail2_9 : decode m_Tokens_fail2.2.1 9 = .ok (.getfield 29, 3) := by decide +kernel
theorem d_Tokens_fail2_12 : decode m_Tokens_fail2.2.1 12 = .ok (.iload_n 2, 1) := by decide +kernel
theorem d_Tokens_fail2_13 : decode m_Tokens_fail2.2.1 13 = .ok (.putfield 46, 3) := by decide +kernel
theorem d_Tokens_fail2_16 : decode m_Tokens_fail2.2.1 16 = .ok (.aload_n 0, 1) := by decide +kernel
theorem d_Tokens_fail2_17 : decode m_Tokens_fail2.2.1 17 = .ok (.getfield 29, 3) := by decide +kernel
theorem d_Tokens_fail2_20 : decode m_Tokens_fail2.2.1 20 = .ok (.athrow, 1) := by decide +kernel
theorem d_Model_isBracket_0 : decode m_Model_isBracket.2.1 0 = .ok (.iload_n 0, 1) := by decide +kernel
theorem d_Model_isBracket_1 : decode m_Model_isBracket.2.1 1 = .ok (.bipush 40, 2) := by decide +kernel
theorem d_Model_isBracket_3 : decode m_Model_isBracket.2.1 3 = .ok (.if_icmp .eq 21, 3) := by decide +kernel
theorem d_Model_isBracket_6 : decode m_Model_isBracket.2.1 6 = .ok (.iload_n 0, 1) := by decide +kernel
theorem d_Model_isBracket_7 : decode m_Model_isBracket.2.1 7 = .ok (.bipush 41, 2) := by decide +kernel
theorem d_Model_isBracket_9 : decode m_Model_isBracket.2.1 9 = .ok (.if_icmp .eq 15, 3) := by decide +kernel
theorem d_Model_isBracket_12 : decode m_Model_isBracket.2.1 12 = .ok (.iload_n 0, 1) := by decide +kernel
theorem d_Model_isBracket_13 : decode m_Model_isBracket.2.1 13 = .ok (.bipush 91, 2) := by decide +kernel
theorem d_Model_isBracket_15 : decode m_Model_isBracket.2.1 15 = .ok (.if_icmp .eq 9, 3) := by decide +kernel
theorem d_Model_isBracket_18 : decode m_Model_isBracket.2.1 18 = .ok (.iload_n 0, 1) := by decide +kernel
theorem d_Model_isBracket_19 : decode m_Model_isBracket.2.1 19 = .ok (.bipush 93, 2) := by decide +kernel
theorem d_Model_isBracket_21 : decode m_Model_isBracket.2.1 21 = .ok (.if_icmp .ne 7, 3) := by decide +kernel
theorem d_Model_isBracket_24 : decode m_Model_isBracket.2.1 24 = .ok (.iconst 1, 1) := by decide +kernel
theorem d_Model_isBracket_25 : decode m_Model_isBracket.2.1 25 = .ok (.goto 4, 3) := by decide +kernel
theorem d_Model_isBracket_28 : decode m_Model_isBracket.2.1 28 = .ok (.iconst 0, 1) := by decide +kernel
theorem d_Model_isBracket_29 : decode m_Model_isBracket.2.1 29 = .ok (.ireturn, 1) := by decide +kernel
theorem d_Model_isKeyword_0 : decode m_Model_isKeyword.2.1 0 = .ok (.lload_n 0, 1) := by decide +kernel
theorem d_Model_isKeyword_1 : decode m_Model_isKeyword.2.1 1 = .ok (.ldc2_w 464, 3) := by decide +kernel
theorem d_Model_isKeyword_4 : decode m_Model_isKeyword.2.1 4 = .ok (.lcmp, 1) := by decide +kernel
theorem d_Model_isKeyword_5 : decode m_Model_isKeyword.2.1 5 = .ok (.ifCond .eq 91, 3) := by decide +kernel
theorem d_Model_isKeyword_8 : decode m_Model_isKeyword.2.1 8 = .ok (.lload_n 0, 1) := by decide +kernel
theorem d_Model_isKeyword_9 : decode m_Model_isKeyword.2.1 9 = .ok (.ldc2_w 466, 3) := by decide +kernel
theorem d_Model_isKeyword_12 : decode m_Model_isKeyword.2.1 12 = .ok (.lcmp, 1) := by decide +kernel
theorem d_Model_isKeyword_13 : decode m_Model_isKeyword.2.1 13 = .ok (.ifCond .eq 83, 3) := by decide +kernel
theorem d_Model_isKeyword_16 : decode m_Model_isKeyword.2.1 16 = .ok (.lload_n 0, 1) := by decide +kernel
theorem d_Model_isKeyword_17 : decode m_Model_isKeyword.2.1 17 = .ok (.ldc2_w 468, 3) := by decide +kernel
theorem d_Model_isKeyword_20 : decode m_Model_isKeyword.2.1 20 = .ok (.lcmp, 1) := by decide +kernel
theorem d_Model_isKeyword_21 : decode m_Model_isKeyword.2.1 21 = .ok (.ifCond .eq 75, 3) := by decide +kernel
theorem d_Model_isKeyword_24 : decode m_Model_isKeyword.2.1 24 = .ok (.lload_n 0, 1) := by decide +kernel
theorem d_Model_isKeyword_25 : decode m_Model_isKeyword.2.1 25 = .ok (.ldc2_w 470, 3) := by decide +kernel
theorem d_Model_isKeyword_28 : decode m_Model_isKeyword.2.1 28 = .ok (.lcmp, 1) := by decide +kernel
theorem d_Model_isKeyword_29 : decode m_Model_isKeyword.2.1 29 = .ok (.ifCond .eq 67, 3) := by decide +kernel
theorem d_Model_isKeyword_32 : decode m_Model_isKeyword.2.1 32 = .ok (.lload_n 0, 1) := by decide +kernel
theorem d_Model_isKeyword_33 : decode m_Model_isKeyword.2.1 33 = .ok (.ldc2_w 472, 3) := by decide +kernel
theorem d_Model_isKeyword_36 : decode m_Model_isKeyword.2.1 36 = .ok (.lcmp, 1) := by decide +kernel
theorem d_Model_isKeyword_37 : decode m_Model_isKeyword.2.1 37 = .ok (.ifCond .eq 59, 3) := by decide +kernel
theorem d_Model_isKeyword_40 : decode m_Model_isKeyword.2.1 40 = .ok (.lload_n 0, 1) := by decide +kernel
theorem d_Model_isKeyword_41 : decode m_Model_isKeyword.2.1 41 = .ok (.ldc2_w 474, 3) := by decide +kernel
theorem d_Model_isKeyword_44 : decode m_Model_isKeyword.2.1 44 = .ok (.lcmp, 1) := by decide +kernel
theorem d_Model_isKeyword_45 : decode m_Model_isKeyword.2.1 45 = .ok (.ifCond .eq 51, 3) := by decide +kernel
theorem d_Model_isKeyword_48 : decode m_Model_isKeyword.2.1 48 = .ok (.lload_n 0, 1) := by decide +kernel
theorem d_Model_isKeyword_49 : decode m_Model_isKeyword.2.1 49 = .ok (.ldc2_w 476, 3) := by decide +kernel
theorem d_Model_isKeyword_52 : decode m_Model_isKeyword.2.1 52 = .ok (.lcmp, 1) := by decide +kernel
theorem d_Model_isKeyword_53 : decode m_Model_isKeyword.2.1 53 = .ok (.ifCond .eq 43, 3) := by decide +kernel
theorem d_Model_isKeyword_56 : decode m_Model_isKeyword.2.1 56 = .ok (.lload_n 0, 1) := by decide +kernel
theorem d_Model_isKeyword_57 : decode m_Model_isKeyword.2.1 57 = .ok (.ldc2_w 478, 3) := by decide +kernel
theorem d_Model_isKeyword_60 : decode m_Model_isKeyword.2.1 60 = .ok (.lcmp, 1) := by decide +kernel
theorem d_Model_isKeyword_61 : decode m_Model_isKeyword.2.1 61 = .ok (.ifCond .eq 35, 3) := by decide +kernel
theorem d_Model_isKeyword_64 : decode m_Model_isKeyword.2.1 64 = .ok (.lload_n 0, 1) := by decide +kernel
theorem d_Model_isKeyword_65 : decode m_Model_isKeyword.2.1 65 = .ok (.ldc2_w 480, 3) := by decide +kernel
theorem d_Model_isKeyword_68 : decode m_Model_isKeyword.2.1 68 = .ok (.lcmp, 1) := by decide +kernel
theorem d_Model_isKeyword_69 : decode m_Model_isKeyword.2.1 69 = .ok (.ifCond .eq 27, 3) := by decide +kernel
theorem d_Model_isKeyword_72 : decode m_Model_isKeyword.2.1 72 = .ok (.lload_n 0, 1) := by decide +kernel
theorem d_Model_isKeyword_73 : decode m_Model_isKeyword.2.1 73 = .ok (.ldc2_w 482, 3) := by decide +kernel
theorem d_Model_isKeyword_76 : decode m_Model_isKeyword.2.1 76 = .ok (.lcmp, 1) := by decide +kernel
theorem d_Model_isKeyword_77 : decode m_Model_isKeyword.2.1 77 = .ok (.ifCond .eq 19, 3) := by decide +kernel
theorem d_Model_isKeyword_80 : decode m_Model_isKeyword.2.1 80 = .ok (.lload_n 0, 1) := by decide +kernel
theorem d_Model_isKeyword_81 : decode m_Model_isKeyword.2.1 81 = .ok (.ldc2_w 484, 3) := by decide +kernel
theorem d_Model_isKeyword_84 : decode m_Model_isKeyword.2.1 84 = .ok (.lcmp, 1) := by decide +kernel
theorem d_Model_isKeyword_85 : decode m_Model_isKeyword.2.1 85 = .ok (.ifCond .eq 11, 3) := by decide +kernel
theorem d_Model_isKeyword_88 : decode m_Model_isKeyword.2.1 88 = .ok (.lload_n 0, 1) := by decide +kernel
theorem d_Model_isKeyword_89 : decode m_Model_isKeyword.2.1 89 = .ok (.ldc2_w 486, 3) := by decide +kernel
theorem d_Model_isKeyword_92 : decode m_Model_isKeyword.2.1 92 = .ok (.lcmp, 1) := by decide +kernel
theorem d_Model_isKeyword_93 : decode m_Model_isKeyword.2.1 93 = .ok (.ifCond .ne 7, 3) := by decide +kernel
theorem d_Model_isKeyword_96 : decode m_Model_isKeyword.2.1 96 = .ok (.iconst 1, 1) := by decide +kernel
theorem d_Model_isKeyword_97 : decode m_Model_isKeyword.2.1 97 = .ok (.goto 4, 3) := by decide +kernel
theorem d_Model_isKeyword_100 : decode m_Model_isKeyword.2.1 100 = .ok (.iconst 0, 1) := by decide +kernel
theorem d_Model_isKeyword_101 : decode m_Model_isKeyword.2.1 101 = .ok (.istore_n 2, 1) := by decide +kernel
theorem d_Model_isKeyword_102 : decode m_Model_isKeyword.2.1 102 = .ok (.lload_n 0, 1) := by decide +kernel
theorem d_Model_isKeyword_103 : decode m_Model_isKeyword.2.1 103 = .ok (.ldc2_w 488, 3) := by decide +kernel
theorem d_Model_isKeyword_106 : decode m_Model_isKeyword.2.1 106 = .ok (.lcmp, 1) := by decide +kernel
theorem d_Model_isKeyword_107 : decode m_Model_isKeyword.2.1 107 = .ok (.ifCond .eq 83, 3) := by decide +kernel
theorem d_Model_isKeyword_110 : decode m_Model_isKeyword.2.1 110 = .ok (.lload_n 0, 1) := by decide +kernel
theorem d_Model_isKeyword_111 : decode m_Model_isKeyword.2.1 111 = .ok (.ldc2_w 490, 3) := by decide +kernel
theorem d_Model_isKeyword_114 : decode m_Model_isKeyword.2.1 114 = .ok (.lcmp, 1) := by decide +kernel
theorem d_Model_isKeyword_115 : decode m_Model_isKeyword.2.1 115 = .ok (.ifCond .eq 75, 3) := by decide +kernel
theorem d_Model_isKeyword_118 : decode m_Model_isKeyword.2.1 118 = .ok (.lload_n 0, 1) := by decide +kernel
theorem d_Model_isKeyword_119 : decode m_Model_isKeyword.2.1 119 = .ok (.ldc2_w 492, 3) := by decide +kernel
theorem d_Model_isKeyword_122 : decode m_Model_isKeyword.2.1 122 = .ok (.lcmp, 1) := by decide +kernel
theorem d_Model_isKeyword_123 : decode m_Model_isKeyword.2.1 123 = .ok (.ifCond .eq 67, 3) := by decide +kernel
theorem d_Model_isKeyword_126 : decode m_Model_isKeyword.2.1 126 = .ok (.lload_n 0, 1) := by decide +kernel
theorem d_Model_isKeyword_127 : decode m_Model_isKeyword.2.1 127 = .ok (.ldc2_w 494, 3) := by decide +kernel
theorem d_Model_isKeyword_130 : decode m_Model_isKeyword.2.1 130 = .ok (.lcmp, 1) := by decide +kernel
theorem d_Model_isKeyword_131 : decode m_Model_isKeyword.2.1 131 = .ok (.ifCond .eq 59, 3) := by decide +kernel
theorem d_Model_isKeyword_134 : decode m_Model_isKeyword.2.1 134 = .ok (.lload_n 0, 1) := by decide +kernel
theorem d_Model_isKeyword_135 : decode m_Model_isKeyword.2.1 135 = .ok (.ldc2_w 496, 3) := by decide +kernel
theorem d_Model_isKeyword_138 : decode m_Model_isKeyword.2.1 138 = .ok (.lcmp, 1) := by decide +kernel
theorem d_Model_isKeyword_139 : decode m_Model_isKeyword.2.1 139 = .ok (.ifCond .eq 51, 3) := by decide +kernel
theorem d_Model_isKeyword_142 : decode m_Model_isKeyword.2.1 142 = .ok (.lload_n 0, 1) := by decide +kernel
theorem d_Model_isKeyword_143 : decode m_Model_isKeyword.2.1 143 = .ok (.ldc2_w 498, 3) := by decide +kernel
theorem d_Model_isKeyword_146 : decode m_Model_isKeyword.2.1 146 = .ok (.lcmp, 1) := by decide +kernel
theorem d_Model_isKeyword_147 : decode m_Model_isKeyword.2.1 147 = .ok (.ifCond .eq 43, 3) := by decide +kernel
theorem d_Model_isKeyword_150 : decode m_Model_isKeyword.2.1 150 = .ok (.lload_n 0, 1) := by decide +kernel
theorem d_Model_isKeyword_151 : decode m_Model_isKeyword.2.1 151 = .ok (.ldc2_w 500, 3) := by decide +kernel
theorem d_Model_isKeyword_154 : decode m_Model_isKeyword.2.1 154 = .ok (.lcmp, 1) := by decide +kernel
theorem d_Model_isKeyword_155 : decode m_Model_isKeyword.2.1 155 = .ok (.ifCond .eq 35, 3) := by decide +kernel
theorem d_Model_isKeyword_158 : decode m_Model_isKeyword.2.1 158 = .ok (.lload_n 0, 1) := by decide +kernel
theorem d_Model_isKeyword_159 : decode m_Model_isKeyword.2.1 159 = .ok (.ldc2_w 502, 3) := by decide +kernel
theorem d_Model_isKeyword_162 : decode m_Model_isKeyword.2.1 162 = .ok (.lcmp, 1) := by decide +kernel
theorem d_Model_isKeyword_163 : decode m_Model_isKeyword.2.1 163 = .ok (.ifCond .eq 27, 3) := by decide +kernel
theorem d_Model_isKeyword_166 : decode m_Model_isKeyword.2.1 166 = .ok (.lload_n 0, 1) := by decide +kernel
theorem d_Model_isKeyword_167 : decode m_Model_isKeyword.2.1 167 = .ok (.ldc2_w 504, 3) := by decide +kernel
theorem d_Model_isKeyword_170 : decode m_Model_isKeyword.2.1 170 = .ok (.lcmp, 1) := by decide +kernel
theorem d_Model_isKeyword_171 : decode m_Model_isKeyword.2.1 171 = .ok (.ifCond .eq 19, 3) := by decide +kernel
theorem d_Model_isKeyword_174 : decode m_Model_isKeyword.2.1 174 = .ok (.lload_n 0, 1) := by decide +kernel
theorem d_Model_isKeyword_175 : decode m_Model_isKeyword.2.1 175 = .ok (.ldc2_w 506, 3) := by decide +kernel
theorem d_Model_isKeyword_178 : decode m_Model_isKeyword.2.1 178 = .ok (.lcmp, 1) := by decide +kernel
theorem d_Model_isKeyword_179 : decode m_Model_isKeyword.2.1 179 = .ok (.ifCond .eq 11, 3) := by decide +kernel
theorem d_Model_isKeyword_182 : decode m_Model_isKeyword.2.1 182 = .ok (.lload_n 0, 1) := by decide +kernel
theorem d_Model_isKeyword_183 : decode m_Model_isKeyword.2.1 183 = .ok (.ldc2_w 508, 3) := by decide +kernel
theorem d_Model_isKeyword_186 : decode m_Model_isKeyword.2.1 186 = .ok (.lcmp, 1) := by decide +kernel
theorem d_Model_isKeyword_187 : decode m_Model_isKeyword.2.1 187 = .ok (.ifCond .ne 7, 3) := by decide +kernel
theorem d_Model_isKeyword_190 : decode m_Model_isKeyword.2.1 190 = .ok (.iconst 1, 1) := by decide +kernel
theorem d_Model_isKeyword_191 : decode m_Model_isKeyword.2.1 191 = .ok (.goto 4, 3) := by decide +kernel
theorem d_Model_isKeyword_194 : decode m_Model_isKeyword.2.1 194 = .ok (.iconst 0, 1) := by decide +kernel
theorem d_Model_isKeyword_195 : decode m_Model_isKeyword.2.1 195 = .ok (.istore_n 3, 1) := by decide +kernel
theorem d_Model_isKeyword_196 : decode m_Model_isKeyword.2.1 196 = .ok (.iload_n 2, 1) := by decide +kernel
theorem d_Model_isKeyword_197 : decode m_Model_isKeyword.2.1 197 = .ok (.ifCond .ne 95, 3) := by decide +kernel
theorem d_Model_isKeyword_200 : decode m_Model_isKeyword.2.1 200 = .ok (.iload_n 3, 1) := by decide +kernel
theorem d_Model_isKeyword_201 : decode m_Model_isKeyword.2.1 201 = .ok (.ifCond .ne 91, 3) := by decide +kernel
theorem d_Model_isKeyword_204 : decode m_Model_isKeyword.2.1 204 = .ok (.lload_n 0, 1) := by decide +kernel
theorem d_Model_isKeyword_205 : decode m_Model_isKeyword.2.1 205 = .ok (.ldc2_w 510, 3) := by decide +kernel
theorem d_Model_isKeyword_208 : decode m_Model_isKeyword.2.1 208 = .ok (.lcmp, 1) := by decide +kernel
theorem d_Model_isKeyword_209 : decode m_Model_isKeyword.2.1 209 = .ok (.ifCond .eq 83, 3) := by decide +kernel
theorem d_Model_isKeyword_212 : decode m_Model_isKeyword.2.1 212 = .ok (.lload_n 0, 1) := by decide +kernel
theorem d_Model_isKeyword_213 : decode m_Model_isKeyword.2.1 213 = .ok (.ldc2_w 512, 3) := by decide +kernel
theorem d_Model_isKeyword_216 : decode m_Model_isKeyword.2.1 216 = .ok (.lcmp, 1) := by decide +kernel
theorem d_Model_isKeyword_217 : decode m_Model_isKeyword.2.1 217 = .ok (.ifCond .eq 75, 3) := by decide +kernel
theorem d_Model_isKeyword_220 : decode m_Model_isKeyword.2.1 220 = .ok (.lload_n 0, 1) := by decide +kernel
theorem d_Model_isKeyword_221 : decode m_Model_isKeyword.2.1 221 = .ok (.ldc2_w 514, 3) := by decide +kernel
theorem d_Model_isKeyword_224 : decode m_Model_isKeyword.2.1 224 = .ok (.lcmp, 1) := by decide +kernel
theorem d_Model_isKeyword_225 : decode m_Model_isKeyword.2.1 225 = .ok (.ifCond .eq 67, 3) := by decide +kernel
theorem d_Model_isKeyword_228 : decode m_Model_isKeyword.2.1 228 = .ok (.lload_n 0, 1) := by decide +kernel
theorem d_Model_isKeyword_229 : decode m_Model_isKeyword.2.1 229 = .ok (.ldc2_w 516, 3) := by decide +kernel
theorem d_Model_isKeyword_232 : decode m_Model_isKeyword.2.1 232 = .ok (.lcmp, 1) := by decide +kernel
theorem d_Model_isKeyword_233 : decode m_Model_isKeyword.2.1 233 = .ok (.ifCond .eq 59, 3) := by decide +kernel
theorem d_Model_isKeyword_236 : decode m_Model_isKeyword.2.1 236 = .ok (.lload_n 0, 1) := by decide +kernel
theorem d_Model_isKeyword_237 : decode m_Model_isKeyword.2.1 237 = .ok (.ldc2_w 518, 3) := by decide +kernel
theorem d_Model_isKeyword_240 : decode m_Model_isKeyword.2.1 240 = .ok (.lcmp, 1) := by decide +kernel
theorem d_Model_isKeyword_241 : decode m_Model_isKeyword.2.1 241 = .ok (.ifCond .eq 51, 3) := by decide +kernel
theorem d_Model_isKeyword_244 : decode m_Model_isKeyword.2.1 244 = .ok (.lload_n 0, 1) := by decide +kernel
theorem d_Model_isKeyword_245 : decode m_Model_isKeyword.2.1 245 = .ok (.ldc2_w 520, 3) := by decide +kernel
theorem d_Model_isKeyword_248 : decode m_Model_isKeyword.2.1 248 = .ok (.lcmp, 1) := by decide +kernel
theorem d_Model_isKeyword_249 : decode m_Model_isKeyword.2.1 249 = .ok (.ifCond .eq 43, 3) := by decide +kernel
theorem d_Model_isKeyword_252 : decode m_Model_isKeyword.2.1 252 = .ok (.lload_n 0, 1) := by decide +kernel
theorem d_Model_isKeyword_253 : decode m_Model_isKeyword.2.1 253 = .ok (.ldc2_w 522, 3) := by decide +kernel
theorem d_Model_isKeyword_256 : decode m_Model_isKeyword.2.1 256 = .ok (.lcmp, 1) := by decide +kernel
theorem d_Model_isKeyword_257 : decode m_Model_isKeyword.2.1 257 = .ok (.ifCond .eq 35, 3) := by decide +kernel
theorem d_Model_isKeyword_260 : decode m_Model_isKeyword.2.1 260 = .ok (.lload_n 0, 1) := by decide +kernel
theorem d_Model_isKeyword_261 : decode m_Model_isKeyword.2.1 261 = .ok (.ldc2_w 524, 3) := by decide +kernel
theorem d_Model_isKeyword_264 : decode m_Model_isKeyword.2.1 264 = .ok (.lcmp, 1) := by decide +kernel
theorem d_Model_isKeyword_265 : decode m_Model_isKeyword.2.1 265 = .ok (.ifCond .eq 27, 3) := by decide +kernel
theorem d_Model_isKeyword_268 : decode m_Model_isKeyword.2.1 268 = .ok (.lload_n 0, 1) := by decide +kernel
theorem d_Model_isKeyword_269 : decode m_Model_isKeyword.2.1 269 = .ok (.ldc2_w 526, 3) := by decide +kernel
theorem d_Model_isKeyword_272 : decode m_Model_isKeyword.2.1 272 = .ok (.lcmp, 1) := by decide +kernel
theorem d_Model_isKeyword_273 : decode m_Model_isKeyword.2.1 273 = .ok (.ifCond .eq 19, 3) := by decide +kernel
theorem d_Model_isKeyword_276 : decode m_Model_isKeyword.2.1 276 = .ok (.lload_n 0, 1) := by decide +kernel
theorem d_Model_isKeyword_277 : decode m_Model_isKeyword.2.1 277 = .ok (.ldc2_w 528, 3) := by decide +kernel
theorem d_Model_isKeyword_280 : decode m_Model_isKeyword.2.1 280 = .ok (.lcmp, 1) := by decide +kernel
theorem d_Model_isKeyword_281 : decode m_Model_isKeyword.2.1 281 = .ok (.ifCond .eq 11, 3) := by decide +kernel
theorem d_Model_isKeyword_284 : decode m_Model_isKeyword.2.1 284 = .ok (.lload_n 0, 1) := by decide +kernel
theorem d_Model_isKeyword_285 : decode m_Model_isKeyword.2.1 285 = .ok (.ldc2_w 530, 3) := by decide +kernel
theorem d_Model_isKeyword_288 : decode m_Model_isKeyword.2.1 288 = .ok (.lcmp, 1) := by decide +kernel
theorem d_Model_isKeyword_289 : decode m_Model_isKeyword.2.1 289 = .ok (.ifCond .ne 7, 3) := by decide +kernel
theorem d_Model_isKeyword_292 : decode m_Model_isKeyword.2.1 292 = .ok (.iconst 1, 1) := by decide +kernel
theorem d_Model_isKeyword_293 : decode m_Model_isKeyword.2.1 293 = .ok (.goto 4, 3) := by decide +kernel
theorem d_Model_isKeyword_296 : decode m_Model_isKeyword.2.1 296 = .ok (.iconst 0, 1) := by decide +kernel
theorem d_Model_isKeyword_297 : decode m_Model_isKeyword.2.1 297 = .ok (.ireturn, 1) := by decide +kernel
theorem kwG_iff (x : Nat) : ∀ k, kwG x k ≠ -1 ↔ ∃ j, j < k ∧ KW.getD j 0 = x
  | 0 => ⟨fun h => absurd rfl h, fun ⟨j, hj, _⟩ => by omega⟩
  | k + 1 => by
    have ih := kwG_iff x k
    unfold kwG
    by_cases h : KW.getD k 0 = x
    · rw [if_pos h]
      exact ⟨fun _ => ⟨k, by omega, h⟩, fun _ => by omega⟩
    · rw [if_neg h, ih]
      constructor
      · rintro ⟨j, hj, e⟩; exact ⟨j, by omega, e⟩
      · rintro ⟨j, hj, e⟩
        refine ⟨j, ?_, e⟩
        rcases (by omega : j = k ∨ j < k) with q | q
        · subst q; exact absurd e h
        · exact q
theorem kwF_iff (x : Nat) : kwF x ≠ -1 ↔ x ∈ KW := by
  unfold kwF
  rw [kwG_iff, List.mem_iff_getElem?]
  constructor
  · rintro ⟨j, hj, e⟩
    refine ⟨j, ?_⟩
    rw [List.getD_eq_getElem?_getD] at e
    have : j < KW.length := hj
    rw [List.getElem?_eq_getElem this] at e ⊢
    exact congrArg some e
  · rintro ⟨j, e⟩
    have hj : j < KW.length := (List.getElem?_eq_some_iff.mp e).1
    exact ⟨j, hj, by rw [List.getD_eq_getElem?_getD, e]; rfl⟩
abbrev alone (b : Nat) : Prop := b = 40 ∨ b = 41 ∨ b = 91 ∨ b = 93
theorem c_Tokens_isAlone (d : Nat) {o b : Nat} {I : M32} {L : M64} {R : MR} {T : SH} (hb : b < 256) : Call m_Tokens_isAlone y_Tokens_isAlone d 0 0 [.ref o, .int (cI b)] I L R T (rI fun r I' L' R' T' => r = cI (bI (alone b)) ∧ I' = I ∧ L' = L ∧ R' = R ∧ T' = T) := by
  refine Call.ofRun (by decide) ⟨rfl, rfl⟩ (Nat.le_of_ble_eq_true rfl) ?_
  refine Run.gen fun Q hQ => ?_
  suffices J : ∀ (w : Int), ((((b : Int) = 40) ∧ w = 1) ∨ ((¬ (b : Int) = 40) ∧ ((b : Int) = 41) ∧ w = 1) ∨ ((¬ (b : Int) = 40) ∧ (¬ (b : Int) = 41) ∧ ((b : Int) = 91) ∧ w = 1) ∨ ((¬ (b : Int) = 40) ∧ (¬ (b : Int) = 41) ∧ (¬ (b : Int) = 91) ∧ (¬ (b : Int) = 93) ∧ w = 0) ∨ ((¬ (b : Int) = 40) ∧ (¬ (b : Int) = 41) ∧ (¬ (b : Int) = 91) ∧ ((b : Int) = 93) ∧ w = 1)) → Run m_Tokens_isAlone d 0 0 29 [(0, .ref o), (1, .int (cI (b : Int)))] [.int (cI w)] I L R T Q by
    refine q_iload_n d_Tokens_isAlone_0 rfl ?_
    refine j_bipush d_Tokens_isAlone_1 (by decide) ?_
    refine j_icmp_eq (tgt := 24) d_Tokens_isAlone_3 (by decide) (by omega) (by omega) (fun hp1 => ?_) (fun hp1 => ?_)
    · refine j_iconst d_Tokens_isAlone_24 ?_
      refine q_goto (tgt := 29) d_Tokens_isAlone_25 (by decide) ?_
      exact J _ (Or.inl ⟨hp1, rfl⟩)
    · refine q_iload_n d_Tokens_isAlone_6 rfl ?_
      refine j_bipush d_Tokens_isAlone_7 (by decide) ?_
      refine j_icmp_eq (tgt := 24) d_Tokens_isAlone_9 (by decide) (by omega) (by omega) (fun hp2 => ?_) (fun hp2 => ?_)
      · refine j_iconst d_Tokens_isAlone_24 ?_
        refine q_goto (tgt := 29) d_Tokens_isAlone_25 (by decide) ?_
        exact J _ (Or.inr (Or.inl ⟨hp1, hp2, rfl⟩))
      · refine q_iload_n d_Tokens_isAlone_12 rfl ?_
        refine j_bipush d_Tokens_isAlone_13 (by decide) ?_
        refine j_icmp_eq (tgt := 24) d_Tokens_isAlone_15 (by decide) (by omega) (by omega) (fun hp3 => ?_) (fun hp3 => ?_)
        · refine j_iconst d_Tokens_isAlone_24 ?_
          refine q_goto (tgt := 29) d_Tokens_isAlone_25 (by decide) ?_
          exact J _ (Or.inr (Or.inr (Or.inl ⟨hp1, hp2, hp3, rfl⟩)))
        · refine q_iload_n d_Tokens_isAlone_18 rfl ?_
          refine j_bipush d_Tokens_isAlone_19 (by decide) ?_
          refine j_icmp_ne (tgt := 28) d_Tokens_isAlone_21 (by decide) (by omega) (by omega) (fun hp4 => ?_) (fun hp4 => ?_)
          · refine j_iconst d_Tokens_isAlone_28 ?_
            exact J _ (Or.inr (Or.inr (Or.inr (Or.inl ⟨hp1, hp2, hp3, hp4, rfl⟩))))
          · refine j_iconst d_Tokens_isAlone_24 ?_
            refine q_goto (tgt := 29) d_Tokens_isAlone_25 (by decide) ?_
            exact J _ (Or.inr (Or.inr (Or.inr (Or.inr ⟨hp1, hp2, hp3, hp4, rfl⟩))))
  intro w hv
  refine q_ireturn d_Tokens_isAlone_29 rfl (narrow_z (z01 (by omega))).1 ?_
  refine hQ _ _ _ _ _ ?_
  exact ⟨_, rfl, by rw [show w = bI (alone b) by unfold bI; split <;> omega], rfl, rfl, rfl, rfl⟩
theorem c_Model_isBracket (d : Nat) {b : Nat} {I : M32} {L : M64} {R : MR} {T : SH} (hb : b < 256) : Call m_Model_isBracket y_Model_isBracket d 0 0 [.int (cI b)] I L R T (rI fun r I' L' R' T' => r = cI (bI (alone b)) ∧ I' = I ∧ L' = L ∧ R' = R ∧ T' = T) := by
  refine Call.ofRun (by decide) ⟨rfl, rfl⟩ (Nat.le_of_ble_eq_true rfl) ?_
  refine Run.gen fun Q hQ => ?_
  suffices J : ∀ (w : Int), ((((b : Int) = 40) ∧ w = 1) ∨ ((¬ (b : Int) = 40) ∧ ((b : Int) = 41) ∧ w = 1) ∨ ((¬ (b : Int) = 40) ∧ (¬ (b : Int) = 41) ∧ ((b : Int) = 91) ∧ w = 1) ∨ ((¬ (b : Int) = 40) ∧ (¬ (b : Int) = 41) ∧ (¬ (b : Int) = 91) ∧ (¬ (b : Int) = 93) ∧ w = 0) ∨ ((¬ (b : Int) = 40) ∧ (¬ (b : Int) = 41) ∧ (¬ (b : Int) = 91) ∧ ((b : Int) = 93) ∧ w = 1)) → Run m_Model_isBracket d 0 0 29 [(0, .int (cI (b : Int)))] [.int (cI w)] I L R T Q by
    refine q_iload_n d_Model_isBracket_0 rfl ?_
    refine j_bipush d_Model_isBracket_1 (by decide) ?_
    refine j_icmp_eq (tgt := 24) d_Model_isBracket_3 (by decide) (by omega) (by omega) (fun hp5 => ?_) (fun hp5 => ?_)
    · refine j_iconst d_Model_isBracket_24 ?_
      refine q_goto (tgt := 29) d_Model_isBracket_25 (by decide) ?_
      exact J _ (Or.inl ⟨hp5, rfl⟩)
    · refine q_iload_n d_Model_isBracket_6 rfl ?_
      refine j_bipush d_Model_isBracket_7 (by decide) ?_
      refine j_icmp_eq (tgt := 24) d_Model_isBracket_9 (by decide) (by omega) (by omega) (fun hp6 => ?_) (fun hp6 => ?_)
      · refine j_iconst d_Model_isBracket_24 ?_
        refine q_goto (tgt := 29) d_Model_isBracket_25 (by decide) ?_
        exact J _ (Or.inr (Or.inl ⟨hp5, hp6, rfl⟩))
      · refine q_iload_n d_Model_isBracket_12 rfl ?_
        refine j_bipush d_Model_isBracket_13 (by decide) ?_
        refine j_icmp_eq (tgt := 24) d_Model_isBracket_15 (by decide) (by omega) (by omega) (fun hp7 => ?_) (fun hp7 => ?_)
        · refine j_iconst d_Model_isBracket_24 ?_
          refine q_goto (tgt := 29) d_Model_isBracket_25 (by decide) ?_
          exact J _ (Or.inr (Or.inr (Or.inl ⟨hp5, hp6, hp7, rfl⟩)))
        · refine q_iload_n d_Model_isBracket_18 rfl ?_
          refine j_bipush d_Model_isBracket_19 (by decide) ?_
          refine j_icmp_ne (tgt := 28) d_Model_isBracket_21 (by decide) (by omega) (by omega) (fun hp8 => ?_) (fun hp8 => ?_)
          · refine j_iconst d_Model_isBracket_28 ?_
            exact J _ (Or.inr (Or.inr (Or.inr (Or.inl ⟨hp5, hp6, hp7, hp8, rfl⟩))))
          · refine j_iconst d_Model_isBracket_24 ?_
            refine q_goto (tgt := 29) d_Model_isBracket_25 (by decide) ?_
            exact J _ (Or.inr (Or.inr (Or.inr (Or.inr ⟨hp5, hp6, hp7, hp8, rfl⟩))))
  intro w hv
  refine q_ireturn d_Model_isBracket_29 rfl (narrow_z (z01 (by omega))).1 ?_
  refine hQ _ _ _ _ _ ?_
  exact ⟨_, rfl, by rw [show w = bI (alone b) by unfold bI; split <;> omega], rfl, rfl, rfl, rfl⟩
theorem c_Model_isKeyword (d : Nat) {x : Nat} {I : M32} {L : M64} {R : MR} {T : SH} (hx : x < 9223372036854775808) : Call m_Model_isKeyword y_Model_isKeyword d 0 0 [.long (cL x)] I L R T (rI fun r I' L' R' T' => r = cI (bI (kwF x ≠ -1)) ∧ I' = I ∧ L' = L ∧ R' = R ∧ T' = T) := by
  refine Call.ofRun (by decide) ⟨rfl, rfl⟩ (Nat.le_of_ble_eq_true rfl) ?_
  refine Run.gen fun Q hQ => ?_
  suffices J : ∀ (u : Int), ((((x : Int) = 427021005669) ∧ u = 1) ∨ ((¬ (x : Int) = 427021005669) ∧ ((x : Int) = 7364985) ∧ u = 1) ∨ ((¬ (x : Int) = 427021005669) ∧ (¬ (x : Int) = 7364985) ∧ ((x : Int) = 29807) ∧ u = 1) ∨ ((¬ (x : Int) = 427021005669) ∧ (¬ (x : Int) = 7364985) ∧ (¬ (x : Int) = 29807) ∧ ((x : Int) = 1768846447) ∧ u = 1) ∨ ((¬ (x : Int) = 427021005669) ∧ (¬ (x : Int) = 7364985) ∧ (¬ (x : Int) = 29807) ∧ (¬ (x : Int) = 1768846447) ∧ ((x : Int) = 26982) ∧ u = 1) ∨ ((¬ (x : Int) = 427021005669) ∧ (¬ (x : Int) = 7364985) ∧ (¬ (x : Int) = 29807) ∧ (¬ (x : Int) = 1768846447) ∧ (¬ (x : Int) = 26982) ∧ ((x : Int) = 2003330414) ∧ u = 1) ∨ ((¬ (x : Int) = 427021005669) ∧ (¬ (x : Int) = 7364985) ∧ (¬ (x : Int) = 29807) ∧ (¬ (x : Int) = 1768846447) ∧ (¬ (x : Int) = 26982) ∧ (¬ (x : Int) = 2003330414) ∧ ((x : Int) = 1667330917) ∧ u = 1) ∨ ((¬ (x : Int) = 427021005669) ∧ (¬ (x : Int) = 7364985) ∧ (¬ (x : Int) = 29807) ∧ (¬ (x : Int) = 1768846447) ∧ (¬ (x : Int) = 26982) ∧ (¬ (x : Int) = 2003330414) ∧ (¬ (x : Int) = 1667330917) ∧ ((x : Int) = 28259031251642740) ∧ u = 1) ∨ ((¬ (x : Int) = 427021005669) ∧ (¬ (x : Int) = 7364985) ∧ (¬ (x : Int) = 29807) ∧ (¬ (x : Int) = 1768846447) ∧ (¬ (x : Int) = 26982) ∧ (¬ (x : Int) = 2003330414) ∧ (¬ (x : Int) = 1667330917) ∧ (¬ (x : Int) = 28259031251642740) ∧ ((x : Int) = 109300196926309) ∧ u = 1) ∨ ((¬ (x : Int) = 427021005669) ∧ (¬ (x : Int) = 7364985) ∧ (¬ (x : Int) = 29807) ∧ (¬ (x : Int) = 1768846447) ∧ (¬ (x : Int) = 26982) ∧ (¬ (x : Int) = 2003330414) ∧ (¬ (x : Int) = 1667330917) ∧ (¬ (x : Int) = 28259031251642740) ∧ (¬ (x : Int) = 109300196926309) ∧ ((x : Int) = 121424973489785) ∧ u = 1) ∨ ((¬ (x : Int) = 427021005669) ∧ (¬ (x : Int) = 7364985) ∧ (¬ (x : Int) = 29807) ∧ (¬ (x : Int) = 1768846447) ∧ (¬ (x : Int) = 26982) ∧ (¬ (x : Int) = 2003330414) ∧ (¬ (x : Int) = 1667330917) ∧ (¬ (x : Int) = 28259031251642740) ∧ (¬ (x : Int) = 109300196926309) ∧ (¬ (x : Int) = 121424973489785) ∧ ((x : Int) = 7103860) ∧ u = 1) ∨ ((¬ (x : Int) = 427021005669) ∧ (¬ (x : Int) = 7364985) ∧ (¬ (x : Int) = 29807) ∧ (¬ (x : Int) = 1768846447) ∧ (¬ (x : Int) = 26982) ∧ (¬ (x : Int) = 2003330414) ∧ (¬ (x : Int) = 1667330917) ∧ (¬ (x : Int) = 28259031251642740) ∧ (¬ (x : Int) = 109300196926309) ∧ (¬ (x : Int) = 121424973489785) ∧ (¬ (x : Int) = 7103860) ∧ (¬ (x : Int) = 107148485161588) ∧ u = 0) ∨ ((¬ (x : Int) = 427021005669) ∧ (¬ (x : Int) = 7364985) ∧ (¬ (x : Int) = 29807) ∧ (¬ (x : Int) = 1768846447) ∧ (¬ (x : Int) = 26982) ∧ (¬ (x : Int) = 2003330414) ∧ (¬ (x : Int) = 1667330917) ∧ (¬ (x : Int) = 28259031251642740) ∧ (¬ (x : Int) = 109300196926309) ∧ (¬ (x : Int) = 121424973489785) ∧ (¬ (x : Int) = 7103860) ∧ ((x : Int) = 107148485161588) ∧ u = 1)) → Run m_Model_isKeyword d 0 0 101 [(0, .long (cL (x : Int)))] [.int (cI u)] I L R T Q by
    refine q_lload_n d_Model_isKeyword_0 rfl ?_
    refine j_ldc2 (z := 427021005669) d_Model_isKeyword_1 (inT11 122 rfl) (by decide) ?_
    refine j_lcmp_eq (tgt := 96) d_Model_isKeyword_4 d_Model_isKeyword_5 (by decide) (by omega) (by omega) (fun hp9 => ?_) (fun hp9 => ?_)
    · refine j_iconst d_Model_isKeyword_96 ?_
      refine q_goto (tgt := 101) d_Model_isKeyword_97 (by decide) ?_
      exact J _ (Or.inl ⟨hp9, rfl⟩)
    · refine q_lload_n d_Model_isKeyword_8 rfl ?_
      refine j_ldc2 (z := 7364985) d_Model_isKeyword_9 (inT11 123 rfl) (by decide) ?_
      refine j_lcmp_eq (tgt := 96) d_Model_isKeyword_12 d_Model_isKeyword_13 (by decide) (by omega) (by omega) (fun hp10 => ?_) (fun hp10 => ?_)
      · refine j_iconst d_Model_isKeyword_96 ?_
        refine q_goto (tgt := 101) d_Model_isKeyword_97 (by decide) ?_
        exact J _ (Or.inr (Or.inl ⟨hp9, hp10, rfl⟩))
      · refine q_lload_n d_Model_isKeyword_16 rfl ?_
        refine j_ldc2 (z := 29807) d_Model_isKeyword_17 (inT11 124 rfl) (by decide) ?_
        refine j_lcmp_eq (tgt := 96) d_Model_isKeyword_20 d_Model_isKeyword_21 (by decide) (by omega) (by omega) (fun hp11 => ?_) (fun hp11 => ?_)
        · refine j_iconst d_Model_isKeyword_96 ?_
          refine q_goto (tgt := 101) d_Model_isKeyword_97 (by decide) ?_
          exact J _ (Or.inr (Or.inr (Or.inl ⟨hp9, hp10, hp11, rfl⟩)))
        · refine q_lload_n d_Model_isKeyword_24 rfl ?_
          refine j_ldc2 (z := 1768846447) d_Model_isKeyword_25 (inT11 125 rfl) (by decide) ?_
          refine j_lcmp_eq (tgt := 96) d_Model_isKeyword_28 d_Model_isKeyword_29 (by decide) (by omega) (by omega) (fun hp12 => ?_) (fun hp12 => ?_)
          · refine j_iconst d_Model_isKeyword_96 ?_
            refine q_goto (tgt := 101) d_Model_isKeyword_97 (by decide) ?_
            exact J _ (Or.inr (Or.inr (Or.inr (Or.inl ⟨hp9, hp10, hp11, hp12, rfl⟩))))
          · refine q_lload_n d_Model_isKeyword_32 rfl ?_
            refine j_ldc2 (z := 26982) d_Model_isKeyword_33 (inT11 126 rfl) (by decide) ?_
            refine j_lcmp_eq (tgt := 96) d_Model_isKeyword_36 d_Model_isKeyword_37 (by decide) (by omega) (by omega) (fun hp13 => ?_) (fun hp13 => ?_)
            · refine j_iconst d_Model_isKeyword_96 ?_
              refine q_goto (tgt := 101) d_Model_isKeyword_97 (by decide) ?_
              exact J _ (Or.inr (Or.inr (Or.inr (Or.inr (Or.inl ⟨hp9, hp10, hp11, hp12, hp13, rfl⟩)))))
            · refine q_lload_n d_Model_isKeyword_40 rfl ?_
              refine j_ldc2 (z := 2003330414) d_Model_isKeyword_41 (inT11 127 rfl) (by decide) ?_
              refine j_lcmp_eq (tgt := 96) d_Model_isKeyword_44 d_Model_isKeyword_45 (by decide) (by omega) (by omega) (fun hp14 => ?_) (fun hp14 => ?_)
              · refine j_iconst d_Model_isKeyword_96 ?_
                refine q_goto (tgt := 101) d_Model_isKeyword_97 (by decide) ?_
                exact J _ (Or.inr (Or.inr (Or.inr (Or.inr (Or.inr (Or.inl ⟨hp9, hp10, hp11, hp12, hp13, hp14, rfl⟩))))))
              · refine q_lload_n d_Model_isKeyword_48 rfl ?_
                refine j_ldc2 (z := 1667330917) d_Model_isKeyword_49 (inT11 128 rfl) (by decide) ?_
                refine j_lcmp_eq (tgt := 96) d_Model_isKeyword_52 d_Model_isKeyword_53 (by decide) (by omega) (by omega) (fun hp15 => ?_) (fun hp15 => ?_)
                · refine j_iconst d_Model_isKeyword_96 ?_
                  refine q_goto (tgt := 101) d_Model_isKeyword_97 (by decide) ?_
                  exact J _ (Or.inr (Or.inr (Or.inr (Or.inr (Or.inr (Or.inr (Or.inl ⟨hp9, hp10, hp11, hp12, hp13, hp14, hp15, rfl⟩)))))))
                · refine q_lload_n d_Model_isKeyword_56 rfl ?_
                  refine j_ldc2 (z := 28259031251642740) d_Model_isKeyword_57 (inT11 129 rfl) (by decide) ?_
                  refine j_lcmp_eq (tgt := 96) d_Model_isKeyword_60 d_Model_isKeyword_61 (by decide) (by omega) (by omega) (fun hp16 => ?_) (fun hp16 => ?_)
                  · refine j_iconst d_Model_isKeyword_96 ?_
                    refine q_goto (tgt := 101) d_Model_isKeyword_97 (by decide) ?_
                    exact J _ (Or.inr (Or.inr (Or.inr (Or.inr (Or.inr (Or.inr (Or.inr (Or.inl ⟨hp9, hp10, hp11, hp12, hp13, hp14, hp15, hp16, rfl⟩))))))))
                  · refine q_lload_n d_Model_isKeyword_64 rfl ?_
                    refine j_ldc2 (z := 109300196926309) d_Model_isKeyword_65 (inT11 130 rfl) (by decide) ?_
                    refine j_lcmp_eq (tgt := 96) d_Model_isKeyword_68 d_Model_isKeyword_69 (by decide) (by omega) (by omega) (fun hp17 => ?_) (fun hp17 => ?_)
                    · refine j_iconst d_Model_isKeyword_96 ?_
                      refine q_goto (tgt := 101) d_Model_isKeyword_97 (by decide) ?_
                      exact J _ (Or.inr (Or.inr (Or.inr (Or.inr (Or.inr (Or.inr (Or.inr (Or.inr (Or.inl ⟨hp9, hp10, hp11, hp12, hp13, hp14, hp15, hp16, hp17, rfl⟩)))))))))
                    · refine q_lload_n d_Model_isKeyword_72 rfl ?_
                      refine j_ldc2 (z := 121424973489785) d_Model_isKeyword_73 (inT11 131 rfl) (by decide) ?_
                      refine j_lcmp_eq (tgt := 96) d_Model_isKeyword_76 d_Model_isKeyword_77 (by decide) (by omega) (by omega) (fun hp18 => ?_) (fun hp18 => ?_)
                      · refine j_iconst d_Model_isKeyword_96 ?_
                        refine q_goto (tgt := 101) d_Model_isKeyword_97 (by decide) ?_
                        exact J _ (Or.inr (Or.inr (Or.inr (Or.inr (Or.inr (Or.inr (Or.inr (Or.inr (Or.inr (Or.inl ⟨hp9, hp10, hp11, hp12, hp13, hp14, hp15, hp16, hp17, hp18, rfl⟩))))))))))
                      · refine q_lload_n d_Model_isKeyword_80 rfl ?_
                        refine j_ldc2 (z := 7103860) d_Model_isKeyword_81 (inT11 132 rfl) (by decide) ?_
                        refine j_lcmp_eq (tgt := 96) d_Model_isKeyword_84 d_Model_isKeyword_85 (by decide) (by omega) (by omega) (fun hp19 => ?_) (fun hp19 => ?_)
                        · refine j_iconst d_Model_isKeyword_96 ?_
                          refine q_goto (tgt := 101) d_Model_isKeyword_97 (by decide) ?_
                          exact J _ (Or.inr (Or.inr (Or.inr (Or.inr (Or.inr (Or.inr (Or.inr (Or.inr (Or.inr (Or.inr (Or.inl ⟨hp9, hp10, hp11, hp12, hp13, hp14, hp15, hp16, hp17, hp18, hp19, rfl⟩)))))))))))
                        · refine q_lload_n d_Model_isKeyword_88 rfl ?_
                          refine j_ldc2 (z := 107148485161588) d_Model_isKeyword_89 (inT11 133 rfl) (by decide) ?_
                          refine j_lcmp_ne (tgt := 100) d_Model_isKeyword_92 d_Model_isKeyword_93 (by decide) (by omega) (by omega) (fun hp20 => ?_) (fun hp20 => ?_)
                          · refine j_iconst d_Model_isKeyword_100 ?_
                            exact J _ (Or.inr (Or.inr (Or.inr (Or.inr (Or.inr (Or.inr (Or.inr (Or.inr (Or.inr (Or.inr (Or.inr (Or.inl ⟨hp9, hp10, hp11, hp12, hp13, hp14, hp15, hp16, hp17, hp18, hp19, hp20, rfl⟩))))))))))))
                          · refine j_iconst d_Model_isKeyword_96 ?_
                            refine q_goto (tgt := 101) d_Model_isKeyword_97 (by decide) ?_
                            exact J _ (Or.inr (Or.inr (Or.inr (Or.inr (Or.inr (Or.inr (Or.inr (Or.inr (Or.inr (Or.inr (Or.inr (Or.inr ⟨hp9, hp10, hp11, hp12, hp13, hp14, hp15, hp16, hp17, hp18, hp19, hp20, rfl⟩))))))))))))
  intro u hu
  refine q_istore_n (lv' := [(2, .int (cI u)), (0, .long (cL (x : Int)))]) d_Model_isKeyword_101 (by decide) rfl ?_
  suffices J : ∀ (v : Int), ((((x : Int) = 1751477348) ∧ v = 1) ∨ ((¬ (x : Int) = 1751477348) ∧ ((x : Int) = 7234919) ∧ v = 1) ∨ ((¬ (x : Int) = 1751477348) ∧ (¬ (x : Int) = 7234919) ∧ ((x : Int) = 6382692) ∧ v = 1) ∨ ((¬ (x : Int) = 1751477348) ∧ (¬ (x : Int) = 7234919) ∧ (¬ (x : Int) = 6382692) ∧ ((x : Int) = 7566690) ∧ v = 1) ∨ ((¬ (x : Int) = 1751477348) ∧ (¬ (x : Int) = 7234919) ∧ (¬ (x : Int) = 6382692) ∧ (¬ (x : Int) = 7566690) ∧ ((x : Int) = 7173484) ∧ v = 1) ∨ ((¬ (x : Int) = 1751477348) ∧ (¬ (x : Int) = 7234919) ∧ (¬ (x : Int) = 6382692) ∧ (¬ (x : Int) = 7566690) ∧ (¬ (x : Int) = 7173484) ∧ ((x : Int) = 6580598) ∧ v = 1) ∨ ((¬ (x : Int) = 1751477348) ∧ (¬ (x : Int) = 7234919) ∧ (¬ (x : Int) = 6382692) ∧ (¬ (x : Int) = 7566690) ∧ (¬ (x : Int) = 7173484) ∧ (¬ (x : Int) = 6580598) ∧ ((x : Int) = 109300197582190) ∧ v = 1) ∨ ((¬ (x : Int) = 1751477348) ∧ (¬ (x : Int) = 7234919) ∧ (¬ (x : Int) = 6382692) ∧ (¬ (x : Int) = 7566690) ∧ (¬ (x : Int) = 7173484) ∧ (¬ (x : Int) = 6580598) ∧ (¬ (x : Int) = 109300197582190) ∧ ((x : Int) = 495873782388) ∧ v = 1) ∨ ((¬ (x : Int) = 1751477348) ∧ (¬ (x : Int) = 7234919) ∧ (¬ (x : Int) = 6382692) ∧ (¬ (x : Int) = 7566690) ∧ (¬ (x : Int) = 7173484) ∧ (¬ (x : Int) = 6580598) ∧ (¬ (x : Int) = 109300197582190) ∧ (¬ (x : Int) = 495873782388) ∧ ((x : Int) = 6647396) ∧ v = 1) ∨ ((¬ (x : Int) = 1751477348) ∧ (¬ (x : Int) = 7234919) ∧ (¬ (x : Int) = 6382692) ∧ (¬ (x : Int) = 7566690) ∧ (¬ (x : Int) = 7173484) ∧ (¬ (x : Int) = 6580598) ∧ (¬ (x : Int) = 109300197582190) ∧ (¬ (x : Int) = 495873782388) ∧ (¬ (x : Int) = 6647396) ∧ ((x : Int) = 7697253) ∧ v = 1) ∨ ((¬ (x : Int) = 1751477348) ∧ (¬ (x : Int) = 7234919) ∧ (¬ (x : Int) = 6382692) ∧ (¬ (x : Int) = 7566690) ∧ (¬ (x : Int) = 7173484) ∧ (¬ (x : Int) = 6580598) ∧ (¬ (x : Int) = 109300197582190) ∧ (¬ (x : Int) = 495873782388) ∧ (¬ (x : Int) = 6647396) ∧ (¬ (x : Int) = 7697253) ∧ (¬ (x : Int) = 1668247140) ∧ v = 0) ∨ ((¬ (x : Int) = 1751477348) ∧ (¬ (x : Int) = 7234919) ∧ (¬ (x : Int) = 6382692) ∧ (¬ (x : Int) = 7566690) ∧ (¬ (x : Int) = 7173484) ∧ (¬ (x : Int) = 6580598) ∧ (¬ (x : Int) = 109300197582190) ∧ (¬ (x : Int) = 495873782388) ∧ (¬ (x : Int) = 6647396) ∧ (¬ (x : Int) = 7697253) ∧ ((x : Int) = 1668247140) ∧ v = 1)) → Run m_Model_isKeyword d 0 0 195 [(0, .long (cL (x : Int))), (2, .int (cI u))] [.int (cI v)] I L R T Q by
    refine q_lload_n d_Model_isKeyword_102 rfl ?_
    refine j_ldc2 (z := 1751477348) d_Model_isKeyword_103 (inT11 134 rfl) (by decide) ?_
    refine j_lcmp_eq (tgt := 190) d_Model_isKeyword_106 d_Model_isKeyword_107 (by decide) (by omega) (by omega) (fun hp21 => ?_) (fun hp21 => ?_)
    · refine j_iconst d_Model_isKeyword_190 ?_
      refine q_goto (tgt := 195) d_Model_isKeyword_191 (by decide) ?_
      refine Run.lv (lv' := [(0, .long (cL (x : Int))), (2, .int (cI u))]) (by intro q hq; simp only [List.mem_cons, List.not_mem_nil, or_false] at hq ⊢; rcases hq with rfl | rfl <;> simp) ?_
      exact J _ (Or.inl ⟨hp21, rfl⟩)
    · refine q_lload_n d_Model_isKeyword_110 rfl ?_
      refine j_ldc2 (z := 7234919) d_Model_isKeyword_111 (inT11 135 rfl) (by decide) ?_
      refine j_lcmp_eq (tgt := 190) d_Model_isKeyword_114 d_Model_isKeyword_115 (by decide) (by omega) (by omega) (fun hp22 => ?_) (fun hp22 => ?_)
      · refine j_iconst d_Model_isKeyword_190 ?_
        refine q_goto (tgt := 195) d_Model_isKeyword_191 (by decide) ?_
        refine Run.lv (lv' := [(0, .long (cL (x : Int))), (2, .int (cI u))]) (by intro q hq; simp only [List.mem_cons, List.not_mem_nil, or_false] at hq ⊢; rcases hq with rfl | rfl <;> simp) ?_
        exact J _ (Or.inr (Or.inl ⟨hp21, hp22, rfl⟩))
      · refine q_lload_n d_Model_isKeyword_118 rfl ?_
        refine j_ldc2 (z := 6382692) d_Model_isKeyword_119 (inT11 136 rfl) (by decide) ?_
        refine j_lcmp_eq (tgt := 190) d_Model_isKeyword_122 d_Model_isKeyword_123 (by decide) (by omega) (by omega) (fun hp23 => ?_) (fun hp23 => ?_)
        · refine j_iconst d_Model_isKeyword_190 ?_
          refine q_goto (tgt := 195) d_Model_isKeyword_191 (by decide) ?_
          refine Run.lv (lv' := [(0, .long (cL (x : Int))), (2, .int (cI u))]) (by intro q hq; simp only [List.mem_cons, List.not_mem_nil, or_false] at hq ⊢; rcases hq with rfl | rfl <;> simp) ?_
          exact J _ (Or.inr (Or.inr (Or.inl ⟨hp21, hp22, hp23, rfl⟩)))
        · refine q_lload_n d_Model_isKeyword_126 rfl ?_
          refine j_ldc2 (z := 7566690) d_Model_isKeyword_127 (inT11 137 rfl) (by decide) ?_
          refine j_lcmp_eq (tgt := 190) d_Model_isKeyword_130 d_Model_isKeyword_131 (by decide) (by omega) (by omega) (fun hp24 => ?_) (fun hp24 => ?_)
          · refine j_iconst d_Model_isKeyword_190 ?_
            refine q_goto (tgt := 195) d_Model_isKeyword_191 (by decide) ?_
            refine Run.lv (lv' := [(0, .long (cL (x : Int))), (2, .int (cI u))]) (by intro q hq; simp only [List.mem_cons, List.not_mem_nil, or_false] at hq ⊢; rcases hq with rfl | rfl <;> simp) ?_
            exact J _ (Or.inr (Or.inr (Or.inr (Or.inl ⟨hp21, hp22, hp23, hp24, rfl⟩))))
          · refine q_lload_n d_Model_isKeyword_134 rfl ?_
            refine j_ldc2 (z := 7173484) d_Model_isKeyword_135 (inT11 138 rfl) (by decide) ?_
            refine j_lcmp_eq (tgt := 190) d_Model_isKeyword_138 d_Model_isKeyword_139 (by decide) (by omega) (by omega) (fun hp25 => ?_) (fun hp25 => ?_)
            · refine j_iconst d_Model_isKeyword_190 ?_
              refine q_goto (tgt := 195) d_Model_isKeyword_191 (by decide) ?_
              refine Run.lv (lv' := [(0, .long (cL (x : Int))), (2, .int (cI u))]) (by intro q hq; simp only [List.mem_cons, List.not_mem_nil, or_false] at hq ⊢; rcases hq with rfl | rfl <;> simp) ?_
              exact J _ (Or.inr (Or.inr (Or.inr (Or.inr (Or.inl ⟨hp21, hp22, hp23, hp24, hp25, rfl⟩)))))
            · refine q_lload_n d_Model_isKeyword_142 rfl ?_
              refine j_ldc2 (z := 6580598) d_Model_isKeyword_143 (inT11 139 rfl) (by decide) ?_
              refine j_lcmp_eq (tgt := 190) d_Model_isKeyword_146 d_Model_isKeyword_147 (by decide) (by omega) (by omega) (fun hp26 => ?_) (fun hp26 => ?_)
              · refine j_iconst d_Model_isKeyword_190 ?_
                refine q_goto (tgt := 195) d_Model_isKeyword_191 (by decide) ?_
                refine Run.lv (lv' := [(0, .long (cL (x : Int))), (2, .int (cI u))]) (by intro q hq; simp only [List.mem_cons, List.not_mem_nil, or_false] at hq ⊢; rcases hq with rfl | rfl <;> simp) ?_
                exact J _ (Or.inr (Or.inr (Or.inr (Or.inr (Or.inr (Or.inl ⟨hp21, hp22, hp23, hp24, hp25, hp26, rfl⟩))))))
              · refine q_lload_n d_Model_isKeyword_150 rfl ?_
                refine j_ldc2 (z := 109300197582190) d_Model_isKeyword_151 (inT11 140 rfl) (by decide) ?_
                refine j_lcmp_eq (tgt := 190) d_Model_isKeyword_154 d_Model_isKeyword_155 (by decide) (by omega) (by omega) (fun hp27 => ?_) (fun hp27 => ?_)
                · refine j_iconst d_Model_isKeyword_190 ?_
                  refine q_goto (tgt := 195) d_Model_isKeyword_191 (by decide) ?_
                  refine Run.lv (lv' := [(0, .long (cL (x : Int))), (2, .int (cI u))]) (by intro q hq; simp only [List.mem_cons, List.not_mem_nil, or_false] at hq ⊢; rcases hq with rfl | rfl <;> simp) ?_
                  exact J _ (Or.inr (Or.inr (Or.inr (Or.inr (Or.inr (Or.inr (Or.inl ⟨hp21, hp22, hp23, hp24, hp25, hp26, hp27, rfl⟩)))))))
                · refine q_lload_n d_Model_isKeyword_158 rfl ?_
                  refine j_ldc2 (z := 495873782388) d_Model_isKeyword_159 (inT11 141 rfl) (by decide) ?_
                  refine j_lcmp_eq (tgt := 190) d_Model_isKeyword_162 d_Model_isKeyword_163 (by decide) (by omega) (by omega) (fun hp28 => ?_) (fun hp28 => ?_)
                  · refine j_iconst d_Model_isKeyword_190 ?_
                    refine q_goto (tgt := 195) d_Model_isKeyword_191 (by decide) ?_
                    refine Run.lv (lv' := [(0, .long (cL (x : Int))), (2, .int (cI u))]) (by intro q hq; simp only [List.mem_cons, List.not_mem_nil, or_false] at hq ⊢; rcases hq with rfl | rfl <;> simp) ?_
                    exact J _ (Or.inr (Or.inr (Or.inr (Or.inr (Or.inr (Or.inr (Or.inr (Or.inl ⟨hp21, hp22, hp23, hp24, hp25, hp26, hp27, hp28, rfl⟩))))))))
                  · refine q_lload_n d_Model_isKeyword_166 rfl ?_
                    refine j_ldc2 (z := 6647396) d_Model_isKeyword_167 (inT11 142 rfl) (by decide) ?_
                    refine j_lcmp_eq (tgt := 190) d_Model_isKeyword_170 d_Model_isKeyword_171 (by decide) (by omega) (by omega) (fun hp29 => ?_) (fun hp29 => ?_)
                    · refine j_iconst d_Model_isKeyword_190 ?_
                      refine q_goto (tgt := 195) d_Model_isKeyword_191 (by decide) ?_
                      refine Run.lv (lv' := [(0, .long (cL (x : Int))), (2, .int (cI u))]) (by intro q hq; simp only [List.mem_cons, List.not_mem_nil, or_false] at hq ⊢; rcases hq with rfl | rfl <;> simp) ?_
                      exact J _ (Or.inr (Or.inr (Or.inr (Or.inr (Or.inr (Or.inr (Or.inr (Or.inr (Or.inl ⟨hp21, hp22, hp23, hp24, hp25, hp26, hp27, hp28, hp29, rfl⟩)))))))))
                    · refine q_lload_n d_Model_isKeyword_174 rfl ?_
                      refine j_ldc2 (z := 7697253) d_Model_isKeyword_175 (inT11 143 rfl) (by decide) ?_
                      refine j_lcmp_eq (tgt := 190) d_Model_isKeyword_178 d_Model_isKeyword_179 (by decide) (by omega) (by omega) (fun hp30 => ?_) (fun hp30 => ?_)
                      · refine j_iconst d_Model_isKeyword_190 ?_
                        refine q_goto (tgt := 195) d_Model_isKeyword_191 (by decide) ?_
                        refine Run.lv (lv' := [(0, .long (cL (x : Int))), (2, .int (cI u))]) (by intro q hq; simp only [List.mem_cons, List.not_mem_nil, or_false] at hq ⊢; rcases hq with rfl | rfl <;> simp) ?_
                        exact J _ (Or.inr (Or.inr (Or.inr (Or.inr (Or.inr (Or.inr (Or.inr (Or.inr (Or.inr (Or.inl ⟨hp21, hp22, hp23, hp24, hp25, hp26, hp27, hp28, hp29, hp30, rfl⟩))))))))))
                      · refine q_lload_n d_Model_isKeyword_182 rfl ?_
                        refine j_ldc2 (z := 1668247140) d_Model_isKeyword_183 (inT11 144 rfl) (by decide) ?_
                        refine j_lcmp_ne (tgt := 194) d_Model_isKeyword_186 d_Model_isKeyword_187 (by decide) (by omega) (by omega) (fun hp31 => ?_) (fun hp31 => ?_)
                        · refine j_iconst d_Model_isKeyword_194 ?_
                          refine Run.lv (lv' := [(0, .long (cL (x : Int))), (2, .int (cI u))]) (by intro q hq; simp only [List.mem_cons, List.not_mem_nil, or_false] at hq ⊢; rcases hq with rfl | rfl <;> simp) ?_
                          exact J _ (Or.inr (Or.inr (Or.inr (Or.inr (Or.inr (Or.inr (Or.inr (Or.inr (Or.inr (Or.inr (Or.inl ⟨hp21, hp22, hp23, hp24, hp25, hp26, hp27, hp28, hp29, hp30, hp31, rfl⟩)))))))))))
                        · refine j_iconst d_Model_isKeyword_190 ?_
                          refine q_goto (tgt := 195) d_Model_isKeyword_191 (by decide) ?_
                          refine Run.lv (lv' := [(0, .long (cL (x : Int))), (2, .int (cI u))]) (by intro q hq; simp only [List.mem_cons, List.not_mem_nil, or_false] at hq ⊢; rcases hq with rfl | rfl <;> simp) ?_
                          exact J _ (Or.inr (Or.inr (Or.inr (Or.inr (Or.inr (Or.inr (Or.inr (Or.inr (Or.inr (Or.inr (Or.inr ⟨hp21, hp22, hp23, hp24, hp25, hp26, hp27, hp28, hp29, hp30, hp31, rfl⟩)))))))))))
  intro v hv
  have hu2 : u = 0 ∨ u = 1 := by omega
  have hv2 : v = 0 ∨ v = 1 := by omega
  refine q_istore_n (lv' := [(3, .int (cI v)), (0, .long (cL (x : Int))), (2, .int (cI u))]) d_Model_isKeyword_195 (by decide) rfl ?_
  suffices J : ∀ (w : Int), (((¬ u = 0) ∧ w = 1) ∨ ((u = 0) ∧ (¬ v = 0) ∧ w = 1) ∨ ((u = 0) ∧ (v = 0) ∧ ((x : Int) = 6385252) ∧ w = 1) ∨ ((u = 0) ∧ (v = 0) ∧ (¬ (x : Int) = 6385252) ∧ ((x : Int) = 28530) ∧ w = 1) ∨ ((u = 0) ∧ (v = 0) ∧ (¬ (x : Int) = 6385252) ∧ (¬ (x : Int) = 28530) ∧ ((x : Int) = 7237492) ∧ w = 1) ∨ ((u = 0) ∧ (v = 0) ∧ (¬ (x : Int) = 6385252) ∧ (¬ (x : Int) = 28530) ∧ (¬ (x : Int) = 7237492) ∧ ((x : Int) = 426953896805) ∧ w = 1) ∨ ((u = 0) ∧ (v = 0) ∧ (¬ (x : Int) = 6385252) ∧ (¬ (x : Int) = 28530) ∧ (¬ (x : Int) = 7237492) ∧ (¬ (x : Int) = 426953896805) ∧ ((x : Int) = 26469) ∧ w = 1) ∨ ((u = 0) ∧ (v = 0) ∧ (¬ (x : Int) = 6385252) ∧ (¬ (x : Int) = 28530) ∧ (¬ (x : Int) = 7237492) ∧ (¬ (x : Int) = 426953896805) ∧ (¬ (x : Int) = 26469) ∧ ((x : Int) = 26484) ∧ w = 1) ∨ ((u = 0) ∧ (v = 0) ∧ (¬ (x : Int) = 6385252) ∧ (¬ (x : Int) = 28530) ∧ (¬ (x : Int) = 7237492) ∧ (¬ (x : Int) = 426953896805) ∧ (¬ (x : Int) = 26469) ∧ (¬ (x : Int) = 26484) ∧ ((x : Int) = 27749) ∧ w = 1) ∨ ((u = 0) ∧ (v = 0) ∧ (¬ (x : Int) = 6385252) ∧ (¬ (x : Int) = 28530) ∧ (¬ (x : Int) = 7237492) ∧ (¬ (x : Int) = 426953896805) ∧ (¬ (x : Int) = 26469) ∧ (¬ (x : Int) = 26484) ∧ (¬ (x : Int) = 27749) ∧ ((x : Int) = 27764) ∧ w = 1) ∨ ((u = 0) ∧ (v = 0) ∧ (¬ (x : Int) = 6385252) ∧ (¬ (x : Int) = 28530) ∧ (¬ (x : Int) = 7237492) ∧ (¬ (x : Int) = 426953896805) ∧ (¬ (x : Int) = 26469) ∧ (¬ (x : Int) = 26484) ∧ (¬ (x : Int) = 27749) ∧ (¬ (x : Int) = 27764) ∧ ((x : Int) = 25969) ∧ w = 1) ∨ ((u = 0) ∧ (v = 0) ∧ (¬ (x : Int) = 6385252) ∧ (¬ (x : Int) = 28530) ∧ (¬ (x : Int) = 7237492) ∧ (¬ (x : Int) = 426953896805) ∧ (¬ (x : Int) = 26469) ∧ (¬ (x : Int) = 26484) ∧ (¬ (x : Int) = 27749) ∧ (¬ (x : Int) = 27764) ∧ (¬ (x : Int) = 25969) ∧ ((x : Int) = 1953658213) ∧ w = 1) ∨ ((u = 0) ∧ (v = 0) ∧ (¬ (x : Int) = 6385252) ∧ (¬ (x : Int) = 28530) ∧ (¬ (x : Int) = 7237492) ∧ (¬ (x : Int) = 426953896805) ∧ (¬ (x : Int) = 26469) ∧ (¬ (x : Int) = 26484) ∧ (¬ (x : Int) = 27749) ∧ (¬ (x : Int) = 27764) ∧ (¬ (x : Int) = 25969) ∧ (¬ (x : Int) = 1953658213) ∧ (¬ (x : Int) = 439721161573) ∧ w = 0) ∨ ((u = 0) ∧ (v = 0) ∧ (¬ (x : Int) = 6385252) ∧ (¬ (x : Int) = 28530) ∧ (¬ (x : Int) = 7237492) ∧ (¬ (x : Int) = 426953896805) ∧ (¬ (x : Int) = 26469) ∧ (¬ (x : Int) = 26484) ∧ (¬ (x : Int) = 27749) ∧ (¬ (x : Int) = 27764) ∧ (¬ (x : Int) = 25969) ∧ (¬ (x : Int) = 1953658213) ∧ ((x : Int) = 439721161573) ∧ w = 1)) → Run m_Model_isKeyword d 0 0 297 [(0, .long (cL (x : Int))), (2, .int (cI u)), (3, .int (cI v))] [.int (cI w)] I L R T Q by
    refine q_iload_n d_Model_isKeyword_196 rfl ?_
    refine j_if_ne (tgt := 292) d_Model_isKeyword_197 (by decide) (by omega) (fun hp32 => ?_) (fun hp32 => ?_)
    · refine j_iconst d_Model_isKeyword_292 ?_
      refine q_goto (tgt := 297) d_Model_isKeyword_293 (by decide) ?_
      refine Run.lv (lv' := [(0, .long (cL (x : Int))), (2, .int (cI u)), (3, .int (cI v))]) (by intro q hq; simp only [List.mem_cons, List.not_mem_nil, or_false] at hq ⊢; rcases hq with rfl | rfl | rfl <;> simp) ?_
      exact J _ (Or.inl ⟨hp32, rfl⟩)
    · refine q_iload_n d_Model_isKeyword_200 rfl ?_
      refine j_if_ne (tgt := 292) d_Model_isKeyword_201 (by decide) (by omega) (fun hp33 => ?_) (fun hp33 => ?_)
      · refine j_iconst d_Model_isKeyword_292 ?_
        refine q_goto (tgt := 297) d_Model_isKeyword_293 (by decide) ?_
        refine Run.lv (lv' := [(0, .long (cL (x : Int))), (2, .int (cI u)), (3, .int (cI v))]) (by intro q hq; simp only [List.mem_cons, List.not_mem_nil, or_false] at hq ⊢; rcases hq with rfl | rfl | rfl <;> simp) ?_
        exact J _ (Or.inr (Or.inl ⟨hp32, hp33, rfl⟩))
      · refine q_lload_n d_Model_isKeyword_204 rfl ?_
        refine j_ldc2 (z := 6385252) d_Model_isKeyword_205 (inT11 145 rfl) (by decide) ?_
        refine j_lcmp_eq (tgt := 292) d_Model_isKeyword_208 d_Model_isKeyword_209 (by decide) (by omega) (by omega) (fun hp34 => ?_) (fun hp34 => ?_)
        · refine j_iconst d_Model_isKeyword_292 ?_
          refine q_goto (tgt := 297) d_Model_isKeyword_293 (by decide) ?_
          refine Run.lv (lv' := [(0, .long (cL (x : Int))), (2, .int (cI u)), (3, .int (cI v))]) (by intro q hq; simp only [List.mem_cons, List.not_mem_nil, or_false] at hq ⊢; rcases hq with rfl | rfl | rfl <;> simp) ?_
          exact J _ (Or.inr (Or.inr (Or.inl ⟨hp32, hp33, hp34, rfl⟩)))
        · refine q_lload_n d_Model_isKeyword_212 rfl ?_
          refine j_ldc2 (z := 28530) d_Model_isKeyword_213 (inT11 146 rfl) (by decide) ?_
          refine j_lcmp_eq (tgt := 292) d_Model_isKeyword_216 d_Model_isKeyword_217 (by decide) (by omega) (by omega) (fun hp35 => ?_) (fun hp35 => ?_)
          · refine j_iconst d_Model_isKeyword_292 ?_
            refine q_goto (tgt := 297) d_Model_isKeyword_293 (by decide) ?_
            refine Run.lv (lv' := [(0, .long (cL (x : Int))), (2, .int (cI u)), (3, .int (cI v))]) (by intro q hq; simp only [List.mem_cons, List.not_mem_nil, or_false] at hq ⊢; rcases hq with rfl | rfl | rfl <;> simp) ?_
            exact J _ (Or.inr (Or.inr (Or.inr (Or.inl ⟨hp32, hp33, hp34, hp35, rfl⟩))))
          · refine q_lload_n d_Model_isKeyword_220 rfl ?_
            refine j_ldc2 (z := 7237492) d_Model_isKeyword_221 (inT11 147 rfl) (by decide) ?_
            refine j_lcmp_eq (tgt := 292) d_Model_isKeyword_224 d_Model_isKeyword_225 (by decide) (by omega) (by omega) (fun hp36 => ?_) (fun hp36 => ?_)
            · refine j_iconst d_Model_isKeyword_292 ?_
              refine q_goto (tgt := 297) d_Model_isKeyword_293 (by decide) ?_
              refine Run.lv (lv' := [(0, .long (cL (x : Int))), (2, .int (cI u)), (3, .int (cI v))]) (by intro q hq; simp only [List.mem_cons, List.not_mem_nil, or_false] at hq ⊢; rcases hq with rfl | rfl | rfl <;> simp) ?_
              exact J _ (Or.inr (Or.inr (Or.inr (Or.inr (Or.inl ⟨hp32, hp33, hp34, hp35, hp36, rfl⟩)))))
            · refine q_lload_n d_Model_isKeyword_228 rfl ?_
              refine j_ldc2 (z := 426953896805) d_Model_isKeyword_229 (inT11 148 rfl) (by decide) ?_
              refine j_lcmp_eq (tgt := 292) d_Model_isKeyword_232 d_Model_isKeyword_233 (by decide) (by omega) (by omega) (fun hp37 => ?_) (fun hp37 => ?_)
              · refine j_iconst d_Model_isKeyword_292 ?_
                refine q_goto (tgt := 297) d_Model_isKeyword_293 (by decide) ?_
                refine Run.lv (lv' := [(0, .long (cL (x : Int))), (2, .int (cI u)), (3, .int (cI v))]) (by intro q hq; simp only [List.mem_cons, List.not_mem_nil, or_false] at hq ⊢; rcases hq with rfl | rfl | rfl <;> simp) ?_
                exact J _ (Or.inr (Or.inr (Or.inr (Or.inr (Or.inr (Or.inl ⟨hp32, hp33, hp34, hp35, hp36, hp37, rfl⟩))))))
              · refine q_lload_n d_Model_isKeyword_236 rfl ?_
                refine j_ldc2 (z := 26469) d_Model_isKeyword_237 (inT11 149 rfl) (by decide) ?_
                refine j_lcmp_eq (tgt := 292) d_Model_isKeyword_240 d_Model_isKeyword_241 (by decide) (by omega) (by omega) (fun hp38 => ?_) (fun hp38 => ?_)
                · refine j_iconst d_Model_isKeyword_292 ?_
                  refine q_goto (tgt := 297) d_Model_isKeyword_293 (by decide) ?_
                  refine Run.lv (lv' := [(0, .long (cL (x : Int))), (2, .int (cI u)), (3, .int (cI v))]) (by intro q hq; simp only [List.mem_cons, List.not_mem_nil, or_false] at hq ⊢; rcases hq with rfl | rfl | rfl <;> simp) ?_
                  exact J _ (Or.inr (Or.inr (Or.inr (Or.inr (Or.inr (Or.inr (Or.inl ⟨hp32, hp33, hp34, hp35, hp36, hp37, hp38, rfl⟩)))))))
                · refine q_lload_n d_Model_isKeyword_244 rfl ?_
                  refine j_ldc2 (z := 26484) d_Model_isKeyword_245 (inT11 150 rfl) (by decide) ?_
                  refine j_lcmp_eq (tgt := 292) d_Model_isKeyword_248 d_Model_isKeyword_249 (by decide) (by omega) (by omega) (fun hp39 => ?_) (fun hp39 => ?_)
                  · refine j_iconst d_Model_isKeyword_292 ?_
                    refine q_goto (tgt := 297) d_Model_isKeyword_293 (by decide) ?_
                    refine Run.lv (lv' := [(0, .long (cL (x : Int))), (2, .int (cI u)), (3, .int (cI v))]) (by intro q hq; simp only [List.mem_cons, List.not_mem_nil, or_false] at hq ⊢; rcases hq with rfl | rfl | rfl <;> simp) ?_
                    exact J _ (Or.inr (Or.inr (Or.inr (Or.inr (Or.inr (Or.inr (Or.inr (Or.inl ⟨hp32, hp33, hp34, hp35, hp36, hp37, hp38, hp39, rfl⟩))))))))
                  · refine q_lload_n d_Model_isKeyword_252 rfl ?_
                    refine j_ldc2 (z := 27749) d_Model_isKeyword_253 (inT11 151 rfl) (by decide) ?_
                    refine j_lcmp_eq (tgt := 292) d_Model_isKeyword_256 d_Model_isKeyword_257 (by decide) (by omega) (by omega) (fun hp40 => ?_) (fun hp40 => ?_)
                    · refine j_iconst d_Model_isKeyword_292 ?_
                      refine q_goto (tgt := 297) d_Model_isKeyword_293 (by decide) ?_
                      refine Run.lv (lv' := [(0, .long (cL (x : Int))), (2, .int (cI u)), (3, .int (cI v))]) (by intro q hq; simp only [List.mem_cons, List.not_mem_nil, or_false] at hq ⊢; rcases hq with rfl | rfl | rfl <;> simp) ?_
                      exact J _ (Or.inr (Or.inr (Or.inr (Or.inr (Or.inr (Or.inr (Or.inr (Or.inr (Or.inl ⟨hp32, hp33, hp34, hp35, hp36, hp37, hp38, hp39, hp40, rfl⟩)))))))))
                    · refine q_lload_n d_Model_isKeyword_260 rfl ?_
                      refine j_ldc2 (z := 27764) d_Model_isKeyword_261 (inT11 152 rfl) (by decide) ?_
                      refine j_lcmp_eq (tgt := 292) d_Model_isKeyword_264 d_Model_isKeyword_265 (by decide) (by omega) (by omega) (fun hp41 => ?_) (fun hp41 => ?_)
                      · refine j_iconst d_Model_isKeyword_292 ?_
                        refine q_goto (tgt := 297) d_Model_isKeyword_293 (by decide) ?_
                        refine Run.lv (lv' := [(0, .long (cL (x : Int))), (2, .int (cI u)), (3, .int (cI v))]) (by intro q hq; simp only [List.mem_cons, List.not_mem_nil, or_false] at hq ⊢; rcases hq with rfl | rfl | rfl <;> simp) ?_
                        exact J _ (Or.inr (Or.inr (Or.inr (Or.inr (Or.inr (Or.inr (Or.inr (Or.inr (Or.inr (Or.inl ⟨hp32, hp33, hp34, hp35, hp36, hp37, hp38, hp39, hp40, hp41, rfl⟩))))))))))
                      · refine q_lload_n d_Model_isKeyword_268 rfl ?_
                        refine j_ldc2 (z := 25969) d_Model_isKeyword_269 (inT11 153 rfl) (by decide) ?_
                        refine j_lcmp_eq (tgt := 292) d_Model_isKeyword_272 d_Model_isKeyword_273 (by decide) (by omega) (by omega) (fun hp42 => ?_) (fun hp42 => ?_)
                        · refine j_iconst d_Model_isKeyword_292 ?_
                          refine q_goto (tgt := 297) d_Model_isKeyword_293 (by decide) ?_
                          refine Run.lv (lv' := [(0, .long (cL (x : Int))), (2, .int (cI u)), (3, .int (cI v))]) (by intro q hq; simp only [List.mem_cons, List.not_mem_nil, or_false] at hq ⊢; rcases hq with rfl | rfl | rfl <;> simp) ?_
                          exact J _ (Or.inr (Or.inr (Or.inr (Or.inr (Or.inr (Or.inr (Or.inr (Or.inr (Or.inr (Or.inr (Or.inl ⟨hp32, hp33, hp34, hp35, hp36, hp37, hp38, hp39, hp40, hp41, hp42, rfl⟩)))))))))))
                        · refine q_lload_n d_Model_isKeyword_276 rfl ?_
                          refine j_ldc2 (z := 1953658213) d_Model_isKeyword_277 (inT11 154 rfl) (by decide) ?_
                          refine j_lcmp_eq (tgt := 292) d_Model_isKeyword_280 d_Model_isKeyword_281 (by decide) (by omega) (by omega) (fun hp43 => ?_) (fun hp43 => ?_)
                          · refine j_iconst d_Model_isKeyword_292 ?_
                            refine q_goto (tgt := 297) d_Model_isKeyword_293 (by decide) ?_
                            refine Run.lv (lv' := [(0, .long (cL (x : Int))), (2, .int (cI u)), (3, .int (cI v))]) (by intro q hq; simp only [List.mem_cons, List.not_mem_nil, or_false] at hq ⊢; rcases hq with rfl | rfl | rfl <;> simp) ?_
                            exact J _ (Or.inr (Or.inr (Or.inr (Or.inr (Or.inr (Or.inr (Or.inr (Or.inr (Or.inr (Or.inr (Or.inr (Or.inl ⟨hp32, hp33, hp34, hp35, hp36, hp37, hp38, hp39, hp40, hp41, hp42, hp43, rfl⟩))))))))))))
                          · refine q_lload_n d_Model_isKeyword_284 rfl ?_
                            refine j_ldc2 (z := 439721161573) d_Model_isKeyword_285 (inT11 155 rfl) (by decide) ?_
                            refine j_lcmp_ne (tgt := 296) d_Model_isKeyword_288 d_Model_isKeyword_289 (by decide) (by omega) (by omega) (fun hp44 => ?_) (fun hp44 => ?_)
                            · refine j_iconst d_Model_isKeyword_296 ?_
                              refine Run.lv (lv' := [(0, .long (cL (x : Int))), (2, .int (cI u)), (3, .int (cI v))]) (by intro q hq; simp only [List.mem_cons, List.not_mem_nil, or_false] at hq ⊢; rcases hq with rfl | rfl | rfl <;> simp) ?_
                              exact J _ (Or.inr (Or.inr (Or.inr (Or.inr (Or.inr (Or.inr (Or.inr (Or.inr (Or.inr (Or.inr (Or.inr (Or.inr (Or.inl ⟨hp32, hp33, hp34, hp35, hp36, hp37, hp38, hp39, hp40, hp41, hp42, hp43, hp44, rfl⟩)))))))))))))
                            · refine j_iconst d_Model_isKeyword_292 ?_
                              refine q_goto (tgt := 297) d_Model_isKeyword_293 (by decide) ?_
                              refine Run.lv (lv' := [(0, .long (cL (x : Int))), (2, .int (cI u)), (3, .int (cI v))]) (by intro q hq; simp only [List.mem_cons, List.not_mem_nil, or_false] at hq ⊢; rcases hq with rfl | rfl | rfl <;> simp) ?_
                              exact J _ (Or.inr (Or.inr (Or.inr (Or.inr (Or.inr (Or.inr (Or.inr (Or.inr (Or.inr (Or.inr (Or.inr (Or.inr (Or.inr ⟨hp32, hp33, hp34, hp35, hp36, hp37, hp38, hp39, hp40, hp41, hp42, hp43, hp44, rfl⟩)))))))))))))
  intro w hw
  have hw2 : w = 0 ∨ w = 1 := by omega
  refine q_ireturn d_Model_isKeyword_297 rfl (narrow_z (z01 (by omega))).1 ?_
  refine hQ _ _ _ _ _ ?_
  refine ⟨_, rfl, ?_, rfl, rfl, rfl, rfl⟩
  congr 1
  have hm : x ∈ KW ↔ w = 1 := by
    unfold KW
    simp only [List.mem_cons, List.not_mem_nil, or_false]
    omega
  rcases hw2 with e | e
  · rw [e, bI_f (fun h => by have := hm.mp ((kwF_iff x).mp h); omega)]
  · rw [e, bI_t ((kwF_iff x).mpr (hm.mpr e))]
/-- the tokens at o: the tape's bytes o+1, the number o+2 (its places o+3), the BadText o+4 -/
def TkS (R : MR) (T : SH) (o P : Nat) : Prop := T.1 o = 5 + 1 ∧ R o 0 = some (o + 1) ∧ T.1 (o + 1) = 66 ∧ T.2.1 (o + 1) = 16384 ∧ R o 6 = some (o + 2) ∧ BigS R T (o + 2) ∧ R o 7 = some (o + 4) ∧ T.1 (o + 4) = 4 + 1 ∧ R o 8 = some P
/-- the text on the tape -/
def TxV (I : M32) (o N : Nat) (t : Nat → Nat) : Prop := N ≤ 16384 ∧ ∀ j, j < N → t j < 256 ∧ I (o + 1) j = b8 (t j)
theorem b8_and {n : Nat} (h : n < 256) : b8 n &&& cI 255 = cI n := by
  have := sc_k8 n h
  rw [cI_nI]
  unfold b8
  rw [cI_nI]
  exact this
theorem c_Tokens_byteAt (d : Nat) {o P N k : Nat} {t : Nat → Nat} {I : M32} {L : M64} {R : MR} {T : SH} (hS : TkS R T o P) (hV : TxV I o N t) (hk : k < N) : Call m_Tokens_byteAt y_Tokens_byteAt d 0 0 [.ref o, .int (cI k)] I L R T (rI fun r I' L' R' T' => r = cI (t k) ∧ I' = I ∧ L' = L ∧ R' = R ∧ T' = T) := by
  refine Call.ofRun (by decide) ⟨rfl, rfl⟩ (Nat.le_of_ble_eq_true rfl) ?_
  refine Run.gen fun Q hQ => ?_
  have hN := hV.1
  have hk2 := hV.2 k hk
  refine q_aload_n d_Tokens_byteAt_0 rfl ?_
  refine q_getR d_Tokens_byteAt_1 fl_Tokens_15 hS.1 ⟨rfl, by decide⟩ hS.2.1 ?_
  refine q_iload_n d_Tokens_byteAt_4 rfl ?_
  refine j_bald (j := k) (v := (b8 (t k))) d_Tokens_byteAt_5 hS.2.2.1 hS.2.2.2.1 (by omega) (by omega) (by omega) hk2.2 ?_
  refine j_sipush d_Tokens_byteAt_6 (by decide) ?_
  refine q_iand d_Tokens_byteAt_9 ?_
  refine Run.top (v := .int (cI (t k : Int))) (by congr 1; exact b8_and hk2.1) ?_
  refine q_ireturn d_Tokens_byteAt_10 rfl rfl ?_
  refine hQ _ _ _ _ _ ?_
  exact ⟨_, rfl, rfl, rfl, rfl, rfl, rfl⟩
/-- BadText is thrown, with a fault at a place -/
def badQ (b : Nat) (f p : Int) (I : M32) (L : M64) (R : MR) (T : SH) : QT := fun o I' L' R' T' => o = .threw b ∧ I' = up2 (up2 I b 0 (cI f)) b 1 (cI p) ∧ L' = L ∧ R' = R ∧ T' = T
theorem c_Tokens_fail2 (d : Nat) {o P : Nat} {f p : Int} {I : M32} {L : M64} {R : MR} {T : SH} (hS : TkS R T o P) : Call m_Tokens_fail2 y_Tokens_fail2 d 0 0 [.ref o, .int (cI f), .int (cI p)] I L R T (badQ (o + 4) f p I L R T) := by
  refine Call.ofRun (by decide) ⟨rfl, rfl⟩ (Nat.le_of_ble_eq_true rfl) ?_
  refine Run.gen fun Q hQ => ?_
  refine q_aload_n d_Tokens_fail2_0 rfl ?_
  refine q_getR d_Tokens_fail2_1 fl_Tokens_29 hS.1 ⟨rfl, by decide⟩ hS.2.2.2.2.2.2.1 ?_
  refine q_iload_n d_Tokens_fail2_4 rfl ?_
  refine q_putI d_Tokens_fail2_5 fl_Tokens_43 hS.2.2.2.2.2.2.2.1 ⟨rfl, by decide, rfl, rfl⟩ ?_
  refine q_aload_n d_Tokens_fail2_8 rfl ?_
  refine q_getR d_Tokens_fail2_9 fl_Tokens_29 hS.1 ⟨rfl, by decide⟩ hS.2.2.2.2.2.2.1 ?_
  refine q_iload_n d_Tokens_fail2_12 rfl ?_
  refine q_putI d_Tokens_fail2_13 fl_Tokens_46 hS.2.2.2.2.2.2.2.1 ⟨rfl, by decide, rfl, rfl⟩ ?_
  refine q_aload_n d_Tokens_fail2_16 rfl ?_
  refine q_getR d_Tokens_fail2_17 fl_Tokens_29 hS.1 ⟨rfl, by decide⟩ hS.2.2.2.2.2.2.1 ?_
  exact q_athrow d_Tokens_fail2_20 (thr_out hS.2.2.2.2.2.2.2.1 (by decide) (by unfold Seek; rfl) (hQ _ _ _ _ _ ⟨rfl, rfl, rfl, rfl, rfl⟩))

