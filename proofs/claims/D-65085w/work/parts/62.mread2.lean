/-! ===== 62 THE REFERENCE: an observation, a value is read ===== -/
theorem d_Model_readValue_0 : decode m_Model_readValue.2.1 0 = .ok (.aload_n 0, 1) := by decide +kernel
theorem d_Model_readValue_1 : decode m_Model_readValue.2.1 1 = .ok (.getfield 550, 3) := by decide +kernel
theorem d_Model_readValue_4 : decode m_Model_readValue.2.1 4 = .ok (.iconst 1, 1) := by decide +kernel
theorem d_Model_readValue_5 : decode m_Model_readValue.2.1 5 = .ok (.if_icmp .ne 8, 3) := by decide +kernel
theorem d_Model_readValue_8 : decode m_Model_readValue.2.1 8 = .ok (.bipush 20, 2) := by decide +kernel
theorem d_Model_readValue_10 : decode m_Model_readValue.2.1 10 = .ok (.goto 35, 3) := by decide +kernel
theorem d_Model_readValue_13 : decode m_Model_readValue.2.1 13 = .ok (.aload_n 0, 1) := by decide +kernel
theorem d_Model_readValue_14 : decode m_Model_readValue.2.1 14 = .ok (.getfield 550, 3) := by decide +kernel
theorem d_Model_readValue_17 : decode m_Model_readValue.2.1 17 = .ok (.iconst 4, 1) := by decide +kernel
theorem d_Model_readValue_18 : decode m_Model_readValue.2.1 18 = .ok (.if_icmp .ne 8, 3) := by decide +kernel
theorem d_Model_readValue_21 : decode m_Model_readValue.2.1 21 = .ok (.bipush 21, 2) := by decide +kernel
theorem d_Model_readValue_23 : decode m_Model_readValue.2.1 23 = .ok (.goto 22, 3) := by decide +kernel
theorem d_Model_readValue_26 : decode m_Model_readValue.2.1 26 = .ok (.aload_n 0, 1) := by decide +kernel
theorem d_Model_readValue_27 : decode m_Model_readValue.2.1 27 = .ok (.getfield 550, 3) := by decide +kernel
theorem d_Model_readValue_30 : decode m_Model_readValue.2.1 30 = .ok (.iconst 2, 1) := by decide +kernel
theorem d_Model_readValue_31 : decode m_Model_readValue.2.1 31 = .ok (.if_icmp .ne 13, 3) := by decide +kernel
theorem d_Model_readValue_34 : decode m_Model_readValue.2.1 34 = .ok (.aload_n 0, 1) := by decide +kernel
theorem d_Model_readValue_35 : decode m_Model_readValue.2.1 35 = .ok (.getfield 557, 3) := by decide +kernel
theorem d_Model_readValue_38 : decode m_Model_readValue.2.1 38 = .ok (.invokestatic 615, 3) := by decide +kernel
theorem d_Model_readValue_41 : decode m_Model_readValue.2.1 41 = .ok (.goto 4, 3) := by decide +kernel
theorem d_Model_readValue_44 : decode m_Model_readValue.2.1 44 = .ok (.iconst 0, 1) := by decide +kernel
theorem d_Model_readValue_45 : decode m_Model_readValue.2.1 45 = .ok (.istore 4, 2) := by decide +kernel
theorem d_Model_readValue_47 : decode m_Model_readValue.2.1 47 = .ok (.iload 4, 2) := by decide +kernel
theorem d_Model_readValue_49 : decode m_Model_readValue.2.1 49 = .ok (.ifCond .ne 8, 3) := by decide +kernel
theorem d_Model_readValue_52 : decode m_Model_readValue.2.1 52 = .ok (.aload_n 0, 1) := by decide +kernel
theorem d_Model_readValue_53 : decode m_Model_readValue.2.1 53 = .ok (.invokevirtual 598, 3) := by decide +kernel
theorem d_Model_readValue_56 : decode m_Model_readValue.2.1 56 = .ok (.return_, 1) := by decide +kernel
theorem d_Model_readValue_57 : decode m_Model_readValue.2.1 57 = .ok (.aload_n 0, 1) := by decide +kernel
theorem d_Model_readValue_58 : decode m_Model_readValue.2.1 58 = .ok (.iload 4, 2) := by decide +kernel
theorem d_Model_readValue_60 : decode m_Model_readValue.2.1 60 = .ok (.iload_n 3, 1) := by decide +kernel
theorem d_Model_readValue_61 : decode m_Model_readValue.2.1 61 = .ok (.invokevirtual 601, 3) := by decide +kernel
theorem d_Model_readValue_64 : decode m_Model_readValue.2.1 64 = .ok (.istore 5, 2) := by decide +kernel
theorem d_Model_readValue_66 : decode m_Model_readValue.2.1 66 = .ok (.iload 5, 2) := by decide +kernel
theorem d_Model_readValue_68 : decode m_Model_readValue.2.1 68 = .ok (.iconst (-1), 1) := by decide +kernel
theorem d_Model_readValue_69 : decode m_Model_readValue.2.1 69 = .ok (.if_icmp .ne 4, 3) := by decide +kernel
theorem d_Model_readValue_72 : decode m_Model_readValue.2.1 72 = .ok (.return_, 1) := by decide +kernel
theorem d_Model_readValue_73 : decode m_Model_readValue.2.1 73 = .ok (.aload_n 0, 1) := by decide +kernel
theorem d_Model_readValue_74 : decode m_Model_readValue.2.1 74 = .ok (.iload_n 1, 1) := by decide +kernel
theorem d_Model_readValue_75 : decode m_Model_readValue.2.1 75 = .ok (.iload_n 2, 1) := by decide +kernel
theorem d_Model_readValue_76 : decode m_Model_readValue.2.1 76 = .ok (.iload 5, 2) := by decide +kernel
theorem d_Model_readValue_78 : decode m_Model_readValue.2.1 78 = .ok (.invokevirtual 604, 3) := by decide +kernel
theorem d_Model_readValue_81 : decode m_Model_readValue.2.1 81 = .ok (.iload 4, 2) := by decide +kernel
theorem d_Model_readValue_83 : decode m_Model_readValue.2.1 83 = .ok (.bipush 20, 2) := by decide +kernel
theorem d_Model_readValue_85 : decode m_Model_readValue.2.1 85 = .ok (.if_icmp .ne 14, 3) := by decide +kernel
theorem d_Model_readValue_88 : decode m_Model_readValue.2.1 88 = .ok (.aload_n 0, 1) := by decide +kernel
theorem d_Model_readValue_89 : decode m_Model_readValue.2.1 89 = .ok (.getfield 51, 3) := by decide +kernel
theorem d_Model_readValue_92 : decode m_Model_readValue.2.1 92 = .ok (.iload 5, 2) := by decide +kernel
theorem d_Model_readValue_94 : decode m_Model_readValue.2.1 94 = .ok (.aload_n 0, 1) := by decide +kernel
theorem d_Model_readValue_95 : decode m_Model_readValue.2.1 95 = .ok (.invokevirtual 618, 3) := by decide +kernel
theorem d_Model_readValue_98 : decode m_Model_readValue.2.1 98 = .ok (.iastore, 1) := by decide +kernel
theorem d_Model_readValue_99 : decode m_Model_readValue.2.1 99 = .ok (.iload 4, 2) := by decide +kernel
theorem d_Model_readValue_101 : decode m_Model_readValue.2.1 101 = .ok (.bipush 21, 2) := by decide +kernel
theorem d_Model_readValue_103 : decode m_Model_readValue.2.1 103 = .ok (.if_icmp .ne 14, 3) := by decide +kernel
theorem d_Model_readValue_106 : decode m_Model_readValue.2.1 106 = .ok (.aload_n 0, 1) := by decide +kernel
theorem d_Model_readValue_107 : decode m_Model_readValue.2.1 107 = .ok (.getfield 29, 3) := by decide +kernel
theorem d_Model_readValue_110 : decode m_Model_readValue.2.1 110 = .ok (.iload 5, 2) := by decide +kernel
theorem d_Model_readValue_112 : decode m_Model_readValue.2.1 112 = .ok (.aload_n 0, 1) := by decide +kernel
theorem d_Model_readValue_113 : decode m_Model_readValue.2.1 113 = .ok (.getfield 557, 3) := by decide +kernel
theorem d_Model_readValue_116 : decode m_Model_readValue.2.1 116 = .ok (.lastore, 1) := by decide +kernel
theorem d_Model_readValue_117 : decode m_Model_readValue.2.1 117 = .ok (.aload_n 0, 1) := by decide +kernel
theorem d_Model_readValue_118 : decode m_Model_readValue.2.1 118 = .ok (.invokevirtual 608, 3) := by decide +kernel
theorem d_Model_readValue_121 : decode m_Model_readValue.2.1 121 = .ok (.iload 4, 2) := by decide +kernel
theorem d_Model_readValue_123 : decode m_Model_readValue.2.1 123 = .ok (.bipush 32, 2) := by decide +kernel
theorem d_Model_readValue_125 : decode m_Model_readValue.2.1 125 = .ok (.if_icmp .ne 39, 3) := by decide +kernel
theorem d_Model_readValue_128 : decode m_Model_readValue.2.1 128 = .ok (.aload_n 0, 1) := by decide +kernel
theorem d_Model_readValue_129 : decode m_Model_readValue.2.1 129 = .ok (.iconst 2, 1) := by decide +kernel
theorem d_Model_readValue_130 : decode m_Model_readValue.2.1 130 = .ok (.iload 5, 2) := by decide +kernel
theorem d_Model_readValue_132 : decode m_Model_readValue.2.1 132 = .ok (.iconst 3, 1) := by decide +kernel
theorem d_Model_readValue_133 : decode m_Model_readValue.2.1 133 = .ok (.iload_n 3, 1) := by decide +kernel
theorem d_Model_readValue_134 : decode m_Model_readValue.2.1 134 = .ok (.iconst 1, 1) := by decide +kernel
theorem d_Model_readValue_135 : decode m_Model_readValue.2.1 135 = .ok (.iadd, 1) := by decide +kernel
theorem d_Model_readValue_136 : decode m_Model_readValue.2.1 136 = .ok (.invokevirtual 611, 3) := by decide +kernel
theorem d_Model_readValue_139 : decode m_Model_readValue.2.1 139 = .ok (.aload_n 0, 1) := by decide +kernel
theorem d_Model_readValue_140 : decode m_Model_readValue.2.1 140 = .ok (.iconst 2, 1) := by decide +kernel
theorem d_Model_readValue_141 : decode m_Model_readValue.2.1 141 = .ok (.iload 5, 2) := by decide +kernel
theorem d_Model_readValue_143 : decode m_Model_readValue.2.1 143 = .ok (.iconst 2, 1) := by decide +kernel
theorem d_Model_readValue_144 : decode m_Model_readValue.2.1 144 = .ok (.iload_n 3, 1) := by decide +kernel
theorem d_Model_readValue_145 : decode m_Model_readValue.2.1 145 = .ok (.iconst 1, 1) := by decide +kernel
theorem d_Model_readValue_146 : decode m_Model_readValue.2.1 146 = .ok (.iadd, 1) := by decide +kernel
theorem d_Model_readValue_147 : decode m_Model_readValue.2.1 147 = .ok (.invokevirtual 611, 3) := by decide +kernel
theorem d_Model_readValue_150 : decode m_Model_readValue.2.1 150 = .ok (.aload_n 0, 1) := by decide +kernel
theorem d_Model_readValue_151 : decode m_Model_readValue.2.1 151 = .ok (.iconst 3, 1) := by decide +kernel
theorem d_Model_readValue_152 : decode m_Model_readValue.2.1 152 = .ok (.iload 5, 2) := by decide +kernel
theorem d_Model_readValue_154 : decode m_Model_readValue.2.1 154 = .ok (.iconst 1, 1) := by decide +kernel
theorem d_Model_readValue_155 : decode m_Model_readValue.2.1 155 = .ok (.iload_n 3, 1) := by decide +kernel
theorem d_Model_readValue_156 : decode m_Model_readValue.2.1 156 = .ok (.iconst 1, 1) := by decide +kernel
theorem d_Model_readValue_157 : decode m_Model_readValue.2.1 157 = .ok (.iadd, 1) := by decide +kernel
theorem d_Model_readValue_158 : decode m_Model_readValue.2.1 158 = .ok (.invokevirtual 611, 3) := by decide +kernel
theorem d_Model_readValue_161 : decode m_Model_readValue.2.1 161 = .ok (.goto 114, 3) := by decide +kernel
theorem d_Model_readValue_164 : decode m_Model_readValue.2.1 164 = .ok (.iload 4, 2) := by decide +kernel
theorem d_Model_readValue_166 : decode m_Model_readValue.2.1 166 = .ok (.bipush 24, 2) := by decide +kernel
theorem d_Model_readValue_168 : decode m_Model_readValue.2.1 168 = .ok (.if_icmp .lt 35, 3) := by decide +kernel
theorem d_Model_readValue_171 : decode m_Model_readValue.2.1 171 = .ok (.iload 4, 2) := by decide +kernel
theorem d_Model_readValue_173 : decode m_Model_readValue.2.1 173 = .ok (.bipush 27, 2) := by decide +kernel
theorem d_Model_readValue_175 : decode m_Model_readValue.2.1 175 = .ok (.if_icmp .gt 28, 3) := by decide +kernel
theorem d_Model_readValue_178 : decode m_Model_readValue.2.1 178 = .ok (.aload_n 0, 1) := by decide +kernel
theorem d_Model_readValue_179 : decode m_Model_readValue.2.1 179 = .ok (.iconst 2, 1) := by decide +kernel
theorem d_Model_readValue_180 : decode m_Model_readValue.2.1 180 = .ok (.iload 5, 2) := by decide +kernel
theorem d_Model_readValue_182 : decode m_Model_readValue.2.1 182 = .ok (.iconst 2, 1) := by decide +kernel
theorem d_Model_readValue_183 : decode m_Model_readValue.2.1 183 = .ok (.iload_n 3, 1) := by decide +kernel
theorem d_Model_readValue_184 : decode m_Model_readValue.2.1 184 = .ok (.iconst 1, 1) := by decide +kernel
theorem d_Model_readValue_185 : decode m_Model_readValue.2.1 185 = .ok (.iadd, 1) := by decide +kernel
theorem d_Model_readValue_186 : decode m_Model_readValue.2.1 186 = .ok (.invokevirtual 611, 3) := by decide +kernel
theorem d_Model_readValue_189 : decode m_Model_readValue.2.1 189 = .ok (.aload_n 0, 1) := by decide +kernel
theorem d_Model_readValue_190 : decode m_Model_readValue.2.1 190 = .ok (.iconst 2, 1) := by decide +kernel
theorem d_Model_readValue_191 : decode m_Model_readValue.2.1 191 = .ok (.iload 5, 2) := by decide +kernel
theorem d_Model_readValue_193 : decode m_Model_readValue.2.1 193 = .ok (.iconst 1, 1) := by decide +kernel
theorem d_Model_readValue_194 : decode m_Model_readValue.2.1 194 = .ok (.iload_n 3, 1) := by decide +kernel
theorem d_Model_readValue_195 : decode m_Model_readValue.2.1 195 = .ok (.iconst 1, 1) := by decide +kernel
theorem d_Model_readValue_196 : decode m_Model_readValue.2.1 196 = .ok (.iadd, 1) := by decide +kernel
theorem d_Model_readValue_197 : decode m_Model_readValue.2.1 197 = .ok (.invokevirtual 611, 3) := by decide +kernel
theorem d_Model_readValue_200 : decode m_Model_readValue.2.1 200 = .ok (.goto 75, 3) := by decide +kernel
theorem d_Model_readValue_203 : decode m_Model_readValue.2.1 203 = .ok (.iload 4, 2) := by decide +kernel
theorem d_Model_readValue_205 : decode m_Model_readValue.2.1 205 = .ok (.bipush 23, 2) := by decide +kernel
theorem d_Model_readValue_207 : decode m_Model_readValue.2.1 207 = .ok (.if_icmp .ne 17, 3) := by decide +kernel
theorem d_Model_readValue_210 : decode m_Model_readValue.2.1 210 = .ok (.aload_n 0, 1) := by decide +kernel
theorem d_Model_readValue_211 : decode m_Model_readValue.2.1 211 = .ok (.iconst 2, 1) := by decide +kernel
theorem d_Model_readValue_212 : decode m_Model_readValue.2.1 212 = .ok (.iload 5, 2) := by decide +kernel
theorem d_Model_readValue_214 : decode m_Model_readValue.2.1 214 = .ok (.iconst 1, 1) := by decide +kernel
theorem d_Model_readValue_215 : decode m_Model_readValue.2.1 215 = .ok (.iload_n 3, 1) := by decide +kernel
theorem d_Model_readValue_216 : decode m_Model_readValue.2.1 216 = .ok (.iconst 1, 1) := by decide +kernel
theorem d_Model_readValue_217 : decode m_Model_readValue.2.1 217 = .ok (.iadd, 1) := by decide +kernel
theorem d_Model_readValue_218 : decode m_Model_readValue.2.1 218 = .ok (.invokevirtual 611, 3) := by decide +kernel
theorem d_Model_readValue_221 : decode m_Model_readValue.2.1 221 = .ok (.goto 54, 3) := by decide +kernel
theorem d_Model_readValue_224 : decode m_Model_readValue.2.1 224 = .ok (.iload 4, 2) := by decide +kernel
theorem d_Model_readValue_226 : decode m_Model_readValue.2.1 226 = .ok (.bipush 22, 2) := by decide +kernel
theorem d_Model_readValue_228 : decode m_Model_readValue.2.1 228 = .ok (.if_icmp .eq 10, 3) := by decide +kernel
theorem d_Model_readValue_231 : decode m_Model_readValue.2.1 231 = .ok (.iload 4, 2) := by decide +kernel
theorem d_Model_readValue_233 : decode m_Model_readValue.2.1 233 = .ok (.bipush 28, 2) := by decide +kernel
theorem d_Model_readValue_235 : decode m_Model_readValue.2.1 235 = .ok (.if_icmp .ne 24, 3) := by decide +kernel
theorem d_Model_readValue_238 : decode m_Model_readValue.2.1 238 = .ok (.aload_n 0, 1) := by decide +kernel
theorem d_Model_readValue_239 : decode m_Model_readValue.2.1 239 = .ok (.iconst 4, 1) := by decide +kernel
theorem d_Model_readValue_240 : decode m_Model_readValue.2.1 240 = .ok (.iload 5, 2) := by decide +kernel
theorem d_Model_readValue_242 : decode m_Model_readValue.2.1 242 = .ok (.iconst 2, 1) := by decide +kernel
theorem d_Model_readValue_243 : decode m_Model_readValue.2.1 243 = .ok (.iload_n 3, 1) := by decide +kernel
theorem d_Model_readValue_244 : decode m_Model_readValue.2.1 244 = .ok (.invokevirtual 611, 3) := by decide +kernel
theorem d_Model_readValue_247 : decode m_Model_readValue.2.1 247 = .ok (.aload_n 0, 1) := by decide +kernel
theorem d_Model_readValue_248 : decode m_Model_readValue.2.1 248 = .ok (.iconst 4, 1) := by decide +kernel
theorem d_Model_readValue_249 : decode m_Model_readValue.2.1 249 = .ok (.iload 5, 2) := by decide +kernel
theorem d_Model_readValue_251 : decode m_Model_readValue.2.1 251 = .ok (.iconst 1, 1) := by decide +kernel
theorem d_Model_readValue_252 : decode m_Model_readValue.2.1 252 = .ok (.iload_n 3, 1) := by decide +kernel
theorem d_Model_readValue_253 : decode m_Model_readValue.2.1 253 = .ok (.invokevirtual 611, 3) := by decide +kernel
theorem d_Model_readValue_256 : decode m_Model_readValue.2.1 256 = .ok (.goto 19, 3) := by decide +kernel
theorem d_Model_readValue_259 : decode m_Model_readValue.2.1 259 = .ok (.iload 4, 2) := by decide +kernel
theorem d_Model_readValue_261 : decode m_Model_readValue.2.1 261 = .ok (.bipush 31, 2) := by decide +kernel
theorem d_Model_readValue_263 : decode m_Model_readValue.2.1 263 = .ok (.if_icmp .ne 12, 3) := by decide +kernel
theorem d_Model_readValue_266 : decode m_Model_readValue.2.1 266 = .ok (.aload_n 0, 1) := by decide +kernel
theorem d_Model_readValue_267 : decode m_Model_readValue.2.1 267 = .ok (.iconst 4, 1) := by decide +kernel
theorem d_Model_readValue_268 : decode m_Model_readValue.2.1 268 = .ok (.iload 5, 2) := by decide +kernel
theorem d_Model_readValue_270 : decode m_Model_readValue.2.1 270 = .ok (.iconst 1, 1) := by decide +kernel
theorem d_Model_readValue_271 : decode m_Model_readValue.2.1 271 = .ok (.iload_n 3, 1) := by decide +kernel
theorem d_Model_readValue_272 : decode m_Model_readValue.2.1 272 = .ok (.invokevirtual 611, 3) := by decide +kernel
theorem d_Model_readValue_275 : decode m_Model_readValue.2.1 275 = .ok (.return_, 1) := by decide +kernel
theorem d_Model_readObservation_0 : decode m_Model_readObservation.2.1 0 = .ok (.aload_n 0, 1) := by decide +kernel
theorem d_Model_readObservation_1 : decode m_Model_readObservation.2.1 1 = .ok (.getfield 550, 3) := by decide +kernel
theorem d_Model_readObservation_4 : decode m_Model_readObservation.2.1 4 = .ok (.iconst 2, 1) := by decide +kernel
theorem d_Model_readObservation_5 : decode m_Model_readObservation.2.1 5 = .ok (.if_icmp .ne 13, 3) := by decide +kernel
theorem d_Model_readObservation_8 : decode m_Model_readObservation.2.1 8 = .ok (.aload_n 0, 1) := by decide +kernel
theorem d_Model_readObservation_9 : decode m_Model_readObservation.2.1 9 = .ok (.getfield 557, 3) := by decide +kernel
theorem d_Model_readObservation_12 : decode m_Model_readObservation.2.1 12 = .ok (.invokestatic 621, 3) := by decide +kernel
theorem d_Model_readObservation_15 : decode m_Model_readObservation.2.1 15 = .ok (.goto 4, 3) := by decide +kernel
theorem d_Model_readObservation_18 : decode m_Model_readObservation.2.1 18 = .ok (.iconst 0, 1) := by decide +kernel
theorem d_Model_readObservation_19 : decode m_Model_readObservation.2.1 19 = .ok (.istore 4, 2) := by decide +kernel
theorem d_Model_readObservation_21 : decode m_Model_readObservation.2.1 21 = .ok (.iload 4, 2) := by decide +kernel
theorem d_Model_readObservation_23 : decode m_Model_readObservation.2.1 23 = .ok (.ifCond .ne 8, 3) := by decide +kernel
theorem d_Model_readObservation_26 : decode m_Model_readObservation.2.1 26 = .ok (.aload_n 0, 1) := by decide +kernel
theorem d_Model_readObservation_27 : decode m_Model_readObservation.2.1 27 = .ok (.invokevirtual 598, 3) := by decide +kernel
theorem d_Model_readObservation_30 : decode m_Model_readObservation.2.1 30 = .ok (.return_, 1) := by decide +kernel
theorem d_Model_readObservation_31 : decode m_Model_readObservation.2.1 31 = .ok (.aload_n 0, 1) := by decide +kernel
theorem d_Model_readObservation_32 : decode m_Model_readObservation.2.1 32 = .ok (.iload 4, 2) := by decide +kernel
theorem d_Model_readObservation_34 : decode m_Model_readObservation.2.1 34 = .ok (.iload_n 3, 1) := by decide +kernel
theorem d_Model_readObservation_35 : decode m_Model_readObservation.2.1 35 = .ok (.invokevirtual 601, 3) := by decide +kernel
theorem d_Model_readObservation_38 : decode m_Model_readObservation.2.1 38 = .ok (.istore 5, 2) := by decide +kernel
theorem d_Model_readObservation_40 : decode m_Model_readObservation.2.1 40 = .ok (.iload 5, 2) := by decide +kernel
theorem d_Model_readObservation_42 : decode m_Model_readObservation.2.1 42 = .ok (.iconst (-1), 1) := by decide +kernel
theorem d_Model_readObservation_43 : decode m_Model_readObservation.2.1 43 = .ok (.if_icmp .ne 4, 3) := by decide +kernel
theorem d_Model_readObservation_46 : decode m_Model_readObservation.2.1 46 = .ok (.return_, 1) := by decide +kernel
theorem d_Model_readObservation_47 : decode m_Model_readObservation.2.1 47 = .ok (.aload_n 0, 1) := by decide +kernel
theorem d_Model_readObservation_48 : decode m_Model_readObservation.2.1 48 = .ok (.iload_n 1, 1) := by decide +kernel
theorem d_Model_readObservation_49 : decode m_Model_readObservation.2.1 49 = .ok (.iload_n 2, 1) := by decide +kernel
theorem d_Model_readObservation_50 : decode m_Model_readObservation.2.1 50 = .ok (.iload 5, 2) := by decide +kernel
theorem d_Model_readObservation_52 : decode m_Model_readObservation.2.1 52 = .ok (.invokevirtual 604, 3) := by decide +kernel
theorem d_Model_readObservation_55 : decode m_Model_readObservation.2.1 55 = .ok (.aload_n 0, 1) := by decide +kernel
theorem d_Model_readObservation_56 : decode m_Model_readObservation.2.1 56 = .ok (.invokevirtual 608, 3) := by decide +kernel
theorem d_Model_readObservation_59 : decode m_Model_readObservation.2.1 59 = .ok (.iload 4, 2) := by decide +kernel
theorem d_Model_readObservation_61 : decode m_Model_readObservation.2.1 61 = .ok (.bipush 40, 2) := by decide +kernel
theorem d_Model_readObservation_63 : decode m_Model_readObservation.2.1 63 = .ok (.if_icmp .eq 10, 3) := by decide +kernel
theorem d_Model_readObservation_66 : decode m_Model_readObservation.2.1 66 = .ok (.iload 4, 2) := by decide +kernel
theorem d_Model_readObservation_68 : decode m_Model_readObservation.2.1 68 = .ok (.bipush 41, 2) := by decide +kernel
theorem d_Model_readObservation_70 : decode m_Model_readObservation.2.1 70 = .ok (.if_icmp .ne 28, 3) := by decide +kernel
theorem d_Model_readObservation_73 : decode m_Model_readObservation.2.1 73 = .ok (.aload_n 0, 1) := by decide +kernel
theorem d_Model_readObservation_74 : decode m_Model_readObservation.2.1 74 = .ok (.iconst 3, 1) := by decide +kernel
theorem d_Model_readObservation_75 : decode m_Model_readObservation.2.1 75 = .ok (.iload 5, 2) := by decide +kernel
theorem d_Model_readObservation_77 : decode m_Model_readObservation.2.1 77 = .ok (.iconst 2, 1) := by decide +kernel
theorem d_Model_readObservation_78 : decode m_Model_readObservation.2.1 78 = .ok (.iload_n 3, 1) := by decide +kernel
theorem d_Model_readObservation_79 : decode m_Model_readObservation.2.1 79 = .ok (.iconst 1, 1) := by decide +kernel
theorem d_Model_readObservation_80 : decode m_Model_readObservation.2.1 80 = .ok (.iadd, 1) := by decide +kernel
theorem d_Model_readObservation_81 : decode m_Model_readObservation.2.1 81 = .ok (.invokevirtual 611, 3) := by decide +kernel
theorem d_Model_readObservation_84 : decode m_Model_readObservation.2.1 84 = .ok (.aload_n 0, 1) := by decide +kernel
theorem d_Model_readObservation_85 : decode m_Model_readObservation.2.1 85 = .ok (.iconst 3, 1) := by decide +kernel
theorem d_Model_readObservation_86 : decode m_Model_readObservation.2.1 86 = .ok (.iload 5, 2) := by decide +kernel
theorem d_Model_readObservation_88 : decode m_Model_readObservation.2.1 88 = .ok (.iconst 1, 1) := by decide +kernel
theorem d_Model_readObservation_89 : decode m_Model_readObservation.2.1 89 = .ok (.iload_n 3, 1) := by decide +kernel
theorem d_Model_readObservation_90 : decode m_Model_readObservation.2.1 90 = .ok (.iconst 1, 1) := by decide +kernel
theorem d_Model_readObservation_91 : decode m_Model_readObservation.2.1 91 = .ok (.iadd, 1) := by decide +kernel
theorem d_Model_readObservation_92 : decode m_Model_readObservation.2.1 92 = .ok (.invokevirtual 611, 3) := by decide +kernel
theorem d_Model_readObservation_95 : decode m_Model_readObservation.2.1 95 = .ok (.goto 81, 3) := by decide +kernel
theorem d_Model_readObservation_98 : decode m_Model_readObservation.2.1 98 = .ok (.iload 4, 2) := by decide +kernel
theorem d_Model_readObservation_100 : decode m_Model_readObservation.2.1 100 = .ok (.bipush 42, 2) := by decide +kernel
theorem d_Model_readObservation_102 : decode m_Model_readObservation.2.1 102 = .ok (.if_icmp .ne 17, 3) := by decide +kernel
theorem d_Model_readObservation_105 : decode m_Model_readObservation.2.1 105 = .ok (.aload_n 0, 1) := by decide +kernel
theorem d_Model_readObservation_106 : decode m_Model_readObservation.2.1 106 = .ok (.iconst 3, 1) := by decide +kernel
theorem d_Model_readObservation_107 : decode m_Model_readObservation.2.1 107 = .ok (.iload 5, 2) := by decide +kernel
theorem d_Model_readObservation_109 : decode m_Model_readObservation.2.1 109 = .ok (.iconst 1, 1) := by decide +kernel
theorem d_Model_readObservation_110 : decode m_Model_readObservation.2.1 110 = .ok (.iload_n 3, 1) := by decide +kernel
theorem d_Model_readObservation_111 : decode m_Model_readObservation.2.1 111 = .ok (.iconst 1, 1) := by decide +kernel
theorem d_Model_readObservation_112 : decode m_Model_readObservation.2.1 112 = .ok (.iadd, 1) := by decide +kernel
theorem d_Model_readObservation_113 : decode m_Model_readObservation.2.1 113 = .ok (.invokevirtual 611, 3) := by decide +kernel
theorem d_Model_readObservation_116 : decode m_Model_readObservation.2.1 116 = .ok (.goto 60, 3) := by decide +kernel
theorem d_Model_readObservation_119 : decode m_Model_readObservation.2.1 119 = .ok (.iload 4, 2) := by decide +kernel
theorem d_Model_readObservation_121 : decode m_Model_readObservation.2.1 121 = .ok (.bipush 43, 2) := by decide +kernel
theorem d_Model_readObservation_123 : decode m_Model_readObservation.2.1 123 = .ok (.if_icmp .ne 24, 3) := by decide +kernel
theorem d_Model_readObservation_126 : decode m_Model_readObservation.2.1 126 = .ok (.aload_n 0, 1) := by decide +kernel
theorem d_Model_readObservation_127 : decode m_Model_readObservation.2.1 127 = .ok (.iconst 4, 1) := by decide +kernel
theorem d_Model_readObservation_128 : decode m_Model_readObservation.2.1 128 = .ok (.iload 5, 2) := by decide +kernel
theorem d_Model_readObservation_130 : decode m_Model_readObservation.2.1 130 = .ok (.iconst 2, 1) := by decide +kernel
theorem d_Model_readObservation_131 : decode m_Model_readObservation.2.1 131 = .ok (.iload_n 3, 1) := by decide +kernel
theorem d_Model_readObservation_132 : decode m_Model_readObservation.2.1 132 = .ok (.invokevirtual 611, 3) := by decide +kernel
theorem d_Model_readObservation_135 : decode m_Model_readObservation.2.1 135 = .ok (.aload_n 0, 1) := by decide +kernel
theorem d_Model_readObservation_136 : decode m_Model_readObservation.2.1 136 = .ok (.iconst 4, 1) := by decide +kernel
theorem d_Model_readObservation_137 : decode m_Model_readObservation.2.1 137 = .ok (.iload 5, 2) := by decide +kernel
theorem d_Model_readObservation_139 : decode m_Model_readObservation.2.1 139 = .ok (.iconst 1, 1) := by decide +kernel
theorem d_Model_readObservation_140 : decode m_Model_readObservation.2.1 140 = .ok (.iload_n 3, 1) := by decide +kernel
theorem d_Model_readObservation_141 : decode m_Model_readObservation.2.1 141 = .ok (.invokevirtual 611, 3) := by decide +kernel
theorem d_Model_readObservation_144 : decode m_Model_readObservation.2.1 144 = .ok (.goto 32, 3) := by decide +kernel
theorem d_Model_readObservation_147 : decode m_Model_readObservation.2.1 147 = .ok (.iload 4, 2) := by decide +kernel
theorem d_Model_readObservation_149 : decode m_Model_readObservation.2.1 149 = .ok (.bipush 49, 2) := by decide +kernel
theorem d_Model_readObservation_151 : decode m_Model_readObservation.2.1 151 = .ok (.if_icmp .ge 25, 3) := by decide +kernel
theorem d_Model_readObservation_154 : decode m_Model_readObservation.2.1 154 = .ok (.aload_n 0, 1) := by decide +kernel
theorem d_Model_readObservation_155 : decode m_Model_readObservation.2.1 155 = .ok (.iconst 2, 1) := by decide +kernel
theorem d_Model_readObservation_156 : decode m_Model_readObservation.2.1 156 = .ok (.iload 5, 2) := by decide +kernel
theorem d_Model_readObservation_158 : decode m_Model_readObservation.2.1 158 = .ok (.iconst 2, 1) := by decide +kernel
theorem d_Model_readObservation_159 : decode m_Model_readObservation.2.1 159 = .ok (.iload_n 3, 1) := by decide +kernel
theorem d_Model_readObservation_160 : decode m_Model_readObservation.2.1 160 = .ok (.iconst 1, 1) := by decide +kernel
theorem d_Model_readObservation_161 : decode m_Model_readObservation.2.1 161 = .ok (.iadd, 1) := by decide +kernel
theorem d_Model_readObservation_162 : decode m_Model_readObservation.2.1 162 = .ok (.invokevirtual 611, 3) := by decide +kernel
theorem d_Model_readObservation_165 : decode m_Model_readObservation.2.1 165 = .ok (.aload_n 0, 1) := by decide +kernel
theorem d_Model_readObservation_166 : decode m_Model_readObservation.2.1 166 = .ok (.iconst 2, 1) := by decide +kernel
theorem d_Model_readObservation_167 : decode m_Model_readObservation.2.1 167 = .ok (.iload 5, 2) := by decide +kernel
theorem d_Model_readObservation_169 : decode m_Model_readObservation.2.1 169 = .ok (.iconst 1, 1) := by decide +kernel
theorem d_Model_readObservation_170 : decode m_Model_readObservation.2.1 170 = .ok (.iload_n 3, 1) := by decide +kernel
theorem d_Model_readObservation_171 : decode m_Model_readObservation.2.1 171 = .ok (.iconst 1, 1) := by decide +kernel
theorem d_Model_readObservation_172 : decode m_Model_readObservation.2.1 172 = .ok (.iadd, 1) := by decide +kernel
theorem d_Model_readObservation_173 : decode m_Model_readObservation.2.1 173 = .ok (.invokevirtual 611, 3) := by decide +kernel
theorem d_Model_readObservation_176 : decode m_Model_readObservation.2.1 176 = .ok (.return_, 1) := by decide +kernel
theorem ob_ok {K : Int} : (if 23 ≤ K ∧ K ≤ 33 then K + 17 else 0) = if okS 3 K then kdM K (-1) else 0 := by
  have : (okS 3 K = true) = (23 ≤ K ∧ K ≤ 33) := by unfold okS; rw [if_neg (by decide), if_neg (by decide), decide_eq_true_eq]
  simp only [this]
  split
  · unfold kdM; (repeat' split) <;> omega
  · rfl
theorem vl_ok {K : Int} (hk : 0 ≤ K ∧ K < 100) : (if 12 ≤ K ∧ K ≤ 22 then K + 10 else 0) = if okS 2 K then kdM K (-1) else 0 := by
  have : (okS 2 K = true) = (12 ≤ K ∧ K ≤ 22) := by
    unfold okS
    rw [if_neg (by decide), if_pos rfl, decide_eq_true_eq]
    exact propext ⟨fun h => by omega, fun h => by omega⟩
  simp only [this]
  split
  · unfold kdM; (repeat' split) <;> omega
  · rfl
theorem vl_no {K : Int} (h : ¬ (K = 100 ∨ K = 102 ∨ (12 ≤ K ∧ K ≤ 22))) : okS 2 K = false := by
  unfold okS
  rw [if_neg (by decide), if_pos rfl, decide_eq_false_iff_not]
  exact h
theorem tl_readObservation {d M n dep : Nat} {u s w K : Int} {l : List Wt} {I3 : M32} {L : M64} {R : MR} {T : SH} {Q : QT} (hd : 1 ≤ d) (hM : MdlS M R T) (hwK : 23 ≤ K ∧ K ≤ 33 ∧ w = K + 17) (hA : PA M I3 I3 l) (hl : l.length + 6 < 30000) (fin : ∀ (J : M32) (ql : List Wt), PI n dep (itC K) ql l → ql.length ≤ l.length + 6 → PA M I3 J ql → Q (.returned none) J L R T) :
    Run m_Model_readObservation d 0 0 59 [(0, .ref M), (1, .int (cI u)), (2, .int (cI s)), (3, .int (cI (dep : Int))), (4, .int (cI w)), (5, .int (cI (n : Int)))] [] I3 L R T Q := by
  have hK11 : K = 23 ∨ K = 24 ∨ K = 25 ∨ K = 26 ∨ K = 27 ∨ K = 28 ∨ K = 29 ∨ K = 30 ∨ K = 31 ∨ K = 32 ∨ K = 33 := by omega
  refine q_iload d_Model_readObservation_59 rfl ?_
  refine j_bipush d_Model_readObservation_61 (by decide) ?_
  refine j_icmp_eq (tgt := 73) d_Model_readObservation_63 (by decide) (by omega) (by omega) (fun hp1 => ?_) (fun hp1 => ?_)
  · refine q_aload_n d_Model_readObservation_73 rfl ?_
    refine j_iconst d_Model_readObservation_74 ?_
    refine q_iload d_Model_readObservation_75 rfl ?_
    refine j_iconst d_Model_readObservation_77 ?_
    refine q_iload_n d_Model_readObservation_78 rfl ?_
    refine j_iconst d_Model_readObservation_79 ?_
    refine j_iadd d_Model_readObservation_80 ?_
    refine q_callV (ci := 17) (rc := 0) (rs := 0) (rest := []) d_Model_readObservation_81 ml_Model_611 ok_Model_push rfl hM.1 (by decide) (c_Model_push (d - 1) hM hA (by first | omega | (simp only [List.length_cons]; omega))) rfl rfl (by omega) (Nat.le_of_ble_eq_true rfl) (kv_V (fun J hA => ?_)) kt_V
    refine q_aload_n d_Model_readObservation_84 rfl ?_
    refine j_iconst d_Model_readObservation_85 ?_
    refine q_iload d_Model_readObservation_86 rfl ?_
    refine j_iconst d_Model_readObservation_88 ?_
    refine q_iload_n d_Model_readObservation_89 rfl ?_
    refine j_iconst d_Model_readObservation_90 ?_
    refine j_iadd d_Model_readObservation_91 ?_
    refine q_callV (ci := 17) (rc := 0) (rs := 0) (rest := []) d_Model_readObservation_92 ml_Model_611 ok_Model_push rfl hM.1 (by decide) (c_Model_push (d - 1) hM hA (by first | omega | (simp only [List.length_cons]; omega))) rfl rfl (by omega) (Nat.le_of_ble_eq_true rfl) (kv_V (fun J hA => ?_)) kt_V
    refine q_goto (tgt := 176) d_Model_readObservation_95 (by decide) ?_
    refine q_return d_Model_readObservation_176 rfl ?_
    exact fin _ _ (by rcases hK11 with h | h | h | h | h | h | h | h | h | h | h <;> first | (exfalso; omega) | (rw [h]; simp [PI, itC])) (by first | omega | (simp only [List.length_cons]; omega)) hA
  · refine q_iload d_Model_readObservation_66 rfl ?_
    refine j_bipush d_Model_readObservation_68 (by decide) ?_
    refine j_icmp_ne (tgt := 98) d_Model_readObservation_70 (by decide) (by omega) (by omega) (fun hp2 => ?_) (fun hp2 => ?_)
    · refine q_iload d_Model_readObservation_98 rfl ?_
      refine j_bipush d_Model_readObservation_100 (by decide) ?_
      refine j_icmp_ne (tgt := 119) d_Model_readObservation_102 (by decide) (by omega) (by omega) (fun hp3 => ?_) (fun hp3 => ?_)
      · refine q_iload d_Model_readObservation_119 rfl ?_
        refine j_bipush d_Model_readObservation_121 (by decide) ?_
        refine j_icmp_ne (tgt := 147) d_Model_readObservation_123 (by decide) (by omega) (by omega) (fun hp4 => ?_) (fun hp4 => ?_)
        · refine q_iload d_Model_readObservation_147 rfl ?_
          refine j_bipush d_Model_readObservation_149 (by decide) ?_
          refine j_icmp_ge (tgt := 176) d_Model_readObservation_151 (by decide) (by omega) (by omega) (fun hp5 => ?_) (fun hp5 => ?_)
          · refine q_return d_Model_readObservation_176 rfl ?_
            exact fin _ _ (by rcases hK11 with h | h | h | h | h | h | h | h | h | h | h <;> first | (exfalso; omega) | (rw [h]; simp [PI, itC])) (by first | omega | (simp only [List.length_cons]; omega)) hA
          · refine q_aload_n d_Model_readObservation_154 rfl ?_
            refine j_iconst d_Model_readObservation_155 ?_
            refine q_iload d_Model_readObservation_156 rfl ?_
            refine j_iconst d_Model_readObservation_158 ?_
            refine q_iload_n d_Model_readObservation_159 rfl ?_
            refine j_iconst d_Model_readObservation_160 ?_
            refine j_iadd d_Model_readObservation_161 ?_
            refine q_callV (ci := 17) (rc := 0) (rs := 0) (rest := []) d_Model_readObservation_162 ml_Model_611 ok_Model_push rfl hM.1 (by decide) (c_Model_push (d - 1) hM hA (by first | omega | (simp only [List.length_cons]; omega))) rfl rfl (by omega) (Nat.le_of_ble_eq_true rfl) (kv_V (fun J hA => ?_)) kt_V
            refine q_aload_n d_Model_readObservation_165 rfl ?_
            refine j_iconst d_Model_readObservation_166 ?_
            refine q_iload d_Model_readObservation_167 rfl ?_
            refine j_iconst d_Model_readObservation_169 ?_
            refine q_iload_n d_Model_readObservation_170 rfl ?_
            refine j_iconst d_Model_readObservation_171 ?_
            refine j_iadd d_Model_readObservation_172 ?_
            refine q_callV (ci := 17) (rc := 0) (rs := 0) (rest := []) d_Model_readObservation_173 ml_Model_611 ok_Model_push rfl hM.1 (by decide) (c_Model_push (d - 1) hM hA (by first | omega | (simp only [List.length_cons]; omega))) rfl rfl (by omega) (Nat.le_of_ble_eq_true rfl) (kv_V (fun J hA => ?_)) kt_V
            refine q_return d_Model_readObservation_176 rfl ?_
            exact fin _ _ (by rcases hK11 with h | h | h | h | h | h | h | h | h | h | h <;> first | (exfalso; omega) | (rw [h]; simp [PI, itC])) (by first | omega | (simp only [List.length_cons]; omega)) hA
        · refine q_aload_n d_Model_readObservation_126 rfl ?_
          refine j_iconst d_Model_readObservation_127 ?_
          refine q_iload d_Model_readObservation_128 rfl ?_
          refine j_iconst d_Model_readObservation_130 ?_
          refine q_iload_n d_Model_readObservation_131 rfl ?_
          refine q_callV (ci := 17) (rc := 0) (rs := 0) (rest := []) d_Model_readObservation_132 ml_Model_611 ok_Model_push rfl hM.1 (by decide) (c_Model_push (d - 1) hM hA (by first | omega | (simp only [List.length_cons]; omega))) rfl rfl (by omega) (Nat.le_of_ble_eq_true rfl) (kv_V (fun J hA => ?_)) kt_V
          refine q_aload_n d_Model_readObservation_135 rfl ?_
          refine j_iconst d_Model_readObservation_136 ?_
          refine q_iload d_Model_readObservation_137 rfl ?_
          refine j_iconst d_Model_readObservation_139 ?_
          refine q_iload_n d_Model_readObservation_140 rfl ?_
          refine q_callV (ci := 17) (rc := 0) (rs := 0) (rest := []) d_Model_readObservation_141 ml_Model_611 ok_Model_push rfl hM.1 (by decide) (c_Model_push (d - 1) hM hA (by first | omega | (simp only [List.length_cons]; omega))) rfl rfl (by omega) (Nat.le_of_ble_eq_true rfl) (kv_V (fun J hA => ?_)) kt_V
          refine q_goto (tgt := 176) d_Model_readObservation_144 (by decide) ?_
          refine q_return d_Model_readObservation_176 rfl ?_
          exact fin _ _ (by rcases hK11 with h | h | h | h | h | h | h | h | h | h | h <;> first | (exfalso; omega) | (rw [h]; simp [PI, itC])) (by first | omega | (simp only [List.length_cons]; omega)) hA
      · refine q_aload_n d_Model_readObservation_105 rfl ?_
        refine j_iconst d_Model_readObservation_106 ?_
        refine q_iload d_Model_readObservation_107 rfl ?_
        refine j_iconst d_Model_readObservation_109 ?_
        refine q_iload_n d_Model_readObservation_110 rfl ?_
        refine j_iconst d_Model_readObservation_111 ?_
        refine j_iadd d_Model_readObservation_112 ?_
        refine q_callV (ci := 17) (rc := 0) (rs := 0) (rest := []) d_Model_readObservation_113 ml_Model_611 ok_Model_push rfl hM.1 (by decide) (c_Model_push (d - 1) hM hA (by first | omega | (simp only [List.length_cons]; omega))) rfl rfl (by omega) (Nat.le_of_ble_eq_true rfl) (kv_V (fun J hA => ?_)) kt_V
        refine q_goto (tgt := 176) d_Model_readObservation_116 (by decide) ?_
        refine q_return d_Model_readObservation_176 rfl ?_
        exact fin _ _ (by rcases hK11 with h | h | h | h | h | h | h | h | h | h | h <;> first | (exfalso; omega) | (rw [h]; simp [PI, itC])) (by first | omega | (simp only [List.length_cons]; omega)) hA
    · refine q_aload_n d_Model_readObservation_73 rfl ?_
      refine j_iconst d_Model_readObservation_74 ?_
      refine q_iload d_Model_readObservation_75 rfl ?_
      refine j_iconst d_Model_readObservation_77 ?_
      refine q_iload_n d_Model_readObservation_78 rfl ?_
      refine j_iconst d_Model_readObservation_79 ?_
      refine j_iadd d_Model_readObservation_80 ?_
      refine q_callV (ci := 17) (rc := 0) (rs := 0) (rest := []) d_Model_readObservation_81 ml_Model_611 ok_Model_push rfl hM.1 (by decide) (c_Model_push (d - 1) hM hA (by first | omega | (simp only [List.length_cons]; omega))) rfl rfl (by omega) (Nat.le_of_ble_eq_true rfl) (kv_V (fun J hA => ?_)) kt_V
      refine q_aload_n d_Model_readObservation_84 rfl ?_
      refine j_iconst d_Model_readObservation_85 ?_
      refine q_iload d_Model_readObservation_86 rfl ?_
      refine j_iconst d_Model_readObservation_88 ?_
      refine q_iload_n d_Model_readObservation_89 rfl ?_
      refine j_iconst d_Model_readObservation_90 ?_
      refine j_iadd d_Model_readObservation_91 ?_
      refine q_callV (ci := 17) (rc := 0) (rs := 0) (rest := []) d_Model_readObservation_92 ml_Model_611 ok_Model_push rfl hM.1 (by decide) (c_Model_push (d - 1) hM hA (by first | omega | (simp only [List.length_cons]; omega))) rfl rfl (by omega) (Nat.le_of_ble_eq_true rfl) (kv_V (fun J hA => ?_)) kt_V
      refine q_goto (tgt := 176) d_Model_readObservation_95 (by decide) ?_
      refine q_return d_Model_readObservation_176 rfl ?_
      exact fin _ _ (by rcases hK11 with h | h | h | h | h | h | h | h | h | h | h <;> first | (exfalso; omega) | (rw [h]; simp [PI, itC])) (by first | omega | (simp only [List.length_cons]; omega)) hA
theorem tl_readValue {d M n dep : Nat} {u s w K : Int} {l : List Wt} {I3 : M32} {L : M64} {R : MR} {T : SH} {Q : QT} (hd : 1 ≤ d) (hM : MdlS M R T) (hwK : (K = 100 ∧ w = 20) ∨ (K = 102 ∧ w = 21) ∨ (12 ≤ K ∧ K ≤ 22 ∧ w = K + 10)) (hA : PA M I3 I3 l) (hl : l.length + 6 < 30000) (fin : ∀ (J : M32) (ql : List Wt), PI n dep (itC K) ql l → ql.length ≤ l.length + 6 → PA M I3 J ql → Q (.returned none) J L R T) :
    Run m_Model_readValue d 0 0 121 [(0, .ref M), (1, .int (cI u)), (2, .int (cI s)), (3, .int (cI (dep : Int))), (4, .int (cI w)), (5, .int (cI (n : Int)))] [] I3 L R T Q := by
  have hK11 : K = 100 ∨ K = 102 ∨ K = 12 ∨ K = 13 ∨ K = 14 ∨ K = 15 ∨ K = 16 ∨ K = 17 ∨ K = 18 ∨ K = 19 ∨ K = 20 ∨ K = 21 ∨ K = 22 := by omega
  have hw9 : 20 ≤ w ∧ w ≤ 32 := by omega
  refine q_iload d_Model_readValue_121 rfl ?_
  refine j_bipush d_Model_readValue_123 (by decide) ?_
  refine j_icmp_ne (tgt := 164) d_Model_readValue_125 (by decide) (by omega) (by omega) (fun hp6 => ?_) (fun hp6 => ?_)
  · refine q_iload d_Model_readValue_164 rfl ?_
    refine j_bipush d_Model_readValue_166 (by decide) ?_
    refine j_icmp_lt (tgt := 203) d_Model_readValue_168 (by decide) (by omega) (by omega) (fun hp7 => ?_) (fun hp7 => ?_)
    · refine q_iload d_Model_readValue_203 rfl ?_
      refine j_bipush d_Model_readValue_205 (by decide) ?_
      refine j_icmp_ne (tgt := 224) d_Model_readValue_207 (by decide) (by omega) (by omega) (fun hp8 => ?_) (fun hp8 => ?_)
      · refine q_iload d_Model_readValue_224 rfl ?_
        refine j_bipush d_Model_readValue_226 (by decide) ?_
        refine j_icmp_eq (tgt := 238) d_Model_readValue_228 (by decide) (by omega) (by omega) (fun hp9 => ?_) (fun hp9 => ?_)
        · refine q_aload_n d_Model_readValue_238 rfl ?_
          refine j_iconst d_Model_readValue_239 ?_
          refine q_iload d_Model_readValue_240 rfl ?_
          refine j_iconst d_Model_readValue_242 ?_
          refine q_iload_n d_Model_readValue_243 rfl ?_
          refine q_callV (ci := 17) (rc := 0) (rs := 0) (rest := []) d_Model_readValue_244 ml_Model_611 ok_Model_push rfl hM.1 (by decide) (c_Model_push (d - 1) hM hA (by first | omega | (simp only [List.length_cons]; omega))) rfl rfl (by omega) (Nat.le_of_ble_eq_true rfl) (kv_V (fun J hA => ?_)) kt_V
          refine q_aload_n d_Model_readValue_247 rfl ?_
          refine j_iconst d_Model_readValue_248 ?_
          refine q_iload d_Model_readValue_249 rfl ?_
          refine j_iconst d_Model_readValue_251 ?_
          refine q_iload_n d_Model_readValue_252 rfl ?_
          refine q_callV (ci := 17) (rc := 0) (rs := 0) (rest := []) d_Model_readValue_253 ml_Model_611 ok_Model_push rfl hM.1 (by decide) (c_Model_push (d - 1) hM hA (by first | omega | (simp only [List.length_cons]; omega))) rfl rfl (by omega) (Nat.le_of_ble_eq_true rfl) (kv_V (fun J hA => ?_)) kt_V
          refine q_goto (tgt := 275) d_Model_readValue_256 (by decide) ?_
          refine q_return d_Model_readValue_275 rfl ?_
          exact fin _ _ (by rcases hK11 with h | h | h | h | h | h | h | h | h | h | h | h | h <;> first | (exfalso; omega) | (rw [h]; simp [PI, itC])) (by first | omega | (simp only [List.length_cons]; omega)) hA
        · refine q_iload d_Model_readValue_231 rfl ?_
          refine j_bipush d_Model_readValue_233 (by decide) ?_
          refine j_icmp_ne (tgt := 259) d_Model_readValue_235 (by decide) (by omega) (by omega) (fun hp10 => ?_) (fun hp10 => ?_)
          · refine q_iload d_Model_readValue_259 rfl ?_
            refine j_bipush d_Model_readValue_261 (by decide) ?_
            refine j_icmp_ne (tgt := 275) d_Model_readValue_263 (by decide) (by omega) (by omega) (fun hp11 => ?_) (fun hp11 => ?_)
            · refine q_return d_Model_readValue_275 rfl ?_
              exact fin _ _ (by rcases hK11 with h | h | h | h | h | h | h | h | h | h | h | h | h <;> first | (exfalso; omega) | (rw [h]; simp [PI, itC])) (by first | omega | (simp only [List.length_cons]; omega)) hA
            · refine q_aload_n d_Model_readValue_266 rfl ?_
              refine j_iconst d_Model_readValue_267 ?_
              refine q_iload d_Model_readValue_268 rfl ?_
              refine j_iconst d_Model_readValue_270 ?_
              refine q_iload_n d_Model_readValue_271 rfl ?_
              refine q_callV (ci := 17) (rc := 0) (rs := 0) (rest := []) d_Model_readValue_272 ml_Model_611 ok_Model_push rfl hM.1 (by decide) (c_Model_push (d - 1) hM hA (by first | omega | (simp only [List.length_cons]; omega))) rfl rfl (by omega) (Nat.le_of_ble_eq_true rfl) (kv_V (fun J hA => ?_)) kt_V
              refine q_return d_Model_readValue_275 rfl ?_
              exact fin _ _ (by rcases hK11 with h | h | h | h | h | h | h | h | h | h | h | h | h <;> first | (exfalso; omega) | (rw [h]; simp [PI, itC])) (by first | omega | (simp only [List.length_cons]; omega)) hA
          · refine q_aload_n d_Model_readValue_238 rfl ?_
            refine j_iconst d_Model_readValue_239 ?_
            refine q_iload d_Model_readValue_240 rfl ?_
            refine j_iconst d_Model_readValue_242 ?_
            refine q_iload_n d_Model_readValue_243 rfl ?_
            refine q_callV (ci := 17) (rc := 0) (rs := 0) (rest := []) d_Model_readValue_244 ml_Model_611 ok_Model_push rfl hM.1 (by decide) (c_Model_push (d - 1) hM hA (by first | omega | (simp only [List.length_cons]; omega))) rfl rfl (by omega) (Nat.le_of_ble_eq_true rfl) (kv_V (fun J hA => ?_)) kt_V
            refine q_aload_n d_Model_readValue_247 rfl ?_
            refine j_iconst d_Model_readValue_248 ?_
            refine q_iload d_Model_readValue_249 rfl ?_
            refine j_iconst d_Model_readValue_251 ?_
            refine q_iload_n d_Model_readValue_252 rfl ?_
            refine q_callV (ci := 17) (rc := 0) (rs := 0) (rest := []) d_Model_readValue_253 ml_Model_611 ok_Model_push rfl hM.1 (by decide) (c_Model_push (d - 1) hM hA (by first | omega | (simp only [List.length_cons]; omega))) rfl rfl (by omega) (Nat.le_of_ble_eq_true rfl) (kv_V (fun J hA => ?_)) kt_V
            refine q_goto (tgt := 275) d_Model_readValue_256 (by decide) ?_
            refine q_return d_Model_readValue_275 rfl ?_
            exact fin _ _ (by rcases hK11 with h | h | h | h | h | h | h | h | h | h | h | h | h <;> first | (exfalso; omega) | (rw [h]; simp [PI, itC])) (by first | omega | (simp only [List.length_cons]; omega)) hA
      · refine q_aload_n d_Model_readValue_210 rfl ?_
        refine j_iconst d_Model_readValue_211 ?_
        refine q_iload d_Model_readValue_212 rfl ?_
        refine j_iconst d_Model_readValue_214 ?_
        refine q_iload_n d_Model_readValue_215 rfl ?_
        refine j_iconst d_Model_readValue_216 ?_
        refine j_iadd d_Model_readValue_217 ?_
        refine q_callV (ci := 17) (rc := 0) (rs := 0) (rest := []) d_Model_readValue_218 ml_Model_611 ok_Model_push rfl hM.1 (by decide) (c_Model_push (d - 1) hM hA (by first | omega | (simp only [List.length_cons]; omega))) rfl rfl (by omega) (Nat.le_of_ble_eq_true rfl) (kv_V (fun J hA => ?_)) kt_V
        refine q_goto (tgt := 275) d_Model_readValue_221 (by decide) ?_
        refine q_return d_Model_readValue_275 rfl ?_
        exact fin _ _ (by rcases hK11 with h | h | h | h | h | h | h | h | h | h | h | h | h <;> first | (exfalso; omega) | (rw [h]; simp [PI, itC])) (by first | omega | (simp only [List.length_cons]; omega)) hA
    · refine q_iload d_Model_readValue_171 rfl ?_
      refine j_bipush d_Model_readValue_173 (by decide) ?_
      refine j_icmp_gt (tgt := 203) d_Model_readValue_175 (by decide) (by omega) (by omega) (fun hp12 => ?_) (fun hp12 => ?_)
      · refine q_iload d_Model_readValue_203 rfl ?_
        refine j_bipush d_Model_readValue_205 (by decide) ?_
        refine j_icmp_ne (tgt := 224) d_Model_readValue_207 (by decide) (by omega) (by omega) (fun hp13 => ?_) (fun hp13 => ?_)
        · refine q_iload d_Model_readValue_224 rfl ?_
          refine j_bipush d_Model_readValue_226 (by decide) ?_
          refine j_icmp_eq (tgt := 238) d_Model_readValue_228 (by decide) (by omega) (by omega) (fun hp14 => ?_) (fun hp14 => ?_)
          · refine q_aload_n d_Model_readValue_238 rfl ?_
            refine j_iconst d_Model_readValue_239 ?_
            refine q_iload d_Model_readValue_240 rfl ?_
            refine j_iconst d_Model_readValue_242 ?_
            refine q_iload_n d_Model_readValue_243 rfl ?_
            refine q_callV (ci := 17) (rc := 0) (rs := 0) (rest := []) d_Model_readValue_244 ml_Model_611 ok_Model_push rfl hM.1 (by decide) (c_Model_push (d - 1) hM hA (by first | omega | (simp only [List.length_cons]; omega))) rfl rfl (by omega) (Nat.le_of_ble_eq_true rfl) (kv_V (fun J hA => ?_)) kt_V
            refine q_aload_n d_Model_readValue_247 rfl ?_
            refine j_iconst d_Model_readValue_248 ?_
            refine q_iload d_Model_readValue_249 rfl ?_
            refine j_iconst d_Model_readValue_251 ?_
            refine q_iload_n d_Model_readValue_252 rfl ?_
            refine q_callV (ci := 17) (rc := 0) (rs := 0) (rest := []) d_Model_readValue_253 ml_Model_611 ok_Model_push rfl hM.1 (by decide) (c_Model_push (d - 1) hM hA (by first | omega | (simp only [List.length_cons]; omega))) rfl rfl (by omega) (Nat.le_of_ble_eq_true rfl) (kv_V (fun J hA => ?_)) kt_V
            refine q_goto (tgt := 275) d_Model_readValue_256 (by decide) ?_
            refine q_return d_Model_readValue_275 rfl ?_
            exact fin _ _ (by rcases hK11 with h | h | h | h | h | h | h | h | h | h | h | h | h <;> first | (exfalso; omega) | (rw [h]; simp [PI, itC])) (by first | omega | (simp only [List.length_cons]; omega)) hA
          · refine q_iload d_Model_readValue_231 rfl ?_
            refine j_bipush d_Model_readValue_233 (by decide) ?_
            refine j_icmp_ne (tgt := 259) d_Model_readValue_235 (by decide) (by omega) (by omega) (fun hp15 => ?_) (fun hp15 => ?_)
            · refine q_iload d_Model_readValue_259 rfl ?_
              refine j_bipush d_Model_readValue_261 (by decide) ?_
              refine j_icmp_ne (tgt := 275) d_Model_readValue_263 (by decide) (by omega) (by omega) (fun hp16 => ?_) (fun hp16 => ?_)
              · refine q_return d_Model_readValue_275 rfl ?_
                exact fin _ _ (by rcases hK11 with h | h | h | h | h | h | h | h | h | h | h | h | h <;> first | (exfalso; omega) | (rw [h]; simp [PI, itC])) (by first | omega | (simp only [List.length_cons]; omega)) hA
              · refine q_aload_n d_Model_readValue_266 rfl ?_
                refine j_iconst d_Model_readValue_267 ?_
                refine q_iload d_Model_readValue_268 rfl ?_
                refine j_iconst d_Model_readValue_270 ?_
                refine q_iload_n d_Model_readValue_271 rfl ?_
                refine q_callV (ci := 17) (rc := 0) (rs := 0) (rest := []) d_Model_readValue_272 ml_Model_611 ok_Model_push rfl hM.1 (by decide) (c_Model_push (d - 1) hM hA (by first | omega | (simp only [List.length_cons]; omega))) rfl rfl (by omega) (Nat.le_of_ble_eq_true rfl) (kv_V (fun J hA => ?_)) kt_V
                refine q_return d_Model_readValue_275 rfl ?_
                exact fin _ _ (by rcases hK11 with h | h | h | h | h | h | h | h | h | h | h | h | h <;> first | (exfalso; omega) | (rw [h]; simp [PI, itC])) (by first | omega | (simp only [List.length_cons]; omega)) hA
            · refine q_aload_n d_Model_readValue_238 rfl ?_
              refine j_iconst d_Model_readValue_239 ?_
              refine q_iload d_Model_readValue_240 rfl ?_
              refine j_iconst d_Model_readValue_242 ?_
              refine q_iload_n d_Model_readValue_243 rfl ?_
              refine q_callV (ci := 17) (rc := 0) (rs := 0) (rest := []) d_Model_readValue_244 ml_Model_611 ok_Model_push rfl hM.1 (by decide) (c_Model_push (d - 1) hM hA (by first | omega | (simp only [List.length_cons]; omega))) rfl rfl (by omega) (Nat.le_of_ble_eq_true rfl) (kv_V (fun J hA => ?_)) kt_V
              refine q_aload_n d_Model_readValue_247 rfl ?_
              refine j_iconst d_Model_readValue_248 ?_
              refine q_iload d_Model_readValue_249 rfl ?_
              refine j_iconst d_Model_readValue_251 ?_
              refine q_iload_n d_Model_readValue_252 rfl ?_
              refine q_callV (ci := 17) (rc := 0) (rs := 0) (rest := []) d_Model_readValue_253 ml_Model_611 ok_Model_push rfl hM.1 (by decide) (c_Model_push (d - 1) hM hA (by first | omega | (simp only [List.length_cons]; omega))) rfl rfl (by omega) (Nat.le_of_ble_eq_true rfl) (kv_V (fun J hA => ?_)) kt_V
              refine q_goto (tgt := 275) d_Model_readValue_256 (by decide) ?_
              refine q_return d_Model_readValue_275 rfl ?_
              exact fin _ _ (by rcases hK11 with h | h | h | h | h | h | h | h | h | h | h | h | h <;> first | (exfalso; omega) | (rw [h]; simp [PI, itC])) (by first | omega | (simp only [List.length_cons]; omega)) hA
        · refine q_aload_n d_Model_readValue_210 rfl ?_
          refine j_iconst d_Model_readValue_211 ?_
          refine q_iload d_Model_readValue_212 rfl ?_
          refine j_iconst d_Model_readValue_214 ?_
          refine q_iload_n d_Model_readValue_215 rfl ?_
          refine j_iconst d_Model_readValue_216 ?_
          refine j_iadd d_Model_readValue_217 ?_
          refine q_callV (ci := 17) (rc := 0) (rs := 0) (rest := []) d_Model_readValue_218 ml_Model_611 ok_Model_push rfl hM.1 (by decide) (c_Model_push (d - 1) hM hA (by first | omega | (simp only [List.length_cons]; omega))) rfl rfl (by omega) (Nat.le_of_ble_eq_true rfl) (kv_V (fun J hA => ?_)) kt_V
          refine q_goto (tgt := 275) d_Model_readValue_221 (by decide) ?_
          refine q_return d_Model_readValue_275 rfl ?_
          exact fin _ _ (by rcases hK11 with h | h | h | h | h | h | h | h | h | h | h | h | h <;> first | (exfalso; omega) | (rw [h]; simp [PI, itC])) (by first | omega | (simp only [List.length_cons]; omega)) hA
      · refine q_aload_n d_Model_readValue_178 rfl ?_
        refine j_iconst d_Model_readValue_179 ?_
        refine q_iload d_Model_readValue_180 rfl ?_
        refine j_iconst d_Model_readValue_182 ?_
        refine q_iload_n d_Model_readValue_183 rfl ?_
        refine j_iconst d_Model_readValue_184 ?_
        refine j_iadd d_Model_readValue_185 ?_
        refine q_callV (ci := 17) (rc := 0) (rs := 0) (rest := []) d_Model_readValue_186 ml_Model_611 ok_Model_push rfl hM.1 (by decide) (c_Model_push (d - 1) hM hA (by first | omega | (simp only [List.length_cons]; omega))) rfl rfl (by omega) (Nat.le_of_ble_eq_true rfl) (kv_V (fun J hA => ?_)) kt_V
        refine q_aload_n d_Model_readValue_189 rfl ?_
        refine j_iconst d_Model_readValue_190 ?_
        refine q_iload d_Model_readValue_191 rfl ?_
        refine j_iconst d_Model_readValue_193 ?_
        refine q_iload_n d_Model_readValue_194 rfl ?_
        refine j_iconst d_Model_readValue_195 ?_
        refine j_iadd d_Model_readValue_196 ?_
        refine q_callV (ci := 17) (rc := 0) (rs := 0) (rest := []) d_Model_readValue_197 ml_Model_611 ok_Model_push rfl hM.1 (by decide) (c_Model_push (d - 1) hM hA (by first | omega | (simp only [List.length_cons]; omega))) rfl rfl (by omega) (Nat.le_of_ble_eq_true rfl) (kv_V (fun J hA => ?_)) kt_V
        refine q_goto (tgt := 275) d_Model_readValue_200 (by decide) ?_
        refine q_return d_Model_readValue_275 rfl ?_
        exact fin _ _ (by rcases hK11 with h | h | h | h | h | h | h | h | h | h | h | h | h <;> first | (exfalso; omega) | (rw [h]; simp [PI, itC])) (by first | omega | (simp only [List.length_cons]; omega)) hA
  · refine q_aload_n d_Model_readValue_128 rfl ?_
    refine j_iconst d_Model_readValue_129 ?_
    refine q_iload d_Model_readValue_130 rfl ?_
    refine j_iconst d_Model_readValue_132 ?_
    refine q_iload_n d_Model_readValue_133 rfl ?_
    refine j_iconst d_Model_readValue_134 ?_
    refine j_iadd d_Model_readValue_135 ?_
    refine q_callV (ci := 17) (rc := 0) (rs := 0) (rest := []) d_Model_readValue_136 ml_Model_611 ok_Model_push rfl hM.1 (by decide) (c_Model_push (d - 1) hM hA (by first | omega | (simp only [List.length_cons]; omega))) rfl rfl (by omega) (Nat.le_of_ble_eq_true rfl) (kv_V (fun J hA => ?_)) kt_V
    refine q_aload_n d_Model_readValue_139 rfl ?_
    refine j_iconst d_Model_readValue_140 ?_
    refine q_iload d_Model_readValue_141 rfl ?_
    refine j_iconst d_Model_readValue_143 ?_
    refine q_iload_n d_Model_readValue_144 rfl ?_
    refine j_iconst d_Model_readValue_145 ?_
    refine j_iadd d_Model_readValue_146 ?_
    refine q_callV (ci := 17) (rc := 0) (rs := 0) (rest := []) d_Model_readValue_147 ml_Model_611 ok_Model_push rfl hM.1 (by decide) (c_Model_push (d - 1) hM hA (by first | omega | (simp only [List.length_cons]; omega))) rfl rfl (by omega) (Nat.le_of_ble_eq_true rfl) (kv_V (fun J hA => ?_)) kt_V
    refine q_aload_n d_Model_readValue_150 rfl ?_
    refine j_iconst d_Model_readValue_151 ?_
    refine q_iload d_Model_readValue_152 rfl ?_
    refine j_iconst d_Model_readValue_154 ?_
    refine q_iload_n d_Model_readValue_155 rfl ?_
    refine j_iconst d_Model_readValue_156 ?_
    refine j_iadd d_Model_readValue_157 ?_
    refine q_callV (ci := 17) (rc := 0) (rs := 0) (rest := []) d_Model_readValue_158 ml_Model_611 ok_Model_push rfl hM.1 (by decide) (c_Model_push (d - 1) hM hA (by first | omega | (simp only [List.length_cons]; omega))) rfl rfl (by omega) (Nat.le_of_ble_eq_true rfl) (kv_V (fun J hA => ?_)) kt_V
    refine q_goto (tgt := 275) d_Model_readValue_161 (by decide) ?_
    refine q_return d_Model_readValue_275 rfl ?_
    exact fin _ _ (by rcases hK11 with h | h | h | h | h | h | h | h | h | h | h | h | h <;> first | (exfalso; omega) | (rw [h]; simp [PI, itC])) (by first | omega | (simp only [List.length_cons]; omega)) hA
theorem lkI_5 {M c j : Nat} {u s : Int} {I : M32} : lkI M I u s c (M + 5) j = I (M + 5) j := by
  unfold lkI
  split
  · exact up2_a _ _ _ (by omega)
  · split
    · exact up2_a _ _ _ (by omega)
    · split
      · exact up2_a _ _ _ (by omega)
      · exact up2_a _ _ _ (by omega)
theorem c_Model_readObservation (d : Nat) {M N a n g dep tp : Nat} {u s : Int} {t : Nat → Nat} {l : List Wt} {I : M32} {L : M64} {R : MR} {T : SH} (hd : 2 ≤ d) (hM : MdlS M R T) (hT : TH M N a t I L) (hn : I M 37 = cI n) (hg : I M 36 = cI g) (hgn : g ≤ n) (hn5 : n < 5100) (hF : I M 17 = cI 0) (hA : PileV I M l) (hw0 : I M 43 = cI l.length) (hl : l.length + 6 < 30000) (hu : -1 ≤ u) (hun : u < n) (hs : inI s) (hdp : dep < 1000) (htp : I M 7 = cI tp) :
    Call m_Model_readObservation y_Model_readObservation d 0 0 [.ref M, .int (cI u), .int (cI s), .int (cI dep)] I L R T (rV fun I' L' R' T' => rdQ M n g dep tp u s 3 (tk (tkP t N) a) (tb (tkP t N) a) (te (tkP t N) a) (tx (tkP t N) a) (tv (tkP t N) a) l (I M 8) I L I' L' ∧ R' = R ∧ T' = T) := by
  refine Call.ofRun (by decide) ⟨rfl, rfl⟩ (Nat.le_of_ble_eq_true rfl) ?_
  refine Run.gen fun Q hQ => ?_
  obtain ⟨hok0, h12, h13, h14, h15, h16⟩ := id hT
  have hok : TokR t N a (tb (tkP t N) a) (te (tkP t N) a) (tk (tkP t N) a) (tx (tkP t N) a) (tv (tkP t N) a) := hok0
  have hkd := hok.kd
  have hx63 := fun (_ : Unit) => hok.x63
  have hkw := fun (_ : Unit) => hok.kw
  replace h16 : Unit → _ := fun _ => h16
  generalize hK : tk (tkP t N) a = K at *
  generalize hX : tx (tkP t N) a = x at *
  generalize tb (tkP t N) a = b at *
  generalize te (tkP t N) a = e at *
  generalize tv (tkP t N) a = v at *
  have hki : inI (tkc K) := tkc_i
  have main : ∀ (w : Int), w = (if okS 3 K then kdM K (-1) else 0) → Run m_Model_readObservation d 0 0 19 [(0, .ref M), (1, .int (cI u)), (2, .int (cI s)), (3, .int (cI (dep : Int)))] [.int (cI w)] I L R T Q := by
    intro w hw
    by_cases ho : okS 3 K = true
    · have hwK : 23 ≤ K ∧ K ≤ 33 ∧ w = K + 17 := by
        rw [if_pos ho] at hw
        unfold okS at ho
        rw [if_neg (by decide), if_neg (by decide), decide_eq_true_eq] at ho
        refine ⟨ho.1, ho.2, ?_⟩
        rw [hw]; unfold kdM; (repeat' split) <;> omega
      have hwk : w = kdM K (-1) := by rw [hw, if_pos ho]
      refine q_istore (lv' := [(4, .int (cI w)), (0, .ref M), (1, .int (cI u)), (2, .int (cI s)), (3, .int (cI (dep : Int)))]) d_Model_readObservation_19 (by decide) rfl ?_
      refine q_iload d_Model_readObservation_21 rfl ?_
      refine j_if_ne (tgt := 31) d_Model_readObservation_23 (by decide) (by omega) (fun hx => ?_) (fun hx => by exfalso; omega)
      refine q_aload_n d_Model_readObservation_31 rfl ?_
      refine q_iload d_Model_readObservation_32 rfl ?_
      refine q_iload_n d_Model_readObservation_34 rfl ?_
      refine q_callV (ci := 17) (rc := 0) (rs := 0) (rest := []) d_Model_readObservation_35 ml_Model_601 ok_Model_node rfl hM.1 (by decide) (c_Model_node (d - 1) (by omega) hM hn hg hgn hn5 (by omega) hF) rfl rfl (by omega) (Nat.le_of_ble_eq_true rfl) (kr_I (fun r I1 L1 R1 T1 h => ?_)) kt_I
      obtain ⟨h, rfl, rfl⟩ := h
      rcases h with ⟨hb, rfl, hI1, hL1⟩ | ⟨hb, rfl, hnd, hI37, hFx, hFl⟩
      · skip
        refine q_istore (lv' := [(5, .int (cI (-1))), (4, .int (cI w)), (0, .ref M), (1, .int (cI u)), (2, .int (cI s)), (3, .int (cI (dep : Int)))]) d_Model_readObservation_38 (by decide) rfl ?_
        refine q_iload d_Model_readObservation_40 rfl ?_
        refine j_iconst d_Model_readObservation_42 ?_
        refine j_icmp_ne (tgt := 47) d_Model_readObservation_43 (by decide) (by omega) (by omega) (fun hx => by exfalso; omega) (fun hx => ?_)
        refine q_return d_Model_readObservation_46 rfl ?_
        refine hQ _ _ _ _ _ ?_
        exact ⟨rfl, Or.inr (Or.inl ⟨ho, by omega, by rw [hI1, up2_k _ _ _ (by decide), up2_s], by rw [hI1, up2_s]; exact h14, by rw [hI1]; exact (Fx.up ⟨rfl, Or.inl rfl⟩).tu ⟨rfl, Or.inr rfl⟩, hL1⟩), rfl, rfl⟩
      · skip
        refine q_istore (lv' := [(5, .int (cI (n : Int))), (4, .int (cI w)), (0, .ref M), (1, .int (cI u)), (2, .int (cI s)), (3, .int (cI (dep : Int)))]) d_Model_readObservation_38 (by decide) rfl ?_
        refine q_iload d_Model_readObservation_40 rfl ?_
        refine j_iconst d_Model_readObservation_42 ?_
        refine j_icmp_ne (tgt := 47) d_Model_readObservation_43 (by decide) (by omega) (by omega) (fun hx => ?_) (fun hx => by exfalso; omega)
        refine q_aload_n d_Model_readObservation_47 rfl ?_
        refine q_iload_n d_Model_readObservation_48 rfl ?_
        refine q_iload_n d_Model_readObservation_49 rfl ?_
        refine q_iload d_Model_readObservation_50 rfl ?_
        refine q_callV (ci := 17) (rc := 0) (rs := 0) (rest := []) d_Model_readObservation_52 ml_Model_604 ok_Model_link rfl hM.1 (by decide) (c_Model_link (d - 1) (c := (n : Int)) hM hu (by omega) hs) rfl rfl (by omega) (Nat.le_of_ble_eq_true rfl) (kp_V ?_) kt_V
        have hb2 : ¬ (100 < dep ∨ n - g = 1000) := by omega
        generalize hI2 : lkI M I1 u s (n : Int) = I2
        have hF2 : FF M [37, 38] I I2 := by rw [← hI2]; exact (FF.of hFx fun k h => by obtain rfl : k = 37 := (by omega); decide).tr (lkI_f.mo (by decide))
        have hP2 : ∀ a k, M + 21 ≤ a → a ≤ M + 24 → I2 a k = I a k := fun a k e1 e2 => by rw [← hI2, lkI_p _ _ e1, hFx _ _ (by omega)]
        refine q_aload_n d_Model_readObservation_55 rfl ?_
        refine q_callV (ci := 17) (rc := 0) (rs := 0) (rest := []) d_Model_readObservation_56 ml_Model_608 ok_Model_use rfl hM.1 (by decide) (c_Model_use (d - 1) hM) rfl rfl (by omega) (Nat.le_of_ble_eq_true rfl) (kp_V ?_) kt_V
        generalize hI3 : (up2 I2 M 12 (I2 M 15)) = I3
        have hF3 : Fx (S3 M n tp) I2 I3 := by rw [← hI3]; exact Fx.up (Or.inl ⟨rfl, by omega⟩)
        have hA : PA M I3 I3 l := ⟨hA.fx fun a k e1 e2 _ => by rw [hF3 _ _ (by omega), hP2 _ _ e1 e2], by rw [← hI3, up2_k _ _ _ (by decide), hF2 _ (by decide)]; exact hw0, Fx.rf⟩
        have fin : ∀ (J : M32) (ql : List Wt), PI n dep (itC K) ql l → ql.length ≤ l.length + 6 → PA M I3 J ql → Q (.returned none) J L1 R1 T1 := fun J ql h1 h2 h3 => hQ _ _ _ _ _ ⟨rfl, rd_fin ho hb2 (by rw [← hwk]; exact hnd) hI37 hFx hFl hu hun (by rw [hI2]; exact hF3) (by rw [← hI3, up2_s, hF2 _ (by decide)]; exact h15) Fx.rf (by rw [if_neg (by omega)]; exact hnd.2.2.2.2.2.1) (by rw [← hI3, up2_k _ _ _ (by decide), hF2 _ (by decide)]; exact htp) (fun e9 => by omega) (fun _ => rfl) (by rw [← hI3, up2_k _ _ _ (by decide), hF2 _ (by decide)]) h1 h3 h2, rfl, rfl⟩
        refine Run.lv (lv' := [(0, .ref M), (1, .int (cI u)), (2, .int (cI s)), (3, .int (cI (dep : Int))), (4, .int (cI w)), (5, .int (cI (n : Int)))]) (by intro q hq; simp only [List.mem_cons, List.not_mem_nil, or_false] at hq ⊢; rcases hq with rfl | rfl | rfl | rfl | rfl | rfl <;> simp) ?_
        exact tl_readObservation (d := d) (by omega) hM hwK hA (by omega) fin
    · have hwz : w = 0 := by rw [hw, if_neg ho]
      subst hwz
      refine q_istore (lv' := [(4, .int (cI 0)), (0, .ref M), (1, .int (cI u)), (2, .int (cI s)), (3, .int (cI (dep : Int)))]) d_Model_readObservation_19 (by decide) rfl ?_
      refine q_iload d_Model_readObservation_21 rfl ?_
      refine j_if_ne (tgt := 31) d_Model_readObservation_23 (by decide) (by omega) (fun hx => by exfalso; omega) (fun hx => ?_)
      refine q_aload_n d_Model_readObservation_26 rfl ?_
      refine q_callV (ci := 17) (rc := 0) (rs := 0) (rest := []) d_Model_readObservation_27 ml_Model_598 ok_Model_failToken rfl hM.1 (by decide) (c_Model_failToken (d - 1) (by omega) hM hF (by decide) h13 hki) rfl rfl (by omega) (Nat.le_of_ble_eq_true rfl) (kr_V (fun I1 L1 R1 T1 h => ?_)) kt_V
      obtain ⟨e1, e2, e3, e4⟩ := h
      refine q_return d_Model_readObservation_30 rfl ?_
      refine hQ _ _ _ _ _ ?_
      exact ⟨rfl, Or.inl ⟨by simpa using ho, by rw [e1, if_pos rfl, up2_k _ _ _ (by decide), up2_s, fkc hkd]; rfl, by rw [e1, if_pos rfl, up2_s]; exact h14, by rw [e1, if_pos rfl]; exact (Fx.up ⟨rfl, Or.inl rfl⟩).tu ⟨rfl, Or.inr rfl⟩, e2⟩, e3, e4⟩
  by_cases hk : 0 ≤ K ∧ K < 100
  · have ht2 : tkc K = 2 := (tkc_2 hkd).mpr hk
    have hX6 := h16 () (Or.inl hk)
    refine q_aload_n d_Model_readObservation_0 rfl ?_
    refine j_getI (v := (cI (tkc K))) d_Model_readObservation_1 fl_Model_550 hM.1 ⟨rfl, by decide⟩ h13 ?_
    refine j_iconst d_Model_readObservation_4 ?_
    refine j_icmp_ne (tgt := 18) d_Model_readObservation_5 (by decide) (by omega) (by omega) (fun hx => by exfalso; omega) (fun hx => ?_)
    refine q_aload_n d_Model_readObservation_8 rfl ?_
    refine j_getL (v := (cL (x : Int))) d_Model_readObservation_9 fl_Model_557 hM.1 ⟨rfl, by decide⟩ hX6 ?_
    refine q_callS (rc := 0) (rs := 0) (rest := []) d_Model_readObservation_12 ml_Model_621 ok_Model_observationOf (c_Model_observationOf (d - 1) (hx63 () (Or.inl hk)).1) rfl rfl (by omega) (Nat.le_of_ble_eq_true rfl) (kp_I ?_) kt_I
    refine q_goto (tgt := 19) d_Model_readObservation_15 (by decide) ?_
    exact main _ (by rw [obF_kw, (hkw () hk).1]; exact ob_ok)
  · have ht2 : tkc K ≠ 2 := fun q => hk ((tkc_2 hkd).mp q)
    refine q_aload_n d_Model_readObservation_0 rfl ?_
    refine j_getI (v := (cI (tkc K))) d_Model_readObservation_1 fl_Model_550 hM.1 ⟨rfl, by decide⟩ h13 ?_
    refine j_iconst d_Model_readObservation_4 ?_
    refine j_icmp_ne (tgt := 18) d_Model_readObservation_5 (by decide) (by omega) (by omega) (fun hx => ?_) (fun hx => by exfalso; omega)
    refine j_iconst d_Model_readObservation_18 ?_
    exact main _ (by rw [← ob_ok, if_neg (by omega)])
theorem c_Model_readValue (d : Nat) {M N a n g dep tp : Nat} {u s : Int} {t : Nat → Nat} {l : List Wt} {I : M32} {L : M64} {R : MR} {T : SH} (hd : 2 ≤ d) (hM : MdlS M R T) (hT : TH M N a t I L) (hn : I M 37 = cI n) (hg : I M 36 = cI g) (hgn : g ≤ n) (hn5 : n < 5100) (hF : I M 17 = cI 0) (hA : PileV I M l) (hw0 : I M 43 = cI l.length) (hl : l.length + 6 < 30000) (hu : -1 ≤ u) (hun : u < n) (hs : inI s) (hdp : dep < 1000) (htp : I M 7 = cI tp) {P : Prop} [Decidable P] (hP : I M 8 = cI (bI P)) (htp3 : tp + 302 ≤ 1100000) (hV : TxM I M N t) :
    Call m_Model_readValue y_Model_readValue d 0 0 [.ref M, .int (cI u), .int (cI s), .int (cI dep)] I L R T (rV fun I' L' R' T' => rdQ M n g dep tp u s 2 (tk (tkP t N) a) (tb (tkP t N) a) (te (tkP t N) a) (tx (tkP t N) a) (tv (tkP t N) a) l (I M 8) I L I' L' ∧ R' = R ∧ T' = T) := by
  refine Call.ofRun (by decide) ⟨rfl, rfl⟩ (Nat.le_of_ble_eq_true rfl) ?_
  refine Run.gen fun Q hQ => ?_
  obtain ⟨hok0, h12, h13, h14, h15, h16⟩ := id hT
  have hok : TokR t N a (tb (tkP t N) a) (te (tkP t N) a) (tk (tkP t N) a) (tx (tkP t N) a) (tv (tkP t N) a) := hok0
  have hkd := hok.kd
  have hx63 := fun (_ : Unit) => hok.x63
  have hkw := fun (_ : Unit) => hok.kw
  replace h16 : Unit → _ := fun _ => h16
  generalize hK : tk (tkP t N) a = K at *
  generalize hX : tx (tkP t N) a = x at *
  generalize tb (tkP t N) a = b at *
  generalize te (tkP t N) a = e at *
  generalize tv (tkP t N) a = v at *
  have hki : inI (tkc K) := tkc_i
  have main : ∀ (w : Int), w = (if okS 2 K then kdM K (-1) else 0) → Run m_Model_readValue d 0 0 45 [(0, .ref M), (1, .int (cI u)), (2, .int (cI s)), (3, .int (cI (dep : Int)))] [.int (cI w)] I L R T Q := by
    intro w hw
    by_cases ho : okS 2 K = true
    · have hwK : (K = 100 ∧ w = 20) ∨ (K = 102 ∧ w = 21) ∨ (12 ≤ K ∧ K ≤ 22 ∧ w = K + 10) := by
        rw [if_pos ho] at hw
        unfold okS at ho
        rw [if_neg (by decide), if_pos rfl, decide_eq_true_eq] at ho
        rcases ho with h | h | h
        · refine Or.inl ⟨h, ?_⟩; rw [hw, h]; rfl
        · refine Or.inr (Or.inl ⟨h, ?_⟩); rw [hw, h]; rfl
        · refine Or.inr (Or.inr ⟨h.1, h.2, ?_⟩); rw [hw]; unfold kdM; (repeat' split) <;> omega
      have hwk : w = kdM K (-1) := by rw [hw, if_pos ho]
      refine q_istore (lv' := [(4, .int (cI w)), (0, .ref M), (1, .int (cI u)), (2, .int (cI s)), (3, .int (cI (dep : Int)))]) d_Model_readValue_45 (by decide) rfl ?_
      refine q_iload d_Model_readValue_47 rfl ?_
      refine j_if_ne (tgt := 57) d_Model_readValue_49 (by decide) (by omega) (fun hx => ?_) (fun hx => by exfalso; omega)
      refine q_aload_n d_Model_readValue_57 rfl ?_
      refine q_iload d_Model_readValue_58 rfl ?_
      refine q_iload_n d_Model_readValue_60 rfl ?_
      refine q_callV (ci := 17) (rc := 0) (rs := 0) (rest := []) d_Model_readValue_61 ml_Model_601 ok_Model_node rfl hM.1 (by decide) (c_Model_node (d - 1) (by omega) hM hn hg hgn hn5 (by omega) hF) rfl rfl (by omega) (Nat.le_of_ble_eq_true rfl) (kr_I (fun r I1 L1 R1 T1 h => ?_)) kt_I
      obtain ⟨h, rfl, rfl⟩ := h
      rcases h with ⟨hb, rfl, hI1, hL1⟩ | ⟨hb, rfl, hnd, hI37, hFx, hFl⟩
      · skip
        refine q_istore (lv' := [(5, .int (cI (-1))), (4, .int (cI w)), (0, .ref M), (1, .int (cI u)), (2, .int (cI s)), (3, .int (cI (dep : Int)))]) d_Model_readValue_64 (by decide) rfl ?_
        refine q_iload d_Model_readValue_66 rfl ?_
        refine j_iconst d_Model_readValue_68 ?_
        refine j_icmp_ne (tgt := 73) d_Model_readValue_69 (by decide) (by omega) (by omega) (fun hx => by exfalso; omega) (fun hx => ?_)
        refine q_return d_Model_readValue_72 rfl ?_
        refine hQ _ _ _ _ _ ?_
        exact ⟨rfl, Or.inr (Or.inl ⟨ho, by omega, by rw [hI1, up2_k _ _ _ (by decide), up2_s], by rw [hI1, up2_s]; exact h14, by rw [hI1]; exact (Fx.up ⟨rfl, Or.inl rfl⟩).tu ⟨rfl, Or.inr rfl⟩, hL1⟩), rfl, rfl⟩
      · skip
        refine q_istore (lv' := [(5, .int (cI (n : Int))), (4, .int (cI w)), (0, .ref M), (1, .int (cI u)), (2, .int (cI s)), (3, .int (cI (dep : Int)))]) d_Model_readValue_64 (by decide) rfl ?_
        refine q_iload d_Model_readValue_66 rfl ?_
        refine j_iconst d_Model_readValue_68 ?_
        refine j_icmp_ne (tgt := 73) d_Model_readValue_69 (by decide) (by omega) (by omega) (fun hx => ?_) (fun hx => by exfalso; omega)
        refine q_aload_n d_Model_readValue_73 rfl ?_
        refine q_iload_n d_Model_readValue_74 rfl ?_
        refine q_iload_n d_Model_readValue_75 rfl ?_
        refine q_iload d_Model_readValue_76 rfl ?_
        refine q_callV (ci := 17) (rc := 0) (rs := 0) (rest := []) d_Model_readValue_78 ml_Model_604 ok_Model_link rfl hM.1 (by decide) (c_Model_link (d - 1) (c := (n : Int)) hM hu (by omega) hs) rfl rfl (by omega) (Nat.le_of_ble_eq_true rfl) (kp_V ?_) kt_V
        have hb2 : ¬ (100 < dep ∨ n - g = 1000) := by omega
        generalize hI2 : lkI M I1 u s (n : Int) = I2
        have hF2 : FF M [37, 38] I I2 := by rw [← hI2]; exact (FF.of hFx fun k h => by obtain rfl : k = 37 := (by omega); decide).tr (lkI_f.mo (by decide))
        have hP2 : ∀ a k, M + 21 ≤ a → a ≤ M + 24 → I2 a k = I a k := fun a k e1 e2 => by rw [← hI2, lkI_p _ _ e1, hFx _ _ (by omega)]
        have tail : ∀ (I4 : M32) (L4 : M64) (tp' : Nat), Fx (S3 M n tp) I2 I4 → I4 M 15 = cI e → Fx (fun a k => a = M + 7 ∧ k = n) L1 L4 → L4 (M + 7) n = cL (if K = 102 then (x : Int) else 0) → I4 M 7 = cI tp' → (Unit → K = 100 → ∃ m, m ≤ 300 ∧ tp' = tp + m + 2 ∧ I4 (M + 14) n = cI tp ∧ PolV I4 (M + 3) tp m v) → (Unit → K ≠ 100 → tp' = tp) → I4 M 8 = I M 8 → Run m_Model_readValue d 0 0 117 [(0, .ref M), (1, .int (cI u)), (2, .int (cI s)), (3, .int (cI (dep : Int))), (4, .int (cI w)), (5, .int (cI (n : Int)))] [] I4 L4 R1 T1 Q := by
          intro I4 L4 tp' g1 g2 g3 g4 g5 g6 g7 g8
          refine q_aload_n d_Model_readValue_117 rfl ?_
          refine q_callV (ci := 17) (rc := 0) (rs := 0) (rest := []) d_Model_readValue_118 ml_Model_608 ok_Model_use rfl hM.1 (by decide) (c_Model_use (d - 1) hM) rfl rfl (by omega) (Nat.le_of_ble_eq_true rfl) (kp_V ?_) kt_V
          generalize hI3 : (up2 I4 M 12 (I4 M 15)) = I3
          have hF3 : Fx (S3 M n tp) I2 I3 := by rw [← hI3]; exact g1.tr (Fx.up (Or.inl ⟨rfl, by omega⟩))
          have hF4 : Fx (fun a k => a = M ∧ k = 12) I4 I3 := by rw [← hI3]; exact Fx.up ⟨rfl, rfl⟩
          have hA : PA M I3 I3 l := ⟨hA.fx fun a k e1 e2 _ => by rw [hF3 _ _ (by omega), hP2 _ _ e1 e2], by rw [hF3 _ _ (by omega), hF2 _ (by decide)]; exact hw0, Fx.rf⟩
          have fin : ∀ (J : M32) (ql : List Wt), PI n dep (itC K) ql l → ql.length ≤ l.length + 6 → PA M I3 J ql → Q (.returned none) J L4 R1 T1 := fun J ql h1 h2 h3 => hQ _ _ _ _ _ ⟨rfl, rd_fin ho hb2 (by rw [← hwk]; exact hnd) hI37 hFx hFl hu hun (by rw [hI2]; exact hF3) (by rw [← hI3, up2_s]; exact g2) g3 g4 (by rw [hF4 _ _ (by omega)]; exact g5) (fun e9 => by obtain ⟨m, z1, z2, z3, z4⟩ := g6 () e9; exact ⟨m, z1, z2, by rw [hF4 _ _ (by omega)]; exact z3, z4.congr fun k _ _ => hF4 _ _ (by omega)⟩) (g7 ()) (by rw [hF4 _ _ (by omega)]; exact g8) h1 h3 h2, rfl, rfl⟩
          exact tl_readValue (d := d) (by omega) hM hwK hA (by omega) fin
        have i7 : I2 M 7 = cI tp := by rw [hF2 _ (by decide)]; exact htp
        have i8 : I2 M 8 = I M 8 := hF2 _ (by decide)
        have i14 : I2 M 14 = cI b := by rw [hF2 _ (by decide)]; exact h14
        have i15 : I2 M 15 = cI e := by rw [hF2 _ (by decide)]; exact h15
        have hn7 : L1 (M + 7) n = cL 0 := hnd.2.2.2.2.2.1
        refine q_iload d_Model_readValue_81 rfl ?_
        refine j_bipush d_Model_readValue_83 (by decide) ?_
        refine j_icmp_ne (tgt := 99) d_Model_readValue_85 (by decide) (by omega) (by omega) (fun p1 => ?_) (fun p1 => ?_)
        · skip
          refine q_iload d_Model_readValue_99 rfl ?_
          refine j_bipush d_Model_readValue_101 (by decide) ?_
          refine j_icmp_ne (tgt := 117) d_Model_readValue_103 (by decide) (by omega) (by omega) (fun p2 => ?_) (fun p2 => ?_)
          · skip
            refine Run.lv (lv' := [(0, .ref M), (1, .int (cI u)), (2, .int (cI s)), (3, .int (cI (dep : Int))), (4, .int (cI w)), (5, .int (cI (n : Int)))]) (by intro q hq; simp only [List.mem_cons, List.not_mem_nil, or_false] at hq ⊢; rcases hq with rfl | rfl | rfl | rfl | rfl | rfl <;> simp) ?_
            exact tail I2 L1 tp Fx.rf i15 Fx.rf (by rw [if_neg (by omega)]; exact hn7) i7 (fun _ e9 => by omega) (fun _ _ => rfl) i8
          · skip
            have hX6 := h16 () (Or.inr (Or.inr (by omega)))
            refine q_aload_n d_Model_readValue_106 rfl ?_
            refine q_getR d_Model_readValue_107 fl_Model_29 hM.1 ⟨rfl, by decide⟩ (mR20 hM) ?_
            refine q_iload d_Model_readValue_110 rfl ?_
            refine q_aload_n d_Model_readValue_112 rfl ?_
            refine j_getL (v := (cL (x : Int))) d_Model_readValue_113 fl_Model_557 hM.1 ⟨rfl, by decide⟩ (by rw [hFl _ _ (by omega)]; exact hX6) ?_
            refine j_last (j := n) d_Model_readValue_116 (mT20 hM) (mN20 hM) (by omega) (by omega) (by omega) ?_
            refine Run.lv (lv' := [(0, .ref M), (1, .int (cI u)), (2, .int (cI s)), (3, .int (cI (dep : Int))), (4, .int (cI w)), (5, .int (cI (n : Int)))]) (by intro q hq; simp only [List.mem_cons, List.not_mem_nil, or_false] at hq ⊢; rcases hq with rfl | rfl | rfl | rfl | rfl | rfl <;> simp) ?_
            exact tail I2 _ tp Fx.rf i15 (Fx.up ⟨rfl, rfl⟩) (by rw [up2_s, if_pos (by omega)]) i7 (fun _ e9 => by omega) (fun _ _ => rfl) i8
        · skip
          have hK100 : K = 100 := by omega
          obtain ⟨z1, z2, z3, z4⟩ := (hK100 ▸ hok : TokR t N a b e 100 x v).num
          have hle := hok.le
          have hV2 : TxM I2 M N t := ⟨hV.1, fun j hj => by rw [← hI2, lkI_5, hFx _ _ (by omega)]; exact hV.2 j hj⟩
          refine q_aload_n d_Model_readValue_88 rfl ?_
          refine q_getR d_Model_readValue_89 fl_Model_51 hM.1 ⟨rfl, by decide⟩ (mR27 hM) ?_
          refine q_iload d_Model_readValue_92 rfl ?_
          refine q_aload_n d_Model_readValue_94 rfl ?_
          refine q_callV (ci := 17) (rc := 0) (rs := 0) (rest := [.int (cI (n : Int)), .ref (M + 14)]) d_Model_readValue_95 ml_Model_618 ok_Model_tokenNumber rfl hM.1 (by decide) (c_Model_tokenNumber (d - 1) (t := t) (N := N) (P := P) (by omega) hM hV2 i14 i15 (hle.2.2.2 (by omega)) hle.2.2.1 rfl z1 z2 z3 i7 htp3 (by rw [i8]; exact hP)) rfl rfl (by omega) (Nat.le_of_ble_eq_true rfl) (kv_I (fun r I4 hh => ?_)) kt_I
          obtain ⟨rfl, m, y1, y2, y3, y4, y5⟩ := hh
          rw [← z4] at y2
          have y6 := y5.x
          refine j_iast (j := n) d_Model_readValue_98 (mT27 hM) (mN27 hM) (by omega) (by omega) (by omega) ?_
          refine q_iload d_Model_readValue_99 rfl ?_
          refine j_bipush d_Model_readValue_101 (by decide) ?_
          refine j_icmp_ne (tgt := 117) d_Model_readValue_103 (by decide) (by omega) (by omega) (fun hx => ?_) (fun hx => by exfalso; omega)
          refine Run.lv (lv' := [(0, .ref M), (1, .int (cI u)), (2, .int (cI s)), (3, .int (cI (dep : Int))), (4, .int (cI w)), (5, .int (cI (n : Int)))]) (by intro q hq; simp only [List.mem_cons, List.not_mem_nil, or_false] at hq ⊢; rcases hq with rfl | rfl | rfl | rfl | rfl | rfl <;> simp) ?_
          exact tail _ _ (tp + m + 2) ((y6.mo fun a k h => by omega).tu (Or.inr (Or.inr ⟨rfl, rfl⟩))) (by rw [up2_a _ _ _ (by omega), y5.2.1 _ (by decide) (by decide)]; exact i15) Fx.rf (by rw [if_neg (by omega)]; exact hn7) (by rw [up2_a _ _ _ (by omega)]; exact y3) (fun _ _ => ⟨m, y1, rfl, by rw [up2_s], y2.congr fun k _ _ => up2_a _ _ _ (by omega)⟩) (fun _ e9 => absurd hK100 e9) (by rw [up2_a _ _ _ (by omega), y4]; exact hP.symm)
    · have hwz : w = 0 := by rw [hw, if_neg ho]
      subst hwz
      refine q_istore (lv' := [(4, .int (cI 0)), (0, .ref M), (1, .int (cI u)), (2, .int (cI s)), (3, .int (cI (dep : Int)))]) d_Model_readValue_45 (by decide) rfl ?_
      refine q_iload d_Model_readValue_47 rfl ?_
      refine j_if_ne (tgt := 57) d_Model_readValue_49 (by decide) (by omega) (fun hx => by exfalso; omega) (fun hx => ?_)
      refine q_aload_n d_Model_readValue_52 rfl ?_
      refine q_callV (ci := 17) (rc := 0) (rs := 0) (rest := []) d_Model_readValue_53 ml_Model_598 ok_Model_failToken rfl hM.1 (by decide) (c_Model_failToken (d - 1) (by omega) hM hF (by decide) h13 hki) rfl rfl (by omega) (Nat.le_of_ble_eq_true rfl) (kr_V (fun I1 L1 R1 T1 h => ?_)) kt_V
      obtain ⟨e1, e2, e3, e4⟩ := h
      refine q_return d_Model_readValue_56 rfl ?_
      refine hQ _ _ _ _ _ ?_
      exact ⟨rfl, Or.inl ⟨by simpa using ho, by rw [e1, if_pos rfl, up2_k _ _ _ (by decide), up2_s, fkc hkd]; rfl, by rw [e1, if_pos rfl, up2_s]; exact h14, by rw [e1, if_pos rfl]; exact (Fx.up ⟨rfl, Or.inl rfl⟩).tu ⟨rfl, Or.inr rfl⟩, e2⟩, e3, e4⟩
  have hki3 : Unit → (tkc K = 1 ↔ K = 100) := fun _ => tkc_1
  have hki4 : Unit → (tkc K = 4 ↔ K = 102) := fun _ => tkc_4
  have hki2 : Unit → (tkc K = 2 ↔ (0 ≤ K ∧ K < 100)) := fun _ => tkc_2 hkd
  refine q_aload_n d_Model_readValue_0 rfl ?_
  refine j_getI (v := (cI (tkc K))) d_Model_readValue_1 fl_Model_550 hM.1 ⟨rfl, by decide⟩ h13 ?_
  refine j_iconst d_Model_readValue_4 ?_
  refine j_icmp_ne (tgt := 13) d_Model_readValue_5 (by decide) (by omega) (by omega) (fun p1 => ?_) (fun p1 => ?_)
  · skip
    refine q_aload_n d_Model_readValue_13 rfl ?_
    refine j_getI (v := (cI (tkc K))) d_Model_readValue_14 fl_Model_550 hM.1 ⟨rfl, by decide⟩ h13 ?_
    refine j_iconst d_Model_readValue_17 ?_
    refine j_icmp_ne (tgt := 26) d_Model_readValue_18 (by decide) (by omega) (by omega) (fun p2 => ?_) (fun p2 => ?_)
    · skip
      refine q_aload_n d_Model_readValue_26 rfl ?_
      refine j_getI (v := (cI (tkc K))) d_Model_readValue_27 fl_Model_550 hM.1 ⟨rfl, by decide⟩ h13 ?_
      refine j_iconst d_Model_readValue_30 ?_
      refine j_icmp_ne (tgt := 44) d_Model_readValue_31 (by decide) (by omega) (by omega) (fun p3 => ?_) (fun p3 => ?_)
      · skip
        refine j_iconst d_Model_readValue_44 ?_
        exact main _ (by rw [vl_no (by have := hki2 (); have := hki3 (); have := hki4 (); omega)]; rfl)
      · skip
        have hk := (hki2 ()).mp p3
        have hX6 := h16 () (Or.inl hk)
        refine q_aload_n d_Model_readValue_34 rfl ?_
        refine j_getL (v := (cL (x : Int))) d_Model_readValue_35 fl_Model_557 hM.1 ⟨rfl, by decide⟩ hX6 ?_
        refine q_callS (rc := 0) (rs := 0) (rest := []) d_Model_readValue_38 ml_Model_615 ok_Model_valueOf (c_Model_valueOf (d - 1) (hx63 () (Or.inl hk)).1) rfl rfl (by omega) (Nat.le_of_ble_eq_true rfl) (kp_I ?_) kt_I
        refine q_goto (tgt := 45) d_Model_readValue_41 (by decide) ?_
        exact main _ (by rw [vlF_kw, (hkw () hk).1]; exact vl_ok hk)
    · skip
      have hk := (hki4 ()).mp p2
      refine j_bipush d_Model_readValue_21 (by decide) ?_
      refine q_goto (tgt := 45) d_Model_readValue_23 (by decide) ?_
      exact main _ (by rw [hk]; rfl)
  · skip
    have hk := (hki3 ()).mp p1
    refine j_bipush d_Model_readValue_8 (by decide) ?_
    refine q_goto (tgt := 45) d_Model_readValue_10 (by decide) ?_
    exact main _ (by rw [hk]; rfl)

