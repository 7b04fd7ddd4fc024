/-! ===== 33 THE REFERENCE'S NUMBERS: sums, longs ===== -/
theorem d_Model_plus_0 : decode m_Model_plus.2.1 0 = .ok (.aload_n 0, 1) := by decide +kernel
theorem d_Model_plus_1 : decode m_Model_plus.2.1 1 = .ok (.getfield 17, 3) := by decide +kernel
theorem d_Model_plus_4 : decode m_Model_plus.2.1 4 = .ok (.iload_n 2, 1) := by decide +kernel
theorem d_Model_plus_5 : decode m_Model_plus.2.1 5 = .ok (.iaload, 1) := by decide +kernel
theorem d_Model_plus_6 : decode m_Model_plus.2.1 6 = .ok (.iload_n 3, 1) := by decide +kernel
theorem d_Model_plus_7 : decode m_Model_plus.2.1 7 = .ok (.imul, 1) := by decide +kernel
theorem d_Model_plus_8 : decode m_Model_plus.2.1 8 = .ok (.istore 4, 2) := by decide +kernel
theorem d_Model_plus_10 : decode m_Model_plus.2.1 10 = .ok (.iload 4, 2) := by decide +kernel
theorem d_Model_plus_12 : decode m_Model_plus.2.1 12 = .ok (.ifCond .ne 9, 3) := by decide +kernel
theorem d_Model_plus_15 : decode m_Model_plus.2.1 15 = .ok (.aload_n 0, 1) := by decide +kernel
theorem d_Model_plus_16 : decode m_Model_plus.2.1 16 = .ok (.iload_n 1, 1) := by decide +kernel
theorem d_Model_plus_17 : decode m_Model_plus.2.1 17 = .ok (.invokevirtual 449, 3) := by decide +kernel
theorem d_Model_plus_20 : decode m_Model_plus.2.1 20 = .ok (.ireturn, 1) := by decide +kernel
theorem d_Model_plus_21 : decode m_Model_plus.2.1 21 = .ok (.aload_n 0, 1) := by decide +kernel
theorem d_Model_plus_22 : decode m_Model_plus.2.1 22 = .ok (.getfield 17, 3) := by decide +kernel
theorem d_Model_plus_25 : decode m_Model_plus.2.1 25 = .ok (.iload_n 1, 1) := by decide +kernel
theorem d_Model_plus_26 : decode m_Model_plus.2.1 26 = .ok (.iconst 1, 1) := by decide +kernel
theorem d_Model_plus_27 : decode m_Model_plus.2.1 27 = .ok (.iadd, 1) := by decide +kernel
theorem d_Model_plus_28 : decode m_Model_plus.2.1 28 = .ok (.iaload, 1) := by decide +kernel
theorem d_Model_plus_29 : decode m_Model_plus.2.1 29 = .ok (.aload_n 0, 1) := by decide +kernel
theorem d_Model_plus_30 : decode m_Model_plus.2.1 30 = .ok (.getfield 17, 3) := by decide +kernel
theorem d_Model_plus_33 : decode m_Model_plus.2.1 33 = .ok (.iload_n 2, 1) := by decide +kernel
theorem d_Model_plus_34 : decode m_Model_plus.2.1 34 = .ok (.iconst 1, 1) := by decide +kernel
theorem d_Model_plus_35 : decode m_Model_plus.2.1 35 = .ok (.iadd, 1) := by decide +kernel
theorem d_Model_plus_36 : decode m_Model_plus.2.1 36 = .ok (.iaload, 1) := by decide +kernel
theorem d_Model_plus_37 : decode m_Model_plus.2.1 37 = .ok (.if_icmp .le 14, 3) := by decide +kernel
theorem d_Model_plus_40 : decode m_Model_plus.2.1 40 = .ok (.aload_n 0, 1) := by decide +kernel
theorem d_Model_plus_41 : decode m_Model_plus.2.1 41 = .ok (.getfield 17, 3) := by decide +kernel
theorem d_Model_plus_44 : decode m_Model_plus.2.1 44 = .ok (.iload_n 1, 1) := by decide +kernel
theorem d_Model_plus_45 : decode m_Model_plus.2.1 45 = .ok (.iconst 1, 1) := by decide +kernel
theorem d_Model_plus_46 : decode m_Model_plus.2.1 46 = .ok (.iadd, 1) := by decide +kernel
theorem d_Model_plus_47 : decode m_Model_plus.2.1 47 = .ok (.iaload, 1) := by decide +kernel
theorem d_Model_plus_48 : decode m_Model_plus.2.1 48 = .ok (.goto 11, 3) := by decide +kernel
theorem d_Model_plus_51 : decode m_Model_plus.2.1 51 = .ok (.aload_n 0, 1) := by decide +kernel
theorem d_Model_plus_52 : decode m_Model_plus.2.1 52 = .ok (.getfield 17, 3) := by decide +kernel
theorem d_Model_plus_55 : decode m_Model_plus.2.1 55 = .ok (.iload_n 2, 1) := by decide +kernel
theorem d_Model_plus_56 : decode m_Model_plus.2.1 56 = .ok (.iconst 1, 1) := by decide +kernel
theorem d_Model_plus_57 : decode m_Model_plus.2.1 57 = .ok (.iadd, 1) := by decide +kernel
theorem d_Model_plus_58 : decode m_Model_plus.2.1 58 = .ok (.iaload, 1) := by decide +kernel
theorem d_Model_plus_59 : decode m_Model_plus.2.1 59 = .ok (.istore 5, 2) := by decide +kernel
theorem d_Model_plus_61 : decode m_Model_plus.2.1 61 = .ok (.aload_n 0, 1) := by decide +kernel
theorem d_Model_plus_62 : decode m_Model_plus.2.1 62 = .ok (.getfield 428, 3) := by decide +kernel
theorem d_Model_plus_65 : decode m_Model_plus.2.1 65 = .ok (.istore 6, 2) := by decide +kernel
theorem d_Model_plus_67 : decode m_Model_plus.2.1 67 = .ok (.aload_n 0, 1) := by decide +kernel
theorem d_Model_plus_68 : decode m_Model_plus.2.1 68 = .ok (.getfield 17, 3) := by decide +kernel
theorem d_Model_plus_71 : decode m_Model_plus.2.1 71 = .ok (.iload_n 1, 1) := by decide +kernel
theorem d_Model_plus_72 : decode m_Model_plus.2.1 72 = .ok (.iaload, 1) := by decide +kernel
theorem d_Model_plus_73 : decode m_Model_plus.2.1 73 = .ok (.ifCond .eq 14, 3) := by decide +kernel
theorem d_Model_plus_76 : decode m_Model_plus.2.1 76 = .ok (.aload_n 0, 1) := by decide +kernel
theorem d_Model_plus_77 : decode m_Model_plus.2.1 77 = .ok (.getfield 17, 3) := by decide +kernel
theorem d_Model_plus_80 : decode m_Model_plus.2.1 80 = .ok (.iload_n 1, 1) := by decide +kernel
theorem d_Model_plus_81 : decode m_Model_plus.2.1 81 = .ok (.iaload, 1) := by decide +kernel
theorem d_Model_plus_82 : decode m_Model_plus.2.1 82 = .ok (.iload 4, 2) := by decide +kernel
theorem d_Model_plus_84 : decode m_Model_plus.2.1 84 = .ok (.if_icmp .ne 79, 3) := by decide +kernel
theorem d_Model_plus_87 : decode m_Model_plus.2.1 87 = .ok (.iconst 0, 1) := by decide +kernel
theorem d_Model_plus_88 : decode m_Model_plus.2.1 88 = .ok (.istore 7, 2) := by decide +kernel
theorem d_Model_plus_90 : decode m_Model_plus.2.1 90 = .ok (.iconst 0, 1) := by decide +kernel
theorem d_Model_plus_91 : decode m_Model_plus.2.1 91 = .ok (.istore 8, 2) := by decide +kernel
theorem d_Model_plus_93 : decode m_Model_plus.2.1 93 = .ok (.iload 8, 2) := by decide +kernel
theorem d_Model_plus_95 : decode m_Model_plus.2.1 95 = .ok (.iload 5, 2) := by decide +kernel
theorem d_Model_plus_97 : decode m_Model_plus.2.1 97 = .ok (.if_icmp .gt 53, 3) := by decide +kernel
theorem d_Model_plus_100 : decode m_Model_plus.2.1 100 = .ok (.aload_n 0, 1) := by decide +kernel
theorem d_Model_plus_101 : decode m_Model_plus.2.1 101 = .ok (.iload_n 1, 1) := by decide +kernel
theorem d_Model_plus_102 : decode m_Model_plus.2.1 102 = .ok (.iload 8, 2) := by decide +kernel
theorem d_Model_plus_104 : decode m_Model_plus.2.1 104 = .ok (.invokevirtual 442, 3) := by decide +kernel
theorem d_Model_plus_107 : decode m_Model_plus.2.1 107 = .ok (.aload_n 0, 1) := by decide +kernel
theorem d_Model_plus_108 : decode m_Model_plus.2.1 108 = .ok (.iload_n 2, 1) := by decide +kernel
theorem d_Model_plus_109 : decode m_Model_plus.2.1 109 = .ok (.iload 8, 2) := by decide +kernel
theorem d_Model_plus_111 : decode m_Model_plus.2.1 111 = .ok (.invokevirtual 442, 3) := by decide +kernel
theorem d_Model_plus_114 : decode m_Model_plus.2.1 114 = .ok (.iadd, 1) := by decide +kernel
theorem d_Model_plus_115 : decode m_Model_plus.2.1 115 = .ok (.iload 7, 2) := by decide +kernel
theorem d_Model_plus_117 : decode m_Model_plus.2.1 117 = .ok (.iadd, 1) := by decide +kernel
theorem d_Model_plus_118 : decode m_Model_plus.2.1 118 = .ok (.istore 9, 2) := by decide +kernel
theorem d_Model_plus_120 : decode m_Model_plus.2.1 120 = .ok (.aload_n 0, 1) := by decide +kernel
theorem d_Model_plus_121 : decode m_Model_plus.2.1 121 = .ok (.getfield 17, 3) := by decide +kernel
theorem d_Model_plus_124 : decode m_Model_plus.2.1 124 = .ok (.iload 6, 2) := by decide +kernel
theorem d_Model_plus_126 : decode m_Model_plus.2.1 126 = .ok (.iconst 2, 1) := by decide +kernel
theorem d_Model_plus_127 : decode m_Model_plus.2.1 127 = .ok (.iadd, 1) := by decide +kernel
theorem d_Model_plus_128 : decode m_Model_plus.2.1 128 = .ok (.iload 8, 2) := by decide +kernel
theorem d_Model_plus_130 : decode m_Model_plus.2.1 130 = .ok (.iadd, 1) := by decide +kernel
theorem d_Model_plus_131 : decode m_Model_plus.2.1 131 = .ok (.iload 9, 2) := by decide +kernel
theorem d_Model_plus_133 : decode m_Model_plus.2.1 133 = .ok (.bipush 10, 2) := by decide +kernel
theorem d_Model_plus_135 : decode m_Model_plus.2.1 135 = .ok (.irem, 1) := by decide +kernel
theorem d_Model_plus_136 : decode m_Model_plus.2.1 136 = .ok (.iastore, 1) := by decide +kernel
theorem d_Model_plus_137 : decode m_Model_plus.2.1 137 = .ok (.iload 9, 2) := by decide +kernel
theorem d_Model_plus_139 : decode m_Model_plus.2.1 139 = .ok (.bipush 10, 2) := by decide +kernel
theorem d_Model_plus_141 : decode m_Model_plus.2.1 141 = .ok (.idiv, 1) := by decide +kernel
theorem d_Model_plus_142 : decode m_Model_plus.2.1 142 = .ok (.istore 7, 2) := by decide +kernel
theorem d_Model_plus_144 : decode m_Model_plus.2.1 144 = .ok (.iinc 8 1, 3) := by decide +kernel
theorem d_Model_plus_147 : decode m_Model_plus.2.1 147 = .ok (.goto (-54), 3) := by decide +kernel
theorem d_Model_plus_150 : decode m_Model_plus.2.1 150 = .ok (.aload_n 0, 1) := by decide +kernel
theorem d_Model_plus_151 : decode m_Model_plus.2.1 151 = .ok (.iload 6, 2) := by decide +kernel
theorem d_Model_plus_153 : decode m_Model_plus.2.1 153 = .ok (.iload 5, 2) := by decide +kernel
theorem d_Model_plus_155 : decode m_Model_plus.2.1 155 = .ok (.iconst 1, 1) := by decide +kernel
theorem d_Model_plus_156 : decode m_Model_plus.2.1 156 = .ok (.iadd, 1) := by decide +kernel
theorem d_Model_plus_157 : decode m_Model_plus.2.1 157 = .ok (.iload 4, 2) := by decide +kernel
theorem d_Model_plus_159 : decode m_Model_plus.2.1 159 = .ok (.invokevirtual 434, 3) := by decide +kernel
theorem d_Model_plus_162 : decode m_Model_plus.2.1 162 = .ok (.ireturn, 1) := by decide +kernel
theorem d_Model_plus_163 : decode m_Model_plus.2.1 163 = .ok (.aload_n 0, 1) := by decide +kernel
theorem d_Model_plus_164 : decode m_Model_plus.2.1 164 = .ok (.iload_n 1, 1) := by decide +kernel
theorem d_Model_plus_165 : decode m_Model_plus.2.1 165 = .ok (.iload_n 2, 1) := by decide +kernel
theorem d_Model_plus_166 : decode m_Model_plus.2.1 166 = .ok (.invokevirtual 446, 3) := by decide +kernel
theorem d_Model_plus_169 : decode m_Model_plus.2.1 169 = .ok (.ifCond .lt 7, 3) := by decide +kernel
theorem d_Model_plus_172 : decode m_Model_plus.2.1 172 = .ok (.iconst 1, 1) := by decide +kernel
theorem d_Model_plus_173 : decode m_Model_plus.2.1 173 = .ok (.goto 4, 3) := by decide +kernel
theorem d_Model_plus_176 : decode m_Model_plus.2.1 176 = .ok (.iconst 0, 1) := by decide +kernel
theorem d_Model_plus_177 : decode m_Model_plus.2.1 177 = .ok (.istore 7, 2) := by decide +kernel
theorem d_Model_plus_179 : decode m_Model_plus.2.1 179 = .ok (.iload 7, 2) := by decide +kernel
theorem d_Model_plus_181 : decode m_Model_plus.2.1 181 = .ok (.ifCond .eq 7, 3) := by decide +kernel
theorem d_Model_plus_184 : decode m_Model_plus.2.1 184 = .ok (.iload_n 1, 1) := by decide +kernel
theorem d_Model_plus_185 : decode m_Model_plus.2.1 185 = .ok (.goto 4, 3) := by decide +kernel
theorem d_Model_plus_188 : decode m_Model_plus.2.1 188 = .ok (.iload_n 2, 1) := by decide +kernel
theorem d_Model_plus_189 : decode m_Model_plus.2.1 189 = .ok (.istore 8, 2) := by decide +kernel
theorem d_Model_plus_191 : decode m_Model_plus.2.1 191 = .ok (.iload 7, 2) := by decide +kernel
theorem d_Model_plus_193 : decode m_Model_plus.2.1 193 = .ok (.ifCond .eq 7, 3) := by decide +kernel
theorem d_Model_plus_196 : decode m_Model_plus.2.1 196 = .ok (.iload_n 2, 1) := by decide +kernel
theorem d_Model_plus_197 : decode m_Model_plus.2.1 197 = .ok (.goto 4, 3) := by decide +kernel
theorem d_Model_plus_200 : decode m_Model_plus.2.1 200 = .ok (.iload_n 1, 1) := by decide +kernel
theorem d_Model_plus_201 : decode m_Model_plus.2.1 201 = .ok (.istore 9, 2) := by decide +kernel
theorem d_Model_plus_203 : decode m_Model_plus.2.1 203 = .ok (.iconst 0, 1) := by decide +kernel
theorem d_Model_plus_204 : decode m_Model_plus.2.1 204 = .ok (.istore 10, 2) := by decide +kernel
theorem d_Model_plus_206 : decode m_Model_plus.2.1 206 = .ok (.iconst 0, 1) := by decide +kernel
theorem d_Model_plus_207 : decode m_Model_plus.2.1 207 = .ok (.istore 11, 2) := by decide +kernel
theorem d_Model_plus_209 : decode m_Model_plus.2.1 209 = .ok (.iload 11, 2) := by decide +kernel
theorem d_Model_plus_211 : decode m_Model_plus.2.1 211 = .ok (.iload 5, 2) := by decide +kernel
theorem d_Model_plus_213 : decode m_Model_plus.2.1 213 = .ok (.if_icmp .ge 70, 3) := by decide +kernel
theorem d_Model_plus_216 : decode m_Model_plus.2.1 216 = .ok (.aload_n 0, 1) := by decide +kernel
theorem d_Model_plus_217 : decode m_Model_plus.2.1 217 = .ok (.iload 8, 2) := by decide +kernel
theorem d_Model_plus_219 : decode m_Model_plus.2.1 219 = .ok (.iload 11, 2) := by decide +kernel
theorem d_Model_plus_221 : decode m_Model_plus.2.1 221 = .ok (.invokevirtual 442, 3) := by decide +kernel
theorem d_Model_plus_224 : decode m_Model_plus.2.1 224 = .ok (.aload_n 0, 1) := by decide +kernel
theorem d_Model_plus_225 : decode m_Model_plus.2.1 225 = .ok (.iload 9, 2) := by decide +kernel
theorem d_Model_plus_227 : decode m_Model_plus.2.1 227 = .ok (.iload 11, 2) := by decide +kernel
theorem d_Model_plus_229 : decode m_Model_plus.2.1 229 = .ok (.invokevirtual 442, 3) := by decide +kernel
theorem d_Model_plus_232 : decode m_Model_plus.2.1 232 = .ok (.isub, 1) := by decide +kernel
theorem d_Model_plus_233 : decode m_Model_plus.2.1 233 = .ok (.iload 10, 2) := by decide +kernel
theorem d_Model_plus_235 : decode m_Model_plus.2.1 235 = .ok (.isub, 1) := by decide +kernel
theorem d_Model_plus_236 : decode m_Model_plus.2.1 236 = .ok (.istore 12, 2) := by decide +kernel
theorem d_Model_plus_238 : decode m_Model_plus.2.1 238 = .ok (.iload 12, 2) := by decide +kernel
theorem d_Model_plus_240 : decode m_Model_plus.2.1 240 = .ok (.ifCond .ge 7, 3) := by decide +kernel
theorem d_Model_plus_243 : decode m_Model_plus.2.1 243 = .ok (.iconst 1, 1) := by decide +kernel
theorem d_Model_plus_244 : decode m_Model_plus.2.1 244 = .ok (.goto 4, 3) := by decide +kernel
theorem d_Model_plus_247 : decode m_Model_plus.2.1 247 = .ok (.iconst 0, 1) := by decide +kernel
theorem d_Model_plus_248 : decode m_Model_plus.2.1 248 = .ok (.istore 10, 2) := by decide +kernel
theorem d_Model_plus_250 : decode m_Model_plus.2.1 250 = .ok (.aload_n 0, 1) := by decide +kernel
theorem d_Model_plus_251 : decode m_Model_plus.2.1 251 = .ok (.getfield 17, 3) := by decide +kernel
theorem d_Model_plus_254 : decode m_Model_plus.2.1 254 = .ok (.iload 6, 2) := by decide +kernel
theorem d_Model_plus_256 : decode m_Model_plus.2.1 256 = .ok (.iconst 2, 1) := by decide +kernel
theorem d_Model_plus_257 : decode m_Model_plus.2.1 257 = .ok (.iadd, 1) := by decide +kernel
theorem d_Model_plus_258 : decode m_Model_plus.2.1 258 = .ok (.iload 11, 2) := by decide +kernel
theorem d_Model_plus_260 : decode m_Model_plus.2.1 260 = .ok (.iadd, 1) := by decide +kernel
theorem d_Model_plus_261 : decode m_Model_plus.2.1 261 = .ok (.iload 12, 2) := by decide +kernel
theorem d_Model_plus_263 : decode m_Model_plus.2.1 263 = .ok (.ifCond .ge 11, 3) := by decide +kernel
theorem d_Model_plus_266 : decode m_Model_plus.2.1 266 = .ok (.iload 12, 2) := by decide +kernel
theorem d_Model_plus_268 : decode m_Model_plus.2.1 268 = .ok (.bipush 10, 2) := by decide +kernel
theorem d_Model_plus_270 : decode m_Model_plus.2.1 270 = .ok (.iadd, 1) := by decide +kernel
theorem d_Model_plus_271 : decode m_Model_plus.2.1 271 = .ok (.goto 5, 3) := by decide +kernel
theorem d_Model_plus_274 : decode m_Model_plus.2.1 274 = .ok (.iload 12, 2) := by decide +kernel
theorem d_Model_plus_276 : decode m_Model_plus.2.1 276 = .ok (.iastore, 1) := by decide +kernel
theorem d_Model_plus_277 : decode m_Model_plus.2.1 277 = .ok (.iinc 11 1, 3) := by decide +kernel
theorem d_Model_plus_280 : decode m_Model_plus.2.1 280 = .ok (.goto (-71), 3) := by decide +kernel
theorem d_Model_plus_283 : decode m_Model_plus.2.1 283 = .ok (.aload_n 0, 1) := by decide +kernel
theorem d_Model_plus_284 : decode m_Model_plus.2.1 284 = .ok (.iload 6, 2) := by decide +kernel
theorem d_Model_plus_286 : decode m_Model_plus.2.1 286 = .ok (.iload 5, 2) := by decide +kernel
theorem d_Model_plus_288 : decode m_Model_plus.2.1 288 = .ok (.iload 7, 2) := by decide +kernel
theorem d_Model_plus_290 : decode m_Model_plus.2.1 290 = .ok (.ifCond .eq 12, 3) := by decide +kernel
theorem d_Model_plus_293 : decode m_Model_plus.2.1 293 = .ok (.aload_n 0, 1) := by decide +kernel
theorem d_Model_plus_294 : decode m_Model_plus.2.1 294 = .ok (.getfield 17, 3) := by decide +kernel
theorem d_Model_plus_297 : decode m_Model_plus.2.1 297 = .ok (.iload_n 1, 1) := by decide +kernel
theorem d_Model_plus_298 : decode m_Model_plus.2.1 298 = .ok (.iaload, 1) := by decide +kernel
theorem d_Model_plus_299 : decode m_Model_plus.2.1 299 = .ok (.goto 5, 3) := by decide +kernel
theorem d_Model_plus_302 : decode m_Model_plus.2.1 302 = .ok (.iload 4, 2) := by decide +kernel
theorem d_Model_plus_304 : decode m_Model_plus.2.1 304 = .ok (.invokevirtual 434, 3) := by decide +kernel
theorem d_Model_plus_307 : decode m_Model_plus.2.1 307 = .ok (.ireturn, 1) := by decide +kernel
theorem d_Model_ofLong_0 : decode m_Model_ofLong.2.1 0 = .ok (.aload_n 0, 1) := by decide +kernel
theorem d_Model_ofLong_1 : decode m_Model_ofLong.2.1 1 = .ok (.getfield 428, 3) := by decide +kernel
theorem d_Model_ofLong_4 : decode m_Model_ofLong.2.1 4 = .ok (.istore_n 3, 1) := by decide +kernel
theorem d_Model_ofLong_5 : decode m_Model_ofLong.2.1 5 = .ok (.iconst 0, 1) := by decide +kernel
theorem d_Model_ofLong_6 : decode m_Model_ofLong.2.1 6 = .ok (.istore 4, 2) := by decide +kernel
theorem d_Model_ofLong_8 : decode m_Model_ofLong.2.1 8 = .ok (.lload_n 1, 1) := by decide +kernel
theorem d_Model_ofLong_9 : decode m_Model_ofLong.2.1 9 = .ok (.lstore 5, 2) := by decide +kernel
theorem d_Model_ofLong_11 : decode m_Model_ofLong.2.1 11 = .ok (.lload 5, 2) := by decide +kernel
theorem d_Model_ofLong_13 : decode m_Model_ofLong.2.1 13 = .ok (.lconst 0, 1) := by decide +kernel
theorem d_Model_ofLong_14 : decode m_Model_ofLong.2.1 14 = .ok (.lcmp, 1) := by decide +kernel
theorem d_Model_ofLong_15 : decode m_Model_ofLong.2.1 15 = .ok (.ifCond .le 35, 3) := by decide +kernel
theorem d_Model_ofLong_18 : decode m_Model_ofLong.2.1 18 = .ok (.aload_n 0, 1) := by decide +kernel
theorem d_Model_ofLong_19 : decode m_Model_ofLong.2.1 19 = .ok (.getfield 17, 3) := by decide +kernel
theorem d_Model_ofLong_22 : decode m_Model_ofLong.2.1 22 = .ok (.iload_n 3, 1) := by decide +kernel
theorem d_Model_ofLong_23 : decode m_Model_ofLong.2.1 23 = .ok (.iconst 2, 1) := by decide +kernel
theorem d_Model_ofLong_24 : decode m_Model_ofLong.2.1 24 = .ok (.iadd, 1) := by decide +kernel
theorem d_Model_ofLong_25 : decode m_Model_ofLong.2.1 25 = .ok (.iload 4, 2) := by decide +kernel
theorem d_Model_ofLong_27 : decode m_Model_ofLong.2.1 27 = .ok (.iadd, 1) := by decide +kernel
theorem d_Model_ofLong_28 : decode m_Model_ofLong.2.1 28 = .ok (.lload 5, 2) := by decide +kernel
theorem d_Model_ofLong_30 : decode m_Model_ofLong.2.1 30 = .ok (.ldc2_w 426, 3) := by decide +kernel
theorem d_Model_ofLong_33 : decode m_Model_ofLong.2.1 33 = .ok (.lrem, 1) := by decide +kernel
theorem d_Model_ofLong_34 : decode m_Model_ofLong.2.1 34 = .ok (.l2i, 1) := by decide +kernel
theorem d_Model_ofLong_35 : decode m_Model_ofLong.2.1 35 = .ok (.iastore, 1) := by decide +kernel
theorem d_Model_ofLong_36 : decode m_Model_ofLong.2.1 36 = .ok (.iinc 4 1, 3) := by decide +kernel
theorem d_Model_ofLong_39 : decode m_Model_ofLong.2.1 39 = .ok (.lload 5, 2) := by decide +kernel
theorem d_Model_ofLong_41 : decode m_Model_ofLong.2.1 41 = .ok (.ldc2_w 426, 3) := by decide +kernel
theorem d_Model_ofLong_44 : decode m_Model_ofLong.2.1 44 = .ok (.ldiv, 1) := by decide +kernel
theorem d_Model_ofLong_45 : decode m_Model_ofLong.2.1 45 = .ok (.lstore 5, 2) := by decide +kernel
theorem d_Model_ofLong_47 : decode m_Model_ofLong.2.1 47 = .ok (.goto (-36), 3) := by decide +kernel
theorem d_Model_ofLong_50 : decode m_Model_ofLong.2.1 50 = .ok (.aload_n 0, 1) := by decide +kernel
theorem d_Model_ofLong_51 : decode m_Model_ofLong.2.1 51 = .ok (.iload_n 3, 1) := by decide +kernel
theorem d_Model_ofLong_52 : decode m_Model_ofLong.2.1 52 = .ok (.iload 4, 2) := by decide +kernel
theorem d_Model_ofLong_54 : decode m_Model_ofLong.2.1 54 = .ok (.iconst 1, 1) := by decide +kernel
theorem d_Model_ofLong_55 : decode m_Model_ofLong.2.1 55 = .ok (.invokevirtual 434, 3) := by decide +kernel
theorem d_Model_ofLong_58 : decode m_Model_ofLong.2.1 58 = .ok (.ireturn, 1) := by decide +kernel
theorem d_Model_toLong_0 : decode m_Model_toLong.2.1 0 = .ok (.aload_n 0, 1) := by decide +kernel
theorem d_Model_toLong_1 : decode m_Model_toLong.2.1 1 = .ok (.getfield 17, 3) := by decide +kernel
theorem d_Model_toLong_4 : decode m_Model_toLong.2.1 4 = .ok (.iload_n 1, 1) := by decide +kernel
theorem d_Model_toLong_5 : decode m_Model_toLong.2.1 5 = .ok (.iaload, 1) := by decide +kernel
theorem d_Model_toLong_6 : decode m_Model_toLong.2.1 6 = .ok (.ifCond .ge 7, 3) := by decide +kernel
theorem d_Model_toLong_9 : decode m_Model_toLong.2.1 9 = .ok (.ldc2_w 438, 3) := by decide +kernel
theorem d_Model_toLong_12 : decode m_Model_toLong.2.1 12 = .ok (.lreturn, 1) := by decide +kernel
theorem d_Model_toLong_13 : decode m_Model_toLong.2.1 13 = .ok (.aload_n 0, 1) := by decide +kernel
theorem d_Model_toLong_14 : decode m_Model_toLong.2.1 14 = .ok (.getfield 17, 3) := by decide +kernel
theorem d_Model_toLong_17 : decode m_Model_toLong.2.1 17 = .ok (.iload_n 1, 1) := by decide +kernel
theorem d_Model_toLong_18 : decode m_Model_toLong.2.1 18 = .ok (.iconst 1, 1) := by decide +kernel
theorem d_Model_toLong_19 : decode m_Model_toLong.2.1 19 = .ok (.iadd, 1) := by decide +kernel
theorem d_Model_toLong_20 : decode m_Model_toLong.2.1 20 = .ok (.iaload, 1) := by decide +kernel
theorem d_Model_toLong_21 : decode m_Model_toLong.2.1 21 = .ok (.bipush 17, 2) := by decide +kernel
theorem d_Model_toLong_23 : decode m_Model_toLong.2.1 23 = .ok (.if_icmp .le 7, 3) := by decide +kernel
theorem d_Model_toLong_26 : decode m_Model_toLong.2.1 26 = .ok (.ldc2_w 440, 3) := by decide +kernel
theorem d_Model_toLong_29 : decode m_Model_toLong.2.1 29 = .ok (.lreturn, 1) := by decide +kernel
theorem d_Model_toLong_30 : decode m_Model_toLong.2.1 30 = .ok (.lconst 0, 1) := by decide +kernel
theorem d_Model_toLong_31 : decode m_Model_toLong.2.1 31 = .ok (.lstore_n 2, 1) := by decide +kernel
theorem d_Model_toLong_32 : decode m_Model_toLong.2.1 32 = .ok (.aload_n 0, 1) := by decide +kernel
theorem d_Model_toLong_33 : decode m_Model_toLong.2.1 33 = .ok (.getfield 17, 3) := by decide +kernel
theorem d_Model_toLong_36 : decode m_Model_toLong.2.1 36 = .ok (.iload_n 1, 1) := by decide +kernel
theorem d_Model_toLong_37 : decode m_Model_toLong.2.1 37 = .ok (.iconst 1, 1) := by decide +kernel
theorem d_Model_toLong_38 : decode m_Model_toLong.2.1 38 = .ok (.iadd, 1) := by decide +kernel
theorem d_Model_toLong_39 : decode m_Model_toLong.2.1 39 = .ok (.iaload, 1) := by decide +kernel
theorem d_Model_toLong_40 : decode m_Model_toLong.2.1 40 = .ok (.iconst 1, 1) := by decide +kernel
theorem d_Model_toLong_41 : decode m_Model_toLong.2.1 41 = .ok (.isub, 1) := by decide +kernel
theorem d_Model_toLong_42 : decode m_Model_toLong.2.1 42 = .ok (.istore 4, 2) := by decide +kernel
theorem d_Model_toLong_44 : decode m_Model_toLong.2.1 44 = .ok (.iload 4, 2) := by decide +kernel
theorem d_Model_toLong_46 : decode m_Model_toLong.2.1 46 = .ok (.ifCond .lt 28, 3) := by decide +kernel
theorem d_Model_toLong_49 : decode m_Model_toLong.2.1 49 = .ok (.ldc2_w 426, 3) := by decide +kernel
theorem d_Model_toLong_52 : decode m_Model_toLong.2.1 52 = .ok (.lload_n 2, 1) := by decide +kernel
theorem d_Model_toLong_53 : decode m_Model_toLong.2.1 53 = .ok (.lmul, 1) := by decide +kernel
theorem d_Model_toLong_54 : decode m_Model_toLong.2.1 54 = .ok (.aload_n 0, 1) := by decide +kernel
theorem d_Model_toLong_55 : decode m_Model_toLong.2.1 55 = .ok (.getfield 17, 3) := by decide +kernel
theorem d_Model_toLong_58 : decode m_Model_toLong.2.1 58 = .ok (.iload_n 1, 1) := by decide +kernel
theorem d_Model_toLong_59 : decode m_Model_toLong.2.1 59 = .ok (.iconst 2, 1) := by decide +kernel
theorem d_Model_toLong_60 : decode m_Model_toLong.2.1 60 = .ok (.iadd, 1) := by decide +kernel
theorem d_Model_toLong_61 : decode m_Model_toLong.2.1 61 = .ok (.iload 4, 2) := by decide +kernel
theorem d_Model_toLong_63 : decode m_Model_toLong.2.1 63 = .ok (.iadd, 1) := by decide +kernel
theorem d_Model_toLong_64 : decode m_Model_toLong.2.1 64 = .ok (.iaload, 1) := by decide +kernel
theorem d_Model_toLong_65 : decode m_Model_toLong.2.1 65 = .ok (.i2l, 1) := by decide +kernel
theorem d_Model_toLong_66 : decode m_Model_toLong.2.1 66 = .ok (.ladd, 1) := by decide +kernel
theorem d_Model_toLong_67 : decode m_Model_toLong.2.1 67 = .ok (.lstore_n 2, 1) := by decide +kernel
theorem d_Model_toLong_68 : decode m_Model_toLong.2.1 68 = .ok (.iinc 4 (-1), 3) := by decide +kernel
theorem d_Model_toLong_71 : decode m_Model_toLong.2.1 71 = .ok (.goto (-27), 3) := by decide +kernel
theorem d_Model_toLong_74 : decode m_Model_toLong.2.1 74 = .ok (.lload_n 2, 1) := by decide +kernel
theorem d_Model_toLong_75 : decode m_Model_toLong.2.1 75 = .ok (.lreturn, 1) := by decide +kernel
theorem c_Model_digitV (d : Nat) {M r n k : Nat} {v : Int} {I : M32} {L : M64} {R : MR} {T : SH} (hM : MdlS M R T) (hV : PolV I (M + 3) r n v) (hr : r + n + 2 ≤ 1100000) (hk : k ≤ 1100000) :
    Call m_Model_digit y_Model_digit d 0 0 [.ref M, .int (cI r), .int (cI k)] I L R T (rI fun r I' L' R' T' => r = cI (d10 v.natAbs k) ∧ I' = I ∧ L' = L ∧ R' = R ∧ T' = T) := c_Model_digit d hM hV.2.2.1 hV.2.2.2 hV.1.1 hr hk
theorem c_Model_closeV (d : Nat) {M r n : Nat} {s u : Int} {P : Prop} [Decidable P] {I : M32} {L : M64} {R : MR} {T : SH} (hM : MdlS M R T) (hD : ∀ k, k < n → I (M + 3) (r + k + 2) = cI (d10 u.natAbs k)) (hx : u.natAbs < 10 ^ n) (hr : r + n + 2 ≤ 1100000) (hP : I M 8 = cI (bI P)) (hs : u ≠ 0 → s = cmpZ u 0) :
    Call m_Model_close y_Model_close d 0 0 [.ref M, .int (cI r), .int (cI n), .int (cI s)] I L R T (rI fun r' I' L' R' T' => (r' = cI r ∧ ∃ m, m ≤ n ∧ PolV I' (M + 3) r m u ∧ I' M 7 = cI (r + m + 2 : Nat) ∧ I' M 8 = cI (bI (P ∨ 300 < m)) ∧ FrP M r I I') ∧ L' = L ∧ R' = R ∧ T' = T) := by
  refine (c_Model_close d (s := s) hM hD hx hr hP).mono ?_
  rintro o I' L' R' T' ⟨q, e, ⟨e1, m, hm, hN, rfl⟩, h2⟩
  have hz := hN.zero
  refine ⟨q, e, ⟨e1, m, hm, ⟨hN, ?_, ?_, fun k hk => ?_⟩, ?_, ?_, (((FrP.rf.p (Nat.le_refl _) _).p (by omega) _).f7 _).f8 _⟩, h2⟩
  · rw [up2_a _ _ _ (by omega), up2_a _ _ _ (by omega), up2_k _ _ _ (by omega), up2_s]
    congr 1
    by_cases e0 : u = 0
    · rw [if_pos (hz.mpr (by omega)), e0]; rfl
    · rw [if_neg (fun h => e0 (by have := hz.mp h; omega))]; exact hs e0
  · rw [up2_a _ _ _ (by omega), up2_a _ _ _ (by omega), up2_s]
  · rw [up2_a _ _ _ (by omega), up2_a _ _ _ (by omega), up2_k _ _ _ (by omega), up2_k _ _ _ (by omega)]; exact hD k (by omega)
  · rw [up2_k _ _ _ (by omega), up2_s]
  · rw [up2_s]
theorem cmpZ_sg {w s : Int} (hs : s = 1 ∨ s = -1) : cmpZ w 0 * s = cmpZ (w * s) 0 ∧ (w * s).natAbs = w.natAbs := by
  rcases hs with rfl | rfl
  · simp
  · have : w * -1 = -w := by omega
    rw [this]
    refine ⟨?_, Int.natAbs_neg w⟩
    unfold cmpZ
    (repeat' split) <;> omega
theorem cmpZ_cases (w : Int) : (w < 0 ∧ cmpZ w 0 = -1) ∨ (w = 0 ∧ cmpZ w 0 = 0) ∨ (0 < w ∧ cmpZ w 0 = 1) := by
  unfold cmpZ; (repeat' split) <;> omega
theorem dig_up {J : M32} {p t k s r : Nat} {x : Int} (hs : s < 10 ^ k) (hr : r < 10) (hD : ∀ j, j < k → J p (t + j + 2) = cI (d10 s j)) (hx : x = r) : ∀ j, j < k + 1 → up2 J p (t + k + 2) (cI x) p (t + j + 2) = cI (d10 (s + r * 10 ^ k) j) := by
  intro j hj
  by_cases e : j = k
  · subst e; rw [up2_s, d10_add_hi hs hr, hx]
  · rw [up2_k _ _ _ (by omega), d10_add_lo hs (by omega)]; exact hD j (by omega)
theorem Run.top2 {Y : MI} {d rc rs pc : Nat} {lv : List (Nat × Value)} {st : List Value} {I : M32} {L : M64} {R : MR} {T : SH} {Q : QT} {w u v : Value} (h : u = v) (k : Run Y d rc rs pc lv (w :: v :: st) I L R T Q) : Run Y d rc rs pc lv (w :: u :: st) I L R T Q := h ▸ k
theorem c_Model_plus (d : Nat) {M a b n m t : Nat} {v w sg : Int} {c : Bool} {I : M32} {L : M64} {R : MR} {T : SH} (hd : 2 ≤ d) (hM : MdlS M R T) (hV : PolV I (M + 3) a n v) (hW : PolV I (M + 3) b m w) (hsg : sg = 1 ∨ sg = -1) (ht : I M 7 = cI t) (h8 : I M 8 = cI (bI (c = true))) (ha : a + n + 2 ≤ t) (hb : b + m + 2 ≤ t) (h1 : t + n + 3 ≤ 1100000) (h2 : t + m + 3 ≤ 1100000) :
    Call m_Model_plus y_Model_plus d 0 0 [.ref M, .int (cI a), .int (cI b), .int (cI sg)] I L R T (rI fun r' I' L' R' T' => (r' = cI t ∧ ∃ (k : Nat) (c' : Bool), PolV I' (M + 3) t k (v + w * sg) ∧ I' M 7 = cI (t + k + 2 : Nat) ∧ I' M 8 = cI (bI (c' = true)) ∧ (n ≤ 300 → (c' = true ↔ (c = true ∨ 300 < k))) ∧ FrP M t I I') ∧ L' = L ∧ R' = R ∧ T' = T) := by
  obtain ⟨e1, e2⟩ := cmpZ_sg (w := w) hsg
  generalize hw' : w * sg = w' at e1 e2 ⊢
  refine Call.ofRun (by decide) ⟨rfl, rfl⟩ (Nat.le_of_ble_eq_true rfl) ?_
  refine Run.gen fun Q hQ => ?_
  refine q_aload_n d_Model_plus_0 rfl ?_
  refine q_getR d_Model_plus_1 fl_Model_17 hM.1 ⟨rfl, by decide⟩ (mR5 hM) ?_
  refine q_iload_n d_Model_plus_4 rfl ?_
  refine j_iald (j := b) (v := (cI (cmpZ w 0))) d_Model_plus_5 (mT5 hM) (mN5 hM) (by omega) (by omega) (by omega) hW.2.1 ?_
  refine q_iload_n d_Model_plus_6 rfl ?_
  refine j_imul d_Model_plus_7 ?_
  refine Run.top (v := .int (cI (cmpZ w' 0))) (by rw [e1]) ?_
  have cv := cmpZ_cases v
  have cw := cmpZ_cases w'
  have i1 := cmpZ_in v 0
  have i2 := cmpZ_in w' 0
  refine q_istore (lv' := [(4, .int (cI (cmpZ w' 0))), (0, .ref M), (1, .int (cI (a : Int))), (2, .int (cI (b : Int))), (3, .int (cI sg))]) d_Model_plus_8 (by decide) rfl ?_
  refine q_iload d_Model_plus_10 rfl ?_
  refine j_if_ne (tgt := 21) d_Model_plus_12 (by decide) (by omega) (fun hb0 => ?_) (fun hb0 => ?_)
  rotate_left
  · skip
    refine q_aload_n d_Model_plus_15 rfl ?_
    refine q_iload_n d_Model_plus_16 rfl ?_
    refine q_callV (ci := 17) (rc := 0) (rs := 0) (rest := []) d_Model_plus_17 ml_Model_449 ok_Model_copyOf rfl hM.1 (by decide) (c_Model_copyOf (d - 1) hM hV ht ha (by omega)) rfl rfl (by omega) (Nat.le_of_ble_eq_true rfl) (kv_I (fun q J hJ => ?_)) kt_I
    obtain ⟨rfl, hJ1, hJ2, hJ3, hJ4⟩ := hJ
    refine q_ireturn d_Model_plus_20 rfl rfl ?_
    refine hQ _ _ _ _ _ ?_
    refine ⟨_, rfl, ⟨rfl, n, c, ?_, hJ2, hJ3.trans h8, fun h => ⟨Or.inl, fun q => q.elim id fun q => absurd q (by omega)⟩, hJ4⟩, rfl, rfl, rfl⟩
    rw [show v + w' = v by omega]; exact hJ1
  suffices J : ∀ (u : Int), ((((n : Int) ≤ (m : Int)) ∧ u = (m : Int)) ∨ (((m : Int) < (n : Int)) ∧ u = (n : Int))) → Run m_Model_plus d 0 0 59 [(0, .ref M), (1, .int (cI (a : Int))), (2, .int (cI (b : Int))), (3, .int (cI sg)), (4, .int (cI (cmpZ w' 0)))] [.int (cI u)] I L R T Q by
    refine q_aload_n d_Model_plus_21 rfl ?_
    refine q_getR d_Model_plus_22 fl_Model_17 hM.1 ⟨rfl, by decide⟩ (mR5 hM) ?_
    refine q_iload_n d_Model_plus_25 rfl ?_
    refine j_iconst d_Model_plus_26 ?_
    refine j_iadd d_Model_plus_27 ?_
    refine j_iald (j := (a + 1)) (v := (cI (n : Int))) d_Model_plus_28 (mT5 hM) (mN5 hM) (by omega) (by omega) (by omega) hV.2.2.1 ?_
    refine q_aload_n d_Model_plus_29 rfl ?_
    refine q_getR d_Model_plus_30 fl_Model_17 hM.1 ⟨rfl, by decide⟩ (mR5 hM) ?_
    refine q_iload_n d_Model_plus_33 rfl ?_
    refine j_iconst d_Model_plus_34 ?_
    refine j_iadd d_Model_plus_35 ?_
    refine j_iald (j := (b + 1)) (v := (cI (m : Int))) d_Model_plus_36 (mT5 hM) (mN5 hM) (by omega) (by omega) (by omega) hW.2.2.1 ?_
    refine j_icmp_le (tgt := 51) d_Model_plus_37 (by decide) (by omega) (by omega) (fun hp1 => ?_) (fun hp1 => ?_)
    · refine q_aload_n d_Model_plus_51 rfl ?_
      refine q_getR d_Model_plus_52 fl_Model_17 hM.1 ⟨rfl, by decide⟩ (mR5 hM) ?_
      refine q_iload_n d_Model_plus_55 rfl ?_
      refine j_iconst d_Model_plus_56 ?_
      refine j_iadd d_Model_plus_57 ?_
      refine j_iald (j := (b + 1)) (v := (cI (m : Int))) d_Model_plus_58 (mT5 hM) (mN5 hM) (by omega) (by omega) (by omega) hW.2.2.1 ?_
      refine Run.lv (lv' := [(0, .ref M), (1, .int (cI (a : Int))), (2, .int (cI (b : Int))), (3, .int (cI sg)), (4, .int (cI (cmpZ w' 0)))]) (by intro q hq; simp only [List.mem_cons, List.not_mem_nil, or_false] at hq ⊢; rcases hq with rfl | rfl | rfl | rfl | rfl <;> simp) ?_
      exact J _ (Or.inl ⟨hp1, rfl⟩)
    · refine q_aload_n d_Model_plus_40 rfl ?_
      refine q_getR d_Model_plus_41 fl_Model_17 hM.1 ⟨rfl, by decide⟩ (mR5 hM) ?_
      refine q_iload_n d_Model_plus_44 rfl ?_
      refine j_iconst d_Model_plus_45 ?_
      refine j_iadd d_Model_plus_46 ?_
      refine j_iald (j := (a + 1)) (v := (cI (n : Int))) d_Model_plus_47 (mT5 hM) (mN5 hM) (by omega) (by omega) (by omega) hV.2.2.1 ?_
      refine q_goto (tgt := 59) d_Model_plus_48 (by decide) ?_
      refine Run.lv (lv' := [(0, .ref M), (1, .int (cI (a : Int))), (2, .int (cI (b : Int))), (3, .int (cI sg)), (4, .int (cI (cmpZ w' 0)))]) (by intro q hq; simp only [List.mem_cons, List.not_mem_nil, or_false] at hq ⊢; rcases hq with rfl | rfl | rfl | rfl | rfl <;> simp) ?_
      exact J _ (Or.inr ⟨hp1, rfl⟩)
  intro u hu
  refine q_istore (lv' := [(5, .int (cI u)), (0, .ref M), (1, .int (cI (a : Int))), (2, .int (cI (b : Int))), (3, .int (cI sg)), (4, .int (cI (cmpZ w' 0)))]) d_Model_plus_59 (by decide) rfl ?_
  refine q_aload_n d_Model_plus_61 rfl ?_
  refine j_getI (v := (cI (t : Int))) d_Model_plus_62 fl_Model_428 hM.1 ⟨rfl, by decide⟩ ht ?_
  refine q_istore (lv' := [(6, .int (cI (t : Int))), (5, .int (cI u)), (0, .ref M), (1, .int (cI (a : Int))), (2, .int (cI (b : Int))), (3, .int (cI sg)), (4, .int (cI (cmpZ w' 0)))]) d_Model_plus_65 (by decide) rfl ?_
  refine q_aload_n d_Model_plus_67 rfl ?_
  refine q_getR d_Model_plus_68 fl_Model_17 hM.1 ⟨rfl, by decide⟩ (mR5 hM) ?_
  refine q_iload_n d_Model_plus_71 rfl ?_
  refine j_iald (j := a) (v := (cI (cmpZ v 0))) d_Model_plus_72 (mT5 hM) (mN5 hM) (by omega) (by omega) (by omega) hV.2.1 ?_
  obtain ⟨N, hN⟩ : ∃ N : Nat, u = N ∧ n ≤ N ∧ m ≤ N ∧ t + N + 3 ≤ 1100000 := ⟨u.toNat, by omega⟩
  obtain ⟨rfl, hN1, hN2, hN3⟩ := hN
  have hx : v.natAbs < 10 ^ N := Nat.lt_of_lt_of_le hV.1.1 (Nat.pow_le_pow_right (by decide) hN1)
  have hy : w'.natAbs < 10 ^ N := by rw [e2]; exact Nat.lt_of_lt_of_le hW.1.1 (Nat.pow_le_pow_right (by decide) hN2)
  have hxN := l10_all (Nat.lt_of_lt_of_le hx (Nat.pow_le_pow_right (by decide) (Nat.le_succ N)))
  have hyN := l10_all (Nat.lt_of_lt_of_le hy (Nat.pow_le_pow_right (by decide) (Nat.le_succ N)))
  have add : ∀ (f k cr s : Nat) (z e : Int) (J : M32), N + 1 - k < f → z = k → e = cr → k ≤ N + 1 → cr ≤ 1 → s < 10 ^ k → s + cr * 10 ^ k = l10 v.natAbs k + l10 w'.natAbs k → (cmpZ v 0 = 0 ∨ cmpZ v 0 = cmpZ w' 0) → (∀ j, j < k → J (M + 3) (t + j + 2) = cI (d10 s j)) → J M = I M → FrP M t I J → Run m_Model_plus d 0 0 93 [(0, .ref M), (1, .int (cI (a : Int))), (2, .int (cI (b : Int))), (3, .int (cI sg)), (4, .int (cI (cmpZ w' 0))), (5, .int (cI (N : Int))), (6, .int (cI (t : Int))), (7, .int (cI e)), (8, .int (cI z))] [] J L R T Q := by
    intro f
    induction f with
    | zero => intro k cr s z e J h; omega
    | succ f ih =>
    intro k cr s z e J hf hz he hk hc hs hsum hsig hD hJM hF
    have hVJ := hV.keep hF ha
    have hWJ := hW.keep hF hb
    refine q_iload d_Model_plus_93 rfl ?_
    refine q_iload d_Model_plus_95 rfl ?_
    refine j_icmp_gt (tgt := 150) d_Model_plus_97 (by decide) (by omega) (by omega) (fun h3 => ?_) (fun h3 => ?_)
    · skip
      have : k = N + 1 := by omega
      subst this
      rw [hxN, hyN] at hsum
      have hc0 : cr = 0 := by
        have h5 : v.natAbs + w'.natAbs < 10 ^ (N + 1) := by rw [Nat.pow_succ]; omega
        rcases Nat.eq_zero_or_pos cr with q | q
        · exact q
        · have : 10 ^ (N + 1) ≤ cr * 10 ^ (N + 1) := Nat.le_mul_of_pos_left _ q
          omega
      subst hc0
      have hu : (v + w').natAbs = s := by omega
      refine q_aload_n d_Model_plus_150 rfl ?_
      refine q_iload d_Model_plus_151 rfl ?_
      refine q_iload d_Model_plus_153 rfl ?_
      refine j_iconst d_Model_plus_155 ?_
      refine j_iadd d_Model_plus_156 ?_
      refine q_iload d_Model_plus_157 rfl ?_
      refine Run.top2 (v := .int (cI ((N + 1 : Nat) : Int))) (by congr 2) ?_
      refine q_callV (ci := 17) (rc := 0) (rs := 0) (rest := []) d_Model_plus_159 ml_Model_434 ok_Model_close rfl hM.1 (by decide) (c_Model_closeV (d - 1) (u := v + w') (P := c = true) hM (by rw [hu]; exact hD) (by rw [hu]; exact hs) (by omega) (by rw [hJM]; exact h8) (fun h => by rcases cmpZ_cases (v + w') with q | q | q <;> omega)) rfl rfl (by omega) (Nat.le_of_ble_eq_true rfl) (kv_I (fun q K hK => ?_)) kt_I
      obtain ⟨rfl, k', hk', g1, g2, g3, g4⟩ := hK
      refine q_ireturn d_Model_plus_162 rfl rfl ?_
      refine hQ _ _ _ _ _ ?_
      exact ⟨_, rfl, ⟨rfl, k', decide (c = true ∨ 300 < k'), g1, g2, by rw [g3]; congr 1; exact bI_c (by simp), fun _ => by simp, hF.tr g4 (Nat.le_refl _)⟩, rfl, rfl, rfl⟩
    · skip
      have d1 := d10_lt v.natAbs k
      have d2 := d10_lt w.natAbs k
      obtain ⟨c', r, q1, q2, q3, q4⟩ := add_step10 hsum hs hc
      rw [e2] at q1
      subst hz
      refine q_aload_n d_Model_plus_100 rfl ?_
      refine q_iload_n d_Model_plus_101 rfl ?_
      refine q_iload d_Model_plus_102 rfl ?_
      refine q_callV (ci := 17) (rc := 0) (rs := 0) (rest := []) d_Model_plus_104 ml_Model_442 ok_Model_digit rfl hM.1 (by decide) (c_Model_digitV (d - 1) (k := k) hM hVJ (by omega) (by omega)) rfl rfl (by omega) (Nat.le_of_ble_eq_true rfl) (kp_I ?_) kt_I
      refine q_aload_n d_Model_plus_107 rfl ?_
      refine q_iload_n d_Model_plus_108 rfl ?_
      refine q_iload d_Model_plus_109 rfl ?_
      refine q_callV (ci := 17) (rc := 0) (rs := 0) (rest := [.int (cI (d10 v.natAbs k : Int))]) d_Model_plus_111 ml_Model_442 ok_Model_digit rfl hM.1 (by decide) (c_Model_digitV (d - 1) (k := k) hM hWJ (by omega) (by omega)) rfl rfl (by omega) (Nat.le_of_ble_eq_true rfl) (kp_I ?_) kt_I
      refine j_iadd d_Model_plus_114 ?_
      refine q_iload d_Model_plus_115 rfl ?_
      refine j_iadd d_Model_plus_117 ?_
      refine q_istore (lv' := [(9, .int (cI (((d10 v.natAbs k : Int) + (d10 w.natAbs k : Int)) + e))), (0, .ref M), (1, .int (cI (a : Int))), (2, .int (cI (b : Int))), (3, .int (cI sg)), (4, .int (cI (cmpZ w' 0))), (5, .int (cI (N : Int))), (6, .int (cI (t : Int))), (7, .int (cI e)), (8, .int (cI (k : Int)))]) d_Model_plus_118 (by decide) rfl ?_
      refine q_aload_n d_Model_plus_120 rfl ?_
      refine q_getR d_Model_plus_121 fl_Model_17 hM.1 ⟨rfl, by decide⟩ (mR5 hM) ?_
      refine q_iload d_Model_plus_124 rfl ?_
      refine j_iconst d_Model_plus_126 ?_
      refine j_iadd d_Model_plus_127 ?_
      refine q_iload d_Model_plus_128 rfl ?_
      refine j_iadd d_Model_plus_130 ?_
      refine q_iload d_Model_plus_131 rfl ?_
      refine j_bipush d_Model_plus_133 (by decide) ?_
      refine j_irem d_Model_plus_135 (by omega) (by omega) ?_
      refine j_iast (j := (t + k + 2)) d_Model_plus_136 (mT5 hM) (mN5 hM) (by omega) (by omega) (by omega) ?_
      refine q_iload d_Model_plus_137 rfl ?_
      refine j_bipush d_Model_plus_139 (by decide) ?_
      refine j_idiv d_Model_plus_141 (by omega) (by omega) ?_
      refine q_istore (lv' := [(7, .int (cI ((((d10 v.natAbs k : Int) + (d10 w.natAbs k : Int)) + e) / 10))), (9, .int (cI (((d10 v.natAbs k : Int) + (d10 w.natAbs k : Int)) + e))), (0, .ref M), (1, .int (cI (a : Int))), (2, .int (cI (b : Int))), (3, .int (cI sg)), (4, .int (cI (cmpZ w' 0))), (5, .int (cI (N : Int))), (6, .int (cI (t : Int))), (8, .int (cI (k : Int)))]) d_Model_plus_142 (by decide) rfl ?_
      refine j_iinc (lv' := [(8, .int (cI ((k : Int) + 1))), (7, .int (cI ((((d10 v.natAbs k : Int) + (d10 w.natAbs k : Int)) + e) / 10))), (9, .int (cI (((d10 v.natAbs k : Int) + (d10 w.natAbs k : Int)) + e))), (0, .ref M), (1, .int (cI (a : Int))), (2, .int (cI (b : Int))), (3, .int (cI sg)), (4, .int (cI (cmpZ w' 0))), (5, .int (cI (N : Int))), (6, .int (cI (t : Int)))]) d_Model_plus_144 rfl (by decide) rfl ?_
      refine q_goto (tgt := 93) d_Model_plus_147 (by decide) ?_
      refine Run.lv (lv' := [(0, .ref M), (1, .int (cI (a : Int))), (2, .int (cI (b : Int))), (3, .int (cI sg)), (4, .int (cI (cmpZ w' 0))), (5, .int (cI (N : Int))), (6, .int (cI (t : Int))), (7, .int (cI ((((d10 v.natAbs k : Int) + (d10 w.natAbs k : Int)) + e) / 10))), (8, .int (cI ((k : Int) + 1)))]) (by intro q hq; simp only [List.mem_cons, List.not_mem_nil, or_false] at hq ⊢; rcases hq with rfl | rfl | rfl | rfl | rfl | rfl | rfl | rfl | rfl <;> simp) ?_
      exact ih (k + 1) c' (s + r * 10 ^ k) _ _ _ (by omega) (by omega) (by omega) (by omega) q3 (add_lt10 hs q2) q4 hsig (dig_up hs q2 hD (by omega)) (by rw [up2_row _ _ (by omega)]; exact hJM) (hF.p (by omega) _)
  have sub : ∀ (f k cr s g h gn hn : Nat) (x y : Int) (z e q : Int) (J : M32), N - k < f → z = k → e = cr → k ≤ N → cr ≤ 1 → s < 10 ^ k → s + l10 y.natAbs k = l10 x.natAbs k + cr * 10 ^ k → PolV I (M + 3) g gn x → PolV I (M + 3) h hn y → g + gn + 2 ≤ t → h + hn + 2 ≤ t → (v + w').natAbs + y.natAbs = x.natAbs → x.natAbs < 10 ^ N → (q = 0 ∧ (v + w' ≠ 0 → cmpZ w' 0 = cmpZ (v + w') 0) ∨ q = 1 ∧ (v + w' ≠ 0 → cmpZ v 0 = cmpZ (v + w') 0)) → (∀ j, j < k → J (M + 3) (t + j + 2) = cI (d10 s j)) → J M = I M → FrP M t I J → Run m_Model_plus d 0 0 209 [(0, .ref M), (1, .int (cI (a : Int))), (2, .int (cI (b : Int))), (3, .int (cI sg)), (4, .int (cI (cmpZ w' 0))), (5, .int (cI (N : Int))), (6, .int (cI (t : Int))), (7, .int (cI q)), (8, .int (cI (g : Int))), (9, .int (cI (h : Int))), (10, .int (cI e)), (11, .int (cI z))] [] J L R T Q := by
    intro f
    induction f with
    | zero => intro k cr s g h gn hn x y z e q J h; omega
    | succ f ih =>
    intro k cr s g h gn hn x y z e q J hf hz he hk hc hs hsum hG hH hg hh hxy hxN' hq hD hJM hF
    have hGJ := hG.keep hF hg
    have hHJ := hH.keep hF hh
    have hVJ := hV.keep hF ha
    refine q_iload d_Model_plus_209 rfl ?_
    refine q_iload d_Model_plus_211 rfl ?_
    refine j_icmp_ge (tgt := 283) d_Model_plus_213 (by decide) (by omega) (by omega) (fun h3 => ?_) (fun h3 => ?_)
    · skip
      obtain rfl : N = k := by omega
      have e5 : l10 x.natAbs N = x.natAbs := l10_all hxN'
      have e6 : l10 y.natAbs N = y.natAbs := l10_all (by omega)
      rw [e5, e6] at hsum
      have hc0 : cr = 0 := by
        rcases Nat.eq_zero_or_pos cr with q | q
        · exact q
        · have : 10 ^ N ≤ cr * 10 ^ N := Nat.le_mul_of_pos_left _ q
          omega
      subst hc0
      have hu : (v + w').natAbs = s := by omega
      refine q_aload_n d_Model_plus_283 rfl ?_
      refine q_iload d_Model_plus_284 rfl ?_
      refine q_iload d_Model_plus_286 rfl ?_
      refine q_iload d_Model_plus_288 rfl ?_
      suffices J : ∀ (sb : Int), (((q = 0) ∧ sb = (cmpZ w' 0)) ∨ ((¬ q = 0) ∧ sb = (cmpZ v 0))) → Run m_Model_plus d 0 0 304 [(0, .ref M), (1, .int (cI (a : Int))), (2, .int (cI (b : Int))), (3, .int (cI sg)), (4, .int (cI (cmpZ w' 0))), (5, .int (cI (N : Int))), (6, .int (cI (t : Int))), (7, .int (cI q)), (8, .int (cI (g : Int))), (9, .int (cI (h : Int))), (10, .int (cI e)), (11, .int (cI z))] [.int (cI sb), .int (cI (N : Int)), .int (cI (t : Int)), .ref M] J L R T Q by
        refine j_if_eq (tgt := 302) d_Model_plus_290 (by decide) (by omega) (fun hp2 => ?_) (fun hp2 => ?_)
        · refine q_iload d_Model_plus_302 rfl ?_
          exact J _ (Or.inl ⟨hp2, rfl⟩)
        · refine q_aload_n d_Model_plus_293 rfl ?_
          refine q_getR d_Model_plus_294 fl_Model_17 hM.1 ⟨rfl, by decide⟩ (mR5 hM) ?_
          refine q_iload_n d_Model_plus_297 rfl ?_
          refine j_iald (j := a) (v := (cI (cmpZ v 0))) d_Model_plus_298 (mT5 hM) (mN5 hM) (by omega) (by omega) (by omega) hVJ.2.1 ?_
          refine q_goto (tgt := 304) d_Model_plus_299 (by decide) ?_
          exact J _ (Or.inr ⟨hp2, rfl⟩)
      intro sb hsb
      refine q_callV (ci := 17) (rc := 0) (rs := 0) (rest := []) d_Model_plus_304 ml_Model_434 ok_Model_close rfl hM.1 (by decide) (c_Model_closeV (d - 1) (u := v + w') (P := c = true) hM (by rw [hu]; exact hD) (by rw [hu]; exact hs) (by omega) (by rw [hJM]; exact h8) (fun h => by rcases hq with ⟨q1, q2⟩ | ⟨q1, q2⟩ <;> (have := q2 h; omega))) rfl rfl (by omega) (Nat.le_of_ble_eq_true rfl) (kv_I (fun r K hK => ?_)) kt_I
      obtain ⟨rfl, k', hk', g1, g2, g3, g4⟩ := hK
      refine q_ireturn d_Model_plus_307 rfl rfl ?_
      refine hQ _ _ _ _ _ ?_
      exact ⟨_, rfl, ⟨rfl, k', decide (c = true ∨ 300 < k'), g1, g2, by rw [g3]; congr 1; exact bI_c (by simp), fun _ => by simp, hF.tr g4 (Nat.le_refl _)⟩, rfl, rfl, rfl⟩
    · skip
      have d1 := d10_lt x.natAbs k
      have d2 := d10_lt y.natAbs k
      obtain ⟨c', r, q1, q2, q3, q5, q4⟩ := sub_step10 hsum hs hc
      subst hz
      refine q_aload_n d_Model_plus_216 rfl ?_
      refine q_iload d_Model_plus_217 rfl ?_
      refine q_iload d_Model_plus_219 rfl ?_
      refine q_callV (ci := 17) (rc := 0) (rs := 0) (rest := []) d_Model_plus_221 ml_Model_442 ok_Model_digit rfl hM.1 (by decide) (c_Model_digitV (d - 1) (k := k) hM hGJ (by omega) (by omega)) rfl rfl (by omega) (Nat.le_of_ble_eq_true rfl) (kp_I ?_) kt_I
      refine q_aload_n d_Model_plus_224 rfl ?_
      refine q_iload d_Model_plus_225 rfl ?_
      refine q_iload d_Model_plus_227 rfl ?_
      refine q_callV (ci := 17) (rc := 0) (rs := 0) (rest := [.int (cI (d10 x.natAbs k : Int))]) d_Model_plus_229 ml_Model_442 ok_Model_digit rfl hM.1 (by decide) (c_Model_digitV (d - 1) (k := k) hM hHJ (by omega) (by omega)) rfl rfl (by omega) (Nat.le_of_ble_eq_true rfl) (kp_I ?_) kt_I
      refine j_isub d_Model_plus_232 ?_
      refine q_iload d_Model_plus_233 rfl ?_
      refine j_isub d_Model_plus_235 ?_
      refine q_istore (lv' := [(12, .int (cI (((d10 x.natAbs k : Int) - (d10 y.natAbs k : Int)) - e))), (0, .ref M), (1, .int (cI (a : Int))), (2, .int (cI (b : Int))), (3, .int (cI sg)), (4, .int (cI (cmpZ w' 0))), (5, .int (cI (N : Int))), (6, .int (cI (t : Int))), (7, .int (cI q)), (8, .int (cI (g : Int))), (9, .int (cI (h : Int))), (10, .int (cI e)), (11, .int (cI (k : Int)))]) d_Model_plus_236 (by decide) rfl ?_
      refine q_iload d_Model_plus_238 rfl ?_
      suffices J : ∀ (e' : Int), (((0 ≤ (((d10 x.natAbs k : Int) - (d10 y.natAbs k : Int)) - e)) ∧ e' = 0) ∨ (((((d10 x.natAbs k : Int) - (d10 y.natAbs k : Int)) - e) < 0) ∧ e' = 1)) → Run m_Model_plus d 0 0 248 [(0, .ref M), (1, .int (cI (a : Int))), (2, .int (cI (b : Int))), (3, .int (cI sg)), (4, .int (cI (cmpZ w' 0))), (5, .int (cI (N : Int))), (6, .int (cI (t : Int))), (7, .int (cI q)), (8, .int (cI (g : Int))), (9, .int (cI (h : Int))), (10, .int (cI e)), (11, .int (cI (k : Int))), (12, .int (cI (((d10 x.natAbs k : Int) - (d10 y.natAbs k : Int)) - e)))] [.int (cI e')] J L R T Q by
        refine j_if_ge (tgt := 247) d_Model_plus_240 (by decide) (by omega) (fun hp3 => ?_) (fun hp3 => ?_)
        · refine j_iconst d_Model_plus_247 ?_
          refine Run.lv (lv' := [(0, .ref M), (1, .int (cI (a : Int))), (2, .int (cI (b : Int))), (3, .int (cI sg)), (4, .int (cI (cmpZ w' 0))), (5, .int (cI (N : Int))), (6, .int (cI (t : Int))), (7, .int (cI q)), (8, .int (cI (g : Int))), (9, .int (cI (h : Int))), (10, .int (cI e)), (11, .int (cI (k : Int))), (12, .int (cI (((d10 x.natAbs k : Int) - (d10 y.natAbs k : Int)) - e)))]) (by intro q hq; simp only [List.mem_cons, List.not_mem_nil, or_false] at hq ⊢; rcases hq with rfl | rfl | rfl | rfl | rfl | rfl | rfl | rfl | rfl | rfl | rfl | rfl | rfl <;> simp) ?_
          exact J _ (Or.inl ⟨hp3, rfl⟩)
        · refine j_iconst d_Model_plus_243 ?_
          refine q_goto (tgt := 248) d_Model_plus_244 (by decide) ?_
          refine Run.lv (lv' := [(0, .ref M), (1, .int (cI (a : Int))), (2, .int (cI (b : Int))), (3, .int (cI sg)), (4, .int (cI (cmpZ w' 0))), (5, .int (cI (N : Int))), (6, .int (cI (t : Int))), (7, .int (cI q)), (8, .int (cI (g : Int))), (9, .int (cI (h : Int))), (10, .int (cI e)), (11, .int (cI (k : Int))), (12, .int (cI (((d10 x.natAbs k : Int) - (d10 y.natAbs k : Int)) - e)))]) (by intro q hq; simp only [List.mem_cons, List.not_mem_nil, or_false] at hq ⊢; rcases hq with rfl | rfl | rfl | rfl | rfl | rfl | rfl | rfl | rfl | rfl | rfl | rfl | rfl <;> simp) ?_
          exact J _ (Or.inr ⟨hp3, rfl⟩)
      intro e' he'
      refine q_istore (lv' := [(10, .int (cI e')), (0, .ref M), (1, .int (cI (a : Int))), (2, .int (cI (b : Int))), (3, .int (cI sg)), (4, .int (cI (cmpZ w' 0))), (5, .int (cI (N : Int))), (6, .int (cI (t : Int))), (7, .int (cI q)), (8, .int (cI (g : Int))), (9, .int (cI (h : Int))), (11, .int (cI (k : Int))), (12, .int (cI (((d10 x.natAbs k : Int) - (d10 y.natAbs k : Int)) - e)))]) d_Model_plus_248 (by decide) rfl ?_
      refine q_aload_n d_Model_plus_250 rfl ?_
      refine q_getR d_Model_plus_251 fl_Model_17 hM.1 ⟨rfl, by decide⟩ (mR5 hM) ?_
      refine q_iload d_Model_plus_254 rfl ?_
      refine j_iconst d_Model_plus_256 ?_
      refine j_iadd d_Model_plus_257 ?_
      refine q_iload d_Model_plus_258 rfl ?_
      refine j_iadd d_Model_plus_260 ?_
      refine q_iload d_Model_plus_261 rfl ?_
      suffices J : ∀ (vv : Int), (((0 ≤ (((d10 x.natAbs k : Int) - (d10 y.natAbs k : Int)) - e)) ∧ vv = (((d10 x.natAbs k : Int) - (d10 y.natAbs k : Int)) - e)) ∨ (((((d10 x.natAbs k : Int) - (d10 y.natAbs k : Int)) - e) < 0) ∧ vv = ((((d10 x.natAbs k : Int) - (d10 y.natAbs k : Int)) - e) + 10))) → Run m_Model_plus d 0 0 276 [(0, .ref M), (1, .int (cI (a : Int))), (2, .int (cI (b : Int))), (3, .int (cI sg)), (4, .int (cI (cmpZ w' 0))), (5, .int (cI (N : Int))), (6, .int (cI (t : Int))), (7, .int (cI q)), (8, .int (cI (g : Int))), (9, .int (cI (h : Int))), (10, .int (cI e')), (11, .int (cI (k : Int))), (12, .int (cI (((d10 x.natAbs k : Int) - (d10 y.natAbs k : Int)) - e)))] [.int (cI vv), .int (cI (((t : Int) + 2) + (k : Int))), .ref (M + 3)] J L R T Q by
        refine j_if_ge (tgt := 274) d_Model_plus_263 (by decide) (by omega) (fun hp4 => ?_) (fun hp4 => ?_)
        · refine q_iload d_Model_plus_274 rfl ?_
          refine Run.lv (lv' := [(0, .ref M), (1, .int (cI (a : Int))), (2, .int (cI (b : Int))), (3, .int (cI sg)), (4, .int (cI (cmpZ w' 0))), (5, .int (cI (N : Int))), (6, .int (cI (t : Int))), (7, .int (cI q)), (8, .int (cI (g : Int))), (9, .int (cI (h : Int))), (10, .int (cI e')), (11, .int (cI (k : Int))), (12, .int (cI (((d10 x.natAbs k : Int) - (d10 y.natAbs k : Int)) - e)))]) (by intro q hq; simp only [List.mem_cons, List.not_mem_nil, or_false] at hq ⊢; rcases hq with rfl | rfl | rfl | rfl | rfl | rfl | rfl | rfl | rfl | rfl | rfl | rfl | rfl <;> simp) ?_
          exact J _ (Or.inl ⟨hp4, rfl⟩)
        · refine q_iload d_Model_plus_266 rfl ?_
          refine j_bipush d_Model_plus_268 (by decide) ?_
          refine j_iadd d_Model_plus_270 ?_
          refine q_goto (tgt := 276) d_Model_plus_271 (by decide) ?_
          refine Run.lv (lv' := [(0, .ref M), (1, .int (cI (a : Int))), (2, .int (cI (b : Int))), (3, .int (cI sg)), (4, .int (cI (cmpZ w' 0))), (5, .int (cI (N : Int))), (6, .int (cI (t : Int))), (7, .int (cI q)), (8, .int (cI (g : Int))), (9, .int (cI (h : Int))), (10, .int (cI e')), (11, .int (cI (k : Int))), (12, .int (cI (((d10 x.natAbs k : Int) - (d10 y.natAbs k : Int)) - e)))]) (by intro q hq; simp only [List.mem_cons, List.not_mem_nil, or_false] at hq ⊢; rcases hq with rfl | rfl | rfl | rfl | rfl | rfl | rfl | rfl | rfl | rfl | rfl | rfl | rfl <;> simp) ?_
          exact J _ (Or.inr ⟨hp4, rfl⟩)
      intro vv hvv
      refine j_iast (j := (t + k + 2)) d_Model_plus_276 (mT5 hM) (mN5 hM) (by omega) (by omega) (by omega) ?_
      refine j_iinc (lv' := [(11, .int (cI ((k : Int) + 1))), (0, .ref M), (1, .int (cI (a : Int))), (2, .int (cI (b : Int))), (3, .int (cI sg)), (4, .int (cI (cmpZ w' 0))), (5, .int (cI (N : Int))), (6, .int (cI (t : Int))), (7, .int (cI q)), (8, .int (cI (g : Int))), (9, .int (cI (h : Int))), (10, .int (cI e')), (12, .int (cI (((d10 x.natAbs k : Int) - (d10 y.natAbs k : Int)) - e)))]) d_Model_plus_277 rfl (by decide) rfl ?_
      refine q_goto (tgt := 209) d_Model_plus_280 (by decide) ?_
      refine Run.lv (lv' := [(0, .ref M), (1, .int (cI (a : Int))), (2, .int (cI (b : Int))), (3, .int (cI sg)), (4, .int (cI (cmpZ w' 0))), (5, .int (cI (N : Int))), (6, .int (cI (t : Int))), (7, .int (cI q)), (8, .int (cI (g : Int))), (9, .int (cI (h : Int))), (10, .int (cI e')), (11, .int (cI ((k : Int) + 1)))]) (by intro q hq; simp only [List.mem_cons, List.not_mem_nil, or_false] at hq ⊢; rcases hq with rfl | rfl | rfl | rfl | rfl | rfl | rfl | rfl | rfl | rfl | rfl | rfl <;> simp) ?_
      exact ih (k + 1) c' (s + r * 10 ^ k) g h gn hn x y _ _ _ _ (by omega) (by omega) (by omega) (by omega) q3 (add_lt10 hs q2) q4 hG hH hg hh hxy hxN' hq (dig_up hs q2 hD (by omega)) (by rw [up2_row _ _ (by omega)]; exact hJM) (hF.p (by omega) _)
  have addI : ∀ (hs0 : cmpZ v 0 = 0 ∨ cmpZ v 0 = cmpZ w' 0), True → Run m_Model_plus d 0 0 87 [(0, .ref M), (1, .int (cI (a : Int))), (2, .int (cI (b : Int))), (3, .int (cI sg)), (4, .int (cI (cmpZ w' 0))), (5, .int (cI (N : Int))), (6, .int (cI (t : Int)))] [] I L R T Q := by
    intro hs0 _
    refine j_iconst d_Model_plus_87 ?_
    refine q_istore (lv' := [(7, .int (cI 0)), (0, .ref M), (1, .int (cI (a : Int))), (2, .int (cI (b : Int))), (3, .int (cI sg)), (4, .int (cI (cmpZ w' 0))), (5, .int (cI (N : Int))), (6, .int (cI (t : Int)))]) d_Model_plus_88 (by decide) rfl ?_
    refine j_iconst d_Model_plus_90 ?_
    refine q_istore (lv' := [(8, .int (cI 0)), (7, .int (cI 0)), (0, .ref M), (1, .int (cI (a : Int))), (2, .int (cI (b : Int))), (3, .int (cI sg)), (4, .int (cI (cmpZ w' 0))), (5, .int (cI (N : Int))), (6, .int (cI (t : Int)))]) d_Model_plus_91 (by decide) rfl ?_
    refine Run.lv (lv' := [(0, .ref M), (1, .int (cI (a : Int))), (2, .int (cI (b : Int))), (3, .int (cI sg)), (4, .int (cI (cmpZ w' 0))), (5, .int (cI (N : Int))), (6, .int (cI (t : Int))), (7, .int (cI 0)), (8, .int (cI 0))]) (by intro q hq; simp only [List.mem_cons, List.not_mem_nil, or_false] at hq ⊢; rcases hq with rfl | rfl | rfl | rfl | rfl | rfl | rfl | rfl | rfl <;> simp) ?_
    exact add (N + 2) 0 0 0 0 0 I (by omega) rfl rfl (by omega) (by omega) (by simp) (by simp [l10_0]) hs0 (fun j hj => by omega) rfl FrP.rf
  refine j_if_eq (tgt := 87) d_Model_plus_73 (by decide) (by omega) (fun h4 => ?_) (fun h4 => ?_)
  · skip
    refine Run.lv (lv' := [(0, .ref M), (1, .int (cI (a : Int))), (2, .int (cI (b : Int))), (3, .int (cI sg)), (4, .int (cI (cmpZ w' 0))), (5, .int (cI (N : Int))), (6, .int (cI (t : Int)))]) (by intro q hq; simp only [List.mem_cons, List.not_mem_nil, or_false] at hq ⊢; rcases hq with rfl | rfl | rfl | rfl | rfl | rfl | rfl <;> simp) ?_
    exact addI (Or.inl (by omega)) trivial
  · skip
    refine q_aload_n d_Model_plus_76 rfl ?_
    refine q_getR d_Model_plus_77 fl_Model_17 hM.1 ⟨rfl, by decide⟩ (mR5 hM) ?_
    refine q_iload_n d_Model_plus_80 rfl ?_
    refine j_iald (j := a) (v := (cI (cmpZ v 0))) d_Model_plus_81 (mT5 hM) (mN5 hM) (by omega) (by omega) (by omega) hV.2.1 ?_
    refine q_iload d_Model_plus_82 rfl ?_
    refine j_icmp_ne (tgt := 163) d_Model_plus_84 (by decide) (by omega) (by omega) (fun h5 => ?_) (fun h5 => ?_)
    rotate_left
    · skip
      refine Run.lv (lv' := [(0, .ref M), (1, .int (cI (a : Int))), (2, .int (cI (b : Int))), (3, .int (cI sg)), (4, .int (cI (cmpZ w' 0))), (5, .int (cI (N : Int))), (6, .int (cI (t : Int)))]) (by intro q hq; simp only [List.mem_cons, List.not_mem_nil, or_false] at hq ⊢; rcases hq with rfl | rfl | rfl | rfl | rfl | rfl | rfl <;> simp) ?_
      exact addI (Or.inr (by omega)) trivial
    refine q_aload_n d_Model_plus_163 rfl ?_
    refine q_iload_n d_Model_plus_164 rfl ?_
    refine q_iload_n d_Model_plus_165 rfl ?_
    refine q_callV (ci := 17) (rc := 0) (rs := 0) (rest := []) d_Model_plus_166 ml_Model_446 ok_Model_sizes rfl hM.1 (by decide) (c_Model_sizes (d - 1) (by omega) hM hV hW (by omega) (by omega)) rfl rfl (by omega) (Nat.le_of_ble_eq_true rfl) (kp_I ?_) kt_I
    have i3 := cmpZ_in v.natAbs w.natAbs
    refine j_if_lt (tgt := 176) d_Model_plus_169 (by decide) (by omega) (fun h6 => ?_) (fun h6 => ?_)
    · skip
      have h7 : v.natAbs < w.natAbs := by unfold cmpZ at h6; (repeat' split at h6) <;> omega
      refine j_iconst d_Model_plus_176 ?_
      refine q_istore (lv' := [(7, .int (cI 0)), (6, .int (cI (t : Int))), (5, .int (cI (N : Int))), (0, .ref M), (1, .int (cI (a : Int))), (2, .int (cI (b : Int))), (3, .int (cI sg)), (4, .int (cI (cmpZ w' 0)))]) d_Model_plus_177 (by decide) rfl ?_
      refine q_iload d_Model_plus_179 rfl ?_
      refine j_if_eq (tgt := 188) d_Model_plus_181 (by decide) (by omega) (fun hx => ?_) (fun hx => by exfalso; omega)
      refine q_iload_n d_Model_plus_188 rfl ?_
      refine q_istore (lv' := [(8, .int (cI (b : Int))), (7, .int (cI 0)), (6, .int (cI (t : Int))), (5, .int (cI (N : Int))), (0, .ref M), (1, .int (cI (a : Int))), (2, .int (cI (b : Int))), (3, .int (cI sg)), (4, .int (cI (cmpZ w' 0)))]) d_Model_plus_189 (by decide) rfl ?_
      refine q_iload d_Model_plus_191 rfl ?_
      refine j_if_eq (tgt := 200) d_Model_plus_193 (by decide) (by omega) (fun hx => ?_) (fun hx => by exfalso; omega)
      refine q_iload_n d_Model_plus_200 rfl ?_
      refine q_istore (lv' := [(9, .int (cI (a : Int))), (8, .int (cI (b : Int))), (7, .int (cI 0)), (6, .int (cI (t : Int))), (5, .int (cI (N : Int))), (0, .ref M), (1, .int (cI (a : Int))), (2, .int (cI (b : Int))), (3, .int (cI sg)), (4, .int (cI (cmpZ w' 0)))]) d_Model_plus_201 (by decide) rfl ?_
      refine j_iconst d_Model_plus_203 ?_
      refine q_istore (lv' := [(10, .int (cI 0)), (9, .int (cI (a : Int))), (8, .int (cI (b : Int))), (7, .int (cI 0)), (6, .int (cI (t : Int))), (5, .int (cI (N : Int))), (0, .ref M), (1, .int (cI (a : Int))), (2, .int (cI (b : Int))), (3, .int (cI sg)), (4, .int (cI (cmpZ w' 0)))]) d_Model_plus_204 (by decide) rfl ?_
      refine j_iconst d_Model_plus_206 ?_
      refine q_istore (lv' := [(11, .int (cI 0)), (10, .int (cI 0)), (9, .int (cI (a : Int))), (8, .int (cI (b : Int))), (7, .int (cI 0)), (6, .int (cI (t : Int))), (5, .int (cI (N : Int))), (0, .ref M), (1, .int (cI (a : Int))), (2, .int (cI (b : Int))), (3, .int (cI sg)), (4, .int (cI (cmpZ w' 0)))]) d_Model_plus_207 (by decide) rfl ?_
      refine Run.lv (lv' := [(0, .ref M), (1, .int (cI (a : Int))), (2, .int (cI (b : Int))), (3, .int (cI sg)), (4, .int (cI (cmpZ w' 0))), (5, .int (cI (N : Int))), (6, .int (cI (t : Int))), (7, .int (cI 0)), (8, .int (cI (b : Int))), (9, .int (cI (a : Int))), (10, .int (cI 0)), (11, .int (cI 0))]) (by intro q hq; simp only [List.mem_cons, List.not_mem_nil, or_false] at hq ⊢; rcases hq with rfl | rfl | rfl | rfl | rfl | rfl | rfl | rfl | rfl | rfl | rfl | rfl <;> simp) ?_
      exact sub (N + 1) 0 0 0 b a m n w v 0 0 0 I (by omega) rfl rfl (by omega) (by omega) (by simp) (by simp [l10_0]) hW hV hb ha (by omega) (by omega) (Or.inl ⟨rfl, fun h => by rcases cmpZ_cases (v + w') with q | q | q <;> omega⟩) (fun j hj => by omega) rfl FrP.rf
    · skip
      have h7 : w.natAbs ≤ v.natAbs := by unfold cmpZ at h6; (repeat' split at h6) <;> omega
      refine j_iconst d_Model_plus_172 ?_
      refine q_goto (tgt := 177) d_Model_plus_173 (by decide) ?_
      refine q_istore (lv' := [(7, .int (cI 1)), (6, .int (cI (t : Int))), (5, .int (cI (N : Int))), (0, .ref M), (1, .int (cI (a : Int))), (2, .int (cI (b : Int))), (3, .int (cI sg)), (4, .int (cI (cmpZ w' 0)))]) d_Model_plus_177 (by decide) rfl ?_
      refine q_iload d_Model_plus_179 rfl ?_
      refine j_if_eq (tgt := 188) d_Model_plus_181 (by decide) (by omega) (fun hx => by exfalso; omega) (fun hx => ?_)
      refine q_iload_n d_Model_plus_184 rfl ?_
      refine q_goto (tgt := 189) d_Model_plus_185 (by decide) ?_
      refine q_istore (lv' := [(8, .int (cI (a : Int))), (7, .int (cI 1)), (6, .int (cI (t : Int))), (5, .int (cI (N : Int))), (0, .ref M), (1, .int (cI (a : Int))), (2, .int (cI (b : Int))), (3, .int (cI sg)), (4, .int (cI (cmpZ w' 0)))]) d_Model_plus_189 (by decide) rfl ?_
      refine q_iload d_Model_plus_191 rfl ?_
      refine j_if_eq (tgt := 200) d_Model_plus_193 (by decide) (by omega) (fun hx => by exfalso; omega) (fun hx => ?_)
      refine q_iload_n d_Model_plus_196 rfl ?_
      refine q_goto (tgt := 201) d_Model_plus_197 (by decide) ?_
      refine q_istore (lv' := [(9, .int (cI (b : Int))), (8, .int (cI (a : Int))), (7, .int (cI 1)), (6, .int (cI (t : Int))), (5, .int (cI (N : Int))), (0, .ref M), (1, .int (cI (a : Int))), (2, .int (cI (b : Int))), (3, .int (cI sg)), (4, .int (cI (cmpZ w' 0)))]) d_Model_plus_201 (by decide) rfl ?_
      refine j_iconst d_Model_plus_203 ?_
      refine q_istore (lv' := [(10, .int (cI 0)), (9, .int (cI (b : Int))), (8, .int (cI (a : Int))), (7, .int (cI 1)), (6, .int (cI (t : Int))), (5, .int (cI (N : Int))), (0, .ref M), (1, .int (cI (a : Int))), (2, .int (cI (b : Int))), (3, .int (cI sg)), (4, .int (cI (cmpZ w' 0)))]) d_Model_plus_204 (by decide) rfl ?_
      refine j_iconst d_Model_plus_206 ?_
      refine q_istore (lv' := [(11, .int (cI 0)), (10, .int (cI 0)), (9, .int (cI (b : Int))), (8, .int (cI (a : Int))), (7, .int (cI 1)), (6, .int (cI (t : Int))), (5, .int (cI (N : Int))), (0, .ref M), (1, .int (cI (a : Int))), (2, .int (cI (b : Int))), (3, .int (cI sg)), (4, .int (cI (cmpZ w' 0)))]) d_Model_plus_207 (by decide) rfl ?_
      refine Run.lv (lv' := [(0, .ref M), (1, .int (cI (a : Int))), (2, .int (cI (b : Int))), (3, .int (cI sg)), (4, .int (cI (cmpZ w' 0))), (5, .int (cI (N : Int))), (6, .int (cI (t : Int))), (7, .int (cI 1)), (8, .int (cI (a : Int))), (9, .int (cI (b : Int))), (10, .int (cI 0)), (11, .int (cI 0))]) (by intro q hq; simp only [List.mem_cons, List.not_mem_nil, or_false] at hq ⊢; rcases hq with rfl | rfl | rfl | rfl | rfl | rfl | rfl | rfl | rfl | rfl | rfl | rfl <;> simp) ?_
      exact sub (N + 1) 0 0 0 a b n m v w 0 0 1 I (by omega) rfl rfl (by omega) (by omega) (by simp) (by simp [l10_0]) hV hW ha hb (by omega) (by omega) (Or.inr ⟨rfl, fun h => by rcases cmpZ_cases (v + w') with q | q | q <;> omega⟩) (fun j hj => by omega) rfl FrP.rf
theorem c_Model_ofLong (d : Nat) {M t x : Nat} {c : Bool} {I : M32} {L : M64} {R : MR} {T : SH} (hd : 1 ≤ d) (hM : MdlS M R T) (hx : x < 10 ^ 18) (ht : I M 7 = cI t) (h8 : I M 8 = cI (bI (c = true))) (hb : t + 22 ≤ 1100000) :
    Call m_Model_ofLong y_Model_ofLong d 0 0 [.ref M, .long (cL x)] I L R T (rI fun r' I' L' R' T' => (r' = cI t ∧ ∃ k, k ≤ 18 ∧ PolV I' (M + 3) t k x ∧ I' M 7 = cI (t + k + 2 : Nat) ∧ I' M 8 = cI (bI (c = true)) ∧ FrP M t I I') ∧ L' = L ∧ R' = R ∧ T' = T) := by
  refine Call.ofRun (by decide) ⟨rfl, rfl⟩ (Nat.le_of_ble_eq_true rfl) ?_
  refine Run.gen fun Q hQ => ?_
  refine q_aload_n d_Model_ofLong_0 rfl ?_
  refine j_getI (v := (cI (t : Int))) d_Model_ofLong_1 fl_Model_428 hM.1 ⟨rfl, by decide⟩ ht ?_
  refine q_istore_n (lv' := [(3, .int (cI (t : Int))), (0, .ref M), (1, .long (cL (x : Int)))]) d_Model_ofLong_4 (by decide) rfl ?_
  refine j_iconst d_Model_ofLong_5 ?_
  refine q_istore (lv' := [(4, .int (cI 0)), (3, .int (cI (t : Int))), (0, .ref M), (1, .long (cL (x : Int)))]) d_Model_ofLong_6 (by decide) rfl ?_
  refine q_lload_n d_Model_ofLong_8 rfl ?_
  refine q_lstore (lv' := [(5, .long (cL (x : Int))), (4, .int (cI 0)), (3, .int (cI (t : Int))), (0, .ref M), (1, .long (cL (x : Int)))]) d_Model_ofLong_9 (by decide) rfl ?_
  have loop : ∀ (f k y s : Nat) (z e : Int) (J : M32), 19 - k < f → z = k → e = y → k ≤ 18 → y < 10 ^ (18 - k) → s < 10 ^ k → s + y * 10 ^ k = x → (∀ j, j < k → J (M + 3) (t + j + 2) = cI (d10 s j)) → J M = I M → FrP M t I J → Run m_Model_ofLong d 0 0 11 [(0, .ref M), (1, .long (cL (x : Int))), (3, .int (cI (t : Int))), (4, .int (cI z)), (5, .long (cL e))] [] J L R T Q := by
    intro f
    induction f with
    | zero => intro k y s z e J h; omega
    | succ f ih =>
    intro k y s z e J hf hz he hk hy hs hsum hD hJM hF
    subst hz he
    have hy18 : y < 10 ^ 18 := Nat.lt_of_lt_of_le hy (Nat.pow_le_pow_right (by decide) (by omega))
    refine q_lload d_Model_ofLong_11 rfl ?_
    refine j_lconst (z := 0) d_Model_ofLong_13 (by decide) ?_
    refine j_lcmp_le (tgt := 50) d_Model_ofLong_14 d_Model_ofLong_15 (by decide) (by omega) (by omega) (fun h3 => ?_) (fun h3 => ?_)
    · skip
      have hy0 : y = 0 := by omega
      subst hy0
      have hsx : s = x := by omega
      refine q_aload_n d_Model_ofLong_50 rfl ?_
      refine q_iload_n d_Model_ofLong_51 rfl ?_
      refine q_iload d_Model_ofLong_52 rfl ?_
      refine j_iconst d_Model_ofLong_54 ?_
      refine q_callV (ci := 17) (rc := 0) (rs := 0) (rest := []) d_Model_ofLong_55 ml_Model_434 ok_Model_close rfl hM.1 (by decide) (c_Model_closeV (d - 1) (u := x) (P := c = true) hM (by rw [Int.natAbs_natCast, ← hsx]; exact hD) (by rw [Int.natAbs_natCast, ← hsx]; exact hs) (by omega) (by rw [hJM]; exact h8) (fun h => by rcases cmpZ_cases (x : Int) with q | q | q <;> omega)) rfl rfl (by omega) (Nat.le_of_ble_eq_true rfl) (kv_I (fun q K hK => ?_)) kt_I
      obtain ⟨rfl, k', hk', g1, g2, g3, g4⟩ := hK
      refine q_ireturn d_Model_ofLong_58 rfl rfl ?_
      refine hQ _ _ _ _ _ ?_
      exact ⟨_, rfl, ⟨rfl, k', by omega, g1, g2, by rw [g3]; congr 1; exact bI_c ⟨fun q => q.elim id fun q => by omega, Or.inl⟩, hF.tr g4 (Nat.le_refl _)⟩, rfl, rfl, rfl⟩
    · skip
      have hk18 : k < 18 := by
        rcases Nat.lt_or_ge k 18 with q | q
        · exact q
        · have : k = 18 := by omega
          subst this
          simp at hy; omega
      refine q_aload_n d_Model_ofLong_18 rfl ?_
      refine q_getR d_Model_ofLong_19 fl_Model_17 hM.1 ⟨rfl, by decide⟩ (mR5 hM) ?_
      refine q_iload_n d_Model_ofLong_22 rfl ?_
      refine j_iconst d_Model_ofLong_23 ?_
      refine j_iadd d_Model_ofLong_24 ?_
      refine q_iload d_Model_ofLong_25 rfl ?_
      refine j_iadd d_Model_ofLong_27 ?_
      refine q_lload d_Model_ofLong_28 rfl ?_
      refine j_ldc2 (z := 10) d_Model_ofLong_30 (inT11 223 rfl) (by decide) ?_
      refine j_lrem d_Model_ofLong_33 (by omega) (by omega) ?_
      refine j_l2i d_Model_ofLong_34 ?_
      refine j_iast (j := (t + k + 2)) d_Model_ofLong_35 (mT5 hM) (mN5 hM) (by omega) (by omega) (by omega) ?_
      refine j_iinc (lv' := [(4, .int (cI ((k : Int) + 1))), (0, .ref M), (1, .long (cL (x : Int))), (3, .int (cI (t : Int))), (5, .long (cL (y : Int)))]) d_Model_ofLong_36 rfl (by decide) rfl ?_
      refine q_lload d_Model_ofLong_39 rfl ?_
      refine j_ldc2 (z := 10) d_Model_ofLong_41 (inT11 223 rfl) (by decide) ?_
      refine j_ldiv d_Model_ofLong_44 (by omega) (by omega) ?_
      refine q_lstore (lv' := [(5, .long (cL ((y : Int) / 10))), (4, .int (cI ((k : Int) + 1))), (0, .ref M), (1, .long (cL (x : Int))), (3, .int (cI (t : Int)))]) d_Model_ofLong_45 (by decide) rfl ?_
      refine q_goto (tgt := 11) d_Model_ofLong_47 (by decide) ?_
      have hnx : s + y % 10 * 10 ^ k + y / 10 * 10 ^ (k + 1) = x := by
        rw [← hsum, Nat.pow_succ, Nat.add_assoc, show y / 10 * (10 ^ k * 10) = y / 10 * 10 * 10 ^ k by ac_rfl, ← Nat.add_mul]
        congr 2; omega
      refine Run.lv (lv' := [(0, .ref M), (1, .long (cL (x : Int))), (3, .int (cI (t : Int))), (4, .int (cI ((k : Int) + 1))), (5, .long (cL ((y : Int) / 10)))]) (by intro q hq; simp only [List.mem_cons, List.not_mem_nil, or_false] at hq ⊢; rcases hq with rfl | rfl | rfl | rfl | rfl <;> simp) ?_
      exact ih (k + 1) (y / 10) (s + y % 10 * 10 ^ k) _ _ _ (by omega) (by omega) (by omega) (by omega) (by rw [show 18 - k = 18 - (k + 1) + 1 by omega, Nat.pow_succ] at hy; omega) (add_lt10 hs (by omega)) hnx (dig_up hs (by omega) hD (by omega)) (by rw [up2_row _ _ (by omega)]; exact hJM) (hF.p (by omega) _)
  refine Run.lv (lv' := [(0, .ref M), (1, .long (cL (x : Int))), (3, .int (cI (t : Int))), (4, .int (cI 0)), (5, .long (cL (x : Int)))]) (by intro q hq; simp only [List.mem_cons, List.not_mem_nil, or_false] at hq ⊢; rcases hq with rfl | rfl | rfl | rfl | rfl <;> simp) ?_
  exact loop 20 0 x 0 0 x I (by omega) rfl rfl (by omega) hx (by decide) (by simp) (fun j hj => by omega) rfl FrP.rf
theorem c_Model_toLong (d : Nat) {M r n : Nat} {v : Int} {I : M32} {L : M64} {R : MR} {T : SH} (hM : MdlS M R T) (hV : PolV I (M + 3) r n v) (hr : r + n + 2 ≤ 1100000) :
    Call m_Model_toLong y_Model_toLong d 0 0 [.ref M, .int (cI r)] I L R T (rL fun q I' L' R' T' => q = cL (if v < 0 then -1 else if v < 10 ^ 17 then v else 1000000000000001) ∧ I' = I ∧ L' = L ∧ R' = R ∧ T' = T) := by
  refine Call.ofRun (by decide) ⟨rfl, rfl⟩ (Nat.le_of_ble_eq_true rfl) ?_
  refine Run.gen fun Q hQ => ?_
  have cv := cmpZ_cases v
  refine q_aload_n d_Model_toLong_0 rfl ?_
  refine q_getR d_Model_toLong_1 fl_Model_17 hM.1 ⟨rfl, by decide⟩ (mR5 hM) ?_
  refine q_iload_n d_Model_toLong_4 rfl ?_
  refine j_iald (j := r) (v := (cI (cmpZ v 0))) d_Model_toLong_5 (mT5 hM) (mN5 hM) (by omega) (by omega) (by omega) hV.2.1 ?_
  refine j_if_ge (tgt := 13) d_Model_toLong_6 (by decide) (by omega) (fun h1 => ?_) (fun h1 => ?_)
  rotate_left
  · skip
    refine j_ldc2 (z := (-1)) d_Model_toLong_9 (inT11 221 rfl) (by decide) ?_
    refine q_lreturn d_Model_toLong_12 rfl ?_
    refine hQ _ _ _ _ _ ?_
    exact ⟨_, rfl, by rw [if_pos (by omega)], rfl, rfl, rfl, rfl⟩
  have hn0 : ¬ v < 0 := by omega
  refine q_aload_n d_Model_toLong_13 rfl ?_
  refine q_getR d_Model_toLong_14 fl_Model_17 hM.1 ⟨rfl, by decide⟩ (mR5 hM) ?_
  refine q_iload_n d_Model_toLong_17 rfl ?_
  refine j_iconst d_Model_toLong_18 ?_
  refine j_iadd d_Model_toLong_19 ?_
  refine j_iald (j := (r + 1)) (v := (cI (n : Int))) d_Model_toLong_20 (mT5 hM) (mN5 hM) (by omega) (by omega) (by omega) hV.2.2.1 ?_
  refine j_bipush d_Model_toLong_21 (by decide) ?_
  refine j_icmp_le (tgt := 30) d_Model_toLong_23 (by decide) (by omega) (by omega) (fun h2 => ?_) (fun h2 => ?_)
  rotate_left
  · skip
    have h5 : 10 ^ 17 ≤ v.natAbs := Nat.le_trans (Nat.pow_le_pow_right (by decide) (by omega)) (hV.1.2 (by omega))
    refine j_ldc2 (z := 1000000000000001) d_Model_toLong_26 (inT11 222 rfl) (by decide) ?_
    refine q_lreturn d_Model_toLong_29 rfl ?_
    refine hQ _ _ _ _ _ ?_
    exact ⟨_, rfl, by rw [if_neg hn0, if_neg (by omega)], rfl, rfl, rfl, rfl⟩
  have hx17 : v.natAbs < 10 ^ 17 := Nat.lt_of_lt_of_le hV.1.1 (Nat.pow_le_pow_right (by decide) (by omega))
  refine j_lconst (z := 0) d_Model_toLong_30 (by decide) ?_
  refine q_lstore_n (lv' := [(2, .long (cL 0)), (0, .ref M), (1, .int (cI (r : Int)))]) d_Model_toLong_31 (by decide) rfl ?_
  refine q_aload_n d_Model_toLong_32 rfl ?_
  refine q_getR d_Model_toLong_33 fl_Model_17 hM.1 ⟨rfl, by decide⟩ (mR5 hM) ?_
  refine q_iload_n d_Model_toLong_36 rfl ?_
  refine j_iconst d_Model_toLong_37 ?_
  refine j_iadd d_Model_toLong_38 ?_
  refine j_iald (j := (r + 1)) (v := (cI (n : Int))) d_Model_toLong_39 (mT5 hM) (mN5 hM) (by omega) (by omega) (by omega) hV.2.2.1 ?_
  refine j_iconst d_Model_toLong_40 ?_
  refine j_isub d_Model_toLong_41 ?_
  refine q_istore (lv' := [(4, .int (cI ((n : Int) - 1))), (2, .long (cL 0)), (0, .ref M), (1, .int (cI (r : Int)))]) d_Model_toLong_42 (by decide) rfl ?_
  have loop : ∀ (f k : Nat) (z e : Int), k < f → z = (k : Int) - 1 → e = (v.natAbs / 10 ^ k : Nat) → k ≤ n → Run m_Model_toLong d 0 0 44 [(0, .ref M), (1, .int (cI (r : Int))), (2, .long (cL e)), (4, .int (cI z))] [] I L R T Q := by
    intro f
    induction f with
    | zero => intro k z e h; omega
    | succ f ih =>
    intro k z e hf hz he hk
    refine q_iload d_Model_toLong_44 rfl ?_
    refine j_if_lt (tgt := 74) d_Model_toLong_46 (by decide) (by omega) (fun h3 => ?_) (fun h3 => ?_)
    · skip
      have hk0 : k = 0 := by omega
      subst hk0
      refine q_lload_n d_Model_toLong_74 rfl ?_
      refine q_lreturn d_Model_toLong_75 rfl ?_
      refine hQ _ _ _ _ _ ?_
      exact ⟨_, rfl, by rw [if_neg hn0, if_pos (by omega), he, Nat.pow_zero, Nat.div_one]; congr 1; omega, rfl, rfl, rfl, rfl⟩
    obtain ⟨j, rfl⟩ : ∃ j, k = j + 1 := ⟨k - 1, by omega⟩
    obtain rfl : z = (j : Int) := by omega
    have h9 := d10_lt v.natAbs j
    refine j_ldc2 (z := 10) d_Model_toLong_49 (inT11 223 rfl) (by decide) ?_
    refine q_lload_n d_Model_toLong_52 rfl ?_
    refine j_lmul d_Model_toLong_53 ?_
    refine q_aload_n d_Model_toLong_54 rfl ?_
    refine q_getR d_Model_toLong_55 fl_Model_17 hM.1 ⟨rfl, by decide⟩ (mR5 hM) ?_
    refine q_iload_n d_Model_toLong_58 rfl ?_
    refine j_iconst d_Model_toLong_59 ?_
    refine j_iadd d_Model_toLong_60 ?_
    refine q_iload d_Model_toLong_61 rfl ?_
    refine j_iadd d_Model_toLong_63 ?_
    refine j_iald (j := (r + j + 2)) (v := (cI (d10 v.natAbs j : Int))) d_Model_toLong_64 (mT5 hM) (mN5 hM) (by omega) (by omega) (by omega) (hV.2.2.2 j (by omega)) ?_
    refine j_i2l d_Model_toLong_65 (by omega) ?_
    refine j_ladd d_Model_toLong_66 ?_
    refine q_lstore_n (lv' := [(2, .long (cL ((10 * e) + (d10 v.natAbs j : Int)))), (0, .ref M), (1, .int (cI (r : Int))), (4, .int (cI (j : Int)))]) d_Model_toLong_67 (by decide) rfl ?_
    refine j_iinc (lv' := [(4, .int (cI ((j : Int) + (-1)))), (2, .long (cL ((10 * e) + (d10 v.natAbs j : Int)))), (0, .ref M), (1, .int (cI (r : Int)))]) d_Model_toLong_68 rfl (by decide) rfl ?_
    refine q_goto (tgt := 44) d_Model_toLong_71 (by decide) ?_
    refine Run.lv (lv' := [(0, .ref M), (1, .int (cI (r : Int))), (2, .long (cL ((10 * e) + (d10 v.natAbs j : Int)))), (4, .int (cI ((j : Int) + (-1))))]) (by intro q hq; simp only [List.mem_cons, List.not_mem_nil, or_false] at hq ⊢; rcases hq with rfl | rfl | rfl | rfl <;> simp) ?_
    exact ih j _ _ (by omega) (by omega) (by rw [he]; unfold d10; rw [Nat.pow_succ, ← Nat.div_div_eq_div_mul]; omega) (by omega)
  refine Run.lv (lv' := [(0, .ref M), (1, .int (cI (r : Int))), (2, .long (cL 0)), (4, .int (cI ((n : Int) - 1)))]) (by intro q hq; simp only [List.mem_cons, List.not_mem_nil, or_false] at hq ⊢; rcases hq with rfl | rfl | rfl | rfl <;> simp) ?_
  exact loop (n + 1) n _ _ (by omega) rfl (by rw [Nat.div_eq_of_lt hV.1.1]; rfl) (Nat.le_refl _)

