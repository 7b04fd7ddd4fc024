/-! ===== A4 THE REFERENCE PRINTS: the pile, words ===== -/
theorem d_Model_lay_0 : decode m_Model_lay.2.1 0 = .ok (.iload_n 2, 1) := by decide +kernel
theorem d_Model_lay_1 : decode m_Model_lay.2.1 1 = .ok (.iconst (-1), 1) := by decide +kernel
theorem d_Model_lay_2 : decode m_Model_lay.2.1 2 = .ok (.if_icmp .eq 33, 3) := by decide +kernel
theorem d_Model_lay_5 : decode m_Model_lay.2.1 5 = .ok (.aload_n 0, 1) := by decide +kernel
theorem d_Model_lay_6 : decode m_Model_lay.2.1 6 = .ok (.getfield 112, 3) := by decide +kernel
theorem d_Model_lay_9 : decode m_Model_lay.2.1 9 = .ok (.aload_n 0, 1) := by decide +kernel
theorem d_Model_lay_10 : decode m_Model_lay.2.1 10 = .ok (.getfield 707, 3) := by decide +kernel
theorem d_Model_lay_13 : decode m_Model_lay.2.1 13 = .ok (.iload_n 1, 1) := by decide +kernel
theorem d_Model_lay_14 : decode m_Model_lay.2.1 14 = .ok (.iastore, 1) := by decide +kernel
theorem d_Model_lay_15 : decode m_Model_lay.2.1 15 = .ok (.aload_n 0, 1) := by decide +kernel
theorem d_Model_lay_16 : decode m_Model_lay.2.1 16 = .ok (.getfield 109, 3) := by decide +kernel
theorem d_Model_lay_19 : decode m_Model_lay.2.1 19 = .ok (.aload_n 0, 1) := by decide +kernel
theorem d_Model_lay_20 : decode m_Model_lay.2.1 20 = .ok (.getfield 707, 3) := by decide +kernel
theorem d_Model_lay_23 : decode m_Model_lay.2.1 23 = .ok (.iload_n 2, 1) := by decide +kernel
theorem d_Model_lay_24 : decode m_Model_lay.2.1 24 = .ok (.iastore, 1) := by decide +kernel
theorem d_Model_lay_25 : decode m_Model_lay.2.1 25 = .ok (.aload_n 0, 1) := by decide +kernel
theorem d_Model_lay_26 : decode m_Model_lay.2.1 26 = .ok (.dup, 1) := by decide +kernel
theorem d_Model_lay_27 : decode m_Model_lay.2.1 27 = .ok (.getfield 707, 3) := by decide +kernel
theorem d_Model_lay_30 : decode m_Model_lay.2.1 30 = .ok (.iconst 1, 1) := by decide +kernel
theorem d_Model_lay_31 : decode m_Model_lay.2.1 31 = .ok (.iadd, 1) := by decide +kernel
theorem d_Model_lay_32 : decode m_Model_lay.2.1 32 = .ok (.putfield 707, 3) := by decide +kernel
theorem d_Model_lay_35 : decode m_Model_lay.2.1 35 = .ok (.return_, 1) := by decide +kernel
theorem d_Model_wordOf_0 : decode m_Model_wordOf.2.1 0 = .ok (.iload_n 0, 1) := by decide +kernel
theorem d_Model_wordOf_1 : decode m_Model_wordOf.2.1 1 = .ok (.iconst 1, 1) := by decide +kernel
theorem d_Model_wordOf_2 : decode m_Model_wordOf.2.1 2 = .ok (.if_icmp .ne 9, 3) := by decide +kernel
theorem d_Model_wordOf_5 : decode m_Model_wordOf.2.1 5 = .ok (.ldc2_w 464, 3) := by decide +kernel
theorem d_Model_wordOf_8 : decode m_Model_wordOf.2.1 8 = .ok (.goto 66, 3) := by decide +kernel
theorem d_Model_wordOf_11 : decode m_Model_wordOf.2.1 11 = .ok (.iload_n 0, 1) := by decide +kernel
theorem d_Model_wordOf_12 : decode m_Model_wordOf.2.1 12 = .ok (.iconst 2, 1) := by decide +kernel
theorem d_Model_wordOf_13 : decode m_Model_wordOf.2.1 13 = .ok (.if_icmp .eq 8, 3) := by decide +kernel
theorem d_Model_wordOf_16 : decode m_Model_wordOf.2.1 16 = .ok (.iload_n 0, 1) := by decide +kernel
theorem d_Model_wordOf_17 : decode m_Model_wordOf.2.1 17 = .ok (.iconst 3, 1) := by decide +kernel
theorem d_Model_wordOf_18 : decode m_Model_wordOf.2.1 18 = .ok (.if_icmp .ne 9, 3) := by decide +kernel
theorem d_Model_wordOf_21 : decode m_Model_wordOf.2.1 21 = .ok (.ldc2_w 466, 3) := by decide +kernel
theorem d_Model_wordOf_24 : decode m_Model_wordOf.2.1 24 = .ok (.goto 50, 3) := by decide +kernel
theorem d_Model_wordOf_27 : decode m_Model_wordOf.2.1 27 = .ok (.iload_n 0, 1) := by decide +kernel
theorem d_Model_wordOf_28 : decode m_Model_wordOf.2.1 28 = .ok (.iconst 4, 1) := by decide +kernel
theorem d_Model_wordOf_29 : decode m_Model_wordOf.2.1 29 = .ok (.if_icmp .ne 9, 3) := by decide +kernel
theorem d_Model_wordOf_32 : decode m_Model_wordOf.2.1 32 = .ok (.ldc2_w 472, 3) := by decide +kernel
theorem d_Model_wordOf_35 : decode m_Model_wordOf.2.1 35 = .ok (.goto 39, 3) := by decide +kernel
theorem d_Model_wordOf_38 : decode m_Model_wordOf.2.1 38 = .ok (.iload_n 0, 1) := by decide +kernel
theorem d_Model_wordOf_39 : decode m_Model_wordOf.2.1 39 = .ok (.iconst 5, 1) := by decide +kernel
theorem d_Model_wordOf_40 : decode m_Model_wordOf.2.1 40 = .ok (.if_icmp .ne 9, 3) := by decide +kernel
theorem d_Model_wordOf_43 : decode m_Model_wordOf.2.1 43 = .ok (.ldc2_w 474, 3) := by decide +kernel
theorem d_Model_wordOf_46 : decode m_Model_wordOf.2.1 46 = .ok (.goto 28, 3) := by decide +kernel
theorem d_Model_wordOf_49 : decode m_Model_wordOf.2.1 49 = .ok (.iload_n 0, 1) := by decide +kernel
theorem d_Model_wordOf_50 : decode m_Model_wordOf.2.1 50 = .ok (.bipush 6, 2) := by decide +kernel
theorem d_Model_wordOf_52 : decode m_Model_wordOf.2.1 52 = .ok (.if_icmp .ne 9, 3) := by decide +kernel
theorem d_Model_wordOf_55 : decode m_Model_wordOf.2.1 55 = .ok (.ldc2_w 484, 3) := by decide +kernel
theorem d_Model_wordOf_58 : decode m_Model_wordOf.2.1 58 = .ok (.goto 16, 3) := by decide +kernel
theorem d_Model_wordOf_61 : decode m_Model_wordOf.2.1 61 = .ok (.iload_n 0, 1) := by decide +kernel
theorem d_Model_wordOf_62 : decode m_Model_wordOf.2.1 62 = .ok (.bipush 7, 2) := by decide +kernel
theorem d_Model_wordOf_64 : decode m_Model_wordOf.2.1 64 = .ok (.if_icmp .ne 9, 3) := by decide +kernel
theorem d_Model_wordOf_67 : decode m_Model_wordOf.2.1 67 = .ok (.ldc2_w 486, 3) := by decide +kernel
theorem d_Model_wordOf_70 : decode m_Model_wordOf.2.1 70 = .ok (.goto 4, 3) := by decide +kernel
theorem d_Model_wordOf_73 : decode m_Model_wordOf.2.1 73 = .ok (.lconst 0, 1) := by decide +kernel
theorem d_Model_wordOf_74 : decode m_Model_wordOf.2.1 74 = .ok (.lstore_n 1, 1) := by decide +kernel
theorem d_Model_wordOf_75 : decode m_Model_wordOf.2.1 75 = .ok (.iload_n 0, 1) := by decide +kernel
theorem d_Model_wordOf_76 : decode m_Model_wordOf.2.1 76 = .ok (.bipush 22, 2) := by decide +kernel
theorem d_Model_wordOf_78 : decode m_Model_wordOf.2.1 78 = .ok (.if_icmp .ne 9, 3) := by decide +kernel
theorem d_Model_wordOf_81 : decode m_Model_wordOf.2.1 81 = .ok (.ldc2_w 488, 3) := by decide +kernel
theorem d_Model_wordOf_84 : decode m_Model_wordOf.2.1 84 = .ok (.goto 64, 3) := by decide +kernel
theorem d_Model_wordOf_87 : decode m_Model_wordOf.2.1 87 = .ok (.iload_n 0, 1) := by decide +kernel
theorem d_Model_wordOf_88 : decode m_Model_wordOf.2.1 88 = .ok (.bipush 23, 2) := by decide +kernel
theorem d_Model_wordOf_90 : decode m_Model_wordOf.2.1 90 = .ok (.if_icmp .ne 9, 3) := by decide +kernel
theorem d_Model_wordOf_93 : decode m_Model_wordOf.2.1 93 = .ok (.ldc2_w 490, 3) := by decide +kernel
theorem d_Model_wordOf_96 : decode m_Model_wordOf.2.1 96 = .ok (.goto 52, 3) := by decide +kernel
theorem d_Model_wordOf_99 : decode m_Model_wordOf.2.1 99 = .ok (.iload_n 0, 1) := by decide +kernel
theorem d_Model_wordOf_100 : decode m_Model_wordOf.2.1 100 = .ok (.bipush 24, 2) := by decide +kernel
theorem d_Model_wordOf_102 : decode m_Model_wordOf.2.1 102 = .ok (.if_icmp .ne 9, 3) := by decide +kernel
theorem d_Model_wordOf_105 : decode m_Model_wordOf.2.1 105 = .ok (.ldc2_w 492, 3) := by decide +kernel
theorem d_Model_wordOf_108 : decode m_Model_wordOf.2.1 108 = .ok (.goto 40, 3) := by decide +kernel
theorem d_Model_wordOf_111 : decode m_Model_wordOf.2.1 111 = .ok (.iload_n 0, 1) := by decide +kernel
theorem d_Model_wordOf_112 : decode m_Model_wordOf.2.1 112 = .ok (.bipush 25, 2) := by decide +kernel
theorem d_Model_wordOf_114 : decode m_Model_wordOf.2.1 114 = .ok (.if_icmp .ne 9, 3) := by decide +kernel
theorem d_Model_wordOf_117 : decode m_Model_wordOf.2.1 117 = .ok (.ldc2_w 494, 3) := by decide +kernel
theorem d_Model_wordOf_120 : decode m_Model_wordOf.2.1 120 = .ok (.goto 28, 3) := by decide +kernel
theorem d_Model_wordOf_123 : decode m_Model_wordOf.2.1 123 = .ok (.iload_n 0, 1) := by decide +kernel
theorem d_Model_wordOf_124 : decode m_Model_wordOf.2.1 124 = .ok (.bipush 26, 2) := by decide +kernel
theorem d_Model_wordOf_126 : decode m_Model_wordOf.2.1 126 = .ok (.if_icmp .ne 9, 3) := by decide +kernel
theorem d_Model_wordOf_129 : decode m_Model_wordOf.2.1 129 = .ok (.ldc2_w 496, 3) := by decide +kernel
theorem d_Model_wordOf_132 : decode m_Model_wordOf.2.1 132 = .ok (.goto 16, 3) := by decide +kernel
theorem d_Model_wordOf_135 : decode m_Model_wordOf.2.1 135 = .ok (.iload_n 0, 1) := by decide +kernel
theorem d_Model_wordOf_136 : decode m_Model_wordOf.2.1 136 = .ok (.bipush 27, 2) := by decide +kernel
theorem d_Model_wordOf_138 : decode m_Model_wordOf.2.1 138 = .ok (.if_icmp .ne 9, 3) := by decide +kernel
theorem d_Model_wordOf_141 : decode m_Model_wordOf.2.1 141 = .ok (.ldc2_w 498, 3) := by decide +kernel
theorem d_Model_wordOf_144 : decode m_Model_wordOf.2.1 144 = .ok (.goto 4, 3) := by decide +kernel
theorem d_Model_wordOf_147 : decode m_Model_wordOf.2.1 147 = .ok (.lconst 0, 1) := by decide +kernel
theorem d_Model_wordOf_148 : decode m_Model_wordOf.2.1 148 = .ok (.lstore_n 3, 1) := by decide +kernel
theorem d_Model_wordOf_149 : decode m_Model_wordOf.2.1 149 = .ok (.iload_n 0, 1) := by decide +kernel
theorem d_Model_wordOf_150 : decode m_Model_wordOf.2.1 150 = .ok (.bipush 28, 2) := by decide +kernel
theorem d_Model_wordOf_152 : decode m_Model_wordOf.2.1 152 = .ok (.if_icmp .ne 9, 3) := by decide +kernel
theorem d_Model_wordOf_155 : decode m_Model_wordOf.2.1 155 = .ok (.ldc2_w 500, 3) := by decide +kernel
theorem d_Model_wordOf_158 : decode m_Model_wordOf.2.1 158 = .ok (.goto 52, 3) := by decide +kernel
theorem d_Model_wordOf_161 : decode m_Model_wordOf.2.1 161 = .ok (.iload_n 0, 1) := by decide +kernel
theorem d_Model_wordOf_162 : decode m_Model_wordOf.2.1 162 = .ok (.bipush 29, 2) := by decide +kernel
theorem d_Model_wordOf_164 : decode m_Model_wordOf.2.1 164 = .ok (.if_icmp .ne 9, 3) := by decide +kernel
theorem d_Model_wordOf_167 : decode m_Model_wordOf.2.1 167 = .ok (.ldc2_w 502, 3) := by decide +kernel
theorem d_Model_wordOf_170 : decode m_Model_wordOf.2.1 170 = .ok (.goto 40, 3) := by decide +kernel
theorem d_Model_wordOf_173 : decode m_Model_wordOf.2.1 173 = .ok (.iload_n 0, 1) := by decide +kernel
theorem d_Model_wordOf_174 : decode m_Model_wordOf.2.1 174 = .ok (.bipush 30, 2) := by decide +kernel
theorem d_Model_wordOf_176 : decode m_Model_wordOf.2.1 176 = .ok (.if_icmp .ne 9, 3) := by decide +kernel
theorem d_Model_wordOf_179 : decode m_Model_wordOf.2.1 179 = .ok (.ldc2_w 504, 3) := by decide +kernel
theorem d_Model_wordOf_182 : decode m_Model_wordOf.2.1 182 = .ok (.goto 28, 3) := by decide +kernel
theorem d_Model_wordOf_185 : decode m_Model_wordOf.2.1 185 = .ok (.iload_n 0, 1) := by decide +kernel
theorem d_Model_wordOf_186 : decode m_Model_wordOf.2.1 186 = .ok (.bipush 31, 2) := by decide +kernel
theorem d_Model_wordOf_188 : decode m_Model_wordOf.2.1 188 = .ok (.if_icmp .ne 9, 3) := by decide +kernel
theorem d_Model_wordOf_191 : decode m_Model_wordOf.2.1 191 = .ok (.ldc2_w 506, 3) := by decide +kernel
theorem d_Model_wordOf_194 : decode m_Model_wordOf.2.1 194 = .ok (.goto 16, 3) := by decide +kernel
theorem d_Model_wordOf_197 : decode m_Model_wordOf.2.1 197 = .ok (.iload_n 0, 1) := by decide +kernel
theorem d_Model_wordOf_198 : decode m_Model_wordOf.2.1 198 = .ok (.bipush 32, 2) := by decide +kernel
theorem d_Model_wordOf_200 : decode m_Model_wordOf.2.1 200 = .ok (.if_icmp .ne 9, 3) := by decide +kernel
theorem d_Model_wordOf_203 : decode m_Model_wordOf.2.1 203 = .ok (.ldc2_w 508, 3) := by decide +kernel
theorem d_Model_wordOf_206 : decode m_Model_wordOf.2.1 206 = .ok (.goto 4, 3) := by decide +kernel
theorem d_Model_wordOf_209 : decode m_Model_wordOf.2.1 209 = .ok (.lconst 0, 1) := by decide +kernel
theorem d_Model_wordOf_210 : decode m_Model_wordOf.2.1 210 = .ok (.lstore 5, 2) := by decide +kernel
theorem d_Model_wordOf_212 : decode m_Model_wordOf.2.1 212 = .ok (.iload_n 0, 1) := by decide +kernel
theorem d_Model_wordOf_213 : decode m_Model_wordOf.2.1 213 = .ok (.bipush 40, 2) := by decide +kernel
theorem d_Model_wordOf_215 : decode m_Model_wordOf.2.1 215 = .ok (.if_icmp .ne 9, 3) := by decide +kernel
theorem d_Model_wordOf_218 : decode m_Model_wordOf.2.1 218 = .ok (.ldc2_w 510, 3) := by decide +kernel
theorem d_Model_wordOf_221 : decode m_Model_wordOf.2.1 221 = .ok (.goto 64, 3) := by decide +kernel
theorem d_Model_wordOf_224 : decode m_Model_wordOf.2.1 224 = .ok (.iload_n 0, 1) := by decide +kernel
theorem d_Model_wordOf_225 : decode m_Model_wordOf.2.1 225 = .ok (.bipush 41, 2) := by decide +kernel
theorem d_Model_wordOf_227 : decode m_Model_wordOf.2.1 227 = .ok (.if_icmp .ne 9, 3) := by decide +kernel
theorem d_Model_wordOf_230 : decode m_Model_wordOf.2.1 230 = .ok (.ldc2_w 512, 3) := by decide +kernel
theorem d_Model_wordOf_233 : decode m_Model_wordOf.2.1 233 = .ok (.goto 52, 3) := by decide +kernel
theorem d_Model_wordOf_236 : decode m_Model_wordOf.2.1 236 = .ok (.iload_n 0, 1) := by decide +kernel
theorem d_Model_wordOf_237 : decode m_Model_wordOf.2.1 237 = .ok (.bipush 42, 2) := by decide +kernel
theorem d_Model_wordOf_239 : decode m_Model_wordOf.2.1 239 = .ok (.if_icmp .ne 9, 3) := by decide +kernel
theorem d_Model_wordOf_242 : decode m_Model_wordOf.2.1 242 = .ok (.ldc2_w 514, 3) := by decide +kernel
theorem d_Model_wordOf_245 : decode m_Model_wordOf.2.1 245 = .ok (.goto 40, 3) := by decide +kernel
theorem d_Model_wordOf_248 : decode m_Model_wordOf.2.1 248 = .ok (.iload_n 0, 1) := by decide +kernel
theorem d_Model_wordOf_249 : decode m_Model_wordOf.2.1 249 = .ok (.bipush 43, 2) := by decide +kernel
theorem d_Model_wordOf_251 : decode m_Model_wordOf.2.1 251 = .ok (.if_icmp .ne 9, 3) := by decide +kernel
theorem d_Model_wordOf_254 : decode m_Model_wordOf.2.1 254 = .ok (.ldc2_w 516, 3) := by decide +kernel
theorem d_Model_wordOf_257 : decode m_Model_wordOf.2.1 257 = .ok (.goto 28, 3) := by decide +kernel
theorem d_Model_wordOf_260 : decode m_Model_wordOf.2.1 260 = .ok (.iload_n 0, 1) := by decide +kernel
theorem d_Model_wordOf_261 : decode m_Model_wordOf.2.1 261 = .ok (.bipush 49, 2) := by decide +kernel
theorem d_Model_wordOf_263 : decode m_Model_wordOf.2.1 263 = .ok (.if_icmp .ne 9, 3) := by decide +kernel
theorem d_Model_wordOf_266 : decode m_Model_wordOf.2.1 266 = .ok (.ldc2_w 528, 3) := by decide +kernel
theorem d_Model_wordOf_269 : decode m_Model_wordOf.2.1 269 = .ok (.goto 16, 3) := by decide +kernel
theorem d_Model_wordOf_272 : decode m_Model_wordOf.2.1 272 = .ok (.iload_n 0, 1) := by decide +kernel
theorem d_Model_wordOf_273 : decode m_Model_wordOf.2.1 273 = .ok (.bipush 50, 2) := by decide +kernel
theorem d_Model_wordOf_275 : decode m_Model_wordOf.2.1 275 = .ok (.if_icmp .ne 9, 3) := by decide +kernel
theorem d_Model_wordOf_278 : decode m_Model_wordOf.2.1 278 = .ok (.ldc2_w 530, 3) := by decide +kernel
theorem d_Model_wordOf_281 : decode m_Model_wordOf.2.1 281 = .ok (.goto 4, 3) := by decide +kernel
theorem d_Model_wordOf_284 : decode m_Model_wordOf.2.1 284 = .ok (.lconst 0, 1) := by decide +kernel
theorem d_Model_wordOf_285 : decode m_Model_wordOf.2.1 285 = .ok (.lstore 7, 2) := by decide +kernel
theorem d_Model_wordOf_287 : decode m_Model_wordOf.2.1 287 = .ok (.iload_n 0, 1) := by decide +kernel
theorem d_Model_wordOf_288 : decode m_Model_wordOf.2.1 288 = .ok (.bipush 44, 2) := by decide +kernel
theorem d_Model_wordOf_290 : decode m_Model_wordOf.2.1 290 = .ok (.if_icmp .ne 9, 3) := by decide +kernel
theorem d_Model_wordOf_293 : decode m_Model_wordOf.2.1 293 = .ok (.ldc2_w 518, 3) := by decide +kernel
theorem d_Model_wordOf_296 : decode m_Model_wordOf.2.1 296 = .ok (.goto 52, 3) := by decide +kernel
theorem d_Model_wordOf_299 : decode m_Model_wordOf.2.1 299 = .ok (.iload_n 0, 1) := by decide +kernel
theorem d_Model_wordOf_300 : decode m_Model_wordOf.2.1 300 = .ok (.bipush 45, 2) := by decide +kernel
theorem d_Model_wordOf_302 : decode m_Model_wordOf.2.1 302 = .ok (.if_icmp .ne 9, 3) := by decide +kernel
theorem d_Model_wordOf_305 : decode m_Model_wordOf.2.1 305 = .ok (.ldc2_w 520, 3) := by decide +kernel
theorem d_Model_wordOf_308 : decode m_Model_wordOf.2.1 308 = .ok (.goto 40, 3) := by decide +kernel
theorem d_Model_wordOf_311 : decode m_Model_wordOf.2.1 311 = .ok (.iload_n 0, 1) := by decide +kernel
theorem d_Model_wordOf_312 : decode m_Model_wordOf.2.1 312 = .ok (.bipush 46, 2) := by decide +kernel
theorem d_Model_wordOf_314 : decode m_Model_wordOf.2.1 314 = .ok (.if_icmp .ne 9, 3) := by decide +kernel
theorem d_Model_wordOf_317 : decode m_Model_wordOf.2.1 317 = .ok (.ldc2_w 522, 3) := by decide +kernel
theorem d_Model_wordOf_320 : decode m_Model_wordOf.2.1 320 = .ok (.goto 28, 3) := by decide +kernel
theorem d_Model_wordOf_323 : decode m_Model_wordOf.2.1 323 = .ok (.iload_n 0, 1) := by decide +kernel
theorem d_Model_wordOf_324 : decode m_Model_wordOf.2.1 324 = .ok (.bipush 47, 2) := by decide +kernel
theorem d_Model_wordOf_326 : decode m_Model_wordOf.2.1 326 = .ok (.if_icmp .ne 9, 3) := by decide +kernel
theorem d_Model_wordOf_329 : decode m_Model_wordOf.2.1 329 = .ok (.ldc2_w 524, 3) := by decide +kernel
theorem d_Model_wordOf_332 : decode m_Model_wordOf.2.1 332 = .ok (.goto 16, 3) := by decide +kernel
theorem d_Model_wordOf_335 : decode m_Model_wordOf.2.1 335 = .ok (.iload_n 0, 1) := by decide +kernel
theorem d_Model_wordOf_336 : decode m_Model_wordOf.2.1 336 = .ok (.bipush 48, 2) := by decide +kernel
theorem d_Model_wordOf_338 : decode m_Model_wordOf.2.1 338 = .ok (.if_icmp .ne 9, 3) := by decide +kernel
theorem d_Model_wordOf_341 : decode m_Model_wordOf.2.1 341 = .ok (.ldc2_w 526, 3) := by decide +kernel
theorem d_Model_wordOf_344 : decode m_Model_wordOf.2.1 344 = .ok (.goto 4, 3) := by decide +kernel
theorem d_Model_wordOf_347 : decode m_Model_wordOf.2.1 347 = .ok (.lconst 0, 1) := by decide +kernel
theorem d_Model_wordOf_348 : decode m_Model_wordOf.2.1 348 = .ok (.lstore 9, 2) := by decide +kernel
theorem d_Model_wordOf_350 : decode m_Model_wordOf.2.1 350 = .ok (.lload_n 1, 1) := by decide +kernel
theorem d_Model_wordOf_351 : decode m_Model_wordOf.2.1 351 = .ok (.lload_n 3, 1) := by decide +kernel
theorem d_Model_wordOf_352 : decode m_Model_wordOf.2.1 352 = .ok (.ladd, 1) := by decide +kernel
theorem d_Model_wordOf_353 : decode m_Model_wordOf.2.1 353 = .ok (.lload 5, 2) := by decide +kernel
theorem d_Model_wordOf_355 : decode m_Model_wordOf.2.1 355 = .ok (.ladd, 1) := by decide +kernel
theorem d_Model_wordOf_356 : decode m_Model_wordOf.2.1 356 = .ok (.lload 7, 2) := by decide +kernel
theorem d_Model_wordOf_358 : decode m_Model_wordOf.2.1 358 = .ok (.ladd, 1) := by decide +kernel
theorem d_Model_wordOf_359 : decode m_Model_wordOf.2.1 359 = .ok (.lload 9, 2) := by decide +kernel
theorem d_Model_wordOf_361 : decode m_Model_wordOf.2.1 361 = .ok (.ladd, 1) := by decide +kernel
theorem d_Model_wordOf_362 : decode m_Model_wordOf.2.1 362 = .ok (.lreturn, 1) := by decide +kernel
theorem d_Model_putAsked_0 : decode m_Model_putAsked.2.1 0 = .ok (.aload_n 0, 1) := by decide +kernel
theorem d_Model_putAsked_1 : decode m_Model_putAsked.2.1 1 = .ok (.invokevirtual 417, 3) := by decide +kernel
theorem d_Model_putAsked_4 : decode m_Model_putAsked.2.1 4 = .ok (.aload_n 0, 1) := by decide +kernel
theorem d_Model_putAsked_5 : decode m_Model_putAsked.2.1 5 = .ok (.bipush 63, 2) := by decide +kernel
theorem d_Model_putAsked_7 : decode m_Model_putAsked.2.1 7 = .ok (.invokevirtual 411, 3) := by decide +kernel
theorem d_Model_putAsked_10 : decode m_Model_putAsked.2.1 10 = .ok (.aload_n 0, 1) := by decide +kernel
theorem d_Model_putAsked_11 : decode m_Model_putAsked.2.1 11 = .ok (.lload_n 1, 1) := by decide +kernel
theorem d_Model_putAsked_12 : decode m_Model_putAsked.2.1 12 = .ok (.invokevirtual 420, 3) := by decide +kernel
theorem d_Model_putAsked_15 : decode m_Model_putAsked.2.1 15 = .ok (.return_, 1) := by decide +kernel
theorem putL_len (l : List Nat) (b : Nat) : l.length ≤ (putL l b).length := by
  unfold putL
  split
  · rw [List.length_append]; exact Nat.le_add_right _ _
  · exact Nat.le_refl _
theorem putL_pos (l : List Nat) (b : Nat) : 0 < (putL l b).length := by
  unfold putL
  split
  · rw [List.length_append]; exact Nat.succ_pos _
  · omega
theorem putsL_len : ∀ (bs l : List Nat), l.length ≤ (putsL l bs).length
  | [], l => Nat.le_refl _
  | b :: bs, l => Nat.le_trans (putL_len l b) (putsL_len bs (putL l b))
theorem partL_len (l : List Nat) : l.length ≤ (partL l).length := by
  unfold partL
  split
  · exact putL_len _ _
  · exact Nat.le_refl _
theorem wordL_len (l bs : List Nat) : l.length ≤ (wordL l bs).length := Nat.le_trans (partL_len l) (putsL_len _ _)
theorem wordL_pos {l bs : List Nat} (h : bs ≠ []) : 0 < (wordL l bs).length := by
  unfold wordL
  cases bs with
  | nil => exact absurd rfl h
  | cons b bs => exact Nat.lt_of_lt_of_le (putL_pos (partL l) b) (putsL_len bs _)
theorem wordL_32 {l bs : List Nat} (h : 0 < l.length) : wordL l bs = putsL (putL l 32) bs := by unfold wordL partL; rw [if_pos h]
theorem nmP_len (x : Int) (l : List Nat) : l.length ≤ (nmP x l).length := by
  unfold nmP
  split
  · exact Nat.le_refl _
  · exact wordL_len _ _
theorem chP_len {P : Nat → List Nat → List Nat} (hP : ∀ n l, l.length ≤ (P n l).length) (c : Int) (l : List Nat) : l.length ≤ (chP P c l).length := by
  unfold chP
  split
  · exact Nat.le_refl _
  · exact hP _ _
theorem nusP_len (V : Nat → Int) (m : Nat) : ∀ k l, l.length ≤ (nusP V m k l).length
  | 0, l => Nat.le_refl _
  | k + 1, l => Nat.le_trans (nusP_len V m k l) (wordL_len _ _)
theorem prK_len {ρ : Nat → Row} {V : Nat → Int} {P : Nat → List Nat → List Nat} (hP : ∀ n l, l.length ≤ (P n l).length) (n : Nat) (l : List Nat) : l.length ≤ (prK ρ V P n l).length := by
  unfold prK
  refine Nat.le_trans ?_ (hP _ _)
  have h1 : ∀ x y z a b, l.length ≤ (nmP x (nmP y (nmP z (wordL (wordL l a) b)))).length := fun x y z a b => Nat.le_trans (Nat.le_trans (wordL_len _ _) (wordL_len _ _)) (Nat.le_trans (nmP_len _ _) (Nat.le_trans (nmP_len _ _) (nmP_len _ _)))
  split
  · exact Nat.le_trans (h1 _ _ _ _ _) (Nat.le_trans (wordL_len _ _) (Nat.le_trans (nusP_len _ _ _ _) (wordL_len _ _)))
  · exact Nat.le_trans (h1 _ _ _ _ _) (hP _ _)
theorem prCs_len {ρ : Nat → Row} {V : Nat → Int} {P : Nat → List Nat → List Nat} (hP : ∀ n l, l.length ≤ (P n l).length) : ∀ k c l, l.length ≤ (prCs ρ V P k c l).length
  | 0, c, l => Nat.le_refl _
  | k + 1, c, l => by
    show l.length ≤ (if c = -1 then l else prCs ρ V P k ((ρ c.toNat).getD 4 0) (prK ρ V P c.toNat l)).length
    split
    · exact Nat.le_refl _
    · exact Nat.le_trans (prK_len hP _ _) (prCs_len hP k _ _)
theorem prN_len (ρ : Nat → Row) (V : Nat → Int) : ∀ f n l, l.length ≤ (prN ρ V f n l).length
  | 0, n, l => Nat.le_refl _
  | f + 1, n, l => by
    have ih := prN_len ρ V f
    unfold prN
    dsimp only
    split
    · exact wordL_len _ _
    · split
      · exact wordL_len _ _
      · split
        · refine Nat.le_trans ?_ (ih _ _)
          have h1 : l.length ≤ (wordL (prCs ρ V (prN ρ V f) 8 ((ρ n).getD 1 0) (wordL (wordL l (kwL 5)) [91])) [93]).length := Nat.le_trans (wordL_len _ _) (Nat.le_trans (wordL_len _ _) (Nat.le_trans (prCs_len ih _ _ _) (wordL_len _ _)))
          split <;> exact Nat.le_trans h1 (wordL_len _ _)
        · have h1 : ∀ l2 : List Nat, l.length ≤ l2.length → l.length ≤ (chP (prN ρ V f) ((ρ n).getD 2 0) (chP (prN ρ V f) ((ρ n).getD 1 0) (nmP ((ρ n).getD 7 0) (nmP ((ρ n).getD 6 0) l2)))).length := fun l2 h => Nat.le_trans h (Nat.le_trans (nmP_len _ _) (Nat.le_trans (nmP_len _ _) (Nat.le_trans (chP_len ih _ _) (chP_len ih _ _))))
          have h2 : l.length ≤ (if (ρ n).getD 0 0 = 1 then wordL (nmP ((ρ n).getD 5 0) (wordL l (kwL ((ρ n).getD 0 0).toNat))) (kwL (if (ρ n).getD 3 0 = 1 then 3 else 2)) else nmP ((ρ n).getD 5 0) (wordL l (kwL ((ρ n).getD 0 0).toNat))).length := by
            have h3 := Nat.le_trans (wordL_len l (kwL ((ρ n).getD 0 0).toNat)) (nmP_len ((ρ n).getD 5 0) _)
            split
            · exact Nat.le_trans h3 (wordL_len _ _)
            · exact h3
          split
          · exact Nat.le_trans (h1 _ h2) (ih _ _)
          · exact h1 _ h2
/-- the pile of what is to be told -/
def PlT (I : M32) (M : Nat) : List (Nat × Nat) → Prop
  | [] => True
  | w :: l => (I (M + 34) l.length = cI w.1 ∧ I (M + 33) l.length = cI w.2) ∧ PlT I M l
theorem PlT.fx {I J : M32} {M : Nat} : ∀ {l : List (Nat × Nat)}, PlT I M l → (∀ k, k < l.length → J (M + 34) k = I (M + 34) k ∧ J (M + 33) k = I (M + 33) k) → PlT J M l
  | [], _, _ => trivial
  | _ :: l, h, hf => ⟨⟨by rw [(hf _ (Nat.lt_succ_self _)).1]; exact h.1.1, by rw [(hf _ (Nat.lt_succ_self _)).2]; exact h.1.2⟩, h.2.fx fun k hk => hf k (Nat.lt_succ_of_lt hk)⟩
/-- what printing may change -/
def FrT' (M : Nat) (I I' : M32) : Prop := (∀ a, a ≠ M → a ≠ M + 2 → a ≠ M + 33 → a ≠ M + 34 → I' a = I a) ∧ ∀ k, k ≠ 4 → k ≠ 55 → I' M k = I M k
theorem FrT'.rf {M : Nat} {I : M32} : FrT' M I I := ⟨fun _ _ _ _ _ => rfl, fun _ _ _ => rfl⟩
theorem FrT'.tr {M : Nat} {I J K : M32} (h : FrT' M I J) (g : FrT' M J K) : FrT' M I K := ⟨fun a x y z w => (g.1 a x y z w).trans (h.1 a x y z w), fun k x y => (g.2 k x y).trans (h.2 k x y)⟩
theorem FrU.t {M : Nat} {I J : M32} (h : FrU M I J) : FrT' M I J := ⟨fun a x y _ _ => h.1 a x y, fun k x _ => h.2 k x⟩
/-- amidst printing: the text so far, the pile -/
def TlS (M : Nat) (I0 : M32) (l : List Nat) (pile : List (Nat × Nat)) (I : M32) : Prop := MOut I M l ∧ PlT I M pile ∧ I M 55 = cI pile.length ∧ FrT' M I0 I ∧ pile.length ≤ 5090
theorem TlS.out {M : Nat} {I0 I I' : M32} {l l' : List Nat} {pile : List (Nat × Nat)} (h : TlS M I0 l pile I) (hV : MOut I' M l') (hF : FrU M I I') : TlS M I0 l' pile I' := by
  obtain ⟨h1, h2, h3, h4, h5⟩ := h
  exact ⟨hV, h2.fx fun k _ => ⟨by rw [hF.1 _ (by omega) (by omega)], by rw [hF.1 _ (by omega) (by omega)]⟩, by rw [hF.2 _ (by decide)]; exact h3, h4.tr hF.t, h5⟩
def layL (w : Nat) (n : Int) (pile : List (Nat × Nat)) : List (Nat × Nat) := if n = -1 then pile else (w, n.toNat) :: pile
theorem c_Model_lay (d : Nat) {M w : Nat} {n : Int} {l : List Nat} {pile : List (Nat × Nat)} {I0 I : M32} {L : M64} {R : MR} {T : SH} (hM : MdlS M R T) (hA : TlS M I0 l pile I) (hl : pile.length < 5090) (hn : -1 ≤ n ∧ n < 100000) :
    Call m_Model_lay y_Model_lay d 0 0 [.ref M, .int (cI (w : Int)), .int (cI n)] I L R T (rV fun I' L' R' T' => TlS M I0 l (layL w n pile) I' ∧ L' = L ∧ R' = R ∧ T' = T) := by
  obtain ⟨h1, h2, h3, h4, h5⟩ := id hA
  obtain ⟨q, hq⟩ : ∃ q, q = pile.length := ⟨_, rfl⟩
  rw [← hq] at h3 hl
  refine Call.ofRun (by decide) ⟨rfl, rfl⟩ (Nat.le_of_ble_eq_true rfl) ?_
  refine Run.gen fun Q hQ => ?_
  refine q_iload_n d_Model_lay_0 rfl ?_
  refine j_iconst d_Model_lay_1 ?_
  by_cases hn1 : n = -1
  · refine j_icmp_eq (tgt := 35) d_Model_lay_2 (by decide) (by omega) (by omega) (fun hx => ?_) (fun hx => by exfalso; omega)
    refine q_return d_Model_lay_35 rfl ?_
    refine hQ _ _ _ _ _ ?_
    refine ⟨rfl, ?_, rfl, rfl, rfl⟩
    unfold layL; rw [if_pos hn1]; exact hA
  refine j_icmp_eq (tgt := 35) d_Model_lay_2 (by decide) (by omega) (by omega) (fun hx => by exfalso; omega) (fun hx => ?_)
  refine q_aload_n d_Model_lay_5 rfl ?_
  refine q_getR d_Model_lay_6 fl_Model_112 hM.1 ⟨rfl, by decide⟩ (mR54 hM) ?_
  refine q_aload_n d_Model_lay_9 rfl ?_
  refine j_getI (v := (cI (q : Int))) d_Model_lay_10 fl_Model_707 hM.1 ⟨rfl, by decide⟩ h3 ?_
  refine q_iload_n d_Model_lay_13 rfl ?_
  refine j_iast (j := q) d_Model_lay_14 (mT54 hM) (mN54 hM) (by omega) (by omega) (by omega) ?_
  refine q_aload_n d_Model_lay_15 rfl ?_
  refine q_getR d_Model_lay_16 fl_Model_109 hM.1 ⟨rfl, by decide⟩ (mR53 hM) ?_
  refine q_aload_n d_Model_lay_19 rfl ?_
  refine j_getI (v := (cI (q : Int))) d_Model_lay_20 fl_Model_707 hM.1 ⟨rfl, by decide⟩ ((up2_a _ _ _ (by omega)).trans (h3)) ?_
  refine q_iload_n d_Model_lay_23 rfl ?_
  refine j_iast (j := q) d_Model_lay_24 (mT53 hM) (mN53 hM) (by omega) (by omega) (by omega) ?_
  refine q_aload_n d_Model_lay_25 rfl ?_
  refine q_dup d_Model_lay_26 rfl ?_
  refine j_getI (v := (cI (q : Int))) d_Model_lay_27 fl_Model_707 hM.1 ⟨rfl, by decide⟩ ((up2_a _ _ _ (by omega)).trans ((up2_a _ _ _ (by omega)).trans (h3))) ?_
  refine j_iconst d_Model_lay_30 ?_
  refine j_iadd d_Model_lay_31 ?_
  refine q_putI d_Model_lay_32 fl_Model_707 hM.1 ⟨rfl, by decide, rfl, rfl⟩ ?_
  refine q_return d_Model_lay_35 rfl ?_
  refine hQ _ _ _ _ _ ?_
  refine ⟨rfl, ?_, rfl, rfl, rfl⟩
  unfold layL
  rw [if_neg hn1]
  refine ⟨⟨h1.1, ?_, fun j hj => ?_⟩, ⟨⟨?_, ?_⟩, h2.fx fun k hk => ⟨?_, ?_⟩⟩, ?_, ⟨fun a e1 e2 e3 e4 => ?_, fun k e1 e2 => ?_⟩, ?_⟩
  · rw [up2_k _ _ _ (by decide), up2_a _ _ _ (by omega), up2_a _ _ _ (by omega)]; exact h1.2.1
  · rw [up2_a _ _ _ (by omega), up2_a _ _ _ (by omega), up2_a _ _ _ (by omega)]; exact h1.2.2 j hj
  · rw [up2_a _ _ _ (by omega), up2_a _ _ _ (by omega), ← hq, up2_s]
  · rw [up2_a _ _ _ (by omega), ← hq, up2_s]
    congr 1
    show n = (n.toNat : Int)
    omega
  · rw [up2_a _ _ _ (by omega), up2_a _ _ _ (by omega), up2_k _ _ _ (by omega)]
  · rw [up2_a _ _ _ (by omega), up2_k _ _ _ (by omega), up2_a _ _ _ (by omega)]
  · rw [up2_s, List.length_cons, ← hq]; congr 1
  · rw [up2_row _ _ e1, up2_row _ _ e3, up2_row _ _ e4]; exact h4.1 a e1 e2 e3 e4
  · rw [up2_k _ _ _ e2, up2_a _ _ _ (by omega), up2_a _ _ _ (by omega)]; exact h4.2 k e1 e2
  · rw [List.length_cons, ← hq]; omega
theorem c_Model_putAsked (d : Nat) {M x : Nat} {l : List Nat} {I : M32} {L : M64} {R : MR} {T : SH} (hd : 2 ≤ d) (hM : MdlS M R T) (hV : MOut I M l) (hx : nmO x) :
    Call m_Model_putAsked y_Model_putAsked d 0 0 [.ref M, .long (cL x)] I L R T (rV fun I' L' R' T' => (MOut I' M (wordL l (63 :: nmL x)) ∧ FrU M I I') ∧ L' = L ∧ R' = R ∧ T' = T) := by
  obtain ⟨hx0, nn, hx⟩ := hx
  refine Call.ofRun (by decide) ⟨rfl, rfl⟩ (Nat.le_of_ble_eq_true rfl) ?_
  refine Run.gen fun Q hQ => ?_
  refine q_aload_n d_Model_putAsked_0 rfl ?_
  refine q_callV (ci := 17) (rc := 0) (rs := 0) (rest := []) d_Model_putAsked_1 ml_Model_417 ok_Model_putBlank rfl hM.1 (by decide) (c_Model_putBlank (d - 1) (by omega) hM hV) rfl rfl (by omega) (Nat.le_of_ble_eq_true rfl) (kv_V (fun J1 h1 => ?_)) kt_V
  refine q_aload_n d_Model_putAsked_4 rfl ?_
  refine j_bipush d_Model_putAsked_5 (by decide) ?_
  refine q_callV (ci := 17) (rc := 0) (rs := 0) (rest := []) d_Model_putAsked_7 ml_Model_411 ok_Model_put rfl hM.1 (by decide) (c_Model_put (d - 1) (b := 63) hM h1.1) rfl rfl (by omega) (Nat.le_of_ble_eq_true rfl) (kv_V (fun J2 h2 => ?_)) kt_V
  refine q_aload_n d_Model_putAsked_10 rfl ?_
  refine q_lload_n d_Model_putAsked_11 rfl ?_
  refine q_callV (ci := 17) (rc := 0) (rs := 0) (rest := []) d_Model_putAsked_12 ml_Model_420 ok_Model_putName rfl hM.1 (by decide) (c_Model_putName (d - 1) (by omega) hM h2.1 hx) rfl rfl (by omega) (Nat.le_of_ble_eq_true rfl) (kv_V (fun J3 h3 => ?_)) kt_V
  refine q_return d_Model_putAsked_15 rfl ?_
  refine hQ _ _ _ _ _ ?_
  refine ⟨rfl, ⟨?_, h1.2.tr (h2.2.tr h3.2)⟩, rfl, rfl, rfl⟩
  have := h3.1
  rw [nmL_eq hx] at this
  exact this
def wdF (w : Int) : Int := (if w = 1 then 427021005669 else if w = 2 ∨ w = 3 then 7364985 else if w = 4 then 26982 else if w = 5 then 2003330414 else if w = 6 then 7103860 else if w = 7 then 107148485161588 else 0) + (if w = 22 then 1751477348 else if w = 23 then 7234919 else if w = 24 then 6382692 else if w = 25 then 7566690 else if w = 26 then 7173484 else if w = 27 then 6580598 else 0) + (if w = 28 then 109300197582190 else if w = 29 then 495873782388 else if w = 30 then 6647396 else if w = 31 then 7697253 else if w = 32 then 1668247140 else 0) + (if w = 40 then 6385252 else if w = 41 then 28530 else if w = 42 then 7237492 else if w = 43 then 426953896805 else if w = 49 then 1953658213 else if w = 50 then 439721161573 else 0) + (if w = 44 then 26469 else if w = 45 then 26484 else if w = 46 then 27749 else if w = 47 then 27764 else if w = 48 then 25969 else 0)
theorem c_Model_wordOf (d : Nat) {w : Int} {I : M32} {L : M64} {R : MR} {T : SH} (hw : inI w) : Call m_Model_wordOf y_Model_wordOf d 0 0 [.int (cI w)] I L R T (rL fun r I' L' R' T' => r = cL (wdF w) ∧ I' = I ∧ L' = L ∧ R' = R ∧ T' = T) := by
  refine Call.ofRun (by decide) ⟨rfl, rfl⟩ (Nat.le_of_ble_eq_true rfl) ?_
  refine Run.gen fun Q hQ => ?_
  suffices J : ∀ (u1 : Int), (((¬ w = 1) ∧ (w = 2) ∧ u1 = 7364985) ∨ ((¬ w = 1) ∧ (¬ w = 2) ∧ (¬ w = 3) ∧ (¬ w = 4) ∧ (¬ w = 5) ∧ (¬ w = 6) ∧ (¬ w = 7) ∧ u1 = 0) ∨ ((¬ w = 1) ∧ (¬ w = 2) ∧ (¬ w = 3) ∧ (¬ w = 4) ∧ (¬ w = 5) ∧ (¬ w = 6) ∧ (w = 7) ∧ u1 = 107148485161588) ∨ ((¬ w = 1) ∧ (¬ w = 2) ∧ (¬ w = 3) ∧ (¬ w = 4) ∧ (¬ w = 5) ∧ (w = 6) ∧ u1 = 7103860) ∨ ((¬ w = 1) ∧ (¬ w = 2) ∧ (¬ w = 3) ∧ (¬ w = 4) ∧ (w = 5) ∧ u1 = 2003330414) ∨ ((¬ w = 1) ∧ (¬ w = 2) ∧ (¬ w = 3) ∧ (w = 4) ∧ u1 = 26982) ∨ ((¬ w = 1) ∧ (¬ w = 2) ∧ (w = 3) ∧ u1 = 7364985) ∨ ((w = 1) ∧ u1 = 427021005669)) → Run m_Model_wordOf d 0 0 74 [(0, .int (cI w))] [.long (cL u1)] I L R T Q by
    refine q_iload_n d_Model_wordOf_0 rfl ?_
    refine j_iconst d_Model_wordOf_1 ?_
    refine j_icmp_ne (tgt := 11) d_Model_wordOf_2 (by decide) (by omega) (by omega) (fun hp1 => ?_) (fun hp1 => ?_)
    · refine q_iload_n d_Model_wordOf_11 rfl ?_
      refine j_iconst d_Model_wordOf_12 ?_
      refine j_icmp_eq (tgt := 21) d_Model_wordOf_13 (by decide) (by omega) (by omega) (fun hp2 => ?_) (fun hp2 => ?_)
      · refine j_ldc2 (z := 7364985) d_Model_wordOf_21 (inT11 123 rfl) (by decide) ?_
        refine q_goto (tgt := 74) d_Model_wordOf_24 (by decide) ?_
        exact J _ (Or.inl ⟨hp1, hp2, rfl⟩)
      · refine q_iload_n d_Model_wordOf_16 rfl ?_
        refine j_iconst d_Model_wordOf_17 ?_
        refine j_icmp_ne (tgt := 27) d_Model_wordOf_18 (by decide) (by omega) (by omega) (fun hp3 => ?_) (fun hp3 => ?_)
        · refine q_iload_n d_Model_wordOf_27 rfl ?_
          refine j_iconst d_Model_wordOf_28 ?_
          refine j_icmp_ne (tgt := 38) d_Model_wordOf_29 (by decide) (by omega) (by omega) (fun hp4 => ?_) (fun hp4 => ?_)
          · refine q_iload_n d_Model_wordOf_38 rfl ?_
            refine j_iconst d_Model_wordOf_39 ?_
            refine j_icmp_ne (tgt := 49) d_Model_wordOf_40 (by decide) (by omega) (by omega) (fun hp5 => ?_) (fun hp5 => ?_)
            · refine q_iload_n d_Model_wordOf_49 rfl ?_
              refine j_bipush d_Model_wordOf_50 (by decide) ?_
              refine j_icmp_ne (tgt := 61) d_Model_wordOf_52 (by decide) (by omega) (by omega) (fun hp6 => ?_) (fun hp6 => ?_)
              · refine q_iload_n d_Model_wordOf_61 rfl ?_
                refine j_bipush d_Model_wordOf_62 (by decide) ?_
                refine j_icmp_ne (tgt := 73) d_Model_wordOf_64 (by decide) (by omega) (by omega) (fun hp7 => ?_) (fun hp7 => ?_)
                · refine j_lconst (z := 0) d_Model_wordOf_73 (by decide) ?_
                  exact J _ (Or.inr (Or.inl ⟨hp1, hp2, hp3, hp4, hp5, hp6, hp7, rfl⟩))
                · refine j_ldc2 (z := 107148485161588) d_Model_wordOf_67 (inT11 133 rfl) (by decide) ?_
                  refine q_goto (tgt := 74) d_Model_wordOf_70 (by decide) ?_
                  exact J _ (Or.inr (Or.inr (Or.inl ⟨hp1, hp2, hp3, hp4, hp5, hp6, hp7, rfl⟩)))
              · refine j_ldc2 (z := 7103860) d_Model_wordOf_55 (inT11 132 rfl) (by decide) ?_
                refine q_goto (tgt := 74) d_Model_wordOf_58 (by decide) ?_
                exact J _ (Or.inr (Or.inr (Or.inr (Or.inl ⟨hp1, hp2, hp3, hp4, hp5, hp6, rfl⟩))))
            · refine j_ldc2 (z := 2003330414) d_Model_wordOf_43 (inT11 127 rfl) (by decide) ?_
              refine q_goto (tgt := 74) d_Model_wordOf_46 (by decide) ?_
              exact J _ (Or.inr (Or.inr (Or.inr (Or.inr (Or.inl ⟨hp1, hp2, hp3, hp4, hp5, rfl⟩)))))
          · refine j_ldc2 (z := 26982) d_Model_wordOf_32 (inT11 126 rfl) (by decide) ?_
            refine q_goto (tgt := 74) d_Model_wordOf_35 (by decide) ?_
            exact J _ (Or.inr (Or.inr (Or.inr (Or.inr (Or.inr (Or.inl ⟨hp1, hp2, hp3, hp4, rfl⟩))))))
        · refine j_ldc2 (z := 7364985) d_Model_wordOf_21 (inT11 123 rfl) (by decide) ?_
          refine q_goto (tgt := 74) d_Model_wordOf_24 (by decide) ?_
          exact J _ (Or.inr (Or.inr (Or.inr (Or.inr (Or.inr (Or.inr (Or.inl ⟨hp1, hp2, hp3, rfl⟩)))))))
    · refine j_ldc2 (z := 427021005669) d_Model_wordOf_5 (inT11 122 rfl) (by decide) ?_
      refine q_goto (tgt := 74) d_Model_wordOf_8 (by decide) ?_
      exact J _ (Or.inr (Or.inr (Or.inr (Or.inr (Or.inr (Or.inr (Or.inr ⟨hp1, rfl⟩)))))))
  intro u1 h1
  have e1 : u1 = (if w = 1 then 427021005669 else if w = 2 ∨ w = 3 then 7364985 else if w = 4 then 26982 else if w = 5 then 2003330414 else if w = 6 then 7103860 else if w = 7 then 107148485161588 else 0) := by (repeat' split) <;> omega
  clear h1
  refine q_lstore_n (lv' := [(1, .long (cL u1)), (0, .int (cI w))]) d_Model_wordOf_74 (by decide) rfl ?_
  suffices J : ∀ (u2 : Int), (((¬ w = 22) ∧ (¬ w = 23) ∧ (¬ w = 24) ∧ (¬ w = 25) ∧ (¬ w = 26) ∧ (¬ w = 27) ∧ u2 = 0) ∨ ((¬ w = 22) ∧ (¬ w = 23) ∧ (¬ w = 24) ∧ (¬ w = 25) ∧ (¬ w = 26) ∧ (w = 27) ∧ u2 = 6580598) ∨ ((¬ w = 22) ∧ (¬ w = 23) ∧ (¬ w = 24) ∧ (¬ w = 25) ∧ (w = 26) ∧ u2 = 7173484) ∨ ((¬ w = 22) ∧ (¬ w = 23) ∧ (¬ w = 24) ∧ (w = 25) ∧ u2 = 7566690) ∨ ((¬ w = 22) ∧ (¬ w = 23) ∧ (w = 24) ∧ u2 = 6382692) ∨ ((¬ w = 22) ∧ (w = 23) ∧ u2 = 7234919) ∨ ((w = 22) ∧ u2 = 1751477348)) → Run m_Model_wordOf d 0 0 148 [(0, .int (cI w)), (1, .long (cL u1))] [.long (cL u2)] I L R T Q by
    refine q_iload_n d_Model_wordOf_75 rfl ?_
    refine j_bipush d_Model_wordOf_76 (by decide) ?_
    refine j_icmp_ne (tgt := 87) d_Model_wordOf_78 (by decide) (by omega) (by omega) (fun hp8 => ?_) (fun hp8 => ?_)
    · refine q_iload_n d_Model_wordOf_87 rfl ?_
      refine j_bipush d_Model_wordOf_88 (by decide) ?_
      refine j_icmp_ne (tgt := 99) d_Model_wordOf_90 (by decide) (by omega) (by omega) (fun hp9 => ?_) (fun hp9 => ?_)
      · refine q_iload_n d_Model_wordOf_99 rfl ?_
        refine j_bipush d_Model_wordOf_100 (by decide) ?_
        refine j_icmp_ne (tgt := 111) d_Model_wordOf_102 (by decide) (by omega) (by omega) (fun hp10 => ?_) (fun hp10 => ?_)
        · refine q_iload_n d_Model_wordOf_111 rfl ?_
          refine j_bipush d_Model_wordOf_112 (by decide) ?_
          refine j_icmp_ne (tgt := 123) d_Model_wordOf_114 (by decide) (by omega) (by omega) (fun hp11 => ?_) (fun hp11 => ?_)
          · refine q_iload_n d_Model_wordOf_123 rfl ?_
            refine j_bipush d_Model_wordOf_124 (by decide) ?_
            refine j_icmp_ne (tgt := 135) d_Model_wordOf_126 (by decide) (by omega) (by omega) (fun hp12 => ?_) (fun hp12 => ?_)
            · refine q_iload_n d_Model_wordOf_135 rfl ?_
              refine j_bipush d_Model_wordOf_136 (by decide) ?_
              refine j_icmp_ne (tgt := 147) d_Model_wordOf_138 (by decide) (by omega) (by omega) (fun hp13 => ?_) (fun hp13 => ?_)
              · refine j_lconst (z := 0) d_Model_wordOf_147 (by decide) ?_
                refine Run.lv (lv' := [(0, .int (cI w)), (1, .long (cL u1))]) (by intro q hq; simp only [List.mem_cons, List.not_mem_nil, or_false] at hq ⊢; rcases hq with rfl | rfl <;> simp) ?_
                exact J _ (Or.inl ⟨hp8, hp9, hp10, hp11, hp12, hp13, rfl⟩)
              · refine j_ldc2 (z := 6580598) d_Model_wordOf_141 (inT11 139 rfl) (by decide) ?_
                refine q_goto (tgt := 148) d_Model_wordOf_144 (by decide) ?_
                refine Run.lv (lv' := [(0, .int (cI w)), (1, .long (cL u1))]) (by intro q hq; simp only [List.mem_cons, List.not_mem_nil, or_false] at hq ⊢; rcases hq with rfl | rfl <;> simp) ?_
                exact J _ (Or.inr (Or.inl ⟨hp8, hp9, hp10, hp11, hp12, hp13, rfl⟩))
            · refine j_ldc2 (z := 7173484) d_Model_wordOf_129 (inT11 138 rfl) (by decide) ?_
              refine q_goto (tgt := 148) d_Model_wordOf_132 (by decide) ?_
              refine Run.lv (lv' := [(0, .int (cI w)), (1, .long (cL u1))]) (by intro q hq; simp only [List.mem_cons, List.not_mem_nil, or_false] at hq ⊢; rcases hq with rfl | rfl <;> simp) ?_
              exact J _ (Or.inr (Or.inr (Or.inl ⟨hp8, hp9, hp10, hp11, hp12, rfl⟩)))
          · refine j_ldc2 (z := 7566690) d_Model_wordOf_117 (inT11 137 rfl) (by decide) ?_
            refine q_goto (tgt := 148) d_Model_wordOf_120 (by decide) ?_
            refine Run.lv (lv' := [(0, .int (cI w)), (1, .long (cL u1))]) (by intro q hq; simp only [List.mem_cons, List.not_mem_nil, or_false] at hq ⊢; rcases hq with rfl | rfl <;> simp) ?_
            exact J _ (Or.inr (Or.inr (Or.inr (Or.inl ⟨hp8, hp9, hp10, hp11, rfl⟩))))
        · refine j_ldc2 (z := 6382692) d_Model_wordOf_105 (inT11 136 rfl) (by decide) ?_
          refine q_goto (tgt := 148) d_Model_wordOf_108 (by decide) ?_
          refine Run.lv (lv' := [(0, .int (cI w)), (1, .long (cL u1))]) (by intro q hq; simp only [List.mem_cons, List.not_mem_nil, or_false] at hq ⊢; rcases hq with rfl | rfl <;> simp) ?_
          exact J _ (Or.inr (Or.inr (Or.inr (Or.inr (Or.inl ⟨hp8, hp9, hp10, rfl⟩)))))
      · refine j_ldc2 (z := 7234919) d_Model_wordOf_93 (inT11 135 rfl) (by decide) ?_
        refine q_goto (tgt := 148) d_Model_wordOf_96 (by decide) ?_
        refine Run.lv (lv' := [(0, .int (cI w)), (1, .long (cL u1))]) (by intro q hq; simp only [List.mem_cons, List.not_mem_nil, or_false] at hq ⊢; rcases hq with rfl | rfl <;> simp) ?_
        exact J _ (Or.inr (Or.inr (Or.inr (Or.inr (Or.inr (Or.inl ⟨hp8, hp9, rfl⟩))))))
    · refine j_ldc2 (z := 1751477348) d_Model_wordOf_81 (inT11 134 rfl) (by decide) ?_
      refine q_goto (tgt := 148) d_Model_wordOf_84 (by decide) ?_
      refine Run.lv (lv' := [(0, .int (cI w)), (1, .long (cL u1))]) (by intro q hq; simp only [List.mem_cons, List.not_mem_nil, or_false] at hq ⊢; rcases hq with rfl | rfl <;> simp) ?_
      exact J _ (Or.inr (Or.inr (Or.inr (Or.inr (Or.inr (Or.inr ⟨hp8, rfl⟩))))))
  intro u2 h2
  have e2 : u2 = (if w = 22 then 1751477348 else if w = 23 then 7234919 else if w = 24 then 6382692 else if w = 25 then 7566690 else if w = 26 then 7173484 else if w = 27 then 6580598 else 0) := by clear e1; (repeat' split) <;> omega
  clear h2
  refine q_lstore_n (lv' := [(3, .long (cL u2)), (0, .int (cI w)), (1, .long (cL u1))]) d_Model_wordOf_148 (by decide) rfl ?_
  suffices J : ∀ (u3 : Int), (((¬ w = 28) ∧ (¬ w = 29) ∧ (¬ w = 30) ∧ (¬ w = 31) ∧ (¬ w = 32) ∧ u3 = 0) ∨ ((¬ w = 28) ∧ (¬ w = 29) ∧ (¬ w = 30) ∧ (¬ w = 31) ∧ (w = 32) ∧ u3 = 1668247140) ∨ ((¬ w = 28) ∧ (¬ w = 29) ∧ (¬ w = 30) ∧ (w = 31) ∧ u3 = 7697253) ∨ ((¬ w = 28) ∧ (¬ w = 29) ∧ (w = 30) ∧ u3 = 6647396) ∨ ((¬ w = 28) ∧ (w = 29) ∧ u3 = 495873782388) ∨ ((w = 28) ∧ u3 = 109300197582190)) → Run m_Model_wordOf d 0 0 210 [(0, .int (cI w)), (1, .long (cL u1)), (3, .long (cL u2))] [.long (cL u3)] I L R T Q by
    refine q_iload_n d_Model_wordOf_149 rfl ?_
    refine j_bipush d_Model_wordOf_150 (by decide) ?_
    refine j_icmp_ne (tgt := 161) d_Model_wordOf_152 (by decide) (by omega) (by omega) (fun hp14 => ?_) (fun hp14 => ?_)
    · refine q_iload_n d_Model_wordOf_161 rfl ?_
      refine j_bipush d_Model_wordOf_162 (by decide) ?_
      refine j_icmp_ne (tgt := 173) d_Model_wordOf_164 (by decide) (by omega) (by omega) (fun hp15 => ?_) (fun hp15 => ?_)
      · refine q_iload_n d_Model_wordOf_173 rfl ?_
        refine j_bipush d_Model_wordOf_174 (by decide) ?_
        refine j_icmp_ne (tgt := 185) d_Model_wordOf_176 (by decide) (by omega) (by omega) (fun hp16 => ?_) (fun hp16 => ?_)
        · refine q_iload_n d_Model_wordOf_185 rfl ?_
          refine j_bipush d_Model_wordOf_186 (by decide) ?_
          refine j_icmp_ne (tgt := 197) d_Model_wordOf_188 (by decide) (by omega) (by omega) (fun hp17 => ?_) (fun hp17 => ?_)
          · refine q_iload_n d_Model_wordOf_197 rfl ?_
            refine j_bipush d_Model_wordOf_198 (by decide) ?_
            refine j_icmp_ne (tgt := 209) d_Model_wordOf_200 (by decide) (by omega) (by omega) (fun hp18 => ?_) (fun hp18 => ?_)
            · refine j_lconst (z := 0) d_Model_wordOf_209 (by decide) ?_
              refine Run.lv (lv' := [(0, .int (cI w)), (1, .long (cL u1)), (3, .long (cL u2))]) (by intro q hq; simp only [List.mem_cons, List.not_mem_nil, or_false] at hq ⊢; rcases hq with rfl | rfl | rfl <;> simp) ?_
              exact J _ (Or.inl ⟨hp14, hp15, hp16, hp17, hp18, rfl⟩)
            · refine j_ldc2 (z := 1668247140) d_Model_wordOf_203 (inT11 144 rfl) (by decide) ?_
              refine q_goto (tgt := 210) d_Model_wordOf_206 (by decide) ?_
              refine Run.lv (lv' := [(0, .int (cI w)), (1, .long (cL u1)), (3, .long (cL u2))]) (by intro q hq; simp only [List.mem_cons, List.not_mem_nil, or_false] at hq ⊢; rcases hq with rfl | rfl | rfl <;> simp) ?_
              exact J _ (Or.inr (Or.inl ⟨hp14, hp15, hp16, hp17, hp18, rfl⟩))
          · refine j_ldc2 (z := 7697253) d_Model_wordOf_191 (inT11 143 rfl) (by decide) ?_
            refine q_goto (tgt := 210) d_Model_wordOf_194 (by decide) ?_
            refine Run.lv (lv' := [(0, .int (cI w)), (1, .long (cL u1)), (3, .long (cL u2))]) (by intro q hq; simp only [List.mem_cons, List.not_mem_nil, or_false] at hq ⊢; rcases hq with rfl | rfl | rfl <;> simp) ?_
            exact J _ (Or.inr (Or.inr (Or.inl ⟨hp14, hp15, hp16, hp17, rfl⟩)))
        · refine j_ldc2 (z := 6647396) d_Model_wordOf_179 (inT11 142 rfl) (by decide) ?_
          refine q_goto (tgt := 210) d_Model_wordOf_182 (by decide) ?_
          refine Run.lv (lv' := [(0, .int (cI w)), (1, .long (cL u1)), (3, .long (cL u2))]) (by intro q hq; simp only [List.mem_cons, List.not_mem_nil, or_false] at hq ⊢; rcases hq with rfl | rfl | rfl <;> simp) ?_
          exact J _ (Or.inr (Or.inr (Or.inr (Or.inl ⟨hp14, hp15, hp16, rfl⟩))))
      · refine j_ldc2 (z := 495873782388) d_Model_wordOf_167 (inT11 141 rfl) (by decide) ?_
        refine q_goto (tgt := 210) d_Model_wordOf_170 (by decide) ?_
        refine Run.lv (lv' := [(0, .int (cI w)), (1, .long (cL u1)), (3, .long (cL u2))]) (by intro q hq; simp only [List.mem_cons, List.not_mem_nil, or_false] at hq ⊢; rcases hq with rfl | rfl | rfl <;> simp) ?_
        exact J _ (Or.inr (Or.inr (Or.inr (Or.inr (Or.inl ⟨hp14, hp15, rfl⟩)))))
    · refine j_ldc2 (z := 109300197582190) d_Model_wordOf_155 (inT11 140 rfl) (by decide) ?_
      refine q_goto (tgt := 210) d_Model_wordOf_158 (by decide) ?_
      refine Run.lv (lv' := [(0, .int (cI w)), (1, .long (cL u1)), (3, .long (cL u2))]) (by intro q hq; simp only [List.mem_cons, List.not_mem_nil, or_false] at hq ⊢; rcases hq with rfl | rfl | rfl <;> simp) ?_
      exact J _ (Or.inr (Or.inr (Or.inr (Or.inr (Or.inr ⟨hp14, rfl⟩)))))
  intro u3 h3
  have e3 : u3 = (if w = 28 then 109300197582190 else if w = 29 then 495873782388 else if w = 30 then 6647396 else if w = 31 then 7697253 else if w = 32 then 1668247140 else 0) := by clear e1 e2; (repeat' split) <;> omega
  clear h3
  refine q_lstore (lv' := [(5, .long (cL u3)), (0, .int (cI w)), (1, .long (cL u1)), (3, .long (cL u2))]) d_Model_wordOf_210 (by decide) rfl ?_
  suffices J : ∀ (u4 : Int), (((¬ w = 40) ∧ (¬ w = 41) ∧ (¬ w = 42) ∧ (¬ w = 43) ∧ (¬ w = 49) ∧ (¬ w = 50) ∧ u4 = 0) ∨ ((¬ w = 40) ∧ (¬ w = 41) ∧ (¬ w = 42) ∧ (¬ w = 43) ∧ (¬ w = 49) ∧ (w = 50) ∧ u4 = 439721161573) ∨ ((¬ w = 40) ∧ (¬ w = 41) ∧ (¬ w = 42) ∧ (¬ w = 43) ∧ (w = 49) ∧ u4 = 1953658213) ∨ ((¬ w = 40) ∧ (¬ w = 41) ∧ (¬ w = 42) ∧ (w = 43) ∧ u4 = 426953896805) ∨ ((¬ w = 40) ∧ (¬ w = 41) ∧ (w = 42) ∧ u4 = 7237492) ∨ ((¬ w = 40) ∧ (w = 41) ∧ u4 = 28530) ∨ ((w = 40) ∧ u4 = 6385252)) → Run m_Model_wordOf d 0 0 285 [(0, .int (cI w)), (1, .long (cL u1)), (3, .long (cL u2)), (5, .long (cL u3))] [.long (cL u4)] I L R T Q by
    refine q_iload_n d_Model_wordOf_212 rfl ?_
    refine j_bipush d_Model_wordOf_213 (by decide) ?_
    refine j_icmp_ne (tgt := 224) d_Model_wordOf_215 (by decide) (by omega) (by omega) (fun hp19 => ?_) (fun hp19 => ?_)
    · refine q_iload_n d_Model_wordOf_224 rfl ?_
      refine j_bipush d_Model_wordOf_225 (by decide) ?_
      refine j_icmp_ne (tgt := 236) d_Model_wordOf_227 (by decide) (by omega) (by omega) (fun hp20 => ?_) (fun hp20 => ?_)
      · refine q_iload_n d_Model_wordOf_236 rfl ?_
        refine j_bipush d_Model_wordOf_237 (by decide) ?_
        refine j_icmp_ne (tgt := 248) d_Model_wordOf_239 (by decide) (by omega) (by omega) (fun hp21 => ?_) (fun hp21 => ?_)
        · refine q_iload_n d_Model_wordOf_248 rfl ?_
          refine j_bipush d_Model_wordOf_249 (by decide) ?_
          refine j_icmp_ne (tgt := 260) d_Model_wordOf_251 (by decide) (by omega) (by omega) (fun hp22 => ?_) (fun hp22 => ?_)
          · refine q_iload_n d_Model_wordOf_260 rfl ?_
            refine j_bipush d_Model_wordOf_261 (by decide) ?_
            refine j_icmp_ne (tgt := 272) d_Model_wordOf_263 (by decide) (by omega) (by omega) (fun hp23 => ?_) (fun hp23 => ?_)
            · refine q_iload_n d_Model_wordOf_272 rfl ?_
              refine j_bipush d_Model_wordOf_273 (by decide) ?_
              refine j_icmp_ne (tgt := 284) d_Model_wordOf_275 (by decide) (by omega) (by omega) (fun hp24 => ?_) (fun hp24 => ?_)
              · refine j_lconst (z := 0) d_Model_wordOf_284 (by decide) ?_
                refine Run.lv (lv' := [(0, .int (cI w)), (1, .long (cL u1)), (3, .long (cL u2)), (5, .long (cL u3))]) (by intro q hq; simp only [List.mem_cons, List.not_mem_nil, or_false] at hq ⊢; rcases hq with rfl | rfl | rfl | rfl <;> simp) ?_
                exact J _ (Or.inl ⟨hp19, hp20, hp21, hp22, hp23, hp24, rfl⟩)
              · refine j_ldc2 (z := 439721161573) d_Model_wordOf_278 (inT11 155 rfl) (by decide) ?_
                refine q_goto (tgt := 285) d_Model_wordOf_281 (by decide) ?_
                refine Run.lv (lv' := [(0, .int (cI w)), (1, .long (cL u1)), (3, .long (cL u2)), (5, .long (cL u3))]) (by intro q hq; simp only [List.mem_cons, List.not_mem_nil, or_false] at hq ⊢; rcases hq with rfl | rfl | rfl | rfl <;> simp) ?_
                exact J _ (Or.inr (Or.inl ⟨hp19, hp20, hp21, hp22, hp23, hp24, rfl⟩))
            · refine j_ldc2 (z := 1953658213) d_Model_wordOf_266 (inT11 154 rfl) (by decide) ?_
              refine q_goto (tgt := 285) d_Model_wordOf_269 (by decide) ?_
              refine Run.lv (lv' := [(0, .int (cI w)), (1, .long (cL u1)), (3, .long (cL u2)), (5, .long (cL u3))]) (by intro q hq; simp only [List.mem_cons, List.not_mem_nil, or_false] at hq ⊢; rcases hq with rfl | rfl | rfl | rfl <;> simp) ?_
              exact J _ (Or.inr (Or.inr (Or.inl ⟨hp19, hp20, hp21, hp22, hp23, rfl⟩)))
          · refine j_ldc2 (z := 426953896805) d_Model_wordOf_254 (inT11 148 rfl) (by decide) ?_
            refine q_goto (tgt := 285) d_Model_wordOf_257 (by decide) ?_
            refine Run.lv (lv' := [(0, .int (cI w)), (1, .long (cL u1)), (3, .long (cL u2)), (5, .long (cL u3))]) (by intro q hq; simp only [List.mem_cons, List.not_mem_nil, or_false] at hq ⊢; rcases hq with rfl | rfl | rfl | rfl <;> simp) ?_
            exact J _ (Or.inr (Or.inr (Or.inr (Or.inl ⟨hp19, hp20, hp21, hp22, rfl⟩))))
        · refine j_ldc2 (z := 7237492) d_Model_wordOf_242 (inT11 147 rfl) (by decide) ?_
          refine q_goto (tgt := 285) d_Model_wordOf_245 (by decide) ?_
          refine Run.lv (lv' := [(0, .int (cI w)), (1, .long (cL u1)), (3, .long (cL u2)), (5, .long (cL u3))]) (by intro q hq; simp only [List.mem_cons, List.not_mem_nil, or_false] at hq ⊢; rcases hq with rfl | rfl | rfl | rfl <;> simp) ?_
          exact J _ (Or.inr (Or.inr (Or.inr (Or.inr (Or.inl ⟨hp19, hp20, hp21, rfl⟩)))))
      · refine j_ldc2 (z := 28530) d_Model_wordOf_230 (inT11 146 rfl) (by decide) ?_
        refine q_goto (tgt := 285) d_Model_wordOf_233 (by decide) ?_
        refine Run.lv (lv' := [(0, .int (cI w)), (1, .long (cL u1)), (3, .long (cL u2)), (5, .long (cL u3))]) (by intro q hq; simp only [List.mem_cons, List.not_mem_nil, or_false] at hq ⊢; rcases hq with rfl | rfl | rfl | rfl <;> simp) ?_
        exact J _ (Or.inr (Or.inr (Or.inr (Or.inr (Or.inr (Or.inl ⟨hp19, hp20, rfl⟩))))))
    · refine j_ldc2 (z := 6385252) d_Model_wordOf_218 (inT11 145 rfl) (by decide) ?_
      refine q_goto (tgt := 285) d_Model_wordOf_221 (by decide) ?_
      refine Run.lv (lv' := [(0, .int (cI w)), (1, .long (cL u1)), (3, .long (cL u2)), (5, .long (cL u3))]) (by intro q hq; simp only [List.mem_cons, List.not_mem_nil, or_false] at hq ⊢; rcases hq with rfl | rfl | rfl | rfl <;> simp) ?_
      exact J _ (Or.inr (Or.inr (Or.inr (Or.inr (Or.inr (Or.inr ⟨hp19, rfl⟩))))))
  intro u4 h4
  have e4 : u4 = (if w = 40 then 6385252 else if w = 41 then 28530 else if w = 42 then 7237492 else if w = 43 then 426953896805 else if w = 49 then 1953658213 else if w = 50 then 439721161573 else 0) := by clear e1 e2 e3; (repeat' split) <;> omega
  clear h4
  refine q_lstore (lv' := [(7, .long (cL u4)), (0, .int (cI w)), (1, .long (cL u1)), (3, .long (cL u2)), (5, .long (cL u3))]) d_Model_wordOf_285 (by decide) rfl ?_
  suffices J : ∀ (u5 : Int), (((¬ w = 44) ∧ (¬ w = 45) ∧ (¬ w = 46) ∧ (¬ w = 47) ∧ (¬ w = 48) ∧ u5 = 0) ∨ ((¬ w = 44) ∧ (¬ w = 45) ∧ (¬ w = 46) ∧ (¬ w = 47) ∧ (w = 48) ∧ u5 = 25969) ∨ ((¬ w = 44) ∧ (¬ w = 45) ∧ (¬ w = 46) ∧ (w = 47) ∧ u5 = 27764) ∨ ((¬ w = 44) ∧ (¬ w = 45) ∧ (w = 46) ∧ u5 = 27749) ∨ ((¬ w = 44) ∧ (w = 45) ∧ u5 = 26484) ∨ ((w = 44) ∧ u5 = 26469)) → Run m_Model_wordOf d 0 0 348 [(0, .int (cI w)), (1, .long (cL u1)), (3, .long (cL u2)), (5, .long (cL u3)), (7, .long (cL u4))] [.long (cL u5)] I L R T Q by
    refine q_iload_n d_Model_wordOf_287 rfl ?_
    refine j_bipush d_Model_wordOf_288 (by decide) ?_
    refine j_icmp_ne (tgt := 299) d_Model_wordOf_290 (by decide) (by omega) (by omega) (fun hp25 => ?_) (fun hp25 => ?_)
    · refine q_iload_n d_Model_wordOf_299 rfl ?_
      refine j_bipush d_Model_wordOf_300 (by decide) ?_
      refine j_icmp_ne (tgt := 311) d_Model_wordOf_302 (by decide) (by omega) (by omega) (fun hp26 => ?_) (fun hp26 => ?_)
      · refine q_iload_n d_Model_wordOf_311 rfl ?_
        refine j_bipush d_Model_wordOf_312 (by decide) ?_
        refine j_icmp_ne (tgt := 323) d_Model_wordOf_314 (by decide) (by omega) (by omega) (fun hp27 => ?_) (fun hp27 => ?_)
        · refine q_iload_n d_Model_wordOf_323 rfl ?_
          refine j_bipush d_Model_wordOf_324 (by decide) ?_
          refine j_icmp_ne (tgt := 335) d_Model_wordOf_326 (by decide) (by omega) (by omega) (fun hp28 => ?_) (fun hp28 => ?_)
          · refine q_iload_n d_Model_wordOf_335 rfl ?_
            refine j_bipush d_Model_wordOf_336 (by decide) ?_
            refine j_icmp_ne (tgt := 347) d_Model_wordOf_338 (by decide) (by omega) (by omega) (fun hp29 => ?_) (fun hp29 => ?_)
            · refine j_lconst (z := 0) d_Model_wordOf_347 (by decide) ?_
              refine Run.lv (lv' := [(0, .int (cI w)), (1, .long (cL u1)), (3, .long (cL u2)), (5, .long (cL u3)), (7, .long (cL u4))]) (by intro q hq; simp only [List.mem_cons, List.not_mem_nil, or_false] at hq ⊢; rcases hq with rfl | rfl | rfl | rfl | rfl <;> simp) ?_
              exact J _ (Or.inl ⟨hp25, hp26, hp27, hp28, hp29, rfl⟩)
            · refine j_ldc2 (z := 25969) d_Model_wordOf_341 (inT11 153 rfl) (by decide) ?_
              refine q_goto (tgt := 348) d_Model_wordOf_344 (by decide) ?_
              refine Run.lv (lv' := [(0, .int (cI w)), (1, .long (cL u1)), (3, .long (cL u2)), (5, .long (cL u3)), (7, .long (cL u4))]) (by intro q hq; simp only [List.mem_cons, List.not_mem_nil, or_false] at hq ⊢; rcases hq with rfl | rfl | rfl | rfl | rfl <;> simp) ?_
              exact J _ (Or.inr (Or.inl ⟨hp25, hp26, hp27, hp28, hp29, rfl⟩))
          · refine j_ldc2 (z := 27764) d_Model_wordOf_329 (inT11 152 rfl) (by decide) ?_
            refine q_goto (tgt := 348) d_Model_wordOf_332 (by decide) ?_
            refine Run.lv (lv' := [(0, .int (cI w)), (1, .long (cL u1)), (3, .long (cL u2)), (5, .long (cL u3)), (7, .long (cL u4))]) (by intro q hq; simp only [List.mem_cons, List.not_mem_nil, or_false] at hq ⊢; rcases hq with rfl | rfl | rfl | rfl | rfl <;> simp) ?_
            exact J _ (Or.inr (Or.inr (Or.inl ⟨hp25, hp26, hp27, hp28, rfl⟩)))
        · refine j_ldc2 (z := 27749) d_Model_wordOf_317 (inT11 151 rfl) (by decide) ?_
          refine q_goto (tgt := 348) d_Model_wordOf_320 (by decide) ?_
          refine Run.lv (lv' := [(0, .int (cI w)), (1, .long (cL u1)), (3, .long (cL u2)), (5, .long (cL u3)), (7, .long (cL u4))]) (by intro q hq; simp only [List.mem_cons, List.not_mem_nil, or_false] at hq ⊢; rcases hq with rfl | rfl | rfl | rfl | rfl <;> simp) ?_
          exact J _ (Or.inr (Or.inr (Or.inr (Or.inl ⟨hp25, hp26, hp27, rfl⟩))))
      · refine j_ldc2 (z := 26484) d_Model_wordOf_305 (inT11 150 rfl) (by decide) ?_
        refine q_goto (tgt := 348) d_Model_wordOf_308 (by decide) ?_
        refine Run.lv (lv' := [(0, .int (cI w)), (1, .long (cL u1)), (3, .long (cL u2)), (5, .long (cL u3)), (7, .long (cL u4))]) (by intro q hq; simp only [List.mem_cons, List.not_mem_nil, or_false] at hq ⊢; rcases hq with rfl | rfl | rfl | rfl | rfl <;> simp) ?_
        exact J _ (Or.inr (Or.inr (Or.inr (Or.inr (Or.inl ⟨hp25, hp26, rfl⟩)))))
    · refine j_ldc2 (z := 26469) d_Model_wordOf_293 (inT11 149 rfl) (by decide) ?_
      refine q_goto (tgt := 348) d_Model_wordOf_296 (by decide) ?_
      refine Run.lv (lv' := [(0, .int (cI w)), (1, .long (cL u1)), (3, .long (cL u2)), (5, .long (cL u3)), (7, .long (cL u4))]) (by intro q hq; simp only [List.mem_cons, List.not_mem_nil, or_false] at hq ⊢; rcases hq with rfl | rfl | rfl | rfl | rfl <;> simp) ?_
      exact J _ (Or.inr (Or.inr (Or.inr (Or.inr (Or.inr ⟨hp25, rfl⟩)))))
  intro u5 h5
  have e5 : u5 = (if w = 44 then 26469 else if w = 45 then 26484 else if w = 46 then 27749 else if w = 47 then 27764 else if w = 48 then 25969 else 0) := by clear e1 e2 e3 e4; (repeat' split) <;> omega
  clear h5
  refine q_lstore (lv' := [(9, .long (cL u5)), (0, .int (cI w)), (1, .long (cL u1)), (3, .long (cL u2)), (5, .long (cL u3)), (7, .long (cL u4))]) d_Model_wordOf_348 (by decide) rfl ?_
  refine q_lload_n d_Model_wordOf_350 rfl ?_
  refine q_lload_n d_Model_wordOf_351 rfl ?_
  refine j_ladd d_Model_wordOf_352 ?_
  refine q_lload d_Model_wordOf_353 rfl ?_
  refine j_ladd d_Model_wordOf_355 ?_
  refine q_lload d_Model_wordOf_356 rfl ?_
  refine j_ladd d_Model_wordOf_358 ?_
  refine q_lload d_Model_wordOf_359 rfl ?_
  refine j_ladd d_Model_wordOf_361 ?_
  refine q_lreturn d_Model_wordOf_362 rfl ?_
  refine hQ _ _ _ _ _ ?_
  exact ⟨_, rfl, by unfold wdF; rw [← e1, ← e2, ← e3, ← e4, ← e5], rfl, rfl, rfl, rfl⟩
/-- the word of a node's kind -/
theorem wdF_kw {k : Nat} {h : Int} (hk : k < 34) (hn : k ≠ 2 ∧ k ≠ 3 ∧ k ≠ 6 ∧ k ≠ 7 ∧ k ≠ 8 ∧ k ≠ 9) : wdF (kdM (k : Int) h) = ((KW.getD k 0 : Nat) : Int) := by
  have e : kdM (k : Int) h = kdM (k : Int) (if h = 1 then 1 else 0) := by
    unfold kdM
    split
    · rfl
    · split
      · by_cases q : h = 1
        · rw [if_pos q, if_pos q, if_pos rfl]
        · rw [if_neg q, if_neg q, if_neg (by decide)]
      · (repeat' split) <;> first | rfl | omega
  rw [e]
  have key : ∀ k : Nat, k < 34 → (k ≠ 2 ∧ k ≠ 3 ∧ k ≠ 6 ∧ k ≠ 7 ∧ k ≠ 8 ∧ k ≠ 9) → wdF (kdM (k : Int) 1) = ((KW.getD k 0 : Nat) : Int) ∧ wdF (kdM (k : Int) 0) = ((KW.getD k 0 : Nat) : Int) := by decide +kernel
  by_cases q : h = 1
  · rw [if_pos q]; exact (key k hk hn).1
  · rw [if_neg q]; exact (key k hk hn).2
theorem NmN_kw : ∀ k, k < 34 → NmN (KW.getD k 0) (KWn.getD k 0) := by
  unfold NmN
  decide +kernel

