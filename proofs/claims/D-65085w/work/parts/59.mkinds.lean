/-! ===== 59 THE REFERENCE: kinds of nodes by words ===== -/
theorem d_Model_contractOf_0 : decode m_Model_contractOf.2.1 0 = .ok (.lload_n 0, 1) := by decide +kernel
theorem d_Model_contractOf_1 : decode m_Model_contractOf.2.1 1 = .ok (.ldc2_w 464, 3) := by decide +kernel
theorem d_Model_contractOf_4 : decode m_Model_contractOf.2.1 4 = .ok (.lcmp, 1) := by decide +kernel
theorem d_Model_contractOf_5 : decode m_Model_contractOf.2.1 5 = .ok (.ifCond .ne 7, 3) := by decide +kernel
theorem d_Model_contractOf_8 : decode m_Model_contractOf.2.1 8 = .ok (.iconst 1, 1) := by decide +kernel
theorem d_Model_contractOf_9 : decode m_Model_contractOf.2.1 9 = .ok (.goto 66, 3) := by decide +kernel
theorem d_Model_contractOf_12 : decode m_Model_contractOf.2.1 12 = .ok (.lload_n 0, 1) := by decide +kernel
theorem d_Model_contractOf_13 : decode m_Model_contractOf.2.1 13 = .ok (.ldc2_w 466, 3) := by decide +kernel
theorem d_Model_contractOf_16 : decode m_Model_contractOf.2.1 16 = .ok (.lcmp, 1) := by decide +kernel
theorem d_Model_contractOf_17 : decode m_Model_contractOf.2.1 17 = .ok (.ifCond .ne 7, 3) := by decide +kernel
theorem d_Model_contractOf_20 : decode m_Model_contractOf.2.1 20 = .ok (.iconst 2, 1) := by decide +kernel
theorem d_Model_contractOf_21 : decode m_Model_contractOf.2.1 21 = .ok (.goto 54, 3) := by decide +kernel
theorem d_Model_contractOf_24 : decode m_Model_contractOf.2.1 24 = .ok (.lload_n 0, 1) := by decide +kernel
theorem d_Model_contractOf_25 : decode m_Model_contractOf.2.1 25 = .ok (.ldc2_w 472, 3) := by decide +kernel
theorem d_Model_contractOf_28 : decode m_Model_contractOf.2.1 28 = .ok (.lcmp, 1) := by decide +kernel
theorem d_Model_contractOf_29 : decode m_Model_contractOf.2.1 29 = .ok (.ifCond .ne 7, 3) := by decide +kernel
theorem d_Model_contractOf_32 : decode m_Model_contractOf.2.1 32 = .ok (.iconst 4, 1) := by decide +kernel
theorem d_Model_contractOf_33 : decode m_Model_contractOf.2.1 33 = .ok (.goto 42, 3) := by decide +kernel
theorem d_Model_contractOf_36 : decode m_Model_contractOf.2.1 36 = .ok (.lload_n 0, 1) := by decide +kernel
theorem d_Model_contractOf_37 : decode m_Model_contractOf.2.1 37 = .ok (.ldc2_w 474, 3) := by decide +kernel
theorem d_Model_contractOf_40 : decode m_Model_contractOf.2.1 40 = .ok (.lcmp, 1) := by decide +kernel
theorem d_Model_contractOf_41 : decode m_Model_contractOf.2.1 41 = .ok (.ifCond .ne 7, 3) := by decide +kernel
theorem d_Model_contractOf_44 : decode m_Model_contractOf.2.1 44 = .ok (.iconst 5, 1) := by decide +kernel
theorem d_Model_contractOf_45 : decode m_Model_contractOf.2.1 45 = .ok (.goto 30, 3) := by decide +kernel
theorem d_Model_contractOf_48 : decode m_Model_contractOf.2.1 48 = .ok (.lload_n 0, 1) := by decide +kernel
theorem d_Model_contractOf_49 : decode m_Model_contractOf.2.1 49 = .ok (.ldc2_w 484, 3) := by decide +kernel
theorem d_Model_contractOf_52 : decode m_Model_contractOf.2.1 52 = .ok (.lcmp, 1) := by decide +kernel
theorem d_Model_contractOf_53 : decode m_Model_contractOf.2.1 53 = .ok (.ifCond .ne 8, 3) := by decide +kernel
theorem d_Model_contractOf_56 : decode m_Model_contractOf.2.1 56 = .ok (.bipush 6, 2) := by decide +kernel
theorem d_Model_contractOf_58 : decode m_Model_contractOf.2.1 58 = .ok (.goto 17, 3) := by decide +kernel
theorem d_Model_contractOf_61 : decode m_Model_contractOf.2.1 61 = .ok (.lload_n 0, 1) := by decide +kernel
theorem d_Model_contractOf_62 : decode m_Model_contractOf.2.1 62 = .ok (.ldc2_w 486, 3) := by decide +kernel
theorem d_Model_contractOf_65 : decode m_Model_contractOf.2.1 65 = .ok (.lcmp, 1) := by decide +kernel
theorem d_Model_contractOf_66 : decode m_Model_contractOf.2.1 66 = .ok (.ifCond .ne 8, 3) := by decide +kernel
theorem d_Model_contractOf_69 : decode m_Model_contractOf.2.1 69 = .ok (.bipush 7, 2) := by decide +kernel
theorem d_Model_contractOf_71 : decode m_Model_contractOf.2.1 71 = .ok (.goto 4, 3) := by decide +kernel
theorem d_Model_contractOf_74 : decode m_Model_contractOf.2.1 74 = .ok (.iconst 0, 1) := by decide +kernel
theorem d_Model_contractOf_75 : decode m_Model_contractOf.2.1 75 = .ok (.ireturn, 1) := by decide +kernel
theorem d_Model_valueOf_0 : decode m_Model_valueOf.2.1 0 = .ok (.lload_n 0, 1) := by decide +kernel
theorem d_Model_valueOf_1 : decode m_Model_valueOf.2.1 1 = .ok (.ldc2_w 488, 3) := by decide +kernel
theorem d_Model_valueOf_4 : decode m_Model_valueOf.2.1 4 = .ok (.lcmp, 1) := by decide +kernel
theorem d_Model_valueOf_5 : decode m_Model_valueOf.2.1 5 = .ok (.ifCond .ne 8, 3) := by decide +kernel
theorem d_Model_valueOf_8 : decode m_Model_valueOf.2.1 8 = .ok (.bipush 22, 2) := by decide +kernel
theorem d_Model_valueOf_10 : decode m_Model_valueOf.2.1 10 = .ok (.goto 69, 3) := by decide +kernel
theorem d_Model_valueOf_13 : decode m_Model_valueOf.2.1 13 = .ok (.lload_n 0, 1) := by decide +kernel
theorem d_Model_valueOf_14 : decode m_Model_valueOf.2.1 14 = .ok (.ldc2_w 490, 3) := by decide +kernel
theorem d_Model_valueOf_17 : decode m_Model_valueOf.2.1 17 = .ok (.lcmp, 1) := by decide +kernel
theorem d_Model_valueOf_18 : decode m_Model_valueOf.2.1 18 = .ok (.ifCond .ne 8, 3) := by decide +kernel
theorem d_Model_valueOf_21 : decode m_Model_valueOf.2.1 21 = .ok (.bipush 23, 2) := by decide +kernel
theorem d_Model_valueOf_23 : decode m_Model_valueOf.2.1 23 = .ok (.goto 56, 3) := by decide +kernel
theorem d_Model_valueOf_26 : decode m_Model_valueOf.2.1 26 = .ok (.lload_n 0, 1) := by decide +kernel
theorem d_Model_valueOf_27 : decode m_Model_valueOf.2.1 27 = .ok (.ldc2_w 492, 3) := by decide +kernel
theorem d_Model_valueOf_30 : decode m_Model_valueOf.2.1 30 = .ok (.lcmp, 1) := by decide +kernel
theorem d_Model_valueOf_31 : decode m_Model_valueOf.2.1 31 = .ok (.ifCond .ne 8, 3) := by decide +kernel
theorem d_Model_valueOf_34 : decode m_Model_valueOf.2.1 34 = .ok (.bipush 24, 2) := by decide +kernel
theorem d_Model_valueOf_36 : decode m_Model_valueOf.2.1 36 = .ok (.goto 43, 3) := by decide +kernel
theorem d_Model_valueOf_39 : decode m_Model_valueOf.2.1 39 = .ok (.lload_n 0, 1) := by decide +kernel
theorem d_Model_valueOf_40 : decode m_Model_valueOf.2.1 40 = .ok (.ldc2_w 494, 3) := by decide +kernel
theorem d_Model_valueOf_43 : decode m_Model_valueOf.2.1 43 = .ok (.lcmp, 1) := by decide +kernel
theorem d_Model_valueOf_44 : decode m_Model_valueOf.2.1 44 = .ok (.ifCond .ne 8, 3) := by decide +kernel
theorem d_Model_valueOf_47 : decode m_Model_valueOf.2.1 47 = .ok (.bipush 25, 2) := by decide +kernel
theorem d_Model_valueOf_49 : decode m_Model_valueOf.2.1 49 = .ok (.goto 30, 3) := by decide +kernel
theorem d_Model_valueOf_52 : decode m_Model_valueOf.2.1 52 = .ok (.lload_n 0, 1) := by decide +kernel
theorem d_Model_valueOf_53 : decode m_Model_valueOf.2.1 53 = .ok (.ldc2_w 496, 3) := by decide +kernel
theorem d_Model_valueOf_56 : decode m_Model_valueOf.2.1 56 = .ok (.lcmp, 1) := by decide +kernel
theorem d_Model_valueOf_57 : decode m_Model_valueOf.2.1 57 = .ok (.ifCond .ne 8, 3) := by decide +kernel
theorem d_Model_valueOf_60 : decode m_Model_valueOf.2.1 60 = .ok (.bipush 26, 2) := by decide +kernel
theorem d_Model_valueOf_62 : decode m_Model_valueOf.2.1 62 = .ok (.goto 17, 3) := by decide +kernel
theorem d_Model_valueOf_65 : decode m_Model_valueOf.2.1 65 = .ok (.lload_n 0, 1) := by decide +kernel
theorem d_Model_valueOf_66 : decode m_Model_valueOf.2.1 66 = .ok (.ldc2_w 498, 3) := by decide +kernel
theorem d_Model_valueOf_69 : decode m_Model_valueOf.2.1 69 = .ok (.lcmp, 1) := by decide +kernel
theorem d_Model_valueOf_70 : decode m_Model_valueOf.2.1 70 = .ok (.ifCond .ne 8, 3) := by decide +kernel
theorem d_Model_valueOf_73 : decode m_Model_valueOf.2.1 73 = .ok (.bipush 27, 2) := by decide +kernel
theorem d_Model_valueOf_75 : decode m_Model_valueOf.2.1 75 = .ok (.goto 4, 3) := by decide +kernel
theorem d_Model_valueOf_78 : decode m_Model_valueOf.2.1 78 = .ok (.iconst 0, 1) := by decide +kernel
theorem d_Model_valueOf_79 : decode m_Model_valueOf.2.1 79 = .ok (.istore_n 2, 1) := by decide +kernel
theorem d_Model_valueOf_80 : decode m_Model_valueOf.2.1 80 = .ok (.iload_n 2, 1) := by decide +kernel
theorem d_Model_valueOf_81 : decode m_Model_valueOf.2.1 81 = .ok (.ifCond .le 7, 3) := by decide +kernel
theorem d_Model_valueOf_84 : decode m_Model_valueOf.2.1 84 = .ok (.iload_n 2, 1) := by decide +kernel
theorem d_Model_valueOf_85 : decode m_Model_valueOf.2.1 85 = .ok (.goto 69, 3) := by decide +kernel
theorem d_Model_valueOf_88 : decode m_Model_valueOf.2.1 88 = .ok (.lload_n 0, 1) := by decide +kernel
theorem d_Model_valueOf_89 : decode m_Model_valueOf.2.1 89 = .ok (.ldc2_w 500, 3) := by decide +kernel
theorem d_Model_valueOf_92 : decode m_Model_valueOf.2.1 92 = .ok (.lcmp, 1) := by decide +kernel
theorem d_Model_valueOf_93 : decode m_Model_valueOf.2.1 93 = .ok (.ifCond .ne 8, 3) := by decide +kernel
theorem d_Model_valueOf_96 : decode m_Model_valueOf.2.1 96 = .ok (.bipush 28, 2) := by decide +kernel
theorem d_Model_valueOf_98 : decode m_Model_valueOf.2.1 98 = .ok (.goto 56, 3) := by decide +kernel
theorem d_Model_valueOf_101 : decode m_Model_valueOf.2.1 101 = .ok (.lload_n 0, 1) := by decide +kernel
theorem d_Model_valueOf_102 : decode m_Model_valueOf.2.1 102 = .ok (.ldc2_w 502, 3) := by decide +kernel
theorem d_Model_valueOf_105 : decode m_Model_valueOf.2.1 105 = .ok (.lcmp, 1) := by decide +kernel
theorem d_Model_valueOf_106 : decode m_Model_valueOf.2.1 106 = .ok (.ifCond .ne 8, 3) := by decide +kernel
theorem d_Model_valueOf_109 : decode m_Model_valueOf.2.1 109 = .ok (.bipush 29, 2) := by decide +kernel
theorem d_Model_valueOf_111 : decode m_Model_valueOf.2.1 111 = .ok (.goto 43, 3) := by decide +kernel
theorem d_Model_valueOf_114 : decode m_Model_valueOf.2.1 114 = .ok (.lload_n 0, 1) := by decide +kernel
theorem d_Model_valueOf_115 : decode m_Model_valueOf.2.1 115 = .ok (.ldc2_w 504, 3) := by decide +kernel
theorem d_Model_valueOf_118 : decode m_Model_valueOf.2.1 118 = .ok (.lcmp, 1) := by decide +kernel
theorem d_Model_valueOf_119 : decode m_Model_valueOf.2.1 119 = .ok (.ifCond .ne 8, 3) := by decide +kernel
theorem d_Model_valueOf_122 : decode m_Model_valueOf.2.1 122 = .ok (.bipush 30, 2) := by decide +kernel
theorem d_Model_valueOf_124 : decode m_Model_valueOf.2.1 124 = .ok (.goto 30, 3) := by decide +kernel
theorem d_Model_valueOf_127 : decode m_Model_valueOf.2.1 127 = .ok (.lload_n 0, 1) := by decide +kernel
theorem d_Model_valueOf_128 : decode m_Model_valueOf.2.1 128 = .ok (.ldc2_w 506, 3) := by decide +kernel
theorem d_Model_valueOf_131 : decode m_Model_valueOf.2.1 131 = .ok (.lcmp, 1) := by decide +kernel
theorem d_Model_valueOf_132 : decode m_Model_valueOf.2.1 132 = .ok (.ifCond .ne 8, 3) := by decide +kernel
theorem d_Model_valueOf_135 : decode m_Model_valueOf.2.1 135 = .ok (.bipush 31, 2) := by decide +kernel
theorem d_Model_valueOf_137 : decode m_Model_valueOf.2.1 137 = .ok (.goto 17, 3) := by decide +kernel
theorem d_Model_valueOf_140 : decode m_Model_valueOf.2.1 140 = .ok (.lload_n 0, 1) := by decide +kernel
theorem d_Model_valueOf_141 : decode m_Model_valueOf.2.1 141 = .ok (.ldc2_w 508, 3) := by decide +kernel
theorem d_Model_valueOf_144 : decode m_Model_valueOf.2.1 144 = .ok (.lcmp, 1) := by decide +kernel
theorem d_Model_valueOf_145 : decode m_Model_valueOf.2.1 145 = .ok (.ifCond .ne 8, 3) := by decide +kernel
theorem d_Model_valueOf_148 : decode m_Model_valueOf.2.1 148 = .ok (.bipush 32, 2) := by decide +kernel
theorem d_Model_valueOf_150 : decode m_Model_valueOf.2.1 150 = .ok (.goto 4, 3) := by decide +kernel
theorem d_Model_valueOf_153 : decode m_Model_valueOf.2.1 153 = .ok (.iconst 0, 1) := by decide +kernel
theorem d_Model_valueOf_154 : decode m_Model_valueOf.2.1 154 = .ok (.ireturn, 1) := by decide +kernel
theorem d_Model_observationOf_0 : decode m_Model_observationOf.2.1 0 = .ok (.lload_n 0, 1) := by decide +kernel
theorem d_Model_observationOf_1 : decode m_Model_observationOf.2.1 1 = .ok (.ldc2_w 510, 3) := by decide +kernel
theorem d_Model_observationOf_4 : decode m_Model_observationOf.2.1 4 = .ok (.lcmp, 1) := by decide +kernel
theorem d_Model_observationOf_5 : decode m_Model_observationOf.2.1 5 = .ok (.ifCond .ne 8, 3) := by decide +kernel
theorem d_Model_observationOf_8 : decode m_Model_observationOf.2.1 8 = .ok (.bipush 40, 2) := by decide +kernel
theorem d_Model_observationOf_10 : decode m_Model_observationOf.2.1 10 = .ok (.goto 69, 3) := by decide +kernel
theorem d_Model_observationOf_13 : decode m_Model_observationOf.2.1 13 = .ok (.lload_n 0, 1) := by decide +kernel
theorem d_Model_observationOf_14 : decode m_Model_observationOf.2.1 14 = .ok (.ldc2_w 512, 3) := by decide +kernel
theorem d_Model_observationOf_17 : decode m_Model_observationOf.2.1 17 = .ok (.lcmp, 1) := by decide +kernel
theorem d_Model_observationOf_18 : decode m_Model_observationOf.2.1 18 = .ok (.ifCond .ne 8, 3) := by decide +kernel
theorem d_Model_observationOf_21 : decode m_Model_observationOf.2.1 21 = .ok (.bipush 41, 2) := by decide +kernel
theorem d_Model_observationOf_23 : decode m_Model_observationOf.2.1 23 = .ok (.goto 56, 3) := by decide +kernel
theorem d_Model_observationOf_26 : decode m_Model_observationOf.2.1 26 = .ok (.lload_n 0, 1) := by decide +kernel
theorem d_Model_observationOf_27 : decode m_Model_observationOf.2.1 27 = .ok (.ldc2_w 514, 3) := by decide +kernel
theorem d_Model_observationOf_30 : decode m_Model_observationOf.2.1 30 = .ok (.lcmp, 1) := by decide +kernel
theorem d_Model_observationOf_31 : decode m_Model_observationOf.2.1 31 = .ok (.ifCond .ne 8, 3) := by decide +kernel
theorem d_Model_observationOf_34 : decode m_Model_observationOf.2.1 34 = .ok (.bipush 42, 2) := by decide +kernel
theorem d_Model_observationOf_36 : decode m_Model_observationOf.2.1 36 = .ok (.goto 43, 3) := by decide +kernel
theorem d_Model_observationOf_39 : decode m_Model_observationOf.2.1 39 = .ok (.lload_n 0, 1) := by decide +kernel
theorem d_Model_observationOf_40 : decode m_Model_observationOf.2.1 40 = .ok (.ldc2_w 516, 3) := by decide +kernel
theorem d_Model_observationOf_43 : decode m_Model_observationOf.2.1 43 = .ok (.lcmp, 1) := by decide +kernel
theorem d_Model_observationOf_44 : decode m_Model_observationOf.2.1 44 = .ok (.ifCond .ne 8, 3) := by decide +kernel
theorem d_Model_observationOf_47 : decode m_Model_observationOf.2.1 47 = .ok (.bipush 43, 2) := by decide +kernel
theorem d_Model_observationOf_49 : decode m_Model_observationOf.2.1 49 = .ok (.goto 30, 3) := by decide +kernel
theorem d_Model_observationOf_52 : decode m_Model_observationOf.2.1 52 = .ok (.lload_n 0, 1) := by decide +kernel
theorem d_Model_observationOf_53 : decode m_Model_observationOf.2.1 53 = .ok (.ldc2_w 528, 3) := by decide +kernel
theorem d_Model_observationOf_56 : decode m_Model_observationOf.2.1 56 = .ok (.lcmp, 1) := by decide +kernel
theorem d_Model_observationOf_57 : decode m_Model_observationOf.2.1 57 = .ok (.ifCond .ne 8, 3) := by decide +kernel
theorem d_Model_observationOf_60 : decode m_Model_observationOf.2.1 60 = .ok (.bipush 49, 2) := by decide +kernel
theorem d_Model_observationOf_62 : decode m_Model_observationOf.2.1 62 = .ok (.goto 17, 3) := by decide +kernel
theorem d_Model_observationOf_65 : decode m_Model_observationOf.2.1 65 = .ok (.lload_n 0, 1) := by decide +kernel
theorem d_Model_observationOf_66 : decode m_Model_observationOf.2.1 66 = .ok (.ldc2_w 530, 3) := by decide +kernel
theorem d_Model_observationOf_69 : decode m_Model_observationOf.2.1 69 = .ok (.lcmp, 1) := by decide +kernel
theorem d_Model_observationOf_70 : decode m_Model_observationOf.2.1 70 = .ok (.ifCond .ne 8, 3) := by decide +kernel
theorem d_Model_observationOf_73 : decode m_Model_observationOf.2.1 73 = .ok (.bipush 50, 2) := by decide +kernel
theorem d_Model_observationOf_75 : decode m_Model_observationOf.2.1 75 = .ok (.goto 4, 3) := by decide +kernel
theorem d_Model_observationOf_78 : decode m_Model_observationOf.2.1 78 = .ok (.iconst 0, 1) := by decide +kernel
theorem d_Model_observationOf_79 : decode m_Model_observationOf.2.1 79 = .ok (.istore_n 2, 1) := by decide +kernel
theorem d_Model_observationOf_80 : decode m_Model_observationOf.2.1 80 = .ok (.iload_n 2, 1) := by decide +kernel
theorem d_Model_observationOf_81 : decode m_Model_observationOf.2.1 81 = .ok (.ifCond .le 7, 3) := by decide +kernel
theorem d_Model_observationOf_84 : decode m_Model_observationOf.2.1 84 = .ok (.iload_n 2, 1) := by decide +kernel
theorem d_Model_observationOf_85 : decode m_Model_observationOf.2.1 85 = .ok (.goto 69, 3) := by decide +kernel
theorem d_Model_observationOf_88 : decode m_Model_observationOf.2.1 88 = .ok (.lload_n 0, 1) := by decide +kernel
theorem d_Model_observationOf_89 : decode m_Model_observationOf.2.1 89 = .ok (.ldc2_w 518, 3) := by decide +kernel
theorem d_Model_observationOf_92 : decode m_Model_observationOf.2.1 92 = .ok (.lcmp, 1) := by decide +kernel
theorem d_Model_observationOf_93 : decode m_Model_observationOf.2.1 93 = .ok (.ifCond .ne 8, 3) := by decide +kernel
theorem d_Model_observationOf_96 : decode m_Model_observationOf.2.1 96 = .ok (.bipush 44, 2) := by decide +kernel
theorem d_Model_observationOf_98 : decode m_Model_observationOf.2.1 98 = .ok (.goto 56, 3) := by decide +kernel
theorem d_Model_observationOf_101 : decode m_Model_observationOf.2.1 101 = .ok (.lload_n 0, 1) := by decide +kernel
theorem d_Model_observationOf_102 : decode m_Model_observationOf.2.1 102 = .ok (.ldc2_w 520, 3) := by decide +kernel
theorem d_Model_observationOf_105 : decode m_Model_observationOf.2.1 105 = .ok (.lcmp, 1) := by decide +kernel
theorem d_Model_observationOf_106 : decode m_Model_observationOf.2.1 106 = .ok (.ifCond .ne 8, 3) := by decide +kernel
theorem d_Model_observationOf_109 : decode m_Model_observationOf.2.1 109 = .ok (.bipush 45, 2) := by decide +kernel
theorem d_Model_observationOf_111 : decode m_Model_observationOf.2.1 111 = .ok (.goto 43, 3) := by decide +kernel
theorem d_Model_observationOf_114 : decode m_Model_observationOf.2.1 114 = .ok (.lload_n 0, 1) := by decide +kernel
theorem d_Model_observationOf_115 : decode m_Model_observationOf.2.1 115 = .ok (.ldc2_w 522, 3) := by decide +kernel
theorem d_Model_observationOf_118 : decode m_Model_observationOf.2.1 118 = .ok (.lcmp, 1) := by decide +kernel
theorem d_Model_observationOf_119 : decode m_Model_observationOf.2.1 119 = .ok (.ifCond .ne 8, 3) := by decide +kernel
theorem d_Model_observationOf_122 : decode m_Model_observationOf.2.1 122 = .ok (.bipush 46, 2) := by decide +kernel
theorem d_Model_observationOf_124 : decode m_Model_observationOf.2.1 124 = .ok (.goto 30, 3) := by decide +kernel
theorem d_Model_observationOf_127 : decode m_Model_observationOf.2.1 127 = .ok (.lload_n 0, 1) := by decide +kernel
theorem d_Model_observationOf_128 : decode m_Model_observationOf.2.1 128 = .ok (.ldc2_w 524, 3) := by decide +kernel
theorem d_Model_observationOf_131 : decode m_Model_observationOf.2.1 131 = .ok (.lcmp, 1) := by decide +kernel
theorem d_Model_observationOf_132 : decode m_Model_observationOf.2.1 132 = .ok (.ifCond .ne 8, 3) := by decide +kernel
theorem d_Model_observationOf_135 : decode m_Model_observationOf.2.1 135 = .ok (.bipush 47, 2) := by decide +kernel
theorem d_Model_observationOf_137 : decode m_Model_observationOf.2.1 137 = .ok (.goto 17, 3) := by decide +kernel
theorem d_Model_observationOf_140 : decode m_Model_observationOf.2.1 140 = .ok (.lload_n 0, 1) := by decide +kernel
theorem d_Model_observationOf_141 : decode m_Model_observationOf.2.1 141 = .ok (.ldc2_w 526, 3) := by decide +kernel
theorem d_Model_observationOf_144 : decode m_Model_observationOf.2.1 144 = .ok (.lcmp, 1) := by decide +kernel
theorem d_Model_observationOf_145 : decode m_Model_observationOf.2.1 145 = .ok (.ifCond .ne 8, 3) := by decide +kernel
theorem d_Model_observationOf_148 : decode m_Model_observationOf.2.1 148 = .ok (.bipush 48, 2) := by decide +kernel
theorem d_Model_observationOf_150 : decode m_Model_observationOf.2.1 150 = .ok (.goto 4, 3) := by decide +kernel
theorem d_Model_observationOf_153 : decode m_Model_observationOf.2.1 153 = .ok (.iconst 0, 1) := by decide +kernel
theorem d_Model_observationOf_154 : decode m_Model_observationOf.2.1 154 = .ok (.ireturn, 1) := by decide +kernel
theorem kwG_inv {x k : Nat} : ∀ n, kwG x n = (k : Int) → KW.getD k 0 = x
  | 0, h => by have : (-1 : Int) = k := h; omega
  | n + 1, h => by
    have h2 : (if KW.getD n 0 = x then (n : Int) else kwG x n) = k := h
    split at h2
    · obtain rfl : n = k := by omega
      assumption
    · exact kwG_inv n h2
theorem kwF_kw : ∀ k, k < 34 → kwF (KW.getD k 0) = (k : Int) := by decide +kernel
theorem kwF_at {x : Nat} (k : Nat) (hk : k < 34) : kwF x = (k : Int) ↔ x = KW.getD k 0 := ⟨fun h => (kwG_inv 34 h).symm, fun h => by rw [h]; exact kwF_kw k hk⟩
/-- the reference's kind of a node of the component's kind, with the third of its row -/
def kdM (k h : Int) : Int := if k = 0 then 1 else if k = 1 then (if h = 1 then 3 else 2) else if k = 4 then 4 else if k = 5 then 5 else if k = 10 then 6 else if k = 11 then 7 else if k = 6 then (if h = 7 then 8 else if h = 8 then 9 else 10) else if k = 100 then 20 else if k = 102 then 21 else if k ≤ 22 then k + 10 else k + 17
def ctF (x : Nat) : Int := if (x : Int) = 427021005669 then 1 else if (x : Int) = 7364985 then 2 else if (x : Int) = 26982 then 4 else if (x : Int) = 2003330414 then 5 else if (x : Int) = 7103860 then 6 else if (x : Int) = 107148485161588 then 7 else 0
def vlF (x : Nat) : Int := if (x : Int) = 1751477348 then 22 else if (x : Int) = 7234919 then 23 else if (x : Int) = 6382692 then 24 else if (x : Int) = 7566690 then 25 else if (x : Int) = 7173484 then 26 else if (x : Int) = 6580598 then 27 else if (x : Int) = 109300197582190 then 28 else if (x : Int) = 495873782388 then 29 else if (x : Int) = 6647396 then 30 else if (x : Int) = 7697253 then 31 else if (x : Int) = 1668247140 then 32 else 0
def obF (x : Nat) : Int := if (x : Int) = 6385252 then 40 else if (x : Int) = 28530 then 41 else if (x : Int) = 7237492 then 42 else if (x : Int) = 426953896805 then 43 else if (x : Int) = 1953658213 then 49 else if (x : Int) = 439721161573 then 50 else if (x : Int) = 26469 then 44 else if (x : Int) = 26484 then 45 else if (x : Int) = 27749 then 46 else if (x : Int) = 27764 then 47 else if (x : Int) = 25969 then 48 else 0
theorem ctF_kw (x : Nat) : ctF x = if okS 1 (kwF x) then kdM (kwF x) (-1) else 0 := by
  unfold ctF
  split
  · next h => obtain rfl : x = 427021005669 := by omega
              decide +kernel
  split
  · next h => obtain rfl : x = 7364985 := by omega
              decide +kernel
  split
  · next h => obtain rfl : x = 26982 := by omega
              decide +kernel
  split
  · next h => obtain rfl : x = 2003330414 := by omega
              decide +kernel
  split
  · next h => obtain rfl : x = 7103860 := by omega
              decide +kernel
  split
  · next h => obtain rfl : x = 107148485161588 := by omega
              decide +kernel
  next h1 h2 h3 h4 h5 h6 =>
  have e1 : kwF x ≠ 0 := fun e => h1 (by have h0 := (kwF_at 0 (by decide)).mp e; rw [h0]; rfl)
  have e2 : kwF x ≠ 1 := fun e => h2 (by have h0 := (kwF_at 1 (by decide)).mp e; rw [h0]; rfl)
  have e3 : kwF x ≠ 4 := fun e => h3 (by have h0 := (kwF_at 4 (by decide)).mp e; rw [h0]; rfl)
  have e4 : kwF x ≠ 5 := fun e => h4 (by have h0 := (kwF_at 5 (by decide)).mp e; rw [h0]; rfl)
  have e5 : kwF x ≠ 10 := fun e => h5 (by have h0 := (kwF_at 10 (by decide)).mp e; rw [h0]; rfl)
  have e6 : kwF x ≠ 11 := fun e => h6 (by have h0 := (kwF_at 11 (by decide)).mp e; rw [h0]; rfl)
  rw [if_neg]
  unfold okS
  rw [if_pos rfl, decide_eq_true_eq]
  omega
theorem vlF_kw (x : Nat) : vlF x = if 12 ≤ kwF x ∧ kwF x ≤ 22 then kwF x + 10 else 0 := by
  unfold vlF
  split
  · next h => obtain rfl : x = 1751477348 := by omega
              decide +kernel
  split
  · next h => obtain rfl : x = 7234919 := by omega
              decide +kernel
  split
  · next h => obtain rfl : x = 6382692 := by omega
              decide +kernel
  split
  · next h => obtain rfl : x = 7566690 := by omega
              decide +kernel
  split
  · next h => obtain rfl : x = 7173484 := by omega
              decide +kernel
  split
  · next h => obtain rfl : x = 6580598 := by omega
              decide +kernel
  split
  · next h => obtain rfl : x = 109300197582190 := by omega
              decide +kernel
  split
  · next h => obtain rfl : x = 495873782388 := by omega
              decide +kernel
  split
  · next h => obtain rfl : x = 6647396 := by omega
              decide +kernel
  split
  · next h => obtain rfl : x = 7697253 := by omega
              decide +kernel
  split
  · next h => obtain rfl : x = 1668247140 := by omega
              decide +kernel
  next h1 h2 h3 h4 h5 h6 h7 h8 h9 h10 h11 =>
  have e1 : kwF x ≠ 12 := fun e => h1 (by have h0 := (kwF_at 12 (by decide)).mp e; rw [h0]; rfl)
  have e2 : kwF x ≠ 13 := fun e => h2 (by have h0 := (kwF_at 13 (by decide)).mp e; rw [h0]; rfl)
  have e3 : kwF x ≠ 14 := fun e => h3 (by have h0 := (kwF_at 14 (by decide)).mp e; rw [h0]; rfl)
  have e4 : kwF x ≠ 15 := fun e => h4 (by have h0 := (kwF_at 15 (by decide)).mp e; rw [h0]; rfl)
  have e5 : kwF x ≠ 16 := fun e => h5 (by have h0 := (kwF_at 16 (by decide)).mp e; rw [h0]; rfl)
  have e6 : kwF x ≠ 17 := fun e => h6 (by have h0 := (kwF_at 17 (by decide)).mp e; rw [h0]; rfl)
  have e7 : kwF x ≠ 18 := fun e => h7 (by have h0 := (kwF_at 18 (by decide)).mp e; rw [h0]; rfl)
  have e8 : kwF x ≠ 19 := fun e => h8 (by have h0 := (kwF_at 19 (by decide)).mp e; rw [h0]; rfl)
  have e9 : kwF x ≠ 20 := fun e => h9 (by have h0 := (kwF_at 20 (by decide)).mp e; rw [h0]; rfl)
  have e10 : kwF x ≠ 21 := fun e => h10 (by have h0 := (kwF_at 21 (by decide)).mp e; rw [h0]; rfl)
  have e11 : kwF x ≠ 22 := fun e => h11 (by have h0 := (kwF_at 22 (by decide)).mp e; rw [h0]; rfl)
  rw [if_neg (by omega)]
theorem obF_kw (x : Nat) : obF x = if 23 ≤ kwF x ∧ kwF x ≤ 33 then kwF x + 17 else 0 := by
  unfold obF
  split
  · next h => obtain rfl : x = 6385252 := by omega
              decide +kernel
  split
  · next h => obtain rfl : x = 28530 := by omega
              decide +kernel
  split
  · next h => obtain rfl : x = 7237492 := by omega
              decide +kernel
  split
  · next h => obtain rfl : x = 426953896805 := by omega
              decide +kernel
  split
  · next h => obtain rfl : x = 1953658213 := by omega
              decide +kernel
  split
  · next h => obtain rfl : x = 439721161573 := by omega
              decide +kernel
  split
  · next h => obtain rfl : x = 26469 := by omega
              decide +kernel
  split
  · next h => obtain rfl : x = 26484 := by omega
              decide +kernel
  split
  · next h => obtain rfl : x = 27749 := by omega
              decide +kernel
  split
  · next h => obtain rfl : x = 27764 := by omega
              decide +kernel
  split
  · next h => obtain rfl : x = 25969 := by omega
              decide +kernel
  next h1 h2 h3 h4 h5 h6 h7 h8 h9 h10 h11 =>
  have e1 : kwF x ≠ 23 := fun e => h1 (by have h0 := (kwF_at 23 (by decide)).mp e; rw [h0]; rfl)
  have e2 : kwF x ≠ 24 := fun e => h2 (by have h0 := (kwF_at 24 (by decide)).mp e; rw [h0]; rfl)
  have e3 : kwF x ≠ 25 := fun e => h3 (by have h0 := (kwF_at 25 (by decide)).mp e; rw [h0]; rfl)
  have e4 : kwF x ≠ 26 := fun e => h4 (by have h0 := (kwF_at 26 (by decide)).mp e; rw [h0]; rfl)
  have e5 : kwF x ≠ 32 := fun e => h5 (by have h0 := (kwF_at 32 (by decide)).mp e; rw [h0]; rfl)
  have e6 : kwF x ≠ 33 := fun e => h6 (by have h0 := (kwF_at 33 (by decide)).mp e; rw [h0]; rfl)
  have e7 : kwF x ≠ 27 := fun e => h7 (by have h0 := (kwF_at 27 (by decide)).mp e; rw [h0]; rfl)
  have e8 : kwF x ≠ 28 := fun e => h8 (by have h0 := (kwF_at 28 (by decide)).mp e; rw [h0]; rfl)
  have e9 : kwF x ≠ 29 := fun e => h9 (by have h0 := (kwF_at 29 (by decide)).mp e; rw [h0]; rfl)
  have e10 : kwF x ≠ 30 := fun e => h10 (by have h0 := (kwF_at 30 (by decide)).mp e; rw [h0]; rfl)
  have e11 : kwF x ≠ 31 := fun e => h11 (by have h0 := (kwF_at 31 (by decide)).mp e; rw [h0]; rfl)
  rw [if_neg (by omega)]
theorem c_Model_contractOf (d : Nat) {x : Nat} {I : M32} {L : M64} {R : MR} {T : SH} (hx : x < 9223372036854775808) : Call m_Model_contractOf y_Model_contractOf d 0 0 [.long (cL x)] I L R T (rI fun r I' L' R' T' => r = cI (ctF x) ∧ I' = I ∧ L' = L ∧ R' = R ∧ T' = T) := by
  refine Call.ofRun (by decide) ⟨rfl, rfl⟩ (Nat.le_of_ble_eq_true rfl) ?_
  refine Run.gen fun Q hQ => ?_
  refine q_lload_n d_Model_contractOf_0 rfl ?_
  refine j_ldc2 (z := 427021005669) d_Model_contractOf_1 (inT11 122 rfl) (by decide) ?_
  refine j_lcmp_ne (tgt := 12) d_Model_contractOf_4 d_Model_contractOf_5 (by decide) (by omega) (by omega) (fun hp1 => ?_) (fun hp1 => ?_)
  · refine q_lload_n d_Model_contractOf_12 rfl ?_
    refine j_ldc2 (z := 7364985) d_Model_contractOf_13 (inT11 123 rfl) (by decide) ?_
    refine j_lcmp_ne (tgt := 24) d_Model_contractOf_16 d_Model_contractOf_17 (by decide) (by omega) (by omega) (fun hp2 => ?_) (fun hp2 => ?_)
    · refine q_lload_n d_Model_contractOf_24 rfl ?_
      refine j_ldc2 (z := 26982) d_Model_contractOf_25 (inT11 126 rfl) (by decide) ?_
      refine j_lcmp_ne (tgt := 36) d_Model_contractOf_28 d_Model_contractOf_29 (by decide) (by omega) (by omega) (fun hp3 => ?_) (fun hp3 => ?_)
      · refine q_lload_n d_Model_contractOf_36 rfl ?_
        refine j_ldc2 (z := 2003330414) d_Model_contractOf_37 (inT11 127 rfl) (by decide) ?_
        refine j_lcmp_ne (tgt := 48) d_Model_contractOf_40 d_Model_contractOf_41 (by decide) (by omega) (by omega) (fun hp4 => ?_) (fun hp4 => ?_)
        · refine q_lload_n d_Model_contractOf_48 rfl ?_
          refine j_ldc2 (z := 7103860) d_Model_contractOf_49 (inT11 132 rfl) (by decide) ?_
          refine j_lcmp_ne (tgt := 61) d_Model_contractOf_52 d_Model_contractOf_53 (by decide) (by omega) (by omega) (fun hp5 => ?_) (fun hp5 => ?_)
          · refine q_lload_n d_Model_contractOf_61 rfl ?_
            refine j_ldc2 (z := 107148485161588) d_Model_contractOf_62 (inT11 133 rfl) (by decide) ?_
            refine j_lcmp_ne (tgt := 74) d_Model_contractOf_65 d_Model_contractOf_66 (by decide) (by omega) (by omega) (fun hp6 => ?_) (fun hp6 => ?_)
            · refine j_iconst d_Model_contractOf_74 ?_
              refine q_ireturn d_Model_contractOf_75 rfl rfl ?_
              refine hQ _ _ _ _ _ ?_
              exact ⟨_, rfl, by unfold ctF; rw [if_neg hp1, if_neg hp2, if_neg hp3, if_neg hp4, if_neg hp5, if_neg hp6], rfl, rfl, rfl, rfl⟩
            · refine j_bipush d_Model_contractOf_69 (by decide) ?_
              refine q_goto (tgt := 75) d_Model_contractOf_71 (by decide) ?_
              refine q_ireturn d_Model_contractOf_75 rfl rfl ?_
              refine hQ _ _ _ _ _ ?_
              exact ⟨_, rfl, by unfold ctF; rw [if_neg hp1, if_neg hp2, if_neg hp3, if_neg hp4, if_neg hp5, if_pos hp6], rfl, rfl, rfl, rfl⟩
          · refine j_bipush d_Model_contractOf_56 (by decide) ?_
            refine q_goto (tgt := 75) d_Model_contractOf_58 (by decide) ?_
            refine q_ireturn d_Model_contractOf_75 rfl rfl ?_
            refine hQ _ _ _ _ _ ?_
            exact ⟨_, rfl, by unfold ctF; rw [if_neg hp1, if_neg hp2, if_neg hp3, if_neg hp4, if_pos hp5], rfl, rfl, rfl, rfl⟩
        · refine j_iconst d_Model_contractOf_44 ?_
          refine q_goto (tgt := 75) d_Model_contractOf_45 (by decide) ?_
          refine q_ireturn d_Model_contractOf_75 rfl rfl ?_
          refine hQ _ _ _ _ _ ?_
          exact ⟨_, rfl, by unfold ctF; rw [if_neg hp1, if_neg hp2, if_neg hp3, if_pos hp4], rfl, rfl, rfl, rfl⟩
      · refine j_iconst d_Model_contractOf_32 ?_
        refine q_goto (tgt := 75) d_Model_contractOf_33 (by decide) ?_
        refine q_ireturn d_Model_contractOf_75 rfl rfl ?_
        refine hQ _ _ _ _ _ ?_
        exact ⟨_, rfl, by unfold ctF; rw [if_neg hp1, if_neg hp2, if_pos hp3], rfl, rfl, rfl, rfl⟩
    · refine j_iconst d_Model_contractOf_20 ?_
      refine q_goto (tgt := 75) d_Model_contractOf_21 (by decide) ?_
      refine q_ireturn d_Model_contractOf_75 rfl rfl ?_
      refine hQ _ _ _ _ _ ?_
      exact ⟨_, rfl, by unfold ctF; rw [if_neg hp1, if_pos hp2], rfl, rfl, rfl, rfl⟩
  · refine j_iconst d_Model_contractOf_8 ?_
    refine q_goto (tgt := 75) d_Model_contractOf_9 (by decide) ?_
    refine q_ireturn d_Model_contractOf_75 rfl rfl ?_
    refine hQ _ _ _ _ _ ?_
    exact ⟨_, rfl, by unfold ctF; rw [if_pos hp1], rfl, rfl, rfl, rfl⟩
theorem c_Model_valueOf (d : Nat) {x : Nat} {I : M32} {L : M64} {R : MR} {T : SH} (hx : x < 9223372036854775808) : Call m_Model_valueOf y_Model_valueOf d 0 0 [.long (cL x)] I L R T (rI fun r I' L' R' T' => r = cI (vlF x) ∧ I' = I ∧ L' = L ∧ R' = R ∧ T' = T) := by
  refine Call.ofRun (by decide) ⟨rfl, rfl⟩ (Nat.le_of_ble_eq_true rfl) ?_
  refine Run.gen fun Q hQ => ?_
  have second : ∀ (w : Int), (0 < w ∧ w < 100 ∧ w = vlF x) ∨ (w = 0 ∧ vlF x = if (x : Int) = 109300197582190 then 28 else if (x : Int) = 495873782388 then 29 else if (x : Int) = 6647396 then 30 else if (x : Int) = 7697253 then 31 else if (x : Int) = 1668247140 then 32 else 0) → Run m_Model_valueOf d 0 0 79 [(0, .long (cL (x : Int)))] [.int (cI w)] I L R T Q := by
    intro w hw
    refine q_istore_n (lv' := [(2, .int (cI w)), (0, .long (cL (x : Int)))]) d_Model_valueOf_79 (by decide) rfl ?_
    refine q_iload_n d_Model_valueOf_80 rfl ?_
    refine j_if_le (tgt := 88) d_Model_valueOf_81 (by decide) (by omega) (fun h => ?_) (fun h => ?_)
    · skip
      have hw2 := hw.resolve_left (fun q => by omega)
      refine q_lload_n d_Model_valueOf_88 rfl ?_
      refine j_ldc2 (z := 109300197582190) d_Model_valueOf_89 (inT11 140 rfl) (by decide) ?_
      refine j_lcmp_ne (tgt := 101) d_Model_valueOf_92 d_Model_valueOf_93 (by decide) (by omega) (by omega) (fun hp7 => ?_) (fun hp7 => ?_)
      · refine q_lload_n d_Model_valueOf_101 rfl ?_
        refine j_ldc2 (z := 495873782388) d_Model_valueOf_102 (inT11 141 rfl) (by decide) ?_
        refine j_lcmp_ne (tgt := 114) d_Model_valueOf_105 d_Model_valueOf_106 (by decide) (by omega) (by omega) (fun hp8 => ?_) (fun hp8 => ?_)
        · refine q_lload_n d_Model_valueOf_114 rfl ?_
          refine j_ldc2 (z := 6647396) d_Model_valueOf_115 (inT11 142 rfl) (by decide) ?_
          refine j_lcmp_ne (tgt := 127) d_Model_valueOf_118 d_Model_valueOf_119 (by decide) (by omega) (by omega) (fun hp9 => ?_) (fun hp9 => ?_)
          · refine q_lload_n d_Model_valueOf_127 rfl ?_
            refine j_ldc2 (z := 7697253) d_Model_valueOf_128 (inT11 143 rfl) (by decide) ?_
            refine j_lcmp_ne (tgt := 140) d_Model_valueOf_131 d_Model_valueOf_132 (by decide) (by omega) (by omega) (fun hp10 => ?_) (fun hp10 => ?_)
            · refine q_lload_n d_Model_valueOf_140 rfl ?_
              refine j_ldc2 (z := 1668247140) d_Model_valueOf_141 (inT11 144 rfl) (by decide) ?_
              refine j_lcmp_ne (tgt := 153) d_Model_valueOf_144 d_Model_valueOf_145 (by decide) (by omega) (by omega) (fun hp11 => ?_) (fun hp11 => ?_)
              · refine j_iconst d_Model_valueOf_153 ?_
                refine q_ireturn d_Model_valueOf_154 rfl rfl ?_
                refine hQ _ _ _ _ _ ?_
                exact ⟨_, rfl, by rw [hw2.2, if_neg hp7, if_neg hp8, if_neg hp9, if_neg hp10, if_neg hp11], rfl, rfl, rfl, rfl⟩
              · refine j_bipush d_Model_valueOf_148 (by decide) ?_
                refine q_goto (tgt := 154) d_Model_valueOf_150 (by decide) ?_
                refine q_ireturn d_Model_valueOf_154 rfl rfl ?_
                refine hQ _ _ _ _ _ ?_
                exact ⟨_, rfl, by rw [hw2.2, if_neg hp7, if_neg hp8, if_neg hp9, if_neg hp10, if_pos hp11], rfl, rfl, rfl, rfl⟩
            · refine j_bipush d_Model_valueOf_135 (by decide) ?_
              refine q_goto (tgt := 154) d_Model_valueOf_137 (by decide) ?_
              refine q_ireturn d_Model_valueOf_154 rfl rfl ?_
              refine hQ _ _ _ _ _ ?_
              exact ⟨_, rfl, by rw [hw2.2, if_neg hp7, if_neg hp8, if_neg hp9, if_pos hp10], rfl, rfl, rfl, rfl⟩
          · refine j_bipush d_Model_valueOf_122 (by decide) ?_
            refine q_goto (tgt := 154) d_Model_valueOf_124 (by decide) ?_
            refine q_ireturn d_Model_valueOf_154 rfl rfl ?_
            refine hQ _ _ _ _ _ ?_
            exact ⟨_, rfl, by rw [hw2.2, if_neg hp7, if_neg hp8, if_pos hp9], rfl, rfl, rfl, rfl⟩
        · refine j_bipush d_Model_valueOf_109 (by decide) ?_
          refine q_goto (tgt := 154) d_Model_valueOf_111 (by decide) ?_
          refine q_ireturn d_Model_valueOf_154 rfl rfl ?_
          refine hQ _ _ _ _ _ ?_
          exact ⟨_, rfl, by rw [hw2.2, if_neg hp7, if_pos hp8], rfl, rfl, rfl, rfl⟩
      · refine j_bipush d_Model_valueOf_96 (by decide) ?_
        refine q_goto (tgt := 154) d_Model_valueOf_98 (by decide) ?_
        refine q_ireturn d_Model_valueOf_154 rfl rfl ?_
        refine hQ _ _ _ _ _ ?_
        exact ⟨_, rfl, by rw [hw2.2, if_pos hp7], rfl, rfl, rfl, rfl⟩
    · skip
      have hw2 := hw.resolve_right (fun q => by omega)
      refine q_iload_n d_Model_valueOf_84 rfl ?_
      refine q_goto (tgt := 154) d_Model_valueOf_85 (by decide) ?_
      refine q_ireturn d_Model_valueOf_154 rfl rfl ?_
      refine hQ _ _ _ _ _ ?_
      exact ⟨_, rfl, by rw [hw2.2.2], rfl, rfl, rfl, rfl⟩
  refine q_lload_n d_Model_valueOf_0 rfl ?_
  refine j_ldc2 (z := 1751477348) d_Model_valueOf_1 (inT11 134 rfl) (by decide) ?_
  refine j_lcmp_ne (tgt := 13) d_Model_valueOf_4 d_Model_valueOf_5 (by decide) (by omega) (by omega) (fun hp12 => ?_) (fun hp12 => ?_)
  · refine q_lload_n d_Model_valueOf_13 rfl ?_
    refine j_ldc2 (z := 7234919) d_Model_valueOf_14 (inT11 135 rfl) (by decide) ?_
    refine j_lcmp_ne (tgt := 26) d_Model_valueOf_17 d_Model_valueOf_18 (by decide) (by omega) (by omega) (fun hp13 => ?_) (fun hp13 => ?_)
    · refine q_lload_n d_Model_valueOf_26 rfl ?_
      refine j_ldc2 (z := 6382692) d_Model_valueOf_27 (inT11 136 rfl) (by decide) ?_
      refine j_lcmp_ne (tgt := 39) d_Model_valueOf_30 d_Model_valueOf_31 (by decide) (by omega) (by omega) (fun hp14 => ?_) (fun hp14 => ?_)
      · refine q_lload_n d_Model_valueOf_39 rfl ?_
        refine j_ldc2 (z := 7566690) d_Model_valueOf_40 (inT11 137 rfl) (by decide) ?_
        refine j_lcmp_ne (tgt := 52) d_Model_valueOf_43 d_Model_valueOf_44 (by decide) (by omega) (by omega) (fun hp15 => ?_) (fun hp15 => ?_)
        · refine q_lload_n d_Model_valueOf_52 rfl ?_
          refine j_ldc2 (z := 7173484) d_Model_valueOf_53 (inT11 138 rfl) (by decide) ?_
          refine j_lcmp_ne (tgt := 65) d_Model_valueOf_56 d_Model_valueOf_57 (by decide) (by omega) (by omega) (fun hp16 => ?_) (fun hp16 => ?_)
          · refine q_lload_n d_Model_valueOf_65 rfl ?_
            refine j_ldc2 (z := 6580598) d_Model_valueOf_66 (inT11 139 rfl) (by decide) ?_
            refine j_lcmp_ne (tgt := 78) d_Model_valueOf_69 d_Model_valueOf_70 (by decide) (by omega) (by omega) (fun hp17 => ?_) (fun hp17 => ?_)
            · refine j_iconst d_Model_valueOf_78 ?_
              refine second _ (by first | (refine Or.inl ⟨by decide, by decide, ?_⟩; unfold vlF; rw [if_neg hp12, if_neg hp13, if_neg hp14, if_neg hp15, if_neg hp16, if_neg hp17]) | (refine Or.inr ⟨rfl, ?_⟩; unfold vlF; rw [if_neg hp12, if_neg hp13, if_neg hp14, if_neg hp15, if_neg hp16, if_neg hp17]))
            · refine j_bipush d_Model_valueOf_73 (by decide) ?_
              refine q_goto (tgt := 79) d_Model_valueOf_75 (by decide) ?_
              refine second _ (by first | (refine Or.inl ⟨by decide, by decide, ?_⟩; unfold vlF; rw [if_neg hp12, if_neg hp13, if_neg hp14, if_neg hp15, if_neg hp16, if_pos hp17]) | (refine Or.inr ⟨rfl, ?_⟩; unfold vlF; rw [if_neg hp12, if_neg hp13, if_neg hp14, if_neg hp15, if_neg hp16, if_pos hp17]))
          · refine j_bipush d_Model_valueOf_60 (by decide) ?_
            refine q_goto (tgt := 79) d_Model_valueOf_62 (by decide) ?_
            refine second _ (by first | (refine Or.inl ⟨by decide, by decide, ?_⟩; unfold vlF; rw [if_neg hp12, if_neg hp13, if_neg hp14, if_neg hp15, if_pos hp16]) | (refine Or.inr ⟨rfl, ?_⟩; unfold vlF; rw [if_neg hp12, if_neg hp13, if_neg hp14, if_neg hp15, if_pos hp16]))
        · refine j_bipush d_Model_valueOf_47 (by decide) ?_
          refine q_goto (tgt := 79) d_Model_valueOf_49 (by decide) ?_
          refine second _ (by first | (refine Or.inl ⟨by decide, by decide, ?_⟩; unfold vlF; rw [if_neg hp12, if_neg hp13, if_neg hp14, if_pos hp15]) | (refine Or.inr ⟨rfl, ?_⟩; unfold vlF; rw [if_neg hp12, if_neg hp13, if_neg hp14, if_pos hp15]))
      · refine j_bipush d_Model_valueOf_34 (by decide) ?_
        refine q_goto (tgt := 79) d_Model_valueOf_36 (by decide) ?_
        refine second _ (by first | (refine Or.inl ⟨by decide, by decide, ?_⟩; unfold vlF; rw [if_neg hp12, if_neg hp13, if_pos hp14]) | (refine Or.inr ⟨rfl, ?_⟩; unfold vlF; rw [if_neg hp12, if_neg hp13, if_pos hp14]))
    · refine j_bipush d_Model_valueOf_21 (by decide) ?_
      refine q_goto (tgt := 79) d_Model_valueOf_23 (by decide) ?_
      refine second _ (by first | (refine Or.inl ⟨by decide, by decide, ?_⟩; unfold vlF; rw [if_neg hp12, if_pos hp13]) | (refine Or.inr ⟨rfl, ?_⟩; unfold vlF; rw [if_neg hp12, if_pos hp13]))
  · refine j_bipush d_Model_valueOf_8 (by decide) ?_
    refine q_goto (tgt := 79) d_Model_valueOf_10 (by decide) ?_
    refine second _ (by first | (refine Or.inl ⟨by decide, by decide, ?_⟩; unfold vlF; rw [if_pos hp12]) | (refine Or.inr ⟨rfl, ?_⟩; unfold vlF; rw [if_pos hp12]))
theorem c_Model_observationOf (d : Nat) {x : Nat} {I : M32} {L : M64} {R : MR} {T : SH} (hx : x < 9223372036854775808) : Call m_Model_observationOf y_Model_observationOf d 0 0 [.long (cL x)] I L R T (rI fun r I' L' R' T' => r = cI (obF x) ∧ I' = I ∧ L' = L ∧ R' = R ∧ T' = T) := by
  refine Call.ofRun (by decide) ⟨rfl, rfl⟩ (Nat.le_of_ble_eq_true rfl) ?_
  refine Run.gen fun Q hQ => ?_
  have second : ∀ (w : Int), (0 < w ∧ w < 100 ∧ w = obF x) ∨ (w = 0 ∧ obF x = if (x : Int) = 26469 then 44 else if (x : Int) = 26484 then 45 else if (x : Int) = 27749 then 46 else if (x : Int) = 27764 then 47 else if (x : Int) = 25969 then 48 else 0) → Run m_Model_observationOf d 0 0 79 [(0, .long (cL (x : Int)))] [.int (cI w)] I L R T Q := by
    intro w hw
    refine q_istore_n (lv' := [(2, .int (cI w)), (0, .long (cL (x : Int)))]) d_Model_observationOf_79 (by decide) rfl ?_
    refine q_iload_n d_Model_observationOf_80 rfl ?_
    refine j_if_le (tgt := 88) d_Model_observationOf_81 (by decide) (by omega) (fun h => ?_) (fun h => ?_)
    · skip
      have hw2 := hw.resolve_left (fun q => by omega)
      refine q_lload_n d_Model_observationOf_88 rfl ?_
      refine j_ldc2 (z := 26469) d_Model_observationOf_89 (inT11 149 rfl) (by decide) ?_
      refine j_lcmp_ne (tgt := 101) d_Model_observationOf_92 d_Model_observationOf_93 (by decide) (by omega) (by omega) (fun hp18 => ?_) (fun hp18 => ?_)
      · refine q_lload_n d_Model_observationOf_101 rfl ?_
        refine j_ldc2 (z := 26484) d_Model_observationOf_102 (inT11 150 rfl) (by decide) ?_
        refine j_lcmp_ne (tgt := 114) d_Model_observationOf_105 d_Model_observationOf_106 (by decide) (by omega) (by omega) (fun hp19 => ?_) (fun hp19 => ?_)
        · refine q_lload_n d_Model_observationOf_114 rfl ?_
          refine j_ldc2 (z := 27749) d_Model_observationOf_115 (inT11 151 rfl) (by decide) ?_
          refine j_lcmp_ne (tgt := 127) d_Model_observationOf_118 d_Model_observationOf_119 (by decide) (by omega) (by omega) (fun hp20 => ?_) (fun hp20 => ?_)
          · refine q_lload_n d_Model_observationOf_127 rfl ?_
            refine j_ldc2 (z := 27764) d_Model_observationOf_128 (inT11 152 rfl) (by decide) ?_
            refine j_lcmp_ne (tgt := 140) d_Model_observationOf_131 d_Model_observationOf_132 (by decide) (by omega) (by omega) (fun hp21 => ?_) (fun hp21 => ?_)
            · refine q_lload_n d_Model_observationOf_140 rfl ?_
              refine j_ldc2 (z := 25969) d_Model_observationOf_141 (inT11 153 rfl) (by decide) ?_
              refine j_lcmp_ne (tgt := 153) d_Model_observationOf_144 d_Model_observationOf_145 (by decide) (by omega) (by omega) (fun hp22 => ?_) (fun hp22 => ?_)
              · refine j_iconst d_Model_observationOf_153 ?_
                refine q_ireturn d_Model_observationOf_154 rfl rfl ?_
                refine hQ _ _ _ _ _ ?_
                exact ⟨_, rfl, by rw [hw2.2, if_neg hp18, if_neg hp19, if_neg hp20, if_neg hp21, if_neg hp22], rfl, rfl, rfl, rfl⟩
              · refine j_bipush d_Model_observationOf_148 (by decide) ?_
                refine q_goto (tgt := 154) d_Model_observationOf_150 (by decide) ?_
                refine q_ireturn d_Model_observationOf_154 rfl rfl ?_
                refine hQ _ _ _ _ _ ?_
                exact ⟨_, rfl, by rw [hw2.2, if_neg hp18, if_neg hp19, if_neg hp20, if_neg hp21, if_pos hp22], rfl, rfl, rfl, rfl⟩
            · refine j_bipush d_Model_observationOf_135 (by decide) ?_
              refine q_goto (tgt := 154) d_Model_observationOf_137 (by decide) ?_
              refine q_ireturn d_Model_observationOf_154 rfl rfl ?_
              refine hQ _ _ _ _ _ ?_
              exact ⟨_, rfl, by rw [hw2.2, if_neg hp18, if_neg hp19, if_neg hp20, if_pos hp21], rfl, rfl, rfl, rfl⟩
          · refine j_bipush d_Model_observationOf_122 (by decide) ?_
            refine q_goto (tgt := 154) d_Model_observationOf_124 (by decide) ?_
            refine q_ireturn d_Model_observationOf_154 rfl rfl ?_
            refine hQ _ _ _ _ _ ?_
            exact ⟨_, rfl, by rw [hw2.2, if_neg hp18, if_neg hp19, if_pos hp20], rfl, rfl, rfl, rfl⟩
        · refine j_bipush d_Model_observationOf_109 (by decide) ?_
          refine q_goto (tgt := 154) d_Model_observationOf_111 (by decide) ?_
          refine q_ireturn d_Model_observationOf_154 rfl rfl ?_
          refine hQ _ _ _ _ _ ?_
          exact ⟨_, rfl, by rw [hw2.2, if_neg hp18, if_pos hp19], rfl, rfl, rfl, rfl⟩
      · refine j_bipush d_Model_observationOf_96 (by decide) ?_
        refine q_goto (tgt := 154) d_Model_observationOf_98 (by decide) ?_
        refine q_ireturn d_Model_observationOf_154 rfl rfl ?_
        refine hQ _ _ _ _ _ ?_
        exact ⟨_, rfl, by rw [hw2.2, if_pos hp18], rfl, rfl, rfl, rfl⟩
    · skip
      have hw2 := hw.resolve_right (fun q => by omega)
      refine q_iload_n d_Model_observationOf_84 rfl ?_
      refine q_goto (tgt := 154) d_Model_observationOf_85 (by decide) ?_
      refine q_ireturn d_Model_observationOf_154 rfl rfl ?_
      refine hQ _ _ _ _ _ ?_
      exact ⟨_, rfl, by rw [hw2.2.2], rfl, rfl, rfl, rfl⟩
  refine q_lload_n d_Model_observationOf_0 rfl ?_
  refine j_ldc2 (z := 6385252) d_Model_observationOf_1 (inT11 145 rfl) (by decide) ?_
  refine j_lcmp_ne (tgt := 13) d_Model_observationOf_4 d_Model_observationOf_5 (by decide) (by omega) (by omega) (fun hp23 => ?_) (fun hp23 => ?_)
  · refine q_lload_n d_Model_observationOf_13 rfl ?_
    refine j_ldc2 (z := 28530) d_Model_observationOf_14 (inT11 146 rfl) (by decide) ?_
    refine j_lcmp_ne (tgt := 26) d_Model_observationOf_17 d_Model_observationOf_18 (by decide) (by omega) (by omega) (fun hp24 => ?_) (fun hp24 => ?_)
    · refine q_lload_n d_Model_observationOf_26 rfl ?_
      refine j_ldc2 (z := 7237492) d_Model_observationOf_27 (inT11 147 rfl) (by decide) ?_
      refine j_lcmp_ne (tgt := 39) d_Model_observationOf_30 d_Model_observationOf_31 (by decide) (by omega) (by omega) (fun hp25 => ?_) (fun hp25 => ?_)
      · refine q_lload_n d_Model_observationOf_39 rfl ?_
        refine j_ldc2 (z := 426953896805) d_Model_observationOf_40 (inT11 148 rfl) (by decide) ?_
        refine j_lcmp_ne (tgt := 52) d_Model_observationOf_43 d_Model_observationOf_44 (by decide) (by omega) (by omega) (fun hp26 => ?_) (fun hp26 => ?_)
        · refine q_lload_n d_Model_observationOf_52 rfl ?_
          refine j_ldc2 (z := 1953658213) d_Model_observationOf_53 (inT11 154 rfl) (by decide) ?_
          refine j_lcmp_ne (tgt := 65) d_Model_observationOf_56 d_Model_observationOf_57 (by decide) (by omega) (by omega) (fun hp27 => ?_) (fun hp27 => ?_)
          · refine q_lload_n d_Model_observationOf_65 rfl ?_
            refine j_ldc2 (z := 439721161573) d_Model_observationOf_66 (inT11 155 rfl) (by decide) ?_
            refine j_lcmp_ne (tgt := 78) d_Model_observationOf_69 d_Model_observationOf_70 (by decide) (by omega) (by omega) (fun hp28 => ?_) (fun hp28 => ?_)
            · refine j_iconst d_Model_observationOf_78 ?_
              refine second _ (by first | (refine Or.inl ⟨by decide, by decide, ?_⟩; unfold obF; rw [if_neg hp23, if_neg hp24, if_neg hp25, if_neg hp26, if_neg hp27, if_neg hp28]) | (refine Or.inr ⟨rfl, ?_⟩; unfold obF; rw [if_neg hp23, if_neg hp24, if_neg hp25, if_neg hp26, if_neg hp27, if_neg hp28]))
            · refine j_bipush d_Model_observationOf_73 (by decide) ?_
              refine q_goto (tgt := 79) d_Model_observationOf_75 (by decide) ?_
              refine second _ (by first | (refine Or.inl ⟨by decide, by decide, ?_⟩; unfold obF; rw [if_neg hp23, if_neg hp24, if_neg hp25, if_neg hp26, if_neg hp27, if_pos hp28]) | (refine Or.inr ⟨rfl, ?_⟩; unfold obF; rw [if_neg hp23, if_neg hp24, if_neg hp25, if_neg hp26, if_neg hp27, if_pos hp28]))
          · refine j_bipush d_Model_observationOf_60 (by decide) ?_
            refine q_goto (tgt := 79) d_Model_observationOf_62 (by decide) ?_
            refine second _ (by first | (refine Or.inl ⟨by decide, by decide, ?_⟩; unfold obF; rw [if_neg hp23, if_neg hp24, if_neg hp25, if_neg hp26, if_pos hp27]) | (refine Or.inr ⟨rfl, ?_⟩; unfold obF; rw [if_neg hp23, if_neg hp24, if_neg hp25, if_neg hp26, if_pos hp27]))
        · refine j_bipush d_Model_observationOf_47 (by decide) ?_
          refine q_goto (tgt := 79) d_Model_observationOf_49 (by decide) ?_
          refine second _ (by first | (refine Or.inl ⟨by decide, by decide, ?_⟩; unfold obF; rw [if_neg hp23, if_neg hp24, if_neg hp25, if_pos hp26]) | (refine Or.inr ⟨rfl, ?_⟩; unfold obF; rw [if_neg hp23, if_neg hp24, if_neg hp25, if_pos hp26]))
      · refine j_bipush d_Model_observationOf_34 (by decide) ?_
        refine q_goto (tgt := 79) d_Model_observationOf_36 (by decide) ?_
        refine second _ (by first | (refine Or.inl ⟨by decide, by decide, ?_⟩; unfold obF; rw [if_neg hp23, if_neg hp24, if_pos hp25]) | (refine Or.inr ⟨rfl, ?_⟩; unfold obF; rw [if_neg hp23, if_neg hp24, if_pos hp25]))
    · refine j_bipush d_Model_observationOf_21 (by decide) ?_
      refine q_goto (tgt := 79) d_Model_observationOf_23 (by decide) ?_
      refine second _ (by first | (refine Or.inl ⟨by decide, by decide, ?_⟩; unfold obF; rw [if_neg hp23, if_pos hp24]) | (refine Or.inr ⟨rfl, ?_⟩; unfold obF; rw [if_neg hp23, if_pos hp24]))
  · refine j_bipush d_Model_observationOf_8 (by decide) ?_
    refine q_goto (tgt := 79) d_Model_observationOf_10 (by decide) ?_
    refine second _ (by first | (refine Or.inl ⟨by decide, by decide, ?_⟩; unfold obF; rw [if_pos hp23]) | (refine Or.inr ⟨rfl, ?_⟩; unfold obF; rw [if_pos hp23]))

