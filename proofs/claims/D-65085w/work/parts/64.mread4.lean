/-! ===== 64 THE REFERENCE: bounds, cases are read ===== -/
theorem d_Model_readBound_0 : decode m_Model_readBound.2.1 0 = .ok (.aload_n 0, 1) := by decide +kernel
theorem d_Model_readBound_1 : decode m_Model_readBound.2.1 1 = .ok (.getfield 550, 3) := by decide +kernel
theorem d_Model_readBound_4 : decode m_Model_readBound.2.1 4 = .ok (.bipush 8, 2) := by decide +kernel
theorem d_Model_readBound_6 : decode m_Model_readBound.2.1 6 = .ok (.if_icmp .ne 12, 3) := by decide +kernel
theorem d_Model_readBound_9 : decode m_Model_readBound.2.1 9 = .ok (.iload_n 2, 1) := by decide +kernel
theorem d_Model_readBound_10 : decode m_Model_readBound.2.1 10 = .ok (.ifCond .le 8, 3) := by decide +kernel
theorem d_Model_readBound_13 : decode m_Model_readBound.2.1 13 = .ok (.aload_n 0, 1) := by decide +kernel
theorem d_Model_readBound_14 : decode m_Model_readBound.2.1 14 = .ok (.invokevirtual 608, 3) := by decide +kernel
theorem d_Model_readBound_17 : decode m_Model_readBound.2.1 17 = .ok (.return_, 1) := by decide +kernel
theorem d_Model_readBound_18 : decode m_Model_readBound.2.1 18 = .ok (.aload_n 0, 1) := by decide +kernel
theorem d_Model_readBound_19 : decode m_Model_readBound.2.1 19 = .ok (.getfield 550, 3) := by decide +kernel
theorem d_Model_readBound_22 : decode m_Model_readBound.2.1 22 = .ok (.iconst 1, 1) := by decide +kernel
theorem d_Model_readBound_23 : decode m_Model_readBound.2.1 23 = .ok (.if_icmp .eq 8, 3) := by decide +kernel
theorem d_Model_readBound_26 : decode m_Model_readBound.2.1 26 = .ok (.aload_n 0, 1) := by decide +kernel
theorem d_Model_readBound_27 : decode m_Model_readBound.2.1 27 = .ok (.invokevirtual 598, 3) := by decide +kernel
theorem d_Model_readBound_30 : decode m_Model_readBound.2.1 30 = .ok (.return_, 1) := by decide +kernel
theorem d_Model_readBound_31 : decode m_Model_readBound.2.1 31 = .ok (.iload_n 2, 1) := by decide +kernel
theorem d_Model_readBound_32 : decode m_Model_readBound.2.1 32 = .ok (.iconst 4, 1) := by decide +kernel
theorem d_Model_readBound_33 : decode m_Model_readBound.2.1 33 = .ok (.if_icmp .ne 10, 3) := by decide +kernel
theorem d_Model_readBound_36 : decode m_Model_readBound.2.1 36 = .ok (.aload_n 0, 1) := by decide +kernel
theorem d_Model_readBound_37 : decode m_Model_readBound.2.1 37 = .ok (.bipush 8, 2) := by decide +kernel
theorem d_Model_readBound_39 : decode m_Model_readBound.2.1 39 = .ok (.invokevirtual 573, 3) := by decide +kernel
theorem d_Model_readBound_42 : decode m_Model_readBound.2.1 42 = .ok (.return_, 1) := by decide +kernel
theorem d_Model_readBound_43 : decode m_Model_readBound.2.1 43 = .ok (.aload_n 0, 1) := by decide +kernel
theorem d_Model_readBound_44 : decode m_Model_readBound.2.1 44 = .ok (.getfield 67, 3) := by decide +kernel
theorem d_Model_readBound_47 : decode m_Model_readBound.2.1 47 = .ok (.aload_n 0, 1) := by decide +kernel
theorem d_Model_readBound_48 : decode m_Model_readBound.2.1 48 = .ok (.getfield 624, 3) := by decide +kernel
theorem d_Model_readBound_51 : decode m_Model_readBound.2.1 51 = .ok (.aload_n 0, 1) := by decide +kernel
theorem d_Model_readBound_52 : decode m_Model_readBound.2.1 52 = .ok (.invokevirtual 618, 3) := by decide +kernel
theorem d_Model_readBound_55 : decode m_Model_readBound.2.1 55 = .ok (.iastore, 1) := by decide +kernel
theorem d_Model_readBound_56 : decode m_Model_readBound.2.1 56 = .ok (.aload_n 0, 1) := by decide +kernel
theorem d_Model_readBound_57 : decode m_Model_readBound.2.1 57 = .ok (.invokevirtual 608, 3) := by decide +kernel
theorem d_Model_readBound_60 : decode m_Model_readBound.2.1 60 = .ok (.aload_n 0, 1) := by decide +kernel
theorem d_Model_readBound_61 : decode m_Model_readBound.2.1 61 = .ok (.bipush 13, 2) := by decide +kernel
theorem d_Model_readBound_63 : decode m_Model_readBound.2.1 63 = .ok (.iload_n 1, 1) := by decide +kernel
theorem d_Model_readBound_64 : decode m_Model_readBound.2.1 64 = .ok (.iload_n 2, 1) := by decide +kernel
theorem d_Model_readBound_65 : decode m_Model_readBound.2.1 65 = .ok (.iconst 0, 1) := by decide +kernel
theorem d_Model_readBound_66 : decode m_Model_readBound.2.1 66 = .ok (.invokevirtual 611, 3) := by decide +kernel
theorem d_Model_readBound_69 : decode m_Model_readBound.2.1 69 = .ok (.return_, 1) := by decide +kernel
theorem d_Model_readSecond_0 : decode m_Model_readSecond.2.1 0 = .ok (.aload_n 0, 1) := by decide +kernel
theorem d_Model_readSecond_1 : decode m_Model_readSecond.2.1 1 = .ok (.getfield 550, 3) := by decide +kernel
theorem d_Model_readSecond_4 : decode m_Model_readSecond.2.1 4 = .ok (.iconst 1, 1) := by decide +kernel
theorem d_Model_readSecond_5 : decode m_Model_readSecond.2.1 5 = .ok (.if_icmp .eq 8, 3) := by decide +kernel
theorem d_Model_readSecond_8 : decode m_Model_readSecond.2.1 8 = .ok (.aload_n 0, 1) := by decide +kernel
theorem d_Model_readSecond_9 : decode m_Model_readSecond.2.1 9 = .ok (.invokevirtual 598, 3) := by decide +kernel
theorem d_Model_readSecond_12 : decode m_Model_readSecond.2.1 12 = .ok (.return_, 1) := by decide +kernel
theorem d_Model_readSecond_13 : decode m_Model_readSecond.2.1 13 = .ok (.aload_n 0, 1) := by decide +kernel
theorem d_Model_readSecond_14 : decode m_Model_readSecond.2.1 14 = .ok (.getfield 70, 3) := by decide +kernel
theorem d_Model_readSecond_17 : decode m_Model_readSecond.2.1 17 = .ok (.aload_n 0, 1) := by decide +kernel
theorem d_Model_readSecond_18 : decode m_Model_readSecond.2.1 18 = .ok (.getfield 624, 3) := by decide +kernel
theorem d_Model_readSecond_21 : decode m_Model_readSecond.2.1 21 = .ok (.aload_n 0, 1) := by decide +kernel
theorem d_Model_readSecond_22 : decode m_Model_readSecond.2.1 22 = .ok (.invokevirtual 618, 3) := by decide +kernel
theorem d_Model_readSecond_25 : decode m_Model_readSecond.2.1 25 = .ok (.iastore, 1) := by decide +kernel
theorem d_Model_readSecond_26 : decode m_Model_readSecond.2.1 26 = .ok (.aload_n 0, 1) := by decide +kernel
theorem d_Model_readSecond_27 : decode m_Model_readSecond.2.1 27 = .ok (.aload_n 0, 1) := by decide +kernel
theorem d_Model_readSecond_28 : decode m_Model_readSecond.2.1 28 = .ok (.getfield 70, 3) := by decide +kernel
theorem d_Model_readSecond_31 : decode m_Model_readSecond.2.1 31 = .ok (.aload_n 0, 1) := by decide +kernel
theorem d_Model_readSecond_32 : decode m_Model_readSecond.2.1 32 = .ok (.getfield 624, 3) := by decide +kernel
theorem d_Model_readSecond_35 : decode m_Model_readSecond.2.1 35 = .ok (.iaload, 1) := by decide +kernel
theorem d_Model_readSecond_36 : decode m_Model_readSecond.2.1 36 = .ok (.aload_n 0, 1) := by decide +kernel
theorem d_Model_readSecond_37 : decode m_Model_readSecond.2.1 37 = .ok (.getfield 67, 3) := by decide +kernel
theorem d_Model_readSecond_40 : decode m_Model_readSecond.2.1 40 = .ok (.aload_n 0, 1) := by decide +kernel
theorem d_Model_readSecond_41 : decode m_Model_readSecond.2.1 41 = .ok (.getfield 624, 3) := by decide +kernel
theorem d_Model_readSecond_44 : decode m_Model_readSecond.2.1 44 = .ok (.iaload, 1) := by decide +kernel
theorem d_Model_readSecond_45 : decode m_Model_readSecond.2.1 45 = .ok (.invokevirtual 633, 3) := by decide +kernel
theorem d_Model_readSecond_48 : decode m_Model_readSecond.2.1 48 = .ok (.ifCond .ge 10, 3) := by decide +kernel
theorem d_Model_readSecond_51 : decode m_Model_readSecond.2.1 51 = .ok (.aload_n 0, 1) := by decide +kernel
theorem d_Model_readSecond_52 : decode m_Model_readSecond.2.1 52 = .ok (.bipush 6, 2) := by decide +kernel
theorem d_Model_readSecond_54 : decode m_Model_readSecond.2.1 54 = .ok (.invokevirtual 573, 3) := by decide +kernel
theorem d_Model_readSecond_57 : decode m_Model_readSecond.2.1 57 = .ok (.return_, 1) := by decide +kernel
theorem d_Model_readSecond_58 : decode m_Model_readSecond.2.1 58 = .ok (.aload_n 0, 1) := by decide +kernel
theorem d_Model_readSecond_59 : decode m_Model_readSecond.2.1 59 = .ok (.dup, 1) := by decide +kernel
theorem d_Model_readSecond_60 : decode m_Model_readSecond.2.1 60 = .ok (.getfield 624, 3) := by decide +kernel
theorem d_Model_readSecond_63 : decode m_Model_readSecond.2.1 63 = .ok (.iconst 1, 1) := by decide +kernel
theorem d_Model_readSecond_64 : decode m_Model_readSecond.2.1 64 = .ok (.iadd, 1) := by decide +kernel
theorem d_Model_readSecond_65 : decode m_Model_readSecond.2.1 65 = .ok (.putfield 624, 3) := by decide +kernel
theorem d_Model_readSecond_68 : decode m_Model_readSecond.2.1 68 = .ok (.aload_n 0, 1) := by decide +kernel
theorem d_Model_readSecond_69 : decode m_Model_readSecond.2.1 69 = .ok (.getfield 64, 3) := by decide +kernel
theorem d_Model_readSecond_72 : decode m_Model_readSecond.2.1 72 = .ok (.iload_n 1, 1) := by decide +kernel
theorem d_Model_readSecond_73 : decode m_Model_readSecond.2.1 73 = .ok (.iload_n 2, 1) := by decide +kernel
theorem d_Model_readSecond_74 : decode m_Model_readSecond.2.1 74 = .ok (.iconst 1, 1) := by decide +kernel
theorem d_Model_readSecond_75 : decode m_Model_readSecond.2.1 75 = .ok (.iadd, 1) := by decide +kernel
theorem d_Model_readSecond_76 : decode m_Model_readSecond.2.1 76 = .ok (.iastore, 1) := by decide +kernel
theorem d_Model_readSecond_77 : decode m_Model_readSecond.2.1 77 = .ok (.aload_n 0, 1) := by decide +kernel
theorem d_Model_readSecond_78 : decode m_Model_readSecond.2.1 78 = .ok (.invokevirtual 608, 3) := by decide +kernel
theorem d_Model_readSecond_81 : decode m_Model_readSecond.2.1 81 = .ok (.aload_n 0, 1) := by decide +kernel
theorem d_Model_readSecond_82 : decode m_Model_readSecond.2.1 82 = .ok (.bipush 12, 2) := by decide +kernel
theorem d_Model_readSecond_84 : decode m_Model_readSecond.2.1 84 = .ok (.iload_n 1, 1) := by decide +kernel
theorem d_Model_readSecond_85 : decode m_Model_readSecond.2.1 85 = .ok (.iload_n 2, 1) := by decide +kernel
theorem d_Model_readSecond_86 : decode m_Model_readSecond.2.1 86 = .ok (.iconst 1, 1) := by decide +kernel
theorem d_Model_readSecond_87 : decode m_Model_readSecond.2.1 87 = .ok (.iadd, 1) := by decide +kernel
theorem d_Model_readSecond_88 : decode m_Model_readSecond.2.1 88 = .ok (.iconst 0, 1) := by decide +kernel
theorem d_Model_readSecond_89 : decode m_Model_readSecond.2.1 89 = .ok (.invokevirtual 611, 3) := by decide +kernel
theorem d_Model_readSecond_92 : decode m_Model_readSecond.2.1 92 = .ok (.return_, 1) := by decide +kernel
theorem d_Model_readCase_0 : decode m_Model_readCase.2.1 0 = .ok (.aload_n 0, 1) := by decide +kernel
theorem d_Model_readCase_1 : decode m_Model_readCase.2.1 1 = .ok (.getfield 550, 3) := by decide +kernel
theorem d_Model_readCase_4 : decode m_Model_readCase.2.1 4 = .ok (.bipush 8, 2) := by decide +kernel
theorem d_Model_readCase_6 : decode m_Model_readCase.2.1 6 = .ok (.if_icmp .ne 8, 3) := by decide +kernel
theorem d_Model_readCase_9 : decode m_Model_readCase.2.1 9 = .ok (.aload_n 0, 1) := by decide +kernel
theorem d_Model_readCase_10 : decode m_Model_readCase.2.1 10 = .ok (.invokevirtual 608, 3) := by decide +kernel
theorem d_Model_readCase_13 : decode m_Model_readCase.2.1 13 = .ok (.return_, 1) := by decide +kernel
theorem d_Model_readCase_14 : decode m_Model_readCase.2.1 14 = .ok (.aload_n 0, 1) := by decide +kernel
theorem d_Model_readCase_15 : decode m_Model_readCase.2.1 15 = .ok (.getfield 550, 3) := by decide +kernel
theorem d_Model_readCase_18 : decode m_Model_readCase.2.1 18 = .ok (.iconst 2, 1) := by decide +kernel
theorem d_Model_readCase_19 : decode m_Model_readCase.2.1 19 = .ok (.if_icmp .ne 14, 3) := by decide +kernel
theorem d_Model_readCase_22 : decode m_Model_readCase.2.1 22 = .ok (.aload_n 0, 1) := by decide +kernel
theorem d_Model_readCase_23 : decode m_Model_readCase.2.1 23 = .ok (.getfield 557, 3) := by decide +kernel
theorem d_Model_readCase_26 : decode m_Model_readCase.2.1 26 = .ok (.ldc2_w 476, 3) := by decide +kernel
theorem d_Model_readCase_29 : decode m_Model_readCase.2.1 29 = .ok (.lcmp, 1) := by decide +kernel
theorem d_Model_readCase_30 : decode m_Model_readCase.2.1 30 = .ok (.ifCond .eq 8, 3) := by decide +kernel
theorem d_Model_readCase_33 : decode m_Model_readCase.2.1 33 = .ok (.aload_n 0, 1) := by decide +kernel
theorem d_Model_readCase_34 : decode m_Model_readCase.2.1 34 = .ok (.invokevirtual 598, 3) := by decide +kernel
theorem d_Model_readCase_37 : decode m_Model_readCase.2.1 37 = .ok (.return_, 1) := by decide +kernel
theorem d_Model_readCase_38 : decode m_Model_readCase.2.1 38 = .ok (.aload_n 0, 1) := by decide +kernel
theorem d_Model_readCase_39 : decode m_Model_readCase.2.1 39 = .ok (.bipush 8, 2) := by decide +kernel
theorem d_Model_readCase_41 : decode m_Model_readCase.2.1 41 = .ok (.iload_n 3, 1) := by decide +kernel
theorem d_Model_readCase_42 : decode m_Model_readCase.2.1 42 = .ok (.iconst 1, 1) := by decide +kernel
theorem d_Model_readCase_43 : decode m_Model_readCase.2.1 43 = .ok (.iadd, 1) := by decide +kernel
theorem d_Model_readCase_44 : decode m_Model_readCase.2.1 44 = .ok (.invokevirtual 601, 3) := by decide +kernel
theorem d_Model_readCase_47 : decode m_Model_readCase.2.1 47 = .ok (.istore 4, 2) := by decide +kernel
theorem d_Model_readCase_49 : decode m_Model_readCase.2.1 49 = .ok (.iload 4, 2) := by decide +kernel
theorem d_Model_readCase_51 : decode m_Model_readCase.2.1 51 = .ok (.iconst (-1), 1) := by decide +kernel
theorem d_Model_readCase_52 : decode m_Model_readCase.2.1 52 = .ok (.if_icmp .eq 15, 3) := by decide +kernel
theorem d_Model_readCase_55 : decode m_Model_readCase.2.1 55 = .ok (.iload_n 2, 1) := by decide +kernel
theorem d_Model_readCase_56 : decode m_Model_readCase.2.1 56 = .ok (.bipush 8, 2) := by decide +kernel
theorem d_Model_readCase_58 : decode m_Model_readCase.2.1 58 = .ok (.if_icmp .ne 9, 3) := by decide +kernel
theorem d_Model_readCase_61 : decode m_Model_readCase.2.1 61 = .ok (.aload_n 0, 1) := by decide +kernel
theorem d_Model_readCase_62 : decode m_Model_readCase.2.1 62 = .ok (.bipush 8, 2) := by decide +kernel
theorem d_Model_readCase_64 : decode m_Model_readCase.2.1 64 = .ok (.invokevirtual 573, 3) := by decide +kernel
theorem d_Model_readCase_67 : decode m_Model_readCase.2.1 67 = .ok (.aload_n 0, 1) := by decide +kernel
theorem d_Model_readCase_68 : decode m_Model_readCase.2.1 68 = .ok (.getfield 382, 3) := by decide +kernel
theorem d_Model_readCase_71 : decode m_Model_readCase.2.1 71 = .ok (.ifCond .le 4, 3) := by decide +kernel
theorem d_Model_readCase_74 : decode m_Model_readCase.2.1 74 = .ok (.return_, 1) := by decide +kernel
theorem d_Model_readCase_75 : decode m_Model_readCase.2.1 75 = .ok (.iload_n 2, 1) := by decide +kernel
theorem d_Model_readCase_76 : decode m_Model_readCase.2.1 76 = .ok (.ifCond .ne 14, 3) := by decide +kernel
theorem d_Model_readCase_79 : decode m_Model_readCase.2.1 79 = .ok (.aload_n 0, 1) := by decide +kernel
theorem d_Model_readCase_80 : decode m_Model_readCase.2.1 80 = .ok (.getfield 39, 3) := by decide +kernel
theorem d_Model_readCase_83 : decode m_Model_readCase.2.1 83 = .ok (.iload_n 1, 1) := by decide +kernel
theorem d_Model_readCase_84 : decode m_Model_readCase.2.1 84 = .ok (.iload 4, 2) := by decide +kernel
theorem d_Model_readCase_86 : decode m_Model_readCase.2.1 86 = .ok (.iastore, 1) := by decide +kernel
theorem d_Model_readCase_87 : decode m_Model_readCase.2.1 87 = .ok (.goto 16, 3) := by decide +kernel
theorem d_Model_readCase_90 : decode m_Model_readCase.2.1 90 = .ok (.aload_n 0, 1) := by decide +kernel
theorem d_Model_readCase_91 : decode m_Model_readCase.2.1 91 = .ok (.getfield 48, 3) := by decide +kernel
theorem d_Model_readCase_94 : decode m_Model_readCase.2.1 94 = .ok (.aload_n 0, 1) := by decide +kernel
theorem d_Model_readCase_95 : decode m_Model_readCase.2.1 95 = .ok (.getfield 45, 3) := by decide +kernel
theorem d_Model_readCase_98 : decode m_Model_readCase.2.1 98 = .ok (.iload_n 1, 1) := by decide +kernel
theorem d_Model_readCase_99 : decode m_Model_readCase.2.1 99 = .ok (.iaload, 1) := by decide +kernel
theorem d_Model_readCase_100 : decode m_Model_readCase.2.1 100 = .ok (.iload 4, 2) := by decide +kernel
theorem d_Model_readCase_102 : decode m_Model_readCase.2.1 102 = .ok (.iastore, 1) := by decide +kernel
theorem d_Model_readCase_103 : decode m_Model_readCase.2.1 103 = .ok (.aload_n 0, 1) := by decide +kernel
theorem d_Model_readCase_104 : decode m_Model_readCase.2.1 104 = .ok (.getfield 45, 3) := by decide +kernel
theorem d_Model_readCase_107 : decode m_Model_readCase.2.1 107 = .ok (.iload_n 1, 1) := by decide +kernel
theorem d_Model_readCase_108 : decode m_Model_readCase.2.1 108 = .ok (.iload 4, 2) := by decide +kernel
theorem d_Model_readCase_110 : decode m_Model_readCase.2.1 110 = .ok (.iastore, 1) := by decide +kernel
theorem d_Model_readCase_111 : decode m_Model_readCase.2.1 111 = .ok (.aload_n 0, 1) := by decide +kernel
theorem d_Model_readCase_112 : decode m_Model_readCase.2.1 112 = .ok (.invokevirtual 608, 3) := by decide +kernel
theorem d_Model_readCase_115 : decode m_Model_readCase.2.1 115 = .ok (.aload_n 0, 1) := by decide +kernel
theorem d_Model_readCase_116 : decode m_Model_readCase.2.1 116 = .ok (.bipush 8, 2) := by decide +kernel
theorem d_Model_readCase_118 : decode m_Model_readCase.2.1 118 = .ok (.iload_n 1, 1) := by decide +kernel
theorem d_Model_readCase_119 : decode m_Model_readCase.2.1 119 = .ok (.iload_n 2, 1) := by decide +kernel
theorem d_Model_readCase_120 : decode m_Model_readCase.2.1 120 = .ok (.iconst 1, 1) := by decide +kernel
theorem d_Model_readCase_121 : decode m_Model_readCase.2.1 121 = .ok (.iadd, 1) := by decide +kernel
theorem d_Model_readCase_122 : decode m_Model_readCase.2.1 122 = .ok (.iload_n 3, 1) := by decide +kernel
theorem d_Model_readCase_123 : decode m_Model_readCase.2.1 123 = .ok (.invokevirtual 611, 3) := by decide +kernel
theorem d_Model_readCase_126 : decode m_Model_readCase.2.1 126 = .ok (.aload_n 0, 1) := by decide +kernel
theorem d_Model_readCase_127 : decode m_Model_readCase.2.1 127 = .ok (.iconst 1, 1) := by decide +kernel
theorem d_Model_readCase_128 : decode m_Model_readCase.2.1 128 = .ok (.iload 4, 2) := by decide +kernel
theorem d_Model_readCase_130 : decode m_Model_readCase.2.1 130 = .ok (.iconst 2, 1) := by decide +kernel
theorem d_Model_readCase_131 : decode m_Model_readCase.2.1 131 = .ok (.iload_n 3, 1) := by decide +kernel
theorem d_Model_readCase_132 : decode m_Model_readCase.2.1 132 = .ok (.iconst 2, 1) := by decide +kernel
theorem d_Model_readCase_133 : decode m_Model_readCase.2.1 133 = .ok (.iadd, 1) := by decide +kernel
theorem d_Model_readCase_134 : decode m_Model_readCase.2.1 134 = .ok (.invokevirtual 611, 3) := by decide +kernel
theorem d_Model_readCase_137 : decode m_Model_readCase.2.1 137 = .ok (.aload_n 0, 1) := by decide +kernel
theorem d_Model_readCase_138 : decode m_Model_readCase.2.1 138 = .ok (.bipush 10, 2) := by decide +kernel
theorem d_Model_readCase_140 : decode m_Model_readCase.2.1 140 = .ok (.iload 4, 2) := by decide +kernel
theorem d_Model_readCase_142 : decode m_Model_readCase.2.1 142 = .ok (.iconst 0, 1) := by decide +kernel
theorem d_Model_readCase_143 : decode m_Model_readCase.2.1 143 = .ok (.iload_n 3, 1) := by decide +kernel
theorem d_Model_readCase_144 : decode m_Model_readCase.2.1 144 = .ok (.iconst 2, 1) := by decide +kernel
theorem d_Model_readCase_145 : decode m_Model_readCase.2.1 145 = .ok (.iadd, 1) := by decide +kernel
theorem d_Model_readCase_146 : decode m_Model_readCase.2.1 146 = .ok (.invokevirtual 611, 3) := by decide +kernel
theorem d_Model_readCase_149 : decode m_Model_readCase.2.1 149 = .ok (.return_, 1) := by decide +kernel
theorem NdM.fx {M n : Nat} {kd a b c x p q r s w : Int} {I J : M32} {L L' : M64} (h : NdM I L M n kd a b c x p q r s w) (hI : ∀ y, M + 6 ≤ y → y ≤ M + 18 → J y n = I y n) (hL : ∀ y, M + 7 ≤ y → y ≤ M + 9 → L' y n = L y n) : NdM J L' M n kd a b c x p q r s w := by
  obtain ⟨h1, h2, h3, h4, h5, h6, h7, h8, h9, h10⟩ := h
  exact ⟨by rw [hI _ (by omega) (by omega)]; exact h1, by rw [hI _ (by omega) (by omega)]; exact h2, by rw [hI _ (by omega) (by omega)]; exact h3, by rw [hI _ (by omega) (by omega)]; exact h4, by rw [hI _ (by omega) (by omega)]; exact h5, by rw [hL _ (by omega) (by omega)]; exact h6, by rw [hL _ (by omega) (by omega)]; exact h7, by rw [hL _ (by omega) (by omega)]; exact h8, by rw [hI _ (by omega) (by omega)]; exact h9, by rw [hI _ (by omega) (by omega)]; exact h10⟩
theorem c_Model_readBound (d : Nat) {M N a c p pt tp : Nat} {t : Nat → Nat} {l : List Wt} {P : Prop} [Decidable P] {I : M32} {L : M64} {R : MR} {T : SH} (hd : 2 ≤ d) (hM : MdlS M R T) (hT : TH M N a t I L) (hV : TxM I M N t) (hF : I M 17 = cI 0) (htp : I M 7 = cI tp) (htp3 : tp + 302 ≤ 1100000) (hP : I M 8 = cI (bI P)) (hpt : I M 35 = cI pt) (hpt5 : pt < 20400) (hp : p ≤ 4) (hA : PileV I M l) (hw0 : I M 43 = cI l.length) (hl : l.length < 30000) :
    Call m_Model_readBound y_Model_readBound d 0 0 [.ref M, .int (cI c), .int (cI p)] I L R T (rV fun I' L' R' T' => (
      ((tk (tkP t N) a = 106 ∧ 0 < p) ∧ I' = up2 I M 12 (cI (te (tkP t N) a)) ∧ L' = L) ∨
      (¬ (tk (tkP t N) a = 106 ∧ 0 < p) ∧ tk (tkP t N) a ≠ 100 ∧ erQ M (fcF (tk (tkP t N) a)) (tb (tkP t N) a) I L I' L') ∨
      (tk (tkP t N) a = 100 ∧ p = 4 ∧ erQ M 8 (tb (tkP t N) a) I L I' L') ∨
      (tk (tkP t N) a = 100 ∧ p ≠ 4 ∧ (∃ m, m ≤ 300 ∧ PolV I' (M + 3) tp m (tv (tkP t N) a) ∧ I' M 7 = cI (tp + m + 2 : Nat)) ∧ I' (M + 19) pt = cI tp ∧ I' M 8 = I M 8 ∧ I' M 12 = cI (te (tkP t N) a) ∧ I' M 17 = cI 0 ∧ I' M 35 = cI pt ∧ PileV I' M ((13, (c : Int), (p : Int), 0) :: l) ∧ I' M 43 = cI (l.length + 1 : Nat) ∧ (∀ n, FA M (-1) n pt tp I I') ∧ FF M [7, 8, 12, 43] I I' ∧ L' = L)) ∧ R' = R ∧ T' = T) := by
  refine Call.ofRun (by decide) ⟨rfl, rfl⟩ (Nat.le_of_ble_eq_true rfl) ?_
  refine Run.gen fun Q hQ => ?_
  have hfT := c_Model_failT (d - 1) (by omega) hM hT hF
  obtain ⟨hok0, h12, h13, h14, h15, h16⟩ := id hT
  have hok : TokR t N a (tb (tkP t N) a) (te (tkP t N) a) (tk (tkP t N) a) (tx (tkP t N) a) (tv (tkP t N) a) := hok0
  clear hT hok0
  replace h16 : Unit → _ := fun _ => h16
  generalize tk (tkP t N) a = K at *
  generalize tx (tkP t N) a = x at *
  generalize tb (tkP t N) a = b at *
  generalize te (tkP t N) a = e at *
  generalize tv (tkP t N) a = v at *
  have hki : inI (tkc K) := tkc_i
  have hk1 : Unit → (tkc K = 1 ↔ K = 100) := fun _ => tkc_1
  have hk8 : Unit → (tkc K = 8 ↔ K = 106) := fun _ => tkc_8
  have rest : ∀ (h : ¬ (K = 106 ∧ 0 < p)), True → Run m_Model_readBound d 0 0 18 [(0, .ref M), (1, .int (cI (c : Int))), (2, .int (cI (p : Int)))] [] I L R T Q := by
    intro h _
    refine q_aload_n d_Model_readBound_18 rfl ?_
    refine j_getI (v := (cI (tkc K))) d_Model_readBound_19 fl_Model_550 hM.1 ⟨rfl, by decide⟩ h13 ?_
    refine j_iconst d_Model_readBound_22 ?_
    refine j_icmp_eq (tgt := 31) d_Model_readBound_23 (by decide) (by omega) (by omega) (fun p1 => ?_) (fun p1 => ?_)
    · skip
      obtain rfl : K = 100 := (hk1 ()).mp p1
      refine q_iload_n d_Model_readBound_31 rfl ?_
      refine j_iconst d_Model_readBound_32 ?_
      refine j_icmp_ne (tgt := 43) d_Model_readBound_33 (by decide) (by omega) (by omega) (fun p2 => ?_) (fun p2 => ?_)
      · skip
        obtain ⟨z1, z2, z3, z4⟩ := hok.num
        have hle := hok.le
        refine q_aload_n d_Model_readBound_43 rfl ?_
        refine q_getR d_Model_readBound_44 fl_Model_67 hM.1 ⟨rfl, by decide⟩ (mR32 hM) ?_
        refine q_aload_n d_Model_readBound_47 rfl ?_
        refine j_getI (v := (cI (pt : Int))) d_Model_readBound_48 fl_Model_624 hM.1 ⟨rfl, by decide⟩ hpt ?_
        refine q_aload_n d_Model_readBound_51 rfl ?_
        refine q_callV (ci := 17) (rc := 0) (rs := 0) (rest := [.int (cI (pt : Int)), .ref (M + 19)]) d_Model_readBound_52 ml_Model_618 ok_Model_tokenNumber rfl hM.1 (by decide) (c_Model_tokenNumber (d - 1) (t := t) (N := N) (P := P) (by omega) hM hV h14 h15 (hle.2.2.2 (by decide)) hle.2.2.1 rfl z1 z2 z3 htp htp3 hP) rfl rfl (by omega) (Nat.le_of_ble_eq_true rfl) (kv_I (fun r J hh => ?_)) kt_I
        obtain ⟨rfl, m, y1, y2, y3, y4, y5⟩ := hh
        rw [← z4] at y2
        have y6 := y5.x
        refine j_iast (j := pt) d_Model_readBound_55 (mT32 hM) (mN32 hM) (by omega) (by omega) (by omega) ?_
        refine q_aload_n d_Model_readBound_56 rfl ?_
        refine q_callV (ci := 17) (rc := 0) (rs := 0) (rest := []) d_Model_readBound_57 ml_Model_608 ok_Model_use rfl hM.1 (by decide) (c_Model_use (d - 1) hM) rfl rfl (by omega) (Nat.le_of_ble_eq_true rfl) (kp_V ?_) kt_V
        generalize hI3 : (up2 (up2 J (M + 19) pt (cI (tp : Int))) M 12 ((up2 J (M + 19) pt (cI tp)) M 15)) = I3
        have f3 : Fx (fun a k => (a = M ∧ k = 12) ∨ (a = M + 19 ∧ k = pt)) J I3 := by rw [← hI3]; exact (Fx.up (Or.inr ⟨rfl, rfl⟩)).tu (Or.inl ⟨rfl, rfl⟩)
        have hA3 : PA M I3 I3 l := ⟨hA.fx fun a k e1 e2 _ => by rw [f3 _ _ (by omega), y6 _ _ (by omega)], by rw [f3 _ _ (by omega), y6 _ _ (by omega)]; exact hw0, Fx.rf⟩
        refine q_aload_n d_Model_readBound_60 rfl ?_
        refine j_bipush d_Model_readBound_61 (by decide) ?_
        refine q_iload_n d_Model_readBound_63 rfl ?_
        refine q_iload_n d_Model_readBound_64 rfl ?_
        refine j_iconst d_Model_readBound_65 ?_
        refine q_callV (ci := 17) (rc := 0) (rs := 0) (rest := []) d_Model_readBound_66 ml_Model_611 ok_Model_push rfl hM.1 (by decide) (c_Model_push (d - 1) hM hA3 hl) rfl rfl (by omega) (Nat.le_of_ble_eq_true rfl) (kv_V (fun G hG => ?_)) kt_V
        obtain ⟨g1, g2, g3⟩ := hG
        refine q_return d_Model_readBound_69 rfl ?_
        refine hQ _ _ _ _ _ ?_
        exact ⟨rfl, Or.inr (Or.inr (Or.inr ⟨rfl, by omega, ⟨m, y1, y2.congr fun k _ _ => by rw [g3 _ _ (by omega), f3 _ _ (by omega)], by rw [g3 _ _ (by omega), f3 _ _ (by omega)]; exact y3⟩, by rw [g3 _ _ (by omega), ← hI3, up2_a _ _ _ (by omega), up2_s], by rw [g3 _ _ (by omega), f3 _ _ (by omega), y4, hP], by rw [g3 _ _ (by omega), ← hI3, up2_s, up2_a _ _ _ (by omega), y6 _ _ (by omega)]; exact h15, by rw [g3 _ _ (by omega), f3 _ _ (by omega), y6 _ _ (by omega)]; exact hF, by rw [g3 _ _ (by omega), f3 _ _ (by omega), y6 _ _ (by omega)]; exact hpt, g1, g2, fun n => ((FA.of y6 (fun a k h => by omega) (fun a k h => by omega) (fun a k h => by omega) (fun k h => by omega)).tr (FA.of f3 (fun a k h => by omega) (fun a k h => by omega) (fun a k h => by omega) (fun k h => by omega))).tr (FA.of g3 (fun a k h => by omega) (fun a k h => by omega) (fun a k h => by omega) (fun k h => by omega)), ((FF.of y6 fun k h => by rcases (show k = 7 ∨ k = 8 by omega) with rfl | rfl <;> decide).tr (FF.of f3 fun k h => by obtain rfl : k = 12 := (by omega); decide)).tr (FF.of g3 fun k h => by obtain rfl : k = 43 := (by omega); decide), rfl⟩)), rfl, rfl⟩
      · skip
        refine q_aload_n d_Model_readBound_36 rfl ?_
        refine j_bipush d_Model_readBound_37 (by decide) ?_
        refine q_callV (ci := 17) (rc := 0) (rs := 0) (rest := []) d_Model_readBound_39 ml_Model_573 ok_Model_fail rfl hM.1 (by decide) (c_Model_fail (d - 1) hM (F := 0) hF (by decide)) rfl rfl (by omega) (Nat.le_of_ble_eq_true rfl) (kr_V (fun I1 L1 R1 T1 hh => ?_)) kt_V
        obtain ⟨e1, e2, e3, e4⟩ := hh
        refine q_return d_Model_readBound_42 rfl ?_
        refine hQ _ _ _ _ _ ?_
        exact ⟨rfl, Or.inr (Or.inr (Or.inl ⟨rfl, by omega, by rw [e1, if_pos rfl, e2]; exact er_up h14⟩)), e3, e4⟩
    · skip
      refine q_aload_n d_Model_readBound_26 rfl ?_
      refine q_callV (ci := 17) (rc := 0) (rs := 0) (rest := []) d_Model_readBound_27 ml_Model_598 ok_Model_failToken rfl hM.1 (by decide) (hfT) rfl rfl (by omega) (Nat.le_of_ble_eq_true rfl) (kr_V (fun I1 L1 R1 T1 hh => ?_)) kt_V
      refine q_return d_Model_readBound_30 rfl ?_
      refine hQ _ _ _ _ _ ?_
      exact ⟨rfl, Or.inr (Or.inl ⟨h, fun e9 => p1 ((hk1 ()).mpr e9), hh.1⟩), hh.2.1, hh.2.2⟩
  refine q_aload_n d_Model_readBound_0 rfl ?_
  refine j_getI (v := (cI (tkc K))) d_Model_readBound_1 fl_Model_550 hM.1 ⟨rfl, by decide⟩ h13 ?_
  refine j_bipush d_Model_readBound_4 (by decide) ?_
  refine j_icmp_ne (tgt := 18) d_Model_readBound_6 (by decide) (by omega) (by omega) (fun p1 => ?_) (fun p1 => ?_)
  · skip
    exact rest (by have := hk8 (); omega) trivial
  · skip
    refine q_iload_n d_Model_readBound_9 rfl ?_
    refine j_if_le (tgt := 18) d_Model_readBound_10 (by decide) (by omega) (fun p2 => ?_) (fun p2 => ?_)
    · skip
      exact rest (by omega) trivial
    · skip
      refine q_aload_n d_Model_readBound_13 rfl ?_
      refine q_callV (ci := 17) (rc := 0) (rs := 0) (rest := []) d_Model_readBound_14 ml_Model_608 ok_Model_use rfl hM.1 (by decide) (c_Model_use (d - 1) hM) rfl rfl (by omega) (Nat.le_of_ble_eq_true rfl) (kp_V ?_) kt_V
      refine q_return d_Model_readBound_17 rfl ?_
      refine hQ _ _ _ _ _ ?_
      exact ⟨rfl, Or.inl ⟨⟨(hk8 ()).mp p1, by omega⟩, by rw [h15], rfl⟩, rfl, rfl⟩
theorem c_Model_readSecond (d : Nat) {M N a c p pt tp r0 m0 : Nat} {v0 : Int} {t : Nat → Nat} {l : List Wt} {P : Prop} [Decidable P] {I : M32} {L : M64} {R : MR} {T : SH} (hd : 3 ≤ d) (hM : MdlS M R T) (hT : TH M N a t I L) (hV : TxM I M N t) (hF : I M 17 = cI 0) (htp : I M 7 = cI tp) (htp3 : tp + 302 ≤ 1100000) (hP : I M 8 = cI (bI P)) (hpt : I M 35 = cI pt) (hpt5 : pt < 20400) (hp : p ≤ 4) (hc5 : c < 5100) (h19 : I (M + 19) pt = cI r0) (hr0 : PolV I (M + 3) r0 m0 v0) (hr0t : r0 + m0 + 2 ≤ tp) (hA : PileV I M l) (hw0 : I M 43 = cI l.length) (hl : l.length < 30000) :
    Call m_Model_readSecond y_Model_readSecond d 0 0 [.ref M, .int (cI c), .int (cI p)] I L R T (rV fun I' L' R' T' => (
      (tk (tkP t N) a ≠ 100 ∧ erQ M (fcF (tk (tkP t N) a)) (tb (tkP t N) a) I L I' L') ∨
      (tk (tkP t N) a = 100 ∧ tv (tkP t N) a < v0 ∧ I' M 17 = cI 6 ∧ I' M 18 = cI (tb (tkP t N) a) ∧ (∀ n, FA M (-1) n pt tp I I') ∧ FF M [7, 8, 17, 18] I I' ∧ L' = L) ∨
      (tk (tkP t N) a = 100 ∧ ¬ tv (tkP t N) a < v0 ∧ (∃ m, m ≤ 300 ∧ PolV I' (M + 3) tp m (tv (tkP t N) a) ∧ I' M 7 = cI (tp + m + 2 : Nat)) ∧ I' (M + 20) pt = cI tp ∧ I' (M + 19) pt = cI r0 ∧ I' M 8 = I M 8 ∧ I' M 12 = cI (te (tkP t N) a) ∧ I' M 17 = cI 0 ∧ I' M 35 = cI (pt + 1 : Nat) ∧ I' (M + 18) c = cI (p + 1 : Nat) ∧ PileV I' M ((12, (c : Int), (p + 1 : Int), 0) :: l) ∧ I' M 43 = cI (l.length + 1 : Nat) ∧ (∀ n, FA M c n pt tp I I') ∧ (∀ y, M + 6 ≤ y → y < M + 18 → I' y c = I y c) ∧ FF M [7, 8, 12, 35, 43] I I' ∧ L' = L)) ∧ R' = R ∧ T' = T) := by
  refine Call.ofRun (by decide) ⟨rfl, rfl⟩ (Nat.le_of_ble_eq_true rfl) ?_
  refine Run.gen fun Q hQ => ?_
  have hfT := c_Model_failT (d - 1) (by omega) hM hT hF
  obtain ⟨hok0, h12, h13, h14, h15, h16⟩ := id hT
  have hok : TokR t N a (tb (tkP t N) a) (te (tkP t N) a) (tk (tkP t N) a) (tx (tkP t N) a) (tv (tkP t N) a) := hok0
  clear hT hok0
  replace h16 : Unit → _ := fun _ => h16
  generalize tk (tkP t N) a = K at *
  generalize tx (tkP t N) a = x at *
  generalize tb (tkP t N) a = b at *
  generalize te (tkP t N) a = e at *
  generalize tv (tkP t N) a = v at *
  have hki : inI (tkc K) := tkc_i
  have hk1 : Unit → (tkc K = 1 ↔ K = 100) := fun _ => tkc_1
  refine q_aload_n d_Model_readSecond_0 rfl ?_
  refine j_getI (v := (cI (tkc K))) d_Model_readSecond_1 fl_Model_550 hM.1 ⟨rfl, by decide⟩ h13 ?_
  refine j_iconst d_Model_readSecond_4 ?_
  refine j_icmp_eq (tgt := 13) d_Model_readSecond_5 (by decide) (by omega) (by omega) (fun p1 => ?_) (fun p1 => ?_)
  · skip
    obtain rfl : K = 100 := (hk1 ()).mp p1
    obtain ⟨z1, z2, z3, z4⟩ := hok.num
    have hle := hok.le
    refine q_aload_n d_Model_readSecond_13 rfl ?_
    refine q_getR d_Model_readSecond_14 fl_Model_70 hM.1 ⟨rfl, by decide⟩ (mR33 hM) ?_
    refine q_aload_n d_Model_readSecond_17 rfl ?_
    refine j_getI (v := (cI (pt : Int))) d_Model_readSecond_18 fl_Model_624 hM.1 ⟨rfl, by decide⟩ hpt ?_
    refine q_aload_n d_Model_readSecond_21 rfl ?_
    refine q_callV (ci := 17) (rc := 0) (rs := 0) (rest := [.int (cI (pt : Int)), .ref (M + 20)]) d_Model_readSecond_22 ml_Model_618 ok_Model_tokenNumber rfl hM.1 (by decide) (c_Model_tokenNumber (d - 1) (t := t) (N := N) (P := P) (by omega) hM hV h14 h15 (hle.2.2.2 (by decide)) hle.2.2.1 rfl z1 z2 z3 htp htp3 hP) rfl rfl (by omega) (Nat.le_of_ble_eq_true rfl) (kv_I (fun r J hh => ?_)) kt_I
    obtain ⟨rfl, m, y1, y2, y3, y4, y5⟩ := hh
    rw [← z4] at y2
    have y6 := y5.x
    refine j_iast (j := pt) d_Model_readSecond_25 (mT33 hM) (mN33 hM) (by omega) (by omega) (by omega) ?_
    refine q_aload_n d_Model_readSecond_26 rfl ?_
    generalize hI2 : (up2 J (M + 20) pt (cI (tp : Int))) = I2
    have f2 : Fx (fun a k => a = M + 20 ∧ k = pt) J I2 := by rw [← hI2]; exact Fx.up ⟨rfl, rfl⟩
    have i20 : I2 (M + 20) pt = cI tp := by rw [← hI2, up2_s]
    have i19 : I2 (M + 19) pt = cI r0 := by rw [f2 _ _ (by omega), y6 _ _ (by omega)]; exact h19
    have i35 : I2 M 35 = cI pt := by rw [f2 _ _ (by omega), y6 _ _ (by omega)]; exact hpt
    have i7 : I2 M 7 = cI (tp + m + 2 : Nat) := by rw [f2 _ _ (by omega)]; exact y3
    have iv : PolV I2 (M + 3) tp m v := y2.congr fun k _ _ => f2 _ _ (by omega)
    have iw : PolV I2 (M + 3) r0 m0 v0 := hr0.congr fun k _ _ => by rw [f2 _ _ (by omega), y6 _ _ (by omega)]
    refine q_aload_n d_Model_readSecond_27 rfl ?_
    refine q_getR d_Model_readSecond_28 fl_Model_70 hM.1 ⟨rfl, by decide⟩ (mR33 hM) ?_
    refine q_aload_n d_Model_readSecond_31 rfl ?_
    refine j_getI (v := (cI (pt : Int))) d_Model_readSecond_32 fl_Model_624 hM.1 ⟨rfl, by decide⟩ i35 ?_
    refine j_iald (j := pt) (v := (cI (tp : Int))) d_Model_readSecond_35 (mT33 hM) (mN33 hM) (by omega) (by omega) (by omega) i20 ?_
    refine q_aload_n d_Model_readSecond_36 rfl ?_
    refine q_getR d_Model_readSecond_37 fl_Model_67 hM.1 ⟨rfl, by decide⟩ (mR32 hM) ?_
    refine q_aload_n d_Model_readSecond_40 rfl ?_
    refine j_getI (v := (cI (pt : Int))) d_Model_readSecond_41 fl_Model_624 hM.1 ⟨rfl, by decide⟩ i35 ?_
    refine j_iald (j := pt) (v := (cI (r0 : Int))) d_Model_readSecond_44 (mT32 hM) (mN32 hM) (by omega) (by omega) (by omega) i19 ?_
    refine q_callV (ci := 17) (rc := 0) (rs := 0) (rest := []) d_Model_readSecond_45 ml_Model_633 ok_Model_order rfl hM.1 (by decide) (c_Model_order (d - 1) (by omega) hM iv iw (by omega) (by omega)) rfl rfl (by omega) (Nat.le_of_ble_eq_true rfl) (kp_I ?_) kt_I
    have hcm : (0 ≤ cmpZ v v0 ↔ ¬ v < v0) ∧ -1 ≤ cmpZ v v0 ∧ cmpZ v v0 ≤ 1 := by unfold cmpZ; (repeat' split) <;> omega
    refine j_if_ge (tgt := 58) d_Model_readSecond_48 (by decide) (by omega) (fun p2 => ?_) (fun p2 => ?_)
    · skip
      refine q_aload_n d_Model_readSecond_58 rfl ?_
      refine q_dup d_Model_readSecond_59 rfl ?_
      refine j_getI (v := (cI (pt : Int))) d_Model_readSecond_60 fl_Model_624 hM.1 ⟨rfl, by decide⟩ i35 ?_
      refine j_iconst d_Model_readSecond_63 ?_
      refine j_iadd d_Model_readSecond_64 ?_
      refine q_putI d_Model_readSecond_65 fl_Model_624 hM.1 ⟨rfl, by decide, rfl, rfl⟩ ?_
      refine q_aload_n d_Model_readSecond_68 rfl ?_
      refine q_getR d_Model_readSecond_69 fl_Model_64 hM.1 ⟨rfl, by decide⟩ (mR31 hM) ?_
      refine q_iload_n d_Model_readSecond_72 rfl ?_
      refine q_iload_n d_Model_readSecond_73 rfl ?_
      refine j_iconst d_Model_readSecond_74 ?_
      refine j_iadd d_Model_readSecond_75 ?_
      refine j_iast (j := c) d_Model_readSecond_76 (mT31 hM) (mN31 hM) (by omega) (by omega) (by omega) ?_
      refine q_aload_n d_Model_readSecond_77 rfl ?_
      refine q_callV (ci := 17) (rc := 0) (rs := 0) (rest := []) d_Model_readSecond_78 ml_Model_608 ok_Model_use rfl hM.1 (by decide) (c_Model_use (d - 1) hM) rfl rfl (by omega) (Nat.le_of_ble_eq_true rfl) (kp_V ?_) kt_V
      generalize hI3 : (up2 (up2 (up2 I2 M 35 (cI ((pt : Int) + 1))) (M + 18) c (cI ((p : Int) + 1))) M 12 ((up2 (up2 I2 M 35 (cI ((pt : Int) + 1))) (M + 18) c (cI ((p : Int) + 1))) M 15)) = I3
      have f3 : Fx (fun a k => (a = M ∧ (k = 12 ∨ k = 35)) ∨ (a = M + 18 ∧ k = c)) I2 I3 := by rw [← hI3]; exact ((Fx.up (Or.inl ⟨rfl, Or.inr rfl⟩)).tu (Or.inr ⟨rfl, rfl⟩)).tu (Or.inl ⟨rfl, Or.inl rfl⟩)
      have hA3 : PA M I3 I3 l := ⟨hA.fx fun a k e1 e2 _ => by rw [f3 _ _ (by omega), f2 _ _ (by omega), y6 _ _ (by omega)], by rw [f3 _ _ (by omega), f2 _ _ (by omega), y6 _ _ (by omega)]; exact hw0, Fx.rf⟩
      refine q_aload_n d_Model_readSecond_81 rfl ?_
      refine j_bipush d_Model_readSecond_82 (by decide) ?_
      refine q_iload_n d_Model_readSecond_84 rfl ?_
      refine q_iload_n d_Model_readSecond_85 rfl ?_
      refine j_iconst d_Model_readSecond_86 ?_
      refine j_iadd d_Model_readSecond_87 ?_
      refine j_iconst d_Model_readSecond_88 ?_
      refine q_callV (ci := 17) (rc := 0) (rs := 0) (rest := []) d_Model_readSecond_89 ml_Model_611 ok_Model_push rfl hM.1 (by decide) (c_Model_push (d - 1) hM hA3 hl) rfl rfl (by omega) (Nat.le_of_ble_eq_true rfl) (kv_V (fun G hG => ?_)) kt_V
      obtain ⟨g1, g2, g3⟩ := hG
      refine q_return d_Model_readSecond_92 rfl ?_
      refine hQ _ _ _ _ _ ?_
      exact ⟨rfl, Or.inr (Or.inr ⟨rfl, hcm.1.mp p2, ⟨m, y1, iv.congr fun k _ _ => by rw [g3 _ _ (by omega), f3 _ _ (by omega)], by rw [g3 _ _ (by omega), f3 _ _ (by omega)]; exact i7⟩, by rw [g3 _ _ (by omega), f3 _ _ (by omega)]; exact i20, by rw [g3 _ _ (by omega), f3 _ _ (by omega)]; exact i19, by rw [g3 _ _ (by omega), f3 _ _ (by omega), f2 _ _ (by omega), y4, hP], by rw [g3 _ _ (by omega), ← hI3, up2_s, up2_a _ _ _ (by omega), up2_k _ _ _ (by decide), f2 _ _ (by omega), y6 _ _ (by omega)]; exact h15, by rw [g3 _ _ (by omega), f3 _ _ (by omega), f2 _ _ (by omega), y6 _ _ (by omega)]; exact hF, by rw [g3 _ _ (by omega), ← hI3, up2_k _ _ _ (by decide), up2_a _ _ _ (by omega), up2_s]; simp, by rw [g3 _ _ (by omega), ← hI3, up2_a _ _ _ (by omega), up2_s]; simp, g1, g2, fun n => (((FA.of y6 (fun a k h => by omega) (fun a k h => by omega) (fun a k h => by omega) (fun k h => by omega)).tr (FA.of f2 (fun a k h => by omega) (fun a k h => by omega) (fun a k h => by omega) (fun k h => by omega))).tr (FA.of f3 (fun a k h => by omega) (fun a k h => by omega) (fun a k h => by omega) (fun k h => by omega))).tr (FA.of g3 (fun a k h => by omega) (fun a k h => by omega) (fun a k h => by omega) (fun k h => by omega)), fun y y1 y2 => by rw [g3 _ _ (by omega), f3 _ _ (by omega), f2 _ _ (by omega), y6 _ _ (by omega)], (((FF.of y6 fun k h => by rcases (show k = 7 ∨ k = 8 by omega) with rfl | rfl <;> decide).tr (FF.of f2 fun k h => by omega)).tr (FF.of f3 fun k h => by rcases (show k = 12 ∨ k = 35 by omega) with rfl | rfl <;> decide)).tr (FF.of g3 fun k h => by obtain rfl : k = 43 := (by omega); decide), rfl⟩), rfl, rfl⟩
    · skip
      refine q_aload_n d_Model_readSecond_51 rfl ?_
      refine j_bipush d_Model_readSecond_52 (by decide) ?_
      refine q_callV (ci := 17) (rc := 0) (rs := 0) (rest := []) d_Model_readSecond_54 ml_Model_573 ok_Model_fail rfl hM.1 (by decide) (c_Model_fail (d - 1) hM (F := 0) (by rw [f2 _ _ (by omega), y6 _ _ (by omega)]; exact hF) (by decide)) rfl rfl (by omega) (Nat.le_of_ble_eq_true rfl) (kr_V (fun I1 L1 R1 T1 hh => ?_)) kt_V
      obtain ⟨e1, e2, e3, e4⟩ := hh
      refine q_return d_Model_readSecond_57 rfl ?_
      refine hQ _ _ _ _ _ ?_
      exact ⟨rfl, Or.inr (Or.inl ⟨rfl, Decidable.byContradiction fun q => by have := hcm.1.mpr q; omega, by rw [e1, if_pos rfl, up2_k _ _ _ (by decide), up2_s], by rw [e1, if_pos rfl, up2_s, f2 _ _ (by omega), y6 _ _ (by omega)]; exact h14, fun n => by rw [e1, if_pos rfl]; exact ((FA.of y6 (fun a k h => by omega) (fun a k h => by omega) (fun a k h => by omega) (fun k h => by omega)).tr (FA.of f2 (fun a k h => by omega) (fun a k h => by omega) (fun a k h => by omega) (fun k h => by omega))).tr (FA.of ((Fx.up (S := SEr M) ⟨rfl, Or.inl rfl⟩).tu ⟨rfl, Or.inr rfl⟩) (fun a k h => by omega) (fun a k h => by omega) (fun a k h => by omega) (fun k h => by omega)), by rw [e1, if_pos rfl]; exact ((FF.of y6 fun k h => by rcases (show k = 7 ∨ k = 8 by omega) with rfl | rfl <;> decide).tr (FF.of f2 fun k h => by omega)).tr (FF.of ((Fx.up (S := SEr M) ⟨rfl, Or.inl rfl⟩).tu ⟨rfl, Or.inr rfl⟩) fun k h => by rcases (show k = 17 ∨ k = 18 by omega) with rfl | rfl <;> decide), e2⟩), e3, e4⟩
  · skip
    refine q_aload_n d_Model_readSecond_8 rfl ?_
    refine q_callV (ci := 17) (rc := 0) (rs := 0) (rest := []) d_Model_readSecond_9 ml_Model_598 ok_Model_failToken rfl hM.1 (by decide) (hfT) rfl rfl (by omega) (Nat.le_of_ble_eq_true rfl) (kr_V (fun I1 L1 R1 T1 hh => ?_)) kt_V
    refine q_return d_Model_readSecond_12 rfl ?_
    refine hQ _ _ _ _ _ ?_
    exact ⟨rfl, Or.inl ⟨fun e9 => p1 ((hk1 ()).mpr e9), hh.1⟩, hh.2.1, hh.2.2⟩
/-- what the meeting of a case may change: its own row n; of the when nd one, three; of the last case next -/
def FCs (M n nd last : Nat) (I I' : M32) : Prop := (∀ a k, a < M ∨ M + 24 < a ∨ (M < a ∧ a < M + 6) ∨ a = M + 19 ∨ a = M + 20 → I' a k = I a k) ∧ (∀ a k, M + 6 ≤ a → a ≤ M + 18 → k < n → (k = nd → a ≠ M + 10 ∧ a ≠ M + 12) → (k = last → a ≠ M + 13) → I' a k = I a k)
theorem FCs.tr {M n nd last : Nat} {I J K : M32} (h : FCs M n nd last I J) (g : FCs M n nd last J K) : FCs M n nd last I K := ⟨fun a k e => (g.1 a k e).trans (h.1 a k e), fun a k e1 e2 e3 e4 e5 => (g.2 a k e1 e2 e3 e4 e5).trans (h.2 a k e1 e2 e3 e4 e5)⟩
theorem FCs.of {M n nd last : Nat} {S : Nat → Nat → Prop} {I I' : M32} (h : Fx S I I') (h1 : ∀ a k, S a k → a = M ∨ (M + 21 ≤ a ∧ a ≤ M + 24) ∨ (M + 6 ≤ a ∧ a ≤ M + 18)) (h2 : ∀ a k, S a k → M + 6 ≤ a → a ≤ M + 18 → n ≤ k ∨ (k = nd ∧ (a = M + 10 ∨ a = M + 12)) ∨ (k = last ∧ a = M + 13)) : FCs M n nd last I I' := ⟨fun a k e => h a k fun q => by have := h1 a k q; omega, fun a k e1 e2 e3 e4 e5 => h a k fun q => by have := h2 a k q e1 e2; omega⟩
theorem c_Model_readCase (d : Nat) {M N a n g nd cnt dep last : Nat} {t : Nat → Nat} {l : List Wt} {I : M32} {L : M64} {R : MR} {T : SH} (hd : 2 ≤ d) (hM : MdlS M R T) (hT : TH M N a t I L) (hF : I M 17 = cI 0) (hn : I M 37 = cI n) (hg : I M 36 = cI g) (hgn : g ≤ n) (hn5 : n < 5100) (hnd : nd < n) (hdp : dep < 1000) (hcnt : cnt ≤ 8) (hlast : last < n) (h12n : cnt ≠ 0 → I (M + 12) nd = cI last) (hA : PileV I M l) (hw0 : I M 43 = cI l.length) (hl : l.length + 3 < 30000) :
    Call m_Model_readCase y_Model_readCase d 0 0 [.ref M, .int (cI nd), .int (cI cnt), .int (cI dep)] I L R T (rV fun I' L' R' T' => (
      (tk (tkP t N) a = 106 ∧ I' = up2 I M 12 (cI (te (tkP t N) a)) ∧ L' = L) ∨
      (tk (tkP t N) a ≠ 106 ∧ tk (tkP t N) a ≠ 6 ∧ erQ M (fcF (tk (tkP t N) a)) (tb (tkP t N) a) I L I' L') ∨
      (tk (tkP t N) a = 6 ∧ (100 < dep + 1 ∨ n - g = 1000) ∧ erQ M 7 (tb (tkP t N) a) I L I' L') ∨
      (tk (tkP t N) a = 6 ∧ ¬ (100 < dep + 1 ∨ n - g = 1000) ∧ cnt = 8 ∧ I' M 17 = cI 8 ∧ I' M 18 = cI (tb (tkP t N) a) ∧ FCs M n nd last I I' ∧ FF M [17, 18, 37] I I' ∧ Fx (SNl M n) L L') ∨
      (tk (tkP t N) a = 6 ∧ ¬ (100 < dep + 1 ∨ n - g = 1000) ∧ cnt ≠ 8 ∧ NdM I' L' M n 8 (-1) (-1) (-1) (-1) 0 0 0 0 0 ∧ I' M 37 = cI (n + 1 : Nat) ∧ (cnt = 0 → I' (M + 10) nd = cI n ∧ I' (M + 13) last = I (M + 13) last) ∧ (cnt ≠ 0 → I' (M + 13) last = cI n ∧ I' (M + 10) nd = I (M + 10) nd) ∧ I' (M + 12) nd = cI n ∧ PileV I' M ((10, (n : Int), 0, (dep + 2 : Int)) :: (1, (n : Int), 2, (dep + 2 : Int)) :: (8, (nd : Int), (cnt + 1 : Int), (dep : Int)) :: l) ∧ I' M 43 = cI (l.length + 3 : Nat) ∧ I' M 12 = cI (te (tkP t N) a) ∧ I' M 17 = cI 0 ∧ FCs M n nd last I I' ∧ FF M [12, 37, 43] I I' ∧ Fx (SNl M n) L L')) ∧ R' = R ∧ T' = T) := by
  refine Call.ofRun (by decide) ⟨rfl, rfl⟩ (Nat.le_of_ble_eq_true rfl) ?_
  refine Run.gen fun Q hQ => ?_
  have hfT := c_Model_failT (d - 1) (by omega) hM hT hF
  obtain ⟨hok0, h12, h13, h14, h15, h16⟩ := id hT
  have hok : TokR t N a (tb (tkP t N) a) (te (tkP t N) a) (tk (tkP t N) a) (tx (tkP t N) a) (tv (tkP t N) a) := hok0
  have hkd := hok.kd
  have hkw := fun (_ : Unit) => hok.kw
  have hx63 := fun (_ : Unit) => hok.x63
  replace h16 : Unit → _ := fun _ => h16
  clear hT hok0 hok
  generalize tk (tkP t N) a = K at *
  generalize tx (tkP t N) a = x at *
  generalize tb (tkP t N) a = b at *
  generalize te (tkP t N) a = e at *
  have hki : inI (tkc K) := tkc_i
  have hk2 : Unit → (tkc K = 2 ↔ (0 ≤ K ∧ K < 100)) := fun _ => tkc_2 hkd
  have hk8 : Unit → (tkc K = 8 ↔ K = 106) := fun _ => tkc_8
  have hx2 : Unit → 0 ≤ K ∧ K < 100 → (K = 6 ↔ x = 1667330917) := fun _ h => by
    have := hkw () h
    rw [← this.1]
    exact kwF_at 6 (by decide)
  have no : ∀ (h : K ≠ 106 ∧ K ≠ 6), True → Run m_Model_readCase d 0 0 33 [(0, .ref M), (1, .int (cI (nd : Int))), (2, .int (cI (cnt : Int))), (3, .int (cI (dep : Int)))] [] I L R T Q := by
    intro h _
    refine q_aload_n d_Model_readCase_33 rfl ?_
    refine q_callV (ci := 17) (rc := 0) (rs := 0) (rest := []) d_Model_readCase_34 ml_Model_598 ok_Model_failToken rfl hM.1 (by decide) (hfT) rfl rfl (by omega) (Nat.le_of_ble_eq_true rfl) (kr_V (fun I1 L1 R1 T1 h2 => ?_)) kt_V
    refine q_return d_Model_readCase_37 rfl ?_
    refine hQ _ _ _ _ _ ?_
    exact ⟨rfl, Or.inr (Or.inl ⟨h.1, h.2, h2.1⟩), h2.2.1, h2.2.2⟩
  have yes : ∀ (h : K = 6), True → Run m_Model_readCase d 0 0 38 [(0, .ref M), (1, .int (cI (nd : Int))), (2, .int (cI (cnt : Int))), (3, .int (cI (dep : Int)))] [] I L R T Q := by
    intro h _
    refine q_aload_n d_Model_readCase_38 rfl ?_
    refine j_bipush d_Model_readCase_39 (by decide) ?_
    refine q_iload_n d_Model_readCase_41 rfl ?_
    refine j_iconst d_Model_readCase_42 ?_
    refine j_iadd d_Model_readCase_43 ?_
    refine q_callV (ci := 17) (rc := 0) (rs := 0) (rest := []) d_Model_readCase_44 ml_Model_601 ok_Model_node rfl hM.1 (by decide) (c_Model_node (d - 1) (by omega) hM hn hg hgn hn5 (by omega) hF) rfl rfl (by omega) (Nat.le_of_ble_eq_true rfl) (kr_I (fun r I1 L1 R1 T1 hh => ?_)) kt_I
    obtain ⟨hh, rfl, rfl⟩ := hh
    rcases hh with ⟨hb, rfl, hI1, hL1⟩ | ⟨hb, rfl, hnm, hI37, hFx, hFl⟩
    · skip
      have g17 : I1 M 17 = cI 7 := by rw [hI1, up2_k _ _ _ (by decide), up2_s]
      refine q_istore (lv' := [(4, .int (cI (-1))), (0, .ref M), (1, .int (cI (nd : Int))), (2, .int (cI (cnt : Int))), (3, .int (cI (dep : Int)))]) d_Model_readCase_47 (by decide) rfl ?_
      refine q_iload d_Model_readCase_49 rfl ?_
      refine j_iconst d_Model_readCase_51 ?_
      refine j_icmp_eq (tgt := 67) d_Model_readCase_52 (by decide) (by omega) (by omega) (fun hx => ?_) (fun hx => by exfalso; omega)
      refine q_aload_n d_Model_readCase_67 rfl ?_
      refine j_getI (v := (cI 7)) d_Model_readCase_68 fl_Model_382 hM.1 ⟨rfl, by decide⟩ g17 ?_
      refine j_if_le (tgt := 75) d_Model_readCase_71 (by decide) (by omega) (fun hx => by exfalso; omega) (fun hx => ?_)
      refine q_return d_Model_readCase_74 rfl ?_
      refine hQ _ _ _ _ _ ?_
      exact ⟨rfl, Or.inr (Or.inr (Or.inl ⟨h, by omega, by rw [hI1, hL1]; exact er_up h14⟩)), rfl, rfl⟩
    · skip
      have g17 : I1 M 17 = cI 0 := by rw [hFx _ _ (by omega)]; exact hF
      have g14 : I1 M 14 = cI b := by rw [hFx _ _ (by omega)]; exact h14
      have g15 : I1 M 15 = cI e := by rw [hFx _ _ (by omega)]; exact h15
      refine q_istore (lv' := [(4, .int (cI (n : Int))), (0, .ref M), (1, .int (cI (nd : Int))), (2, .int (cI (cnt : Int))), (3, .int (cI (dep : Int)))]) d_Model_readCase_47 (by decide) rfl ?_
      refine q_iload d_Model_readCase_49 rfl ?_
      refine j_iconst d_Model_readCase_51 ?_
      refine j_icmp_eq (tgt := 67) d_Model_readCase_52 (by decide) (by omega) (by omega) (fun hx => by exfalso; omega) (fun hx => ?_)
      refine q_iload_n d_Model_readCase_55 rfl ?_
      refine j_bipush d_Model_readCase_56 (by decide) ?_
      refine j_icmp_ne (tgt := 67) d_Model_readCase_58 (by decide) (by omega) (by omega) (fun q1 => ?_) (fun q1 => ?_)
      · skip
        refine q_aload_n d_Model_readCase_67 rfl ?_
        refine j_getI (v := (cI 0)) d_Model_readCase_68 fl_Model_382 hM.1 ⟨rfl, by decide⟩ g17 ?_
        refine j_if_le (tgt := 75) d_Model_readCase_71 (by decide) (by omega) (fun hx => ?_) (fun hx => by exfalso; omega)
        have tail : ∀ (J : M32), FCs M n nd last I J → FF M [37] I J → NdM J L1 M n 8 (-1) (-1) (-1) (-1) 0 0 0 0 0 → J M 37 = cI (n + 1 : Nat) → (cnt = 0 → J (M + 10) nd = cI n ∧ J (M + 13) last = I (M + 13) last) → (cnt ≠ 0 → J (M + 13) last = cI n ∧ J (M + 10) nd = I (M + 10) nd) → J M 15 = cI e → J M 17 = cI 0 → PileV J M l → J M 43 = cI l.length → Run m_Model_readCase d 0 0 103 [(0, .ref M), (1, .int (cI (nd : Int))), (2, .int (cI (cnt : Int))), (3, .int (cI (dep : Int))), (4, .int (cI (n : Int)))] [] J L1 R1 T1 Q := by
          intro J j1 jf j2 j3 j4 j5 j6 j7 j8 j9
          refine q_aload_n d_Model_readCase_103 rfl ?_
          refine q_getR d_Model_readCase_104 fl_Model_45 hM.1 ⟨rfl, by decide⟩ (mR25 hM) ?_
          refine q_iload_n d_Model_readCase_107 rfl ?_
          refine q_iload d_Model_readCase_108 rfl ?_
          refine j_iast (j := nd) d_Model_readCase_110 (mT25 hM) (mN25 hM) (by omega) (by omega) (by omega) ?_
          refine q_aload_n d_Model_readCase_111 rfl ?_
          refine q_callV (ci := 17) (rc := 0) (rs := 0) (rest := []) d_Model_readCase_112 ml_Model_608 ok_Model_use rfl hM.1 (by decide) (c_Model_use (d - 1) hM) rfl rfl (by omega) (Nat.le_of_ble_eq_true rfl) (kp_V ?_) kt_V
          generalize hI3 : (up2 (up2 J (M + 12) nd (cI (n : Int))) M 12 ((up2 J (M + 12) nd (cI n)) M 15)) = I3
          have f3 : Fx (fun a k => (a = M ∧ k = 12) ∨ (a = M + 12 ∧ k = nd)) J I3 := by rw [← hI3]; exact (Fx.up (Or.inr ⟨rfl, rfl⟩)).tu (Or.inl ⟨rfl, rfl⟩)
          have hA3 : PA M I3 I3 l := ⟨j8.fx fun a k e1 e2 _ => f3 _ _ (by omega), by rw [f3 _ _ (by omega)]; exact j9, Fx.rf⟩
          refine q_aload_n d_Model_readCase_115 rfl ?_
          refine j_bipush d_Model_readCase_116 (by decide) ?_
          refine q_iload_n d_Model_readCase_118 rfl ?_
          refine q_iload_n d_Model_readCase_119 rfl ?_
          refine j_iconst d_Model_readCase_120 ?_
          refine j_iadd d_Model_readCase_121 ?_
          refine q_iload_n d_Model_readCase_122 rfl ?_
          refine q_callV (ci := 17) (rc := 0) (rs := 0) (rest := []) d_Model_readCase_123 ml_Model_611 ok_Model_push rfl hM.1 (by decide) (c_Model_push (d - 1) hM hA3 (by first | omega | (simp only [List.length_cons]; omega))) rfl rfl (by omega) (Nat.le_of_ble_eq_true rfl) (kv_V (fun G hA3 => ?_)) kt_V
          refine q_aload_n d_Model_readCase_126 rfl ?_
          refine j_iconst d_Model_readCase_127 ?_
          refine q_iload d_Model_readCase_128 rfl ?_
          refine j_iconst d_Model_readCase_130 ?_
          refine q_iload_n d_Model_readCase_131 rfl ?_
          refine j_iconst d_Model_readCase_132 ?_
          refine j_iadd d_Model_readCase_133 ?_
          refine q_callV (ci := 17) (rc := 0) (rs := 0) (rest := []) d_Model_readCase_134 ml_Model_611 ok_Model_push rfl hM.1 (by decide) (c_Model_push (d - 1) hM hA3 (by first | omega | (simp only [List.length_cons]; omega))) rfl rfl (by omega) (Nat.le_of_ble_eq_true rfl) (kv_V (fun G hA3 => ?_)) kt_V
          refine q_aload_n d_Model_readCase_137 rfl ?_
          refine j_bipush d_Model_readCase_138 (by decide) ?_
          refine q_iload d_Model_readCase_140 rfl ?_
          refine j_iconst d_Model_readCase_142 ?_
          refine q_iload_n d_Model_readCase_143 rfl ?_
          refine j_iconst d_Model_readCase_144 ?_
          refine j_iadd d_Model_readCase_145 ?_
          refine q_callV (ci := 17) (rc := 0) (rs := 0) (rest := []) d_Model_readCase_146 ml_Model_611 ok_Model_push rfl hM.1 (by decide) (c_Model_push (d - 1) hM hA3 (by first | omega | (simp only [List.length_cons]; omega))) rfl rfl (by omega) (Nat.le_of_ble_eq_true rfl) (kv_V (fun G hA3 => ?_)) kt_V
          obtain ⟨g1, g2, g3⟩ := hA3
          refine q_return d_Model_readCase_149 rfl ?_
          refine hQ _ _ _ _ _ ?_
          exact ⟨rfl, Or.inr (Or.inr (Or.inr (Or.inr ⟨h, by omega, by omega, j2.fx (fun y y1 y2 => by rw [g3 _ _ (by omega), f3 _ _ (by omega)]) (fun _ _ _ => rfl), by rw [g3 _ _ (by omega), f3 _ _ (by omega)]; exact j3, fun e9 => ⟨by rw [g3 _ _ (by omega), f3 _ _ (by omega)]; exact (j4 e9).1, by rw [g3 _ _ (by omega), f3 _ _ (by omega)]; exact (j4 e9).2⟩, fun e9 => ⟨by rw [g3 _ _ (by omega), f3 _ _ (by omega)]; exact (j5 e9).1, by rw [g3 _ _ (by omega), f3 _ _ (by omega)]; exact (j5 e9).2⟩, by rw [g3 _ _ (by omega), ← hI3, up2_a _ _ _ (by omega), up2_s], g1, g2, by rw [g3 _ _ (by omega), ← hI3, up2_s, up2_a _ _ _ (by omega)]; exact j6, by rw [g3 _ _ (by omega), f3 _ _ (by omega)]; exact j7, (j1.tr (FCs.of f3 (fun a k h => by omega) (fun a k h => by omega))).tr (FCs.of g3 (fun a k h => by omega) (fun a k h => by omega)), ((jf.mo (by decide)).tr (FF.of f3 fun k h => by obtain rfl : k = 12 := (by omega); decide)).tr (FF.of g3 fun k h => by obtain rfl : k = 43 := (by omega); decide), hFl⟩))), rfl, rfl⟩
        have hC1 : FCs M n nd last I I1 := FCs.of hFx (fun a k h => by omega) (fun a k h => by omega)
        have hf1 : FF M [37] I I1 := FF.of hFx fun k h => by obtain rfl : k = 37 := (by omega); decide
        have hp1 : PileV I1 M l := hA.fx fun a k e1 e2 _ => hFx _ _ (by omega)
        have hp2 : I1 M 43 = cI l.length := by rw [hFx _ _ (by omega)]; exact hw0
        refine q_iload_n d_Model_readCase_75 rfl ?_
        refine j_if_ne (tgt := 90) d_Model_readCase_76 (by decide) (by omega) (fun q2 => ?_) (fun q2 => ?_)
        · skip
          have g12 : I1 (M + 12) nd = cI last := by rw [hFx _ _ (by omega)]; exact h12n (by omega)
          refine q_aload_n d_Model_readCase_90 rfl ?_
          refine q_getR d_Model_readCase_91 fl_Model_48 hM.1 ⟨rfl, by decide⟩ (mR26 hM) ?_
          refine q_aload_n d_Model_readCase_94 rfl ?_
          refine q_getR d_Model_readCase_95 fl_Model_45 hM.1 ⟨rfl, by decide⟩ (mR25 hM) ?_
          refine q_iload_n d_Model_readCase_98 rfl ?_
          refine j_iald (j := nd) (v := (cI (last : Int))) d_Model_readCase_99 (mT25 hM) (mN25 hM) (by omega) (by omega) (by omega) g12 ?_
          refine q_iload d_Model_readCase_100 rfl ?_
          refine j_iast (j := last) d_Model_readCase_102 (mT26 hM) (mN26 hM) (by omega) (by omega) (by omega) ?_
          refine Run.lv (lv' := [(0, .ref M), (1, .int (cI (nd : Int))), (2, .int (cI (cnt : Int))), (3, .int (cI (dep : Int))), (4, .int (cI (n : Int)))]) (by intro q hq; simp only [List.mem_cons, List.not_mem_nil, or_false] at hq ⊢; rcases hq with rfl | rfl | rfl | rfl | rfl <;> simp) ?_
          exact tail _ (hC1.tr (FCs.of (Fx.up (S := fun a k => a = M + 13 ∧ k = last) ⟨rfl, rfl⟩) (fun a k h => by omega) (fun a k h => by omega))) (hf1.tr fun k _ => up2_a _ _ _ (by omega)) (hnm.fx (fun y y1 y2 => by by_cases e9 : y = M + 13; subst e9; rw [up2_k _ _ _ (by omega)]; rw [up2_a _ _ _ e9]) (fun _ _ _ => rfl)) (by rw [up2_a _ _ _ (by omega)]; exact hI37) (fun e9 => by omega) (fun _ => ⟨by rw [up2_s], by rw [up2_a _ _ _ (by omega), hFx _ _ (by omega)]⟩) (by rw [up2_a _ _ _ (by omega)]; exact g15) (by rw [up2_a _ _ _ (by omega)]; exact g17) (hp1.fx fun a k _ _ _ => up2_a _ _ _ (by omega)) (by rw [up2_a _ _ _ (by omega)]; exact hp2)
        · skip
          refine q_aload_n d_Model_readCase_79 rfl ?_
          refine q_getR d_Model_readCase_80 fl_Model_39 hM.1 ⟨rfl, by decide⟩ (mR23 hM) ?_
          refine q_iload_n d_Model_readCase_83 rfl ?_
          refine q_iload d_Model_readCase_84 rfl ?_
          refine j_iast (j := nd) d_Model_readCase_86 (mT23 hM) (mN23 hM) (by omega) (by omega) (by omega) ?_
          refine q_goto (tgt := 103) d_Model_readCase_87 (by decide) ?_
          refine Run.lv (lv' := [(0, .ref M), (1, .int (cI (nd : Int))), (2, .int (cI (cnt : Int))), (3, .int (cI (dep : Int))), (4, .int (cI (n : Int)))]) (by intro q hq; simp only [List.mem_cons, List.not_mem_nil, or_false] at hq ⊢; rcases hq with rfl | rfl | rfl | rfl | rfl <;> simp) ?_
          exact tail _ (hC1.tr (FCs.of (Fx.up (S := fun a k => a = M + 10 ∧ k = nd) ⟨rfl, rfl⟩) (fun a k h => by omega) (fun a k h => by omega))) (hf1.tr fun k _ => up2_a _ _ _ (by omega)) (hnm.fx (fun y y1 y2 => by by_cases e9 : y = M + 10; subst e9; rw [up2_k _ _ _ (by omega)]; rw [up2_a _ _ _ e9]) (fun _ _ _ => rfl)) (by rw [up2_a _ _ _ (by omega)]; exact hI37) (fun _ => ⟨by rw [up2_s], by rw [up2_a _ _ _ (by omega), hFx _ _ (by omega)]⟩) (fun e9 => by omega) (by rw [up2_a _ _ _ (by omega)]; exact g15) (by rw [up2_a _ _ _ (by omega)]; exact g17) (hp1.fx fun a k _ _ _ => up2_a _ _ _ (by omega)) (by rw [up2_a _ _ _ (by omega)]; exact hp2)
      · skip
        refine q_aload_n d_Model_readCase_61 rfl ?_
        refine j_bipush d_Model_readCase_62 (by decide) ?_
        refine q_callV (ci := 17) (rc := 0) (rs := 0) (rest := []) d_Model_readCase_64 ml_Model_573 ok_Model_fail rfl hM.1 (by decide) (c_Model_fail (d - 1) hM (F := 0) g17 (by decide)) rfl rfl (by omega) (Nat.le_of_ble_eq_true rfl) (kr_V (fun I2 L2 R2 T2 hh => ?_)) kt_V
        obtain ⟨e1, rfl, rfl, rfl⟩ := hh
        rw [if_pos rfl] at e1
        refine q_aload_n d_Model_readCase_67 rfl ?_
        refine j_getI (v := (cI 8)) d_Model_readCase_68 fl_Model_382 hM.1 ⟨rfl, by decide⟩ (by rw [e1, up2_k _ _ _ (by decide), up2_s]) ?_
        refine j_if_le (tgt := 75) d_Model_readCase_71 (by decide) (by omega) (fun hx => by exfalso; omega) (fun hx => ?_)
        refine q_return d_Model_readCase_74 rfl ?_
        refine hQ _ _ _ _ _ ?_
        exact ⟨rfl, Or.inr (Or.inr (Or.inr (Or.inl ⟨h, by omega, by omega, by rw [e1, up2_k _ _ _ (by decide), up2_s], by rw [e1, up2_s]; exact g14, by rw [e1]; exact (FCs.of hFx (fun a k h => by omega) (fun a k h => by omega)).tr (FCs.of ((Fx.up (S := SEr M) ⟨rfl, Or.inl rfl⟩).tu ⟨rfl, Or.inr rfl⟩) (fun a k h => by omega) (fun a k h => by omega)), by rw [e1]; exact (FF.of hFx fun k h => by obtain rfl : k = 37 := (by omega); decide).tr (FF.of ((Fx.up (S := SEr M) ⟨rfl, Or.inl rfl⟩).tu ⟨rfl, Or.inr rfl⟩) fun k h => by rcases (show k = 17 ∨ k = 18 by omega) with rfl | rfl <;> decide), hFl⟩))), rfl, rfl⟩
  refine q_aload_n d_Model_readCase_0 rfl ?_
  refine j_getI (v := (cI (tkc K))) d_Model_readCase_1 fl_Model_550 hM.1 ⟨rfl, by decide⟩ h13 ?_
  refine j_bipush d_Model_readCase_4 (by decide) ?_
  refine j_icmp_ne (tgt := 14) d_Model_readCase_6 (by decide) (by omega) (by omega) (fun p1 => ?_) (fun p1 => ?_)
  · skip
    refine q_aload_n d_Model_readCase_14 rfl ?_
    refine j_getI (v := (cI (tkc K))) d_Model_readCase_15 fl_Model_550 hM.1 ⟨rfl, by decide⟩ h13 ?_
    refine j_iconst d_Model_readCase_18 ?_
    refine j_icmp_ne (tgt := 33) d_Model_readCase_19 (by decide) (by omega) (by omega) (fun p2 => ?_) (fun p2 => ?_)
    · skip
      exact no (by have := hk2 (); have := hk8 (); omega) trivial
    · skip
      have hk := (hk2 ()).mp p2
      have hX6 := h16 () (Or.inl hk)
      have hx3 := hx2 () hk
      have hx1 := (hx63 () (Or.inl hk)).1
      refine q_aload_n d_Model_readCase_22 rfl ?_
      refine j_getL (v := (cL (x : Int))) d_Model_readCase_23 fl_Model_557 hM.1 ⟨rfl, by decide⟩ hX6 ?_
      refine j_ldc2 (z := 1667330917) d_Model_readCase_26 (inT11 128 rfl) (by decide) ?_
      refine j_lcmp_eq (tgt := 38) d_Model_readCase_29 d_Model_readCase_30 (by decide) (by omega) (by omega) (fun p3 => ?_) (fun p3 => ?_)
      · skip
        exact yes (by omega) trivial
      · skip
        exact no (by omega) trivial
  · skip
    refine q_aload_n d_Model_readCase_9 rfl ?_
    refine q_callV (ci := 17) (rc := 0) (rs := 0) (rest := []) d_Model_readCase_10 ml_Model_608 ok_Model_use rfl hM.1 (by decide) (c_Model_use (d - 1) hM) rfl rfl (by omega) (Nat.le_of_ble_eq_true rfl) (kp_V ?_) kt_V
    refine q_return d_Model_readCase_13 rfl ?_
    refine hQ _ _ _ _ _ ?_
    exact ⟨rfl, Or.inl ⟨(hk8 ()).mp p1, by rw [h15], rfl⟩, rfl, rfl⟩

