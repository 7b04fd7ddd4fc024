/-! ===== 36 RECKONER: quotients ===== -/
theorem d_Reckoner_takes_0 : decode m_Reckoner_takes.2.1 0 = .ok (.lconst 0, 1) := by decide +kernel
theorem d_Reckoner_takes_1 : decode m_Reckoner_takes.2.1 1 = .ok (.lstore 5, 2) := by decide +kernel
theorem d_Reckoner_takes_3 : decode m_Reckoner_takes.2.1 3 = .ok (.aload_n 1, 1) := by decide +kernel
theorem d_Reckoner_takes_4 : decode m_Reckoner_takes.2.1 4 = .ok (.getfield 23, 3) := by decide +kernel
theorem d_Reckoner_takes_7 : decode m_Reckoner_takes.2.1 7 = .ok (.iconst 1, 1) := by decide +kernel
theorem d_Reckoner_takes_8 : decode m_Reckoner_takes.2.1 8 = .ok (.iadd, 1) := by decide +kernel
theorem d_Reckoner_takes_9 : decode m_Reckoner_takes.2.1 9 = .ok (.istore 7, 2) := by decide +kernel
theorem d_Reckoner_takes_11 : decode m_Reckoner_takes.2.1 11 = .ok (.iconst 0, 1) := by decide +kernel
theorem d_Reckoner_takes_12 : decode m_Reckoner_takes.2.1 12 = .ok (.istore 8, 2) := by decide +kernel
theorem d_Reckoner_takes_14 : decode m_Reckoner_takes.2.1 14 = .ok (.iload 8, 2) := by decide +kernel
theorem d_Reckoner_takes_16 : decode m_Reckoner_takes.2.1 16 = .ok (.iload 7, 2) := by decide +kernel
theorem d_Reckoner_takes_18 : decode m_Reckoner_takes.2.1 18 = .ok (.if_icmp .ge 58, 3) := by decide +kernel
theorem d_Reckoner_takes_21 : decode m_Reckoner_takes.2.1 21 = .ok (.iload 8, 2) := by decide +kernel
theorem d_Reckoner_takes_23 : decode m_Reckoner_takes.2.1 23 = .ok (.aload_n 1, 1) := by decide +kernel
theorem d_Reckoner_takes_24 : decode m_Reckoner_takes.2.1 24 = .ok (.getfield 23, 3) := by decide +kernel
theorem d_Reckoner_takes_27 : decode m_Reckoner_takes.2.1 27 = .ok (.if_icmp .ge 16, 3) := by decide +kernel
theorem d_Reckoner_takes_30 : decode m_Reckoner_takes.2.1 30 = .ok (.aload_n 1, 1) := by decide +kernel
theorem d_Reckoner_takes_31 : decode m_Reckoner_takes.2.1 31 = .ok (.getfield 30, 3) := by decide +kernel
theorem d_Reckoner_takes_34 : decode m_Reckoner_takes.2.1 34 = .ok (.iload 8, 2) := by decide +kernel
theorem d_Reckoner_takes_36 : decode m_Reckoner_takes.2.1 36 = .ok (.iaload, 1) := by decide +kernel
theorem d_Reckoner_takes_37 : decode m_Reckoner_takes.2.1 37 = .ok (.i2l, 1) := by decide +kernel
theorem d_Reckoner_takes_38 : decode m_Reckoner_takes.2.1 38 = .ok (.lload_n 3, 1) := by decide +kernel
theorem d_Reckoner_takes_39 : decode m_Reckoner_takes.2.1 39 = .ok (.lmul, 1) := by decide +kernel
theorem d_Reckoner_takes_40 : decode m_Reckoner_takes.2.1 40 = .ok (.goto 4, 3) := by decide +kernel
theorem d_Reckoner_takes_43 : decode m_Reckoner_takes.2.1 43 = .ok (.lconst 0, 1) := by decide +kernel
theorem d_Reckoner_takes_44 : decode m_Reckoner_takes.2.1 44 = .ok (.lload 5, 2) := by decide +kernel
theorem d_Reckoner_takes_46 : decode m_Reckoner_takes.2.1 46 = .ok (.ladd, 1) := by decide +kernel
theorem d_Reckoner_takes_47 : decode m_Reckoner_takes.2.1 47 = .ok (.lstore 9, 2) := by decide +kernel
theorem d_Reckoner_takes_49 : decode m_Reckoner_takes.2.1 49 = .ok (.aload_n 0, 1) := by decide +kernel
theorem d_Reckoner_takes_50 : decode m_Reckoner_takes.2.1 50 = .ok (.getfield 9, 3) := by decide +kernel
theorem d_Reckoner_takes_53 : decode m_Reckoner_takes.2.1 53 = .ok (.iload 8, 2) := by decide +kernel
theorem d_Reckoner_takes_55 : decode m_Reckoner_takes.2.1 55 = .ok (.lload 9, 2) := by decide +kernel
theorem d_Reckoner_takes_57 : decode m_Reckoner_takes.2.1 57 = .ok (.ldc2_w 33, 3) := by decide +kernel
theorem d_Reckoner_takes_60 : decode m_Reckoner_takes.2.1 60 = .ok (.lrem, 1) := by decide +kernel
theorem d_Reckoner_takes_61 : decode m_Reckoner_takes.2.1 61 = .ok (.lastore, 1) := by decide +kernel
theorem d_Reckoner_takes_62 : decode m_Reckoner_takes.2.1 62 = .ok (.lload 9, 2) := by decide +kernel
theorem d_Reckoner_takes_64 : decode m_Reckoner_takes.2.1 64 = .ok (.ldc2_w 33, 3) := by decide +kernel
theorem d_Reckoner_takes_67 : decode m_Reckoner_takes.2.1 67 = .ok (.ldiv, 1) := by decide +kernel
theorem d_Reckoner_takes_68 : decode m_Reckoner_takes.2.1 68 = .ok (.lstore 5, 2) := by decide +kernel
theorem d_Reckoner_takes_70 : decode m_Reckoner_takes.2.1 70 = .ok (.iinc 8 1, 3) := by decide +kernel
theorem d_Reckoner_takes_73 : decode m_Reckoner_takes.2.1 73 = .ok (.goto (-59), 3) := by decide +kernel
theorem d_Reckoner_takes_76 : decode m_Reckoner_takes.2.1 76 = .ok (.lload 5, 2) := by decide +kernel
theorem d_Reckoner_takes_78 : decode m_Reckoner_takes.2.1 78 = .ok (.lconst 0, 1) := by decide +kernel
theorem d_Reckoner_takes_79 : decode m_Reckoner_takes.2.1 79 = .ok (.lcmp, 1) := by decide +kernel
theorem d_Reckoner_takes_80 : decode m_Reckoner_takes.2.1 80 = .ok (.ifCond .le 5, 3) := by decide +kernel
theorem d_Reckoner_takes_83 : decode m_Reckoner_takes.2.1 83 = .ok (.iconst 0, 1) := by decide +kernel
theorem d_Reckoner_takes_84 : decode m_Reckoner_takes.2.1 84 = .ok (.ireturn, 1) := by decide +kernel
theorem d_Reckoner_takes_85 : decode m_Reckoner_takes.2.1 85 = .ok (.iload 7, 2) := by decide +kernel
theorem d_Reckoner_takes_87 : decode m_Reckoner_takes.2.1 87 = .ok (.iconst 1, 1) := by decide +kernel
theorem d_Reckoner_takes_88 : decode m_Reckoner_takes.2.1 88 = .ok (.isub, 1) := by decide +kernel
theorem d_Reckoner_takes_89 : decode m_Reckoner_takes.2.1 89 = .ok (.istore 8, 2) := by decide +kernel
theorem d_Reckoner_takes_91 : decode m_Reckoner_takes.2.1 91 = .ok (.iload 8, 2) := by decide +kernel
theorem d_Reckoner_takes_93 : decode m_Reckoner_takes.2.1 93 = .ok (.ifCond .lt 57, 3) := by decide +kernel
theorem d_Reckoner_takes_96 : decode m_Reckoner_takes.2.1 96 = .ok (.aload_n 0, 1) := by decide +kernel
theorem d_Reckoner_takes_97 : decode m_Reckoner_takes.2.1 97 = .ok (.getfield 15, 3) := by decide +kernel
theorem d_Reckoner_takes_100 : decode m_Reckoner_takes.2.1 100 = .ok (.iload_n 2, 1) := by decide +kernel
theorem d_Reckoner_takes_101 : decode m_Reckoner_takes.2.1 101 = .ok (.iload 8, 2) := by decide +kernel
theorem d_Reckoner_takes_103 : decode m_Reckoner_takes.2.1 103 = .ok (.iadd, 1) := by decide +kernel
theorem d_Reckoner_takes_104 : decode m_Reckoner_takes.2.1 104 = .ok (.iaload, 1) := by decide +kernel
theorem d_Reckoner_takes_105 : decode m_Reckoner_takes.2.1 105 = .ok (.i2l, 1) := by decide +kernel
theorem d_Reckoner_takes_106 : decode m_Reckoner_takes.2.1 106 = .ok (.aload_n 0, 1) := by decide +kernel
theorem d_Reckoner_takes_107 : decode m_Reckoner_takes.2.1 107 = .ok (.getfield 9, 3) := by decide +kernel
theorem d_Reckoner_takes_110 : decode m_Reckoner_takes.2.1 110 = .ok (.iload 8, 2) := by decide +kernel
theorem d_Reckoner_takes_112 : decode m_Reckoner_takes.2.1 112 = .ok (.laload, 1) := by decide +kernel
theorem d_Reckoner_takes_113 : decode m_Reckoner_takes.2.1 113 = .ok (.lcmp, 1) := by decide +kernel
theorem d_Reckoner_takes_114 : decode m_Reckoner_takes.2.1 114 = .ok (.ifCond .eq 30, 3) := by decide +kernel
theorem d_Reckoner_takes_117 : decode m_Reckoner_takes.2.1 117 = .ok (.aload_n 0, 1) := by decide +kernel
theorem d_Reckoner_takes_118 : decode m_Reckoner_takes.2.1 118 = .ok (.getfield 15, 3) := by decide +kernel
theorem d_Reckoner_takes_121 : decode m_Reckoner_takes.2.1 121 = .ok (.iload_n 2, 1) := by decide +kernel
theorem d_Reckoner_takes_122 : decode m_Reckoner_takes.2.1 122 = .ok (.iload 8, 2) := by decide +kernel
theorem d_Reckoner_takes_124 : decode m_Reckoner_takes.2.1 124 = .ok (.iadd, 1) := by decide +kernel
theorem d_Reckoner_takes_125 : decode m_Reckoner_takes.2.1 125 = .ok (.iaload, 1) := by decide +kernel
theorem d_Reckoner_takes_126 : decode m_Reckoner_takes.2.1 126 = .ok (.i2l, 1) := by decide +kernel
theorem d_Reckoner_takes_127 : decode m_Reckoner_takes.2.1 127 = .ok (.aload_n 0, 1) := by decide +kernel
theorem d_Reckoner_takes_128 : decode m_Reckoner_takes.2.1 128 = .ok (.getfield 9, 3) := by decide +kernel
theorem d_Reckoner_takes_131 : decode m_Reckoner_takes.2.1 131 = .ok (.iload 8, 2) := by decide +kernel
theorem d_Reckoner_takes_133 : decode m_Reckoner_takes.2.1 133 = .ok (.laload, 1) := by decide +kernel
theorem d_Reckoner_takes_134 : decode m_Reckoner_takes.2.1 134 = .ok (.lcmp, 1) := by decide +kernel
theorem d_Reckoner_takes_135 : decode m_Reckoner_takes.2.1 135 = .ok (.ifCond .le 7, 3) := by decide +kernel
theorem d_Reckoner_takes_138 : decode m_Reckoner_takes.2.1 138 = .ok (.iconst 1, 1) := by decide +kernel
theorem d_Reckoner_takes_139 : decode m_Reckoner_takes.2.1 139 = .ok (.goto 4, 3) := by decide +kernel
theorem d_Reckoner_takes_142 : decode m_Reckoner_takes.2.1 142 = .ok (.iconst 0, 1) := by decide +kernel
theorem d_Reckoner_takes_143 : decode m_Reckoner_takes.2.1 143 = .ok (.ireturn, 1) := by decide +kernel
theorem d_Reckoner_takes_144 : decode m_Reckoner_takes.2.1 144 = .ok (.iinc 8 (-1), 3) := by decide +kernel
theorem d_Reckoner_takes_147 : decode m_Reckoner_takes.2.1 147 = .ok (.goto (-56), 3) := by decide +kernel
theorem d_Reckoner_takes_150 : decode m_Reckoner_takes.2.1 150 = .ok (.iconst 1, 1) := by decide +kernel
theorem d_Reckoner_takes_151 : decode m_Reckoner_takes.2.1 151 = .ok (.ireturn, 1) := by decide +kernel
theorem d_Reckoner_subtract_0 : decode m_Reckoner_subtract.2.1 0 = .ok (.lconst 0, 1) := by decide +kernel
theorem d_Reckoner_subtract_1 : decode m_Reckoner_subtract.2.1 1 = .ok (.lstore_n 3, 1) := by decide +kernel
theorem d_Reckoner_subtract_2 : decode m_Reckoner_subtract.2.1 2 = .ok (.iconst 0, 1) := by decide +kernel
theorem d_Reckoner_subtract_3 : decode m_Reckoner_subtract.2.1 3 = .ok (.istore 5, 2) := by decide +kernel
theorem d_Reckoner_subtract_5 : decode m_Reckoner_subtract.2.1 5 = .ok (.iload 5, 2) := by decide +kernel
theorem d_Reckoner_subtract_7 : decode m_Reckoner_subtract.2.1 7 = .ok (.aload_n 1, 1) := by decide +kernel
theorem d_Reckoner_subtract_8 : decode m_Reckoner_subtract.2.1 8 = .ok (.getfield 23, 3) := by decide +kernel
theorem d_Reckoner_subtract_11 : decode m_Reckoner_subtract.2.1 11 = .ok (.if_icmp .gt 70, 3) := by decide +kernel
theorem d_Reckoner_subtract_14 : decode m_Reckoner_subtract.2.1 14 = .ok (.aload_n 0, 1) := by decide +kernel
theorem d_Reckoner_subtract_15 : decode m_Reckoner_subtract.2.1 15 = .ok (.getfield 15, 3) := by decide +kernel
theorem d_Reckoner_subtract_18 : decode m_Reckoner_subtract.2.1 18 = .ok (.iload_n 2, 1) := by decide +kernel
theorem d_Reckoner_subtract_19 : decode m_Reckoner_subtract.2.1 19 = .ok (.iload 5, 2) := by decide +kernel
theorem d_Reckoner_subtract_21 : decode m_Reckoner_subtract.2.1 21 = .ok (.iadd, 1) := by decide +kernel
theorem d_Reckoner_subtract_22 : decode m_Reckoner_subtract.2.1 22 = .ok (.iaload, 1) := by decide +kernel
theorem d_Reckoner_subtract_23 : decode m_Reckoner_subtract.2.1 23 = .ok (.i2l, 1) := by decide +kernel
theorem d_Reckoner_subtract_24 : decode m_Reckoner_subtract.2.1 24 = .ok (.lload_n 3, 1) := by decide +kernel
theorem d_Reckoner_subtract_25 : decode m_Reckoner_subtract.2.1 25 = .ok (.lsub, 1) := by decide +kernel
theorem d_Reckoner_subtract_26 : decode m_Reckoner_subtract.2.1 26 = .ok (.aload_n 0, 1) := by decide +kernel
theorem d_Reckoner_subtract_27 : decode m_Reckoner_subtract.2.1 27 = .ok (.getfield 9, 3) := by decide +kernel
theorem d_Reckoner_subtract_30 : decode m_Reckoner_subtract.2.1 30 = .ok (.iload 5, 2) := by decide +kernel
theorem d_Reckoner_subtract_32 : decode m_Reckoner_subtract.2.1 32 = .ok (.laload, 1) := by decide +kernel
theorem d_Reckoner_subtract_33 : decode m_Reckoner_subtract.2.1 33 = .ok (.lsub, 1) := by decide +kernel
theorem d_Reckoner_subtract_34 : decode m_Reckoner_subtract.2.1 34 = .ok (.lstore 6, 2) := by decide +kernel
theorem d_Reckoner_subtract_36 : decode m_Reckoner_subtract.2.1 36 = .ok (.lload 6, 2) := by decide +kernel
theorem d_Reckoner_subtract_38 : decode m_Reckoner_subtract.2.1 38 = .ok (.lconst 0, 1) := by decide +kernel
theorem d_Reckoner_subtract_39 : decode m_Reckoner_subtract.2.1 39 = .ok (.lcmp, 1) := by decide +kernel
theorem d_Reckoner_subtract_40 : decode m_Reckoner_subtract.2.1 40 = .ok (.ifCond .ge 7, 3) := by decide +kernel
theorem d_Reckoner_subtract_43 : decode m_Reckoner_subtract.2.1 43 = .ok (.lconst 1, 1) := by decide +kernel
theorem d_Reckoner_subtract_44 : decode m_Reckoner_subtract.2.1 44 = .ok (.goto 4, 3) := by decide +kernel
theorem d_Reckoner_subtract_47 : decode m_Reckoner_subtract.2.1 47 = .ok (.lconst 0, 1) := by decide +kernel
theorem d_Reckoner_subtract_48 : decode m_Reckoner_subtract.2.1 48 = .ok (.lstore_n 3, 1) := by decide +kernel
theorem d_Reckoner_subtract_49 : decode m_Reckoner_subtract.2.1 49 = .ok (.aload_n 0, 1) := by decide +kernel
theorem d_Reckoner_subtract_50 : decode m_Reckoner_subtract.2.1 50 = .ok (.getfield 15, 3) := by decide +kernel
theorem d_Reckoner_subtract_53 : decode m_Reckoner_subtract.2.1 53 = .ok (.iload_n 2, 1) := by decide +kernel
theorem d_Reckoner_subtract_54 : decode m_Reckoner_subtract.2.1 54 = .ok (.iload 5, 2) := by decide +kernel
theorem d_Reckoner_subtract_56 : decode m_Reckoner_subtract.2.1 56 = .ok (.iadd, 1) := by decide +kernel
theorem d_Reckoner_subtract_57 : decode m_Reckoner_subtract.2.1 57 = .ok (.lload 6, 2) := by decide +kernel
theorem d_Reckoner_subtract_59 : decode m_Reckoner_subtract.2.1 59 = .ok (.lload_n 3, 1) := by decide +kernel
theorem d_Reckoner_subtract_60 : decode m_Reckoner_subtract.2.1 60 = .ok (.lconst 1, 1) := by decide +kernel
theorem d_Reckoner_subtract_61 : decode m_Reckoner_subtract.2.1 61 = .ok (.lcmp, 1) := by decide +kernel
theorem d_Reckoner_subtract_62 : decode m_Reckoner_subtract.2.1 62 = .ok (.ifCond .ne 8, 3) := by decide +kernel
theorem d_Reckoner_subtract_65 : decode m_Reckoner_subtract.2.1 65 = .ok (.ldc 46, 2) := by decide +kernel
theorem d_Reckoner_subtract_67 : decode m_Reckoner_subtract.2.1 67 = .ok (.goto 4, 3) := by decide +kernel
theorem d_Reckoner_subtract_70 : decode m_Reckoner_subtract.2.1 70 = .ok (.iconst 0, 1) := by decide +kernel
theorem d_Reckoner_subtract_71 : decode m_Reckoner_subtract.2.1 71 = .ok (.i2l, 1) := by decide +kernel
theorem d_Reckoner_subtract_72 : decode m_Reckoner_subtract.2.1 72 = .ok (.ladd, 1) := by decide +kernel
theorem d_Reckoner_subtract_73 : decode m_Reckoner_subtract.2.1 73 = .ok (.l2i, 1) := by decide +kernel
theorem d_Reckoner_subtract_74 : decode m_Reckoner_subtract.2.1 74 = .ok (.iastore, 1) := by decide +kernel
theorem d_Reckoner_subtract_75 : decode m_Reckoner_subtract.2.1 75 = .ok (.iinc 5 1, 3) := by decide +kernel
theorem d_Reckoner_subtract_78 : decode m_Reckoner_subtract.2.1 78 = .ok (.goto (-73), 3) := by decide +kernel
theorem d_Reckoner_subtract_81 : decode m_Reckoner_subtract.2.1 81 = .ok (.return_, 1) := by decide +kernel
theorem d_Reckoner_divide_0 : decode m_Reckoner_divide.2.1 0 = .ok (.aload_n 3, 1) := by decide +kernel
theorem d_Reckoner_divide_1 : decode m_Reckoner_divide.2.1 1 = .ok (.invokevirtual 27, 3) := by decide +kernel
theorem d_Reckoner_divide_4 : decode m_Reckoner_divide.2.1 4 = .ok (.aload_n 2, 1) := by decide +kernel
theorem d_Reckoner_divide_5 : decode m_Reckoner_divide.2.1 5 = .ok (.invokevirtual 47, 3) := by decide +kernel
theorem d_Reckoner_divide_8 : decode m_Reckoner_divide.2.1 8 = .ok (.ifCond .ne 14, 3) := by decide +kernel
theorem d_Reckoner_divide_11 : decode m_Reckoner_divide.2.1 11 = .ok (.aload_n 1, 1) := by decide +kernel
theorem d_Reckoner_divide_12 : decode m_Reckoner_divide.2.1 12 = .ok (.getfield 23, 3) := by decide +kernel
theorem d_Reckoner_divide_15 : decode m_Reckoner_divide.2.1 15 = .ok (.aload_n 2, 1) := by decide +kernel
theorem d_Reckoner_divide_16 : decode m_Reckoner_divide.2.1 16 = .ok (.getfield 23, 3) := by decide +kernel
theorem d_Reckoner_divide_19 : decode m_Reckoner_divide.2.1 19 = .ok (.if_icmp .ge 4, 3) := by decide +kernel
theorem d_Reckoner_divide_22 : decode m_Reckoner_divide.2.1 22 = .ok (.return_, 1) := by decide +kernel
theorem d_Reckoner_divide_23 : decode m_Reckoner_divide.2.1 23 = .ok (.aload_n 0, 1) := by decide +kernel
theorem d_Reckoner_divide_24 : decode m_Reckoner_divide.2.1 24 = .ok (.aload_n 1, 1) := by decide +kernel
theorem d_Reckoner_divide_25 : decode m_Reckoner_divide.2.1 25 = .ok (.getfield 23, 3) := by decide +kernel
theorem d_Reckoner_divide_28 : decode m_Reckoner_divide.2.1 28 = .ok (.iconst 1, 1) := by decide +kernel
theorem d_Reckoner_divide_29 : decode m_Reckoner_divide.2.1 29 = .ok (.iadd, 1) := by decide +kernel
theorem d_Reckoner_divide_30 : decode m_Reckoner_divide.2.1 30 = .ok (.putfield 50, 3) := by decide +kernel
theorem d_Reckoner_divide_33 : decode m_Reckoner_divide.2.1 33 = .ok (.iconst 0, 1) := by decide +kernel
theorem d_Reckoner_divide_34 : decode m_Reckoner_divide.2.1 34 = .ok (.istore 4, 2) := by decide +kernel
theorem d_Reckoner_divide_36 : decode m_Reckoner_divide.2.1 36 = .ok (.iload 4, 2) := by decide +kernel
theorem d_Reckoner_divide_38 : decode m_Reckoner_divide.2.1 38 = .ok (.aload_n 0, 1) := by decide +kernel
theorem d_Reckoner_divide_39 : decode m_Reckoner_divide.2.1 39 = .ok (.getfield 50, 3) := by decide +kernel
theorem d_Reckoner_divide_42 : decode m_Reckoner_divide.2.1 42 = .ok (.if_icmp .ge 36, 3) := by decide +kernel
theorem d_Reckoner_divide_45 : decode m_Reckoner_divide.2.1 45 = .ok (.aload_n 0, 1) := by decide +kernel
theorem d_Reckoner_divide_46 : decode m_Reckoner_divide.2.1 46 = .ok (.getfield 15, 3) := by decide +kernel
theorem d_Reckoner_divide_49 : decode m_Reckoner_divide.2.1 49 = .ok (.iload 4, 2) := by decide +kernel
theorem d_Reckoner_divide_51 : decode m_Reckoner_divide.2.1 51 = .ok (.iload 4, 2) := by decide +kernel
theorem d_Reckoner_divide_53 : decode m_Reckoner_divide.2.1 53 = .ok (.aload_n 1, 1) := by decide +kernel
theorem d_Reckoner_divide_54 : decode m_Reckoner_divide.2.1 54 = .ok (.getfield 23, 3) := by decide +kernel
theorem d_Reckoner_divide_57 : decode m_Reckoner_divide.2.1 57 = .ok (.if_icmp .ge 13, 3) := by decide +kernel
theorem d_Reckoner_divide_60 : decode m_Reckoner_divide.2.1 60 = .ok (.aload_n 1, 1) := by decide +kernel
theorem d_Reckoner_divide_61 : decode m_Reckoner_divide.2.1 61 = .ok (.getfield 30, 3) := by decide +kernel
theorem d_Reckoner_divide_64 : decode m_Reckoner_divide.2.1 64 = .ok (.iload 4, 2) := by decide +kernel
theorem d_Reckoner_divide_66 : decode m_Reckoner_divide.2.1 66 = .ok (.iaload, 1) := by decide +kernel
theorem d_Reckoner_divide_67 : decode m_Reckoner_divide.2.1 67 = .ok (.goto 4, 3) := by decide +kernel
theorem d_Reckoner_divide_70 : decode m_Reckoner_divide.2.1 70 = .ok (.iconst 0, 1) := by decide +kernel
theorem d_Reckoner_divide_71 : decode m_Reckoner_divide.2.1 71 = .ok (.iastore, 1) := by decide +kernel
theorem d_Reckoner_divide_72 : decode m_Reckoner_divide.2.1 72 = .ok (.iinc 4 1, 3) := by decide +kernel
theorem d_Reckoner_divide_75 : decode m_Reckoner_divide.2.1 75 = .ok (.goto (-39), 3) := by decide +kernel
theorem d_Reckoner_divide_78 : decode m_Reckoner_divide.2.1 78 = .ok (.aload_n 3, 1) := by decide +kernel
theorem d_Reckoner_divide_79 : decode m_Reckoner_divide.2.1 79 = .ok (.aload_n 1, 1) := by decide +kernel
theorem d_Reckoner_divide_80 : decode m_Reckoner_divide.2.1 80 = .ok (.getfield 23, 3) := by decide +kernel
theorem d_Reckoner_divide_83 : decode m_Reckoner_divide.2.1 83 = .ok (.aload_n 2, 1) := by decide +kernel
theorem d_Reckoner_divide_84 : decode m_Reckoner_divide.2.1 84 = .ok (.getfield 23, 3) := by decide +kernel
theorem d_Reckoner_divide_87 : decode m_Reckoner_divide.2.1 87 = .ok (.isub, 1) := by decide +kernel
theorem d_Reckoner_divide_88 : decode m_Reckoner_divide.2.1 88 = .ok (.iconst 1, 1) := by decide +kernel
theorem d_Reckoner_divide_89 : decode m_Reckoner_divide.2.1 89 = .ok (.iadd, 1) := by decide +kernel
theorem d_Reckoner_divide_90 : decode m_Reckoner_divide.2.1 90 = .ok (.putfield 23, 3) := by decide +kernel
theorem d_Reckoner_divide_93 : decode m_Reckoner_divide.2.1 93 = .ok (.aload_n 3, 1) := by decide +kernel
theorem d_Reckoner_divide_94 : decode m_Reckoner_divide.2.1 94 = .ok (.getfield 23, 3) := by decide +kernel
theorem d_Reckoner_divide_97 : decode m_Reckoner_divide.2.1 97 = .ok (.iconst 1, 1) := by decide +kernel
theorem d_Reckoner_divide_98 : decode m_Reckoner_divide.2.1 98 = .ok (.isub, 1) := by decide +kernel
theorem d_Reckoner_divide_99 : decode m_Reckoner_divide.2.1 99 = .ok (.istore 4, 2) := by decide +kernel
theorem d_Reckoner_divide_101 : decode m_Reckoner_divide.2.1 101 = .ok (.iload 4, 2) := by decide +kernel
theorem d_Reckoner_divide_103 : decode m_Reckoner_divide.2.1 103 = .ok (.ifCond .lt 97, 3) := by decide +kernel
theorem d_Reckoner_divide_106 : decode m_Reckoner_divide.2.1 106 = .ok (.lconst 0, 1) := by decide +kernel
theorem d_Reckoner_divide_107 : decode m_Reckoner_divide.2.1 107 = .ok (.lstore 5, 2) := by decide +kernel
theorem d_Reckoner_divide_109 : decode m_Reckoner_divide.2.1 109 = .ok (.ldc2_w 53, 3) := by decide +kernel
theorem d_Reckoner_divide_112 : decode m_Reckoner_divide.2.1 112 = .ok (.lstore 7, 2) := by decide +kernel
theorem d_Reckoner_divide_114 : decode m_Reckoner_divide.2.1 114 = .ok (.lload 5, 2) := by decide +kernel
theorem d_Reckoner_divide_116 : decode m_Reckoner_divide.2.1 116 = .ok (.lload 7, 2) := by decide +kernel
theorem d_Reckoner_divide_118 : decode m_Reckoner_divide.2.1 118 = .ok (.lcmp, 1) := by decide +kernel
theorem d_Reckoner_divide_119 : decode m_Reckoner_divide.2.1 119 = .ok (.ifCond .ge 42, 3) := by decide +kernel
theorem d_Reckoner_divide_122 : decode m_Reckoner_divide.2.1 122 = .ok (.lload 5, 2) := by decide +kernel
theorem d_Reckoner_divide_124 : decode m_Reckoner_divide.2.1 124 = .ok (.lload 7, 2) := by decide +kernel
theorem d_Reckoner_divide_126 : decode m_Reckoner_divide.2.1 126 = .ok (.ladd, 1) := by decide +kernel
theorem d_Reckoner_divide_127 : decode m_Reckoner_divide.2.1 127 = .ok (.lconst 1, 1) := by decide +kernel
theorem d_Reckoner_divide_128 : decode m_Reckoner_divide.2.1 128 = .ok (.ladd, 1) := by decide +kernel
theorem d_Reckoner_divide_129 : decode m_Reckoner_divide.2.1 129 = .ok (.iconst 1, 1) := by decide +kernel
theorem d_Reckoner_divide_130 : decode m_Reckoner_divide.2.1 130 = .ok (.lshr, 1) := by decide +kernel
theorem d_Reckoner_divide_131 : decode m_Reckoner_divide.2.1 131 = .ok (.lstore 9, 2) := by decide +kernel
theorem d_Reckoner_divide_133 : decode m_Reckoner_divide.2.1 133 = .ok (.aload_n 0, 1) := by decide +kernel
theorem d_Reckoner_divide_134 : decode m_Reckoner_divide.2.1 134 = .ok (.aload_n 2, 1) := by decide +kernel
theorem d_Reckoner_divide_135 : decode m_Reckoner_divide.2.1 135 = .ok (.iload 4, 2) := by decide +kernel
theorem d_Reckoner_divide_137 : decode m_Reckoner_divide.2.1 137 = .ok (.lload 9, 2) := by decide +kernel
theorem d_Reckoner_divide_139 : decode m_Reckoner_divide.2.1 139 = .ok (.invokevirtual 55, 3) := by decide +kernel
theorem d_Reckoner_divide_142 : decode m_Reckoner_divide.2.1 142 = .ok (.ifCond .eq 10, 3) := by decide +kernel
theorem d_Reckoner_divide_145 : decode m_Reckoner_divide.2.1 145 = .ok (.lload 9, 2) := by decide +kernel
theorem d_Reckoner_divide_147 : decode m_Reckoner_divide.2.1 147 = .ok (.lstore 5, 2) := by decide +kernel
theorem d_Reckoner_divide_149 : decode m_Reckoner_divide.2.1 149 = .ok (.goto 9, 3) := by decide +kernel
theorem d_Reckoner_divide_152 : decode m_Reckoner_divide.2.1 152 = .ok (.lload 9, 2) := by decide +kernel
theorem d_Reckoner_divide_154 : decode m_Reckoner_divide.2.1 154 = .ok (.lconst 1, 1) := by decide +kernel
theorem d_Reckoner_divide_155 : decode m_Reckoner_divide.2.1 155 = .ok (.lsub, 1) := by decide +kernel
theorem d_Reckoner_divide_156 : decode m_Reckoner_divide.2.1 156 = .ok (.lstore 7, 2) := by decide +kernel
theorem d_Reckoner_divide_158 : decode m_Reckoner_divide.2.1 158 = .ok (.goto (-44), 3) := by decide +kernel
theorem d_Reckoner_divide_161 : decode m_Reckoner_divide.2.1 161 = .ok (.aload_n 0, 1) := by decide +kernel
theorem d_Reckoner_divide_162 : decode m_Reckoner_divide.2.1 162 = .ok (.aload_n 2, 1) := by decide +kernel
theorem d_Reckoner_divide_163 : decode m_Reckoner_divide.2.1 163 = .ok (.iload 4, 2) := by decide +kernel
theorem d_Reckoner_divide_165 : decode m_Reckoner_divide.2.1 165 = .ok (.lload 5, 2) := by decide +kernel
theorem d_Reckoner_divide_167 : decode m_Reckoner_divide.2.1 167 = .ok (.invokevirtual 55, 3) := by decide +kernel
theorem d_Reckoner_divide_170 : decode m_Reckoner_divide.2.1 170 = .ok (.istore 9, 2) := by decide +kernel
theorem d_Reckoner_divide_172 : decode m_Reckoner_divide.2.1 172 = .ok (.iload 9, 2) := by decide +kernel
theorem d_Reckoner_divide_174 : decode m_Reckoner_divide.2.1 174 = .ok (.ifCond .eq 10, 3) := by decide +kernel
theorem d_Reckoner_divide_177 : decode m_Reckoner_divide.2.1 177 = .ok (.aload_n 0, 1) := by decide +kernel
theorem d_Reckoner_divide_178 : decode m_Reckoner_divide.2.1 178 = .ok (.aload_n 2, 1) := by decide +kernel
theorem d_Reckoner_divide_179 : decode m_Reckoner_divide.2.1 179 = .ok (.iload 4, 2) := by decide +kernel
theorem d_Reckoner_divide_181 : decode m_Reckoner_divide.2.1 181 = .ok (.invokevirtual 59, 3) := by decide +kernel
theorem d_Reckoner_divide_184 : decode m_Reckoner_divide.2.1 184 = .ok (.aload_n 3, 1) := by decide +kernel
theorem d_Reckoner_divide_185 : decode m_Reckoner_divide.2.1 185 = .ok (.getfield 30, 3) := by decide +kernel
theorem d_Reckoner_divide_188 : decode m_Reckoner_divide.2.1 188 = .ok (.iload 4, 2) := by decide +kernel
theorem d_Reckoner_divide_190 : decode m_Reckoner_divide.2.1 190 = .ok (.lload 5, 2) := by decide +kernel
theorem d_Reckoner_divide_192 : decode m_Reckoner_divide.2.1 192 = .ok (.l2i, 1) := by decide +kernel
theorem d_Reckoner_divide_193 : decode m_Reckoner_divide.2.1 193 = .ok (.iastore, 1) := by decide +kernel
theorem d_Reckoner_divide_194 : decode m_Reckoner_divide.2.1 194 = .ok (.iinc 4 (-1), 3) := by decide +kernel
theorem d_Reckoner_divide_197 : decode m_Reckoner_divide.2.1 197 = .ok (.goto (-96), 3) := by decide +kernel
theorem d_Reckoner_divide_200 : decode m_Reckoner_divide.2.1 200 = .ok (.aload_n 3, 1) := by decide +kernel
theorem d_Reckoner_divide_201 : decode m_Reckoner_divide.2.1 201 = .ok (.aload_n 1, 1) := by decide +kernel
theorem d_Reckoner_divide_202 : decode m_Reckoner_divide.2.1 202 = .ok (.getfield 35, 3) := by decide +kernel
theorem d_Reckoner_divide_205 : decode m_Reckoner_divide.2.1 205 = .ok (.aload_n 2, 1) := by decide +kernel
theorem d_Reckoner_divide_206 : decode m_Reckoner_divide.2.1 206 = .ok (.getfield 35, 3) := by decide +kernel
theorem d_Reckoner_divide_209 : decode m_Reckoner_divide.2.1 209 = .ok (.if_icmp .eq 7, 3) := by decide +kernel
theorem d_Reckoner_divide_212 : decode m_Reckoner_divide.2.1 212 = .ok (.iconst 1, 1) := by decide +kernel
theorem d_Reckoner_divide_213 : decode m_Reckoner_divide.2.1 213 = .ok (.goto 4, 3) := by decide +kernel
theorem d_Reckoner_divide_216 : decode m_Reckoner_divide.2.1 216 = .ok (.iconst 0, 1) := by decide +kernel
theorem d_Reckoner_divide_217 : decode m_Reckoner_divide.2.1 217 = .ok (.putfield 35, 3) := by decide +kernel
theorem d_Reckoner_divide_220 : decode m_Reckoner_divide.2.1 220 = .ok (.aload_n 3, 1) := by decide +kernel
theorem d_Reckoner_divide_221 : decode m_Reckoner_divide.2.1 221 = .ok (.invokevirtual 39, 3) := by decide +kernel
theorem d_Reckoner_divide_224 : decode m_Reckoner_divide.2.1 224 = .ok (.return_, 1) := by decide +kernel
theorem BigS.rk {R : MR} {T : SH} {a q : Nat} (ha : BigS R T a) (hq : RkS R T q) : a ≠ q ∧ a ≠ q + 1 ∧ a ≠ q + 2 ∧ a ≠ q + 3 ∧ a + 1 ≠ q ∧ a + 1 ≠ q + 1 ∧ a + 1 ≠ q + 2 ∧ a + 1 ≠ q + 3 := by
  obtain ⟨a1, -, a3, -⟩ := ha
  obtain ⟨q1, -, -, -, q5, -, q7, -, q9, -⟩ := hq
  have h0 : a ≠ q := fun e => by rw [e, q1] at a1; cases a1
  have h1 : a ≠ q + 1 := fun e => by rw [e, q5] at a1; cases a1
  have h2 : a ≠ q + 2 := fun e => by rw [e, q7] at a1; cases a1
  have h3 : a ≠ q + 3 := fun e => by rw [e, q9] at a1; cases a1
  have h4 : a + 1 ≠ q := fun e => by rw [e, q1] at a3; cases a3
  exact ⟨h0, h1, h2, h3, h4, by omega, by omega, by omega⟩
section
variable {Y : MI} {d rc rs pc : Nat} {lv : List (Nat × Value)} {st : List Value} {I : M32} {L : M64} {R : MR} {T : SH} {Q : QT}
/-- callees that change L alone -/
theorem kl_V {P : M64 → Prop} {rest : List Value} (k : ∀ L', P L' → Run Y d rc rs pc lv rest I L' R T Q) : ∀ v I' L' R' T', (rV fun I' L' R' T' => P L' ∧ I' = I ∧ R' = R ∧ T' = T) (.returned v) I' L' R' T' → Run Y d rc rs pc lv (v.toList ++ rest) I' L' R' T' Q := by
  rintro v I' L' R' T' ⟨h, hp, rfl, rfl, rfl⟩
  cases h
  exact k L' hp
theorem kl_I {P : Int32 → M64 → Prop} {rest : List Value} (k : ∀ r L', P r L' → Run Y d rc rs pc lv (.int r :: rest) I L' R T Q) : ∀ v I' L' R' T', (rI fun r I' L' R' T' => P r L' ∧ I' = I ∧ R' = R ∧ T' = T) (.returned v) I' L' R' T' → Run Y d rc rs pc lv (v.toList ++ rest) I' L' R' T' Q := by
  rintro v I' L' R' T' ⟨r, h, hp, rfl, rfl, rfl⟩
  cases h
  exact k r L' hp
end
/-- the row 'left' holds the places of y -/
def LfB (I : M32) (q N y : Nat) : Prop := ∀ k, k < N → I (q + 2) k = cI (dg y k)
theorem dg_shift (y a k : Nat) : dg (y / B9 ^ a) k = dg y (a + k) := by
  unfold dg; rw [Nat.div_div_eq_div_mul, ← Nat.pow_add]
/-- one step of a product by one place -/
theorem scal_step {x s k c q : Nat} (h : s + c * B9 ^ k = lo x k * q) (hs : s < B9 ^ k) (hc : c < B9) (hq : q < B9) :
    dg x k * q + c ≤ 999999999999999999 ∧ (dg x k * q + c) / 1000000000 < B9 ∧ s + (dg x k * q + c) % 1000000000 * B9 ^ k < B9 ^ (k + 1) ∧ (s + (dg x k * q + c) % 1000000000 * B9 ^ k) + (dg x k * q + c) / 1000000000 * B9 ^ (k + 1) = lo x (k + 1) * q := by
  have h1 := dg_lt x k
  have h2 : dg x k * q ≤ 999999999 * 999999999 := Nat.mul_le_mul (by omega) (by show q ≤ 999999999; have : q < 1000000000 := hq; omega)
  have hc' : c < 1000000000 := hc
  generalize hu : dg x k * q + c = u at *
  refine ⟨by omega, by show _ < 1000000000; omega, add_lt9 hs (Nat.mod_lt _ (by decide)), ?_⟩
  rw [lo_s, Nat.add_mul, ← h, Nat.pow_succ]
  have e : u / 1000000000 * (B9 ^ k * B9) = u / 1000000000 * 1000000000 * B9 ^ k := by show u / 1000000000 * (B9 ^ k * 1000000000) = _; ac_rfl
  rw [e, Nat.add_assoc, ← Nat.add_mul, show u % 1000000000 + u / 1000000000 * 1000000000 = u by omega, ← hu, Nat.add_mul]
  have e2 : dg x k * B9 ^ k * q = dg x k * q * B9 ^ k := by ac_rfl
  omega
theorem c_Reckoner_takes (d : Nat) {q b m x at_ qq N y : Nat} {I : M32} {L : M64} {R : MR} {T : SH} (hQ0 : RkS R T q) (hB : BigS R T b) (hX : BigN I b m x) (hm : m ≤ 35) (hL : LfB I q N y) (hN : N ≤ 72) (ha : at_ + m + 1 ≤ N) (hy : y < B9 ^ (at_ + m + 1)) (hqq : qq < B9) :
    Call m_Reckoner_takes y_Reckoner_takes d 0 0 [.ref q, .ref b, .int (cI at_), .long (cL qq)] I L R T (rI fun r I' L' R' T' => (r = cI (bI (x * qq ≤ y / B9 ^ at_)) ∧ FrL (q + 1) L L' ∧ (x * qq ≤ y / B9 ^ at_ → ∀ k, k ≤ m → L' (q + 1) k = cL (dg (x * qq) k))) ∧ I' = I ∧ R' = R ∧ T' = T) := by
  refine Call.ofRun (by decide) ⟨rfl, rfl⟩ (Nat.le_of_ble_eq_true rfl) ?_
  refine Run.gen fun Q hQ => ?_
  have hY : y / B9 ^ at_ < B9 ^ (m + 1) := by
    rw [Nat.div_lt_iff_lt_mul (pow9_pos _), ← Nat.pow_add, show m + 1 + at_ = at_ + m + 1 by omega]; exact hy
  refine j_lconst (z := 0) d_Reckoner_takes_0 (by decide) ?_
  refine q_lstore (lv' := [(5, .long (cL 0)), (0, .ref q), (1, .ref b), (2, .int (cI (at_ : Int))), (3, .long (cL (qq : Int)))]) d_Reckoner_takes_1 (by decide) rfl ?_
  refine q_aload_n d_Reckoner_takes_3 rfl ?_
  refine j_getI (v := (cI (m : Int))) d_Reckoner_takes_4 fl_Reckoner_23 hB.1 ⟨rfl, by decide⟩ hX.2.2.1 ?_
  refine j_iconst d_Reckoner_takes_7 ?_
  refine j_iadd d_Reckoner_takes_8 ?_
  refine q_istore (lv' := [(7, .int (cI ((m : Int) + 1))), (5, .long (cL 0)), (0, .ref q), (1, .ref b), (2, .int (cI (at_ : Int))), (3, .long (cL (qq : Int)))]) d_Reckoner_takes_9 (by decide) rfl ?_
  refine j_iconst d_Reckoner_takes_11 ?_
  refine q_istore (lv' := [(8, .int (cI 0)), (7, .int (cI ((m : Int) + 1))), (5, .long (cL 0)), (0, .ref q), (1, .ref b), (2, .int (cI (at_ : Int))), (3, .long (cL (qq : Int)))]) d_Reckoner_takes_12 (by decide) rfl ?_
  have cmp : ∀ (f k : Nat) (z e : Int) (K : M64), k < f → z = (k : Int) - 1 → k ≤ m + 1 → x * qq < B9 ^ (m + 1) → (∀ j, j ≤ m → K (q + 1) j = cL (dg (x * qq) j)) → FrL (q + 1) L K → y / B9 ^ at_ / B9 ^ k = x * qq / B9 ^ k → Run m_Reckoner_takes d 0 0 91 [(0, .ref q), (1, .ref b), (2, .int (cI (at_ : Int))), (3, .long (cL (qq : Int))), (5, .long (cL e)), (7, .int (cI ((m : Int) + 1))), (8, .int (cI z))] [] I K R T Q := by
    intro f
    induction f with
    | zero => intro k z e K h; omega
    | succ f ih =>
    intro k z e K hf hz hk hP hD hF he
    refine q_iload d_Reckoner_takes_91 rfl ?_
    refine j_if_lt (tgt := 150) d_Reckoner_takes_93 (by decide) (by omega) (fun h1 => ?_) (fun h1 => ?_)
    · skip
      obtain rfl : k = 0 := by omega
      simp only [Nat.pow_zero, Nat.div_one] at he
      refine j_iconst d_Reckoner_takes_150 ?_
      refine q_ireturn d_Reckoner_takes_151 rfl (narrow_z (Or.inr rfl)).1 ?_
      refine hQ _ _ _ _ _ ?_
      exact ⟨_, rfl, ⟨by rw [bI_t (by omega)], hF, fun _ => hD⟩, rfl, rfl, rfl⟩
    obtain ⟨j, rfl⟩ : ∃ j, k = j + 1 := ⟨k - 1, by omega⟩
    obtain rfl : z = (j : Int) := by omega
    have g1 := dg_lt y (at_ + j)
    have g2 := dg_lt (x * qq) j
    have cs := cmp_step he
    have cs2 := cmp_step he.symm
    rw [dg_shift] at cs cs2
    refine q_aload_n d_Reckoner_takes_96 rfl ?_
    refine q_getR d_Reckoner_takes_97 fl_Reckoner_15 hQ0.1 ⟨rfl, by decide⟩ hQ0.2.2.1 ?_
    refine q_iload_n d_Reckoner_takes_100 rfl ?_
    refine q_iload d_Reckoner_takes_101 rfl ?_
    refine j_iadd d_Reckoner_takes_103 ?_
    refine j_iald (j := (at_ + j)) (v := (cI (dg y (at_ + j) : Int))) d_Reckoner_takes_104 hQ0.2.2.2.2.2.2.1 hQ0.2.2.2.2.2.2.2.1 (by omega) (by omega) (by omega) (hL _ (by omega)) ?_
    refine j_i2l d_Reckoner_takes_105 (by omega) ?_
    refine q_aload_n d_Reckoner_takes_106 rfl ?_
    refine q_getR d_Reckoner_takes_107 fl_Reckoner_9 hQ0.1 ⟨rfl, by decide⟩ hQ0.2.1 ?_
    refine q_iload d_Reckoner_takes_110 rfl ?_
    refine j_lald (j := j) (v := (cL (dg (x * qq) j : Int))) d_Reckoner_takes_112 hQ0.2.2.2.2.1 hQ0.2.2.2.2.2.1 (by omega) (by omega) (by omega) (hD j (by omega)) ?_
    refine j_lcmp_eq (tgt := 144) d_Reckoner_takes_113 d_Reckoner_takes_114 (by decide) (by omega) (by omega) (fun h2 => ?_) (fun h2 => ?_)
    · skip
      refine j_iinc (lv' := [(8, .int (cI ((j : Int) + (-1)))), (0, .ref q), (1, .ref b), (2, .int (cI (at_ : Int))), (3, .long (cL (qq : Int))), (5, .long (cL e)), (7, .int (cI ((m : Int) + 1)))]) d_Reckoner_takes_144 rfl (by decide) rfl ?_
      refine q_goto (tgt := 91) d_Reckoner_takes_147 (by decide) ?_
      refine Run.lv (lv' := [(0, .ref q), (1, .ref b), (2, .int (cI (at_ : Int))), (3, .long (cL (qq : Int))), (5, .long (cL e)), (7, .int (cI ((m : Int) + 1))), (8, .int (cI ((j : Int) + (-1))))]) (by intro q hq; simp only [List.mem_cons, List.not_mem_nil, or_false] at hq ⊢; rcases hq with rfl | rfl | rfl | rfl | rfl | rfl | rfl <;> simp) ?_
      exact ih j _ e K (by omega) (by omega) (by omega) hP hD hF (cs.2 (by omega))
    refine q_aload_n d_Reckoner_takes_117 rfl ?_
    refine q_getR d_Reckoner_takes_118 fl_Reckoner_15 hQ0.1 ⟨rfl, by decide⟩ hQ0.2.2.1 ?_
    refine q_iload_n d_Reckoner_takes_121 rfl ?_
    refine q_iload d_Reckoner_takes_122 rfl ?_
    refine j_iadd d_Reckoner_takes_124 ?_
    refine j_iald (j := (at_ + j)) (v := (cI (dg y (at_ + j) : Int))) d_Reckoner_takes_125 hQ0.2.2.2.2.2.2.1 hQ0.2.2.2.2.2.2.2.1 (by omega) (by omega) (by omega) (hL _ (by omega)) ?_
    refine j_i2l d_Reckoner_takes_126 (by omega) ?_
    refine q_aload_n d_Reckoner_takes_127 rfl ?_
    refine q_getR d_Reckoner_takes_128 fl_Reckoner_9 hQ0.1 ⟨rfl, by decide⟩ hQ0.2.1 ?_
    refine q_iload d_Reckoner_takes_131 rfl ?_
    refine j_lald (j := j) (v := (cL (dg (x * qq) j : Int))) d_Reckoner_takes_133 hQ0.2.2.2.2.1 hQ0.2.2.2.2.2.1 (by omega) (by omega) (by omega) (hD j (by omega)) ?_
    suffices J : ∀ (u : Int), ((((dg y (at_ + j) : Int) ≤ (dg (x * qq) j : Int)) ∧ u = 0) ∨ (((dg (x * qq) j : Int) < (dg y (at_ + j) : Int)) ∧ u = 1)) → Run m_Reckoner_takes d 0 0 143 [(0, .ref q), (1, .ref b), (2, .int (cI (at_ : Int))), (3, .long (cL (qq : Int))), (5, .long (cL e)), (7, .int (cI ((m : Int) + 1))), (8, .int (cI (j : Int)))] [.int (cI u)] I K R T Q by
      refine j_lcmp_le (tgt := 142) d_Reckoner_takes_134 d_Reckoner_takes_135 (by decide) (by omega) (by omega) (fun hp1 => ?_) (fun hp1 => ?_)
      · refine j_iconst d_Reckoner_takes_142 ?_
        exact J _ (Or.inl ⟨hp1, rfl⟩)
      · refine j_iconst d_Reckoner_takes_138 ?_
        refine q_goto (tgt := 143) d_Reckoner_takes_139 (by decide) ?_
        exact J _ (Or.inr ⟨hp1, rfl⟩)
    intro u hu
    refine q_ireturn d_Reckoner_takes_143 rfl (narrow_z (z01 (by omega))).1 ?_
    refine hQ _ _ _ _ _ ?_
    refine ⟨_, rfl, ⟨?_, hF, fun _ => hD⟩, rfl, rfl, rfl⟩
    rcases hu with ⟨h3, e⟩ | ⟨h3, e⟩
    · have := cs.1 (by omega)
      rw [e, bI_f (by omega)]
    · have := cs2.1 (by omega)
      rw [e, bI_t (by omega)]
  have loop : ∀ (f k c s : Nat) (z e : Int) (K : M64), m + 1 - k < f → z = k → e = c → k ≤ m + 1 → c < B9 → s < B9 ^ k → s + c * B9 ^ k = lo x k * qq → (∀ j, j < k → K (q + 1) j = cL (dg s j)) → FrL (q + 1) L K → Run m_Reckoner_takes d 0 0 14 [(0, .ref q), (1, .ref b), (2, .int (cI (at_ : Int))), (3, .long (cL (qq : Int))), (5, .long (cL e)), (7, .int (cI ((m : Int) + 1))), (8, .int (cI z))] [] I K R T Q := by
    intro f
    induction f with
    | zero => intro k c s z e K h; omega
    | succ f ih =>
    intro k c s z e K hf hz he hk hc hs hsum hD hF
    subst hz he
    have hcn : c < 1000000000 := hc
    refine q_iload d_Reckoner_takes_14 rfl ?_
    refine q_iload d_Reckoner_takes_16 rfl ?_
    refine j_icmp_ge (tgt := 76) d_Reckoner_takes_18 (by decide) (by omega) (by omega) (fun h1 => ?_) (fun h1 => ?_)
    · skip
      obtain rfl : k = m + 1 := by omega
      rw [lo_all (Nat.lt_of_lt_of_le hX.1 (Nat.pow_le_pow_right (by decide) (Nat.le_succ m)))] at hsum
      refine q_lload d_Reckoner_takes_76 rfl ?_
      refine j_lconst (z := 0) d_Reckoner_takes_78 (by decide) ?_
      refine j_lcmp_le (tgt := 85) d_Reckoner_takes_79 d_Reckoner_takes_80 (by decide) (by omega) (by omega) (fun h2 => ?_) (fun h2 => ?_)
      rotate_left
      · skip
        have hbig : ¬ x * qq ≤ y / B9 ^ at_ := by
          have : B9 ^ (m + 1) ≤ c * B9 ^ (m + 1) := Nat.le_mul_of_pos_left _ (by omega)
          omega
        refine j_iconst d_Reckoner_takes_83 ?_
        refine q_ireturn d_Reckoner_takes_84 rfl (narrow_z (Or.inl rfl)).1 ?_
        refine hQ _ _ _ _ _ ?_
        exact ⟨_, rfl, ⟨by rw [bI_f hbig], hF, fun h => absurd h hbig⟩, rfl, rfl, rfl⟩
      have hc0 : c = 0 := by omega
      have hsx : s = x * qq := by rw [hc0] at hsum; omega
      refine q_iload d_Reckoner_takes_85 rfl ?_
      refine j_iconst d_Reckoner_takes_87 ?_
      refine j_isub d_Reckoner_takes_88 ?_
      refine q_istore (lv' := [(8, .int (cI (((m : Int) + 1) - 1))), (0, .ref q), (1, .ref b), (2, .int (cI (at_ : Int))), (3, .long (cL (qq : Int))), (5, .long (cL (c : Int))), (7, .int (cI ((m : Int) + 1)))]) d_Reckoner_takes_89 (by decide) rfl ?_
      refine Run.lv (lv' := [(0, .ref q), (1, .ref b), (2, .int (cI (at_ : Int))), (3, .long (cL (qq : Int))), (5, .long (cL (c : Int))), (7, .int (cI ((m : Int) + 1))), (8, .int (cI (((m : Int) + 1) - 1)))]) (by intro q hq; simp only [List.mem_cons, List.not_mem_nil, or_false] at hq ⊢; rcases hq with rfl | rfl | rfl | rfl | rfl | rfl | rfl <;> simp) ?_
      exact cmp (m + 2) (m + 1) _ _ K (by omega) (by omega) (Nat.le_refl _) (by rw [← hsx]; exact hs) (fun j hj => by rw [hD j (by omega), hsx]) hF (by rw [Nat.div_eq_of_lt hY, Nat.div_eq_of_lt (by rw [← hsx]; exact hs)])
    obtain ⟨s1, s2, s3, s4⟩ := scal_step hsum hs hc hqq
    have g1 := dg_lt x k
    obtain ⟨p, hp⟩ : ∃ p, p = dg x k * qq + c := ⟨_, rfl⟩
    rw [← hp] at s1 s2 s3 s4
    refine q_iload d_Reckoner_takes_21 rfl ?_
    refine q_aload_n d_Reckoner_takes_23 rfl ?_
    refine j_getI (v := (cI (m : Int))) d_Reckoner_takes_24 fl_Reckoner_23 hB.1 ⟨rfl, by decide⟩ hX.2.2.1 ?_
    suffices J : ∀ (u : Int), ((((m : Int) ≤ (k : Int)) ∧ u = 0) ∨ (((k : Int) < (m : Int)) ∧ u = ((dg x k : Int) * (qq : Int)))) → Run m_Reckoner_takes d 0 0 44 [(0, .ref q), (1, .ref b), (2, .int (cI (at_ : Int))), (3, .long (cL (qq : Int))), (5, .long (cL (c : Int))), (7, .int (cI ((m : Int) + 1))), (8, .int (cI (k : Int)))] [.long (cL u)] I K R T Q by
      refine j_icmp_ge (tgt := 43) d_Reckoner_takes_27 (by decide) (by omega) (by omega) (fun hp2 => ?_) (fun hp2 => ?_)
      · refine j_lconst (z := 0) d_Reckoner_takes_43 (by decide) ?_
        exact J _ (Or.inl ⟨hp2, rfl⟩)
      · refine q_aload_n d_Reckoner_takes_30 rfl ?_
        refine q_getR d_Reckoner_takes_31 fl_Reckoner_30 hB.1 ⟨rfl, by decide⟩ hB.2.1 ?_
        refine q_iload d_Reckoner_takes_34 rfl ?_
        refine j_iald (j := k) (v := (cI (dg x k : Int))) d_Reckoner_takes_36 hB.2.2.1 hB.2.2.2 (by omega) (by omega) (by omega) (hX.2.2.2 k (by omega)) ?_
        refine j_i2l d_Reckoner_takes_37 (by omega) ?_
        refine q_lload_n d_Reckoner_takes_38 rfl ?_
        refine j_lmul d_Reckoner_takes_39 ?_
        refine q_goto (tgt := 44) d_Reckoner_takes_40 (by decide) ?_
        exact J _ (Or.inr ⟨hp2, rfl⟩)
    intro u hu
    refine q_lload d_Reckoner_takes_44 rfl ?_
    refine j_ladd d_Reckoner_takes_46 ?_
    have hu2 : u + (c : Int) = (p : Int) := by
      rcases hu with ⟨h3, e⟩ | ⟨h3, e⟩
      · rw [e, hp, dg_big hX.1 (by omega)]; simp
      · rw [e, hp]; simp
    refine Run.top (v := .long (cL (p : Int))) (by rw [hu2]) ?_
    refine q_lstore (lv' := [(9, .long (cL (p : Int))), (0, .ref q), (1, .ref b), (2, .int (cI (at_ : Int))), (3, .long (cL (qq : Int))), (5, .long (cL (c : Int))), (7, .int (cI ((m : Int) + 1))), (8, .int (cI (k : Int)))]) d_Reckoner_takes_47 (by decide) rfl ?_
    refine q_aload_n d_Reckoner_takes_49 rfl ?_
    refine q_getR d_Reckoner_takes_50 fl_Reckoner_9 hQ0.1 ⟨rfl, by decide⟩ hQ0.2.1 ?_
    refine q_iload d_Reckoner_takes_53 rfl ?_
    refine q_lload d_Reckoner_takes_55 rfl ?_
    refine j_ldc2 (z := 1000000000) d_Reckoner_takes_57 (inT6 147 rfl) (by decide) ?_
    refine j_lrem d_Reckoner_takes_60 (by omega) (by omega) ?_
    refine j_last (j := k) d_Reckoner_takes_61 hQ0.2.2.2.2.1 hQ0.2.2.2.2.2.1 (by omega) (by omega) (by omega) ?_
    refine q_lload d_Reckoner_takes_62 rfl ?_
    refine j_ldc2 (z := 1000000000) d_Reckoner_takes_64 (inT6 147 rfl) (by decide) ?_
    refine j_ldiv d_Reckoner_takes_67 (by omega) (by omega) ?_
    refine q_lstore (lv' := [(5, .long (cL ((p : Int) / 1000000000))), (9, .long (cL (p : Int))), (0, .ref q), (1, .ref b), (2, .int (cI (at_ : Int))), (3, .long (cL (qq : Int))), (7, .int (cI ((m : Int) + 1))), (8, .int (cI (k : Int)))]) d_Reckoner_takes_68 (by decide) rfl ?_
    refine j_iinc (lv' := [(8, .int (cI ((k : Int) + 1))), (5, .long (cL ((p : Int) / 1000000000))), (9, .long (cL (p : Int))), (0, .ref q), (1, .ref b), (2, .int (cI (at_ : Int))), (3, .long (cL (qq : Int))), (7, .int (cI ((m : Int) + 1)))]) d_Reckoner_takes_70 rfl (by decide) rfl ?_
    refine q_goto (tgt := 14) d_Reckoner_takes_73 (by decide) ?_
    refine Run.lv (lv' := [(0, .ref q), (1, .ref b), (2, .int (cI (at_ : Int))), (3, .long (cL (qq : Int))), (5, .long (cL ((p : Int) / 1000000000))), (7, .int (cI ((m : Int) + 1))), (8, .int (cI ((k : Int) + 1)))]) (by intro q hq; simp only [List.mem_cons, List.not_mem_nil, or_false] at hq ⊢; rcases hq with rfl | rfl | rfl | rfl | rfl | rfl | rfl <;> simp) ?_
    refine ih (k + 1) _ _ _ _ _ (by omega) (by omega) (by simp) (by omega) s2 s3 s4 (fun j hj => ?_) (hF.tr FrL.up)
    by_cases e : j = k
    · subst e; rw [up2_s, dg_add_hi hs (Nat.mod_lt _ (by decide))]; congr 1
    · rw [up2_k _ _ _ (by omega), dg_add_lo hs (by omega)]; exact hD j (by omega)
  refine Run.lv (lv' := [(0, .ref q), (1, .ref b), (2, .int (cI (at_ : Int))), (3, .long (cL (qq : Int))), (5, .long (cL 0)), (7, .int (cI ((m : Int) + 1))), (8, .int (cI 0))]) (by intro q hq; simp only [List.mem_cons, List.not_mem_nil, or_false] at hq ⊢; rcases hq with rfl | rfl | rfl | rfl | rfl | rfl | rfl <;> simp) ?_
  exact loop (m + 2) 0 0 0 0 0 L (by omega) rfl rfl (by omega) (by decide) (by simp) (by simp [lo_0]) (fun j hj => by omega) FrL.rf
theorem c_Reckoner_subtract (d : Nat) {q b m x at_ P N y : Nat} {I : M32} {L : M64} {R : MR} {T : SH} (hQ0 : RkS R T q) (hB : BigS R T b) (hX : BigN I b m x) (hm : m ≤ 35) (hL : LfB I q N y) (hN : N ≤ 72) (ha : at_ + m + 1 ≤ N) (hy : y < B9 ^ (at_ + m + 1)) (hD : ∀ k, k ≤ m → L (q + 1) k = cL (dg P k)) (hP : P ≤ y / B9 ^ at_) :
    Call m_Reckoner_subtract y_Reckoner_subtract d 0 0 [.ref q, .ref b, .int (cI at_)] I L R T (rV fun I' L' R' T' => (LfB I' q N (y - P * B9 ^ at_) ∧ ∀ q', q' ≠ q + 2 → I' q' = I q') ∧ L' = L ∧ R' = R ∧ T' = T) := by
  refine Call.ofRun (by decide) ⟨rfl, rfl⟩ (Nat.le_of_ble_eq_true rfl) ?_
  refine Run.gen fun Q hQ => ?_
  obtain ⟨n0, n1, n2, n3, n4, n5, n6, n7⟩ := hB.rk hQ0
  have hY : y / B9 ^ at_ < B9 ^ (m + 1) := by
    rw [Nat.div_lt_iff_lt_mul (pow9_pos _), ← Nat.pow_add, show m + 1 + at_ = at_ + m + 1 by omega]; exact hy
  have hPl : P < B9 ^ (m + 1) := by omega
  refine j_lconst (z := 0) d_Reckoner_subtract_0 (by decide) ?_
  refine q_lstore_n (lv' := [(3, .long (cL 0)), (0, .ref q), (1, .ref b), (2, .int (cI (at_ : Int)))]) d_Reckoner_subtract_1 (by decide) rfl ?_
  refine j_iconst d_Reckoner_subtract_2 ?_
  refine q_istore (lv' := [(5, .int (cI 0)), (3, .long (cL 0)), (0, .ref q), (1, .ref b), (2, .int (cI (at_ : Int)))]) d_Reckoner_subtract_3 (by decide) rfl ?_
  have loop : ∀ (f k c s : Nat) (z e : Int) (J : M32), m + 1 - k < f → z = k → e = c → k ≤ m + 1 → c ≤ 1 → s < B9 ^ k → s + lo P k = lo (y / B9 ^ at_) k + c * B9 ^ k → (∀ j, j < k → J (q + 2) (at_ + j) = cI (dg s j)) → (∀ j, j < at_ ∨ at_ + k ≤ j → J (q + 2) j = I (q + 2) j) → (∀ q', q' ≠ q + 2 → J q' = I q') → Run m_Reckoner_subtract d 0 0 5 [(0, .ref q), (1, .ref b), (2, .int (cI (at_ : Int))), (3, .long (cL e)), (5, .int (cI z))] [] J L R T Q := by
    intro f
    induction f with
    | zero => intro k c s z e J h; omega
    | succ f ih =>
    intro k c s z e J hf hz he hk hc hs hsum hE hR hF
    subst hz he
    refine q_iload d_Reckoner_subtract_5 rfl ?_
    refine q_aload_n d_Reckoner_subtract_7 rfl ?_
    refine j_getI (v := (cI (m : Int))) d_Reckoner_subtract_8 fl_Reckoner_23 hB.1 ⟨rfl, by decide⟩ (by rw [hF b n2]; exact hX.2.2.1) ?_
    refine j_icmp_gt (tgt := 81) d_Reckoner_subtract_11 (by decide) (by omega) (by omega) (fun h1 => ?_) (fun h1 => ?_)
    · skip
      obtain rfl : k = m + 1 := by omega
      rw [lo_all hY, lo_all hPl] at hsum
      have hc0 : c = 0 := by
        rcases Nat.eq_zero_or_pos c with g | g
        · exact g
        · have : B9 ^ (m + 1) ≤ c * B9 ^ (m + 1) := Nat.le_mul_of_pos_left _ g
          omega
      have hsx : s = y / B9 ^ at_ - P := by rw [hc0] at hsum; omega
      refine q_return d_Reckoner_subtract_81 rfl ?_
      refine hQ _ _ _ _ _ ?_
      refine ⟨rfl, ⟨fun k hk => ?_, hF⟩, rfl, rfl, rfl⟩
      have hdm := Nat.div_add_mod y (B9 ^ at_)
      have hml : y % B9 ^ at_ < B9 ^ at_ := Nat.mod_lt _ (pow9_pos _)
      have hy' : y - P * B9 ^ at_ = y % B9 ^ at_ + s * B9 ^ at_ := by
        rw [hsx, Nat.sub_mul]
        have h1 := Nat.mul_le_mul_right (B9 ^ at_) hP
        have h2 := hdm
        rw [Nat.mul_comm (B9 ^ at_)] at h2
        generalize y / B9 ^ at_ * B9 ^ at_ = A at h1 h2 ⊢
        generalize y % B9 ^ at_ = C at h2 ⊢
        generalize P * B9 ^ at_ = D at h1 ⊢
        omega
      rw [hy']
      rcases Nat.lt_or_ge k at_ with g | g
      · rw [hR k (Or.inl g), hL k hk, dg_add_lo hml g]
        congr 2
        have : dg y k = dg (y % B9 ^ at_ + y / B9 ^ at_ * B9 ^ at_) k := by rw [Nat.mul_comm, Nat.add_comm, hdm]
        rw [this, dg_add_lo hml g]
      · obtain ⟨j, rfl⟩ : ∃ j, k = at_ + j := ⟨k - at_, by omega⟩
        have e9 : dg (y % B9 ^ at_ + s * B9 ^ at_) (at_ + j) = dg s j := by
          rw [← dg_shift, Nat.add_mul_div_right _ _ (pow9_pos _), Nat.div_eq_of_lt hml, Nat.zero_add]
        rw [e9]
        rcases Nat.lt_or_ge j (m + 1) with g2 | g2
        · exact hE j g2
        · rw [hR _ (Or.inr (by omega)), hL _ hk, dg_big hs g2, dg_big hy (by omega)]
    have d1 := dg_lt y (at_ + k)
    have d2 := dg_lt P k
    obtain ⟨c', r, q1, q2, q3, q5, q4⟩ := sub_step hsum hs hc
    rw [dg_shift] at q1 q5
    refine q_aload_n d_Reckoner_subtract_14 rfl ?_
    refine q_getR d_Reckoner_subtract_15 fl_Reckoner_15 hQ0.1 ⟨rfl, by decide⟩ hQ0.2.2.1 ?_
    refine q_iload_n d_Reckoner_subtract_18 rfl ?_
    refine q_iload d_Reckoner_subtract_19 rfl ?_
    refine j_iadd d_Reckoner_subtract_21 ?_
    refine j_iald (j := (at_ + k)) (v := (cI (dg y (at_ + k) : Int))) d_Reckoner_subtract_22 hQ0.2.2.2.2.2.2.1 hQ0.2.2.2.2.2.2.2.1 (by omega) (by omega) (by omega) ((hR _ (Or.inr (Nat.le_refl _))).trans (hL _ (by omega))) ?_
    refine j_i2l d_Reckoner_subtract_23 (by omega) ?_
    refine q_lload_n d_Reckoner_subtract_24 rfl ?_
    refine j_lsub d_Reckoner_subtract_25 ?_
    refine q_aload_n d_Reckoner_subtract_26 rfl ?_
    refine q_getR d_Reckoner_subtract_27 fl_Reckoner_9 hQ0.1 ⟨rfl, by decide⟩ hQ0.2.1 ?_
    refine q_iload d_Reckoner_subtract_30 rfl ?_
    refine j_lald (j := k) (v := (cL (dg P k : Int))) d_Reckoner_subtract_32 hQ0.2.2.2.2.1 hQ0.2.2.2.2.2.1 (by omega) (by omega) (by omega) (hD k (by omega)) ?_
    refine j_lsub d_Reckoner_subtract_33 ?_
    refine q_lstore (lv' := [(6, .long (cL (((dg y (at_ + k) : Int) - (c : Int)) - (dg P k : Int)))), (0, .ref q), (1, .ref b), (2, .int (cI (at_ : Int))), (3, .long (cL (c : Int))), (5, .int (cI (k : Int)))]) d_Reckoner_subtract_34 (by decide) rfl ?_
    refine q_lload d_Reckoner_subtract_36 rfl ?_
    refine j_lconst (z := 0) d_Reckoner_subtract_38 (by decide) ?_
    suffices J : ∀ (e' : Int), (((0 ≤ (((dg y (at_ + k) : Int) - (c : Int)) - (dg P k : Int))) ∧ e' = 0) ∨ (((((dg y (at_ + k) : Int) - (c : Int)) - (dg P k : Int)) < 0) ∧ e' = 1)) → Run m_Reckoner_subtract d 0 0 48 [(0, .ref q), (1, .ref b), (2, .int (cI (at_ : Int))), (3, .long (cL (c : Int))), (5, .int (cI (k : Int))), (6, .long (cL (((dg y (at_ + k) : Int) - (c : Int)) - (dg P k : Int))))] [.long (cL e')] J L R T Q by
      refine j_lcmp_ge (tgt := 47) d_Reckoner_subtract_39 d_Reckoner_subtract_40 (by decide) (by omega) (by omega) (fun hp3 => ?_) (fun hp3 => ?_)
      · refine j_lconst (z := 0) d_Reckoner_subtract_47 (by decide) ?_
        refine Run.lv (lv' := [(0, .ref q), (1, .ref b), (2, .int (cI (at_ : Int))), (3, .long (cL (c : Int))), (5, .int (cI (k : Int))), (6, .long (cL (((dg y (at_ + k) : Int) - (c : Int)) - (dg P k : Int))))]) (by intro q hq; simp only [List.mem_cons, List.not_mem_nil, or_false] at hq ⊢; rcases hq with rfl | rfl | rfl | rfl | rfl | rfl <;> simp) ?_
        exact J _ (Or.inl ⟨hp3, rfl⟩)
      · refine j_lconst (z := 1) d_Reckoner_subtract_43 (by decide) ?_
        refine q_goto (tgt := 48) d_Reckoner_subtract_44 (by decide) ?_
        refine Run.lv (lv' := [(0, .ref q), (1, .ref b), (2, .int (cI (at_ : Int))), (3, .long (cL (c : Int))), (5, .int (cI (k : Int))), (6, .long (cL (((dg y (at_ + k) : Int) - (c : Int)) - (dg P k : Int))))]) (by intro q hq; simp only [List.mem_cons, List.not_mem_nil, or_false] at hq ⊢; rcases hq with rfl | rfl | rfl | rfl | rfl | rfl <;> simp) ?_
        exact J _ (Or.inr ⟨hp3, rfl⟩)
    intro e' he'
    refine q_lstore_n (lv' := [(3, .long (cL e')), (0, .ref q), (1, .ref b), (2, .int (cI (at_ : Int))), (5, .int (cI (k : Int))), (6, .long (cL (((dg y (at_ + k) : Int) - (c : Int)) - (dg P k : Int))))]) d_Reckoner_subtract_48 (by decide) rfl ?_
    refine q_aload_n d_Reckoner_subtract_49 rfl ?_
    refine q_getR d_Reckoner_subtract_50 fl_Reckoner_15 hQ0.1 ⟨rfl, by decide⟩ hQ0.2.2.1 ?_
    refine q_iload_n d_Reckoner_subtract_53 rfl ?_
    refine q_iload d_Reckoner_subtract_54 rfl ?_
    refine j_iadd d_Reckoner_subtract_56 ?_
    refine q_lload d_Reckoner_subtract_57 rfl ?_
    refine q_lload_n d_Reckoner_subtract_59 rfl ?_
    refine j_lconst (z := 1) d_Reckoner_subtract_60 (by decide) ?_
    suffices J : ∀ (vv : Int), (((¬ e' = 1) ∧ vv = 0) ∨ ((e' = 1) ∧ vv = 1000000000)) → Run m_Reckoner_subtract d 0 0 71 [(0, .ref q), (1, .ref b), (2, .int (cI (at_ : Int))), (3, .long (cL e')), (5, .int (cI (k : Int))), (6, .long (cL (((dg y (at_ + k) : Int) - (c : Int)) - (dg P k : Int))))] [.int (cI vv), .long (cL (((dg y (at_ + k) : Int) - (c : Int)) - (dg P k : Int))), .int (cI ((at_ : Int) + (k : Int))), .ref (q + 2)] J L R T Q by
      refine j_lcmp_ne (tgt := 70) d_Reckoner_subtract_61 d_Reckoner_subtract_62 (by decide) (by omega) (by omega) (fun hp4 => ?_) (fun hp4 => ?_)
      · refine j_iconst d_Reckoner_subtract_70 ?_
        refine Run.lv (lv' := [(0, .ref q), (1, .ref b), (2, .int (cI (at_ : Int))), (3, .long (cL e')), (5, .int (cI (k : Int))), (6, .long (cL (((dg y (at_ + k) : Int) - (c : Int)) - (dg P k : Int))))]) (by intro q hq; simp only [List.mem_cons, List.not_mem_nil, or_false] at hq ⊢; rcases hq with rfl | rfl | rfl | rfl | rfl | rfl <;> simp) ?_
        exact J _ (Or.inl ⟨hp4, rfl⟩)
      · refine j_ldc (z := 1000000000) d_Reckoner_subtract_65 (inT6 167 rfl) (by decide) ?_
        refine q_goto (tgt := 71) d_Reckoner_subtract_67 (by decide) ?_
        refine Run.lv (lv' := [(0, .ref q), (1, .ref b), (2, .int (cI (at_ : Int))), (3, .long (cL e')), (5, .int (cI (k : Int))), (6, .long (cL (((dg y (at_ + k) : Int) - (c : Int)) - (dg P k : Int))))]) (by intro q hq; simp only [List.mem_cons, List.not_mem_nil, or_false] at hq ⊢; rcases hq with rfl | rfl | rfl | rfl | rfl | rfl <;> simp) ?_
        exact J _ (Or.inr ⟨hp4, rfl⟩)
    intro vv hvv
    refine j_i2l d_Reckoner_subtract_71 (by omega) ?_
    refine j_ladd d_Reckoner_subtract_72 ?_
    refine j_l2i d_Reckoner_subtract_73 ?_
    refine Run.top (v := .int (cI (r : Int))) (by congr 2; omega) ?_
    refine j_iast (j := (at_ + k)) d_Reckoner_subtract_74 hQ0.2.2.2.2.2.2.1 hQ0.2.2.2.2.2.2.2.1 (by omega) (by omega) (by omega) ?_
    refine j_iinc (lv' := [(5, .int (cI ((k : Int) + 1))), (0, .ref q), (1, .ref b), (2, .int (cI (at_ : Int))), (3, .long (cL e')), (6, .long (cL (((dg y (at_ + k) : Int) - (c : Int)) - (dg P k : Int))))]) d_Reckoner_subtract_75 rfl (by decide) rfl ?_
    refine q_goto (tgt := 5) d_Reckoner_subtract_78 (by decide) ?_
    refine Run.lv (lv' := [(0, .ref q), (1, .ref b), (2, .int (cI (at_ : Int))), (3, .long (cL e')), (5, .int (cI ((k : Int) + 1)))]) (by intro q hq; simp only [List.mem_cons, List.not_mem_nil, or_false] at hq ⊢; rcases hq with rfl | rfl | rfl | rfl | rfl <;> simp) ?_
    refine ih (k + 1) c' (s + r * B9 ^ k) _ _ _ (by omega) (by omega) (by omega) (by omega) q3 (add_lt9 hs q2) q4 (fun j hj => ?_) (fun j hj => by rw [up2_k _ _ _ (by omega)]; exact hR j (by omega)) (fun q' hq' => by rw [up2_row _ _ hq']; exact hF q' hq')
    by_cases e : j = k
    · subst e; rw [up2_s, dg_add_hi hs q2]
    · rw [up2_k _ _ _ (by omega), dg_add_lo hs (by omega)]; exact hE j (by omega)
  refine Run.lv (lv' := [(0, .ref q), (1, .ref b), (2, .int (cI (at_ : Int))), (3, .long (cL 0)), (5, .int (cI 0))]) (by intro q hq; simp only [List.mem_cons, List.not_mem_nil, or_false] at hq ⊢; rcases hq with rfl | rfl | rfl | rfl | rfl <;> simp) ?_
  exact loop (m + 2) 0 0 0 0 0 I (by omega) rfl rfl (by omega) (by omega) (by simp) (by simp [lo_0]) (fun j hj => by omega) (fun _ _ => rfl) (fun _ _ => rfl)
/-- one place of a quotient -/
theorem quo9 {x w i y : Nat} (hw : 0 < w) (hy : y + x / w / B9 ^ (i + 1) * B9 ^ (i + 1) * w = x) : y / B9 ^ i / w = dg (x / w) i ∧ (y - w * dg (x / w) i * B9 ^ i) + x / w / B9 ^ i * B9 ^ i * w = x := by
  have hb := pow9_pos i
  generalize hH : x / w / B9 ^ (i + 1) = H at hy
  have e1 : x / w / B9 ^ i = H * B9 + dg (x / w) i := by
    unfold dg
    rw [← hH, Nat.pow_succ, ← Nat.div_div_eq_div_mul, Nat.mul_comm, Nat.div_add_mod]
  have e2 : y / B9 ^ i / w + H * B9 = x / w / B9 ^ i := by
    rw [Nat.div_div_eq_div_mul, Nat.div_div_eq_div_mul, Nat.mul_comm w, ← hy, show H * B9 ^ (i + 1) * w = H * B9 * (B9 ^ i * w) by rw [Nat.pow_succ]; ac_rfl, Nat.add_mul_div_right _ _ (Nat.mul_pos hb hw)]
  refine ⟨by omega, ?_⟩
  have e3 : x / w / B9 ^ i * B9 ^ i * w = H * B9 ^ (i + 1) * w + w * dg (x / w) i * B9 ^ i := by
    rw [e1, Nat.pow_succ, Nat.add_mul, Nat.add_mul]
    congr 1
    · ac_rfl
    · ac_rfl
  have e4 : w * dg (x / w) i * B9 ^ i ≤ y := by
    have : w * (y / B9 ^ i / w) * B9 ^ i ≤ y := Nat.le_trans (Nat.mul_le_mul_right _ (Nat.mul_div_le _ _)) (by rw [Nat.mul_comm]; exact Nat.mul_div_le _ _)
    rwa [show y / B9 ^ i / w = dg (x / w) i by omega] at this
  rw [e3]
  generalize w * dg (x / w) i * B9 ^ i = A at e4 ⊢
  omega
theorem BigN.of {I J : M32} {a n m : Nat} (h : BigN I a n m) (h1 : J a = I a) (h2 : J (a + 1) = I (a + 1)) : BigN J a n m := ⟨h.1, h.2.1, by rw [h1]; exact h.2.2.1, fun k hk => by rw [h2]; exact h.2.2.2 k hk⟩
theorem tdiv_val (v w : Int) : Int.tdiv v w = if decide ((v < 0) ≠ (w < 0)) then -((v.natAbs / w.natAbs : Nat) : Int) else ((v.natAbs / w.natAbs : Nat) : Int) := by
  have e : (Int.tdiv v w).natAbs = v.natAbs / w.natAbs := Int.natAbs_tdiv v w
  have sg := tdiv_sg v w
  rw [← e]
  generalize Int.tdiv v w = u at sg ⊢
  by_cases h0 : u = 0
  · subst h0; simp
  · have sg := sg h0
    rcases cmpZ_cases v with ⟨g1, g2⟩ | ⟨g1, g2⟩ | ⟨g1, g2⟩ <;> rcases cmpZ_cases w with ⟨k1, k2⟩ | ⟨k1, k2⟩ | ⟨k1, k2⟩ <;> rcases cmpZ_cases u with ⟨l1, l2⟩ | ⟨l1, l2⟩ | ⟨l1, l2⟩ <;> rw [g2, k2, l2] at sg <;> first | omega | (have a1 : ¬ v < 0 := by omega) | skip
    all_goals (by_cases a1 : v < 0 <;> by_cases a2 : w < 0 <;> simp [a1, a2] <;> omega)
theorem rem_lt {x w y D : Nat} (hD : 0 < D) (h : y + x / w / D * D * w = x) (hw : 0 < w) : y < w * D := by
  have h1 := Nat.div_add_mod x (w * D)
  have h2 := Nat.mod_lt x (Nat.mul_pos hw hD)
  rw [← Nat.div_div_eq_div_mul] at h1
  have e : w * D * (x / w / D) = x / w / D * D * w := by ac_rfl
  omega
theorem shrL1 {n : Nat} (h : n < 4611686018427387904) : lN n >>> ((cI 1).toInt64 &&& 63) = lN (n / 2) := by
  have h1 : ((cI 1).toInt64 &&& 63) = (1 : Int64) := by decide
  rw [h1]
  apply Int64.toInt_inj.mp
  have e3 : (lN n).toInt = (n : Int) := pk_lT (by omega)
  have e4 : (lN (n / 2)).toInt = ((n / 2 : Nat) : Int) := pk_lT (by omega)
  rw [e4]
  have e5 : (lN n >>> (1 : Int64)).toInt = (lN n).toInt >>> 1 := by
    show ((lN n).toBitVec.sshiftRight' ((1 : Int64).toBitVec.smod 64)).toInt = _
    rw [BitVec.toInt_sshiftRight']
    rfl
  rw [e5, e3, Int.shiftRight_eq_div_pow]
  rfl
theorem shr1_cL {z : Int} (h : 0 ≤ z ∧ z < 4611686018427387904) : cL z >>> ((cI 1).toInt64 &&& 63) = cL (z / 2) := by
  obtain ⟨n, rfl⟩ : ∃ n : Nat, z = n := ⟨z.toNat, by omega⟩
  have e1 : cL (n : Int) = lN n := by show Int64.ofInt n = Int64.ofNat n; rw [Int64.ofInt_eq_ofNat]
  have e2 : cL ((n : Int) / 2) = lN (n / 2) := by show Int64.ofInt _ = Int64.ofNat _; rw [← Int64.ofInt_eq_ofNat]; congr 1
  rw [e1, e2]
  exact shrL1 (by omega)
theorem c_Reckoner_divide (d : Nat) {q a b t : Nat} {v w : Int} {I : M32} {L : M64} {R : MR} {T : SH} (hd : 1 ≤ d) (hQ0 : RkS R T q) (hA : BigS R T a) (hB : BigS R T b) (hT : BigS R T t) (hta : t ≠ a) (htb : t ≠ b) (hV : BigV I a v) (hU : BigV I b w) (h35 : v.natAbs < B9 ^ 35) :
    Call m_Reckoner_divide y_Reckoner_divide d 0 0 [.ref q, .ref a, .ref b, .ref t] I L R T (rV fun I' L' R' T' => BigV I' t (Int.tdiv v w) ∧ (∀ q', q' ≠ t → q' ≠ t + 1 → q' ≠ q → q' ≠ q + 2 → I' q' = I q') ∧ FrL (q + 1) L L' ∧ R' = R ∧ T' = T) := by
  refine Call.ofRun (by decide) ⟨rfl, rfl⟩ (Nat.le_of_ble_eq_true rfl) ?_
  refine Run.gen fun Q hQ => ?_
  refine q_aload_n d_Reckoner_divide_0 rfl ?_
  refine q_callV (ci := 0) (rc := 0) (rs := 0) (rest := []) d_Reckoner_divide_1 ml_Reckoner_27 ok_Big_clear rfl hT.1 (by decide) (c_Big_clear (d - 1) hT) rfl rfl (by omega) (Nat.le_of_ble_eq_true rfl) (kv_V (fun J0 hJ0 => ?_)) kt_V
  obtain ⟨a0, a1, a2, a3, a4, a5, a6, a7⟩ := hA.rk hQ0
  obtain ⟨b0, b1, b2, b3, b4, b5, b6, b7⟩ := hB.rk hQ0
  obtain ⟨t0, t1, t2, t3, t4, t5, t6, t7⟩ := hT.rk hQ0
  obtain ⟨u1, u2, u3, u4⟩ := hT.apart hA hta
  obtain ⟨w1, w2, w3, w4⟩ := hT.apart hB htb
  have hF0 : FrB t I J0 := by rw [hJ0]; exact FrB.up.tr FrB.up
  have hV0 := hV.keep hF0 hT hA hta
  have hU0 := hU.keep hF0 hT hB htb
  have hT0 : BigV J0 t 0 := by rw [hJ0]; exact bigV_0 (by rw [up2_k _ _ _ (by omega), up2_s]) (by rw [up2_s])
  refine q_aload_n d_Reckoner_divide_4 rfl ?_
  refine q_callV (ci := 0) (rc := 0) (rs := 0) (rest := []) d_Reckoner_divide_5 ml_Reckoner_47 ok_Big_isZero rfl hB.1 (by decide) (c_Big_isZero (d - 1) hB hU0) rfl rfl (by omega) (Nat.le_of_ble_eq_true rfl) (kp_I ?_) kt_I
  obtain ⟨n, hAW, hAn⟩ := hV0
  obtain ⟨m, hBW, hBm⟩ := hU0
  have hnz := BigV.zero_iff hAW hAn
  have hmz := BigV.zero_iff hBW hBm
  have hn36 := hAW.2.1
  have hm36 := hBW.2.1
  have frz : (w = 0 ∨ n < m) → Int.tdiv v w = 0 := by
    intro h
    rcases h with h | h
    · rw [h, Int.tdiv_zero]
    · have h1 : v.natAbs < w.natAbs := Nat.lt_of_lt_of_le hAW.1 (Nat.le_trans (Nat.pow_le_pow_right (by decide) (by omega)) (hBm (by omega)))
      have : (Int.tdiv v w).natAbs = v.natAbs / w.natAbs := Int.natAbs_tdiv v w
      rw [Nat.div_eq_of_lt h1] at this
      omega
  have out : ∀ (h : w = 0 ∨ n < m), True → Run m_Reckoner_divide d 0 0 22 [(0, .ref q), (1, .ref a), (2, .ref b), (3, .ref t)] [] J0 L R T Q := by
    intro h _
    refine q_return d_Reckoner_divide_22 rfl ?_
    refine hQ _ _ _ _ _ ?_
    exact ⟨rfl, by rw [frz h]; exact hT0, fun q' h1 h2 _ _ => hF0 q' h1 h2, FrL.rf, rfl, rfl⟩
  refine j_if_ne (tgt := 22) d_Reckoner_divide_8 (by decide) (by omega) (fun h1 => ?_) (fun h1 => ?_)
  · skip
    exact out (Or.inl (by split at h1 <;> first | assumption | omega)) trivial
  refine q_aload_n d_Reckoner_divide_11 rfl ?_
  refine j_getI (v := (cI (n : Int))) d_Reckoner_divide_12 fl_Reckoner_23 hA.1 ⟨rfl, by decide⟩ hAW.2.2.1 ?_
  refine q_aload_n d_Reckoner_divide_15 rfl ?_
  refine j_getI (v := (cI (m : Int))) d_Reckoner_divide_16 fl_Reckoner_23 hB.1 ⟨rfl, by decide⟩ hBW.2.2.1 ?_
  refine j_icmp_ge (tgt := 23) d_Reckoner_divide_19 (by decide) (by omega) (by omega) (fun h2 => ?_) (fun h2 => ?_)
  rotate_left
  · skip
    exact out (Or.inr (by omega)) trivial
  have hw0 : w ≠ 0 := fun e => by rw [if_pos e] at h1; cases h1
  have hw : 0 < w.natAbs := by omega
  have hm0 : 0 < m := by omega
  have hn35 : n ≤ 35 := n_of hAn h35
  obtain ⟨x, hx⟩ : ∃ x, x = v.natAbs := ⟨_, rfl⟩
  obtain ⟨y0, hy0⟩ : ∃ y, y = w.natAbs := ⟨_, rfl⟩
  rw [← hx] at hAW hAn
  rw [← hy0] at hBW hBm hw
  have hAN := hAW.N
  have hBN := hBW.N
  have hq0 : x / y0 < B9 ^ (n - m + 1) := by
    rw [Nat.div_lt_iff_lt_mul hw]
    refine Nat.lt_of_lt_of_le hAW.1 (Nat.le_trans ?_ (Nat.mul_le_mul_left _ (hBm hm0)))
    rw [← Nat.pow_add]; exact Nat.pow_le_pow_right (by decide) (by omega)
  refine q_aload_n d_Reckoner_divide_23 rfl ?_
  refine q_aload_n d_Reckoner_divide_24 rfl ?_
  refine j_getI (v := (cI (n : Int))) d_Reckoner_divide_25 fl_Reckoner_23 hA.1 ⟨rfl, by decide⟩ hAW.2.2.1 ?_
  refine j_iconst d_Reckoner_divide_28 ?_
  refine j_iadd d_Reckoner_divide_29 ?_
  refine q_putI d_Reckoner_divide_30 fl_Reckoner_50 hQ0.1 ⟨rfl, by decide, rfl, rfl⟩ ?_
  refine j_iconst d_Reckoner_divide_33 ?_
  refine q_istore (lv' := [(4, .int (cI 0)), (0, .ref q), (1, .ref a), (2, .ref b), (3, .ref t)]) d_Reckoner_divide_34 (by decide) rfl ?_
  generalize hJ1 : (up2 J0 q 2 (cI ((n : Int) + 1))) = J1
  have e1 : ∀ q', q' ≠ q → J1 q' = J0 q' := fun q' h => by rw [← hJ1, up2_row _ _ h]
  have hlm : J1 q 2 = cI ((n : Int) + 1) := by rw [← hJ1, up2_s]
  have main : ∀ (f i y : Nat) (z : Int) (K : M32) (K2 : M64), i < f → z = (i : Int) - 1 → i ≤ n - m + 1 → y + x / y0 / B9 ^ i * B9 ^ i * y0 = x → LfB K q (n + 1) y → (∀ j, i ≤ j → j < n - m + 1 → K (t + 1) j = cI (dg (x / y0) j)) → K t 1 = cI (n - m + 1 : Nat) → (∀ q', q' ≠ t → q' ≠ t + 1 → q' ≠ q + 2 → K q' = J1 q') → FrL (q + 1) L K2 → Run m_Reckoner_divide d 0 0 101 [(0, .ref q), (1, .ref a), (2, .ref b), (3, .ref t), (4, .int (cI z))] [] K K2 R T Q := by
    intro f
    induction f with
    | zero => intro i y z K K2 h; omega
    | succ f ihf =>
    intro i y z K K2 hf hz hi hy hL hD hK1 hF hFL
    have hKa : K a = J0 a := by rw [hF a (by omega) (by omega) (by omega), e1 a (by omega)]
    have hKa1 : K (a + 1) = J0 (a + 1) := by rw [hF _ (by omega) (by omega) (by omega), e1 _ (by omega)]
    have hKb : K b = J0 b := by rw [hF b (by omega) (by omega) (by omega), e1 b (by omega)]
    have hKb1 : K (b + 1) = J0 (b + 1) := by rw [hF _ (by omega) (by omega) (by omega), e1 _ (by omega)]
    have hAK := hAW.congr hKa hKa1
    have hBK := hBW.congr hKb hKb1
    refine q_iload d_Reckoner_divide_101 rfl ?_
    refine j_if_lt (tgt := 200) d_Reckoner_divide_103 (by decide) (by omega) (fun h3 => ?_) (fun h3 => ?_)
    · skip
      obtain rfl : i = 0 := by omega
      refine q_aload_n d_Reckoner_divide_200 rfl ?_
      refine q_aload_n d_Reckoner_divide_201 rfl ?_
      refine j_getI (v := (cI (if decide (v < 0) then (1 : Int) else 0))) d_Reckoner_divide_202 fl_Reckoner_35 hA.1 ⟨rfl, by decide⟩ hAK.2.2.2.2 ?_
      refine q_aload_n d_Reckoner_divide_205 rfl ?_
      refine j_getI (v := (cI (if decide (w < 0) then (1 : Int) else 0))) d_Reckoner_divide_206 fl_Reckoner_35 hB.1 ⟨rfl, by decide⟩ hBK.2.2.2.2 ?_
      suffices J : ∀ (u : Int), ((((if decide (v < 0) then (1 : Int) else 0) = (if decide (w < 0) then (1 : Int) else 0)) ∧ u = 0) ∨ ((¬ (if decide (v < 0) then (1 : Int) else 0) = (if decide (w < 0) then (1 : Int) else 0)) ∧ u = 1)) → Run m_Reckoner_divide d 0 0 217 [(0, .ref q), (1, .ref a), (2, .ref b), (3, .ref t), (4, .int (cI z))] [.int (cI u), .ref t] K K2 R T Q by
        refine j_icmp_eq (tgt := 216) d_Reckoner_divide_209 (by decide) (by omega) (by omega) (fun hp5 => ?_) (fun hp5 => ?_)
        · refine j_iconst d_Reckoner_divide_216 ?_
          exact J _ (Or.inl ⟨hp5, rfl⟩)
        · refine j_iconst d_Reckoner_divide_212 ?_
          refine q_goto (tgt := 217) d_Reckoner_divide_213 (by decide) ?_
          exact J _ (Or.inr ⟨hp5, rfl⟩)
      intro u hu
      have hu2 : u = if decide ((v < 0) ≠ (w < 0)) then 1 else 0 := by
        rcases hu with ⟨h4, e⟩ | ⟨h4, e⟩
        · rw [e]; by_cases g1 : v < 0 <;> by_cases g2 : w < 0 <;> simp [g1, g2] at h4 ⊢
        · rw [e]; by_cases g1 : v < 0 <;> by_cases g2 : w < 0 <;> simp [g1, g2] at h4 ⊢
      refine q_putZ d_Reckoner_divide_217 fl_Reckoner_35 hT.1 ⟨rfl, by decide, rfl, rfl⟩ (z01 (by omega)) ?_
      refine q_aload_n d_Reckoner_divide_220 rfl ?_
      refine q_callV (ci := 0) (rc := 0) (rs := 0) (rest := []) d_Reckoner_divide_221 ml_Reckoner_39 ok_Big_trim rfl hT.1 (by decide) (c_Big_trim (d - 1) (n := n - m + 1) (m := x / y0) (s := decide ((v < 0) ≠ (w < 0))) hT ⟨hq0, by omega, by rw [up2_k _ _ _ (by omega)]; exact hK1, fun j hj => by rw [up2_a _ _ _ (by omega)]; exact hD j (by omega) hj⟩ (by rw [up2_s, hu2])) rfl rfl (by omega) (Nat.le_of_ble_eq_true rfl) (kv_V (fun K3 hK3 => ?_)) kt_V
      refine q_return d_Reckoner_divide_224 rfl ?_
      refine hQ _ _ _ _ _ ?_
      refine ⟨rfl, ?_, fun q' g1 g2 g3 g4 => ?_, hFL, rfl, rfl⟩
      · rw [tdiv_val, ← hx, ← hy0]; exact hK3.1
      · rw [hK3.2 q' g1 g2, up2_row _ _ g1, hF q' g1 g2 g4, e1 q' g3, hF0 q' g1 g2]
    obtain ⟨j, rfl⟩ : ∃ j, i = j + 1 := ⟨i - 1, by omega⟩
    obtain rfl : z = (j : Int) := by omega
    obtain ⟨s1, s2⟩ := quo9 hw hy
    have hyl : y < B9 ^ (j + m + 1) := by
      refine Nat.lt_of_lt_of_le (rem_lt (pow9_pos _) hy hw) ?_
      rw [show j + m + 1 = m + (j + 1) by omega, Nat.pow_add B9 m]
      exact Nat.mul_le_mul_right _ (Nat.le_of_lt hBW.1)
    have hQl := dg_lt (x / y0) j
    have hiff : ∀ p, y0 * p ≤ y / B9 ^ j ↔ p ≤ dg (x / y0) j := fun p => by rw [← s1, Nat.le_div_iff_mul_le hw, Nat.mul_comm]
    generalize hG : dg (x / y0) j = G at s1 s2 hQl hiff
    have bin : ∀ (f2 lo_ hi_ : Nat) (e g : Int) (K3 : M64), hi_ - lo_ < f2 → e = lo_ → g = hi_ → lo_ ≤ G → G ≤ hi_ → hi_ ≤ 999999999 → FrL (q + 1) L K3 → Run m_Reckoner_divide d 0 0 114 [(0, .ref q), (1, .ref a), (2, .ref b), (3, .ref t), (4, .int (cI (j : Int))), (5, .long (cL e)), (7, .long (cL g))] [] K K3 R T Q := by
      intro f2
      induction f2 with
      | zero => intro lo_ hi_ e g K3 h; omega
      | succ f2 ih =>
      intro lo_ hi_ e g K3 hf2 he hg hlo hhi hh9 hFK
      subst he hg
      refine q_lload d_Reckoner_divide_114 rfl ?_
      refine q_lload d_Reckoner_divide_116 rfl ?_
      refine j_lcmp_ge (tgt := 161) d_Reckoner_divide_118 d_Reckoner_divide_119 (by decide) (by omega) (by omega) (fun h4 => ?_) (fun h4 => ?_)
      · skip
        obtain rfl : lo_ = G := by omega
        refine q_aload_n d_Reckoner_divide_161 rfl ?_
        refine q_aload_n d_Reckoner_divide_162 rfl ?_
        refine q_iload d_Reckoner_divide_163 rfl ?_
        refine q_lload d_Reckoner_divide_165 rfl ?_
        refine q_callV (ci := 1) (rc := 0) (rs := 0) (rest := []) d_Reckoner_divide_167 ml_Reckoner_55 ok_Reckoner_takes rfl hQ0.1 (by decide) (c_Reckoner_takes (d - 1) (N := n + 1) hQ0 hB hBK.N (by omega) hL (by omega) (by omega) hyl (by show lo_ < 1000000000; omega)) rfl rfl (by omega) (Nat.le_of_ble_eq_true rfl) (kl_I (fun r L5 h5 => ?_)) kt_I
        obtain ⟨rfl, hF5, hD5⟩ := h5
        have htk := (hiff lo_).mpr (Nat.le_refl _)
        refine q_istore (lv' := [(9, .int (cI (bI (y0 * lo_ ≤ y / B9 ^ j)))), (0, .ref q), (1, .ref a), (2, .ref b), (3, .ref t), (4, .int (cI (j : Int))), (5, .long (cL (lo_ : Int))), (7, .long (cL (hi_ : Int)))]) d_Reckoner_divide_170 (by decide) rfl ?_
        refine q_iload d_Reckoner_divide_172 rfl ?_
        refine j_ifb_eq (tgt := 184) d_Reckoner_divide_174 (by decide) (fun hx => absurd htk hx) (fun hx => ?_)
        refine q_aload_n d_Reckoner_divide_177 rfl ?_
        refine q_aload_n d_Reckoner_divide_178 rfl ?_
        refine q_iload d_Reckoner_divide_179 rfl ?_
        refine q_callV (ci := 1) (rc := 0) (rs := 0) (rest := []) d_Reckoner_divide_181 ml_Reckoner_59 ok_Reckoner_subtract rfl hQ0.1 (by decide) (c_Reckoner_subtract (d - 1) (N := n + 1) (P := y0 * lo_) hQ0 hB hBK.N (by omega) hL (by omega) (by omega) hyl (hD5 htk) htk) rfl rfl (by omega) (Nat.le_of_ble_eq_true rfl) (kv_V (fun K6 hK6 => ?_)) kt_V
        refine q_aload_n d_Reckoner_divide_184 rfl ?_
        refine q_getR d_Reckoner_divide_185 fl_Reckoner_30 hT.1 ⟨rfl, by decide⟩ hT.2.1 ?_
        refine q_iload d_Reckoner_divide_188 rfl ?_
        refine q_lload d_Reckoner_divide_190 rfl ?_
        refine j_l2i d_Reckoner_divide_192 ?_
        refine j_iast (j := j) d_Reckoner_divide_193 hT.2.2.1 hT.2.2.2 (by omega) (by omega) (by omega) ?_
        refine j_iinc (lv' := [(4, .int (cI ((j : Int) + (-1)))), (9, .int (cI (bI (y0 * lo_ ≤ y / B9 ^ j)))), (0, .ref q), (1, .ref a), (2, .ref b), (3, .ref t), (5, .long (cL (lo_ : Int))), (7, .long (cL (hi_ : Int)))]) d_Reckoner_divide_194 rfl (by decide) rfl ?_
        refine q_goto (tgt := 101) d_Reckoner_divide_197 (by decide) ?_
        refine Run.lv (lv' := [(0, .ref q), (1, .ref a), (2, .ref b), (3, .ref t), (4, .int (cI ((j : Int) + (-1))))]) (by intro q hq; simp only [List.mem_cons, List.not_mem_nil, or_false] at hq ⊢; rcases hq with rfl | rfl | rfl | rfl | rfl <;> simp) ?_
        refine ihf j (y - y0 * lo_ * B9 ^ j) _ _ L5 (by omega) (by omega) (by omega) s2 (fun k hk => by rw [up2_a _ _ _ (by omega)]; exact hK6.1 k hk) (fun k hk1 hk2 => ?_) (by rw [up2_a _ _ _ (by omega), hK6.2 _ (by omega)]; exact hK1) (fun q' g1 g2 g3 => by rw [up2_row _ _ g2, hK6.2 _ g3]; exact hF q' g1 g2 g3) (hFK.tr hF5)
        by_cases e : k = j
        · subst e; rw [up2_s, hG]
        · rw [up2_k _ _ _ (by omega), hK6.2 _ (by omega)]; exact hD k (by omega) hk2
      obtain ⟨p, hp⟩ : ∃ p, p = (lo_ + hi_ + 1) / 2 := ⟨_, rfl⟩
      refine q_lload d_Reckoner_divide_122 rfl ?_
      refine q_lload d_Reckoner_divide_124 rfl ?_
      refine j_ladd d_Reckoner_divide_126 ?_
      refine j_lconst (z := 1) d_Reckoner_divide_127 (by decide) ?_
      refine j_ladd d_Reckoner_divide_128 ?_
      refine j_iconst d_Reckoner_divide_129 ?_
      refine q_lshr d_Reckoner_divide_130 ?_
      refine Run.top (v := .long (cL (p : Int))) (by rw [shr1_cL (by omega)]; congr 2; omega) ?_
      refine q_lstore (lv' := [(9, .long (cL (p : Int))), (0, .ref q), (1, .ref a), (2, .ref b), (3, .ref t), (4, .int (cI (j : Int))), (5, .long (cL (lo_ : Int))), (7, .long (cL (hi_ : Int)))]) d_Reckoner_divide_131 (by decide) rfl ?_
      refine q_aload_n d_Reckoner_divide_133 rfl ?_
      refine q_aload_n d_Reckoner_divide_134 rfl ?_
      refine q_iload d_Reckoner_divide_135 rfl ?_
      refine q_lload d_Reckoner_divide_137 rfl ?_
      refine q_callV (ci := 1) (rc := 0) (rs := 0) (rest := []) d_Reckoner_divide_139 ml_Reckoner_55 ok_Reckoner_takes rfl hQ0.1 (by decide) (c_Reckoner_takes (d - 1) (N := n + 1) hQ0 hB hBK.N (by omega) hL (by omega) (by omega) hyl (by show p < 1000000000; omega)) rfl rfl (by omega) (Nat.le_of_ble_eq_true rfl) (kl_I (fun r L5 h5 => ?_)) kt_I
      obtain ⟨rfl, hF5, hD5⟩ := h5
      have hip := hiff p
      refine j_ifb_eq (tgt := 152) d_Reckoner_divide_142 (by decide) (fun h6 => ?_) (fun h6 => ?_)
      · skip
        refine q_lload d_Reckoner_divide_152 rfl ?_
        refine j_lconst (z := 1) d_Reckoner_divide_154 (by decide) ?_
        refine j_lsub d_Reckoner_divide_155 ?_
        refine q_lstore (lv' := [(7, .long (cL ((p : Int) - 1))), (9, .long (cL (p : Int))), (0, .ref q), (1, .ref a), (2, .ref b), (3, .ref t), (4, .int (cI (j : Int))), (5, .long (cL (lo_ : Int)))]) d_Reckoner_divide_156 (by decide) rfl ?_
        refine q_goto (tgt := 114) d_Reckoner_divide_158 (by decide) ?_
        refine Run.lv (lv' := [(0, .ref q), (1, .ref a), (2, .ref b), (3, .ref t), (4, .int (cI (j : Int))), (5, .long (cL (lo_ : Int))), (7, .long (cL ((p : Int) - 1)))]) (by intro q hq; simp only [List.mem_cons, List.not_mem_nil, or_false] at hq ⊢; rcases hq with rfl | rfl | rfl | rfl | rfl | rfl | rfl <;> simp) ?_
        exact ih lo_ (p - 1) _ _ L5 (by omega) rfl (by omega) hlo (by omega) (by omega) (hFK.tr hF5)
      · skip
        refine q_lload d_Reckoner_divide_145 rfl ?_
        refine q_lstore (lv' := [(5, .long (cL (p : Int))), (9, .long (cL (p : Int))), (0, .ref q), (1, .ref a), (2, .ref b), (3, .ref t), (4, .int (cI (j : Int))), (7, .long (cL (hi_ : Int)))]) d_Reckoner_divide_147 (by decide) rfl ?_
        refine q_goto (tgt := 158) d_Reckoner_divide_149 (by decide) ?_
        refine q_goto (tgt := 114) d_Reckoner_divide_158 (by decide) ?_
        refine Run.lv (lv' := [(0, .ref q), (1, .ref a), (2, .ref b), (3, .ref t), (4, .int (cI (j : Int))), (5, .long (cL (p : Int))), (7, .long (cL (hi_ : Int)))]) (by intro q hq; simp only [List.mem_cons, List.not_mem_nil, or_false] at hq ⊢; rcases hq with rfl | rfl | rfl | rfl | rfl | rfl | rfl <;> simp) ?_
        exact ih p hi_ _ _ L5 (by omega) rfl rfl (by omega) hhi hh9 (hFK.tr hF5)
    refine j_lconst (z := 0) d_Reckoner_divide_106 (by decide) ?_
    refine q_lstore (lv' := [(5, .long (cL 0)), (0, .ref q), (1, .ref a), (2, .ref b), (3, .ref t), (4, .int (cI (j : Int)))]) d_Reckoner_divide_107 (by decide) rfl ?_
    refine j_ldc2 (z := 999999999) d_Reckoner_divide_109 (inT6 158 rfl) (by decide) ?_
    refine q_lstore (lv' := [(7, .long (cL 999999999)), (5, .long (cL 0)), (0, .ref q), (1, .ref a), (2, .ref b), (3, .ref t), (4, .int (cI (j : Int)))]) d_Reckoner_divide_112 (by decide) rfl ?_
    refine Run.lv (lv' := [(0, .ref q), (1, .ref a), (2, .ref b), (3, .ref t), (4, .int (cI (j : Int))), (5, .long (cL 0)), (7, .long (cL 999999999))]) (by intro q hq; simp only [List.mem_cons, List.not_mem_nil, or_false] at hq ⊢; rcases hq with rfl | rfl | rfl | rfl | rfl | rfl | rfl <;> simp) ?_
    exact bin 1000000001 0 999999999 _ _ K2 (by omega) rfl rfl (by omega) (by omega) (by omega) hFL
  have lft : ∀ (f k : Nat) (z : Int) (K : M32), n + 1 - k < f → z = k → k ≤ n + 1 → (∀ j, j < k → K (q + 2) j = cI (dg x j)) → (∀ q', q' ≠ q + 2 → K q' = J1 q') → Run m_Reckoner_divide d 0 0 36 [(0, .ref q), (1, .ref a), (2, .ref b), (3, .ref t), (4, .int (cI z))] [] K L R T Q := by
    intro f
    induction f with
    | zero => intro k z K h; omega
    | succ f ih =>
    intro k z K hf hz hk hD hF
    subst hz
    have hAK := hAW.congr (J := K) (by rw [hF a (by omega), e1 a (by omega)]) (by rw [hF _ (by omega), e1 _ (by omega)])
    have hBK := hBW.congr (J := K) (by rw [hF b (by omega), e1 b (by omega)]) (by rw [hF _ (by omega), e1 _ (by omega)])
    refine q_iload d_Reckoner_divide_36 rfl ?_
    refine q_aload_n d_Reckoner_divide_38 rfl ?_
    refine j_getI (v := (cI ((n : Int) + 1))) d_Reckoner_divide_39 fl_Reckoner_50 hQ0.1 ⟨rfl, by decide⟩ (by rw [hF q (by omega)]; exact hlm) ?_
    refine j_icmp_ge (tgt := 78) d_Reckoner_divide_42 (by decide) (by omega) (by omega) (fun h3 => ?_) (fun h3 => ?_)
    · skip
      refine q_aload_n d_Reckoner_divide_78 rfl ?_
      refine q_aload_n d_Reckoner_divide_79 rfl ?_
      refine j_getI (v := (cI (n : Int))) d_Reckoner_divide_80 fl_Reckoner_23 hA.1 ⟨rfl, by decide⟩ hAK.2.2.1 ?_
      refine q_aload_n d_Reckoner_divide_83 rfl ?_
      refine j_getI (v := (cI (m : Int))) d_Reckoner_divide_84 fl_Reckoner_23 hB.1 ⟨rfl, by decide⟩ hBK.2.2.1 ?_
      refine j_isub d_Reckoner_divide_87 ?_
      refine j_iconst d_Reckoner_divide_88 ?_
      refine j_iadd d_Reckoner_divide_89 ?_
      refine q_putI d_Reckoner_divide_90 fl_Reckoner_23 hT.1 ⟨rfl, by decide, rfl, rfl⟩ ?_
      refine q_aload_n d_Reckoner_divide_93 rfl ?_
      refine j_getI (v := (cI (((n : Int) - (m : Int)) + 1))) d_Reckoner_divide_94 fl_Reckoner_23 hT.1 ⟨rfl, by decide⟩ (up2_s _ _ _ _) ?_
      refine j_iconst d_Reckoner_divide_97 ?_
      refine j_isub d_Reckoner_divide_98 ?_
      refine q_istore (lv' := [(4, .int (cI ((((n : Int) - (m : Int)) + 1) - 1))), (0, .ref q), (1, .ref a), (2, .ref b), (3, .ref t)]) d_Reckoner_divide_99 (by decide) rfl ?_
      refine Run.lv (lv' := [(0, .ref q), (1, .ref a), (2, .ref b), (3, .ref t), (4, .int (cI ((((n : Int) - (m : Int)) + 1) - 1)))]) (by intro q hq; simp only [List.mem_cons, List.not_mem_nil, or_false] at hq ⊢; rcases hq with rfl | rfl | rfl | rfl | rfl <;> simp) ?_
      exact main (n - m + 2) (n - m + 1) x _ _ L (by omega) (by omega) (Nat.le_refl _) (by rw [Nat.div_eq_of_lt hq0]; simp) (fun k hk => by rw [up2_a _ _ _ (by omega)]; exact hD k (by omega)) (fun j h1 h2 => by omega) (by rw [up2_s]; congr 1; omega) (fun q' g1 g2 g3 => by rw [up2_row _ _ g1]; exact hF q' g3) FrL.rf
    refine q_aload_n d_Reckoner_divide_45 rfl ?_
    refine q_getR d_Reckoner_divide_46 fl_Reckoner_15 hQ0.1 ⟨rfl, by decide⟩ hQ0.2.2.1 ?_
    refine q_iload d_Reckoner_divide_49 rfl ?_
    refine q_iload d_Reckoner_divide_51 rfl ?_
    refine q_aload_n d_Reckoner_divide_53 rfl ?_
    refine j_getI (v := (cI (n : Int))) d_Reckoner_divide_54 fl_Reckoner_23 hA.1 ⟨rfl, by decide⟩ hAK.2.2.1 ?_
    suffices J : ∀ (u : Int), ((((n : Int) ≤ (k : Int)) ∧ u = 0) ∨ (((k : Int) < (n : Int)) ∧ u = (dg x k : Int))) → Run m_Reckoner_divide d 0 0 71 [(0, .ref q), (1, .ref a), (2, .ref b), (3, .ref t), (4, .int (cI (k : Int)))] [.int (cI u), .int (cI (k : Int)), .ref (q + 2)] K L R T Q by
      refine j_icmp_ge (tgt := 70) d_Reckoner_divide_57 (by decide) (by omega) (by omega) (fun hp6 => ?_) (fun hp6 => ?_)
      · refine j_iconst d_Reckoner_divide_70 ?_
        exact J _ (Or.inl ⟨hp6, rfl⟩)
      · refine q_aload_n d_Reckoner_divide_60 rfl ?_
        refine q_getR d_Reckoner_divide_61 fl_Reckoner_30 hA.1 ⟨rfl, by decide⟩ hA.2.1 ?_
        refine q_iload d_Reckoner_divide_64 rfl ?_
        refine j_iald (j := k) (v := (cI (dg x k : Int))) d_Reckoner_divide_66 hA.2.2.1 hA.2.2.2 (by omega) (by omega) (by omega) (hAK.2.2.2.1 k (by omega)) ?_
        refine q_goto (tgt := 71) d_Reckoner_divide_67 (by decide) ?_
        exact J _ (Or.inr ⟨hp6, rfl⟩)
    intro u hu
    have hu2 : u = (dg x k : Int) := by
      rcases hu with ⟨h4, e⟩ | ⟨h4, e⟩
      · rw [e, dg_big hAW.1 (by omega)]; rfl
      · exact e
    refine j_iast (j := k) d_Reckoner_divide_71 hQ0.2.2.2.2.2.2.1 hQ0.2.2.2.2.2.2.2.1 (by omega) (by omega) (by omega) ?_
    refine j_iinc (lv' := [(4, .int (cI ((k : Int) + 1))), (0, .ref q), (1, .ref a), (2, .ref b), (3, .ref t)]) d_Reckoner_divide_72 rfl (by decide) rfl ?_
    refine q_goto (tgt := 36) d_Reckoner_divide_75 (by decide) ?_
    refine Run.lv (lv' := [(0, .ref q), (1, .ref a), (2, .ref b), (3, .ref t), (4, .int (cI ((k : Int) + 1)))]) (by intro q hq; simp only [List.mem_cons, List.not_mem_nil, or_false] at hq ⊢; rcases hq with rfl | rfl | rfl | rfl | rfl <;> simp) ?_
    refine ih (k + 1) _ _ (by omega) (by omega) (by omega) (fun j hj => ?_) (fun q' g => by rw [up2_row _ _ g]; exact hF q' g)
    by_cases e : j = k
    · subst e; rw [up2_s, hu2]
    · rw [up2_k _ _ _ (by omega)]; exact hD j (by omega)
  refine Run.lv (lv' := [(0, .ref q), (1, .ref a), (2, .ref b), (3, .ref t), (4, .int (cI 0))]) (by intro q hq; simp only [List.mem_cons, List.not_mem_nil, or_false] at hq ⊢; rcases hq with rfl | rfl | rfl | rfl | rfl <;> simp) ?_
  exact lft (n + 2) 0 0 J1 (by omega) rfl (by omega) (fun j hj => by omega) (fun _ _ => rfl)

