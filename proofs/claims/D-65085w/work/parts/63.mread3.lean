/-! ===== 63 THE REFERENCE: names, signs, times, actions, bounds are read ===== -/
theorem d_Model_readName_0 : decode m_Model_readName.2.1 0 = .ok (.aload_n 0, 1) := by decide +kernel
theorem d_Model_readName_1 : decode m_Model_readName.2.1 1 = .ok (.getfield 550, 3) := by decide +kernel
theorem d_Model_readName_4 : decode m_Model_readName.2.1 4 = .ok (.iconst 3, 1) := by decide +kernel
theorem d_Model_readName_5 : decode m_Model_readName.2.1 5 = .ok (.if_icmp .eq 8, 3) := by decide +kernel
theorem d_Model_readName_8 : decode m_Model_readName.2.1 8 = .ok (.aload_n 0, 1) := by decide +kernel
theorem d_Model_readName_9 : decode m_Model_readName.2.1 9 = .ok (.invokevirtual 598, 3) := by decide +kernel
theorem d_Model_readName_12 : decode m_Model_readName.2.1 12 = .ok (.return_, 1) := by decide +kernel
theorem d_Model_readName_13 : decode m_Model_readName.2.1 13 = .ok (.iload_n 2, 1) := by decide +kernel
theorem d_Model_readName_14 : decode m_Model_readName.2.1 14 = .ok (.iconst 1, 1) := by decide +kernel
theorem d_Model_readName_15 : decode m_Model_readName.2.1 15 = .ok (.if_icmp .ne 16, 3) := by decide +kernel
theorem d_Model_readName_18 : decode m_Model_readName.2.1 18 = .ok (.aload_n 0, 1) := by decide +kernel
theorem d_Model_readName_19 : decode m_Model_readName.2.1 19 = .ok (.getfield 29, 3) := by decide +kernel
theorem d_Model_readName_22 : decode m_Model_readName.2.1 22 = .ok (.iload_n 1, 1) := by decide +kernel
theorem d_Model_readName_23 : decode m_Model_readName.2.1 23 = .ok (.aload_n 0, 1) := by decide +kernel
theorem d_Model_readName_24 : decode m_Model_readName.2.1 24 = .ok (.getfield 557, 3) := by decide +kernel
theorem d_Model_readName_27 : decode m_Model_readName.2.1 27 = .ok (.lastore, 1) := by decide +kernel
theorem d_Model_readName_28 : decode m_Model_readName.2.1 28 = .ok (.goto 31, 3) := by decide +kernel
theorem d_Model_readName_31 : decode m_Model_readName.2.1 31 = .ok (.iload_n 2, 1) := by decide +kernel
theorem d_Model_readName_32 : decode m_Model_readName.2.1 32 = .ok (.iconst 2, 1) := by decide +kernel
theorem d_Model_readName_33 : decode m_Model_readName.2.1 33 = .ok (.if_icmp .ne 16, 3) := by decide +kernel
theorem d_Model_readName_36 : decode m_Model_readName.2.1 36 = .ok (.aload_n 0, 1) := by decide +kernel
theorem d_Model_readName_37 : decode m_Model_readName.2.1 37 = .ok (.getfield 33, 3) := by decide +kernel
theorem d_Model_readName_40 : decode m_Model_readName.2.1 40 = .ok (.iload_n 1, 1) := by decide +kernel
theorem d_Model_readName_41 : decode m_Model_readName.2.1 41 = .ok (.aload_n 0, 1) := by decide +kernel
theorem d_Model_readName_42 : decode m_Model_readName.2.1 42 = .ok (.getfield 557, 3) := by decide +kernel
theorem d_Model_readName_45 : decode m_Model_readName.2.1 45 = .ok (.lastore, 1) := by decide +kernel
theorem d_Model_readName_46 : decode m_Model_readName.2.1 46 = .ok (.goto 13, 3) := by decide +kernel
theorem d_Model_readName_49 : decode m_Model_readName.2.1 49 = .ok (.aload_n 0, 1) := by decide +kernel
theorem d_Model_readName_50 : decode m_Model_readName.2.1 50 = .ok (.getfield 36, 3) := by decide +kernel
theorem d_Model_readName_53 : decode m_Model_readName.2.1 53 = .ok (.iload_n 1, 1) := by decide +kernel
theorem d_Model_readName_54 : decode m_Model_readName.2.1 54 = .ok (.aload_n 0, 1) := by decide +kernel
theorem d_Model_readName_55 : decode m_Model_readName.2.1 55 = .ok (.getfield 557, 3) := by decide +kernel
theorem d_Model_readName_58 : decode m_Model_readName.2.1 58 = .ok (.lastore, 1) := by decide +kernel
theorem d_Model_readName_59 : decode m_Model_readName.2.1 59 = .ok (.aload_n 0, 1) := by decide +kernel
theorem d_Model_readName_60 : decode m_Model_readName.2.1 60 = .ok (.invokevirtual 608, 3) := by decide +kernel
theorem d_Model_readName_63 : decode m_Model_readName.2.1 63 = .ok (.return_, 1) := by decide +kernel
theorem d_Model_readSign_0 : decode m_Model_readSign.2.1 0 = .ok (.aload_n 0, 1) := by decide +kernel
theorem d_Model_readSign_1 : decode m_Model_readSign.2.1 1 = .ok (.getfield 550, 3) := by decide +kernel
theorem d_Model_readSign_4 : decode m_Model_readSign.2.1 4 = .ok (.iconst 2, 1) := by decide +kernel
theorem d_Model_readSign_5 : decode m_Model_readSign.2.1 5 = .ok (.if_icmp .ne 29, 3) := by decide +kernel
theorem d_Model_readSign_8 : decode m_Model_readSign.2.1 8 = .ok (.aload_n 0, 1) := by decide +kernel
theorem d_Model_readSign_9 : decode m_Model_readSign.2.1 9 = .ok (.getfield 557, 3) := by decide +kernel
theorem d_Model_readSign_12 : decode m_Model_readSign.2.1 12 = .ok (.ldc2_w 468, 3) := by decide +kernel
theorem d_Model_readSign_15 : decode m_Model_readSign.2.1 15 = .ok (.lcmp, 1) := by decide +kernel
theorem d_Model_readSign_16 : decode m_Model_readSign.2.1 16 = .ok (.ifCond .eq 14, 3) := by decide +kernel
theorem d_Model_readSign_19 : decode m_Model_readSign.2.1 19 = .ok (.aload_n 0, 1) := by decide +kernel
theorem d_Model_readSign_20 : decode m_Model_readSign.2.1 20 = .ok (.getfield 557, 3) := by decide +kernel
theorem d_Model_readSign_23 : decode m_Model_readSign.2.1 23 = .ok (.ldc2_w 470, 3) := by decide +kernel
theorem d_Model_readSign_26 : decode m_Model_readSign.2.1 26 = .ok (.lcmp, 1) := by decide +kernel
theorem d_Model_readSign_27 : decode m_Model_readSign.2.1 27 = .ok (.ifCond .ne 7, 3) := by decide +kernel
theorem d_Model_readSign_30 : decode m_Model_readSign.2.1 30 = .ok (.iconst 1, 1) := by decide +kernel
theorem d_Model_readSign_31 : decode m_Model_readSign.2.1 31 = .ok (.goto 4, 3) := by decide +kernel
theorem d_Model_readSign_34 : decode m_Model_readSign.2.1 34 = .ok (.iconst 0, 1) := by decide +kernel
theorem d_Model_readSign_35 : decode m_Model_readSign.2.1 35 = .ok (.istore_n 3, 1) := by decide +kernel
theorem d_Model_readSign_36 : decode m_Model_readSign.2.1 36 = .ok (.iload_n 1, 1) := by decide +kernel
theorem d_Model_readSign_37 : decode m_Model_readSign.2.1 37 = .ok (.iconst 5, 1) := by decide +kernel
theorem d_Model_readSign_38 : decode m_Model_readSign.2.1 38 = .ok (.if_icmp .ne 20, 3) := by decide +kernel
theorem d_Model_readSign_41 : decode m_Model_readSign.2.1 41 = .ok (.aload_n 0, 1) := by decide +kernel
theorem d_Model_readSign_42 : decode m_Model_readSign.2.1 42 = .ok (.getfield 550, 3) := by decide +kernel
theorem d_Model_readSign_45 : decode m_Model_readSign.2.1 45 = .ok (.bipush 6, 2) := by decide +kernel
theorem d_Model_readSign_47 : decode m_Model_readSign.2.1 47 = .ok (.if_icmp .ne 7, 3) := by decide +kernel
theorem d_Model_readSign_50 : decode m_Model_readSign.2.1 50 = .ok (.iconst 1, 1) := by decide +kernel
theorem d_Model_readSign_51 : decode m_Model_readSign.2.1 51 = .ok (.goto 31, 3) := by decide +kernel
theorem d_Model_readSign_54 : decode m_Model_readSign.2.1 54 = .ok (.iconst 0, 1) := by decide +kernel
theorem d_Model_readSign_55 : decode m_Model_readSign.2.1 55 = .ok (.goto 27, 3) := by decide +kernel
theorem d_Model_readSign_58 : decode m_Model_readSign.2.1 58 = .ok (.iload_n 1, 1) := by decide +kernel
theorem d_Model_readSign_59 : decode m_Model_readSign.2.1 59 = .ok (.bipush 6, 2) := by decide +kernel
theorem d_Model_readSign_61 : decode m_Model_readSign.2.1 61 = .ok (.if_icmp .ne 7, 3) := by decide +kernel
theorem d_Model_readSign_64 : decode m_Model_readSign.2.1 64 = .ok (.iload_n 3, 1) := by decide +kernel
theorem d_Model_readSign_65 : decode m_Model_readSign.2.1 65 = .ok (.goto 17, 3) := by decide +kernel
theorem d_Model_readSign_68 : decode m_Model_readSign.2.1 68 = .ok (.aload_n 0, 1) := by decide +kernel
theorem d_Model_readSign_69 : decode m_Model_readSign.2.1 69 = .ok (.getfield 550, 3) := by decide +kernel
theorem d_Model_readSign_72 : decode m_Model_readSign.2.1 72 = .ok (.bipush 7, 2) := by decide +kernel
theorem d_Model_readSign_74 : decode m_Model_readSign.2.1 74 = .ok (.if_icmp .ne 7, 3) := by decide +kernel
theorem d_Model_readSign_77 : decode m_Model_readSign.2.1 77 = .ok (.iconst 1, 1) := by decide +kernel
theorem d_Model_readSign_78 : decode m_Model_readSign.2.1 78 = .ok (.goto 4, 3) := by decide +kernel
theorem d_Model_readSign_81 : decode m_Model_readSign.2.1 81 = .ok (.iconst 0, 1) := by decide +kernel
theorem d_Model_readSign_82 : decode m_Model_readSign.2.1 82 = .ok (.istore 4, 2) := by decide +kernel
theorem d_Model_readSign_84 : decode m_Model_readSign.2.1 84 = .ok (.iload 4, 2) := by decide +kernel
theorem d_Model_readSign_86 : decode m_Model_readSign.2.1 86 = .ok (.ifCond .ne 8, 3) := by decide +kernel
theorem d_Model_readSign_89 : decode m_Model_readSign.2.1 89 = .ok (.aload_n 0, 1) := by decide +kernel
theorem d_Model_readSign_90 : decode m_Model_readSign.2.1 90 = .ok (.invokevirtual 598, 3) := by decide +kernel
theorem d_Model_readSign_93 : decode m_Model_readSign.2.1 93 = .ok (.return_, 1) := by decide +kernel
theorem d_Model_readSign_94 : decode m_Model_readSign.2.1 94 = .ok (.iload_n 1, 1) := by decide +kernel
theorem d_Model_readSign_95 : decode m_Model_readSign.2.1 95 = .ok (.bipush 6, 2) := by decide +kernel
theorem d_Model_readSign_97 : decode m_Model_readSign.2.1 97 = .ok (.if_icmp .ne 21, 3) := by decide +kernel
theorem d_Model_readSign_100 : decode m_Model_readSign.2.1 100 = .ok (.aload_n 0, 1) := by decide +kernel
theorem d_Model_readSign_101 : decode m_Model_readSign.2.1 101 = .ok (.getfield 557, 3) := by decide +kernel
theorem d_Model_readSign_104 : decode m_Model_readSign.2.1 104 = .ok (.ldc2_w 470, 3) := by decide +kernel
theorem d_Model_readSign_107 : decode m_Model_readSign.2.1 107 = .ok (.lcmp, 1) := by decide +kernel
theorem d_Model_readSign_108 : decode m_Model_readSign.2.1 108 = .ok (.ifCond .ne 10, 3) := by decide +kernel
theorem d_Model_readSign_111 : decode m_Model_readSign.2.1 111 = .ok (.aload_n 0, 1) := by decide +kernel
theorem d_Model_readSign_112 : decode m_Model_readSign.2.1 112 = .ok (.getfield 26, 3) := by decide +kernel
theorem d_Model_readSign_115 : decode m_Model_readSign.2.1 115 = .ok (.iload_n 2, 1) := by decide +kernel
theorem d_Model_readSign_116 : decode m_Model_readSign.2.1 116 = .ok (.iconst 3, 1) := by decide +kernel
theorem d_Model_readSign_117 : decode m_Model_readSign.2.1 117 = .ok (.iastore, 1) := by decide +kernel
theorem d_Model_readSign_118 : decode m_Model_readSign.2.1 118 = .ok (.aload_n 0, 1) := by decide +kernel
theorem d_Model_readSign_119 : decode m_Model_readSign.2.1 119 = .ok (.invokevirtual 608, 3) := by decide +kernel
theorem d_Model_readSign_122 : decode m_Model_readSign.2.1 122 = .ok (.return_, 1) := by decide +kernel
theorem d_Model_readTime_0 : decode m_Model_readTime.2.1 0 = .ok (.aload_n 0, 1) := by decide +kernel
theorem d_Model_readTime_1 : decode m_Model_readTime.2.1 1 = .ok (.getfield 550, 3) := by decide +kernel
theorem d_Model_readTime_4 : decode m_Model_readTime.2.1 4 = .ok (.iconst 4, 1) := by decide +kernel
theorem d_Model_readTime_5 : decode m_Model_readTime.2.1 5 = .ok (.if_icmp .ne 25, 3) := by decide +kernel
theorem d_Model_readTime_8 : decode m_Model_readTime.2.1 8 = .ok (.aload_n 0, 1) := by decide +kernel
theorem d_Model_readTime_9 : decode m_Model_readTime.2.1 9 = .ok (.getfield 57, 3) := by decide +kernel
theorem d_Model_readTime_12 : decode m_Model_readTime.2.1 12 = .ok (.iload_n 1, 1) := by decide +kernel
theorem d_Model_readTime_13 : decode m_Model_readTime.2.1 13 = .ok (.iconst 1, 1) := by decide +kernel
theorem d_Model_readTime_14 : decode m_Model_readTime.2.1 14 = .ok (.bastore, 1) := by decide +kernel
theorem d_Model_readTime_15 : decode m_Model_readTime.2.1 15 = .ok (.aload_n 0, 1) := by decide +kernel
theorem d_Model_readTime_16 : decode m_Model_readTime.2.1 16 = .ok (.getfield 29, 3) := by decide +kernel
theorem d_Model_readTime_19 : decode m_Model_readTime.2.1 19 = .ok (.iload_n 1, 1) := by decide +kernel
theorem d_Model_readTime_20 : decode m_Model_readTime.2.1 20 = .ok (.aload_n 0, 1) := by decide +kernel
theorem d_Model_readTime_21 : decode m_Model_readTime.2.1 21 = .ok (.getfield 557, 3) := by decide +kernel
theorem d_Model_readTime_24 : decode m_Model_readTime.2.1 24 = .ok (.lastore, 1) := by decide +kernel
theorem d_Model_readTime_25 : decode m_Model_readTime.2.1 25 = .ok (.aload_n 0, 1) := by decide +kernel
theorem d_Model_readTime_26 : decode m_Model_readTime.2.1 26 = .ok (.invokevirtual 608, 3) := by decide +kernel
theorem d_Model_readTime_29 : decode m_Model_readTime.2.1 29 = .ok (.return_, 1) := by decide +kernel
theorem d_Model_readTime_30 : decode m_Model_readTime.2.1 30 = .ok (.aload_n 0, 1) := by decide +kernel
theorem d_Model_readTime_31 : decode m_Model_readTime.2.1 31 = .ok (.getfield 550, 3) := by decide +kernel
theorem d_Model_readTime_34 : decode m_Model_readTime.2.1 34 = .ok (.iconst 1, 1) := by decide +kernel
theorem d_Model_readTime_35 : decode m_Model_readTime.2.1 35 = .ok (.if_icmp .eq 8, 3) := by decide +kernel
theorem d_Model_readTime_38 : decode m_Model_readTime.2.1 38 = .ok (.aload_n 0, 1) := by decide +kernel
theorem d_Model_readTime_39 : decode m_Model_readTime.2.1 39 = .ok (.invokevirtual 598, 3) := by decide +kernel
theorem d_Model_readTime_42 : decode m_Model_readTime.2.1 42 = .ok (.return_, 1) := by decide +kernel
theorem d_Model_readTime_43 : decode m_Model_readTime.2.1 43 = .ok (.aload_n 0, 1) := by decide +kernel
theorem d_Model_readTime_44 : decode m_Model_readTime.2.1 44 = .ok (.getfield 428, 3) := by decide +kernel
theorem d_Model_readTime_47 : decode m_Model_readTime.2.1 47 = .ok (.istore_n 2, 1) := by decide +kernel
theorem d_Model_readTime_48 : decode m_Model_readTime.2.1 48 = .ok (.aload_n 0, 1) := by decide +kernel
theorem d_Model_readTime_49 : decode m_Model_readTime.2.1 49 = .ok (.aload_n 0, 1) := by decide +kernel
theorem d_Model_readTime_50 : decode m_Model_readTime.2.1 50 = .ok (.invokevirtual 618, 3) := by decide +kernel
theorem d_Model_readTime_53 : decode m_Model_readTime.2.1 53 = .ok (.invokevirtual 627, 3) := by decide +kernel
theorem d_Model_readTime_56 : decode m_Model_readTime.2.1 56 = .ok (.lstore_n 3, 1) := by decide +kernel
theorem d_Model_readTime_57 : decode m_Model_readTime.2.1 57 = .ok (.aload_n 0, 1) := by decide +kernel
theorem d_Model_readTime_58 : decode m_Model_readTime.2.1 58 = .ok (.iload_n 2, 1) := by decide +kernel
theorem d_Model_readTime_59 : decode m_Model_readTime.2.1 59 = .ok (.putfield 428, 3) := by decide +kernel
theorem d_Model_readTime_62 : decode m_Model_readTime.2.1 62 = .ok (.lload_n 3, 1) := by decide +kernel
theorem d_Model_readTime_63 : decode m_Model_readTime.2.1 63 = .ok (.lconst 0, 1) := by decide +kernel
theorem d_Model_readTime_64 : decode m_Model_readTime.2.1 64 = .ok (.ldc2_w 631, 3) := by decide +kernel
theorem d_Model_readTime_67 : decode m_Model_readTime.2.1 67 = .ok (.invokestatic 407, 3) := by decide +kernel
theorem d_Model_readTime_70 : decode m_Model_readTime.2.1 70 = .ok (.ifCond .ne 9, 3) := by decide +kernel
theorem d_Model_readTime_73 : decode m_Model_readTime.2.1 73 = .ok (.aload_n 0, 1) := by decide +kernel
theorem d_Model_readTime_74 : decode m_Model_readTime.2.1 74 = .ok (.iconst 5, 1) := by decide +kernel
theorem d_Model_readTime_75 : decode m_Model_readTime.2.1 75 = .ok (.invokevirtual 573, 3) := by decide +kernel
theorem d_Model_readTime_78 : decode m_Model_readTime.2.1 78 = .ok (.return_, 1) := by decide +kernel
theorem d_Model_readTime_79 : decode m_Model_readTime.2.1 79 = .ok (.aload_n 0, 1) := by decide +kernel
theorem d_Model_readTime_80 : decode m_Model_readTime.2.1 80 = .ok (.getfield 54, 3) := by decide +kernel
theorem d_Model_readTime_83 : decode m_Model_readTime.2.1 83 = .ok (.iload_n 1, 1) := by decide +kernel
theorem d_Model_readTime_84 : decode m_Model_readTime.2.1 84 = .ok (.lload_n 3, 1) := by decide +kernel
theorem d_Model_readTime_85 : decode m_Model_readTime.2.1 85 = .ok (.lastore, 1) := by decide +kernel
theorem d_Model_readTime_86 : decode m_Model_readTime.2.1 86 = .ok (.aload_n 0, 1) := by decide +kernel
theorem d_Model_readTime_87 : decode m_Model_readTime.2.1 87 = .ok (.invokevirtual 608, 3) := by decide +kernel
theorem d_Model_readTime_90 : decode m_Model_readTime.2.1 90 = .ok (.return_, 1) := by decide +kernel
theorem d_Model_readAction_0 : decode m_Model_readAction.2.1 0 = .ok (.aload_n 0, 1) := by decide +kernel
theorem d_Model_readAction_1 : decode m_Model_readAction.2.1 1 = .ok (.getfield 550, 3) := by decide +kernel
theorem d_Model_readAction_4 : decode m_Model_readAction.2.1 4 = .ok (.iconst 2, 1) := by decide +kernel
theorem d_Model_readAction_5 : decode m_Model_readAction.2.1 5 = .ok (.if_icmp .ne 40, 3) := by decide +kernel
theorem d_Model_readAction_8 : decode m_Model_readAction.2.1 8 = .ok (.aload_n 0, 1) := by decide +kernel
theorem d_Model_readAction_9 : decode m_Model_readAction.2.1 9 = .ok (.getfield 557, 3) := by decide +kernel
theorem d_Model_readAction_12 : decode m_Model_readAction.2.1 12 = .ok (.ldc2_w 478, 3) := by decide +kernel
theorem d_Model_readAction_15 : decode m_Model_readAction.2.1 15 = .ok (.lcmp, 1) := by decide +kernel
theorem d_Model_readAction_16 : decode m_Model_readAction.2.1 16 = .ok (.ifCond .eq 25, 3) := by decide +kernel
theorem d_Model_readAction_19 : decode m_Model_readAction.2.1 19 = .ok (.aload_n 0, 1) := by decide +kernel
theorem d_Model_readAction_20 : decode m_Model_readAction.2.1 20 = .ok (.getfield 557, 3) := by decide +kernel
theorem d_Model_readAction_23 : decode m_Model_readAction.2.1 23 = .ok (.ldc2_w 480, 3) := by decide +kernel
theorem d_Model_readAction_26 : decode m_Model_readAction.2.1 26 = .ok (.lcmp, 1) := by decide +kernel
theorem d_Model_readAction_27 : decode m_Model_readAction.2.1 27 = .ok (.ifCond .eq 14, 3) := by decide +kernel
theorem d_Model_readAction_30 : decode m_Model_readAction.2.1 30 = .ok (.aload_n 0, 1) := by decide +kernel
theorem d_Model_readAction_31 : decode m_Model_readAction.2.1 31 = .ok (.getfield 557, 3) := by decide +kernel
theorem d_Model_readAction_34 : decode m_Model_readAction.2.1 34 = .ok (.ldc2_w 482, 3) := by decide +kernel
theorem d_Model_readAction_37 : decode m_Model_readAction.2.1 37 = .ok (.lcmp, 1) := by decide +kernel
theorem d_Model_readAction_38 : decode m_Model_readAction.2.1 38 = .ok (.ifCond .ne 7, 3) := by decide +kernel
theorem d_Model_readAction_41 : decode m_Model_readAction.2.1 41 = .ok (.iconst 1, 1) := by decide +kernel
theorem d_Model_readAction_42 : decode m_Model_readAction.2.1 42 = .ok (.goto 4, 3) := by decide +kernel
theorem d_Model_readAction_45 : decode m_Model_readAction.2.1 45 = .ok (.iconst 0, 1) := by decide +kernel
theorem d_Model_readAction_46 : decode m_Model_readAction.2.1 46 = .ok (.istore_n 3, 1) := by decide +kernel
theorem d_Model_readAction_47 : decode m_Model_readAction.2.1 47 = .ok (.iload_n 3, 1) := by decide +kernel
theorem d_Model_readAction_48 : decode m_Model_readAction.2.1 48 = .ok (.ifCond .ne 8, 3) := by decide +kernel
theorem d_Model_readAction_51 : decode m_Model_readAction.2.1 51 = .ok (.aload_n 0, 1) := by decide +kernel
theorem d_Model_readAction_52 : decode m_Model_readAction.2.1 52 = .ok (.invokevirtual 598, 3) := by decide +kernel
theorem d_Model_readAction_55 : decode m_Model_readAction.2.1 55 = .ok (.return_, 1) := by decide +kernel
theorem d_Model_readAction_56 : decode m_Model_readAction.2.1 56 = .ok (.aload_n 0, 1) := by decide +kernel
theorem d_Model_readAction_57 : decode m_Model_readAction.2.1 57 = .ok (.getfield 26, 3) := by decide +kernel
theorem d_Model_readAction_60 : decode m_Model_readAction.2.1 60 = .ok (.iload_n 1, 1) := by decide +kernel
theorem d_Model_readAction_61 : decode m_Model_readAction.2.1 61 = .ok (.aload_n 0, 1) := by decide +kernel
theorem d_Model_readAction_62 : decode m_Model_readAction.2.1 62 = .ok (.getfield 557, 3) := by decide +kernel
theorem d_Model_readAction_65 : decode m_Model_readAction.2.1 65 = .ok (.ldc2_w 478, 3) := by decide +kernel
theorem d_Model_readAction_68 : decode m_Model_readAction.2.1 68 = .ok (.lcmp, 1) := by decide +kernel
theorem d_Model_readAction_69 : decode m_Model_readAction.2.1 69 = .ok (.ifCond .ne 8, 3) := by decide +kernel
theorem d_Model_readAction_72 : decode m_Model_readAction.2.1 72 = .ok (.bipush 8, 2) := by decide +kernel
theorem d_Model_readAction_74 : decode m_Model_readAction.2.1 74 = .ok (.goto 21, 3) := by decide +kernel
theorem d_Model_readAction_77 : decode m_Model_readAction.2.1 77 = .ok (.aload_n 0, 1) := by decide +kernel
theorem d_Model_readAction_78 : decode m_Model_readAction.2.1 78 = .ok (.getfield 557, 3) := by decide +kernel
theorem d_Model_readAction_81 : decode m_Model_readAction.2.1 81 = .ok (.ldc2_w 480, 3) := by decide +kernel
theorem d_Model_readAction_84 : decode m_Model_readAction.2.1 84 = .ok (.lcmp, 1) := by decide +kernel
theorem d_Model_readAction_85 : decode m_Model_readAction.2.1 85 = .ok (.ifCond .ne 8, 3) := by decide +kernel
theorem d_Model_readAction_88 : decode m_Model_readAction.2.1 88 = .ok (.bipush 9, 2) := by decide +kernel
theorem d_Model_readAction_90 : decode m_Model_readAction.2.1 90 = .ok (.goto 5, 3) := by decide +kernel
theorem d_Model_readAction_93 : decode m_Model_readAction.2.1 93 = .ok (.bipush 10, 2) := by decide +kernel
theorem d_Model_readAction_95 : decode m_Model_readAction.2.1 95 = .ok (.iastore, 1) := by decide +kernel
theorem d_Model_readAction_96 : decode m_Model_readAction.2.1 96 = .ok (.aload_n 0, 1) := by decide +kernel
theorem d_Model_readAction_97 : decode m_Model_readAction.2.1 97 = .ok (.invokevirtual 608, 3) := by decide +kernel
theorem d_Model_readAction_100 : decode m_Model_readAction.2.1 100 = .ok (.aload_n 0, 1) := by decide +kernel
theorem d_Model_readAction_101 : decode m_Model_readAction.2.1 101 = .ok (.getfield 26, 3) := by decide +kernel
theorem d_Model_readAction_104 : decode m_Model_readAction.2.1 104 = .ok (.iload_n 1, 1) := by decide +kernel
theorem d_Model_readAction_105 : decode m_Model_readAction.2.1 105 = .ok (.iaload, 1) := by decide +kernel
theorem d_Model_readAction_106 : decode m_Model_readAction.2.1 106 = .ok (.bipush 8, 2) := by decide +kernel
theorem d_Model_readAction_108 : decode m_Model_readAction.2.1 108 = .ok (.if_icmp .ne 38, 3) := by decide +kernel
theorem d_Model_readAction_111 : decode m_Model_readAction.2.1 111 = .ok (.aload_n 0, 1) := by decide +kernel
theorem d_Model_readAction_112 : decode m_Model_readAction.2.1 112 = .ok (.iconst 2, 1) := by decide +kernel
theorem d_Model_readAction_113 : decode m_Model_readAction.2.1 113 = .ok (.iload_n 1, 1) := by decide +kernel
theorem d_Model_readAction_114 : decode m_Model_readAction.2.1 114 = .ok (.iconst 1, 1) := by decide +kernel
theorem d_Model_readAction_115 : decode m_Model_readAction.2.1 115 = .ok (.iload_n 2, 1) := by decide +kernel
theorem d_Model_readAction_116 : decode m_Model_readAction.2.1 116 = .ok (.invokevirtual 611, 3) := by decide +kernel
theorem d_Model_readAction_119 : decode m_Model_readAction.2.1 119 = .ok (.aload_n 0, 1) := by decide +kernel
theorem d_Model_readAction_120 : decode m_Model_readAction.2.1 120 = .ok (.iconst 4, 1) := by decide +kernel
theorem d_Model_readAction_121 : decode m_Model_readAction.2.1 121 = .ok (.iload_n 1, 1) := by decide +kernel
theorem d_Model_readAction_122 : decode m_Model_readAction.2.1 122 = .ok (.iconst 3, 1) := by decide +kernel
theorem d_Model_readAction_123 : decode m_Model_readAction.2.1 123 = .ok (.iload_n 2, 1) := by decide +kernel
theorem d_Model_readAction_124 : decode m_Model_readAction.2.1 124 = .ok (.invokevirtual 611, 3) := by decide +kernel
theorem d_Model_readAction_127 : decode m_Model_readAction.2.1 127 = .ok (.aload_n 0, 1) := by decide +kernel
theorem d_Model_readAction_128 : decode m_Model_readAction.2.1 128 = .ok (.iconst 4, 1) := by decide +kernel
theorem d_Model_readAction_129 : decode m_Model_readAction.2.1 129 = .ok (.iload_n 1, 1) := by decide +kernel
theorem d_Model_readAction_130 : decode m_Model_readAction.2.1 130 = .ok (.iconst 2, 1) := by decide +kernel
theorem d_Model_readAction_131 : decode m_Model_readAction.2.1 131 = .ok (.iload_n 2, 1) := by decide +kernel
theorem d_Model_readAction_132 : decode m_Model_readAction.2.1 132 = .ok (.invokevirtual 611, 3) := by decide +kernel
theorem d_Model_readAction_135 : decode m_Model_readAction.2.1 135 = .ok (.aload_n 0, 1) := by decide +kernel
theorem d_Model_readAction_136 : decode m_Model_readAction.2.1 136 = .ok (.iconst 4, 1) := by decide +kernel
theorem d_Model_readAction_137 : decode m_Model_readAction.2.1 137 = .ok (.iload_n 1, 1) := by decide +kernel
theorem d_Model_readAction_138 : decode m_Model_readAction.2.1 138 = .ok (.iconst 1, 1) := by decide +kernel
theorem d_Model_readAction_139 : decode m_Model_readAction.2.1 139 = .ok (.iload_n 2, 1) := by decide +kernel
theorem d_Model_readAction_140 : decode m_Model_readAction.2.1 140 = .ok (.invokevirtual 611, 3) := by decide +kernel
theorem d_Model_readAction_143 : decode m_Model_readAction.2.1 143 = .ok (.goto 69, 3) := by decide +kernel
theorem d_Model_readAction_146 : decode m_Model_readAction.2.1 146 = .ok (.aload_n 0, 1) := by decide +kernel
theorem d_Model_readAction_147 : decode m_Model_readAction.2.1 147 = .ok (.getfield 26, 3) := by decide +kernel
theorem d_Model_readAction_150 : decode m_Model_readAction.2.1 150 = .ok (.iload_n 1, 1) := by decide +kernel
theorem d_Model_readAction_151 : decode m_Model_readAction.2.1 151 = .ok (.iaload, 1) := by decide +kernel
theorem d_Model_readAction_152 : decode m_Model_readAction.2.1 152 = .ok (.bipush 9, 2) := by decide +kernel
theorem d_Model_readAction_154 : decode m_Model_readAction.2.1 154 = .ok (.if_icmp .ne 50, 3) := by decide +kernel
theorem d_Model_readAction_157 : decode m_Model_readAction.2.1 157 = .ok (.aload_n 0, 1) := by decide +kernel
theorem d_Model_readAction_158 : decode m_Model_readAction.2.1 158 = .ok (.getfield 61, 3) := by decide +kernel
theorem d_Model_readAction_161 : decode m_Model_readAction.2.1 161 = .ok (.iload_n 1, 1) := by decide +kernel
theorem d_Model_readAction_162 : decode m_Model_readAction.2.1 162 = .ok (.aload_n 0, 1) := by decide +kernel
theorem d_Model_readAction_163 : decode m_Model_readAction.2.1 163 = .ok (.getfield 624, 3) := by decide +kernel
theorem d_Model_readAction_166 : decode m_Model_readAction.2.1 166 = .ok (.iastore, 1) := by decide +kernel
theorem d_Model_readAction_167 : decode m_Model_readAction.2.1 167 = .ok (.aload_n 0, 1) := by decide +kernel
theorem d_Model_readAction_168 : decode m_Model_readAction.2.1 168 = .ok (.bipush 12, 2) := by decide +kernel
theorem d_Model_readAction_170 : decode m_Model_readAction.2.1 170 = .ok (.iload_n 1, 1) := by decide +kernel
theorem d_Model_readAction_171 : decode m_Model_readAction.2.1 171 = .ok (.iconst 0, 1) := by decide +kernel
theorem d_Model_readAction_172 : decode m_Model_readAction.2.1 172 = .ok (.iload_n 2, 1) := by decide +kernel
theorem d_Model_readAction_173 : decode m_Model_readAction.2.1 173 = .ok (.invokevirtual 611, 3) := by decide +kernel
theorem d_Model_readAction_176 : decode m_Model_readAction.2.1 176 = .ok (.aload_n 0, 1) := by decide +kernel
theorem d_Model_readAction_177 : decode m_Model_readAction.2.1 177 = .ok (.bipush 11, 2) := by decide +kernel
theorem d_Model_readAction_179 : decode m_Model_readAction.2.1 179 = .ok (.iload_n 1, 1) := by decide +kernel
theorem d_Model_readAction_180 : decode m_Model_readAction.2.1 180 = .ok (.iconst 0, 1) := by decide +kernel
theorem d_Model_readAction_181 : decode m_Model_readAction.2.1 181 = .ok (.iload_n 2, 1) := by decide +kernel
theorem d_Model_readAction_182 : decode m_Model_readAction.2.1 182 = .ok (.invokevirtual 611, 3) := by decide +kernel
theorem d_Model_readAction_185 : decode m_Model_readAction.2.1 185 = .ok (.aload_n 0, 1) := by decide +kernel
theorem d_Model_readAction_186 : decode m_Model_readAction.2.1 186 = .ok (.iconst 4, 1) := by decide +kernel
theorem d_Model_readAction_187 : decode m_Model_readAction.2.1 187 = .ok (.iload_n 1, 1) := by decide +kernel
theorem d_Model_readAction_188 : decode m_Model_readAction.2.1 188 = .ok (.iconst 2, 1) := by decide +kernel
theorem d_Model_readAction_189 : decode m_Model_readAction.2.1 189 = .ok (.iload_n 2, 1) := by decide +kernel
theorem d_Model_readAction_190 : decode m_Model_readAction.2.1 190 = .ok (.invokevirtual 611, 3) := by decide +kernel
theorem d_Model_readAction_193 : decode m_Model_readAction.2.1 193 = .ok (.aload_n 0, 1) := by decide +kernel
theorem d_Model_readAction_194 : decode m_Model_readAction.2.1 194 = .ok (.iconst 4, 1) := by decide +kernel
theorem d_Model_readAction_195 : decode m_Model_readAction.2.1 195 = .ok (.iload_n 1, 1) := by decide +kernel
theorem d_Model_readAction_196 : decode m_Model_readAction.2.1 196 = .ok (.iconst 1, 1) := by decide +kernel
theorem d_Model_readAction_197 : decode m_Model_readAction.2.1 197 = .ok (.iload_n 2, 1) := by decide +kernel
theorem d_Model_readAction_198 : decode m_Model_readAction.2.1 198 = .ok (.invokevirtual 611, 3) := by decide +kernel
theorem d_Model_readAction_201 : decode m_Model_readAction.2.1 201 = .ok (.goto 11, 3) := by decide +kernel
theorem d_Model_readAction_204 : decode m_Model_readAction.2.1 204 = .ok (.aload_n 0, 1) := by decide +kernel
theorem d_Model_readAction_205 : decode m_Model_readAction.2.1 205 = .ok (.iconst 3, 1) := by decide +kernel
theorem d_Model_readAction_206 : decode m_Model_readAction.2.1 206 = .ok (.iload_n 1, 1) := by decide +kernel
theorem d_Model_readAction_207 : decode m_Model_readAction.2.1 207 = .ok (.iconst 1, 1) := by decide +kernel
theorem d_Model_readAction_208 : decode m_Model_readAction.2.1 208 = .ok (.iload_n 2, 1) := by decide +kernel
theorem d_Model_readAction_209 : decode m_Model_readAction.2.1 209 = .ok (.invokevirtual 611, 3) := by decide +kernel
theorem d_Model_readAction_212 : decode m_Model_readAction.2.1 212 = .ok (.return_, 1) := by decide +kernel
/-- a fault is told -/
def erQ (M : Nat) (c : Int) (b : Nat) (I : M32) (L : M64) (I' : M32) (L' : M64) : Prop := I' M 17 = cI c ∧ I' M 18 = cI b ∧ Fx (SEr M) I I' ∧ L' = L
theorem er_up {M b : Nat} {c : Int} {I : M32} {L : M64} (h14 : I M 14 = cI b) : erQ M c b I L (up2 (up2 I M 17 (cI c)) M 18 (I M 14)) L := ⟨by rw [up2_k _ _ _ (by decide), up2_s], by rw [up2_s]; exact h14, (Fx.up ⟨rfl, Or.inl rfl⟩).tu ⟨rfl, Or.inr rfl⟩, rfl⟩
/-- failToken with the token at hand -/
theorem c_Model_failT (d : Nat) {M N a : Nat} {t : Nat → Nat} {I : M32} {L : M64} {R : MR} {T : SH} (hd : 1 ≤ d) (hM : MdlS M R T) (hT : TH M N a t I L) (hF : I M 17 = cI 0) : Call m_Model_failToken y_Model_failToken d 0 0 [.ref M] I L R T (rV fun I' L' R' T' => erQ M (fcF (tk (tkP t N) a)) (tb (tkP t N) a) I L I' L' ∧ R' = R ∧ T' = T) := by
  obtain ⟨hok0, h12, h13, h14, h15, h16⟩ := id hT
  have hok : TokR t N a (tb (tkP t N) a) (te (tkP t N) a) (tk (tkP t N) a) (tx (tkP t N) a) (tv (tkP t N) a) := hok0
  refine (c_Model_failToken d hd hM hF (by decide) h13 (by unfold tkc; (repeat' split) <;> decide)).mono ?_
  rintro o I' L' R' T' ⟨h1, h2, h3, h4, h5⟩
  refine ⟨h1, ?_, h4, h5⟩
  rw [h2, if_pos rfl, fkc hok.kd, h3]
  exact er_up h14
theorem c_Model_readName (d : Nat) {M N a n : Nat} {s : Int} {t : Nat → Nat} {I : M32} {L : M64} {R : MR} {T : SH} (hd : 2 ≤ d) (hM : MdlS M R T) (hT : TH M N a t I L) (hn5 : n < 5100) (hs : 1 ≤ s ∧ s ≤ 3) (hF : I M 17 = cI 0) :
    Call m_Model_readName y_Model_readName d 0 0 [.ref M, .int (cI n), .int (cI s)] I L R T (rV fun I' L' R' T' => ((tk (tkP t N) a ≠ 101 ∧ erQ M (fcF (tk (tkP t N) a)) (tb (tkP t N) a) I L I' L') ∨ (tk (tkP t N) a = 101 ∧ I' = up2 I M 12 (cI (te (tkP t N) a)) ∧ L' = up2 L (M + 6 + s.toNat) n (cL (tx (tkP t N) a)))) ∧ R' = R ∧ T' = T) := by
  refine Call.ofRun (by decide) ⟨rfl, rfl⟩ (Nat.le_of_ble_eq_true rfl) ?_
  refine Run.gen fun Q hQ => ?_
  have hfT := c_Model_failT (d - 1) (by omega) hM hT hF
  obtain ⟨hok0, h12, h13, h14, h15, h16⟩ := id hT
  clear hT hok0
  replace h16 : Unit → _ := fun _ => h16
  generalize tk (tkP t N) a = K at *
  generalize tx (tkP t N) a = x at *
  generalize tb (tkP t N) a = b at *
  generalize te (tkP t N) a = e at *
  have hki : inI (tkc K) := tkc_i
  have hk3 : Unit → (tkc K = 3 ↔ K = 101) := fun _ => tkc_3
  refine q_aload_n d_Model_readName_0 rfl ?_
  refine j_getI (v := (cI (tkc K))) d_Model_readName_1 fl_Model_550 hM.1 ⟨rfl, by decide⟩ h13 ?_
  refine j_iconst d_Model_readName_4 ?_
  refine j_icmp_eq (tgt := 13) d_Model_readName_5 (by decide) (by omega) (by omega) (fun p1 => ?_) (fun p1 => ?_)
  · skip
    have hK := (hk3 ()).mp p1
    refine q_iload_n d_Model_readName_13 rfl ?_
    refine j_iconst d_Model_readName_14 ?_
    refine j_icmp_ne (tgt := 31) d_Model_readName_15 (by decide) (by omega) (by omega) (fun hp1 => ?_) (fun hp1 => ?_)
    · refine q_iload_n d_Model_readName_31 rfl ?_
      refine j_iconst d_Model_readName_32 ?_
      refine j_icmp_ne (tgt := 49) d_Model_readName_33 (by decide) (by omega) (by omega) (fun hp2 => ?_) (fun hp2 => ?_)
      · refine q_aload_n d_Model_readName_49 rfl ?_
        refine q_getR d_Model_readName_50 fl_Model_36 hM.1 ⟨rfl, by decide⟩ (mR22 hM) ?_
        refine q_iload_n d_Model_readName_53 rfl ?_
        refine q_aload_n d_Model_readName_54 rfl ?_
        refine j_getL (v := (cL (x : Int))) d_Model_readName_55 fl_Model_557 hM.1 ⟨rfl, by decide⟩ (h16 () (Or.inr (Or.inl hK))) ?_
        refine j_last (j := n) d_Model_readName_58 (mT22 hM) (mN22 hM) (by omega) (by omega) (by omega) ?_
        refine q_aload_n d_Model_readName_59 rfl ?_
        refine q_callV (ci := 17) (rc := 0) (rs := 0) (rest := []) d_Model_readName_60 ml_Model_608 ok_Model_use rfl hM.1 (by decide) (c_Model_use (d - 1) hM) rfl rfl (by omega) (Nat.le_of_ble_eq_true rfl) (kp_V ?_) kt_V
        refine q_return d_Model_readName_63 rfl ?_
        refine hQ _ _ _ _ _ ?_
        exact ⟨rfl, Or.inr ⟨hK, by rw [h15], by congr 1; omega⟩, rfl, rfl⟩
      · refine q_aload_n d_Model_readName_36 rfl ?_
        refine q_getR d_Model_readName_37 fl_Model_33 hM.1 ⟨rfl, by decide⟩ (mR21 hM) ?_
        refine q_iload_n d_Model_readName_40 rfl ?_
        refine q_aload_n d_Model_readName_41 rfl ?_
        refine j_getL (v := (cL (x : Int))) d_Model_readName_42 fl_Model_557 hM.1 ⟨rfl, by decide⟩ (h16 () (Or.inr (Or.inl hK))) ?_
        refine j_last (j := n) d_Model_readName_45 (mT21 hM) (mN21 hM) (by omega) (by omega) (by omega) ?_
        refine q_goto (tgt := 59) d_Model_readName_46 (by decide) ?_
        refine q_aload_n d_Model_readName_59 rfl ?_
        refine q_callV (ci := 17) (rc := 0) (rs := 0) (rest := []) d_Model_readName_60 ml_Model_608 ok_Model_use rfl hM.1 (by decide) (c_Model_use (d - 1) hM) rfl rfl (by omega) (Nat.le_of_ble_eq_true rfl) (kp_V ?_) kt_V
        refine q_return d_Model_readName_63 rfl ?_
        refine hQ _ _ _ _ _ ?_
        exact ⟨rfl, Or.inr ⟨hK, by rw [h15], by congr 1; omega⟩, rfl, rfl⟩
    · refine q_aload_n d_Model_readName_18 rfl ?_
      refine q_getR d_Model_readName_19 fl_Model_29 hM.1 ⟨rfl, by decide⟩ (mR20 hM) ?_
      refine q_iload_n d_Model_readName_22 rfl ?_
      refine q_aload_n d_Model_readName_23 rfl ?_
      refine j_getL (v := (cL (x : Int))) d_Model_readName_24 fl_Model_557 hM.1 ⟨rfl, by decide⟩ (h16 () (Or.inr (Or.inl hK))) ?_
      refine j_last (j := n) d_Model_readName_27 (mT20 hM) (mN20 hM) (by omega) (by omega) (by omega) ?_
      refine q_goto (tgt := 59) d_Model_readName_28 (by decide) ?_
      refine q_aload_n d_Model_readName_59 rfl ?_
      refine q_callV (ci := 17) (rc := 0) (rs := 0) (rest := []) d_Model_readName_60 ml_Model_608 ok_Model_use rfl hM.1 (by decide) (c_Model_use (d - 1) hM) rfl rfl (by omega) (Nat.le_of_ble_eq_true rfl) (kp_V ?_) kt_V
      refine q_return d_Model_readName_63 rfl ?_
      refine hQ _ _ _ _ _ ?_
      exact ⟨rfl, Or.inr ⟨hK, by rw [h15], by congr 1; omega⟩, rfl, rfl⟩
  · skip
    refine q_aload_n d_Model_readName_8 rfl ?_
    refine q_callV (ci := 17) (rc := 0) (rs := 0) (rest := []) d_Model_readName_9 ml_Model_598 ok_Model_failToken rfl hM.1 (by decide) (hfT) rfl rfl (by omega) (Nat.le_of_ble_eq_true rfl) (kr_V (fun I1 L1 R1 T1 h => ?_)) kt_V
    refine q_return d_Model_readName_12 rfl ?_
    refine hQ _ _ _ _ _ ?_
    exact ⟨rfl, Or.inl ⟨fun e9 => p1 ((hk3 ()).mpr e9), h.1⟩, h.2.1, h.2.2⟩
theorem c_Model_readSign (d : Nat) {M N a n : Nat} {w nz : Int} {t : Nat → Nat} {I : M32} {L : M64} {R : MR} {T : SH} (hd : 2 ≤ d) (hM : MdlS M R T) (hT : TH M N a t I L) (hn : w = 6 → nz = n) (hn5 : n < 5100) (hw : w = 5 ∨ w = 6 ∨ w = 7 ∨ w = 11) (hF : I M 17 = cI 0) :
    Call m_Model_readSign y_Model_readSign d 0 0 [.ref M, .int (cI w), .int (cI nz)] I L R T (rV fun I' L' R' T' => (((if w = 5 then tk (tkP t N) a ≠ 104 else if w = 6 then tk (tkP t N) a ≠ 2 ∧ tk (tkP t N) a ≠ 3 else tk (tkP t N) a ≠ 105) ∧ erQ M (fcF (tk (tkP t N) a)) (tb (tkP t N) a) I L I' L') ∨ ((if w = 5 then tk (tkP t N) a = 104 else if w = 6 then tk (tkP t N) a = 2 ∨ tk (tkP t N) a = 3 else tk (tkP t N) a = 105) ∧ I' = up2 (if w = 6 ∧ tk (tkP t N) a = 3 then up2 I (M + 6) n (cI 3) else I) M 12 (cI (te (tkP t N) a)) ∧ L' = L)) ∧ R' = R ∧ T' = T) := by
  refine Call.ofRun (by decide) ⟨rfl, rfl⟩ (Nat.le_of_ble_eq_true rfl) ?_
  refine Run.gen fun Q hQ => ?_
  have hfT := c_Model_failT (d - 1) (by omega) hM hT hF
  obtain ⟨hok0, h12, h13, h14, h15, h16⟩ := id hT
  have hok : TokR t N a (tb (tkP t N) a) (te (tkP t N) a) (tk (tkP t N) a) (tx (tkP t N) a) (tv (tkP t N) a) := hok0
  have hkd := hok.kd
  have hkw := fun (_ : Unit) => hok.kw
  have hx63 := fun (_ : Unit) => hok.x63
  replace h16 : Unit → _ := fun _ => h16
  clear hT hok0 hok
  generalize tk (tkP t N) a = K at *
  generalize tx (tkP t N) a = x at *
  generalize tb (tkP t N) a = b at *
  generalize te (tkP t N) a = e at *
  have hki : inI (tkc K) := tkc_i
  have hk2 : Unit → (tkc K = 2 ↔ (0 ≤ K ∧ K < 100)) := fun _ => tkc_2 hkd
  have hk6 : Unit → (tkc K = 6 ↔ K = 104) := fun _ => tkc_6
  have hk7 : Unit → (tkc K = 7 ↔ K = 105) := fun _ => tkc_7
  have hx2 : Unit → 0 ≤ K ∧ K < 100 → ((K = 2 ↔ x = 29807) ∧ (K = 3 ↔ x = 1768846447)) := fun _ h => by
    have := hkw () h
    rw [← this.1]
    exact ⟨kwF_at 2 (by decide), kwF_at 3 (by decide)⟩
  have main : ∀ (y : Int), (y = 1 ∧ (K = 2 ∨ K = 3)) ∨ (y = 0 ∧ ¬ (K = 2 ∨ K = 3)) → Run m_Model_readSign d 0 0 35 [(0, .ref M), (1, .int (cI w)), (2, .int (cI nz))] [.int (cI y)] I L R T Q := by
    intro y hy
    refine q_istore_n (lv' := [(3, .int (cI y)), (0, .ref M), (1, .int (cI w)), (2, .int (cI nz))]) d_Model_readSign_35 (by decide) rfl ?_
    refine q_iload_n d_Model_readSign_36 rfl ?_
    refine j_iconst d_Model_readSign_37 ?_
    suffices J : ∀ (v : Int), (((¬ w = 5) ∧ (¬ w = 6) ∧ (¬ (tkc K) = 7) ∧ v = 0) ∨ ((¬ w = 5) ∧ (¬ w = 6) ∧ ((tkc K) = 7) ∧ v = 1) ∨ ((¬ w = 5) ∧ (w = 6) ∧ v = y) ∨ ((w = 5) ∧ (¬ (tkc K) = 6) ∧ v = 0) ∨ ((w = 5) ∧ ((tkc K) = 6) ∧ v = 1)) → Run m_Model_readSign d 0 0 82 [(0, .ref M), (1, .int (cI w)), (2, .int (cI nz)), (3, .int (cI y))] [.int (cI v)] I L R T Q by
      refine j_icmp_ne (tgt := 58) d_Model_readSign_38 (by decide) (by omega) (by omega) (fun hp3 => ?_) (fun hp3 => ?_)
      · refine q_iload_n d_Model_readSign_58 rfl ?_
        refine j_bipush d_Model_readSign_59 (by decide) ?_
        refine j_icmp_ne (tgt := 68) d_Model_readSign_61 (by decide) (by omega) (by omega) (fun hp4 => ?_) (fun hp4 => ?_)
        · refine q_aload_n d_Model_readSign_68 rfl ?_
          refine j_getI (v := (cI (tkc K))) d_Model_readSign_69 fl_Model_550 hM.1 ⟨rfl, by decide⟩ h13 ?_
          refine j_bipush d_Model_readSign_72 (by decide) ?_
          refine j_icmp_ne (tgt := 81) d_Model_readSign_74 (by decide) (by omega) (by omega) (fun hp5 => ?_) (fun hp5 => ?_)
          · refine j_iconst d_Model_readSign_81 ?_
            refine Run.lv (lv' := [(0, .ref M), (1, .int (cI w)), (2, .int (cI nz)), (3, .int (cI y))]) (by intro q hq; simp only [List.mem_cons, List.not_mem_nil, or_false] at hq ⊢; rcases hq with rfl | rfl | rfl | rfl <;> simp) ?_
            exact J _ (Or.inl ⟨hp3, hp4, hp5, rfl⟩)
          · refine j_iconst d_Model_readSign_77 ?_
            refine q_goto (tgt := 82) d_Model_readSign_78 (by decide) ?_
            refine Run.lv (lv' := [(0, .ref M), (1, .int (cI w)), (2, .int (cI nz)), (3, .int (cI y))]) (by intro q hq; simp only [List.mem_cons, List.not_mem_nil, or_false] at hq ⊢; rcases hq with rfl | rfl | rfl | rfl <;> simp) ?_
            exact J _ (Or.inr (Or.inl ⟨hp3, hp4, hp5, rfl⟩))
        · refine q_iload_n d_Model_readSign_64 rfl ?_
          refine q_goto (tgt := 82) d_Model_readSign_65 (by decide) ?_
          refine Run.lv (lv' := [(0, .ref M), (1, .int (cI w)), (2, .int (cI nz)), (3, .int (cI y))]) (by intro q hq; simp only [List.mem_cons, List.not_mem_nil, or_false] at hq ⊢; rcases hq with rfl | rfl | rfl | rfl <;> simp) ?_
          exact J _ (Or.inr (Or.inr (Or.inl ⟨hp3, hp4, rfl⟩)))
      · refine q_aload_n d_Model_readSign_41 rfl ?_
        refine j_getI (v := (cI (tkc K))) d_Model_readSign_42 fl_Model_550 hM.1 ⟨rfl, by decide⟩ h13 ?_
        refine j_bipush d_Model_readSign_45 (by decide) ?_
        refine j_icmp_ne (tgt := 54) d_Model_readSign_47 (by decide) (by omega) (by omega) (fun hp6 => ?_) (fun hp6 => ?_)
        · refine j_iconst d_Model_readSign_54 ?_
          refine q_goto (tgt := 82) d_Model_readSign_55 (by decide) ?_
          refine Run.lv (lv' := [(0, .ref M), (1, .int (cI w)), (2, .int (cI nz)), (3, .int (cI y))]) (by intro q hq; simp only [List.mem_cons, List.not_mem_nil, or_false] at hq ⊢; rcases hq with rfl | rfl | rfl | rfl <;> simp) ?_
          exact J _ (Or.inr (Or.inr (Or.inr (Or.inl ⟨hp3, hp6, rfl⟩))))
        · refine j_iconst d_Model_readSign_50 ?_
          refine q_goto (tgt := 82) d_Model_readSign_51 (by decide) ?_
          refine Run.lv (lv' := [(0, .ref M), (1, .int (cI w)), (2, .int (cI nz)), (3, .int (cI y))]) (by intro q hq; simp only [List.mem_cons, List.not_mem_nil, or_false] at hq ⊢; rcases hq with rfl | rfl | rfl | rfl <;> simp) ?_
          exact J _ (Or.inr (Or.inr (Or.inr (Or.inr ⟨hp3, hp6, rfl⟩))))
    intro v hv
    have hv2 : (v = 1 ∧ (if w = 5 then K = 104 else if w = 6 then K = 2 ∨ K = 3 else K = 105)) ∨ (v = 0 ∧ (if w = 5 then K ≠ 104 else if w = 6 then K ≠ 2 ∧ K ≠ 3 else K ≠ 105)) := by
      have a6 := hk6 ()
      have a7 := hk7 ()
      (repeat' split) <;> omega
    refine q_istore (lv' := [(4, .int (cI v)), (0, .ref M), (1, .int (cI w)), (2, .int (cI nz)), (3, .int (cI y))]) d_Model_readSign_82 (by decide) rfl ?_
    refine q_iload d_Model_readSign_84 rfl ?_
    refine j_if_ne (tgt := 94) d_Model_readSign_86 (by decide) (by omega) (fun p1 => ?_) (fun p1 => ?_)
    · skip
      have hv3 := hv2.resolve_right (fun q => by omega)
      have use : ∀ (J : M32), J = (if w = 6 ∧ K = 3 then up2 I (M + 6) n (cI 3) else I) → Run m_Model_readSign d 0 0 118 [(0, .ref M), (1, .int (cI w)), (2, .int (cI nz)), (3, .int (cI y)), (4, .int (cI v))] [] J L R T Q := by
        intro J hJ
        have hJ15 : J M 15 = cI e := by rw [hJ]; split; rw [up2_a _ _ _ (by omega)]; exact h15; exact h15
        refine q_aload_n d_Model_readSign_118 rfl ?_
        refine q_callV (ci := 17) (rc := 0) (rs := 0) (rest := []) d_Model_readSign_119 ml_Model_608 ok_Model_use rfl hM.1 (by decide) (c_Model_use (d - 1) hM) rfl rfl (by omega) (Nat.le_of_ble_eq_true rfl) (kp_V ?_) kt_V
        refine q_return d_Model_readSign_122 rfl ?_
        refine hQ _ _ _ _ _ ?_
        exact ⟨rfl, Or.inr ⟨hv3.2, by rw [← hJ, hJ15], rfl⟩, rfl, rfl⟩
      refine q_iload_n d_Model_readSign_94 rfl ?_
      refine j_bipush d_Model_readSign_95 (by decide) ?_
      refine j_icmp_ne (tgt := 118) d_Model_readSign_97 (by decide) (by omega) (by omega) (fun p2 => ?_) (fun p2 => ?_)
      · skip
        refine Run.lv (lv' := [(0, .ref M), (1, .int (cI w)), (2, .int (cI nz)), (3, .int (cI y)), (4, .int (cI v))]) (by intro q hq; simp only [List.mem_cons, List.not_mem_nil, or_false] at hq ⊢; rcases hq with rfl | rfl | rfl | rfl | rfl <;> simp) ?_
        exact use I (by rw [if_neg (by omega)])
      · skip
        have hk23 : K = 2 ∨ K = 3 := by have := hv3.2; rw [if_neg (by omega), if_pos (by omega)] at this; exact this
        have hX6 := h16 () (Or.inl (by omega))
        have hx3 := hx2 () (by omega)
        have hx1 := (hx63 () (Or.inl (by omega))).1
        obtain rfl : nz = (n : Int) := hn (by omega)
        refine q_aload_n d_Model_readSign_100 rfl ?_
        refine j_getL (v := (cL (x : Int))) d_Model_readSign_101 fl_Model_557 hM.1 ⟨rfl, by decide⟩ hX6 ?_
        refine j_ldc2 (z := 1768846447) d_Model_readSign_104 (inT11 125 rfl) (by decide) ?_
        refine j_lcmp_ne (tgt := 118) d_Model_readSign_107 d_Model_readSign_108 (by decide) (by omega) (by omega) (fun p3 => ?_) (fun p3 => ?_)
        · skip
          refine Run.lv (lv' := [(0, .ref M), (1, .int (cI w)), (2, .int (cI (n : Int))), (3, .int (cI y)), (4, .int (cI v))]) (by intro q hq; simp only [List.mem_cons, List.not_mem_nil, or_false] at hq ⊢; rcases hq with rfl | rfl | rfl | rfl | rfl <;> simp) ?_
          exact use I (by rw [if_neg (by omega)])
        · skip
          refine q_aload_n d_Model_readSign_111 rfl ?_
          refine q_getR d_Model_readSign_112 fl_Model_26 hM.1 ⟨rfl, by decide⟩ (mR19 hM) ?_
          refine q_iload_n d_Model_readSign_115 rfl ?_
          refine j_iconst d_Model_readSign_116 ?_
          refine j_iast (j := n) d_Model_readSign_117 (mT19 hM) (mN19 hM) (by omega) (by omega) (by omega) ?_
          refine Run.lv (lv' := [(0, .ref M), (1, .int (cI w)), (2, .int (cI (n : Int))), (3, .int (cI y)), (4, .int (cI v))]) (by intro q hq; simp only [List.mem_cons, List.not_mem_nil, or_false] at hq ⊢; rcases hq with rfl | rfl | rfl | rfl | rfl <;> simp) ?_
          exact use _ (by rw [if_pos (by omega)])
    · skip
      have hv3 := hv2.resolve_left (fun q => by omega)
      refine q_aload_n d_Model_readSign_89 rfl ?_
      refine q_callV (ci := 17) (rc := 0) (rs := 0) (rest := []) d_Model_readSign_90 ml_Model_598 ok_Model_failToken rfl hM.1 (by decide) (hfT) rfl rfl (by omega) (Nat.le_of_ble_eq_true rfl) (kr_V (fun I1 L1 R1 T1 h => ?_)) kt_V
      refine q_return d_Model_readSign_93 rfl ?_
      refine hQ _ _ _ _ _ ?_
      exact ⟨rfl, Or.inl ⟨hv3.2, h.1⟩, h.2.1, h.2.2⟩
  refine q_aload_n d_Model_readSign_0 rfl ?_
  refine j_getI (v := (cI (tkc K))) d_Model_readSign_1 fl_Model_550 hM.1 ⟨rfl, by decide⟩ h13 ?_
  refine j_iconst d_Model_readSign_4 ?_
  refine j_icmp_ne (tgt := 34) d_Model_readSign_5 (by decide) (by omega) (by omega) (fun p1 => ?_) (fun p1 => ?_)
  · skip
    refine j_iconst d_Model_readSign_34 ?_
    exact main 0 (Or.inr ⟨rfl, by have := hk2 (); omega⟩)
  · skip
    have hk := (hk2 ()).mp p1
    have hX6 := h16 () (Or.inl hk)
    have hx3 := hx2 () hk
    have hx1 := (hx63 () (Or.inl hk)).1
    refine q_aload_n d_Model_readSign_8 rfl ?_
    refine j_getL (v := (cL (x : Int))) d_Model_readSign_9 fl_Model_557 hM.1 ⟨rfl, by decide⟩ hX6 ?_
    refine j_ldc2 (z := 29807) d_Model_readSign_12 (inT11 124 rfl) (by decide) ?_
    refine j_lcmp_eq (tgt := 30) d_Model_readSign_15 d_Model_readSign_16 (by decide) (by omega) (by omega) (fun hp7 => ?_) (fun hp7 => ?_)
    · refine j_iconst d_Model_readSign_30 ?_
      refine q_goto (tgt := 35) d_Model_readSign_31 (by decide) ?_
      exact main _ (by first | exact Or.inl ⟨rfl, by omega⟩ | exact Or.inr ⟨rfl, by omega⟩)
    · refine q_aload_n d_Model_readSign_19 rfl ?_
      refine j_getL (v := (cL (x : Int))) d_Model_readSign_20 fl_Model_557 hM.1 ⟨rfl, by decide⟩ hX6 ?_
      refine j_ldc2 (z := 1768846447) d_Model_readSign_23 (inT11 125 rfl) (by decide) ?_
      refine j_lcmp_ne (tgt := 34) d_Model_readSign_26 d_Model_readSign_27 (by decide) (by omega) (by omega) (fun hp8 => ?_) (fun hp8 => ?_)
      · refine j_iconst d_Model_readSign_34 ?_
        exact main _ (by first | exact Or.inl ⟨rfl, by omega⟩ | exact Or.inr ⟨rfl, by omega⟩)
      · refine j_iconst d_Model_readSign_30 ?_
        refine q_goto (tgt := 35) d_Model_readSign_31 (by decide) ?_
        exact main _ (by first | exact Or.inl ⟨rfl, by omega⟩ | exact Or.inr ⟨rfl, by omega⟩)
abbrev STs (M tp a k : Nat) : Prop := (a = M ∧ (k = 7 ∨ k = 8 ∨ k = 12)) ∨ (a = M + 3 ∧ tp ≤ k)
abbrev STm (M tp a k : Nat) : Prop := (a = M ∧ (k = 7 ∨ k = 8 ∨ k = 12 ∨ k = 17 ∨ k = 18)) ∨ (a = M + 3 ∧ tp ≤ k)
theorem c_Model_readTime (d : Nat) {M N a n tp : Nat} {t : Nat → Nat} {P : Prop} [Decidable P] {I : M32} {L : M64} {R : MR} {T : SH} (hd : 2 ≤ d) (hM : MdlS M R T) (hT : TH M N a t I L) (hV : TxM I M N t) (hn5 : n < 5100) (hF : I M 17 = cI 0) (htp : I M 7 = cI tp) (htp3 : tp + 302 ≤ 1100000) (hP : I M 8 = cI (bI P)) :
    Call m_Model_readTime y_Model_readTime d 0 0 [.ref M, .int (cI n)] I L R T (rV fun I' L' R' T' => (
      (tk (tkP t N) a = 102 ∧ I' = up2 (up2 I (M + 16) n (cI 1)) M 12 (cI (te (tkP t N) a)) ∧ L' = up2 L (M + 7) n (cL (tx (tkP t N) a))) ∨
      (tk (tkP t N) a ≠ 102 ∧ tk (tkP t N) a ≠ 100 ∧ erQ M (fcF (tk (tkP t N) a)) (tb (tkP t N) a) I L I' L') ∨
      (tk (tkP t N) a = 100 ∧ ¬ (0 ≤ tv (tkP t N) a ∧ tv (tkP t N) a ≤ 1000000000000000) ∧ I' M 17 = cI 5 ∧ I' M 18 = cI (tb (tkP t N) a) ∧ Fx (STm M tp) I I' ∧ L' = L) ∨
      (tk (tkP t N) a = 100 ∧ (0 ≤ tv (tkP t N) a ∧ tv (tkP t N) a ≤ 1000000000000000) ∧ I' M 7 = cI tp ∧ I' M 8 = I M 8 ∧ I' M 12 = cI (te (tkP t N) a) ∧ I' M 17 = cI 0 ∧ Fx (STs M tp) I I' ∧ L' = up2 L (M + 15) n (cL (tv (tkP t N) a)))) ∧ R' = R ∧ T' = T) := by
  refine Call.ofRun (by decide) ⟨rfl, rfl⟩ (Nat.le_of_ble_eq_true rfl) ?_
  refine Run.gen fun Q hQ => ?_
  have hfT := c_Model_failT (d - 1) (by omega) hM hT hF
  obtain ⟨hok0, h12, h13, h14, h15, h16⟩ := id hT
  have hok : TokR t N a (tb (tkP t N) a) (te (tkP t N) a) (tk (tkP t N) a) (tx (tkP t N) a) (tv (tkP t N) a) := hok0
  clear hT hok0
  replace h16 : Unit → _ := fun _ => h16
  generalize tk (tkP t N) a = K at *
  generalize tx (tkP t N) a = x at *
  generalize tb (tkP t N) a = b at *
  generalize te (tkP t N) a = e at *
  generalize tv (tkP t N) a = v at *
  have hki : inI (tkc K) := tkc_i
  have hk4 : Unit → (tkc K = 4 ↔ K = 102) := fun _ => tkc_4
  have hk1 : Unit → (tkc K = 1 ↔ K = 100) := fun _ => tkc_1
  refine q_aload_n d_Model_readTime_0 rfl ?_
  refine j_getI (v := (cI (tkc K))) d_Model_readTime_1 fl_Model_550 hM.1 ⟨rfl, by decide⟩ h13 ?_
  refine j_iconst d_Model_readTime_4 ?_
  refine j_icmp_ne (tgt := 30) d_Model_readTime_5 (by decide) (by omega) (by omega) (fun p1 => ?_) (fun p1 => ?_)
  · skip
    refine q_aload_n d_Model_readTime_30 rfl ?_
    refine j_getI (v := (cI (tkc K))) d_Model_readTime_31 fl_Model_550 hM.1 ⟨rfl, by decide⟩ h13 ?_
    refine j_iconst d_Model_readTime_34 ?_
    refine j_icmp_eq (tgt := 43) d_Model_readTime_35 (by decide) (by omega) (by omega) (fun p2 => ?_) (fun p2 => ?_)
    · skip
      obtain rfl : K = 100 := (hk1 ()).mp p2
      obtain ⟨z1, z2, z3, z4⟩ := hok.num
      have hle := hok.le
      refine q_aload_n d_Model_readTime_43 rfl ?_
      refine j_getI (v := (cI (tp : Int))) d_Model_readTime_44 fl_Model_428 hM.1 ⟨rfl, by decide⟩ htp ?_
      refine q_istore_n (lv' := [(2, .int (cI (tp : Int))), (0, .ref M), (1, .int (cI (n : Int)))]) d_Model_readTime_47 (by decide) rfl ?_
      refine q_aload_n d_Model_readTime_48 rfl ?_
      refine q_aload_n d_Model_readTime_49 rfl ?_
      refine q_callV (ci := 17) (rc := 0) (rs := 0) (rest := [.ref M]) d_Model_readTime_50 ml_Model_618 ok_Model_tokenNumber rfl hM.1 (by decide) (c_Model_tokenNumber (d - 1) (t := t) (N := N) (P := P) (by omega) hM hV h14 h15 (hle.2.2.2 (by decide)) hle.2.2.1 rfl z1 z2 z3 htp htp3 hP) rfl rfl (by omega) (Nat.le_of_ble_eq_true rfl) (kv_I (fun r J h => ?_)) kt_I
      obtain ⟨rfl, m, y1, y2, y3, y4, y5⟩ := h
      rw [← z4] at y2
      have y6 := y5.x
      refine q_callV (ci := 17) (rc := 0) (rs := 0) (rest := []) d_Model_readTime_53 ml_Model_627 ok_Model_toLong rfl hM.1 (by decide) (c_Model_toLong (d - 1) hM y2 (by omega)) rfl rfl (by omega) (Nat.le_of_ble_eq_true rfl) (kp_L ?_) kt_L
      obtain ⟨q, hq⟩ : ∃ q, q = (if v < 0 then -1 else if v < 10 ^ 17 then v else 1000000000000001) := ⟨_, rfl⟩
      have hqv : (0 ≤ q ∧ q ≤ 1000000000000000 ↔ 0 ≤ v ∧ v ≤ 1000000000000000) ∧ (0 ≤ q ∧ q ≤ 1000000000000000 → q = v) ∧ -1 ≤ q ∧ q ≤ 100000000000000000 := by rw [hq]; (repeat' split) <;> omega
      refine Run.top (v := .long (cL q)) (by rw [hq]) ?_
      refine q_lstore_n (lv' := [(3, .long (cL q)), (2, .int (cI (tp : Int))), (0, .ref M), (1, .int (cI (n : Int)))]) d_Model_readTime_56 (by decide) rfl ?_
      refine q_aload_n d_Model_readTime_57 rfl ?_
      refine q_iload_n d_Model_readTime_58 rfl ?_
      refine q_putI d_Model_readTime_59 fl_Model_428 hM.1 ⟨rfl, by decide, rfl, rfl⟩ ?_
      refine q_lload_n d_Model_readTime_62 rfl ?_
      refine j_lconst (z := 0) d_Model_readTime_63 (by decide) ?_
      refine j_ldc2 (z := 1000000000000000) d_Model_readTime_64 (inT11 224 rfl) (by decide) ?_
      refine q_callS (rc := 0) (rs := 0) (rest := []) d_Model_readTime_67 ml_Model_407 ok_Model_isIn (c_Model_isIn (d - 1) (by omega) (by omega) (by omega)) rfl rfl (by omega) (Nat.le_of_ble_eq_true rfl) (kp_I ?_) kt_I
      refine j_ifb_ne (tgt := 79) d_Model_readTime_70 (by decide) (fun p3 => ?_) (fun p3 => ?_)
      · skip
        refine q_aload_n d_Model_readTime_79 rfl ?_
        refine q_getR d_Model_readTime_80 fl_Model_54 hM.1 ⟨rfl, by decide⟩ (mR28 hM) ?_
        refine q_iload_n d_Model_readTime_83 rfl ?_
        refine q_lload_n d_Model_readTime_84 rfl ?_
        refine j_last (j := n) d_Model_readTime_85 (mT28 hM) (mN28 hM) (by omega) (by omega) (by omega) ?_
        refine q_aload_n d_Model_readTime_86 rfl ?_
        refine q_callV (ci := 17) (rc := 0) (rs := 0) (rest := []) d_Model_readTime_87 ml_Model_608 ok_Model_use rfl hM.1 (by decide) (c_Model_use (d - 1) hM) rfl rfl (by omega) (Nat.le_of_ble_eq_true rfl) (kp_V ?_) kt_V
        refine q_return d_Model_readTime_90 rfl ?_
        refine hQ _ _ _ _ _ ?_
        exact ⟨rfl, Or.inr (Or.inr (Or.inr ⟨rfl, hqv.1.mp p3, by rw [up2_k _ _ _ (by decide), up2_s], by rw [up2_k _ _ _ (by decide), up2_k _ _ _ (by decide), y4, hP], by rw [up2_s, up2_k _ _ _ (by decide), y6 _ _ (by omega)]; exact h15, by rw [up2_k _ _ _ (by decide), up2_k _ _ _ (by decide), y6 _ _ (by omega)]; exact hF, ((y6.mo fun a k h => by omega).tu (Or.inl ⟨rfl, by omega⟩)).tu (Or.inl ⟨rfl, by omega⟩), by rw [hqv.2.1 p3]⟩)), rfl, rfl⟩
      · skip
        refine q_aload_n d_Model_readTime_73 rfl ?_
        refine j_iconst d_Model_readTime_74 ?_
        refine q_callV (ci := 17) (rc := 0) (rs := 0) (rest := []) d_Model_readTime_75 ml_Model_573 ok_Model_fail rfl hM.1 (by decide) (c_Model_fail (d - 1) hM (F := 0) (by rw [up2_k _ _ _ (by decide), y6 _ _ (by omega)]; exact hF) (by decide)) rfl rfl (by omega) (Nat.le_of_ble_eq_true rfl) (kr_V (fun I1 L1 R1 T1 h => ?_)) kt_V
        obtain ⟨e1, e2, e3, e4⟩ := h
        refine q_return d_Model_readTime_78 rfl ?_
        refine hQ _ _ _ _ _ ?_
        exact ⟨rfl, Or.inr (Or.inr (Or.inl ⟨rfl, fun e9 => p3 (hqv.1.mpr e9), by rw [e1, if_pos rfl, up2_k _ _ _ (by decide), up2_s], by rw [e1, if_pos rfl, up2_s, up2_k _ _ _ (by decide), y6 _ _ (by omega)]; exact h14, by rw [e1, if_pos rfl]; exact (((y6.mo fun a k h => by omega).tu (Or.inl ⟨rfl, by omega⟩)).tu (Or.inl ⟨rfl, by omega⟩)).tu (Or.inl ⟨rfl, by omega⟩), e2⟩)), e3, e4⟩
    · skip
      refine q_aload_n d_Model_readTime_38 rfl ?_
      refine q_callV (ci := 17) (rc := 0) (rs := 0) (rest := []) d_Model_readTime_39 ml_Model_598 ok_Model_failToken rfl hM.1 (by decide) (hfT) rfl rfl (by omega) (Nat.le_of_ble_eq_true rfl) (kr_V (fun I1 L1 R1 T1 h => ?_)) kt_V
      refine q_return d_Model_readTime_42 rfl ?_
      refine hQ _ _ _ _ _ ?_
      exact ⟨rfl, Or.inr (Or.inl ⟨fun e9 => p1 ((hk4 ()).mpr e9), fun e9 => p2 ((hk1 ()).mpr e9), h.1⟩), h.2.1, h.2.2⟩
  · skip
    have hK := (hk4 ()).mp p1
    refine q_aload_n d_Model_readTime_8 rfl ?_
    refine q_getR d_Model_readTime_9 fl_Model_57 hM.1 ⟨rfl, by decide⟩ (mR29 hM) ?_
    refine q_iload_n d_Model_readTime_12 rfl ?_
    refine j_iconst d_Model_readTime_13 ?_
    refine j_zast (j := n) d_Model_readTime_14 (mT29 hM) (mN29 hM) (by omega) (by omega) (by omega) (Or.inr rfl) ?_
    refine q_aload_n d_Model_readTime_15 rfl ?_
    refine q_getR d_Model_readTime_16 fl_Model_29 hM.1 ⟨rfl, by decide⟩ (mR20 hM) ?_
    refine q_iload_n d_Model_readTime_19 rfl ?_
    refine q_aload_n d_Model_readTime_20 rfl ?_
    refine j_getL (v := (cL (x : Int))) d_Model_readTime_21 fl_Model_557 hM.1 ⟨rfl, by decide⟩ (h16 () (Or.inr (Or.inr hK))) ?_
    refine j_last (j := n) d_Model_readTime_24 (mT20 hM) (mN20 hM) (by omega) (by omega) (by omega) ?_
    refine q_aload_n d_Model_readTime_25 rfl ?_
    refine q_callV (ci := 17) (rc := 0) (rs := 0) (rest := []) d_Model_readTime_26 ml_Model_608 ok_Model_use rfl hM.1 (by decide) (c_Model_use (d - 1) hM) rfl rfl (by omega) (Nat.le_of_ble_eq_true rfl) (kp_V ?_) kt_V
    refine q_return d_Model_readTime_29 rfl ?_
    refine hQ _ _ _ _ _ ?_
    exact ⟨rfl, Or.inl ⟨hK, by rw [up2_a _ _ _ (by omega), h15], rfl⟩, rfl, rfl⟩
abbrev SAc (M n a k : Nat) : Prop := (a = M ∧ (k = 12 ∨ k = 43)) ∨ (M + 21 ≤ a ∧ a ≤ M + 24) ∨ (k = n ∧ (a = M + 6 ∨ a = M + 17))
theorem c_Model_readAction (d : Nat) {M N a n pt dep : Nat} {t : Nat → Nat} {l : List Wt} {I : M32} {L : M64} {R : MR} {T : SH} (hd : 2 ≤ d) (hM : MdlS M R T) (hT : TH M N a t I L) (hn5 : n < 5100) (hF : I M 17 = cI 0) (hpt : I M 35 = cI pt) (hA : PileV I M ((1, (n : Int), 2, (dep + 1 : Int)) :: l)) (hw0 : I M 43 = cI (l.length + 1 : Nat)) (hl : l.length + 8 < 30000) (hdp : dep < 1000) :
    Call m_Model_readAction y_Model_readAction d 0 0 [.ref M, .int (cI n), .int (cI (dep + 1 : Int))] I L R T (rV fun I' L' R' T' => (
      (¬ (tk (tkP t N) a = 7 ∨ tk (tkP t N) a = 8 ∨ tk (tkP t N) a = 9) ∧ erQ M (fcF (tk (tkP t N) a)) (tb (tkP t N) a) I L I' L') ∨
      ((tk (tkP t N) a = 7 ∨ tk (tkP t N) a = 8 ∨ tk (tkP t N) a = 9) ∧ (∃ ql, PI n dep (itA (tk (tkP t N) a)) ql l ∧ PileV I' M ql ∧ I' M 43 = cI ql.length ∧ ql.length ≤ l.length + 6) ∧ I' M 12 = cI (te (tkP t N) a) ∧ I' (M + 6) n = cI (kdM 6 (tk (tkP t N) a)) ∧ (tk (tkP t N) a = 8 → I' (M + 17) n = cI pt) ∧ Fx (SAc M n) I I' ∧ L' = L)) ∧ R' = R ∧ T' = T) := by
  refine Call.ofRun (by decide) ⟨rfl, rfl⟩ (Nat.le_of_ble_eq_true rfl) ?_
  refine Run.gen fun Q hQ => ?_
  have hfT := c_Model_failT (d - 1) (by omega) hM hT hF
  obtain ⟨hok0, h12, h13, h14, h15, h16⟩ := id hT
  have hok : TokR t N a (tb (tkP t N) a) (te (tkP t N) a) (tk (tkP t N) a) (tx (tkP t N) a) (tv (tkP t N) a) := hok0
  have hkd := hok.kd
  have hkw := fun (_ : Unit) => hok.kw
  have hx63 := fun (_ : Unit) => hok.x63
  replace h16 : Unit → _ := fun _ => h16
  clear hT hok0 hok
  generalize tk (tkP t N) a = K at *
  generalize tx (tkP t N) a = x at *
  generalize tb (tkP t N) a = b at *
  generalize te (tkP t N) a = e at *
  have hki : inI (tkc K) := tkc_i
  have hk2 : Unit → (tkc K = 2 ↔ (0 ≤ K ∧ K < 100)) := fun _ => tkc_2 hkd
  have hx2 : Unit → 0 ≤ K ∧ K < 100 → ((K = 7 ↔ x = 28259031251642740) ∧ (K = 8 ↔ x = 109300196926309) ∧ (K = 9 ↔ x = 121424973489785)) := fun _ h => by
    have := hkw () h
    rw [← this.1]
    exact ⟨kwF_at 7 (by decide), kwF_at 8 (by decide), kwF_at 9 (by decide)⟩
  have no : ∀ (h : ¬ (K = 7 ∨ K = 8 ∨ K = 9)), True → Run m_Model_readAction d 0 0 45 [(0, .ref M), (1, .int (cI (n : Int))), (2, .int (cI ((dep : Int) + 1)))] [] I L R T Q := by
    intro h _
    refine j_iconst d_Model_readAction_45 ?_
    refine q_istore_n (lv' := [(3, .int (cI 0)), (0, .ref M), (1, .int (cI (n : Int))), (2, .int (cI ((dep : Int) + 1)))]) d_Model_readAction_46 (by decide) rfl ?_
    refine q_iload_n d_Model_readAction_47 rfl ?_
    refine j_if_ne (tgt := 56) d_Model_readAction_48 (by decide) (by omega) (fun hx => by exfalso; omega) (fun hx => ?_)
    refine q_aload_n d_Model_readAction_51 rfl ?_
    refine q_callV (ci := 17) (rc := 0) (rs := 0) (rest := []) d_Model_readAction_52 ml_Model_598 ok_Model_failToken rfl hM.1 (by decide) (hfT) rfl rfl (by omega) (Nat.le_of_ble_eq_true rfl) (kr_V (fun I1 L1 R1 T1 h2 => ?_)) kt_V
    refine q_return d_Model_readAction_55 rfl ?_
    refine hQ _ _ _ _ _ ?_
    exact ⟨rfl, Or.inl ⟨h, h2.1⟩, h2.2.1, h2.2.2⟩
  refine q_aload_n d_Model_readAction_0 rfl ?_
  refine j_getI (v := (cI (tkc K))) d_Model_readAction_1 fl_Model_550 hM.1 ⟨rfl, by decide⟩ h13 ?_
  refine j_iconst d_Model_readAction_4 ?_
  refine j_icmp_ne (tgt := 45) d_Model_readAction_5 (by decide) (by omega) (by omega) (fun p1 => ?_) (fun p1 => ?_)
  · skip
    exact no (by have := hk2 (); omega) trivial
  · skip
    have hk := (hk2 ()).mp p1
    have hX6 := h16 () (Or.inl hk)
    have hx3 := hx2 () hk
    have hx1 := (hx63 () (Or.inl hk)).1
    have yes : ∀ (h : K = 7 ∨ K = 8 ∨ K = 9), True → Run m_Model_readAction d 0 0 41 [(0, .ref M), (1, .int (cI (n : Int))), (2, .int (cI ((dep : Int) + 1)))] [] I L R T Q := by
      intro h _
      refine j_iconst d_Model_readAction_41 ?_
      refine q_goto (tgt := 46) d_Model_readAction_42 (by decide) ?_
      refine q_istore_n (lv' := [(3, .int (cI 1)), (0, .ref M), (1, .int (cI (n : Int))), (2, .int (cI ((dep : Int) + 1)))]) d_Model_readAction_46 (by decide) rfl ?_
      refine q_iload_n d_Model_readAction_47 rfl ?_
      refine j_if_ne (tgt := 56) d_Model_readAction_48 (by decide) (by omega) (fun hx => ?_) (fun hx => by exfalso; omega)
      refine q_aload_n d_Model_readAction_56 rfl ?_
      refine q_getR d_Model_readAction_57 fl_Model_26 hM.1 ⟨rfl, by decide⟩ (mR19 hM) ?_
      refine q_iload_n d_Model_readAction_60 rfl ?_
      refine q_aload_n d_Model_readAction_61 rfl ?_
      refine j_getL (v := (cL (x : Int))) d_Model_readAction_62 fl_Model_557 hM.1 ⟨rfl, by decide⟩ hX6 ?_
      refine j_ldc2 (z := 28259031251642740) d_Model_readAction_65 (inT11 129 rfl) (by decide) ?_
      suffices J : ∀ (w : Int), (((¬ (x : Int) = 28259031251642740) ∧ (¬ (x : Int) = 109300196926309) ∧ w = 10) ∨ ((¬ (x : Int) = 28259031251642740) ∧ ((x : Int) = 109300196926309) ∧ w = 9) ∨ (((x : Int) = 28259031251642740) ∧ w = 8)) → Run m_Model_readAction d 0 0 95 [(0, .ref M), (1, .int (cI (n : Int))), (2, .int (cI ((dep : Int) + 1))), (3, .int (cI 1))] [.int (cI w), .int (cI (n : Int)), .ref (M + 6)] I L R T Q by
        refine j_lcmp_ne (tgt := 77) d_Model_readAction_68 d_Model_readAction_69 (by decide) (by omega) (by omega) (fun hp9 => ?_) (fun hp9 => ?_)
        · refine q_aload_n d_Model_readAction_77 rfl ?_
          refine j_getL (v := (cL (x : Int))) d_Model_readAction_78 fl_Model_557 hM.1 ⟨rfl, by decide⟩ hX6 ?_
          refine j_ldc2 (z := 109300196926309) d_Model_readAction_81 (inT11 130 rfl) (by decide) ?_
          refine j_lcmp_ne (tgt := 93) d_Model_readAction_84 d_Model_readAction_85 (by decide) (by omega) (by omega) (fun hp10 => ?_) (fun hp10 => ?_)
          · refine j_bipush d_Model_readAction_93 (by decide) ?_
            refine Run.lv (lv' := [(0, .ref M), (1, .int (cI (n : Int))), (2, .int (cI ((dep : Int) + 1))), (3, .int (cI 1))]) (by intro q hq; simp only [List.mem_cons, List.not_mem_nil, or_false] at hq ⊢; rcases hq with rfl | rfl | rfl | rfl <;> simp) ?_
            exact J _ (Or.inl ⟨hp9, hp10, rfl⟩)
          · refine j_bipush d_Model_readAction_88 (by decide) ?_
            refine q_goto (tgt := 95) d_Model_readAction_90 (by decide) ?_
            refine Run.lv (lv' := [(0, .ref M), (1, .int (cI (n : Int))), (2, .int (cI ((dep : Int) + 1))), (3, .int (cI 1))]) (by intro q hq; simp only [List.mem_cons, List.not_mem_nil, or_false] at hq ⊢; rcases hq with rfl | rfl | rfl | rfl <;> simp) ?_
            exact J _ (Or.inr (Or.inl ⟨hp9, hp10, rfl⟩))
        · refine j_bipush d_Model_readAction_72 (by decide) ?_
          refine q_goto (tgt := 95) d_Model_readAction_74 (by decide) ?_
          refine Run.lv (lv' := [(0, .ref M), (1, .int (cI (n : Int))), (2, .int (cI ((dep : Int) + 1))), (3, .int (cI 1))]) (by intro q hq; simp only [List.mem_cons, List.not_mem_nil, or_false] at hq ⊢; rcases hq with rfl | rfl | rfl | rfl <;> simp) ?_
          exact J _ (Or.inr (Or.inr ⟨hp9, rfl⟩))
      intro w hw
      have hwK : (K = 7 ∧ w = 8) ∨ (K = 8 ∧ w = 9) ∨ (K = 9 ∧ w = 10) := by omega
      have hwk : kdM 6 K = w := by rcases hwK with h | h | h <;> rw [h.1, h.2] <;> rfl
      refine j_iast (j := n) d_Model_readAction_95 (mT19 hM) (mN19 hM) (by omega) (by omega) (by omega) ?_
      refine q_aload_n d_Model_readAction_96 rfl ?_
      refine q_callV (ci := 17) (rc := 0) (rs := 0) (rest := []) d_Model_readAction_97 ml_Model_608 ok_Model_use rfl hM.1 (by decide) (c_Model_use (d - 1) hM) rfl rfl (by omega) (Nat.le_of_ble_eq_true rfl) (kp_V ?_) kt_V
      generalize hI3 : (up2 (up2 I (M + 6) n (cI w)) M 12 ((up2 I (M + 6) n (cI w)) M 15)) = I3
      have hF3 : Fx (SAc M n) I I3 := by rw [← hI3]; exact (Fx.up (Or.inr (Or.inr ⟨rfl, Or.inl rfl⟩))).tu (Or.inl ⟨rfl, Or.inl rfl⟩)
      have g12 : I3 M 12 = cI e := by rw [← hI3, up2_s, up2_a _ _ _ (by omega)]; exact h15
      have g6 : I3 (M + 6) n = cI w := by rw [← hI3, up2_a _ _ _ (by omega), up2_s]
      have g35 : I3 M 35 = cI pt := by rw [hF3 _ _ (by omega)]; exact hpt
      have hA3 : PA M I3 I3 ((1, (n : Int), 2, (dep + 1 : Int)) :: l) := ⟨hA.fx fun a k e1 e2 _ => by rw [← hI3, up2_a _ _ _ (by omega), up2_a _ _ _ (by omega)], by rw [← hI3, up2_k _ _ _ (by decide), up2_a _ _ _ (by omega)]; exact hw0, Fx.rf⟩
      have fin : ∀ (I4 J : M32) (ql : List Wt), Fx (SAc M n) I I4 → I4 M 12 = cI e → I4 (M + 6) n = cI w → (K = 8 → I4 (M + 17) n = cI pt) → PI n dep (itA K) ql l → ql.length ≤ l.length + 6 → PA M I4 J ql → Q (.returned none) J L R T := fun I4 J ql f1 f2 f3 f4 h1 h2 h3 => hQ _ _ _ _ _ ⟨rfl, Or.inr ⟨h, ⟨ql, h1, h3.1, h3.2.1, h2⟩, by rw [h3.2.2 _ _ (by omega)]; exact f2, by rw [h3.2.2 _ _ (by omega), hwk]; exact f3, fun e9 => by rw [h3.2.2 _ _ (by omega)]; exact f4 e9, f1.tr (h3.2.2.mo fun a k h => by omega), rfl⟩, rfl, rfl⟩
      refine q_aload_n d_Model_readAction_100 rfl ?_
      refine q_getR d_Model_readAction_101 fl_Model_26 hM.1 ⟨rfl, by decide⟩ (mR19 hM) ?_
      refine q_iload_n d_Model_readAction_104 rfl ?_
      refine j_iald (j := n) (v := (cI w)) d_Model_readAction_105 (mT19 hM) (mN19 hM) (by omega) (by omega) (by omega) g6 ?_
      refine j_bipush d_Model_readAction_106 (by decide) ?_
      refine j_icmp_ne (tgt := 146) d_Model_readAction_108 (by decide) (by omega) (by omega) (fun q1 => ?_) (fun q1 => ?_)
      · skip
        refine q_aload_n d_Model_readAction_146 rfl ?_
        refine q_getR d_Model_readAction_147 fl_Model_26 hM.1 ⟨rfl, by decide⟩ (mR19 hM) ?_
        refine q_iload_n d_Model_readAction_150 rfl ?_
        refine j_iald (j := n) (v := (cI w)) d_Model_readAction_151 (mT19 hM) (mN19 hM) (by omega) (by omega) (by omega) g6 ?_
        refine j_bipush d_Model_readAction_152 (by decide) ?_
        refine j_icmp_ne (tgt := 204) d_Model_readAction_154 (by decide) (by omega) (by omega) (fun q2 => ?_) (fun q2 => ?_)
        · skip
          refine q_aload_n d_Model_readAction_204 rfl ?_
          refine j_iconst d_Model_readAction_205 ?_
          refine q_iload_n d_Model_readAction_206 rfl ?_
          refine j_iconst d_Model_readAction_207 ?_
          refine q_iload_n d_Model_readAction_208 rfl ?_
          refine q_callV (ci := 17) (rc := 0) (rs := 0) (rest := []) d_Model_readAction_209 ml_Model_611 ok_Model_push rfl hM.1 (by decide) (c_Model_push (d - 1) hM hA3 (by first | omega | (simp only [List.length_cons]; omega))) rfl rfl (by omega) (Nat.le_of_ble_eq_true rfl) (kv_V (fun J hA3 => ?_)) kt_V
          refine q_return d_Model_readAction_212 rfl ?_
          exact fin I3 _ _ hF3 g12 g6 (fun e9 => by omega) (by rw [show K = 9 by omega]; simp [PI, itA]) (by first | omega | (simp only [List.length_cons]; omega)) hA3
        · skip
          refine q_aload_n d_Model_readAction_157 rfl ?_
          refine q_getR d_Model_readAction_158 fl_Model_61 hM.1 ⟨rfl, by decide⟩ (mR30 hM) ?_
          refine q_iload_n d_Model_readAction_161 rfl ?_
          refine q_aload_n d_Model_readAction_162 rfl ?_
          refine j_getI (v := (cI (pt : Int))) d_Model_readAction_163 fl_Model_624 hM.1 ⟨rfl, by decide⟩ g35 ?_
          refine j_iast (j := n) d_Model_readAction_166 (mT30 hM) (mN30 hM) (by omega) (by omega) (by omega) ?_
          generalize hI5 : (up2 I3 (M + 17) n (cI (pt : Int))) = I5
          have hA3 : PA M I5 I5 ((1, (n : Int), 2, (dep + 1 : Int)) :: l) := ⟨hA3.1.fx fun a k e1 e2 _ => by rw [← hI5, up2_a _ _ _ (by omega)], by rw [← hI5, up2_a _ _ _ (by omega)]; exact hA3.2.1, Fx.rf⟩
          refine q_aload_n d_Model_readAction_167 rfl ?_
          refine j_bipush d_Model_readAction_168 (by decide) ?_
          refine q_iload_n d_Model_readAction_170 rfl ?_
          refine j_iconst d_Model_readAction_171 ?_
          refine q_iload_n d_Model_readAction_172 rfl ?_
          refine q_callV (ci := 17) (rc := 0) (rs := 0) (rest := []) d_Model_readAction_173 ml_Model_611 ok_Model_push rfl hM.1 (by decide) (c_Model_push (d - 1) hM hA3 (by first | omega | (simp only [List.length_cons]; omega))) rfl rfl (by omega) (Nat.le_of_ble_eq_true rfl) (kv_V (fun J hA3 => ?_)) kt_V
          refine q_aload_n d_Model_readAction_176 rfl ?_
          refine j_bipush d_Model_readAction_177 (by decide) ?_
          refine q_iload_n d_Model_readAction_179 rfl ?_
          refine j_iconst d_Model_readAction_180 ?_
          refine q_iload_n d_Model_readAction_181 rfl ?_
          refine q_callV (ci := 17) (rc := 0) (rs := 0) (rest := []) d_Model_readAction_182 ml_Model_611 ok_Model_push rfl hM.1 (by decide) (c_Model_push (d - 1) hM hA3 (by first | omega | (simp only [List.length_cons]; omega))) rfl rfl (by omega) (Nat.le_of_ble_eq_true rfl) (kv_V (fun J hA3 => ?_)) kt_V
          refine q_aload_n d_Model_readAction_185 rfl ?_
          refine j_iconst d_Model_readAction_186 ?_
          refine q_iload_n d_Model_readAction_187 rfl ?_
          refine j_iconst d_Model_readAction_188 ?_
          refine q_iload_n d_Model_readAction_189 rfl ?_
          refine q_callV (ci := 17) (rc := 0) (rs := 0) (rest := []) d_Model_readAction_190 ml_Model_611 ok_Model_push rfl hM.1 (by decide) (c_Model_push (d - 1) hM hA3 (by first | omega | (simp only [List.length_cons]; omega))) rfl rfl (by omega) (Nat.le_of_ble_eq_true rfl) (kv_V (fun J hA3 => ?_)) kt_V
          refine q_aload_n d_Model_readAction_193 rfl ?_
          refine j_iconst d_Model_readAction_194 ?_
          refine q_iload_n d_Model_readAction_195 rfl ?_
          refine j_iconst d_Model_readAction_196 ?_
          refine q_iload_n d_Model_readAction_197 rfl ?_
          refine q_callV (ci := 17) (rc := 0) (rs := 0) (rest := []) d_Model_readAction_198 ml_Model_611 ok_Model_push rfl hM.1 (by decide) (c_Model_push (d - 1) hM hA3 (by first | omega | (simp only [List.length_cons]; omega))) rfl rfl (by omega) (Nat.le_of_ble_eq_true rfl) (kv_V (fun J hA3 => ?_)) kt_V
          refine q_goto (tgt := 212) d_Model_readAction_201 (by decide) ?_
          refine q_return d_Model_readAction_212 rfl ?_
          exact fin I5 _ _ (by rw [← hI5]; exact hF3.tu (Or.inr (Or.inr ⟨rfl, Or.inr rfl⟩))) (by rw [← hI5, up2_a _ _ _ (by omega)]; exact g12) (by rw [← hI5, up2_a _ _ _ (by omega)]; exact g6) (fun _ => by rw [← hI5, up2_s]) (by rw [show K = 8 by omega]; simp [PI, itA]) (by first | omega | (simp only [List.length_cons]; omega)) hA3
      · skip
        refine q_aload_n d_Model_readAction_111 rfl ?_
        refine j_iconst d_Model_readAction_112 ?_
        refine q_iload_n d_Model_readAction_113 rfl ?_
        refine j_iconst d_Model_readAction_114 ?_
        refine q_iload_n d_Model_readAction_115 rfl ?_
        refine q_callV (ci := 17) (rc := 0) (rs := 0) (rest := []) d_Model_readAction_116 ml_Model_611 ok_Model_push rfl hM.1 (by decide) (c_Model_push (d - 1) hM hA3 (by first | omega | (simp only [List.length_cons]; omega))) rfl rfl (by omega) (Nat.le_of_ble_eq_true rfl) (kv_V (fun J hA3 => ?_)) kt_V
        refine q_aload_n d_Model_readAction_119 rfl ?_
        refine j_iconst d_Model_readAction_120 ?_
        refine q_iload_n d_Model_readAction_121 rfl ?_
        refine j_iconst d_Model_readAction_122 ?_
        refine q_iload_n d_Model_readAction_123 rfl ?_
        refine q_callV (ci := 17) (rc := 0) (rs := 0) (rest := []) d_Model_readAction_124 ml_Model_611 ok_Model_push rfl hM.1 (by decide) (c_Model_push (d - 1) hM hA3 (by first | omega | (simp only [List.length_cons]; omega))) rfl rfl (by omega) (Nat.le_of_ble_eq_true rfl) (kv_V (fun J hA3 => ?_)) kt_V
        refine q_aload_n d_Model_readAction_127 rfl ?_
        refine j_iconst d_Model_readAction_128 ?_
        refine q_iload_n d_Model_readAction_129 rfl ?_
        refine j_iconst d_Model_readAction_130 ?_
        refine q_iload_n d_Model_readAction_131 rfl ?_
        refine q_callV (ci := 17) (rc := 0) (rs := 0) (rest := []) d_Model_readAction_132 ml_Model_611 ok_Model_push rfl hM.1 (by decide) (c_Model_push (d - 1) hM hA3 (by first | omega | (simp only [List.length_cons]; omega))) rfl rfl (by omega) (Nat.le_of_ble_eq_true rfl) (kv_V (fun J hA3 => ?_)) kt_V
        refine q_aload_n d_Model_readAction_135 rfl ?_
        refine j_iconst d_Model_readAction_136 ?_
        refine q_iload_n d_Model_readAction_137 rfl ?_
        refine j_iconst d_Model_readAction_138 ?_
        refine q_iload_n d_Model_readAction_139 rfl ?_
        refine q_callV (ci := 17) (rc := 0) (rs := 0) (rest := []) d_Model_readAction_140 ml_Model_611 ok_Model_push rfl hM.1 (by decide) (c_Model_push (d - 1) hM hA3 (by first | omega | (simp only [List.length_cons]; omega))) rfl rfl (by omega) (Nat.le_of_ble_eq_true rfl) (kv_V (fun J hA3 => ?_)) kt_V
        refine q_goto (tgt := 212) d_Model_readAction_143 (by decide) ?_
        refine q_return d_Model_readAction_212 rfl ?_
        exact fin I3 _ _ hF3 g12 g6 (fun e9 => by omega) (by rw [show K = 7 by omega]; simp [PI, itA]) (by first | omega | (simp only [List.length_cons]; omega)) hA3
    refine q_aload_n d_Model_readAction_8 rfl ?_
    refine j_getL (v := (cL (x : Int))) d_Model_readAction_9 fl_Model_557 hM.1 ⟨rfl, by decide⟩ hX6 ?_
    refine j_ldc2 (z := 28259031251642740) d_Model_readAction_12 (inT11 129 rfl) (by decide) ?_
    refine j_lcmp_eq (tgt := 41) d_Model_readAction_15 d_Model_readAction_16 (by decide) (by omega) (by omega) (fun p2 => ?_) (fun p2 => ?_)
    · skip
      exact yes (by omega) trivial
    · skip
      refine q_aload_n d_Model_readAction_19 rfl ?_
      refine j_getL (v := (cL (x : Int))) d_Model_readAction_20 fl_Model_557 hM.1 ⟨rfl, by decide⟩ hX6 ?_
      refine j_ldc2 (z := 109300196926309) d_Model_readAction_23 (inT11 130 rfl) (by decide) ?_
      refine j_lcmp_eq (tgt := 41) d_Model_readAction_26 d_Model_readAction_27 (by decide) (by omega) (by omega) (fun p3 => ?_) (fun p3 => ?_)
      · skip
        exact yes (by omega) trivial
      · skip
        refine q_aload_n d_Model_readAction_30 rfl ?_
        refine j_getL (v := (cL (x : Int))) d_Model_readAction_31 fl_Model_557 hM.1 ⟨rfl, by decide⟩ hX6 ?_
        refine j_ldc2 (z := 121424973489785) d_Model_readAction_34 (inT11 131 rfl) (by decide) ?_
        refine j_lcmp_ne (tgt := 45) d_Model_readAction_37 d_Model_readAction_38 (by decide) (by omega) (by omega) (fun p4 => ?_) (fun p4 => ?_)
        · skip
          exact no (by omega) trivial
        · skip
          exact yes (by omega) trivial

