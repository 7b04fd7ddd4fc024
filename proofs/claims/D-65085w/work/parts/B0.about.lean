/-! ===== B0 WHAT IS TOLD OF A CONTRACT: the component ===== -/
theorem d_Math_max2_0 : decode m_Math_max2.2.1 0 = .ok (.lload_n 0, 1) := by decide +kernel
theorem d_Math_max2_1 : decode m_Math_max2.2.1 1 = .ok (.lload_n 2, 1) := by decide +kernel
theorem d_Math_max2_2 : decode m_Math_max2.2.1 2 = .ok (.lcmp, 1) := by decide +kernel
theorem d_Math_max2_3 : decode m_Math_max2.2.1 3 = .ok (.ifCond .lt 7, 3) := by decide +kernel
theorem d_Math_max2_6 : decode m_Math_max2.2.1 6 = .ok (.lload_n 0, 1) := by decide +kernel
theorem d_Math_max2_7 : decode m_Math_max2.2.1 7 = .ok (.goto 4, 3) := by decide +kernel
theorem d_Math_max2_10 : decode m_Math_max2.2.1 10 = .ok (.lload_n 2, 1) := by decide +kernel
theorem d_Math_max2_11 : decode m_Math_max2.2.1 11 = .ok (.lreturn, 1) := by decide +kernel
theorem d_Nodes_greatestTime_0 : decode m_Nodes_greatestTime.2.1 0 = .ok (.ldc2_w 149, 3) := by decide +kernel
theorem d_Nodes_greatestTime_3 : decode m_Nodes_greatestTime.2.1 3 = .ok (.lstore_n 3, 1) := by decide +kernel
theorem d_Nodes_greatestTime_4 : decode m_Nodes_greatestTime.2.1 4 = .ok (.iload_n 1, 1) := by decide +kernel
theorem d_Nodes_greatestTime_5 : decode m_Nodes_greatestTime.2.1 5 = .ok (.istore 5, 2) := by decide +kernel
theorem d_Nodes_greatestTime_7 : decode m_Nodes_greatestTime.2.1 7 = .ok (.iload 5, 2) := by decide +kernel
theorem d_Nodes_greatestTime_9 : decode m_Nodes_greatestTime.2.1 9 = .ok (.iload_n 2, 1) := by decide +kernel
theorem d_Nodes_greatestTime_10 : decode m_Nodes_greatestTime.2.1 10 = .ok (.if_icmp .ge 54, 3) := by decide +kernel
theorem d_Nodes_greatestTime_13 : decode m_Nodes_greatestTime.2.1 13 = .ok (.aload_n 0, 1) := by decide +kernel
theorem d_Nodes_greatestTime_14 : decode m_Nodes_greatestTime.2.1 14 = .ok (.getfield 15, 3) := by decide +kernel
theorem d_Nodes_greatestTime_17 : decode m_Nodes_greatestTime.2.1 17 = .ok (.iload 5, 2) := by decide +kernel
theorem d_Nodes_greatestTime_19 : decode m_Nodes_greatestTime.2.1 19 = .ok (.iaload, 1) := by decide +kernel
theorem d_Nodes_greatestTime_20 : decode m_Nodes_greatestTime.2.1 20 = .ok (.iconst 5, 1) := by decide +kernel
theorem d_Nodes_greatestTime_21 : decode m_Nodes_greatestTime.2.1 21 = .ok (.if_icmp .ne 35, 3) := by decide +kernel
theorem d_Nodes_greatestTime_24 : decode m_Nodes_greatestTime.2.1 24 = .ok (.aload_n 0, 1) := by decide +kernel
theorem d_Nodes_greatestTime_25 : decode m_Nodes_greatestTime.2.1 25 = .ok (.getfield 31, 3) := by decide +kernel
theorem d_Nodes_greatestTime_28 : decode m_Nodes_greatestTime.2.1 28 = .ok (.iload 5, 2) := by decide +kernel
theorem d_Nodes_greatestTime_30 : decode m_Nodes_greatestTime.2.1 30 = .ok (.iaload, 1) := by decide +kernel
theorem d_Nodes_greatestTime_31 : decode m_Nodes_greatestTime.2.1 31 = .ok (.iconst (-1), 1) := by decide +kernel
theorem d_Nodes_greatestTime_32 : decode m_Nodes_greatestTime.2.1 32 = .ok (.if_icmp .eq 24, 3) := by decide +kernel
theorem d_Nodes_greatestTime_35 : decode m_Nodes_greatestTime.2.1 35 = .ok (.lload_n 3, 1) := by decide +kernel
theorem d_Nodes_greatestTime_36 : decode m_Nodes_greatestTime.2.1 36 = .ok (.aload_n 0, 1) := by decide +kernel
theorem d_Nodes_greatestTime_37 : decode m_Nodes_greatestTime.2.1 37 = .ok (.aload_n 0, 1) := by decide +kernel
theorem d_Nodes_greatestTime_38 : decode m_Nodes_greatestTime.2.1 38 = .ok (.getfield 31, 3) := by decide +kernel
theorem d_Nodes_greatestTime_41 : decode m_Nodes_greatestTime.2.1 41 = .ok (.iload 5, 2) := by decide +kernel
theorem d_Nodes_greatestTime_43 : decode m_Nodes_greatestTime.2.1 43 = .ok (.iaload, 1) := by decide +kernel
theorem d_Nodes_greatestTime_44 : decode m_Nodes_greatestTime.2.1 44 = .ok (.invokevirtual 157, 3) := by decide +kernel
theorem d_Nodes_greatestTime_47 : decode m_Nodes_greatestTime.2.1 47 = .ok (.invokevirtual 146, 3) := by decide +kernel
theorem d_Nodes_greatestTime_50 : decode m_Nodes_greatestTime.2.1 50 = .ok (.invokestatic 239, 3) := by decide +kernel
theorem d_Nodes_greatestTime_53 : decode m_Nodes_greatestTime.2.1 53 = .ok (.goto 4, 3) := by decide +kernel
theorem d_Nodes_greatestTime_56 : decode m_Nodes_greatestTime.2.1 56 = .ok (.lload_n 3, 1) := by decide +kernel
theorem d_Nodes_greatestTime_57 : decode m_Nodes_greatestTime.2.1 57 = .ok (.lstore_n 3, 1) := by decide +kernel
theorem d_Nodes_greatestTime_58 : decode m_Nodes_greatestTime.2.1 58 = .ok (.iinc 5 1, 3) := by decide +kernel
theorem d_Nodes_greatestTime_61 : decode m_Nodes_greatestTime.2.1 61 = .ok (.goto (-54), 3) := by decide +kernel
theorem d_Nodes_greatestTime_64 : decode m_Nodes_greatestTime.2.1 64 = .ok (.lload_n 3, 1) := by decide +kernel
theorem d_Nodes_greatestTime_65 : decode m_Nodes_greatestTime.2.1 65 = .ok (.lreturn, 1) := by decide +kernel
theorem d_Nodes_isParameter_0 : decode m_Nodes_isParameter.2.1 0 = .ok (.aload_n 0, 1) := by decide +kernel
theorem d_Nodes_isParameter_1 : decode m_Nodes_isParameter.2.1 1 = .ok (.getfield 15, 3) := by decide +kernel
theorem d_Nodes_isParameter_4 : decode m_Nodes_isParameter.2.1 4 = .ok (.iload_n 1, 1) := by decide +kernel
theorem d_Nodes_isParameter_5 : decode m_Nodes_isParameter.2.1 5 = .ok (.iaload, 1) := by decide +kernel
theorem d_Nodes_isParameter_6 : decode m_Nodes_isParameter.2.1 6 = .ok (.bipush 102, 2) := by decide +kernel
theorem d_Nodes_isParameter_8 : decode m_Nodes_isParameter.2.1 8 = .ok (.if_icmp .eq 23, 3) := by decide +kernel
theorem d_Nodes_isParameter_11 : decode m_Nodes_isParameter.2.1 11 = .ok (.aload_n 0, 1) := by decide +kernel
theorem d_Nodes_isParameter_12 : decode m_Nodes_isParameter.2.1 12 = .ok (.getfield 15, 3) := by decide +kernel
theorem d_Nodes_isParameter_15 : decode m_Nodes_isParameter.2.1 15 = .ok (.iload_n 1, 1) := by decide +kernel
theorem d_Nodes_isParameter_16 : decode m_Nodes_isParameter.2.1 16 = .ok (.iaload, 1) := by decide +kernel
theorem d_Nodes_isParameter_17 : decode m_Nodes_isParameter.2.1 17 = .ok (.iconst 5, 1) := by decide +kernel
theorem d_Nodes_isParameter_18 : decode m_Nodes_isParameter.2.1 18 = .ok (.if_icmp .ne 17, 3) := by decide +kernel
theorem d_Nodes_isParameter_21 : decode m_Nodes_isParameter.2.1 21 = .ok (.aload_n 0, 1) := by decide +kernel
theorem d_Nodes_isParameter_22 : decode m_Nodes_isParameter.2.1 22 = .ok (.getfield 31, 3) := by decide +kernel
theorem d_Nodes_isParameter_25 : decode m_Nodes_isParameter.2.1 25 = .ok (.iload_n 1, 1) := by decide +kernel
theorem d_Nodes_isParameter_26 : decode m_Nodes_isParameter.2.1 26 = .ok (.iaload, 1) := by decide +kernel
theorem d_Nodes_isParameter_27 : decode m_Nodes_isParameter.2.1 27 = .ok (.iconst (-1), 1) := by decide +kernel
theorem d_Nodes_isParameter_28 : decode m_Nodes_isParameter.2.1 28 = .ok (.if_icmp .ne 7, 3) := by decide +kernel
theorem d_Nodes_isParameter_31 : decode m_Nodes_isParameter.2.1 31 = .ok (.iconst 1, 1) := by decide +kernel
theorem d_Nodes_isParameter_32 : decode m_Nodes_isParameter.2.1 32 = .ok (.goto 4, 3) := by decide +kernel
theorem d_Nodes_isParameter_35 : decode m_Nodes_isParameter.2.1 35 = .ok (.iconst 0, 1) := by decide +kernel
theorem d_Nodes_isParameter_36 : decode m_Nodes_isParameter.2.1 36 = .ok (.ireturn, 1) := by decide +kernel
theorem d_Nodes_parameters_0 : decode m_Nodes_parameters.2.1 0 = .ok (.iconst 0, 1) := by decide +kernel
theorem d_Nodes_parameters_1 : decode m_Nodes_parameters.2.1 1 = .ok (.istore_n 3, 1) := by decide +kernel
theorem d_Nodes_parameters_2 : decode m_Nodes_parameters.2.1 2 = .ok (.iload_n 1, 1) := by decide +kernel
theorem d_Nodes_parameters_3 : decode m_Nodes_parameters.2.1 3 = .ok (.istore 4, 2) := by decide +kernel
theorem d_Nodes_parameters_5 : decode m_Nodes_parameters.2.1 5 = .ok (.iload 4, 2) := by decide +kernel
theorem d_Nodes_parameters_7 : decode m_Nodes_parameters.2.1 7 = .ok (.iload_n 2, 1) := by decide +kernel
theorem d_Nodes_parameters_8 : decode m_Nodes_parameters.2.1 8 = .ok (.if_icmp .ge 85, 3) := by decide +kernel
theorem d_Nodes_parameters_11 : decode m_Nodes_parameters.2.1 11 = .ok (.aload_n 0, 1) := by decide +kernel
theorem d_Nodes_parameters_12 : decode m_Nodes_parameters.2.1 12 = .ok (.iload 4, 2) := by decide +kernel
theorem d_Nodes_parameters_14 : decode m_Nodes_parameters.2.1 14 = .ok (.invokevirtual 245, 3) := by decide +kernel
theorem d_Nodes_parameters_17 : decode m_Nodes_parameters.2.1 17 = .ok (.istore 5, 2) := by decide +kernel
theorem d_Nodes_parameters_19 : decode m_Nodes_parameters.2.1 19 = .ok (.iload_n 1, 1) := by decide +kernel
theorem d_Nodes_parameters_20 : decode m_Nodes_parameters.2.1 20 = .ok (.istore 6, 2) := by decide +kernel
theorem d_Nodes_parameters_22 : decode m_Nodes_parameters.2.1 22 = .ok (.iload 6, 2) := by decide +kernel
theorem d_Nodes_parameters_24 : decode m_Nodes_parameters.2.1 24 = .ok (.iload 4, 2) := by decide +kernel
theorem d_Nodes_parameters_26 : decode m_Nodes_parameters.2.1 26 = .ok (.if_icmp .ge 48, 3) := by decide +kernel
theorem d_Nodes_parameters_29 : decode m_Nodes_parameters.2.1 29 = .ok (.iload 5, 2) := by decide +kernel
theorem d_Nodes_parameters_31 : decode m_Nodes_parameters.2.1 31 = .ok (.ifCond .eq 43, 3) := by decide +kernel
theorem d_Nodes_parameters_34 : decode m_Nodes_parameters.2.1 34 = .ok (.aload_n 0, 1) := by decide +kernel
theorem d_Nodes_parameters_35 : decode m_Nodes_parameters.2.1 35 = .ok (.iload 6, 2) := by decide +kernel
theorem d_Nodes_parameters_37 : decode m_Nodes_parameters.2.1 37 = .ok (.invokevirtual 245, 3) := by decide +kernel
theorem d_Nodes_parameters_40 : decode m_Nodes_parameters.2.1 40 = .ok (.ifCond .eq 21, 3) := by decide +kernel
theorem d_Nodes_parameters_43 : decode m_Nodes_parameters.2.1 43 = .ok (.aload_n 0, 1) := by decide +kernel
theorem d_Nodes_parameters_44 : decode m_Nodes_parameters.2.1 44 = .ok (.getfield 37, 3) := by decide +kernel
theorem d_Nodes_parameters_47 : decode m_Nodes_parameters.2.1 47 = .ok (.iload 6, 2) := by decide +kernel
theorem d_Nodes_parameters_49 : decode m_Nodes_parameters.2.1 49 = .ok (.laload, 1) := by decide +kernel
theorem d_Nodes_parameters_50 : decode m_Nodes_parameters.2.1 50 = .ok (.aload_n 0, 1) := by decide +kernel
theorem d_Nodes_parameters_51 : decode m_Nodes_parameters.2.1 51 = .ok (.getfield 37, 3) := by decide +kernel
theorem d_Nodes_parameters_54 : decode m_Nodes_parameters.2.1 54 = .ok (.iload 4, 2) := by decide +kernel
theorem d_Nodes_parameters_56 : decode m_Nodes_parameters.2.1 56 = .ok (.laload, 1) := by decide +kernel
theorem d_Nodes_parameters_57 : decode m_Nodes_parameters.2.1 57 = .ok (.lcmp, 1) := by decide +kernel
theorem d_Nodes_parameters_58 : decode m_Nodes_parameters.2.1 58 = .ok (.ifCond .eq 7, 3) := by decide +kernel
theorem d_Nodes_parameters_61 : decode m_Nodes_parameters.2.1 61 = .ok (.iconst 1, 1) := by decide +kernel
theorem d_Nodes_parameters_62 : decode m_Nodes_parameters.2.1 62 = .ok (.goto 4, 3) := by decide +kernel
theorem d_Nodes_parameters_65 : decode m_Nodes_parameters.2.1 65 = .ok (.iconst 0, 1) := by decide +kernel
theorem d_Nodes_parameters_66 : decode m_Nodes_parameters.2.1 66 = .ok (.istore 5, 2) := by decide +kernel
theorem d_Nodes_parameters_68 : decode m_Nodes_parameters.2.1 68 = .ok (.iinc 6 1, 3) := by decide +kernel
theorem d_Nodes_parameters_71 : decode m_Nodes_parameters.2.1 71 = .ok (.goto (-49), 3) := by decide +kernel
theorem d_Nodes_parameters_74 : decode m_Nodes_parameters.2.1 74 = .ok (.iload_n 3, 1) := by decide +kernel
theorem d_Nodes_parameters_75 : decode m_Nodes_parameters.2.1 75 = .ok (.iload 5, 2) := by decide +kernel
theorem d_Nodes_parameters_77 : decode m_Nodes_parameters.2.1 77 = .ok (.ifCond .eq 7, 3) := by decide +kernel
theorem d_Nodes_parameters_80 : decode m_Nodes_parameters.2.1 80 = .ok (.iconst 1, 1) := by decide +kernel
theorem d_Nodes_parameters_81 : decode m_Nodes_parameters.2.1 81 = .ok (.goto 4, 3) := by decide +kernel
theorem d_Nodes_parameters_84 : decode m_Nodes_parameters.2.1 84 = .ok (.iconst 0, 1) := by decide +kernel
theorem d_Nodes_parameters_85 : decode m_Nodes_parameters.2.1 85 = .ok (.iadd, 1) := by decide +kernel
theorem d_Nodes_parameters_86 : decode m_Nodes_parameters.2.1 86 = .ok (.istore_n 3, 1) := by decide +kernel
theorem d_Nodes_parameters_87 : decode m_Nodes_parameters.2.1 87 = .ok (.iinc 4 1, 3) := by decide +kernel
theorem d_Nodes_parameters_90 : decode m_Nodes_parameters.2.1 90 = .ok (.goto (-85), 3) := by decide +kernel
theorem d_Nodes_parameters_93 : decode m_Nodes_parameters.2.1 93 = .ok (.iload_n 3, 1) := by decide +kernel
theorem d_Nodes_parameters_94 : decode m_Nodes_parameters.2.1 94 = .ok (.ireturn, 1) := by decide +kernel
theorem d_Nodes_opensAccount_0 : decode m_Nodes_opensAccount.2.1 0 = .ok (.aload_n 0, 1) := by decide +kernel
theorem d_Nodes_opensAccount_1 : decode m_Nodes_opensAccount.2.1 1 = .ok (.getfield 15, 3) := by decide +kernel
theorem d_Nodes_opensAccount_4 : decode m_Nodes_opensAccount.2.1 4 = .ok (.iload_n 1, 1) := by decide +kernel
theorem d_Nodes_opensAccount_5 : decode m_Nodes_opensAccount.2.1 5 = .ok (.iaload, 1) := by decide +kernel
theorem d_Nodes_opensAccount_6 : decode m_Nodes_opensAccount.2.1 6 = .ok (.bipush 6, 2) := by decide +kernel
theorem d_Nodes_opensAccount_8 : decode m_Nodes_opensAccount.2.1 8 = .ok (.if_icmp .ne 14, 3) := by decide +kernel
theorem d_Nodes_opensAccount_11 : decode m_Nodes_opensAccount.2.1 11 = .ok (.aload_n 0, 1) := by decide +kernel
theorem d_Nodes_opensAccount_12 : decode m_Nodes_opensAccount.2.1 12 = .ok (.getfield 25, 3) := by decide +kernel
theorem d_Nodes_opensAccount_15 : decode m_Nodes_opensAccount.2.1 15 = .ok (.iload_n 1, 1) := by decide +kernel
theorem d_Nodes_opensAccount_16 : decode m_Nodes_opensAccount.2.1 16 = .ok (.iaload, 1) := by decide +kernel
theorem d_Nodes_opensAccount_17 : decode m_Nodes_opensAccount.2.1 17 = .ok (.bipush 7, 2) := by decide +kernel
theorem d_Nodes_opensAccount_19 : decode m_Nodes_opensAccount.2.1 19 = .ok (.if_icmp .eq 23, 3) := by decide +kernel
theorem d_Nodes_opensAccount_22 : decode m_Nodes_opensAccount.2.1 22 = .ok (.aload_n 0, 1) := by decide +kernel
theorem d_Nodes_opensAccount_23 : decode m_Nodes_opensAccount.2.1 23 = .ok (.getfield 15, 3) := by decide +kernel
theorem d_Nodes_opensAccount_26 : decode m_Nodes_opensAccount.2.1 26 = .ok (.iload_n 1, 1) := by decide +kernel
theorem d_Nodes_opensAccount_27 : decode m_Nodes_opensAccount.2.1 27 = .ok (.iaload, 1) := by decide +kernel
theorem d_Nodes_opensAccount_28 : decode m_Nodes_opensAccount.2.1 28 = .ok (.iconst 1, 1) := by decide +kernel
theorem d_Nodes_opensAccount_29 : decode m_Nodes_opensAccount.2.1 29 = .ok (.if_icmp .ne 17, 3) := by decide +kernel
theorem d_Nodes_opensAccount_32 : decode m_Nodes_opensAccount.2.1 32 = .ok (.aload_n 0, 1) := by decide +kernel
theorem d_Nodes_opensAccount_33 : decode m_Nodes_opensAccount.2.1 33 = .ok (.getfield 25, 3) := by decide +kernel
theorem d_Nodes_opensAccount_36 : decode m_Nodes_opensAccount.2.1 36 = .ok (.iload_n 1, 1) := by decide +kernel
theorem d_Nodes_opensAccount_37 : decode m_Nodes_opensAccount.2.1 37 = .ok (.iaload, 1) := by decide +kernel
theorem d_Nodes_opensAccount_38 : decode m_Nodes_opensAccount.2.1 38 = .ok (.iconst 1, 1) := by decide +kernel
theorem d_Nodes_opensAccount_39 : decode m_Nodes_opensAccount.2.1 39 = .ok (.if_icmp .ne 7, 3) := by decide +kernel
theorem d_Nodes_opensAccount_42 : decode m_Nodes_opensAccount.2.1 42 = .ok (.iconst 1, 1) := by decide +kernel
theorem d_Nodes_opensAccount_43 : decode m_Nodes_opensAccount.2.1 43 = .ok (.goto 4, 3) := by decide +kernel
theorem d_Nodes_opensAccount_46 : decode m_Nodes_opensAccount.2.1 46 = .ok (.iconst 0, 1) := by decide +kernel
theorem d_Nodes_opensAccount_47 : decode m_Nodes_opensAccount.2.1 47 = .ok (.ireturn, 1) := by decide +kernel
theorem d_Nodes_partyOf_0 : decode m_Nodes_partyOf.2.1 0 = .ok (.aload_n 0, 1) := by decide +kernel
theorem d_Nodes_partyOf_1 : decode m_Nodes_partyOf.2.1 1 = .ok (.getfield 15, 3) := by decide +kernel
theorem d_Nodes_partyOf_4 : decode m_Nodes_partyOf.2.1 4 = .ok (.iload_n 1, 1) := by decide +kernel
theorem d_Nodes_partyOf_5 : decode m_Nodes_partyOf.2.1 5 = .ok (.iaload, 1) := by decide +kernel
theorem d_Nodes_partyOf_6 : decode m_Nodes_partyOf.2.1 6 = .ok (.iconst 1, 1) := by decide +kernel
theorem d_Nodes_partyOf_7 : decode m_Nodes_partyOf.2.1 7 = .ok (.if_icmp .ne 12, 3) := by decide +kernel
theorem d_Nodes_partyOf_10 : decode m_Nodes_partyOf.2.1 10 = .ok (.aload_n 0, 1) := by decide +kernel
theorem d_Nodes_partyOf_11 : decode m_Nodes_partyOf.2.1 11 = .ok (.getfield 41, 3) := by decide +kernel
theorem d_Nodes_partyOf_14 : decode m_Nodes_partyOf.2.1 14 = .ok (.iload_n 1, 1) := by decide +kernel
theorem d_Nodes_partyOf_15 : decode m_Nodes_partyOf.2.1 15 = .ok (.laload, 1) := by decide +kernel
theorem d_Nodes_partyOf_16 : decode m_Nodes_partyOf.2.1 16 = .ok (.goto 9, 3) := by decide +kernel
theorem d_Nodes_partyOf_19 : decode m_Nodes_partyOf.2.1 19 = .ok (.aload_n 0, 1) := by decide +kernel
theorem d_Nodes_partyOf_20 : decode m_Nodes_partyOf.2.1 20 = .ok (.getfield 37, 3) := by decide +kernel
theorem d_Nodes_partyOf_23 : decode m_Nodes_partyOf.2.1 23 = .ok (.iload_n 1, 1) := by decide +kernel
theorem d_Nodes_partyOf_24 : decode m_Nodes_partyOf.2.1 24 = .ok (.laload, 1) := by decide +kernel
theorem d_Nodes_partyOf_25 : decode m_Nodes_partyOf.2.1 25 = .ok (.lreturn, 1) := by decide +kernel
theorem d_Nodes_accounts_0 : decode m_Nodes_accounts.2.1 0 = .ok (.iconst 0, 1) := by decide +kernel
theorem d_Nodes_accounts_1 : decode m_Nodes_accounts.2.1 1 = .ok (.istore_n 3, 1) := by decide +kernel
theorem d_Nodes_accounts_2 : decode m_Nodes_accounts.2.1 2 = .ok (.iload_n 1, 1) := by decide +kernel
theorem d_Nodes_accounts_3 : decode m_Nodes_accounts.2.1 3 = .ok (.istore 4, 2) := by decide +kernel
theorem d_Nodes_accounts_5 : decode m_Nodes_accounts.2.1 5 = .ok (.iload 4, 2) := by decide +kernel
theorem d_Nodes_accounts_7 : decode m_Nodes_accounts.2.1 7 = .ok (.iload_n 2, 1) := by decide +kernel
theorem d_Nodes_accounts_8 : decode m_Nodes_accounts.2.1 8 = .ok (.if_icmp .ge 101, 3) := by decide +kernel
theorem d_Nodes_accounts_11 : decode m_Nodes_accounts.2.1 11 = .ok (.aload_n 0, 1) := by decide +kernel
theorem d_Nodes_accounts_12 : decode m_Nodes_accounts.2.1 12 = .ok (.iload 4, 2) := by decide +kernel
theorem d_Nodes_accounts_14 : decode m_Nodes_accounts.2.1 14 = .ok (.invokevirtual 253, 3) := by decide +kernel
theorem d_Nodes_accounts_17 : decode m_Nodes_accounts.2.1 17 = .ok (.istore 5, 2) := by decide +kernel
theorem d_Nodes_accounts_19 : decode m_Nodes_accounts.2.1 19 = .ok (.iload_n 1, 1) := by decide +kernel
theorem d_Nodes_accounts_20 : decode m_Nodes_accounts.2.1 20 = .ok (.istore 6, 2) := by decide +kernel
theorem d_Nodes_accounts_22 : decode m_Nodes_accounts.2.1 22 = .ok (.iload 6, 2) := by decide +kernel
theorem d_Nodes_accounts_24 : decode m_Nodes_accounts.2.1 24 = .ok (.iload 4, 2) := by decide +kernel
theorem d_Nodes_accounts_26 : decode m_Nodes_accounts.2.1 26 = .ok (.if_icmp .ge 64, 3) := by decide +kernel
theorem d_Nodes_accounts_29 : decode m_Nodes_accounts.2.1 29 = .ok (.iload 5, 2) := by decide +kernel
theorem d_Nodes_accounts_31 : decode m_Nodes_accounts.2.1 31 = .ok (.ifCond .eq 59, 3) := by decide +kernel
theorem d_Nodes_accounts_34 : decode m_Nodes_accounts.2.1 34 = .ok (.aload_n 0, 1) := by decide +kernel
theorem d_Nodes_accounts_35 : decode m_Nodes_accounts.2.1 35 = .ok (.iload 6, 2) := by decide +kernel
theorem d_Nodes_accounts_37 : decode m_Nodes_accounts.2.1 37 = .ok (.invokevirtual 253, 3) := by decide +kernel
theorem d_Nodes_accounts_40 : decode m_Nodes_accounts.2.1 40 = .ok (.ifCond .eq 37, 3) := by decide +kernel
theorem d_Nodes_accounts_43 : decode m_Nodes_accounts.2.1 43 = .ok (.aload_n 0, 1) := by decide +kernel
theorem d_Nodes_accounts_44 : decode m_Nodes_accounts.2.1 44 = .ok (.iload 6, 2) := by decide +kernel
theorem d_Nodes_accounts_46 : decode m_Nodes_accounts.2.1 46 = .ok (.invokevirtual 256, 3) := by decide +kernel
theorem d_Nodes_accounts_49 : decode m_Nodes_accounts.2.1 49 = .ok (.aload_n 0, 1) := by decide +kernel
theorem d_Nodes_accounts_50 : decode m_Nodes_accounts.2.1 50 = .ok (.iload 4, 2) := by decide +kernel
theorem d_Nodes_accounts_52 : decode m_Nodes_accounts.2.1 52 = .ok (.invokevirtual 256, 3) := by decide +kernel
theorem d_Nodes_accounts_55 : decode m_Nodes_accounts.2.1 55 = .ok (.lcmp, 1) := by decide +kernel
theorem d_Nodes_accounts_56 : decode m_Nodes_accounts.2.1 56 = .ok (.ifCond .ne 21, 3) := by decide +kernel
theorem d_Nodes_accounts_59 : decode m_Nodes_accounts.2.1 59 = .ok (.aload_n 0, 1) := by decide +kernel
theorem d_Nodes_accounts_60 : decode m_Nodes_accounts.2.1 60 = .ok (.getfield 44, 3) := by decide +kernel
theorem d_Nodes_accounts_63 : decode m_Nodes_accounts.2.1 63 = .ok (.iload 6, 2) := by decide +kernel
theorem d_Nodes_accounts_65 : decode m_Nodes_accounts.2.1 65 = .ok (.laload, 1) := by decide +kernel
theorem d_Nodes_accounts_66 : decode m_Nodes_accounts.2.1 66 = .ok (.aload_n 0, 1) := by decide +kernel
theorem d_Nodes_accounts_67 : decode m_Nodes_accounts.2.1 67 = .ok (.getfield 44, 3) := by decide +kernel
theorem d_Nodes_accounts_70 : decode m_Nodes_accounts.2.1 70 = .ok (.iload 4, 2) := by decide +kernel
theorem d_Nodes_accounts_72 : decode m_Nodes_accounts.2.1 72 = .ok (.laload, 1) := by decide +kernel
theorem d_Nodes_accounts_73 : decode m_Nodes_accounts.2.1 73 = .ok (.lcmp, 1) := by decide +kernel
theorem d_Nodes_accounts_74 : decode m_Nodes_accounts.2.1 74 = .ok (.ifCond .eq 7, 3) := by decide +kernel
theorem d_Nodes_accounts_77 : decode m_Nodes_accounts.2.1 77 = .ok (.iconst 1, 1) := by decide +kernel
theorem d_Nodes_accounts_78 : decode m_Nodes_accounts.2.1 78 = .ok (.goto 4, 3) := by decide +kernel
theorem d_Nodes_accounts_81 : decode m_Nodes_accounts.2.1 81 = .ok (.iconst 0, 1) := by decide +kernel
theorem d_Nodes_accounts_82 : decode m_Nodes_accounts.2.1 82 = .ok (.istore 5, 2) := by decide +kernel
theorem d_Nodes_accounts_84 : decode m_Nodes_accounts.2.1 84 = .ok (.iinc 6 1, 3) := by decide +kernel
theorem d_Nodes_accounts_87 : decode m_Nodes_accounts.2.1 87 = .ok (.goto (-65), 3) := by decide +kernel
theorem d_Nodes_accounts_90 : decode m_Nodes_accounts.2.1 90 = .ok (.iload_n 3, 1) := by decide +kernel
theorem d_Nodes_accounts_91 : decode m_Nodes_accounts.2.1 91 = .ok (.iload 5, 2) := by decide +kernel
theorem d_Nodes_accounts_93 : decode m_Nodes_accounts.2.1 93 = .ok (.ifCond .eq 7, 3) := by decide +kernel
theorem d_Nodes_accounts_96 : decode m_Nodes_accounts.2.1 96 = .ok (.iconst 1, 1) := by decide +kernel
theorem d_Nodes_accounts_97 : decode m_Nodes_accounts.2.1 97 = .ok (.goto 4, 3) := by decide +kernel
theorem d_Nodes_accounts_100 : decode m_Nodes_accounts.2.1 100 = .ok (.iconst 0, 1) := by decide +kernel
theorem d_Nodes_accounts_101 : decode m_Nodes_accounts.2.1 101 = .ok (.iadd, 1) := by decide +kernel
theorem d_Nodes_accounts_102 : decode m_Nodes_accounts.2.1 102 = .ok (.istore_n 3, 1) := by decide +kernel
theorem d_Nodes_accounts_103 : decode m_Nodes_accounts.2.1 103 = .ok (.iinc 4 1, 3) := by decide +kernel
theorem d_Nodes_accounts_106 : decode m_Nodes_accounts.2.1 106 = .ok (.goto (-101), 3) := by decide +kernel
theorem d_Nodes_accounts_109 : decode m_Nodes_accounts.2.1 109 = .ok (.iload_n 3, 1) := by decide +kernel
theorem d_Nodes_accounts_110 : decode m_Nodes_accounts.2.1 110 = .ok (.ireturn, 1) := by decide +kernel
/-- the greatest time -/
def gtF (ρ : Nat → Row) (V : Nat → Int) (n : Nat) : Nat → Int
  | 0 => -1
  | k + 1 => if (ρ (n + k)).getD 0 0 = 5 ∧ (ρ (n + k)).getD 8 0 ≠ -1 then max (gtF ρ V n k) (V ((ρ (n + k)).getD 8 0).toNat) else gtF ρ V n k
theorem gtF_in {ρ : Nat → Row} {V : Nat → Int} {mh n : Nat} : ∀ k, (∀ i, n ≤ i → i < n + k → NdQ ρ V mh i) → -1 ≤ gtF ρ V n k ∧ gtF ρ V n k ≤ 1000000000000000
  | 0, _ => by show -1 ≤ (-1 : Int) ∧ (-1 : Int) ≤ 1000000000000000; decide
  | k + 1, h => by
    have ih := gtF_in k (fun i h1 h2 => h i h1 (by omega))
    show -1 ≤ (if (ρ (n + k)).getD 0 0 = 5 ∧ (ρ (n + k)).getD 8 0 ≠ -1 then max (gtF ρ V n k) (V ((ρ (n + k)).getD 8 0).toNat) else gtF ρ V n k) ∧ (if (ρ (n + k)).getD 0 0 = 5 ∧ (ρ (n + k)).getD 8 0 ≠ -1 then max (gtF ρ V n k) (V ((ρ (n + k)).getD 8 0).toNat) else gtF ρ V n k) ≤ _
    split
    · rename_i q
      rcases (h (n + k) (by omega) (by omega)).2.2.1 q.1 with ⟨-, e⟩ | ⟨-, m, e1, e2, e3, e4⟩
      · exact absurd e q.2
      · rw [e1, Int.toNat_natCast]; omega
    · exact ih
/-- how many keys there are -/
def cntF (A : Nat → Prop) [DecidablePred A] (K : Nat → Int × Int) (n : Nat) : Nat → Nat
  | 0 => 0
  | k + 1 => cntF A K n k + (if A (n + k) ∧ ∀ i, i < k → ¬ (A (n + i) ∧ K (n + i) = K (n + k)) then 1 else 0)
theorem cntF_le (A : Nat → Prop) [DecidablePred A] (K : Nat → Int × Int) (n : Nat) : ∀ k, cntF A K n k ≤ k
  | 0 => Nat.le_refl _
  | k + 1 => by
    have ih := cntF_le A K n k
    show cntF A K n k + _ ≤ k + 1
    split <;> omega
/-- the keys in the order in which they are met -/
def seenF (A : Nat → Prop) [DecidablePred A] (K : Nat → Int × Int) (n : Nat) : Nat → List (Int × Int)
  | 0 => []
  | k + 1 => if A (n + k) ∧ ¬ K (n + k) ∈ seenF A K n k then seenF A K n k ++ [K (n + k)] else seenF A K n k
theorem seenF_mem {A : Nat → Prop} [DecidablePred A] {K : Nat → Int × Int} {n : Nat} {x : Int × Int} : ∀ k, x ∈ seenF A K n k ↔ ∃ i, i < k ∧ A (n + i) ∧ K (n + i) = x
  | 0 => ⟨fun h => absurd h (List.not_mem_nil), fun ⟨i, h, _⟩ => absurd h (Nat.not_lt_zero i)⟩
  | k + 1 => by
    have ih := seenF_mem (A := A) (K := K) (n := n) (x := x) k
    unfold seenF
    split
    · rename_i q
      rw [List.mem_append, ih, List.mem_singleton]
      constructor
      · rintro (⟨i, h1, h2⟩ | h)
        · exact ⟨i, by omega, h2⟩
        · exact ⟨k, by omega, q.1, h.symm⟩
      · rintro ⟨i, h1, h2, h3⟩
        by_cases e : i = k
        · subst e; exact Or.inr h3.symm
        · exact Or.inl ⟨i, by omega, h2, h3⟩
    · rename_i q
      rw [ih]
      constructor
      · rintro ⟨i, h1, h2⟩
        exact ⟨i, by omega, h2⟩
      · rintro ⟨i, h1, h2, h3⟩
        by_cases e : i = k
        · subst e
          have : K (n + i) ∈ seenF A K n i := Classical.not_not.mp fun z => q ⟨h2, z⟩
          rw [h3, ih] at this
          exact this
        · exact ⟨i, by omega, h2, h3⟩
theorem seenF_len {A : Nat → Prop} [DecidablePred A] {K : Nat → Int × Int} {n : Nat} : ∀ k, (seenF A K n k).length = cntF A K n k
  | 0 => rfl
  | k + 1 => by
    have ih := seenF_len (A := A) (K := K) (n := n) k
    unfold seenF cntF
    have e : (A (n + k) ∧ ¬ K (n + k) ∈ seenF A K n k) ↔ (A (n + k) ∧ ∀ i, i < k → ¬ (A (n + i) ∧ K (n + i) = K (n + k))) := by
      rw [seenF_mem]
      exact ⟨fun h => ⟨h.1, fun i h1 h2 => h.2 ⟨i, h1, h2⟩⟩, fun h => ⟨h.1, fun ⟨i, h1, h2⟩ => h.2 i h1 h2⟩⟩
    by_cases q : A (n + k) ∧ ¬ K (n + k) ∈ seenF A K n k
    · rw [if_pos q, if_pos (e.mp q), List.length_append, ih]; rfl
    · rw [if_neg q, if_neg (fun z => q (e.mpr z)), ih]; rfl
abbrev isPar (r : Row) : Prop := r.getD 0 0 = 102 ∨ (r.getD 0 0 = 5 ∧ r.getD 8 0 = -1)
abbrev isAcc (r : Row) : Prop := (r.getD 0 0 = 6 ∧ r.getD 3 0 = 7) ∨ (r.getD 0 0 = 1 ∧ r.getD 3 0 = 1)
def ptyF (r : Row) : Int := if r.getD 0 0 = 1 then r.getD 6 0 else r.getD 5 0
def parK (ρ : Nat → Row) (i : Nat) : Int × Int := ((ρ i).getD 5 0, 0)
def accK (ρ : Nat → Row) (i : Nat) : Int × Int := (ptyF (ρ i), (ρ i).getD 7 0)
theorem c_Math_max2 (d : Nat) {x y : Int} (hx : inL x) (hy : inL y) {I : M32} {L : M64} {R : MR} {T : SH} : Call m_Math_max2 y_Math_max2 d 0 0 [.long (cL x), .long (cL y)] I L R T (rL fun r I' L' R' T' => r = cL (max x y) ∧ I' = I ∧ L' = L ∧ R' = R ∧ T' = T) := by
  refine Call.ofRun (by decide +kernel) ⟨rfl, rfl⟩ (Nat.le_of_ble_eq_true rfl) ?_
  refine Run.gen fun Q hQ => ?_
  refine q_lload_n d_Math_max2_0 rfl ?_
  refine q_lload_n d_Math_max2_1 rfl ?_
  refine j_lcmp_lt (tgt := 10) d_Math_max2_2 d_Math_max2_3 (by decide) (by omega) (by omega) (fun h => ?_) (fun h => ?_)
  · skip
    refine q_lload_n d_Math_max2_10 rfl ?_
    refine q_lreturn d_Math_max2_11 rfl ?_
    refine hQ _ _ _ _ _ ?_
    exact ⟨_, rfl, by rw [show max x y = y by omega], rfl, rfl, rfl, rfl⟩
  refine q_lload_n d_Math_max2_6 rfl ?_
  refine q_goto (tgt := 11) d_Math_max2_7 (by decide) ?_
  refine q_lreturn d_Math_max2_11 rfl ?_
  refine hQ _ _ _ _ _ ?_
  exact ⟨_, rfl, by rw [show max x y = x by omega], rfl, rfl, rfl, rfl⟩
/-- what telling of a contract needs -/
def AbI (P D Z mm sz lo hi : Nat) (ρ : Nat → Row) (V : Nat → Int) (L : M64) (R : MR) (T : SH) (I : M32) : Prop := NdS R T D P ∧ NuH I R T D Z mm sz V ∧ (∀ i, lo ≤ i → i < hi → RowC I L D i (ρ i) ∧ NdQ ρ V mm i) ∧ hi ≤ 5000
section
variable {P D Z mm sz lo hi : Nat} {ρ : Nat → Row} {V : Nat → Int} {I : M32} {L : M64} {R : MR} {T : SH}
theorem nmZ.v {r : Row} {j : Nat} (h : nmZ r j) : 0 ≤ r.getD j 0 ∧ r.getD j 0 < 9223372036854775808 := by
  obtain ⟨x, h1, h2⟩ := h
  rw [h1]
  rcases h2 with h | ⟨-, n, h⟩
  · omega
  · have := h.2.2.1; omega
theorem c_Nodes_greatestTime (d : Nat) (hd : 4 ≤ d) (hA : AbI P D Z mm sz lo hi ρ V L R T I) (hlh : lo ≤ hi) : Call m_Nodes_greatestTime y_Nodes_greatestTime d 0 0 [.ref D, .int (cI (lo : Int)), .int (cI (hi : Int))] I L R T (rL fun r I' L' R' T' => r = cL (gtF ρ V lo (hi - lo)) ∧ I' = I ∧ L' = L ∧ R' = R ∧ T' = T) := by
  obtain ⟨a1, a2, a3, a4⟩ := hA
  have hms := a2.lt
  refine Call.ofRun (by decide) ⟨rfl, rfl⟩ (Nat.le_of_ble_eq_true rfl) ?_
  refine Run.gen fun Q hQ => ?_
  refine j_ldc2 (z := (-1)) d_Nodes_greatestTime_0 (inT5 97 rfl) (by decide) ?_
  refine q_lstore_n (lv' := [(3, .long (cL (-1))), (0, .ref D), (1, .int (cI (lo : Int))), (2, .int (cI (hi : Int)))]) d_Nodes_greatestTime_3 (by decide) rfl ?_
  refine q_iload_n d_Nodes_greatestTime_4 rfl ?_
  refine q_istore (lv' := [(5, .int (cI (lo : Int))), (3, .long (cL (-1))), (0, .ref D), (1, .int (cI (lo : Int))), (2, .int (cI (hi : Int)))]) d_Nodes_greatestTime_5 (by decide) rfl ?_
  have loop : ∀ (fl j i : Nat) (g : Int), i = lo + j → i + fl = hi → g = gtF ρ V lo j → Run m_Nodes_greatestTime d 0 0 7 [(0, .ref D), (1, .int (cI (lo : Int))), (2, .int (cI (hi : Int))), (3, .long (cL g)), (5, .int (cI (i : Int)))] [] I L R T Q := by
    intro fl
    induction fl with
    | zero =>
      intro j i g hi1 hi2 hg
      refine q_iload d_Nodes_greatestTime_7 rfl ?_
      refine q_iload_n d_Nodes_greatestTime_9 rfl ?_
      refine j_icmp_ge (tgt := 64) d_Nodes_greatestTime_10 (by decide) (by omega) (by omega) (fun hx => ?_) (fun hx => by exfalso; omega)
      refine q_lload_n d_Nodes_greatestTime_64 rfl ?_
      refine q_lreturn d_Nodes_greatestTime_65 rfl ?_
      refine hQ _ _ _ _ _ ?_
      exact ⟨_, rfl, by rw [hg, show hi - lo = j by omega], rfl, rfl, rfl, rfl⟩
    | succ fl ih =>
      intro j i g hi1 hi2 hg
      obtain ⟨hr, hq⟩ := a3 i (by omega) (by omega)
      have hgi := gtF_in (ρ := ρ) (V := V) (mh := mm) (n := lo) j (fun i h1 h2 => (a3 i h1 (by omega)).2)
      rw [← hg] at hgi
      obtain ⟨κ, hκ⟩ : ∃ κ, κ = (ρ i).getD 0 0 := ⟨_, rfl⟩
      obtain ⟨z8, hz8⟩ : ∃ z8, z8 = (ρ i).getD 8 0 := ⟨_, rfl⟩
      have hκi := hq.2.1
      rw [← hκ] at hκi
      refine q_iload d_Nodes_greatestTime_7 rfl ?_
      refine q_iload_n d_Nodes_greatestTime_9 rfl ?_
      refine j_icmp_ge (tgt := 64) d_Nodes_greatestTime_10 (by decide) (by omega) (by omega) (fun hx => by exfalso; omega) (fun hx => ?_)
      refine q_aload_n d_Nodes_greatestTime_13 rfl ?_
      refine q_getR d_Nodes_greatestTime_14 fl_Nodes_15 a1.1 ⟨rfl, by decide⟩ (nR0 a1) ?_
      refine q_iload d_Nodes_greatestTime_17 rfl ?_
      refine j_iald (j := i) (v := (cI κ)) d_Nodes_greatestTime_19 (nT0 a1) (nN0 a1) (by omega) (by omega) (by omega) (hr.1.trans (by rw [← hκ])) ?_
      refine j_iconst d_Nodes_greatestTime_20 ?_
      have t57 : ∀ (g' : Int), g' = gtF ρ V lo (j + 1) → Run m_Nodes_greatestTime d 0 0 57 [(0, .ref D), (1, .int (cI (lo : Int))), (2, .int (cI (hi : Int))), (3, .long (cL g)), (5, .int (cI (i : Int)))] [.long (cL g')] I L R T Q := by
        intro g' hg'
        refine q_lstore_n (lv' := [(3, .long (cL g')), (0, .ref D), (1, .int (cI (lo : Int))), (2, .int (cI (hi : Int))), (5, .int (cI (i : Int)))]) d_Nodes_greatestTime_57 (by decide) rfl ?_
        refine j_iinc (lv' := [(5, .int (cI ((i : Int) + 1))), (3, .long (cL g')), (0, .ref D), (1, .int (cI (lo : Int))), (2, .int (cI (hi : Int)))]) d_Nodes_greatestTime_58 rfl (by decide) rfl ?_
        refine q_goto (tgt := 7) d_Nodes_greatestTime_61 (by decide) ?_
        rw [show (i : Int) + 1 = ((i + 1 : Nat) : Int) by omega]
        refine Run.lv (lv' := [(0, .ref D), (1, .int (cI (lo : Int))), (2, .int (cI (hi : Int))), (3, .long (cL g')), (5, .int (cI (((i + 1 : Nat) : Int))))]) (by intro q hq; simp only [List.mem_cons, List.not_mem_nil, or_false] at hq ⊢; rcases hq with rfl | rfl | rfl | rfl | rfl <;> simp) ?_
        exact ih (j + 1) (i + 1) g' (by omega) (by omega) hg'
      have hst : gtF ρ V lo (j + 1) = if κ = 5 ∧ z8 ≠ -1 then max g (V z8.toNat) else g := by
        show (if (ρ (lo + j)).getD 0 0 = 5 ∧ (ρ (lo + j)).getD 8 0 ≠ -1 then max (gtF ρ V lo j) (V ((ρ (lo + j)).getD 8 0).toNat) else gtF ρ V lo j) = _
        rw [← hi1, ← hκ, ← hz8, ← hg]
      by_cases h5 : κ = 5
      rotate_left
      · refine j_icmp_ne (tgt := 56) d_Nodes_greatestTime_21 (by decide) (by omega) (by omega) (fun hx => ?_) (fun hx => by exfalso; omega)
        refine q_lload_n d_Nodes_greatestTime_56 rfl ?_
        exact t57 g (by rw [hst, if_neg (fun q => h5 q.1)])
      refine j_icmp_ne (tgt := 56) d_Nodes_greatestTime_21 (by decide) (by omega) (by omega) (fun hx => by exfalso; omega) (fun hx => ?_)
      refine q_aload_n d_Nodes_greatestTime_24 rfl ?_
      refine q_getR d_Nodes_greatestTime_25 fl_Nodes_31 a1.1 ⟨rfl, by decide⟩ (nR5 a1) ?_
      refine q_iload d_Nodes_greatestTime_28 rfl ?_
      refine j_iald (j := i) (v := (cI z8)) d_Nodes_greatestTime_30 (nT5 a1) (nN5 a1) (by omega) (by omega) (by omega) (hr.2.2.2.2.2.2.2.2.1.trans (by rw [← hz8])) ?_
      refine j_iconst d_Nodes_greatestTime_31 ?_
      rcases hq.2.2.1 (hκ.symm.trans h5) with ⟨-, e⟩ | ⟨-, m, e1, e2, e3, e4⟩
      · rw [← hz8] at e
        refine j_icmp_eq (tgt := 56) d_Nodes_greatestTime_32 (by decide) (by omega) (by omega) (fun hx => ?_) (fun hx => by exfalso; omega)
        refine q_lload_n d_Nodes_greatestTime_56 rfl ?_
        exact t57 g (by rw [hst, if_neg (fun q => q.2 e)])
      rw [← hz8] at e1
      obtain ⟨b, b1, b2, b3, b4⟩ := a2.at (k := m) a1 e2
      refine j_icmp_eq (tgt := 56) d_Nodes_greatestTime_32 (by decide) (by omega) (by omega) (fun hx => by exfalso; omega) (fun hx => ?_)
      refine q_lload_n d_Nodes_greatestTime_35 rfl ?_
      refine q_aload_n d_Nodes_greatestTime_36 rfl ?_
      refine q_aload_n d_Nodes_greatestTime_37 rfl ?_
      refine q_getR d_Nodes_greatestTime_38 fl_Nodes_31 a1.1 ⟨rfl, by decide⟩ (nR5 a1) ?_
      refine q_iload d_Nodes_greatestTime_41 rfl ?_
      refine j_iald (j := i) (v := (cI z8)) d_Nodes_greatestTime_43 (nT5 a1) (nN5 a1) (by omega) (by omega) (by omega) (hr.2.2.2.2.2.2.2.2.1.trans (by rw [← hz8])) ?_
      refine Run.top (v := .int (cI (m : Int))) (by rw [e1]) ?_
      refine q_callV (ci := 6) (rc := 0) (rs := 0) (rest := [.long (cL g)]) d_Nodes_greatestTime_44 ml_Nodes_157 ok_Nodes_numberAt rfl a1.1 (by decide) (b4 (d - 1) L (by omega)) rfl rfl (by omega) (Nat.le_of_ble_eq_true rfl) (kp_O ?_) kt_O
      refine q_callV (ci := 0) (rc := 0) (rs := 0) (rest := [.long (cL g)]) d_Nodes_greatestTime_47 ml_Nodes_146 ok_Big_time rfl b1.1 (by decide) (c_Big_time (d - 1) b1 b2) rfl rfl (by omega) (Nat.le_of_ble_eq_true rfl) (kp_L ?_) kt_L
      rw [if_pos ⟨e3, e4⟩]
      refine q_callS (rc := 0) (rs := 0) (rest := []) d_Nodes_greatestTime_50 ml_Nodes_239 ok_Math_max2 (c_Math_max2 (d - 1) (x := g) (y := V m) (by omega) (by omega)) rfl rfl (by omega) (Nat.le_of_ble_eq_true rfl) (kp_L ?_) kt_L
      refine q_goto (tgt := 57) d_Nodes_greatestTime_53 (by decide) ?_
      exact t57 _ (by rw [hst, if_pos ⟨h5, by omega⟩, e1, Int.toNat_natCast])
  refine Run.lv (lv' := [(0, .ref D), (1, .int (cI (lo : Int))), (2, .int (cI (hi : Int))), (3, .long (cL (-1))), (5, .int (cI (lo : Int)))]) (by intro q hq; simp only [List.mem_cons, List.not_mem_nil, or_false] at hq ⊢; rcases hq with rfl | rfl | rfl | rfl | rfl <;> simp) ?_
  exact loop (hi - lo) 0 lo (-1) rfl (by omega) rfl
theorem c_Nodes_isParameter {i : Nat} (d : Nat) (hA : AbI P D Z mm sz lo hi ρ V L R T I) (hi1 : lo ≤ i) (hi2 : i < hi) : Call m_Nodes_isParameter y_Nodes_isParameter d 0 0 [.ref D, .int (cI (i : Int))] I L R T (rI fun r I' L' R' T' => r = cI (bI (isPar (ρ i))) ∧ I' = I ∧ L' = L ∧ R' = R ∧ T' = T) := by
  obtain ⟨a1, a2, a3, a4⟩ := hA
  have hms := a2.lt
  obtain ⟨hr, hq⟩ := a3 i (by omega) (by omega)
  obtain ⟨κ, hκ⟩ : ∃ κ, κ = (ρ i).getD 0 0 := ⟨_, rfl⟩
  obtain ⟨z8, hz8⟩ : ∃ z8, z8 = (ρ i).getD 8 0 := ⟨_, rfl⟩
  have hκi := hq.2.1
  rw [← hκ] at hκi
  have hz : κ = 5 → -1 ≤ z8 ∧ z8 ≤ 60000 := fun h5 => by
    rcases hq.2.2.1 (hκ.symm.trans h5) with ⟨-, e⟩ | ⟨-, m, e1, e2, e3, e4⟩
    · rw [← hz8] at e; omega
    · rw [← hz8] at e1; omega
  have hip : isPar (ρ i) ↔ κ = 102 ∨ (κ = 5 ∧ z8 = -1) := by rw [hκ, hz8]
  have e1 : isPar (ρ i) → cI 1 = cI (bI (isPar (ρ i))) := fun h => by unfold bI; rw [if_pos h]
  have e0 : ¬ isPar (ρ i) → cI 0 = cI (bI (isPar (ρ i))) := fun h => by unfold bI; rw [if_neg h]
  refine Call.ofRun (by decide) ⟨rfl, rfl⟩ (Nat.le_of_ble_eq_true rfl) ?_
  refine Run.gen fun Q hQ => ?_
  refine q_aload_n d_Nodes_isParameter_0 rfl ?_
  refine q_getR d_Nodes_isParameter_1 fl_Nodes_15 a1.1 ⟨rfl, by decide⟩ (nR0 a1) ?_
  refine q_iload_n d_Nodes_isParameter_4 rfl ?_
  refine j_iald (j := i) (v := (cI κ)) d_Nodes_isParameter_5 (nT0 a1) (nN0 a1) (by omega) (by omega) (by omega) (hr.1.trans (by rw [← hκ])) ?_
  refine j_bipush d_Nodes_isParameter_6 (by decide) ?_
  by_cases h2 : κ = 102
  · refine j_icmp_eq (tgt := 31) d_Nodes_isParameter_8 (by decide) (by omega) (by omega) (fun hx => ?_) (fun hx => by exfalso; omega)
    refine j_iconst d_Nodes_isParameter_31 ?_
    refine q_goto (tgt := 36) d_Nodes_isParameter_32 (by decide) ?_
    refine q_ireturn d_Nodes_isParameter_36 rfl (narrow_z (Or.inr rfl)).1 ?_
    refine hQ _ _ _ _ _ ?_
    exact ⟨_, rfl, e1 (hip.mpr (Or.inl h2)), rfl, rfl, rfl, rfl⟩
  refine j_icmp_eq (tgt := 31) d_Nodes_isParameter_8 (by decide) (by omega) (by omega) (fun hx => by exfalso; omega) (fun hx => ?_)
  refine q_aload_n d_Nodes_isParameter_11 rfl ?_
  refine q_getR d_Nodes_isParameter_12 fl_Nodes_15 a1.1 ⟨rfl, by decide⟩ (nR0 a1) ?_
  refine q_iload_n d_Nodes_isParameter_15 rfl ?_
  refine j_iald (j := i) (v := (cI κ)) d_Nodes_isParameter_16 (nT0 a1) (nN0 a1) (by omega) (by omega) (by omega) (hr.1.trans (by rw [← hκ])) ?_
  refine j_iconst d_Nodes_isParameter_17 ?_
  by_cases h5 : κ = 5
  rotate_left
  · refine j_icmp_ne (tgt := 35) d_Nodes_isParameter_18 (by decide) (by omega) (by omega) (fun hx => ?_) (fun hx => by exfalso; omega)
    refine j_iconst d_Nodes_isParameter_35 ?_
    refine q_ireturn d_Nodes_isParameter_36 rfl (narrow_z (Or.inl rfl)).1 ?_
    refine hQ _ _ _ _ _ ?_
    exact ⟨_, rfl, e0 (fun q => by rcases hip.mp q with q | q <;> omega), rfl, rfl, rfl, rfl⟩
  have hz' := hz h5
  refine j_icmp_ne (tgt := 35) d_Nodes_isParameter_18 (by decide) (by omega) (by omega) (fun hx => by exfalso; omega) (fun hx => ?_)
  refine q_aload_n d_Nodes_isParameter_21 rfl ?_
  refine q_getR d_Nodes_isParameter_22 fl_Nodes_31 a1.1 ⟨rfl, by decide⟩ (nR5 a1) ?_
  refine q_iload_n d_Nodes_isParameter_25 rfl ?_
  refine j_iald (j := i) (v := (cI z8)) d_Nodes_isParameter_26 (nT5 a1) (nN5 a1) (by omega) (by omega) (by omega) (hr.2.2.2.2.2.2.2.2.1.trans (by rw [← hz8])) ?_
  refine j_iconst d_Nodes_isParameter_27 ?_
  by_cases h8 : z8 = -1
  rotate_left
  · refine j_icmp_ne (tgt := 35) d_Nodes_isParameter_28 (by decide) (by omega) (by omega) (fun hx => ?_) (fun hx => by exfalso; omega)
    refine j_iconst d_Nodes_isParameter_35 ?_
    refine q_ireturn d_Nodes_isParameter_36 rfl (narrow_z (Or.inl rfl)).1 ?_
    refine hQ _ _ _ _ _ ?_
    exact ⟨_, rfl, e0 (fun q => by rcases hip.mp q with q | q <;> omega), rfl, rfl, rfl, rfl⟩
  refine j_icmp_ne (tgt := 35) d_Nodes_isParameter_28 (by decide) (by omega) (by omega) (fun hx => by exfalso; omega) (fun hx => ?_)
  refine j_iconst d_Nodes_isParameter_31 ?_
  refine q_goto (tgt := 36) d_Nodes_isParameter_32 (by decide) ?_
  refine q_ireturn d_Nodes_isParameter_36 rfl (narrow_z (Or.inr rfl)).1 ?_
  refine hQ _ _ _ _ _ ?_
  exact ⟨_, rfl, e1 (hip.mpr (Or.inr ⟨h5, h8⟩)), rfl, rfl, rfl, rfl⟩
theorem c_Nodes_opensAccount {i : Nat} (d : Nat) (hA : AbI P D Z mm sz lo hi ρ V L R T I) (hi1 : lo ≤ i) (hi2 : i < hi) : Call m_Nodes_opensAccount y_Nodes_opensAccount d 0 0 [.ref D, .int (cI (i : Int))] I L R T (rI fun r I' L' R' T' => r = cI (bI (isAcc (ρ i))) ∧ I' = I ∧ L' = L ∧ R' = R ∧ T' = T) := by
  obtain ⟨a1, a2, a3, a4⟩ := hA
  obtain ⟨hr, hq⟩ := a3 i (by omega) (by omega)
  obtain ⟨κ, hκ⟩ : ∃ κ, κ = (ρ i).getD 0 0 := ⟨_, rfl⟩
  obtain ⟨z3, hz3⟩ : ∃ z3, z3 = (ρ i).getD 3 0 := ⟨_, rfl⟩
  obtain ⟨-, hκi, -, -, h6, h1⟩ := hq
  rw [← hκ] at hκi h6 h1
  rw [← hz3] at h6 h1
  have hip : isAcc (ρ i) ↔ (κ = 6 ∧ z3 = 7) ∨ (κ = 1 ∧ z3 = 1) := by rw [hκ, hz3]
  have e1 : isAcc (ρ i) → cI 1 = cI (bI (isAcc (ρ i))) := fun h => by unfold bI; rw [if_pos h]
  have e0 : ¬ isAcc (ρ i) → cI 0 = cI (bI (isAcc (ρ i))) := fun h => by unfold bI; rw [if_neg h]
  refine Call.ofRun (by decide) ⟨rfl, rfl⟩ (Nat.le_of_ble_eq_true rfl) ?_
  refine Run.gen fun Q hQ => ?_
  refine q_aload_n d_Nodes_opensAccount_0 rfl ?_
  refine q_getR d_Nodes_opensAccount_1 fl_Nodes_15 a1.1 ⟨rfl, by decide⟩ (nR0 a1) ?_
  refine q_iload_n d_Nodes_opensAccount_4 rfl ?_
  refine j_iald (j := i) (v := (cI κ)) d_Nodes_opensAccount_5 (nT0 a1) (nN0 a1) (by omega) (by omega) (by omega) (hr.1.trans (by rw [← hκ])) ?_
  refine j_bipush d_Nodes_opensAccount_6 (by decide) ?_
  have t22 : ∀ (hn : ¬ (κ = 6 ∧ z3 = 7)), True → Run m_Nodes_opensAccount d 0 0 22 [(0, .ref D), (1, .int (cI (i : Int)))] [] I L R T Q := by
    intro hn _
    refine q_aload_n d_Nodes_opensAccount_22 rfl ?_
    refine q_getR d_Nodes_opensAccount_23 fl_Nodes_15 a1.1 ⟨rfl, by decide⟩ (nR0 a1) ?_
    refine q_iload_n d_Nodes_opensAccount_26 rfl ?_
    refine j_iald (j := i) (v := (cI κ)) d_Nodes_opensAccount_27 (nT0 a1) (nN0 a1) (by omega) (by omega) (by omega) (hr.1.trans (by rw [← hκ])) ?_
    refine j_iconst d_Nodes_opensAccount_28 ?_
    by_cases h1' : κ = 1
    rotate_left
    · refine j_icmp_ne (tgt := 46) d_Nodes_opensAccount_29 (by decide) (by omega) (by omega) (fun hx => ?_) (fun hx => by exfalso; omega)
      refine j_iconst d_Nodes_opensAccount_46 ?_
      refine q_ireturn d_Nodes_opensAccount_47 rfl (narrow_z (Or.inl rfl)).1 ?_
      refine hQ _ _ _ _ _ ?_
      exact ⟨_, rfl, e0 (fun q => by rcases hip.mp q with q | q <;> omega), rfl, rfl, rfl, rfl⟩
    have hz' := h1 h1'
    refine j_icmp_ne (tgt := 46) d_Nodes_opensAccount_29 (by decide) (by omega) (by omega) (fun hx => by exfalso; omega) (fun hx => ?_)
    refine q_aload_n d_Nodes_opensAccount_32 rfl ?_
    refine q_getR d_Nodes_opensAccount_33 fl_Nodes_25 a1.1 ⟨rfl, by decide⟩ (nR3 a1) ?_
    refine q_iload_n d_Nodes_opensAccount_36 rfl ?_
    refine j_iald (j := i) (v := (cI z3)) d_Nodes_opensAccount_37 (nT3 a1) (nN3 a1) (by omega) (by omega) (by omega) (hr.2.2.2.1.trans (by rw [← hz3])) ?_
    refine j_iconst d_Nodes_opensAccount_38 ?_
    by_cases h8 : z3 = 1
    rotate_left
    · refine j_icmp_ne (tgt := 46) d_Nodes_opensAccount_39 (by decide) (by omega) (by omega) (fun hx => ?_) (fun hx => by exfalso; omega)
      refine j_iconst d_Nodes_opensAccount_46 ?_
      refine q_ireturn d_Nodes_opensAccount_47 rfl (narrow_z (Or.inl rfl)).1 ?_
      refine hQ _ _ _ _ _ ?_
      exact ⟨_, rfl, e0 (fun q => by rcases hip.mp q with q | q <;> omega), rfl, rfl, rfl, rfl⟩
    refine j_icmp_ne (tgt := 46) d_Nodes_opensAccount_39 (by decide) (by omega) (by omega) (fun hx => by exfalso; omega) (fun hx => ?_)
    refine j_iconst d_Nodes_opensAccount_42 ?_
    refine q_goto (tgt := 47) d_Nodes_opensAccount_43 (by decide) ?_
    refine q_ireturn d_Nodes_opensAccount_47 rfl (narrow_z (Or.inr rfl)).1 ?_
    refine hQ _ _ _ _ _ ?_
    exact ⟨_, rfl, e1 (hip.mpr (Or.inr ⟨h1', h8⟩)), rfl, rfl, rfl, rfl⟩
  by_cases h2 : κ = 6
  rotate_left
  · refine j_icmp_ne (tgt := 22) d_Nodes_opensAccount_8 (by decide) (by omega) (by omega) (fun hx => ?_) (fun hx => by exfalso; omega)
    exact t22 (fun q => h2 q.1) trivial
  have hz' := h6 h2
  refine j_icmp_ne (tgt := 22) d_Nodes_opensAccount_8 (by decide) (by omega) (by omega) (fun hx => by exfalso; omega) (fun hx => ?_)
  refine q_aload_n d_Nodes_opensAccount_11 rfl ?_
  refine q_getR d_Nodes_opensAccount_12 fl_Nodes_25 a1.1 ⟨rfl, by decide⟩ (nR3 a1) ?_
  refine q_iload_n d_Nodes_opensAccount_15 rfl ?_
  refine j_iald (j := i) (v := (cI z3)) d_Nodes_opensAccount_16 (nT3 a1) (nN3 a1) (by omega) (by omega) (by omega) (hr.2.2.2.1.trans (by rw [← hz3])) ?_
  refine j_bipush d_Nodes_opensAccount_17 (by decide) ?_
  by_cases h3 : z3 = 7
  · refine j_icmp_eq (tgt := 42) d_Nodes_opensAccount_19 (by decide) (by omega) (by omega) (fun hx => ?_) (fun hx => by exfalso; omega)
    refine j_iconst d_Nodes_opensAccount_42 ?_
    refine q_goto (tgt := 47) d_Nodes_opensAccount_43 (by decide) ?_
    refine q_ireturn d_Nodes_opensAccount_47 rfl (narrow_z (Or.inr rfl)).1 ?_
    refine hQ _ _ _ _ _ ?_
    exact ⟨_, rfl, e1 (hip.mpr (Or.inl ⟨h2, h3⟩)), rfl, rfl, rfl, rfl⟩
  refine j_icmp_eq (tgt := 42) d_Nodes_opensAccount_19 (by decide) (by omega) (by omega) (fun hx => by exfalso; omega) (fun hx => ?_)
  exact t22 (fun q => h3 q.2) trivial
theorem c_Nodes_partyOf {i : Nat} (d : Nat) (hA : AbI P D Z mm sz lo hi ρ V L R T I) (hi1 : lo ≤ i) (hi2 : i < hi) : Call m_Nodes_partyOf y_Nodes_partyOf d 0 0 [.ref D, .int (cI (i : Int))] I L R T (rL fun r I' L' R' T' => r = cL (ptyF (ρ i)) ∧ I' = I ∧ L' = L ∧ R' = R ∧ T' = T) := by
  obtain ⟨a1, a2, a3, a4⟩ := hA
  obtain ⟨hr, hq⟩ := a3 i (by omega) (by omega)
  obtain ⟨κ, hκ⟩ : ∃ κ, κ = (ρ i).getD 0 0 := ⟨_, rfl⟩
  obtain ⟨-, hκi, -⟩ := hq
  rw [← hκ] at hκi
  refine Call.ofRun (by decide) ⟨rfl, rfl⟩ (Nat.le_of_ble_eq_true rfl) ?_
  refine Run.gen fun Q hQ => ?_
  refine q_aload_n d_Nodes_partyOf_0 rfl ?_
  refine q_getR d_Nodes_partyOf_1 fl_Nodes_15 a1.1 ⟨rfl, by decide⟩ (nR0 a1) ?_
  refine q_iload_n d_Nodes_partyOf_4 rfl ?_
  refine j_iald (j := i) (v := (cI κ)) d_Nodes_partyOf_5 (nT0 a1) (nN0 a1) (by omega) (by omega) (by omega) (hr.1.trans (by rw [← hκ])) ?_
  refine j_iconst d_Nodes_partyOf_6 ?_
  by_cases h1 : κ = 1
  · refine j_icmp_ne (tgt := 19) d_Nodes_partyOf_7 (by decide) (by omega) (by omega) (fun hx => by exfalso; omega) (fun hx => ?_)
    refine q_aload_n d_Nodes_partyOf_10 rfl ?_
    refine q_getR d_Nodes_partyOf_11 fl_Nodes_41 a1.1 ⟨rfl, by decide⟩ (nR8 a1) ?_
    refine q_iload_n d_Nodes_partyOf_14 rfl ?_
    refine j_lald (j := i) (v := (cL ((ρ i).getD 6 0))) d_Nodes_partyOf_15 (nT8 a1) (nN8 a1) (by omega) (by omega) (by omega) hr.2.2.2.2.2.2.1 ?_
    refine q_goto (tgt := 25) d_Nodes_partyOf_16 (by decide) ?_
    refine q_lreturn d_Nodes_partyOf_25 rfl ?_
    refine hQ _ _ _ _ _ ?_
    exact ⟨_, rfl, by unfold ptyF; rw [← hκ, if_pos h1], rfl, rfl, rfl, rfl⟩
  refine j_icmp_ne (tgt := 19) d_Nodes_partyOf_7 (by decide) (by omega) (by omega) (fun hx => ?_) (fun hx => by exfalso; omega)
  refine q_aload_n d_Nodes_partyOf_19 rfl ?_
  refine q_getR d_Nodes_partyOf_20 fl_Nodes_37 a1.1 ⟨rfl, by decide⟩ (nR7 a1) ?_
  refine q_iload_n d_Nodes_partyOf_23 rfl ?_
  refine j_lald (j := i) (v := (cL ((ρ i).getD 5 0))) d_Nodes_partyOf_24 (nT7 a1) (nN7 a1) (by omega) (by omega) (by omega) hr.2.2.2.2.2.1 ?_
  refine q_lreturn d_Nodes_partyOf_25 rfl ?_
  refine hQ _ _ _ _ _ ?_
  exact ⟨_, rfl, by unfold ptyF; rw [← hκ, if_neg h1], rfl, rfl, rfl, rfl⟩
end

