/-! ===== 24 BIG, differences, sums, the rest ===== -/
theorem d_Big_subtractSizes_0 : decode m_Big_subtractSizes.2.1 0 = .ok (.aload_n 1, 1) := by decide +kernel
theorem d_Big_subtractSizes_1 : decode m_Big_subtractSizes.2.1 1 = .ok (.getfield 15, 3) := by decide +kernel
theorem d_Big_subtractSizes_4 : decode m_Big_subtractSizes.2.1 4 = .ok (.istore_n 3, 1) := by decide +kernel
theorem d_Big_subtractSizes_5 : decode m_Big_subtractSizes.2.1 5 = .ok (.iconst 0, 1) := by decide +kernel
theorem d_Big_subtractSizes_6 : decode m_Big_subtractSizes.2.1 6 = .ok (.istore 4, 2) := by decide +kernel
theorem d_Big_subtractSizes_8 : decode m_Big_subtractSizes.2.1 8 = .ok (.iconst 0, 1) := by decide +kernel
theorem d_Big_subtractSizes_9 : decode m_Big_subtractSizes.2.1 9 = .ok (.istore 5, 2) := by decide +kernel
theorem d_Big_subtractSizes_11 : decode m_Big_subtractSizes.2.1 11 = .ok (.iload 5, 2) := by decide +kernel
theorem d_Big_subtractSizes_13 : decode m_Big_subtractSizes.2.1 13 = .ok (.iload_n 3, 1) := by decide +kernel
theorem d_Big_subtractSizes_14 : decode m_Big_subtractSizes.2.1 14 = .ok (.if_icmp .ge 76, 3) := by decide +kernel
theorem d_Big_subtractSizes_17 : decode m_Big_subtractSizes.2.1 17 = .ok (.aload_n 1, 1) := by decide +kernel
theorem d_Big_subtractSizes_18 : decode m_Big_subtractSizes.2.1 18 = .ok (.getfield 11, 3) := by decide +kernel
theorem d_Big_subtractSizes_21 : decode m_Big_subtractSizes.2.1 21 = .ok (.iload 5, 2) := by decide +kernel
theorem d_Big_subtractSizes_23 : decode m_Big_subtractSizes.2.1 23 = .ok (.iaload, 1) := by decide +kernel
theorem d_Big_subtractSizes_24 : decode m_Big_subtractSizes.2.1 24 = .ok (.iload 4, 2) := by decide +kernel
theorem d_Big_subtractSizes_26 : decode m_Big_subtractSizes.2.1 26 = .ok (.isub, 1) := by decide +kernel
theorem d_Big_subtractSizes_27 : decode m_Big_subtractSizes.2.1 27 = .ok (.iload 5, 2) := by decide +kernel
theorem d_Big_subtractSizes_29 : decode m_Big_subtractSizes.2.1 29 = .ok (.aload_n 2, 1) := by decide +kernel
theorem d_Big_subtractSizes_30 : decode m_Big_subtractSizes.2.1 30 = .ok (.getfield 15, 3) := by decide +kernel
theorem d_Big_subtractSizes_33 : decode m_Big_subtractSizes.2.1 33 = .ok (.if_icmp .ge 13, 3) := by decide +kernel
theorem d_Big_subtractSizes_36 : decode m_Big_subtractSizes.2.1 36 = .ok (.aload_n 2, 1) := by decide +kernel
theorem d_Big_subtractSizes_37 : decode m_Big_subtractSizes.2.1 37 = .ok (.getfield 11, 3) := by decide +kernel
theorem d_Big_subtractSizes_40 : decode m_Big_subtractSizes.2.1 40 = .ok (.iload 5, 2) := by decide +kernel
theorem d_Big_subtractSizes_42 : decode m_Big_subtractSizes.2.1 42 = .ok (.iaload, 1) := by decide +kernel
theorem d_Big_subtractSizes_43 : decode m_Big_subtractSizes.2.1 43 = .ok (.goto 4, 3) := by decide +kernel
theorem d_Big_subtractSizes_46 : decode m_Big_subtractSizes.2.1 46 = .ok (.iconst 0, 1) := by decide +kernel
theorem d_Big_subtractSizes_47 : decode m_Big_subtractSizes.2.1 47 = .ok (.isub, 1) := by decide +kernel
theorem d_Big_subtractSizes_48 : decode m_Big_subtractSizes.2.1 48 = .ok (.istore 6, 2) := by decide +kernel
theorem d_Big_subtractSizes_50 : decode m_Big_subtractSizes.2.1 50 = .ok (.iload 6, 2) := by decide +kernel
theorem d_Big_subtractSizes_52 : decode m_Big_subtractSizes.2.1 52 = .ok (.ifCond .ge 7, 3) := by decide +kernel
theorem d_Big_subtractSizes_55 : decode m_Big_subtractSizes.2.1 55 = .ok (.iconst 1, 1) := by decide +kernel
theorem d_Big_subtractSizes_56 : decode m_Big_subtractSizes.2.1 56 = .ok (.goto 4, 3) := by decide +kernel
theorem d_Big_subtractSizes_59 : decode m_Big_subtractSizes.2.1 59 = .ok (.iconst 0, 1) := by decide +kernel
theorem d_Big_subtractSizes_60 : decode m_Big_subtractSizes.2.1 60 = .ok (.istore 4, 2) := by decide +kernel
theorem d_Big_subtractSizes_62 : decode m_Big_subtractSizes.2.1 62 = .ok (.aload_n 0, 1) := by decide +kernel
theorem d_Big_subtractSizes_63 : decode m_Big_subtractSizes.2.1 63 = .ok (.getfield 11, 3) := by decide +kernel
theorem d_Big_subtractSizes_66 : decode m_Big_subtractSizes.2.1 66 = .ok (.iload 5, 2) := by decide +kernel
theorem d_Big_subtractSizes_68 : decode m_Big_subtractSizes.2.1 68 = .ok (.iload 6, 2) := by decide +kernel
theorem d_Big_subtractSizes_70 : decode m_Big_subtractSizes.2.1 70 = .ok (.iload 4, 2) := by decide +kernel
theorem d_Big_subtractSizes_72 : decode m_Big_subtractSizes.2.1 72 = .ok (.iconst 1, 1) := by decide +kernel
theorem d_Big_subtractSizes_73 : decode m_Big_subtractSizes.2.1 73 = .ok (.if_icmp .ne 8, 3) := by decide +kernel
theorem d_Big_subtractSizes_76 : decode m_Big_subtractSizes.2.1 76 = .ok (.ldc 53, 2) := by decide +kernel
theorem d_Big_subtractSizes_78 : decode m_Big_subtractSizes.2.1 78 = .ok (.goto 4, 3) := by decide +kernel
theorem d_Big_subtractSizes_81 : decode m_Big_subtractSizes.2.1 81 = .ok (.iconst 0, 1) := by decide +kernel
theorem d_Big_subtractSizes_82 : decode m_Big_subtractSizes.2.1 82 = .ok (.iadd, 1) := by decide +kernel
theorem d_Big_subtractSizes_83 : decode m_Big_subtractSizes.2.1 83 = .ok (.iastore, 1) := by decide +kernel
theorem d_Big_subtractSizes_84 : decode m_Big_subtractSizes.2.1 84 = .ok (.iinc 5 1, 3) := by decide +kernel
theorem d_Big_subtractSizes_87 : decode m_Big_subtractSizes.2.1 87 = .ok (.goto (-76), 3) := by decide +kernel
theorem d_Big_subtractSizes_90 : decode m_Big_subtractSizes.2.1 90 = .ok (.aload_n 0, 1) := by decide +kernel
theorem d_Big_subtractSizes_91 : decode m_Big_subtractSizes.2.1 91 = .ok (.iload_n 3, 1) := by decide +kernel
theorem d_Big_subtractSizes_92 : decode m_Big_subtractSizes.2.1 92 = .ok (.putfield 15, 3) := by decide +kernel
theorem d_Big_subtractSizes_95 : decode m_Big_subtractSizes.2.1 95 = .ok (.return_, 1) := by decide +kernel
theorem d_Big_sum_0 : decode m_Big_sum.2.1 0 = .ok (.aload_n 2, 1) := by decide +kernel
theorem d_Big_sum_1 : decode m_Big_sum.2.1 1 = .ok (.getfield 19, 3) := by decide +kernel
theorem d_Big_sum_4 : decode m_Big_sum.2.1 4 = .ok (.iload_n 3, 1) := by decide +kernel
theorem d_Big_sum_5 : decode m_Big_sum.2.1 5 = .ok (.if_icmp .eq 7, 3) := by decide +kernel
theorem d_Big_sum_8 : decode m_Big_sum.2.1 8 = .ok (.iconst 1, 1) := by decide +kernel
theorem d_Big_sum_9 : decode m_Big_sum.2.1 9 = .ok (.goto 4, 3) := by decide +kernel
theorem d_Big_sum_12 : decode m_Big_sum.2.1 12 = .ok (.iconst 0, 1) := by decide +kernel
theorem d_Big_sum_13 : decode m_Big_sum.2.1 13 = .ok (.istore 4, 2) := by decide +kernel
theorem d_Big_sum_15 : decode m_Big_sum.2.1 15 = .ok (.aload_n 1, 1) := by decide +kernel
theorem d_Big_sum_16 : decode m_Big_sum.2.1 16 = .ok (.getfield 19, 3) := by decide +kernel
theorem d_Big_sum_19 : decode m_Big_sum.2.1 19 = .ok (.iload 4, 2) := by decide +kernel
theorem d_Big_sum_21 : decode m_Big_sum.2.1 21 = .ok (.if_icmp .ne 24, 3) := by decide +kernel
theorem d_Big_sum_24 : decode m_Big_sum.2.1 24 = .ok (.aload_n 1, 1) := by decide +kernel
theorem d_Big_sum_25 : decode m_Big_sum.2.1 25 = .ok (.getfield 19, 3) := by decide +kernel
theorem d_Big_sum_28 : decode m_Big_sum.2.1 28 = .ok (.istore 5, 2) := by decide +kernel
theorem d_Big_sum_30 : decode m_Big_sum.2.1 30 = .ok (.aload_n 0, 1) := by decide +kernel
theorem d_Big_sum_31 : decode m_Big_sum.2.1 31 = .ok (.aload_n 1, 1) := by decide +kernel
theorem d_Big_sum_32 : decode m_Big_sum.2.1 32 = .ok (.aload_n 2, 1) := by decide +kernel
theorem d_Big_sum_33 : decode m_Big_sum.2.1 33 = .ok (.invokevirtual 54, 3) := by decide +kernel
theorem d_Big_sum_36 : decode m_Big_sum.2.1 36 = .ok (.aload_n 0, 1) := by decide +kernel
theorem d_Big_sum_37 : decode m_Big_sum.2.1 37 = .ok (.iload 5, 2) := by decide +kernel
theorem d_Big_sum_39 : decode m_Big_sum.2.1 39 = .ok (.putfield 19, 3) := by decide +kernel
theorem d_Big_sum_42 : decode m_Big_sum.2.1 42 = .ok (.goto 44, 3) := by decide +kernel
theorem d_Big_sum_45 : decode m_Big_sum.2.1 45 = .ok (.aload_n 1, 1) := by decide +kernel
theorem d_Big_sum_46 : decode m_Big_sum.2.1 46 = .ok (.aload_n 2, 1) := by decide +kernel
theorem d_Big_sum_47 : decode m_Big_sum.2.1 47 = .ok (.invokestatic 44, 3) := by decide +kernel
theorem d_Big_sum_50 : decode m_Big_sum.2.1 50 = .ok (.ifCond .lt 24, 3) := by decide +kernel
theorem d_Big_sum_53 : decode m_Big_sum.2.1 53 = .ok (.aload_n 1, 1) := by decide +kernel
theorem d_Big_sum_54 : decode m_Big_sum.2.1 54 = .ok (.getfield 19, 3) := by decide +kernel
theorem d_Big_sum_57 : decode m_Big_sum.2.1 57 = .ok (.istore 5, 2) := by decide +kernel
theorem d_Big_sum_59 : decode m_Big_sum.2.1 59 = .ok (.aload_n 0, 1) := by decide +kernel
theorem d_Big_sum_60 : decode m_Big_sum.2.1 60 = .ok (.aload_n 1, 1) := by decide +kernel
theorem d_Big_sum_61 : decode m_Big_sum.2.1 61 = .ok (.aload_n 2, 1) := by decide +kernel
theorem d_Big_sum_62 : decode m_Big_sum.2.1 62 = .ok (.invokevirtual 58, 3) := by decide +kernel
theorem d_Big_sum_65 : decode m_Big_sum.2.1 65 = .ok (.aload_n 0, 1) := by decide +kernel
theorem d_Big_sum_66 : decode m_Big_sum.2.1 66 = .ok (.iload 5, 2) := by decide +kernel
theorem d_Big_sum_68 : decode m_Big_sum.2.1 68 = .ok (.putfield 19, 3) := by decide +kernel
theorem d_Big_sum_71 : decode m_Big_sum.2.1 71 = .ok (.goto 15, 3) := by decide +kernel
theorem d_Big_sum_74 : decode m_Big_sum.2.1 74 = .ok (.aload_n 0, 1) := by decide +kernel
theorem d_Big_sum_75 : decode m_Big_sum.2.1 75 = .ok (.aload_n 2, 1) := by decide +kernel
theorem d_Big_sum_76 : decode m_Big_sum.2.1 76 = .ok (.aload_n 1, 1) := by decide +kernel
theorem d_Big_sum_77 : decode m_Big_sum.2.1 77 = .ok (.invokevirtual 58, 3) := by decide +kernel
theorem d_Big_sum_80 : decode m_Big_sum.2.1 80 = .ok (.aload_n 0, 1) := by decide +kernel
theorem d_Big_sum_81 : decode m_Big_sum.2.1 81 = .ok (.iload 4, 2) := by decide +kernel
theorem d_Big_sum_83 : decode m_Big_sum.2.1 83 = .ok (.putfield 19, 3) := by decide +kernel
theorem d_Big_sum_86 : decode m_Big_sum.2.1 86 = .ok (.aload_n 0, 1) := by decide +kernel
theorem d_Big_sum_87 : decode m_Big_sum.2.1 87 = .ok (.invokevirtual 61, 3) := by decide +kernel
theorem d_Big_sum_90 : decode m_Big_sum.2.1 90 = .ok (.return_, 1) := by decide +kernel
theorem d_Big_set2_0 : decode m_Big_set2.2.1 0 = .ok (.aload_n 0, 1) := by decide +kernel
theorem d_Big_set2_1 : decode m_Big_set2.2.1 1 = .ok (.invokevirtual 23, 3) := by decide +kernel
theorem d_Big_set2_4 : decode m_Big_set2.2.1 4 = .ok (.lload_n 1, 1) := by decide +kernel
theorem d_Big_set2_5 : decode m_Big_set2.2.1 5 = .ok (.lstore_n 3, 1) := by decide +kernel
theorem d_Big_set2_6 : decode m_Big_set2.2.1 6 = .ok (.lload_n 3, 1) := by decide +kernel
theorem d_Big_set2_7 : decode m_Big_set2.2.1 7 = .ok (.lconst 0, 1) := by decide +kernel
theorem d_Big_set2_8 : decode m_Big_set2.2.1 8 = .ok (.lcmp, 1) := by decide +kernel
theorem d_Big_set2_9 : decode m_Big_set2.2.1 9 = .ok (.ifCond .le 34, 3) := by decide +kernel
theorem d_Big_set2_12 : decode m_Big_set2.2.1 12 = .ok (.aload_n 0, 1) := by decide +kernel
theorem d_Big_set2_13 : decode m_Big_set2.2.1 13 = .ok (.getfield 11, 3) := by decide +kernel
theorem d_Big_set2_16 : decode m_Big_set2.2.1 16 = .ok (.aload_n 0, 1) := by decide +kernel
theorem d_Big_set2_17 : decode m_Big_set2.2.1 17 = .ok (.dup, 1) := by decide +kernel
theorem d_Big_set2_18 : decode m_Big_set2.2.1 18 = .ok (.getfield 15, 3) := by decide +kernel
theorem d_Big_set2_21 : decode m_Big_set2.2.1 21 = .ok (.dup_x1, 1) := by decide +kernel
theorem d_Big_set2_22 : decode m_Big_set2.2.1 22 = .ok (.iconst 1, 1) := by decide +kernel
theorem d_Big_set2_23 : decode m_Big_set2.2.1 23 = .ok (.iadd, 1) := by decide +kernel
theorem d_Big_set2_24 : decode m_Big_set2.2.1 24 = .ok (.putfield 15, 3) := by decide +kernel
theorem d_Big_set2_27 : decode m_Big_set2.2.1 27 = .ok (.lload_n 3, 1) := by decide +kernel
theorem d_Big_set2_28 : decode m_Big_set2.2.1 28 = .ok (.ldc2_w 26, 3) := by decide +kernel
theorem d_Big_set2_31 : decode m_Big_set2.2.1 31 = .ok (.lrem, 1) := by decide +kernel
theorem d_Big_set2_32 : decode m_Big_set2.2.1 32 = .ok (.l2i, 1) := by decide +kernel
theorem d_Big_set2_33 : decode m_Big_set2.2.1 33 = .ok (.iastore, 1) := by decide +kernel
theorem d_Big_set2_34 : decode m_Big_set2.2.1 34 = .ok (.lload_n 3, 1) := by decide +kernel
theorem d_Big_set2_35 : decode m_Big_set2.2.1 35 = .ok (.ldc2_w 26, 3) := by decide +kernel
theorem d_Big_set2_38 : decode m_Big_set2.2.1 38 = .ok (.ldiv, 1) := by decide +kernel
theorem d_Big_set2_39 : decode m_Big_set2.2.1 39 = .ok (.lstore_n 3, 1) := by decide +kernel
theorem d_Big_set2_40 : decode m_Big_set2.2.1 40 = .ok (.goto (-34), 3) := by decide +kernel
theorem d_Big_set2_43 : decode m_Big_set2.2.1 43 = .ok (.return_, 1) := by decide +kernel
theorem d_Big_push_0 : decode m_Big_push.2.1 0 = .ok (.iload_n 1, 1) := by decide +kernel
theorem d_Big_push_1 : decode m_Big_push.2.1 1 = .ok (.i2l, 1) := by decide +kernel
theorem d_Big_push_2 : decode m_Big_push.2.1 2 = .ok (.lstore_n 2, 1) := by decide +kernel
theorem d_Big_push_3 : decode m_Big_push.2.1 3 = .ok (.iconst 0, 1) := by decide +kernel
theorem d_Big_push_4 : decode m_Big_push.2.1 4 = .ok (.istore 4, 2) := by decide +kernel
theorem d_Big_push_6 : decode m_Big_push.2.1 6 = .ok (.iload 4, 2) := by decide +kernel
theorem d_Big_push_8 : decode m_Big_push.2.1 8 = .ok (.aload_n 0, 1) := by decide +kernel
theorem d_Big_push_9 : decode m_Big_push.2.1 9 = .ok (.getfield 15, 3) := by decide +kernel
theorem d_Big_push_12 : decode m_Big_push.2.1 12 = .ok (.if_icmp .ge 46, 3) := by decide +kernel
theorem d_Big_push_15 : decode m_Big_push.2.1 15 = .ok (.aload_n 0, 1) := by decide +kernel
theorem d_Big_push_16 : decode m_Big_push.2.1 16 = .ok (.getfield 11, 3) := by decide +kernel
theorem d_Big_push_19 : decode m_Big_push.2.1 19 = .ok (.iload 4, 2) := by decide +kernel
theorem d_Big_push_21 : decode m_Big_push.2.1 21 = .ok (.iaload, 1) := by decide +kernel
theorem d_Big_push_22 : decode m_Big_push.2.1 22 = .ok (.i2l, 1) := by decide +kernel
theorem d_Big_push_23 : decode m_Big_push.2.1 23 = .ok (.ldc2_w 28, 3) := by decide +kernel
theorem d_Big_push_26 : decode m_Big_push.2.1 26 = .ok (.lmul, 1) := by decide +kernel
theorem d_Big_push_27 : decode m_Big_push.2.1 27 = .ok (.lload_n 2, 1) := by decide +kernel
theorem d_Big_push_28 : decode m_Big_push.2.1 28 = .ok (.ladd, 1) := by decide +kernel
theorem d_Big_push_29 : decode m_Big_push.2.1 29 = .ok (.lstore 5, 2) := by decide +kernel
theorem d_Big_push_31 : decode m_Big_push.2.1 31 = .ok (.aload_n 0, 1) := by decide +kernel
theorem d_Big_push_32 : decode m_Big_push.2.1 32 = .ok (.getfield 11, 3) := by decide +kernel
theorem d_Big_push_35 : decode m_Big_push.2.1 35 = .ok (.iload 4, 2) := by decide +kernel
theorem d_Big_push_37 : decode m_Big_push.2.1 37 = .ok (.lload 5, 2) := by decide +kernel
theorem d_Big_push_39 : decode m_Big_push.2.1 39 = .ok (.ldc2_w 26, 3) := by decide +kernel
theorem d_Big_push_42 : decode m_Big_push.2.1 42 = .ok (.lrem, 1) := by decide +kernel
theorem d_Big_push_43 : decode m_Big_push.2.1 43 = .ok (.l2i, 1) := by decide +kernel
theorem d_Big_push_44 : decode m_Big_push.2.1 44 = .ok (.iastore, 1) := by decide +kernel
theorem d_Big_push_45 : decode m_Big_push.2.1 45 = .ok (.lload 5, 2) := by decide +kernel
theorem d_Big_push_47 : decode m_Big_push.2.1 47 = .ok (.ldc2_w 26, 3) := by decide +kernel
theorem d_Big_push_50 : decode m_Big_push.2.1 50 = .ok (.ldiv, 1) := by decide +kernel
theorem d_Big_push_51 : decode m_Big_push.2.1 51 = .ok (.lstore_n 2, 1) := by decide +kernel
theorem d_Big_push_52 : decode m_Big_push.2.1 52 = .ok (.iinc 4 1, 3) := by decide +kernel
theorem d_Big_push_55 : decode m_Big_push.2.1 55 = .ok (.goto (-49), 3) := by decide +kernel
theorem d_Big_push_58 : decode m_Big_push.2.1 58 = .ok (.lload_n 2, 1) := by decide +kernel
theorem d_Big_push_59 : decode m_Big_push.2.1 59 = .ok (.lconst 0, 1) := by decide +kernel
theorem d_Big_push_60 : decode m_Big_push.2.1 60 = .ok (.lcmp, 1) := by decide +kernel
theorem d_Big_push_61 : decode m_Big_push.2.1 61 = .ok (.ifCond .le 21, 3) := by decide +kernel
theorem d_Big_push_64 : decode m_Big_push.2.1 64 = .ok (.aload_n 0, 1) := by decide +kernel
theorem d_Big_push_65 : decode m_Big_push.2.1 65 = .ok (.getfield 11, 3) := by decide +kernel
theorem d_Big_push_68 : decode m_Big_push.2.1 68 = .ok (.aload_n 0, 1) := by decide +kernel
theorem d_Big_push_69 : decode m_Big_push.2.1 69 = .ok (.dup, 1) := by decide +kernel
theorem d_Big_push_70 : decode m_Big_push.2.1 70 = .ok (.getfield 15, 3) := by decide +kernel
theorem d_Big_push_73 : decode m_Big_push.2.1 73 = .ok (.dup_x1, 1) := by decide +kernel
theorem d_Big_push_74 : decode m_Big_push.2.1 74 = .ok (.iconst 1, 1) := by decide +kernel
theorem d_Big_push_75 : decode m_Big_push.2.1 75 = .ok (.iadd, 1) := by decide +kernel
theorem d_Big_push_76 : decode m_Big_push.2.1 76 = .ok (.putfield 15, 3) := by decide +kernel
theorem d_Big_push_79 : decode m_Big_push.2.1 79 = .ok (.lload_n 2, 1) := by decide +kernel
theorem d_Big_push_80 : decode m_Big_push.2.1 80 = .ok (.l2i, 1) := by decide +kernel
theorem d_Big_push_81 : decode m_Big_push.2.1 81 = .ok (.iastore, 1) := by decide +kernel
theorem d_Big_push_82 : decode m_Big_push.2.1 82 = .ok (.return_, 1) := by decide +kernel
/-- one step of a subtraction: borrow c, digits u, v at place k -/
theorem sub_step {x y s k c : Nat} (h : s + lo y k = lo x k + c * B9 ^ k) (hs : s < B9 ^ k) (hc : c ≤ 1) :
    ∃ c' r, dg x k + c' * 1000000000 = r + c + dg y k ∧ r < 1000000000 ∧ c' ≤ 1 ∧ (c' = 1 ↔ dg x k < c + dg y k) ∧ (s + r * B9 ^ k) + lo y (k + 1) = lo x (k + 1) + c' * B9 ^ (k + 1) := by
  have h1 := dg_lt x k
  have h2 := dg_lt y k
  obtain ⟨c', r, e1, e2, e3, e4⟩ : ∃ c' r, dg x k + c' * 1000000000 = r + c + dg y k ∧ r < 1000000000 ∧ c' ≤ 1 ∧ (c' = 1 ↔ dg x k < c + dg y k) := by
    by_cases q : dg x k < c + dg y k
    · exact ⟨1, dg x k + 1000000000 - c - dg y k, by omega, by omega, by omega, by omega⟩
    · exact ⟨0, dg x k - c - dg y k, by omega, by omega, by omega, by omega⟩
  refine ⟨c', r, e1, e2, e3, e4, ?_⟩
  rw [lo_s, lo_s, Nat.pow_succ]
  have e5 : c' * (B9 ^ k * B9) = (c' * 1000000000) * B9 ^ k := by show c' * (B9 ^ k * 1000000000) = _; ac_rfl
  have e6 : (dg x k + c' * 1000000000) * B9 ^ k = (r + c + dg y k) * B9 ^ k := by rw [e1]
  simp only [Nat.add_mul] at e6
  rw [e5]
  omega
theorem c_Big_subtractSizes (d : Nat) {t a b n m x y : Nat} {I : M32} {L : M64} {R : MR} {T : SH} (hT : BigS R T t) (hA : BigS R T a) (hB : BigS R T b) (hV : BigN I a n x) (hU : BigN I b m y) (hxy : y ≤ x) :
    Call m_Big_subtractSizes y_Big_subtractSizes d 0 0 [.ref t, .ref a, .ref b] I L R T (rV fun I' L' R' T' => ((∃ N, BigN I' t N (x - y)) ∧ I' t 2 = I t 2 ∧ FrB t I I') ∧ L' = L ∧ R' = R ∧ T' = T) := by
  refine Call.ofRun (by decide) ⟨rfl, rfl⟩ (Nat.le_of_ble_eq_true rfl) ?_
  show Run m_Big_subtractSizes d 0 0 0 [(0, .ref t), (1, .ref a), (2, .ref b)] [] I L R T _
  generalize hQ : (rV fun I' L' R' T' => ((∃ N, BigN I' t N (x - y)) ∧ I' t 2 = I t 2 ∧ FrB t I I') ∧ L' = L ∧ R' = R ∧ T' = T) = Q
  have hn := hV.2.1
  have hm := hU.2.1
  have hx := hV.1
  have hy : y < B9 ^ n := Nat.lt_of_le_of_lt hxy hx
  have loop : ∀ (f k c s : Nat) (z e w : Int) (J : M32), n - k < f → z = k → e = c → w = n → k ≤ n → c ≤ 1 → s < B9 ^ k → s + lo y k = lo x k + c * B9 ^ k → Wr t k I J → (∀ j, j < k → J (t + 1) j = cI (dg s j)) →
      Run m_Big_subtractSizes d 0 0 11 [(5, .int (cI z)), (4, .int (cI e)), (3, .int (cI w)), (0, .ref t), (1, .ref a), (2, .ref b)] [] J L R T Q := by
    intro f
    induction f with
    | zero => intro k c s z e w J h; omega
    | succ f ih =>
      intro k c s z e w J hf hz he hw hk hc hs h1 hJ h2
      have ea : J a 1 = cI n := by rw [hJ.1 a (hA.ne hT)]; exact hV.2.2.1
      have eb : J b 1 = cI m := by rw [hJ.1 b (hB.ne hT)]; exact hU.2.2.1
      have d1 := dg_lt x k
      have d2 := dg_lt y k
      refine q_iload d_Big_subtractSizes_11 rfl ?_
      refine q_iload_n d_Big_subtractSizes_13 rfl ?_
      refine j_icmp_ge (tgt := 90) d_Big_subtractSizes_14 (by decide) (by omega) (by omega) (fun h => ?_) (fun h => ?_)
      · skip
        have hkp : k = n := by omega
        subst hkp
        rw [lo_all hx, lo_all hy] at h1
        have hc0 : c = 0 := by
          rcases Nat.eq_zero_or_pos c with q | q
          · exact q
          · have q1 : c = 1 := by omega
            subst q1
            omega
        subst hc0
        refine q_aload_n d_Big_subtractSizes_90 rfl ?_
        refine q_iload_n d_Big_subtractSizes_91 rfl ?_
        refine q_putI d_Big_subtractSizes_92 fl_Big_15 hT.1 ⟨rfl, by decide, rfl, rfl⟩ ?_
        refine q_return d_Big_subtractSizes_95 rfl ?_
        subst hQ
        have e9 : s = x - y := by omega
        subst e9
        refine ⟨rfl, ⟨⟨k, hs, by omega, ?_, fun j hj => ?_⟩, ?_, FrB.tr hJ.FrB FrB.up⟩, rfl, rfl, rfl⟩
        · rw [up2_s, hw]
        · rw [up2_a _ _ _ (by omega)]; exact h2 j hj
        · rw [up2_k _ _ _ (by decide), hJ.1 t (hT.ne hT)]
      · skip
        obtain ⟨c', r, g1, g2, g3, g5, g4⟩ := sub_step h1 hs hc
        have J50 : Run m_Big_subtractSizes d 0 0 50 [(6, .int (cI ((dg x k : Int) - (c : Int) - (dg y k : Int)))), (5, .int (cI z)), (4, .int (cI e)), (3, .int (cI w)), (0, .ref t), (1, .ref a), (2, .ref b)] [] J L R T Q := by
          have J62 : Run m_Big_subtractSizes d 0 0 62 [(4, .int (cI (c' : Int))), (6, .int (cI ((dg x k : Int) - (c : Int) - (dg y k : Int)))), (5, .int (cI z)), (3, .int (cI w)), (0, .ref t), (1, .ref a), (2, .ref b)] [] J L R T Q := by
            have J83 : Run m_Big_subtractSizes d 0 0 83 [(4, .int (cI (c' : Int))), (6, .int (cI ((dg x k : Int) - (c : Int) - (dg y k : Int)))), (5, .int (cI z)), (3, .int (cI w)), (0, .ref t), (1, .ref a), (2, .ref b)] [.int (cI (r : Int)), .int (cI z), .ref (t + 1)] J L R T Q := by
              refine j_iast (j := k) d_Big_subtractSizes_83 hT.2.2.1 hT.2.2.2 (by omega) (by omega) (by omega) ?_
              refine j_iinc (lv' := [(5, .int (cI (z + 1))), (4, .int (cI (c' : Int))), (6, .int (cI ((dg x k : Int) - (c : Int) - (dg y k : Int)))), (3, .int (cI w)), (0, .ref t), (1, .ref a), (2, .ref b)]) d_Big_subtractSizes_84 rfl (by decide) rfl ?_
              refine q_goto (tgt := 11) d_Big_subtractSizes_87 (by decide) ?_
              refine Run.lv (by simp) (ih (k + 1) c' (s + r * B9 ^ k) (z + 1) c' w _ (by omega) (by omega) rfl hw (by omega) g3 (add_lt9 hs g2) g4 (hJ.up _) (fun j hj => ?_))
              by_cases ej : j = k
              · subst ej; rw [up2_s, dg_add_hi hs g2]
              · rw [up2_k _ _ _ ej, dg_add_lo hs (by omega)]; exact h2 j (by omega)
            refine q_aload_n d_Big_subtractSizes_62 rfl ?_
            refine q_getR d_Big_subtractSizes_63 fl_Big_11 hT.1 ⟨rfl, by decide⟩ hT.2.1 ?_
            refine q_iload d_Big_subtractSizes_66 rfl ?_
            refine q_iload d_Big_subtractSizes_68 rfl ?_
            refine q_iload d_Big_subtractSizes_70 rfl ?_
            refine j_iconst d_Big_subtractSizes_72 ?_
            refine j_icmp_ne (tgt := 81) d_Big_subtractSizes_73 (by decide) (by omega) (by omega) (fun h4 => ?_) (fun h4 => ?_)
            · skip
              refine j_iconst d_Big_subtractSizes_81 ?_
              refine j_iadd d_Big_subtractSizes_82 ?_
              refine Run.top (v := .int (cI (r : Int))) (by rw [show (dg x k : Int) - (c : Int) - (dg y k : Int) + 0 = (r : Int) by omega]) ?_
              exact J83
            · skip
              refine j_ldc (z := 1000000000) d_Big_subtractSizes_76 (inT6 52 rfl) (by decide) ?_
              refine q_goto (tgt := 82) d_Big_subtractSizes_78 (by decide) ?_
              refine j_iadd d_Big_subtractSizes_82 ?_
              refine Run.top (v := .int (cI (r : Int))) (by rw [show (dg x k : Int) - (c : Int) - (dg y k : Int) + 1000000000 = (r : Int) by omega]) ?_
              exact J83
          refine q_iload d_Big_subtractSizes_50 rfl ?_
          refine j_if_ge (tgt := 59) d_Big_subtractSizes_52 (by decide) (by omega) (fun h5 => ?_) (fun h5 => ?_)
          · skip
            refine j_iconst d_Big_subtractSizes_59 ?_
            refine Run.top (v := .int (cI (c' : Int))) (by rw [show (0 : Int) = (c' : Int) by omega]) ?_
            refine q_istore (lv' := [(4, .int (cI (c' : Int))), (6, .int (cI ((dg x k : Int) - (c : Int) - (dg y k : Int)))), (5, .int (cI z)), (3, .int (cI w)), (0, .ref t), (1, .ref a), (2, .ref b)]) d_Big_subtractSizes_60 (by decide) rfl ?_
            exact J62
          · skip
            refine j_iconst d_Big_subtractSizes_55 ?_
            refine q_goto (tgt := 60) d_Big_subtractSizes_56 (by decide) ?_
            refine Run.top (v := .int (cI (c' : Int))) (by rw [show (1 : Int) = (c' : Int) by omega]) ?_
            refine q_istore (lv' := [(4, .int (cI (c' : Int))), (6, .int (cI ((dg x k : Int) - (c : Int) - (dg y k : Int)))), (5, .int (cI z)), (3, .int (cI w)), (0, .ref t), (1, .ref a), (2, .ref b)]) d_Big_subtractSizes_60 (by decide) rfl ?_
            exact J62
        have J47 : Run m_Big_subtractSizes d 0 0 47 [(5, .int (cI z)), (4, .int (cI e)), (3, .int (cI w)), (0, .ref t), (1, .ref a), (2, .ref b)] [.int (cI (dg y k : Int)), .int (cI ((dg x k : Int) - e))] J L R T Q := by
          refine j_isub d_Big_subtractSizes_47 ?_
          refine Run.top (v := .int (cI ((dg x k : Int) - (c : Int) - (dg y k : Int)))) (by rw [he]) ?_
          refine q_istore (lv' := [(6, .int (cI ((dg x k : Int) - (c : Int) - (dg y k : Int)))), (5, .int (cI z)), (4, .int (cI e)), (3, .int (cI w)), (0, .ref t), (1, .ref a), (2, .ref b)]) d_Big_subtractSizes_48 (by decide) rfl ?_
          exact J50
        refine q_aload_n d_Big_subtractSizes_17 rfl ?_
        refine q_getR d_Big_subtractSizes_18 fl_Big_11 hA.1 ⟨rfl, by decide⟩ hA.2.1 ?_
        refine q_iload d_Big_subtractSizes_21 rfl ?_
        refine j_iald (j := k) (v := (cI (dg x k : Int))) d_Big_subtractSizes_23 hA.2.2.1 hA.2.2.2 (by omega) (by omega) (by omega) (by rw [hJ.at]; exact hV.2.2.2 k (by omega)) ?_
        refine q_iload d_Big_subtractSizes_24 rfl ?_
        refine j_isub d_Big_subtractSizes_26 ?_
        refine q_iload d_Big_subtractSizes_27 rfl ?_
        refine q_aload_n d_Big_subtractSizes_29 rfl ?_
        refine j_getI (v := (cI (m : Int))) d_Big_subtractSizes_30 fl_Big_15 hB.1 ⟨rfl, by decide⟩ eb ?_
        refine j_icmp_ge (tgt := 46) d_Big_subtractSizes_33 (by decide) (by omega) (by omega) (fun h7 => ?_) (fun h7 => ?_)
        · skip
          refine j_iconst d_Big_subtractSizes_46 ?_
          refine Run.top (v := .int (cI (dg y k : Int))) (by rw [show (0 : Int) = (dg y k : Int) by rw [dg_big hU.1 (by omega)]; rfl]) ?_
          exact J47
        · skip
          refine q_aload_n d_Big_subtractSizes_36 rfl ?_
          refine q_getR d_Big_subtractSizes_37 fl_Big_11 hB.1 ⟨rfl, by decide⟩ hB.2.1 ?_
          refine q_iload d_Big_subtractSizes_40 rfl ?_
          refine j_iald (j := k) (v := (cI (dg y k : Int))) d_Big_subtractSizes_42 hB.2.2.1 hB.2.2.2 (by omega) (by omega) (by omega) (by rw [hJ.at]; exact hU.2.2.2 k (by omega)) ?_
          refine q_goto (tgt := 47) d_Big_subtractSizes_43 (by decide) ?_
          exact J47
  refine q_aload_n d_Big_subtractSizes_0 rfl ?_
  refine j_getI (v := (cI (n : Int))) d_Big_subtractSizes_1 fl_Big_15 hA.1 ⟨rfl, by decide⟩ hV.2.2.1 ?_
  refine q_istore_n (lv' := [(3, .int (cI (n : Int))), (0, .ref t), (1, .ref a), (2, .ref b)]) d_Big_subtractSizes_4 (by decide) rfl ?_
  refine j_iconst d_Big_subtractSizes_5 ?_
  refine q_istore (lv' := [(4, .int (cI 0)), (3, .int (cI (n : Int))), (0, .ref t), (1, .ref a), (2, .ref b)]) d_Big_subtractSizes_6 (by decide) rfl ?_
  refine j_iconst d_Big_subtractSizes_8 ?_
  refine q_istore (lv' := [(5, .int (cI 0)), (4, .int (cI 0)), (3, .int (cI (n : Int))), (0, .ref t), (1, .ref a), (2, .ref b)]) d_Big_subtractSizes_9 (by decide) rfl ?_
  exact loop (n + 1) 0 0 0 _ _ _ I (by omega) rfl rfl rfl (by omega) (by omega) (by simp) (by simp [lo_0]) ⟨fun _ _ => rfl, fun _ _ => rfl⟩ (fun j hj => by omega)
theorem c_Big_trim (d : Nat) {t n m : Nat} {s : Bool} {I : M32} {L : M64} {R : MR} {T : SH} (hT : BigS R T t) (hV : BigN I t n m) (hs : I t 2 = cI (if s then 1 else 0)) :
    Call m_Big_trim y_Big_trim d 0 0 [.ref t] I L R T (rV fun I' L' R' T' => (BigV I' t (if s then -(m : Int) else (m : Int)) ∧ FrB t I I') ∧ L' = L ∧ R' = R ∧ T' = T) := by
  refine Call.ofRun (by decide) ⟨rfl, rfl⟩ (Nat.le_of_ble_eq_true rfl) ?_
  show Run m_Big_trim d 0 0 0 [(0, .ref t)] [] I L R T _
  generalize hQ : (rV fun I' L' R' T' => (BigV I' t (if s then -(m : Int) else (m : Int)) ∧ FrB t I I') ∧ L' = L ∧ R' = R ∧ T' = T) = Q
  have fini : ∀ (k : Nat) (J : M32), FrB t I J → BigN J t k m → J t 2 = cI (if s then 1 else 0) → (0 < k → B9 ^ (k - 1) ≤ m) → Run m_Big_trim d 0 0 34 [(0, .ref t)] [] J L R T Q := by
    intro k J hF hN h2 hk
    have hk36 := hN.2.1
    have hs2 := b2i_in s
    refine q_aload_n d_Big_trim_34 rfl ?_
    refine q_aload_n d_Big_trim_35 rfl ?_
    refine j_getI (v := (cI (if s then 1 else 0))) d_Big_trim_36 fl_Big_19 hT.1 ⟨rfl, by decide⟩ h2 ?_
    refine j_if_eq (tgt := 53) d_Big_trim_39 (by decide) (by omega) (fun h3 => ?_) (fun h3 => ?_)
    · skip
      have e : s = false := by cases s <;> simp_all
      subst e
      refine j_iconst d_Big_trim_53 ?_
      refine q_putZ d_Big_trim_54 fl_Big_19 hT.1 ⟨rfl, by decide, rfl, rfl⟩ (Or.inl rfl) ?_
      refine q_return d_Big_trim_57 rfl ?_
      subst hQ
      refine ⟨rfl, ⟨bigV_of (s := false) (n := k) ⟨hN.1, hN.2.1, ?_, ?_, ?_⟩ hk (fun h => by cases h), FrB.tr hF FrB.up⟩, rfl, rfl, rfl⟩
      · rw [up2_k _ _ _ (by decide)]; exact hN.2.2.1
      · intro j hj; rw [up2_a _ _ _ (by omega)]; exact hN.2.2.2 j hj
      · rw [up2_s]; rfl
    · skip
      have e : s = true := by cases s <;> simp_all
      subst e
      refine q_aload_n d_Big_trim_42 rfl ?_
      refine j_getI (v := (cI (k : Int))) d_Big_trim_43 fl_Big_15 hT.1 ⟨rfl, by decide⟩ hN.2.2.1 ?_
      refine j_if_le (tgt := 53) d_Big_trim_46 (by decide) (by omega) (fun h4 => ?_) (fun h4 => ?_)
      · skip
        refine j_iconst d_Big_trim_53 ?_
        refine q_putZ d_Big_trim_54 fl_Big_19 hT.1 ⟨rfl, by decide, rfl, rfl⟩ (Or.inl rfl) ?_
        refine q_return d_Big_trim_57 rfl ?_
        subst hQ
        have e0 : k = 0 := by omega
        subst e0
        have e1 : m = 0 := by have := hN.1; simp at this; exact this
        subst e1
        refine ⟨rfl, ⟨?_, FrB.tr hF FrB.up⟩, rfl, rfl, rfl⟩
        refine bigV_0 ?_ ?_
        · rw [up2_k _ _ _ (by decide)]; exact hN.2.2.1
        · rw [up2_s]
      · skip
        refine j_iconst d_Big_trim_49 ?_
        refine q_goto (tgt := 54) d_Big_trim_50 (by decide) ?_
        refine q_putZ d_Big_trim_54 fl_Big_19 hT.1 ⟨rfl, by decide, rfl, rfl⟩ (Or.inr rfl) ?_
        refine q_return d_Big_trim_57 rfl ?_
        subst hQ
        have hp := hk (by omega)
        have hp2 := pow9_pos (k - 1)
        refine ⟨rfl, ⟨bigV_of (s := true) (n := k) ⟨hN.1, hN.2.1, ?_, ?_, ?_⟩ hk (fun _ => by omega), FrB.tr hF FrB.up⟩, rfl, rfl, rfl⟩
        · rw [up2_k _ _ _ (by decide)]; exact hN.2.2.1
        · intro j hj; rw [up2_a _ _ _ (by omega)]; exact hN.2.2.2 j hj
        · rw [up2_s]; rfl
  have loop : ∀ (k : Nat) (J : M32), FrB t I J → BigN J t k m → J t 2 = cI (if s then 1 else 0) → Run m_Big_trim d 0 0 0 [(0, .ref t)] [] J L R T Q := by
    intro k
    induction k with
    | zero =>
      intro J hF hN h2
      refine q_aload_n d_Big_trim_0 rfl ?_
      refine j_getI (v := (cI 0)) d_Big_trim_1 fl_Big_15 hT.1 ⟨rfl, by decide⟩ hN.2.2.1 ?_
      refine j_if_le (tgt := 34) d_Big_trim_4 (by decide) (by omega) (fun h3 => ?_) (fun h3 => ?_)
      · skip
        exact fini 0 J hF hN h2 (fun h => by omega)
      · skip
        omega
    | succ k ih =>
      intro J hF hN h2
      have hk36 := hN.2.1
      have d1 := dg_lt m k
      refine q_aload_n d_Big_trim_0 rfl ?_
      refine j_getI (v := (cI (((k + 1 : Nat) : Int)))) d_Big_trim_1 fl_Big_15 hT.1 ⟨rfl, by decide⟩ hN.2.2.1 ?_
      refine j_if_le (tgt := 34) d_Big_trim_4 (by decide) (by omega) (fun h3 => ?_) (fun h3 => ?_)
      · skip
        omega
      · skip
        refine q_aload_n d_Big_trim_7 rfl ?_
        refine q_getR d_Big_trim_8 fl_Big_11 hT.1 ⟨rfl, by decide⟩ hT.2.1 ?_
        refine q_aload_n d_Big_trim_11 rfl ?_
        refine j_getI (v := (cI (((k + 1 : Nat) : Int)))) d_Big_trim_12 fl_Big_15 hT.1 ⟨rfl, by decide⟩ hN.2.2.1 ?_
        refine j_iconst d_Big_trim_15 ?_
        refine j_isub d_Big_trim_16 ?_
        refine j_iald (j := ((k + 1) - 1)) (v := (cI (dg m k : Int))) d_Big_trim_17 hT.2.2.1 hT.2.2.2 (by omega) (by omega) (by omega) (hN.2.2.2 k (by omega)) ?_
        refine j_if_ne (tgt := 34) d_Big_trim_18 (by decide) (by omega) (fun h4 => ?_) (fun h4 => ?_)
        · skip
          exact fini (k + 1) J hF hN h2 (fun _ => (top_pos (n := k) hN.1 (by omega) : B9 ^ k ≤ m))
        · skip
          refine q_aload_n d_Big_trim_21 rfl ?_
          refine q_dup d_Big_trim_22 rfl ?_
          refine j_getI (v := (cI (((k + 1 : Nat) : Int)))) d_Big_trim_23 fl_Big_15 hT.1 ⟨rfl, by decide⟩ hN.2.2.1 ?_
          refine j_iconst d_Big_trim_26 ?_
          refine j_isub d_Big_trim_27 ?_
          refine q_putI d_Big_trim_28 fl_Big_15 hT.1 ⟨rfl, by decide, rfl, rfl⟩ ?_
          refine q_goto (tgt := 0) d_Big_trim_31 (by decide) ?_
          refine ih _ (FrB.tr hF FrB.up) ⟨top_zero hN.1 (by omega), by omega, ?_, ?_⟩ ?_
          · rw [up2_s, show ((k + 1 : Nat) : Int) - 1 = (k : Int) by omega]
          · intro j hj; rw [up2_a _ _ _ (by omega)]; exact hN.2.2.2 j (by omega)
          · rw [up2_k _ _ _ (by decide)]; exact h2
  exact loop n I FrB.rf hV hs
theorem n_of {m n j : Nat} (hn : 0 < n → B9 ^ (n - 1) ≤ m) (hm : m < B9 ^ j) : n ≤ j := by
  rcases Nat.lt_or_ge j n with q | q
  · have h1 := hn (by omega)
    have h2 : B9 ^ j ≤ B9 ^ (n - 1) := Nat.pow_le_pow_right (by decide) (by omega)
    omega
  · exact q
theorem b2i_eq {s t : Bool} : ((if s then (1 : Int) else 0) = (if t then 1 else 0)) ↔ s = t := by cases s <;> cases t <;> decide
/-- what 'sum' comes to -/
def sumZ (v w : Int) (minus : Bool) : Int := if minus then v - w else v + w
theorem c_Big_sum (d : Nat) {t a b : Nat} {v w : Int} {mn : Bool} {I : M32} {L : M64} {R : MR} {T : SH} (hd : 2 ≤ d) (hT : BigS R T t) (hA : BigS R T a) (hB : BigS R T b) (hV : BigV I a v) (hU : BigV I b w) (h1 : v.natAbs < B9 ^ 35) (h2 : w.natAbs < B9 ^ 35) :
    Call m_Big_sum y_Big_sum d 0 0 [.ref t, .ref a, .ref b, .int (cI (if mn then 1 else 0))] I L R T (rV fun I' L' R' T' => (BigV I' t (sumZ v w mn) ∧ FrB t I I') ∧ L' = L ∧ R' = R ∧ T' = T) := by
  refine Call.ofRun (by decide) ⟨rfl, rfl⟩ (Nat.le_of_ble_eq_true rfl) ?_
  show Run m_Big_sum d 0 0 0 [(0, .ref t), (1, .ref a), (2, .ref b), (3, .int (cI (if mn then 1 else 0)))] [] I L R T _
  generalize hQ : (rV fun I' L' R' T' => (BigV I' t (sumZ v w mn) ∧ FrB t I I') ∧ L' = L ∧ R' = R ∧ T' = T) = Q
  obtain ⟨n, hW, hN⟩ := id hV
  obtain ⟨m, hX, hM⟩ := id hU
  have hn := n_of hN h1
  have hm := n_of hM h2
  have sv := b2i_in (decide (v < 0))
  have sw := b2i_in (decide (w < 0))
  have sm := b2i_in mn
  have h86 : ∀ (J : M32) (N x : Nat) (s : Bool) (lv : List (Nat × Value)), FrB t I J → BigN J t N x → J t 2 = cI (if s then 1 else 0) → (if s then -(x : Int) else (x : Int)) = sumZ v w mn → lv.lookup 0 = some (.ref t) → Run m_Big_sum d 0 0 86 lv [] J L R T Q := by
    intro J N x s lv hF hJ hs hx hlv
    refine q_aload_n d_Big_sum_86 hlv ?_
    refine q_callV (ci := 0) (rc := 0) (rs := 0) (rest := []) d_Big_sum_87 ml_Big_61 ok_Big_trim rfl hT.1 (by decide) (c_Big_trim (d - 1) hT hJ hs) rfl rfl (by omega) (Nat.le_of_ble_eq_true rfl) (kv_V (fun J2 hJ2 => ?_)) kt_V
    refine q_return d_Big_sum_90 rfl ?_
    subst hQ
    rw [hx] at hJ2
    exact ⟨rfl, ⟨hJ2.1, FrB.tr hF hJ2.2⟩, rfl, rfl, rfl⟩
  obtain ⟨sec, hsec⟩ : ∃ sec : Bool, sec = (decide (w < 0) ^^ mn) := ⟨_, rfl⟩
  have ss := b2i_in sec
  have J15 : Run m_Big_sum d 0 0 15 [(4, .int (cI (if sec then 1 else 0))), (0, .ref t), (1, .ref a), (2, .ref b), (3, .int (cI (if mn then 1 else 0)))] [] I L R T Q := by
    refine q_aload_n d_Big_sum_15 rfl ?_
    refine j_getI (v := (cI (if decide (v < 0) then 1 else 0))) d_Big_sum_16 fl_Big_19 hA.1 ⟨rfl, by decide⟩ hW.2.2.2.2 ?_
    refine q_iload d_Big_sum_19 rfl ?_
    refine j_icmp_ne (tgt := 45) d_Big_sum_21 (by decide) (by omega) (by omega) (fun h3 => ?_) (fun h3 => ?_)
    · skip
      refine q_aload_n d_Big_sum_45 rfl ?_
      refine q_aload_n d_Big_sum_46 rfl ?_
      refine q_callS (rc := 0) (rs := 0) (rest := []) d_Big_sum_47 ml_Big_44 ok_Big_compareSizes (c_Big_compareSizes (d - 1) (by omega) hA hB hV hU) rfl rfl (by omega) (Nat.le_of_ble_eq_true rfl) (kp_I ?_) kt_I
      have hcz : inI (cmpZ (v.natAbs : Int) (w.natAbs : Int)) := by unfold cmpZ; split <;> (try split) <;> decide
      refine j_if_lt (tgt := 74) d_Big_sum_50 (by decide) (by omega) (fun h4 => ?_) (fun h4 => ?_)
      · skip
        have hlt : v.natAbs < w.natAbs := by
          unfold cmpZ at h4
          split at h4
          · omega
          · split at h4 <;> exact absurd h4 (by decide)
        refine q_aload_n d_Big_sum_74 rfl ?_
        refine q_aload_n d_Big_sum_75 rfl ?_
        refine q_aload_n d_Big_sum_76 rfl ?_
        refine q_callV (ci := 0) (rc := 0) (rs := 0) (rest := []) d_Big_sum_77 ml_Big_58 ok_Big_subtractSizes rfl hT.1 (by decide) (c_Big_subtractSizes (d - 1) hT hB hA hX.N hW.N (by omega)) rfl rfl (by omega) (Nat.le_of_ble_eq_true rfl) (kv_V (fun J1 hJ1 => ?_)) kt_V
        obtain ⟨⟨N, hN1⟩, h5, h6⟩ := hJ1
        refine q_aload_n d_Big_sum_80 rfl ?_
        refine q_iload d_Big_sum_81 rfl ?_
        refine q_putZ d_Big_sum_83 fl_Big_19 hT.1 ⟨rfl, by decide, rfl, rfl⟩ (by cases sec; exact Or.inl rfl; exact Or.inr rfl) ?_
        refine h86 _ N _ sec _ (FrB.tr h6 FrB.up) ⟨hN1.1, hN1.2.1, ?_, ?_⟩ ?_ ?_ rfl
        · rw [up2_k _ _ _ (by decide)]; exact hN1.2.2.1
        · intro j hj; rw [up2_a _ _ _ (by omega)]; exact hN1.2.2.2 j hj
        · rw [up2_s]
        · rw [b2i_eq] at h3
          rw [hsec] at h3 ⊢
          unfold sumZ
          cases mn <;> by_cases q1 : v < 0 <;> by_cases q2 : w < 0 <;> simp [q1, q2] at h3 ⊢ <;> omega
      · skip
        have hle : w.natAbs ≤ v.natAbs := by
          unfold cmpZ at h4
          split at h4
          · exact absurd h4 (by decide)
          · omega
        refine q_aload_n d_Big_sum_53 rfl ?_
        refine j_getI (v := (cI (if decide (v < 0) then 1 else 0))) d_Big_sum_54 fl_Big_19 hA.1 ⟨rfl, by decide⟩ hW.2.2.2.2 ?_
        refine q_istore (lv' := [(5, .int (cI (if decide (v < 0) then 1 else 0))), (4, .int (cI (if sec then 1 else 0))), (0, .ref t), (1, .ref a), (2, .ref b), (3, .int (cI (if mn then 1 else 0)))]) d_Big_sum_57 (by decide) rfl ?_
        refine q_aload_n d_Big_sum_59 rfl ?_
        refine q_aload_n d_Big_sum_60 rfl ?_
        refine q_aload_n d_Big_sum_61 rfl ?_
        refine q_callV (ci := 0) (rc := 0) (rs := 0) (rest := []) d_Big_sum_62 ml_Big_58 ok_Big_subtractSizes rfl hT.1 (by decide) (c_Big_subtractSizes (d - 1) hT hA hB hW.N hX.N hle) rfl rfl (by omega) (Nat.le_of_ble_eq_true rfl) (kv_V (fun J1 hJ1 => ?_)) kt_V
        obtain ⟨⟨N, hN1⟩, h5, h6⟩ := hJ1
        refine q_aload_n d_Big_sum_65 rfl ?_
        refine q_iload d_Big_sum_66 rfl ?_
        refine q_putZ d_Big_sum_68 fl_Big_19 hT.1 ⟨rfl, by decide, rfl, rfl⟩ (by cases decide (v < 0); exact Or.inl rfl; exact Or.inr rfl) ?_
        refine q_goto (tgt := 86) d_Big_sum_71 (by decide) ?_
        refine h86 _ N _ (decide (v < 0)) _ (FrB.tr h6 FrB.up) ⟨hN1.1, hN1.2.1, ?_, ?_⟩ ?_ ?_ rfl
        · rw [up2_k _ _ _ (by decide)]; exact hN1.2.2.1
        · intro j hj; rw [up2_a _ _ _ (by omega)]; exact hN1.2.2.2 j hj
        · rw [up2_s]
        · rw [b2i_eq] at h3
          rw [hsec] at h3
          unfold sumZ
          cases mn <;> by_cases q1 : v < 0 <;> by_cases q2 : w < 0 <;> simp [q1, q2] at h3 ⊢ <;> omega
    · skip
      refine q_aload_n d_Big_sum_24 rfl ?_
      refine j_getI (v := (cI (if decide (v < 0) then 1 else 0))) d_Big_sum_25 fl_Big_19 hA.1 ⟨rfl, by decide⟩ hW.2.2.2.2 ?_
      refine q_istore (lv' := [(5, .int (cI (if decide (v < 0) then 1 else 0))), (4, .int (cI (if sec then 1 else 0))), (0, .ref t), (1, .ref a), (2, .ref b), (3, .int (cI (if mn then 1 else 0)))]) d_Big_sum_28 (by decide) rfl ?_
      refine q_aload_n d_Big_sum_30 rfl ?_
      refine q_aload_n d_Big_sum_31 rfl ?_
      refine q_aload_n d_Big_sum_32 rfl ?_
      refine q_callV (ci := 0) (rc := 0) (rs := 0) (rest := []) d_Big_sum_33 ml_Big_54 ok_Big_addSizes rfl hT.1 (by decide) (c_Big_addSizes (d - 1) (by omega) hT hA hB hW.N hX.N hn hm) rfl rfl (by omega) (Nat.le_of_ble_eq_true rfl) (kv_V (fun J1 hJ1 => ?_)) kt_V
      obtain ⟨⟨N, hN1⟩, h5, h6⟩ := hJ1
      refine q_aload_n d_Big_sum_36 rfl ?_
      refine q_iload d_Big_sum_37 rfl ?_
      refine q_putZ d_Big_sum_39 fl_Big_19 hT.1 ⟨rfl, by decide, rfl, rfl⟩ (by cases decide (v < 0); exact Or.inl rfl; exact Or.inr rfl) ?_
      refine q_goto (tgt := 86) d_Big_sum_42 (by decide) ?_
      refine h86 _ N _ (decide (v < 0)) _ (FrB.tr h6 FrB.up) ⟨hN1.1, hN1.2.1, ?_, ?_⟩ ?_ ?_ rfl
      · rw [up2_k _ _ _ (by decide)]; exact hN1.2.2.1
      · intro j hj; rw [up2_a _ _ _ (by omega)]; exact hN1.2.2.2 j hj
      · rw [up2_s]
      · rw [b2i_eq] at h3
        rw [hsec] at h3
        unfold sumZ
        cases mn <;> by_cases q1 : v < 0 <;> by_cases q2 : w < 0 <;> simp [q1, q2] at h3 ⊢ <;> omega
  refine q_aload_n d_Big_sum_0 rfl ?_
  refine j_getI (v := (cI (if decide (w < 0) then 1 else 0))) d_Big_sum_1 fl_Big_19 hB.1 ⟨rfl, by decide⟩ hX.2.2.2.2 ?_
  refine q_iload_n d_Big_sum_4 rfl ?_
  refine j_icmp_eq (tgt := 12) d_Big_sum_5 (by decide) (by omega) (by omega) (fun h3 => ?_) (fun h3 => ?_)
  · skip
    refine j_iconst d_Big_sum_12 ?_
    refine Run.top (v := .int (cI (if sec then 1 else 0))) (by rw [hsec]; rw [b2i_eq] at h3; rw [h3]; simp) ?_
    refine q_istore (lv' := [(4, .int (cI (if sec then 1 else 0))), (0, .ref t), (1, .ref a), (2, .ref b), (3, .int (cI (if mn then 1 else 0)))]) d_Big_sum_13 (by decide) rfl ?_
    exact J15
  · skip
    refine j_iconst d_Big_sum_8 ?_
    refine q_goto (tgt := 13) d_Big_sum_9 (by decide) ?_
    refine Run.top (v := .int (cI (if sec then 1 else 0))) (by rw [hsec]; rw [b2i_eq] at h3; cases mn <;> simp_all) ?_
    refine q_istore (lv' := [(4, .int (cI (if sec then 1 else 0))), (0, .ref t), (1, .ref a), (2, .ref b), (3, .int (cI (if mn then 1 else 0)))]) d_Big_sum_13 (by decide) rfl ?_
    exact J15

