/-! ===== 22 BIG, the walks ===== -/
theorem d_Big_set_0 : decode m_Big_set.2.1 0 = .ok (.aload_n 0, 1) := by decide +kernel
theorem d_Big_set_1 : decode m_Big_set.2.1 1 = .ok (.aload_n 1, 1) := by decide +kernel
theorem d_Big_set_2 : decode m_Big_set.2.1 2 = .ok (.getfield 15, 3) := by decide +kernel
theorem d_Big_set_5 : decode m_Big_set.2.1 5 = .ok (.putfield 15, 3) := by decide +kernel
theorem d_Big_set_8 : decode m_Big_set.2.1 8 = .ok (.aload_n 0, 1) := by decide +kernel
theorem d_Big_set_9 : decode m_Big_set.2.1 9 = .ok (.aload_n 1, 1) := by decide +kernel
theorem d_Big_set_10 : decode m_Big_set.2.1 10 = .ok (.getfield 19, 3) := by decide +kernel
theorem d_Big_set_13 : decode m_Big_set.2.1 13 = .ok (.putfield 19, 3) := by decide +kernel
theorem d_Big_set_16 : decode m_Big_set.2.1 16 = .ok (.iconst 0, 1) := by decide +kernel
theorem d_Big_set_17 : decode m_Big_set.2.1 17 = .ok (.istore_n 2, 1) := by decide +kernel
theorem d_Big_set_18 : decode m_Big_set.2.1 18 = .ok (.iload_n 2, 1) := by decide +kernel
theorem d_Big_set_19 : decode m_Big_set.2.1 19 = .ok (.aload_n 0, 1) := by decide +kernel
theorem d_Big_set_20 : decode m_Big_set.2.1 20 = .ok (.getfield 15, 3) := by decide +kernel
theorem d_Big_set_23 : decode m_Big_set.2.1 23 = .ok (.if_icmp .ge 21, 3) := by decide +kernel
theorem d_Big_set_26 : decode m_Big_set.2.1 26 = .ok (.aload_n 0, 1) := by decide +kernel
theorem d_Big_set_27 : decode m_Big_set.2.1 27 = .ok (.getfield 11, 3) := by decide +kernel
theorem d_Big_set_30 : decode m_Big_set.2.1 30 = .ok (.iload_n 2, 1) := by decide +kernel
theorem d_Big_set_31 : decode m_Big_set.2.1 31 = .ok (.aload_n 1, 1) := by decide +kernel
theorem d_Big_set_32 : decode m_Big_set.2.1 32 = .ok (.getfield 11, 3) := by decide +kernel
theorem d_Big_set_35 : decode m_Big_set.2.1 35 = .ok (.iload_n 2, 1) := by decide +kernel
theorem d_Big_set_36 : decode m_Big_set.2.1 36 = .ok (.iaload, 1) := by decide +kernel
theorem d_Big_set_37 : decode m_Big_set.2.1 37 = .ok (.iastore, 1) := by decide +kernel
theorem d_Big_set_38 : decode m_Big_set.2.1 38 = .ok (.iinc 2 1, 3) := by decide +kernel
theorem d_Big_set_41 : decode m_Big_set.2.1 41 = .ok (.goto (-23), 3) := by decide +kernel
theorem d_Big_set_44 : decode m_Big_set.2.1 44 = .ok (.return_, 1) := by decide +kernel
theorem d_Big_isLarge_0 : decode m_Big_isLarge.2.1 0 = .ok (.aload_n 0, 1) := by decide +kernel
theorem d_Big_isLarge_1 : decode m_Big_isLarge.2.1 1 = .ok (.getfield 15, 3) := by decide +kernel
theorem d_Big_isLarge_4 : decode m_Big_isLarge.2.1 4 = .ok (.bipush 34, 2) := by decide +kernel
theorem d_Big_isLarge_6 : decode m_Big_isLarge.2.1 6 = .ok (.if_icmp .gt 25, 3) := by decide +kernel
theorem d_Big_isLarge_9 : decode m_Big_isLarge.2.1 9 = .ok (.aload_n 0, 1) := by decide +kernel
theorem d_Big_isLarge_10 : decode m_Big_isLarge.2.1 10 = .ok (.getfield 15, 3) := by decide +kernel
theorem d_Big_isLarge_13 : decode m_Big_isLarge.2.1 13 = .ok (.bipush 34, 2) := by decide +kernel
theorem d_Big_isLarge_15 : decode m_Big_isLarge.2.1 15 = .ok (.if_icmp .ne 20, 3) := by decide +kernel
theorem d_Big_isLarge_18 : decode m_Big_isLarge.2.1 18 = .ok (.aload_n 0, 1) := by decide +kernel
theorem d_Big_isLarge_19 : decode m_Big_isLarge.2.1 19 = .ok (.getfield 11, 3) := by decide +kernel
theorem d_Big_isLarge_22 : decode m_Big_isLarge.2.1 22 = .ok (.bipush 33, 2) := by decide +kernel
theorem d_Big_isLarge_24 : decode m_Big_isLarge.2.1 24 = .ok (.iaload, 1) := by decide +kernel
theorem d_Big_isLarge_25 : decode m_Big_isLarge.2.1 25 = .ok (.sipush 1000, 3) := by decide +kernel
theorem d_Big_isLarge_28 : decode m_Big_isLarge.2.1 28 = .ok (.if_icmp .lt 7, 3) := by decide +kernel
theorem d_Big_isLarge_31 : decode m_Big_isLarge.2.1 31 = .ok (.iconst 1, 1) := by decide +kernel
theorem d_Big_isLarge_32 : decode m_Big_isLarge.2.1 32 = .ok (.goto 4, 3) := by decide +kernel
theorem d_Big_isLarge_35 : decode m_Big_isLarge.2.1 35 = .ok (.iconst 0, 1) := by decide +kernel
theorem d_Big_isLarge_36 : decode m_Big_isLarge.2.1 36 = .ok (.ireturn, 1) := by decide +kernel
theorem d_Big_time_0 : decode m_Big_time.2.1 0 = .ok (.aload_n 0, 1) := by decide +kernel
theorem d_Big_time_1 : decode m_Big_time.2.1 1 = .ok (.getfield 19, 3) := by decide +kernel
theorem d_Big_time_4 : decode m_Big_time.2.1 4 = .ok (.ifCond .ne 11, 3) := by decide +kernel
theorem d_Big_time_7 : decode m_Big_time.2.1 7 = .ok (.aload_n 0, 1) := by decide +kernel
theorem d_Big_time_8 : decode m_Big_time.2.1 8 = .ok (.getfield 15, 3) := by decide +kernel
theorem d_Big_time_11 : decode m_Big_time.2.1 11 = .ok (.iconst 2, 1) := by decide +kernel
theorem d_Big_time_12 : decode m_Big_time.2.1 12 = .ok (.if_icmp .le 7, 3) := by decide +kernel
theorem d_Big_time_15 : decode m_Big_time.2.1 15 = .ok (.ldc2_w 30, 3) := by decide +kernel
theorem d_Big_time_18 : decode m_Big_time.2.1 18 = .ok (.lreturn, 1) := by decide +kernel
theorem d_Big_time_19 : decode m_Big_time.2.1 19 = .ok (.aload_n 0, 1) := by decide +kernel
theorem d_Big_time_20 : decode m_Big_time.2.1 20 = .ok (.getfield 15, 3) := by decide +kernel
theorem d_Big_time_23 : decode m_Big_time.2.1 23 = .ok (.ifCond .le 13, 3) := by decide +kernel
theorem d_Big_time_26 : decode m_Big_time.2.1 26 = .ok (.aload_n 0, 1) := by decide +kernel
theorem d_Big_time_27 : decode m_Big_time.2.1 27 = .ok (.getfield 11, 3) := by decide +kernel
theorem d_Big_time_30 : decode m_Big_time.2.1 30 = .ok (.iconst 0, 1) := by decide +kernel
theorem d_Big_time_31 : decode m_Big_time.2.1 31 = .ok (.iaload, 1) := by decide +kernel
theorem d_Big_time_32 : decode m_Big_time.2.1 32 = .ok (.i2l, 1) := by decide +kernel
theorem d_Big_time_33 : decode m_Big_time.2.1 33 = .ok (.goto 4, 3) := by decide +kernel
theorem d_Big_time_36 : decode m_Big_time.2.1 36 = .ok (.lconst 0, 1) := by decide +kernel
theorem d_Big_time_37 : decode m_Big_time.2.1 37 = .ok (.lstore_n 1, 1) := by decide +kernel
theorem d_Big_time_38 : decode m_Big_time.2.1 38 = .ok (.lload_n 1, 1) := by decide +kernel
theorem d_Big_time_39 : decode m_Big_time.2.1 39 = .ok (.aload_n 0, 1) := by decide +kernel
theorem d_Big_time_40 : decode m_Big_time.2.1 40 = .ok (.getfield 15, 3) := by decide +kernel
theorem d_Big_time_43 : decode m_Big_time.2.1 43 = .ok (.iconst 1, 1) := by decide +kernel
theorem d_Big_time_44 : decode m_Big_time.2.1 44 = .ok (.if_icmp .le 17, 3) := by decide +kernel
theorem d_Big_time_47 : decode m_Big_time.2.1 47 = .ok (.ldc2_w 26, 3) := by decide +kernel
theorem d_Big_time_50 : decode m_Big_time.2.1 50 = .ok (.aload_n 0, 1) := by decide +kernel
theorem d_Big_time_51 : decode m_Big_time.2.1 51 = .ok (.getfield 11, 3) := by decide +kernel
theorem d_Big_time_54 : decode m_Big_time.2.1 54 = .ok (.iconst 1, 1) := by decide +kernel
theorem d_Big_time_55 : decode m_Big_time.2.1 55 = .ok (.iaload, 1) := by decide +kernel
theorem d_Big_time_56 : decode m_Big_time.2.1 56 = .ok (.i2l, 1) := by decide +kernel
theorem d_Big_time_57 : decode m_Big_time.2.1 57 = .ok (.lmul, 1) := by decide +kernel
theorem d_Big_time_58 : decode m_Big_time.2.1 58 = .ok (.goto 4, 3) := by decide +kernel
theorem d_Big_time_61 : decode m_Big_time.2.1 61 = .ok (.lconst 0, 1) := by decide +kernel
theorem d_Big_time_62 : decode m_Big_time.2.1 62 = .ok (.ladd, 1) := by decide +kernel
theorem d_Big_time_63 : decode m_Big_time.2.1 63 = .ok (.lstore_n 1, 1) := by decide +kernel
theorem d_Big_time_64 : decode m_Big_time.2.1 64 = .ok (.lload_n 1, 1) := by decide +kernel
theorem d_Big_time_65 : decode m_Big_time.2.1 65 = .ok (.ldc2_w 32, 3) := by decide +kernel
theorem d_Big_time_68 : decode m_Big_time.2.1 68 = .ok (.lcmp, 1) := by decide +kernel
theorem d_Big_time_69 : decode m_Big_time.2.1 69 = .ok (.ifCond .gt 7, 3) := by decide +kernel
theorem d_Big_time_72 : decode m_Big_time.2.1 72 = .ok (.lload_n 1, 1) := by decide +kernel
theorem d_Big_time_73 : decode m_Big_time.2.1 73 = .ok (.goto 6, 3) := by decide +kernel
theorem d_Big_time_76 : decode m_Big_time.2.1 76 = .ok (.ldc2_w 30, 3) := by decide +kernel
theorem d_Big_time_79 : decode m_Big_time.2.1 79 = .ok (.lreturn, 1) := by decide +kernel
theorem d_Big_compareSizes_0 : decode m_Big_compareSizes.2.1 0 = .ok (.aload_n 0, 1) := by decide +kernel
theorem d_Big_compareSizes_1 : decode m_Big_compareSizes.2.1 1 = .ok (.getfield 15, 3) := by decide +kernel
theorem d_Big_compareSizes_4 : decode m_Big_compareSizes.2.1 4 = .ok (.aload_n 1, 1) := by decide +kernel
theorem d_Big_compareSizes_5 : decode m_Big_compareSizes.2.1 5 = .ok (.getfield 15, 3) := by decide +kernel
theorem d_Big_compareSizes_8 : decode m_Big_compareSizes.2.1 8 = .ok (.invokestatic 34, 3) := by decide +kernel
theorem d_Big_compareSizes_11 : decode m_Big_compareSizes.2.1 11 = .ok (.istore_n 2, 1) := by decide +kernel
theorem d_Big_compareSizes_12 : decode m_Big_compareSizes.2.1 12 = .ok (.aload_n 0, 1) := by decide +kernel
theorem d_Big_compareSizes_13 : decode m_Big_compareSizes.2.1 13 = .ok (.getfield 15, 3) := by decide +kernel
theorem d_Big_compareSizes_16 : decode m_Big_compareSizes.2.1 16 = .ok (.iconst 1, 1) := by decide +kernel
theorem d_Big_compareSizes_17 : decode m_Big_compareSizes.2.1 17 = .ok (.isub, 1) := by decide +kernel
theorem d_Big_compareSizes_18 : decode m_Big_compareSizes.2.1 18 = .ok (.istore_n 3, 1) := by decide +kernel
theorem d_Big_compareSizes_19 : decode m_Big_compareSizes.2.1 19 = .ok (.iload_n 3, 1) := by decide +kernel
theorem d_Big_compareSizes_20 : decode m_Big_compareSizes.2.1 20 = .ok (.ifCond .lt 29, 3) := by decide +kernel
theorem d_Big_compareSizes_23 : decode m_Big_compareSizes.2.1 23 = .ok (.iload_n 2, 1) := by decide +kernel
theorem d_Big_compareSizes_24 : decode m_Big_compareSizes.2.1 24 = .ok (.ifCond .ne 25, 3) := by decide +kernel
theorem d_Big_compareSizes_27 : decode m_Big_compareSizes.2.1 27 = .ok (.aload_n 0, 1) := by decide +kernel
theorem d_Big_compareSizes_28 : decode m_Big_compareSizes.2.1 28 = .ok (.getfield 11, 3) := by decide +kernel
theorem d_Big_compareSizes_31 : decode m_Big_compareSizes.2.1 31 = .ok (.iload_n 3, 1) := by decide +kernel
theorem d_Big_compareSizes_32 : decode m_Big_compareSizes.2.1 32 = .ok (.iaload, 1) := by decide +kernel
theorem d_Big_compareSizes_33 : decode m_Big_compareSizes.2.1 33 = .ok (.aload_n 1, 1) := by decide +kernel
theorem d_Big_compareSizes_34 : decode m_Big_compareSizes.2.1 34 = .ok (.getfield 11, 3) := by decide +kernel
theorem d_Big_compareSizes_37 : decode m_Big_compareSizes.2.1 37 = .ok (.iload_n 3, 1) := by decide +kernel
theorem d_Big_compareSizes_38 : decode m_Big_compareSizes.2.1 38 = .ok (.iaload, 1) := by decide +kernel
theorem d_Big_compareSizes_39 : decode m_Big_compareSizes.2.1 39 = .ok (.invokestatic 34, 3) := by decide +kernel
theorem d_Big_compareSizes_42 : decode m_Big_compareSizes.2.1 42 = .ok (.istore_n 2, 1) := by decide +kernel
theorem d_Big_compareSizes_43 : decode m_Big_compareSizes.2.1 43 = .ok (.iinc 3 (-1), 3) := by decide +kernel
theorem d_Big_compareSizes_46 : decode m_Big_compareSizes.2.1 46 = .ok (.goto (-27), 3) := by decide +kernel
theorem d_Big_compareSizes_49 : decode m_Big_compareSizes.2.1 49 = .ok (.iload_n 2, 1) := by decide +kernel
theorem d_Big_compareSizes_50 : decode m_Big_compareSizes.2.1 50 = .ok (.ireturn, 1) := by decide +kernel
theorem d_Big_compare_0 : decode m_Big_compare.2.1 0 = .ok (.aload_n 0, 1) := by decide +kernel
theorem d_Big_compare_1 : decode m_Big_compare.2.1 1 = .ok (.invokevirtual 40, 3) := by decide +kernel
theorem d_Big_compare_4 : decode m_Big_compare.2.1 4 = .ok (.aload_n 1, 1) := by decide +kernel
theorem d_Big_compare_5 : decode m_Big_compare.2.1 5 = .ok (.invokevirtual 40, 3) := by decide +kernel
theorem d_Big_compare_8 : decode m_Big_compare.2.1 8 = .ok (.if_icmp .eq 15, 3) := by decide +kernel
theorem d_Big_compare_11 : decode m_Big_compare.2.1 11 = .ok (.aload_n 0, 1) := by decide +kernel
theorem d_Big_compare_12 : decode m_Big_compare.2.1 12 = .ok (.invokevirtual 40, 3) := by decide +kernel
theorem d_Big_compare_15 : decode m_Big_compare.2.1 15 = .ok (.aload_n 1, 1) := by decide +kernel
theorem d_Big_compare_16 : decode m_Big_compare.2.1 16 = .ok (.invokevirtual 40, 3) := by decide +kernel
theorem d_Big_compare_19 : decode m_Big_compare.2.1 19 = .ok (.invokestatic 34, 3) := by decide +kernel
theorem d_Big_compare_22 : decode m_Big_compare.2.1 22 = .ok (.ireturn, 1) := by decide +kernel
theorem d_Big_compare_23 : decode m_Big_compare.2.1 23 = .ok (.aload_n 0, 1) := by decide +kernel
theorem d_Big_compare_24 : decode m_Big_compare.2.1 24 = .ok (.aload_n 1, 1) := by decide +kernel
theorem d_Big_compare_25 : decode m_Big_compare.2.1 25 = .ok (.invokestatic 44, 3) := by decide +kernel
theorem d_Big_compare_28 : decode m_Big_compare.2.1 28 = .ok (.istore_n 2, 1) := by decide +kernel
theorem d_Big_compare_29 : decode m_Big_compare.2.1 29 = .ok (.aload_n 0, 1) := by decide +kernel
theorem d_Big_compare_30 : decode m_Big_compare.2.1 30 = .ok (.getfield 19, 3) := by decide +kernel
theorem d_Big_compare_33 : decode m_Big_compare.2.1 33 = .ok (.ifCond .eq 8, 3) := by decide +kernel
theorem d_Big_compare_36 : decode m_Big_compare.2.1 36 = .ok (.iload_n 2, 1) := by decide +kernel
theorem d_Big_compare_37 : decode m_Big_compare.2.1 37 = .ok (.ineg, 1) := by decide +kernel
theorem d_Big_compare_38 : decode m_Big_compare.2.1 38 = .ok (.goto 4, 3) := by decide +kernel
theorem d_Big_compare_41 : decode m_Big_compare.2.1 41 = .ok (.iload_n 2, 1) := by decide +kernel
theorem d_Big_compare_42 : decode m_Big_compare.2.1 42 = .ok (.ireturn, 1) := by decide +kernel
theorem d_Big_trim_0 : decode m_Big_trim.2.1 0 = .ok (.aload_n 0, 1) := by decide +kernel
theorem d_Big_trim_1 : decode m_Big_trim.2.1 1 = .ok (.getfield 15, 3) := by decide +kernel
theorem d_Big_trim_4 : decode m_Big_trim.2.1 4 = .ok (.ifCond .le 30, 3) := by decide +kernel
theorem d_Big_trim_7 : decode m_Big_trim.2.1 7 = .ok (.aload_n 0, 1) := by decide +kernel
theorem d_Big_trim_8 : decode m_Big_trim.2.1 8 = .ok (.getfield 11, 3) := by decide +kernel
theorem d_Big_trim_11 : decode m_Big_trim.2.1 11 = .ok (.aload_n 0, 1) := by decide +kernel
theorem d_Big_trim_12 : decode m_Big_trim.2.1 12 = .ok (.getfield 15, 3) := by decide +kernel
theorem d_Big_trim_15 : decode m_Big_trim.2.1 15 = .ok (.iconst 1, 1) := by decide +kernel
theorem d_Big_trim_16 : decode m_Big_trim.2.1 16 = .ok (.isub, 1) := by decide +kernel
theorem d_Big_trim_17 : decode m_Big_trim.2.1 17 = .ok (.iaload, 1) := by decide +kernel
theorem d_Big_trim_18 : decode m_Big_trim.2.1 18 = .ok (.ifCond .ne 16, 3) := by decide +kernel
theorem d_Big_trim_21 : decode m_Big_trim.2.1 21 = .ok (.aload_n 0, 1) := by decide +kernel
theorem d_Big_trim_22 : decode m_Big_trim.2.1 22 = .ok (.dup, 1) := by decide +kernel
theorem d_Big_trim_23 : decode m_Big_trim.2.1 23 = .ok (.getfield 15, 3) := by decide +kernel
theorem d_Big_trim_26 : decode m_Big_trim.2.1 26 = .ok (.iconst 1, 1) := by decide +kernel
theorem d_Big_trim_27 : decode m_Big_trim.2.1 27 = .ok (.isub, 1) := by decide +kernel
theorem d_Big_trim_28 : decode m_Big_trim.2.1 28 = .ok (.putfield 15, 3) := by decide +kernel
theorem d_Big_trim_31 : decode m_Big_trim.2.1 31 = .ok (.goto (-31), 3) := by decide +kernel
theorem d_Big_trim_34 : decode m_Big_trim.2.1 34 = .ok (.aload_n 0, 1) := by decide +kernel
theorem d_Big_trim_35 : decode m_Big_trim.2.1 35 = .ok (.aload_n 0, 1) := by decide +kernel
theorem d_Big_trim_36 : decode m_Big_trim.2.1 36 = .ok (.getfield 19, 3) := by decide +kernel
theorem d_Big_trim_39 : decode m_Big_trim.2.1 39 = .ok (.ifCond .eq 14, 3) := by decide +kernel
theorem d_Big_trim_42 : decode m_Big_trim.2.1 42 = .ok (.aload_n 0, 1) := by decide +kernel
theorem d_Big_trim_43 : decode m_Big_trim.2.1 43 = .ok (.getfield 15, 3) := by decide +kernel
theorem d_Big_trim_46 : decode m_Big_trim.2.1 46 = .ok (.ifCond .le 7, 3) := by decide +kernel
theorem d_Big_trim_49 : decode m_Big_trim.2.1 49 = .ok (.iconst 1, 1) := by decide +kernel
theorem d_Big_trim_50 : decode m_Big_trim.2.1 50 = .ok (.goto 4, 3) := by decide +kernel
theorem d_Big_trim_53 : decode m_Big_trim.2.1 53 = .ok (.iconst 0, 1) := by decide +kernel
theorem d_Big_trim_54 : decode m_Big_trim.2.1 54 = .ok (.putfield 19, 3) := by decide +kernel
theorem d_Big_trim_57 : decode m_Big_trim.2.1 57 = .ok (.return_, 1) := by decide +kernel
theorem c_Big_set (d : Nat) {a b : Nat} {v : Int} {I : M32} {L : M64} {R : MR} {T : SH} (hA : BigS R T a) (hB : BigS R T b) (hab : a ≠ b) (hV : BigV I b v) : Call m_Big_set y_Big_set d 0 0 [.ref a, .ref b] I L R T (rV fun I' L' R' T' => (BigV I' a v ∧ FrB a I I') ∧ L' = L ∧ R' = R ∧ T' = T) := by
  obtain ⟨n, hW, hN⟩ := hV
  obtain ⟨q1, q2, q3, q4⟩ := hA.apart hB hab
  have hn := hW.2.1
  have hs := b2i_in (decide (v < 0))
  refine Call.ofRun (by decide) ⟨rfl, rfl⟩ (Nat.le_of_ble_eq_true rfl) ?_
  show Run m_Big_set d 0 0 0 [(0, .ref a), (1, .ref b)] [] I L R T _
  have loop : ∀ (f k : Nat) (z : Int) (J : M32), n - k < f → z = k → k ≤ n → FrB a I J → J a 1 = cI n → J a 2 = cI (if decide (v < 0) then 1 else 0) → (∀ j, j < k → J (a + 1) j = cI (dg v.natAbs j)) →
      Run m_Big_set d 0 0 18 [(2, .int (cI z)), (0, .ref a), (1, .ref b)] [] J L R T (rV fun I' L' R' T' => (BigV I' a v ∧ FrB a I I') ∧ L' = L ∧ R' = R ∧ T' = T) := by
    intro f
    induction f with
    | zero => intro k z J h; omega
    | succ f ih =>
      intro k z J hf hz hk hF h1 h2 h3
      have hb : ∀ j, j < n → J (b + 1) j = cI (dg v.natAbs j) := fun j hj => by rw [hF (b + 1) q3 q4]; exact hW.2.2.2.1 j hj
      refine q_iload_n d_Big_set_18 rfl ?_
      refine q_aload_n d_Big_set_19 rfl ?_
      refine j_getI (v := (cI (n : Int))) d_Big_set_20 fl_Big_15 hA.1 ⟨rfl, by decide⟩ h1 ?_
      refine j_icmp_ge (tgt := 44) d_Big_set_23 (by decide) (by omega) (by omega) (fun h => ?_) (fun h => ?_)
      · skip
        refine q_return d_Big_set_44 rfl ?_
        have e : k = n := by omega
        subst e
        exact ⟨rfl, ⟨⟨k, ⟨hW.1, hW.2.1, h1, h3, h2⟩, hN⟩, hF⟩, rfl, rfl, rfl⟩
      · skip
        refine q_aload_n d_Big_set_26 rfl ?_
        refine q_getR d_Big_set_27 fl_Big_11 hA.1 ⟨rfl, by decide⟩ hA.2.1 ?_
        refine q_iload_n d_Big_set_30 rfl ?_
        refine q_aload_n d_Big_set_31 rfl ?_
        refine q_getR d_Big_set_32 fl_Big_11 hB.1 ⟨rfl, by decide⟩ hB.2.1 ?_
        refine q_iload_n d_Big_set_35 rfl ?_
        refine j_iald (j := k) (v := (cI (dg v.natAbs k : Int))) d_Big_set_36 hB.2.2.1 hB.2.2.2 (by omega) (by omega) (by omega) (hb k (by omega)) ?_
        refine j_iast (j := k) d_Big_set_37 hA.2.2.1 hA.2.2.2 (by omega) (by omega) (by omega) ?_
        refine j_iinc (lv' := [(2, .int (cI (z + 1))), (0, .ref a), (1, .ref b)]) d_Big_set_38 rfl (by decide) rfl ?_
        refine q_goto (tgt := 18) d_Big_set_41 (by decide) ?_
        refine ih (k + 1) _ _ (by omega) (by omega) (by omega) (hF.tr FrB.upP) ?_ ?_ ?_
        · rw [up2_a _ _ _ (by omega)]; exact h1
        · rw [up2_a _ _ _ (by omega)]; exact h2
        · intro j hj
          by_cases e : j = k
          · subst e; rw [up2_s]
          · rw [up2_k _ _ _ e]; exact h3 j (by omega)
  refine q_aload_n d_Big_set_0 rfl ?_
  refine q_aload_n d_Big_set_1 rfl ?_
  refine j_getI (v := (cI (n : Int))) d_Big_set_2 fl_Big_15 hB.1 ⟨rfl, by decide⟩ hW.2.2.1 ?_
  refine q_putI d_Big_set_5 fl_Big_15 hA.1 ⟨rfl, by decide, rfl, rfl⟩ ?_
  refine q_aload_n d_Big_set_8 rfl ?_
  refine q_aload_n d_Big_set_9 rfl ?_
  refine j_getI (v := (cI (if decide (v < 0) then 1 else 0))) d_Big_set_10 fl_Big_19 hB.1 ⟨rfl, by decide⟩ (by rw [up2_a _ _ _ q1]; exact hW.2.2.2.2) ?_
  refine q_putZ d_Big_set_13 fl_Big_19 hA.1 ⟨rfl, by decide, rfl, rfl⟩ (by cases decide (v < 0); exact Or.inl rfl; exact Or.inr rfl) ?_
  refine j_iconst d_Big_set_16 ?_
  refine q_istore_n (lv' := [(2, .int (cI 0)), (0, .ref a), (1, .ref b)]) d_Big_set_17 (by decide) rfl ?_
  refine loop (n + 1) 0 0 _ (by omega) rfl (by omega) (FrB.up.tr FrB.up) ?_ ?_ (fun j hj => by omega)
  · rw [up2_k _ _ _ (by decide), up2_s]
  · rw [up2_s]
theorem pow_facts : B9 ^ 34 = 1000000 * (B9 ^ 33 * 1000) ∧ B9 ^ 33 * 1000 = 10 ^ 300 := by decide +kernel
theorem large_iff {m n : Nat} (h : m < B9 ^ n) (hn : 0 < n → B9 ^ (n - 1) ≤ m) : (34 < n ∨ n = 34 ∧ 1000 ≤ dg m 33) ↔ 10 ^ 300 ≤ m := by
  obtain ⟨p1, p2⟩ := pow_facts
  constructor
  · rintro (h1 | ⟨rfl, h1⟩)
    · have h2 := hn (by omega)
      have h3 : B9 ^ 34 ≤ B9 ^ (n - 1) := Nat.pow_le_pow_right (by decide) (by omega)
      omega
    · have h2 := lo_s m 33
      rw [lo_all h] at h2
      have h3 : 1000 * B9 ^ 33 ≤ dg m 33 * B9 ^ 33 := Nat.mul_le_mul_right _ h1
      omega
  · intro h1
    rcases Nat.lt_trichotomy n 34 with h2 | h2 | h2
    · have h3 : B9 ^ n ≤ B9 ^ 33 := Nat.pow_le_pow_right (by decide) (by omega)
      omega
    · right
      refine ⟨h2, ?_⟩
      subst h2
      have h2 := lo_s m 33
      rw [lo_all h] at h2
      have h4 := lo_lt m 33
      rcases Nat.lt_or_ge (dg m 33) 1000 with q | q
      · have h3 : (dg m 33 + 1) * B9 ^ 33 ≤ 1000 * B9 ^ 33 := Nat.mul_le_mul_right _ q
        rw [Nat.add_mul, Nat.one_mul] at h3
        omega
      · exact q
    · exact Or.inl h2
theorem c_Big_isLarge (d : Nat) {a : Nat} {v : Int} {I : M32} {L : M64} {R : MR} {T : SH} (hA : BigS R T a) (hV : BigV I a v) : Call m_Big_isLarge y_Big_isLarge d 0 0 [.ref a] I L R T (rI fun r I' L' R' T' => r = cI (if 10 ^ 300 ≤ v.natAbs then 1 else 0) ∧ I' = I ∧ L' = L ∧ R' = R ∧ T' = T) := by
  obtain ⟨n, hW, hN⟩ := hV
  have hn := hW.2.1
  have hl := large_iff hW.1 hN
  have hd := dg_lt v.natAbs 33
  refine Call.ofRun (by decide) ⟨rfl, rfl⟩ (Nat.le_of_ble_eq_true rfl) ?_
  show Run m_Big_isLarge d 0 0 0 [(0, .ref a)] [] I L R T _
  refine q_aload_n d_Big_isLarge_0 rfl ?_
  refine j_getI (v := (cI (n : Int))) d_Big_isLarge_1 fl_Big_15 hA.1 ⟨rfl, by decide⟩ hW.2.2.1 ?_
  refine j_bipush d_Big_isLarge_4 (by decide) ?_
  refine j_icmp_gt (tgt := 31) d_Big_isLarge_6 (by decide) (by omega) (by omega) (fun h1 => ?_) (fun h1 => ?_)
  · skip
    refine j_iconst d_Big_isLarge_31 ?_
    refine q_goto (tgt := 36) d_Big_isLarge_32 (by decide) ?_
    refine q_ireturn d_Big_isLarge_36 rfl (narrow_z (Or.inr rfl)).1 ?_
    exact ⟨_, rfl, by rw [if_pos (hl.mp (by omega))], rfl, rfl, rfl, rfl⟩
  · skip
    refine q_aload_n d_Big_isLarge_9 rfl ?_
    refine j_getI (v := (cI (n : Int))) d_Big_isLarge_10 fl_Big_15 hA.1 ⟨rfl, by decide⟩ hW.2.2.1 ?_
    refine j_bipush d_Big_isLarge_13 (by decide) ?_
    refine j_icmp_ne (tgt := 35) d_Big_isLarge_15 (by decide) (by omega) (by omega) (fun h2 => ?_) (fun h2 => ?_)
    · skip
      refine j_iconst d_Big_isLarge_35 ?_
      refine q_ireturn d_Big_isLarge_36 rfl (narrow_z (Or.inl rfl)).1 ?_
      exact ⟨_, rfl, by rw [if_neg (fun q => by have := hl.mpr q; omega)], rfl, rfl, rfl, rfl⟩
    · skip
      refine q_aload_n d_Big_isLarge_18 rfl ?_
      refine q_getR d_Big_isLarge_19 fl_Big_11 hA.1 ⟨rfl, by decide⟩ hA.2.1 ?_
      refine j_bipush d_Big_isLarge_22 (by decide) ?_
      refine j_iald (j := 33) (v := (cI (dg v.natAbs 33 : Int))) d_Big_isLarge_24 hA.2.2.1 hA.2.2.2 (by omega) (by omega) (by omega) (hW.2.2.2.1 33 (by omega)) ?_
      refine j_sipush d_Big_isLarge_25 (by decide) ?_
      refine j_icmp_lt (tgt := 35) d_Big_isLarge_28 (by decide) (by omega) (by omega) (fun h3 => ?_) (fun h3 => ?_)
      · skip
        refine j_iconst d_Big_isLarge_35 ?_
        refine q_ireturn d_Big_isLarge_36 rfl (narrow_z (Or.inl rfl)).1 ?_
        exact ⟨_, rfl, by rw [if_neg (fun q => by have := hl.mpr q; omega)], rfl, rfl, rfl, rfl⟩
      · skip
        refine j_iconst d_Big_isLarge_31 ?_
        refine q_goto (tgt := 36) d_Big_isLarge_32 (by decide) ?_
        refine q_ireturn d_Big_isLarge_36 rfl (narrow_z (Or.inr rfl)).1 ?_
        exact ⟨_, rfl, by rw [if_pos (hl.mp (by omega))], rfl, rfl, rfl, rfl⟩
theorem c_Big_compareSizes (d : Nat) {a b : Nat} {v w : Int} {I : M32} {L : M64} {R : MR} {T : SH} (hd : 1 ≤ d) (hA : BigS R T a) (hB : BigS R T b) (hV : BigV I a v) (hU : BigV I b w) : Call m_Big_compareSizes y_Big_compareSizes d 0 0 [.ref a, .ref b] I L R T (rI fun r I' L' R' T' => r = cI (cmpZ v.natAbs w.natAbs) ∧ I' = I ∧ L' = L ∧ R' = R ∧ T' = T) := by
  obtain ⟨n, hW, hN⟩ := hV
  obtain ⟨m, hX, hM⟩ := hU
  have hn := hW.2.1
  have hm := hX.2.1
  generalize v.natAbs = x at *
  generalize w.natAbs = y at *
  refine Call.ofRun (by decide) ⟨rfl, rfl⟩ (Nat.le_of_ble_eq_true rfl) ?_
  show Run m_Big_compareSizes d 0 0 0 [(0, .ref a), (1, .ref b)] [] I L R T _
  have loop : ∀ (k : Nat) (z c : Int), z = (k : Int) - 1 → inI c → (c = 0 → n = m ∧ k ≤ n ∧ x / B9 ^ k = y / B9 ^ k) → (c ≠ 0 → c = cmpZ x y) → k ≤ 36 →
      Run m_Big_compareSizes d 0 0 19 [(3, .int (cI z)), (2, .int (cI c)), (0, .ref a), (1, .ref b)] [] I L R T (rI fun r I' L' R' T' => r = cI (cmpZ x y) ∧ I' = I ∧ L' = L ∧ R' = R ∧ T' = T) := by
    intro k
    induction k with
    | zero =>
      intro z c hz hc h0 h1 hk
      refine q_iload_n d_Big_compareSizes_19 rfl ?_
      refine j_if_lt (tgt := 49) d_Big_compareSizes_20 (by decide) (by omega) (fun h => ?_) (fun h => ?_)
      · skip
        refine q_iload_n d_Big_compareSizes_49 rfl ?_
        refine q_ireturn d_Big_compareSizes_50 rfl rfl ?_
        refine ⟨_, rfl, ?_, rfl, rfl, rfl, rfl⟩
        by_cases e : c = 0
        · have h2 := (h0 e).2.2
          simp at h2
          rw [e, cmpZ, if_neg (by omega), if_pos (by omega)]
        · rw [h1 e]
      · skip
        omega
    | succ k ih =>
      intro z c hz hc h0 h1 hk
      refine q_iload_n d_Big_compareSizes_19 rfl ?_
      refine j_if_lt (tgt := 49) d_Big_compareSizes_20 (by decide) (by omega) (fun h => ?_) (fun h => ?_)
      · skip
        omega
      · skip
        refine q_iload_n d_Big_compareSizes_23 rfl ?_
        refine j_if_ne (tgt := 49) d_Big_compareSizes_24 (by decide) (by omega) (fun h2 => ?_) (fun h2 => ?_)
        · skip
          refine q_iload_n d_Big_compareSizes_49 rfl ?_
          refine q_ireturn d_Big_compareSizes_50 rfl rfl ?_
          exact ⟨_, rfl, by rw [h1 h2], rfl, rfl, rfl, rfl⟩
        · skip
          obtain ⟨e1, e2, e3⟩ := h0 h2
          have d1 := dg_lt x k
          have d2 := dg_lt y k
          refine q_aload_n d_Big_compareSizes_27 rfl ?_
          refine q_getR d_Big_compareSizes_28 fl_Big_11 hA.1 ⟨rfl, by decide⟩ hA.2.1 ?_
          refine q_iload_n d_Big_compareSizes_31 rfl ?_
          refine j_iald (j := k) (v := (cI (dg x k : Int))) d_Big_compareSizes_32 hA.2.2.1 hA.2.2.2 (by omega) (by omega) (by omega) (hW.2.2.2.1 k (by omega)) ?_
          refine q_aload_n d_Big_compareSizes_33 rfl ?_
          refine q_getR d_Big_compareSizes_34 fl_Big_11 hB.1 ⟨rfl, by decide⟩ hB.2.1 ?_
          refine q_iload_n d_Big_compareSizes_37 rfl ?_
          refine j_iald (j := k) (v := (cI (dg y k : Int))) d_Big_compareSizes_38 hB.2.2.1 hB.2.2.2 (by omega) (by omega) (by omega) (hX.2.2.2.1 k (by omega)) ?_
          refine q_callS (rc := 0) (rs := 0) (rest := []) d_Big_compareSizes_39 ml_Big_34 ok_Integer_compare (c_Integer_compare (d - 1) (x := (dg x k : Int)) (y := (dg y k : Int)) (by omega) (by omega)) rfl rfl (by omega) (Nat.le_of_ble_eq_true rfl) (kp_I ?_) kt_I
          refine q_istore_n (lv' := [(2, .int (cI (cmpZ (dg x k : Int) (dg y k : Int)))), (3, .int (cI z)), (0, .ref a), (1, .ref b)]) d_Big_compareSizes_42 (by decide) rfl ?_
          refine j_iinc (lv' := [(3, .int (cI (z + (-1)))), (2, .int (cI (cmpZ (dg x k : Int) (dg y k : Int)))), (0, .ref a), (1, .ref b)]) d_Big_compareSizes_43 rfl (by decide) rfl ?_
          refine q_goto (tgt := 19) d_Big_compareSizes_46 (by decide) ?_
          obtain ⟨c1, c2⟩ := cmp_step e3
          obtain ⟨c3, -⟩ := cmp_step e3.symm
          refine ih _ _ (by omega) ?_ ?_ ?_ (by omega)
          · unfold cmpZ; split <;> (try split) <;> decide
          · intro e
            refine ⟨e1, by omega, c2 ?_⟩
            unfold cmpZ at e
            split at e
            · exact absurd e (by decide)
            · split at e
              · omega
              · exact absurd e (by decide)
          · intro e
            unfold cmpZ at e ⊢
            by_cases q1 : dg x k < dg y k
            · rw [if_pos (by omega), if_pos (by have := c1 q1; omega)]
            · by_cases q2 : dg x k = dg y k
              · rw [if_neg (by omega), if_pos (by omega)] at e; exact absurd rfl e
              · have := c3 (by omega)
                rw [if_neg (by omega), if_neg (by omega), if_neg (by omega), if_neg (by omega)]
  refine q_aload_n d_Big_compareSizes_0 rfl ?_
  refine j_getI (v := (cI (n : Int))) d_Big_compareSizes_1 fl_Big_15 hA.1 ⟨rfl, by decide⟩ hW.2.2.1 ?_
  refine q_aload_n d_Big_compareSizes_4 rfl ?_
  refine j_getI (v := (cI (m : Int))) d_Big_compareSizes_5 fl_Big_15 hB.1 ⟨rfl, by decide⟩ hX.2.2.1 ?_
  refine q_callS (rc := 0) (rs := 0) (rest := []) d_Big_compareSizes_8 ml_Big_34 ok_Integer_compare (c_Integer_compare (d - 1) (x := (n : Int)) (y := (m : Int)) (by omega) (by omega)) rfl rfl (by omega) (Nat.le_of_ble_eq_true rfl) (kp_I ?_) kt_I
  refine q_istore_n (lv' := [(2, .int (cI (cmpZ (n : Int) (m : Int)))), (0, .ref a), (1, .ref b)]) d_Big_compareSizes_11 (by decide) rfl ?_
  refine q_aload_n d_Big_compareSizes_12 rfl ?_
  refine j_getI (v := (cI (n : Int))) d_Big_compareSizes_13 fl_Big_15 hA.1 ⟨rfl, by decide⟩ hW.2.2.1 ?_
  refine j_iconst d_Big_compareSizes_16 ?_
  refine j_isub d_Big_compareSizes_17 ?_
  refine q_istore_n (lv' := [(3, .int (cI ((n : Int) - 1))), (2, .int (cI (cmpZ (n : Int) (m : Int)))), (0, .ref a), (1, .ref b)]) d_Big_compareSizes_18 (by decide) rfl ?_
  refine loop n _ _ rfl ?_ ?_ ?_ (by omega)
  · unfold cmpZ; split <;> (try split) <;> decide
  · intro e
    have e1 : n = m := by
      unfold cmpZ at e
      split at e
      · exact absurd e (by decide)
      · split at e
        · omega
        · exact absurd e (by decide)
    refine ⟨e1, Nat.le_refl _, ?_⟩
    rw [Nat.div_eq_of_lt hW.1, Nat.div_eq_of_lt (by rw [e1]; exact hX.1)]
  · intro e
    unfold cmpZ at e ⊢
    rcases Nat.lt_trichotomy n m with q | q | q
    · have h1 := hM (by omega)
      have h2 : B9 ^ n ≤ B9 ^ (m - 1) := Nat.pow_le_pow_right (by decide) (by omega)
      have h3 := hW.1
      rw [if_pos (by omega), if_pos (by omega)]
    · rw [if_neg (by omega), if_pos (by omega)] at e; exact absurd rfl e
    · have h1 := hN (by omega)
      have h2 : B9 ^ m ≤ B9 ^ (n - 1) := Nat.pow_le_pow_right (by decide) (by omega)
      have h3 := hX.1
      rw [if_neg (by omega), if_neg (by omega), if_neg (by omega), if_neg (by omega)]

