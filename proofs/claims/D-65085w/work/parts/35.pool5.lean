/-! ===== 35 THE REFERENCE'S NUMBERS: quotients ===== -/
theorem d_Model_leftHas_0 : decode m_Model_leftHas.2.1 0 = .ok (.sipush 303, 3) := by decide +kernel
theorem d_Model_leftHas_3 : decode m_Model_leftHas.2.1 3 = .ok (.istore_n 2, 1) := by decide +kernel
theorem d_Model_leftHas_4 : decode m_Model_leftHas.2.1 4 = .ok (.iload_n 2, 1) := by decide +kernel
theorem d_Model_leftHas_5 : decode m_Model_leftHas.2.1 5 = .ok (.ifCond .lt 45, 3) := by decide +kernel
theorem d_Model_leftHas_8 : decode m_Model_leftHas.2.1 8 = .ok (.aload_n 0, 1) := by decide +kernel
theorem d_Model_leftHas_9 : decode m_Model_leftHas.2.1 9 = .ok (.getfield 20, 3) := by decide +kernel
theorem d_Model_leftHas_12 : decode m_Model_leftHas.2.1 12 = .ok (.iload_n 2, 1) := by decide +kernel
theorem d_Model_leftHas_13 : decode m_Model_leftHas.2.1 13 = .ok (.iaload, 1) := by decide +kernel
theorem d_Model_leftHas_14 : decode m_Model_leftHas.2.1 14 = .ok (.aload_n 0, 1) := by decide +kernel
theorem d_Model_leftHas_15 : decode m_Model_leftHas.2.1 15 = .ok (.iload_n 1, 1) := by decide +kernel
theorem d_Model_leftHas_16 : decode m_Model_leftHas.2.1 16 = .ok (.iload_n 2, 1) := by decide +kernel
theorem d_Model_leftHas_17 : decode m_Model_leftHas.2.1 17 = .ok (.invokevirtual 442, 3) := by decide +kernel
theorem d_Model_leftHas_20 : decode m_Model_leftHas.2.1 20 = .ok (.if_icmp .eq 24, 3) := by decide +kernel
theorem d_Model_leftHas_23 : decode m_Model_leftHas.2.1 23 = .ok (.aload_n 0, 1) := by decide +kernel
theorem d_Model_leftHas_24 : decode m_Model_leftHas.2.1 24 = .ok (.getfield 20, 3) := by decide +kernel
theorem d_Model_leftHas_27 : decode m_Model_leftHas.2.1 27 = .ok (.iload_n 2, 1) := by decide +kernel
theorem d_Model_leftHas_28 : decode m_Model_leftHas.2.1 28 = .ok (.iaload, 1) := by decide +kernel
theorem d_Model_leftHas_29 : decode m_Model_leftHas.2.1 29 = .ok (.aload_n 0, 1) := by decide +kernel
theorem d_Model_leftHas_30 : decode m_Model_leftHas.2.1 30 = .ok (.iload_n 1, 1) := by decide +kernel
theorem d_Model_leftHas_31 : decode m_Model_leftHas.2.1 31 = .ok (.iload_n 2, 1) := by decide +kernel
theorem d_Model_leftHas_32 : decode m_Model_leftHas.2.1 32 = .ok (.invokevirtual 442, 3) := by decide +kernel
theorem d_Model_leftHas_35 : decode m_Model_leftHas.2.1 35 = .ok (.if_icmp .le 7, 3) := by decide +kernel
theorem d_Model_leftHas_38 : decode m_Model_leftHas.2.1 38 = .ok (.iconst 1, 1) := by decide +kernel
theorem d_Model_leftHas_39 : decode m_Model_leftHas.2.1 39 = .ok (.goto 4, 3) := by decide +kernel
theorem d_Model_leftHas_42 : decode m_Model_leftHas.2.1 42 = .ok (.iconst 0, 1) := by decide +kernel
theorem d_Model_leftHas_43 : decode m_Model_leftHas.2.1 43 = .ok (.ireturn, 1) := by decide +kernel
theorem d_Model_leftHas_44 : decode m_Model_leftHas.2.1 44 = .ok (.iinc 2 (-1), 3) := by decide +kernel
theorem d_Model_leftHas_47 : decode m_Model_leftHas.2.1 47 = .ok (.goto (-43), 3) := by decide +kernel
theorem d_Model_leftHas_50 : decode m_Model_leftHas.2.1 50 = .ok (.iconst 1, 1) := by decide +kernel
theorem d_Model_leftHas_51 : decode m_Model_leftHas.2.1 51 = .ok (.ireturn, 1) := by decide +kernel
theorem d_Model_leftLess_0 : decode m_Model_leftLess.2.1 0 = .ok (.iconst 0, 1) := by decide +kernel
theorem d_Model_leftLess_1 : decode m_Model_leftLess.2.1 1 = .ok (.istore_n 2, 1) := by decide +kernel
theorem d_Model_leftLess_2 : decode m_Model_leftLess.2.1 2 = .ok (.iconst 0, 1) := by decide +kernel
theorem d_Model_leftLess_3 : decode m_Model_leftLess.2.1 3 = .ok (.istore_n 3, 1) := by decide +kernel
theorem d_Model_leftLess_4 : decode m_Model_leftLess.2.1 4 = .ok (.iload_n 3, 1) := by decide +kernel
theorem d_Model_leftLess_5 : decode m_Model_leftLess.2.1 5 = .ok (.sipush 304, 3) := by decide +kernel
theorem d_Model_leftLess_8 : decode m_Model_leftLess.2.1 8 = .ok (.if_icmp .ge 58, 3) := by decide +kernel
theorem d_Model_leftLess_11 : decode m_Model_leftLess.2.1 11 = .ok (.aload_n 0, 1) := by decide +kernel
theorem d_Model_leftLess_12 : decode m_Model_leftLess.2.1 12 = .ok (.getfield 20, 3) := by decide +kernel
theorem d_Model_leftLess_15 : decode m_Model_leftLess.2.1 15 = .ok (.iload_n 3, 1) := by decide +kernel
theorem d_Model_leftLess_16 : decode m_Model_leftLess.2.1 16 = .ok (.iaload, 1) := by decide +kernel
theorem d_Model_leftLess_17 : decode m_Model_leftLess.2.1 17 = .ok (.aload_n 0, 1) := by decide +kernel
theorem d_Model_leftLess_18 : decode m_Model_leftLess.2.1 18 = .ok (.iload_n 1, 1) := by decide +kernel
theorem d_Model_leftLess_19 : decode m_Model_leftLess.2.1 19 = .ok (.iload_n 3, 1) := by decide +kernel
theorem d_Model_leftLess_20 : decode m_Model_leftLess.2.1 20 = .ok (.invokevirtual 442, 3) := by decide +kernel
theorem d_Model_leftLess_23 : decode m_Model_leftLess.2.1 23 = .ok (.isub, 1) := by decide +kernel
theorem d_Model_leftLess_24 : decode m_Model_leftLess.2.1 24 = .ok (.iload_n 2, 1) := by decide +kernel
theorem d_Model_leftLess_25 : decode m_Model_leftLess.2.1 25 = .ok (.isub, 1) := by decide +kernel
theorem d_Model_leftLess_26 : decode m_Model_leftLess.2.1 26 = .ok (.istore 4, 2) := by decide +kernel
theorem d_Model_leftLess_28 : decode m_Model_leftLess.2.1 28 = .ok (.iload 4, 2) := by decide +kernel
theorem d_Model_leftLess_30 : decode m_Model_leftLess.2.1 30 = .ok (.ifCond .ge 7, 3) := by decide +kernel
theorem d_Model_leftLess_33 : decode m_Model_leftLess.2.1 33 = .ok (.iconst 1, 1) := by decide +kernel
theorem d_Model_leftLess_34 : decode m_Model_leftLess.2.1 34 = .ok (.goto 4, 3) := by decide +kernel
theorem d_Model_leftLess_37 : decode m_Model_leftLess.2.1 37 = .ok (.iconst 0, 1) := by decide +kernel
theorem d_Model_leftLess_38 : decode m_Model_leftLess.2.1 38 = .ok (.istore_n 2, 1) := by decide +kernel
theorem d_Model_leftLess_39 : decode m_Model_leftLess.2.1 39 = .ok (.aload_n 0, 1) := by decide +kernel
theorem d_Model_leftLess_40 : decode m_Model_leftLess.2.1 40 = .ok (.getfield 20, 3) := by decide +kernel
theorem d_Model_leftLess_43 : decode m_Model_leftLess.2.1 43 = .ok (.iload_n 3, 1) := by decide +kernel
theorem d_Model_leftLess_44 : decode m_Model_leftLess.2.1 44 = .ok (.iload 4, 2) := by decide +kernel
theorem d_Model_leftLess_46 : decode m_Model_leftLess.2.1 46 = .ok (.ifCond .ge 11, 3) := by decide +kernel
theorem d_Model_leftLess_49 : decode m_Model_leftLess.2.1 49 = .ok (.iload 4, 2) := by decide +kernel
theorem d_Model_leftLess_51 : decode m_Model_leftLess.2.1 51 = .ok (.bipush 10, 2) := by decide +kernel
theorem d_Model_leftLess_53 : decode m_Model_leftLess.2.1 53 = .ok (.iadd, 1) := by decide +kernel
theorem d_Model_leftLess_54 : decode m_Model_leftLess.2.1 54 = .ok (.goto 5, 3) := by decide +kernel
theorem d_Model_leftLess_57 : decode m_Model_leftLess.2.1 57 = .ok (.iload 4, 2) := by decide +kernel
theorem d_Model_leftLess_59 : decode m_Model_leftLess.2.1 59 = .ok (.iastore, 1) := by decide +kernel
theorem d_Model_leftLess_60 : decode m_Model_leftLess.2.1 60 = .ok (.iinc 3 1, 3) := by decide +kernel
theorem d_Model_leftLess_63 : decode m_Model_leftLess.2.1 63 = .ok (.goto (-59), 3) := by decide +kernel
theorem d_Model_leftLess_66 : decode m_Model_leftLess.2.1 66 = .ok (.return_, 1) := by decide +kernel
theorem d_Model_by_0 : decode m_Model_by.2.1 0 = .ok (.aload_n 0, 1) := by decide +kernel
theorem d_Model_by_1 : decode m_Model_by.2.1 1 = .ok (.getfield 17, 3) := by decide +kernel
theorem d_Model_by_4 : decode m_Model_by.2.1 4 = .ok (.iload_n 2, 1) := by decide +kernel
theorem d_Model_by_5 : decode m_Model_by.2.1 5 = .ok (.iaload, 1) := by decide +kernel
theorem d_Model_by_6 : decode m_Model_by.2.1 6 = .ok (.ifCond .ne 8, 3) := by decide +kernel
theorem d_Model_by_9 : decode m_Model_by.2.1 9 = .ok (.aload_n 0, 1) := by decide +kernel
theorem d_Model_by_10 : decode m_Model_by.2.1 10 = .ok (.invokevirtual 453, 3) := by decide +kernel
theorem d_Model_by_13 : decode m_Model_by.2.1 13 = .ok (.ireturn, 1) := by decide +kernel
theorem d_Model_by_14 : decode m_Model_by.2.1 14 = .ok (.aload_n 0, 1) := by decide +kernel
theorem d_Model_by_15 : decode m_Model_by.2.1 15 = .ok (.getfield 17, 3) := by decide +kernel
theorem d_Model_by_18 : decode m_Model_by.2.1 18 = .ok (.iload_n 1, 1) := by decide +kernel
theorem d_Model_by_19 : decode m_Model_by.2.1 19 = .ok (.iconst 1, 1) := by decide +kernel
theorem d_Model_by_20 : decode m_Model_by.2.1 20 = .ok (.iadd, 1) := by decide +kernel
theorem d_Model_by_21 : decode m_Model_by.2.1 21 = .ok (.iaload, 1) := by decide +kernel
theorem d_Model_by_22 : decode m_Model_by.2.1 22 = .ok (.istore_n 3, 1) := by decide +kernel
theorem d_Model_by_23 : decode m_Model_by.2.1 23 = .ok (.aload_n 0, 1) := by decide +kernel
theorem d_Model_by_24 : decode m_Model_by.2.1 24 = .ok (.getfield 428, 3) := by decide +kernel
theorem d_Model_by_27 : decode m_Model_by.2.1 27 = .ok (.istore 4, 2) := by decide +kernel
theorem d_Model_by_29 : decode m_Model_by.2.1 29 = .ok (.iconst 0, 1) := by decide +kernel
theorem d_Model_by_30 : decode m_Model_by.2.1 30 = .ok (.istore 5, 2) := by decide +kernel
theorem d_Model_by_32 : decode m_Model_by.2.1 32 = .ok (.iload 5, 2) := by decide +kernel
theorem d_Model_by_34 : decode m_Model_by.2.1 34 = .ok (.sipush 304, 3) := by decide +kernel
theorem d_Model_by_37 : decode m_Model_by.2.1 37 = .ok (.if_icmp .ge 17, 3) := by decide +kernel
theorem d_Model_by_40 : decode m_Model_by.2.1 40 = .ok (.aload_n 0, 1) := by decide +kernel
theorem d_Model_by_41 : decode m_Model_by.2.1 41 = .ok (.getfield 20, 3) := by decide +kernel
theorem d_Model_by_44 : decode m_Model_by.2.1 44 = .ok (.iload 5, 2) := by decide +kernel
theorem d_Model_by_46 : decode m_Model_by.2.1 46 = .ok (.iconst 0, 1) := by decide +kernel
theorem d_Model_by_47 : decode m_Model_by.2.1 47 = .ok (.iastore, 1) := by decide +kernel
theorem d_Model_by_48 : decode m_Model_by.2.1 48 = .ok (.iinc 5 1, 3) := by decide +kernel
theorem d_Model_by_51 : decode m_Model_by.2.1 51 = .ok (.goto (-19), 3) := by decide +kernel
theorem d_Model_by_54 : decode m_Model_by.2.1 54 = .ok (.iload_n 3, 1) := by decide +kernel
theorem d_Model_by_55 : decode m_Model_by.2.1 55 = .ok (.iconst 1, 1) := by decide +kernel
theorem d_Model_by_56 : decode m_Model_by.2.1 56 = .ok (.isub, 1) := by decide +kernel
theorem d_Model_by_57 : decode m_Model_by.2.1 57 = .ok (.istore 5, 2) := by decide +kernel
theorem d_Model_by_59 : decode m_Model_by.2.1 59 = .ok (.iload 5, 2) := by decide +kernel
theorem d_Model_by_61 : decode m_Model_by.2.1 61 = .ok (.ifCond .lt 94, 3) := by decide +kernel
theorem d_Model_by_64 : decode m_Model_by.2.1 64 = .ok (.sipush 303, 3) := by decide +kernel
theorem d_Model_by_67 : decode m_Model_by.2.1 67 = .ok (.istore 6, 2) := by decide +kernel
theorem d_Model_by_69 : decode m_Model_by.2.1 69 = .ok (.iload 6, 2) := by decide +kernel
theorem d_Model_by_71 : decode m_Model_by.2.1 71 = .ok (.ifCond .le 25, 3) := by decide +kernel
theorem d_Model_by_74 : decode m_Model_by.2.1 74 = .ok (.aload_n 0, 1) := by decide +kernel
theorem d_Model_by_75 : decode m_Model_by.2.1 75 = .ok (.getfield 20, 3) := by decide +kernel
theorem d_Model_by_78 : decode m_Model_by.2.1 78 = .ok (.iload 6, 2) := by decide +kernel
theorem d_Model_by_80 : decode m_Model_by.2.1 80 = .ok (.aload_n 0, 1) := by decide +kernel
theorem d_Model_by_81 : decode m_Model_by.2.1 81 = .ok (.getfield 20, 3) := by decide +kernel
theorem d_Model_by_84 : decode m_Model_by.2.1 84 = .ok (.iload 6, 2) := by decide +kernel
theorem d_Model_by_86 : decode m_Model_by.2.1 86 = .ok (.iconst 1, 1) := by decide +kernel
theorem d_Model_by_87 : decode m_Model_by.2.1 87 = .ok (.isub, 1) := by decide +kernel
theorem d_Model_by_88 : decode m_Model_by.2.1 88 = .ok (.iaload, 1) := by decide +kernel
theorem d_Model_by_89 : decode m_Model_by.2.1 89 = .ok (.iastore, 1) := by decide +kernel
theorem d_Model_by_90 : decode m_Model_by.2.1 90 = .ok (.iinc 6 (-1), 3) := by decide +kernel
theorem d_Model_by_93 : decode m_Model_by.2.1 93 = .ok (.goto (-24), 3) := by decide +kernel
theorem d_Model_by_96 : decode m_Model_by.2.1 96 = .ok (.aload_n 0, 1) := by decide +kernel
theorem d_Model_by_97 : decode m_Model_by.2.1 97 = .ok (.getfield 20, 3) := by decide +kernel
theorem d_Model_by_100 : decode m_Model_by.2.1 100 = .ok (.iconst 0, 1) := by decide +kernel
theorem d_Model_by_101 : decode m_Model_by.2.1 101 = .ok (.aload_n 0, 1) := by decide +kernel
theorem d_Model_by_102 : decode m_Model_by.2.1 102 = .ok (.getfield 17, 3) := by decide +kernel
theorem d_Model_by_105 : decode m_Model_by.2.1 105 = .ok (.iload_n 1, 1) := by decide +kernel
theorem d_Model_by_106 : decode m_Model_by.2.1 106 = .ok (.iconst 2, 1) := by decide +kernel
theorem d_Model_by_107 : decode m_Model_by.2.1 107 = .ok (.iadd, 1) := by decide +kernel
theorem d_Model_by_108 : decode m_Model_by.2.1 108 = .ok (.iload 5, 2) := by decide +kernel
theorem d_Model_by_110 : decode m_Model_by.2.1 110 = .ok (.iadd, 1) := by decide +kernel
theorem d_Model_by_111 : decode m_Model_by.2.1 111 = .ok (.iaload, 1) := by decide +kernel
theorem d_Model_by_112 : decode m_Model_by.2.1 112 = .ok (.iastore, 1) := by decide +kernel
theorem d_Model_by_113 : decode m_Model_by.2.1 113 = .ok (.iconst 0, 1) := by decide +kernel
theorem d_Model_by_114 : decode m_Model_by.2.1 114 = .ok (.istore 6, 2) := by decide +kernel
theorem d_Model_by_116 : decode m_Model_by.2.1 116 = .ok (.aload_n 0, 1) := by decide +kernel
theorem d_Model_by_117 : decode m_Model_by.2.1 117 = .ok (.iload_n 2, 1) := by decide +kernel
theorem d_Model_by_118 : decode m_Model_by.2.1 118 = .ok (.invokevirtual 457, 3) := by decide +kernel
theorem d_Model_by_121 : decode m_Model_by.2.1 121 = .ok (.ifCond .eq 14, 3) := by decide +kernel
theorem d_Model_by_124 : decode m_Model_by.2.1 124 = .ok (.aload_n 0, 1) := by decide +kernel
theorem d_Model_by_125 : decode m_Model_by.2.1 125 = .ok (.iload_n 2, 1) := by decide +kernel
theorem d_Model_by_126 : decode m_Model_by.2.1 126 = .ok (.invokevirtual 461, 3) := by decide +kernel
theorem d_Model_by_129 : decode m_Model_by.2.1 129 = .ok (.iinc 6 1, 3) := by decide +kernel
theorem d_Model_by_132 : decode m_Model_by.2.1 132 = .ok (.goto (-16), 3) := by decide +kernel
theorem d_Model_by_135 : decode m_Model_by.2.1 135 = .ok (.aload_n 0, 1) := by decide +kernel
theorem d_Model_by_136 : decode m_Model_by.2.1 136 = .ok (.getfield 17, 3) := by decide +kernel
theorem d_Model_by_139 : decode m_Model_by.2.1 139 = .ok (.iload 4, 2) := by decide +kernel
theorem d_Model_by_141 : decode m_Model_by.2.1 141 = .ok (.iconst 2, 1) := by decide +kernel
theorem d_Model_by_142 : decode m_Model_by.2.1 142 = .ok (.iadd, 1) := by decide +kernel
theorem d_Model_by_143 : decode m_Model_by.2.1 143 = .ok (.iload 5, 2) := by decide +kernel
theorem d_Model_by_145 : decode m_Model_by.2.1 145 = .ok (.iadd, 1) := by decide +kernel
theorem d_Model_by_146 : decode m_Model_by.2.1 146 = .ok (.iload 6, 2) := by decide +kernel
theorem d_Model_by_148 : decode m_Model_by.2.1 148 = .ok (.iastore, 1) := by decide +kernel
theorem d_Model_by_149 : decode m_Model_by.2.1 149 = .ok (.iinc 5 (-1), 3) := by decide +kernel
theorem d_Model_by_152 : decode m_Model_by.2.1 152 = .ok (.goto (-93), 3) := by decide +kernel
theorem d_Model_by_155 : decode m_Model_by.2.1 155 = .ok (.aload_n 0, 1) := by decide +kernel
theorem d_Model_by_156 : decode m_Model_by.2.1 156 = .ok (.iload 4, 2) := by decide +kernel
theorem d_Model_by_158 : decode m_Model_by.2.1 158 = .ok (.iload_n 3, 1) := by decide +kernel
theorem d_Model_by_159 : decode m_Model_by.2.1 159 = .ok (.aload_n 0, 1) := by decide +kernel
theorem d_Model_by_160 : decode m_Model_by.2.1 160 = .ok (.getfield 17, 3) := by decide +kernel
theorem d_Model_by_163 : decode m_Model_by.2.1 163 = .ok (.iload_n 1, 1) := by decide +kernel
theorem d_Model_by_164 : decode m_Model_by.2.1 164 = .ok (.iaload, 1) := by decide +kernel
theorem d_Model_by_165 : decode m_Model_by.2.1 165 = .ok (.aload_n 0, 1) := by decide +kernel
theorem d_Model_by_166 : decode m_Model_by.2.1 166 = .ok (.getfield 17, 3) := by decide +kernel
theorem d_Model_by_169 : decode m_Model_by.2.1 169 = .ok (.iload_n 2, 1) := by decide +kernel
theorem d_Model_by_170 : decode m_Model_by.2.1 170 = .ok (.iaload, 1) := by decide +kernel
theorem d_Model_by_171 : decode m_Model_by.2.1 171 = .ok (.imul, 1) := by decide +kernel
theorem d_Model_by_172 : decode m_Model_by.2.1 172 = .ok (.invokevirtual 434, 3) := by decide +kernel
theorem d_Model_by_175 : decode m_Model_by.2.1 175 = .ok (.ireturn, 1) := by decide +kernel
/-- what is left over when dividing -/
def LefV (I : M32) (M y : Nat) : Prop := y < 10 ^ 304 ∧ ∀ k, k < 304 → I (M + 4) k = cI (d10 y k)
/-- as FrP, and the row 'left' too -/
def FrW (M t : Nat) (I I' : M32) : Prop := (∀ q, q ≠ M → q ≠ M + 3 → q ≠ M + 4 → I' q = I q) ∧ (∀ k, k ≠ 7 → k ≠ 8 → I' M k = I M k) ∧ ∀ k, k < t → I' (M + 3) k = I (M + 3) k
theorem FrW.rf {M t : Nat} {I : M32} : FrW M t I I := ⟨fun _ _ _ _ => rfl, fun _ _ _ => rfl, fun _ _ => rfl⟩
theorem FrP.w {M t : Nat} {I J : M32} (h : FrP M t I J) : FrW M t I J := ⟨fun q a b _ => h.1 q a b, h.2.1, h.2.2⟩
theorem FrW.tr {M t u : Nat} {I J K : M32} (h : FrW M t I J) (g : FrW M u J K) (htu : t ≤ u) : FrW M t I K :=
  ⟨fun q a b c => (g.1 q a b c).trans (h.1 q a b c), fun k a b => (g.2.1 k a b).trans (h.2.1 k a b), fun k hk => (g.2.2 k (by omega)).trans (h.2.2 k hk)⟩
theorem FrW.p {M t k : Nat} {I J : M32} (h : FrW M t I J) (hk : t ≤ k) (v : Int32) : FrW M t I (up2 J (M + 3) k v) := h.tr (FrP.rf.p hk v).w (Nat.le_refl _)
theorem FrW.l {M t k : Nat} {I J : M32} (h : FrW M t I J) (v : Int32) : FrW M t I (up2 J (M + 4) k v) :=
  ⟨fun q a b c => by rw [up2_row _ _ c]; exact h.1 q a b c, fun j a b => by rw [up2_a _ _ _ (by omega)]; exact h.2.1 j a b, fun j hj => by rw [up2_a _ _ _ (by omega)]; exact h.2.2 j hj⟩
theorem PolV.keepW {M t r n : Nat} {v : Int} {I J : M32} (h : PolV I (M + 3) r n v) (hf : FrW M t I J) (hr : r + n + 2 ≤ t) : PolV J (M + 3) r n v := h.congr fun k _ hk => hf.2.2 k (by omega)
theorem PolV.same {M r n : Nat} {v : Int} {I J : M32} (h : PolV I (M + 3) r n v) (hf : J (M + 3) = I (M + 3)) : PolV J (M + 3) r n v := h.congr fun k _ _ => by rw [hf]
theorem c_Model_leftHas (d : Nat) {M b m y : Nat} {w : Int} {I : M32} {L : M64} {R : MR} {T : SH} (hd : 1 ≤ d) (hM : MdlS M R T) (hL : LefV I M y) (hW : PolV I (M + 3) b m w) (hb : b + m + 2 ≤ 1100000) (hm : m ≤ 304) :
    Call m_Model_leftHas y_Model_leftHas d 0 0 [.ref M, .int (cI b)] I L R T (rI fun r I' L' R' T' => r = cI (bI (w.natAbs ≤ y)) ∧ I' = I ∧ L' = L ∧ R' = R ∧ T' = T) := by
  refine Call.ofRun (by decide) ⟨rfl, rfl⟩ (Nat.le_of_ble_eq_true rfl) ?_
  refine Run.gen fun Q hQ => ?_
  refine j_sipush d_Model_leftHas_0 (by decide) ?_
  refine q_istore_n (lv' := [(2, .int (cI 303)), (0, .ref M), (1, .int (cI (b : Int)))]) d_Model_leftHas_3 (by decide) rfl ?_
  have loop : ∀ (f k : Nat) (z : Int), k < f → z = (k : Int) - 1 → k ≤ 304 → y / 10 ^ k = w.natAbs / 10 ^ k → Run m_Model_leftHas d 0 0 4 [(0, .ref M), (1, .int (cI (b : Int))), (2, .int (cI z))] [] I L R T Q := by
    intro f
    induction f with
    | zero => intro k z h; omega
    | succ f ih =>
    intro k z hf hz hk he
    refine q_iload_n d_Model_leftHas_4 rfl ?_
    refine j_if_lt (tgt := 50) d_Model_leftHas_5 (by decide) (by omega) (fun h1 => ?_) (fun h1 => ?_)
    · skip
      have : k = 0 := by omega
      subst this
      simp only [Nat.pow_zero, Nat.div_one] at he
      refine j_iconst d_Model_leftHas_50 ?_
      refine q_ireturn d_Model_leftHas_51 rfl (narrow_z (Or.inr rfl)).1 ?_
      refine hQ _ _ _ _ _ ?_
      exact ⟨_, rfl, by rw [bI_t (by omega)], rfl, rfl, rfl, rfl⟩
    obtain ⟨j, rfl⟩ : ∃ j, k = j + 1 := ⟨k - 1, by omega⟩
    obtain rfl : z = (j : Int) := by omega
    have g1 := d10_lt y j
    have g2 := d10_lt w.natAbs j
    have cs := cmp_step10 he
    have cs2 := cmp_step10 he.symm
    refine q_aload_n d_Model_leftHas_8 rfl ?_
    refine q_getR d_Model_leftHas_9 fl_Model_20 hM.1 ⟨rfl, by decide⟩ (mR9 hM) ?_
    refine q_iload_n d_Model_leftHas_12 rfl ?_
    refine j_iald (j := j) (v := (cI (d10 y j : Int))) d_Model_leftHas_13 (mT9 hM) (mN9 hM) (by omega) (by omega) (by omega) (hL.2 j (by omega)) ?_
    refine q_aload_n d_Model_leftHas_14 rfl ?_
    refine q_iload_n d_Model_leftHas_15 rfl ?_
    refine q_iload_n d_Model_leftHas_16 rfl ?_
    refine q_callV (ci := 17) (rc := 0) (rs := 0) (rest := [.int (cI (d10 y j : Int))]) d_Model_leftHas_17 ml_Model_442 ok_Model_digit rfl hM.1 (by decide) (c_Model_digitV (d - 1) (k := j) hM hW (by omega) (by omega)) rfl rfl (by omega) (Nat.le_of_ble_eq_true rfl) (kp_I ?_) kt_I
    refine j_icmp_eq (tgt := 44) d_Model_leftHas_20 (by decide) (by omega) (by omega) (fun h2 => ?_) (fun h2 => ?_)
    · skip
      refine j_iinc (lv' := [(2, .int (cI ((j : Int) + (-1)))), (0, .ref M), (1, .int (cI (b : Int)))]) d_Model_leftHas_44 rfl (by decide) rfl ?_
      refine q_goto (tgt := 4) d_Model_leftHas_47 (by decide) ?_
      refine Run.lv (lv' := [(0, .ref M), (1, .int (cI (b : Int))), (2, .int (cI ((j : Int) + (-1))))]) (by intro q hq; simp only [List.mem_cons, List.not_mem_nil, or_false] at hq ⊢; rcases hq with rfl | rfl | rfl <;> simp) ?_
      exact ih j _ (by omega) (by omega) (by omega) (cs.2 (by omega))
    refine q_aload_n d_Model_leftHas_23 rfl ?_
    refine q_getR d_Model_leftHas_24 fl_Model_20 hM.1 ⟨rfl, by decide⟩ (mR9 hM) ?_
    refine q_iload_n d_Model_leftHas_27 rfl ?_
    refine j_iald (j := j) (v := (cI (d10 y j : Int))) d_Model_leftHas_28 (mT9 hM) (mN9 hM) (by omega) (by omega) (by omega) (hL.2 j (by omega)) ?_
    refine q_aload_n d_Model_leftHas_29 rfl ?_
    refine q_iload_n d_Model_leftHas_30 rfl ?_
    refine q_iload_n d_Model_leftHas_31 rfl ?_
    refine q_callV (ci := 17) (rc := 0) (rs := 0) (rest := [.int (cI (d10 y j : Int))]) d_Model_leftHas_32 ml_Model_442 ok_Model_digit rfl hM.1 (by decide) (c_Model_digitV (d - 1) (k := j) hM hW (by omega) (by omega)) rfl rfl (by omega) (Nat.le_of_ble_eq_true rfl) (kp_I ?_) kt_I
    suffices J : ∀ (q : Int), ((((d10 y j : Int) ≤ (d10 w.natAbs j : Int)) ∧ q = 0) ∨ (((d10 w.natAbs j : Int) < (d10 y j : Int)) ∧ q = 1)) → Run m_Model_leftHas d 0 0 43 [(0, .ref M), (1, .int (cI (b : Int))), (2, .int (cI (j : Int)))] [.int (cI q)] I L R T Q by
      refine j_icmp_le (tgt := 42) d_Model_leftHas_35 (by decide) (by omega) (by omega) (fun hp1 => ?_) (fun hp1 => ?_)
      · refine j_iconst d_Model_leftHas_42 ?_
        exact J _ (Or.inl ⟨hp1, rfl⟩)
      · refine j_iconst d_Model_leftHas_38 ?_
        refine q_goto (tgt := 43) d_Model_leftHas_39 (by decide) ?_
        exact J _ (Or.inr ⟨hp1, rfl⟩)
    intro q hq
    refine q_ireturn d_Model_leftHas_43 rfl (narrow_z (z01 (by omega))).1 ?_
    refine hQ _ _ _ _ _ ?_
    refine ⟨_, rfl, ?_, rfl, rfl, rfl, rfl⟩
    rcases hq with ⟨h3, e⟩ | ⟨h3, e⟩
    · have := cs.1 (by omega)
      rw [e, bI_f (by omega)]
    · have := cs2.1 (by omega)
      rw [e, bI_t (by omega)]
  refine Run.lv (lv' := [(0, .ref M), (1, .int (cI (b : Int))), (2, .int (cI 303))]) (by intro q hq; simp only [List.mem_cons, List.not_mem_nil, or_false] at hq ⊢; rcases hq with rfl | rfl | rfl <;> simp) ?_
  exact loop 305 304 _ (by omega) (by omega) (Nat.le_refl _) (by rw [Nat.div_eq_of_lt hL.1, Nat.div_eq_of_lt (Nat.lt_of_lt_of_le hW.1.1 (Nat.pow_le_pow_right (by decide) hm))])
theorem dig_up0 {J : M32} {p k s r : Nat} {x : Int} (hs : s < 10 ^ k) (hr : r < 10) (hD : ∀ j, j < k → J p j = cI (d10 s j)) (hx : x = r) : ∀ j, j < k + 1 → up2 J p k (cI x) p j = cI (d10 (s + r * 10 ^ k) j) := by
  intro j hj
  by_cases e : j = k
  · subst e; rw [up2_s, d10_add_hi hs hr, hx]
  · rw [up2_k _ _ _ (by omega), d10_add_lo hs (by omega)]; exact hD j (by omega)
theorem c_Model_leftLess (d : Nat) {M b m y : Nat} {w : Int} {I : M32} {L : M64} {R : MR} {T : SH} (hd : 1 ≤ d) (hM : MdlS M R T) (hL : LefV I M y) (hW : PolV I (M + 3) b m w) (hb : b + m + 2 ≤ 1100000) (hm : m ≤ 304) (hy : w.natAbs ≤ y) :
    Call m_Model_leftLess y_Model_leftLess d 0 0 [.ref M, .int (cI b)] I L R T (rV fun I' L' R' T' => (LefV I' M (y - w.natAbs) ∧ ∀ q, q ≠ M + 4 → I' q = I q) ∧ L' = L ∧ R' = R ∧ T' = T) := by
  refine Call.ofRun (by decide) ⟨rfl, rfl⟩ (Nat.le_of_ble_eq_true rfl) ?_
  refine Run.gen fun Q hQ => ?_
  refine j_iconst d_Model_leftLess_0 ?_
  refine q_istore_n (lv' := [(2, .int (cI 0)), (0, .ref M), (1, .int (cI (b : Int)))]) d_Model_leftLess_1 (by decide) rfl ?_
  refine j_iconst d_Model_leftLess_2 ?_
  refine q_istore_n (lv' := [(3, .int (cI 0)), (2, .int (cI 0)), (0, .ref M), (1, .int (cI (b : Int)))]) d_Model_leftLess_3 (by decide) rfl ?_
  have loop : ∀ (f k cr s : Nat) (z e : Int) (J : M32), 304 - k < f → z = k → e = cr → k ≤ 304 → cr ≤ 1 → s < 10 ^ k → s + l10 w.natAbs k = l10 y k + cr * 10 ^ k → (∀ j, j < k → J (M + 4) j = cI (d10 s j)) → (∀ j, k ≤ j → J (M + 4) j = I (M + 4) j) → (∀ q, q ≠ M + 4 → J q = I q) → Run m_Model_leftLess d 0 0 4 [(0, .ref M), (1, .int (cI (b : Int))), (2, .int (cI e)), (3, .int (cI z))] [] J L R T Q := by
    intro f
    induction f with
    | zero => intro k cr s z e J h; omega
    | succ f ih =>
    intro k cr s z e J hf hz he hk hc hs hsum hD hR hF
    subst hz he
    have hWJ := hW.same (hF (M + 3) (by omega))
    refine q_iload_n d_Model_leftLess_4 rfl ?_
    refine j_sipush d_Model_leftLess_5 (by decide) ?_
    refine j_icmp_ge (tgt := 66) d_Model_leftLess_8 (by decide) (by omega) (by omega) (fun h3 => ?_) (fun h3 => ?_)
    · skip
      obtain rfl : k = 304 := by omega
      rw [l10_all hL.1, l10_all (Nat.lt_of_le_of_lt hy hL.1)] at hsum
      have hc0 : cr = 0 := by
        rcases Nat.eq_zero_or_pos cr with q | q
        · exact q
        · have : 10 ^ 304 ≤ cr * 10 ^ 304 := Nat.le_mul_of_pos_left _ q
          omega
      subst hc0
      refine q_return d_Model_leftLess_66 rfl ?_
      refine hQ _ _ _ _ _ ?_
      exact ⟨rfl, ⟨⟨by have := hL.1; omega, fun j hj => by rw [hD j hj, show y - w.natAbs = s by omega]⟩, hF⟩, rfl, rfl, rfl⟩
    have d1 := d10_lt y k
    have d2 := d10_lt w.natAbs k
    obtain ⟨c', r, q1, q2, q3, q5, q4⟩ := sub_step10 hsum hs hc
    refine q_aload_n d_Model_leftLess_11 rfl ?_
    refine q_getR d_Model_leftLess_12 fl_Model_20 hM.1 ⟨rfl, by decide⟩ (mR9 hM) ?_
    refine q_iload_n d_Model_leftLess_15 rfl ?_
    refine j_iald (j := k) (v := (cI (d10 y k : Int))) d_Model_leftLess_16 (mT9 hM) (mN9 hM) (by omega) (by omega) (by omega) ((hR k (Nat.le_refl _)).trans (hL.2 k (by omega))) ?_
    refine q_aload_n d_Model_leftLess_17 rfl ?_
    refine q_iload_n d_Model_leftLess_18 rfl ?_
    refine q_iload_n d_Model_leftLess_19 rfl ?_
    refine q_callV (ci := 17) (rc := 0) (rs := 0) (rest := [.int (cI (d10 y k : Int))]) d_Model_leftLess_20 ml_Model_442 ok_Model_digit rfl hM.1 (by decide) (c_Model_digitV (d - 1) (k := k) hM hWJ (by omega) (by omega)) rfl rfl (by omega) (Nat.le_of_ble_eq_true rfl) (kp_I ?_) kt_I
    refine j_isub d_Model_leftLess_23 ?_
    refine q_iload_n d_Model_leftLess_24 rfl ?_
    refine j_isub d_Model_leftLess_25 ?_
    refine q_istore (lv' := [(4, .int (cI (((d10 y k : Int) - (d10 w.natAbs k : Int)) - (cr : Int)))), (0, .ref M), (1, .int (cI (b : Int))), (2, .int (cI (cr : Int))), (3, .int (cI (k : Int)))]) d_Model_leftLess_26 (by decide) rfl ?_
    refine q_iload d_Model_leftLess_28 rfl ?_
    suffices J : ∀ (e' : Int), (((0 ≤ (((d10 y k : Int) - (d10 w.natAbs k : Int)) - (cr : Int))) ∧ e' = 0) ∨ (((((d10 y k : Int) - (d10 w.natAbs k : Int)) - (cr : Int)) < 0) ∧ e' = 1)) → Run m_Model_leftLess d 0 0 38 [(0, .ref M), (1, .int (cI (b : Int))), (2, .int (cI (cr : Int))), (3, .int (cI (k : Int))), (4, .int (cI (((d10 y k : Int) - (d10 w.natAbs k : Int)) - (cr : Int))))] [.int (cI e')] J L R T Q by
      refine j_if_ge (tgt := 37) d_Model_leftLess_30 (by decide) (by omega) (fun hp2 => ?_) (fun hp2 => ?_)
      · refine j_iconst d_Model_leftLess_37 ?_
        refine Run.lv (lv' := [(0, .ref M), (1, .int (cI (b : Int))), (2, .int (cI (cr : Int))), (3, .int (cI (k : Int))), (4, .int (cI (((d10 y k : Int) - (d10 w.natAbs k : Int)) - (cr : Int))))]) (by intro q hq; simp only [List.mem_cons, List.not_mem_nil, or_false] at hq ⊢; rcases hq with rfl | rfl | rfl | rfl | rfl <;> simp) ?_
        exact J _ (Or.inl ⟨hp2, rfl⟩)
      · refine j_iconst d_Model_leftLess_33 ?_
        refine q_goto (tgt := 38) d_Model_leftLess_34 (by decide) ?_
        refine Run.lv (lv' := [(0, .ref M), (1, .int (cI (b : Int))), (2, .int (cI (cr : Int))), (3, .int (cI (k : Int))), (4, .int (cI (((d10 y k : Int) - (d10 w.natAbs k : Int)) - (cr : Int))))]) (by intro q hq; simp only [List.mem_cons, List.not_mem_nil, or_false] at hq ⊢; rcases hq with rfl | rfl | rfl | rfl | rfl <;> simp) ?_
        exact J _ (Or.inr ⟨hp2, rfl⟩)
    intro e' he'
    refine q_istore_n (lv' := [(2, .int (cI e')), (0, .ref M), (1, .int (cI (b : Int))), (3, .int (cI (k : Int))), (4, .int (cI (((d10 y k : Int) - (d10 w.natAbs k : Int)) - (cr : Int))))]) d_Model_leftLess_38 (by decide) rfl ?_
    refine q_aload_n d_Model_leftLess_39 rfl ?_
    refine q_getR d_Model_leftLess_40 fl_Model_20 hM.1 ⟨rfl, by decide⟩ (mR9 hM) ?_
    refine q_iload_n d_Model_leftLess_43 rfl ?_
    refine q_iload d_Model_leftLess_44 rfl ?_
    suffices J : ∀ (vv : Int), (((0 ≤ (((d10 y k : Int) - (d10 w.natAbs k : Int)) - (cr : Int))) ∧ vv = (((d10 y k : Int) - (d10 w.natAbs k : Int)) - (cr : Int))) ∨ (((((d10 y k : Int) - (d10 w.natAbs k : Int)) - (cr : Int)) < 0) ∧ vv = ((((d10 y k : Int) - (d10 w.natAbs k : Int)) - (cr : Int)) + 10))) → Run m_Model_leftLess d 0 0 59 [(0, .ref M), (1, .int (cI (b : Int))), (2, .int (cI e')), (3, .int (cI (k : Int))), (4, .int (cI (((d10 y k : Int) - (d10 w.natAbs k : Int)) - (cr : Int))))] [.int (cI vv), .int (cI (k : Int)), .ref (M + 4)] J L R T Q by
      refine j_if_ge (tgt := 57) d_Model_leftLess_46 (by decide) (by omega) (fun hp3 => ?_) (fun hp3 => ?_)
      · refine q_iload d_Model_leftLess_57 rfl ?_
        refine Run.lv (lv' := [(0, .ref M), (1, .int (cI (b : Int))), (2, .int (cI e')), (3, .int (cI (k : Int))), (4, .int (cI (((d10 y k : Int) - (d10 w.natAbs k : Int)) - (cr : Int))))]) (by intro q hq; simp only [List.mem_cons, List.not_mem_nil, or_false] at hq ⊢; rcases hq with rfl | rfl | rfl | rfl | rfl <;> simp) ?_
        exact J _ (Or.inl ⟨hp3, rfl⟩)
      · refine q_iload d_Model_leftLess_49 rfl ?_
        refine j_bipush d_Model_leftLess_51 (by decide) ?_
        refine j_iadd d_Model_leftLess_53 ?_
        refine q_goto (tgt := 59) d_Model_leftLess_54 (by decide) ?_
        refine Run.lv (lv' := [(0, .ref M), (1, .int (cI (b : Int))), (2, .int (cI e')), (3, .int (cI (k : Int))), (4, .int (cI (((d10 y k : Int) - (d10 w.natAbs k : Int)) - (cr : Int))))]) (by intro q hq; simp only [List.mem_cons, List.not_mem_nil, or_false] at hq ⊢; rcases hq with rfl | rfl | rfl | rfl | rfl <;> simp) ?_
        exact J _ (Or.inr ⟨hp3, rfl⟩)
    intro vv hvv
    refine j_iast (j := k) d_Model_leftLess_59 (mT9 hM) (mN9 hM) (by omega) (by omega) (by omega) ?_
    refine j_iinc (lv' := [(3, .int (cI ((k : Int) + 1))), (0, .ref M), (1, .int (cI (b : Int))), (2, .int (cI e')), (4, .int (cI (((d10 y k : Int) - (d10 w.natAbs k : Int)) - (cr : Int))))]) d_Model_leftLess_60 rfl (by decide) rfl ?_
    refine q_goto (tgt := 4) d_Model_leftLess_63 (by decide) ?_
    refine Run.lv (lv' := [(0, .ref M), (1, .int (cI (b : Int))), (2, .int (cI e')), (3, .int (cI ((k : Int) + 1)))]) (by intro q hq; simp only [List.mem_cons, List.not_mem_nil, or_false] at hq ⊢; rcases hq with rfl | rfl | rfl | rfl <;> simp) ?_
    exact ih (k + 1) c' (s + r * 10 ^ k) _ _ _ (by omega) (by omega) (by omega) (by omega) q3 (add_lt10 hs q2) q4 (dig_up0 hs q2 hD (by omega)) (fun j hj => by rw [up2_k _ _ _ (by omega)]; exact hR j (by omega)) (fun q hq => by rw [up2_row _ _ hq]; exact hF q hq)
  refine Run.lv (lv' := [(0, .ref M), (1, .int (cI (b : Int))), (2, .int (cI 0)), (3, .int (cI 0))]) (by intro q hq; simp only [List.mem_cons, List.not_mem_nil, or_false] at hq ⊢; rcases hq with rfl | rfl | rfl | rfl <;> simp) ?_
  exact loop 305 0 0 0 0 0 I (by omega) rfl rfl (by omega) (by omega) (by decide) (by simp [l10_0]) (fun j hj => by omega) (fun _ _ => rfl) (fun _ _ => rfl)
/-- one digit of a quotient -/
theorem quo_step {x y i r : Nat} (hy : 0 < y) (hr : r = x / 10 ^ (i + 1) % y) : (10 * r + d10 x i) / y = d10 (x / y) i ∧ (10 * r + d10 x i) % y = x / 10 ^ i % y ∧ (10 * r + d10 x i) / y < 10 := by
  have hd := d10_lt x i
  have h1 : x / 10 ^ i = 10 * (x / 10 ^ (i + 1)) + d10 x i := by
    unfold d10
    rw [Nat.pow_succ, ← Nat.div_div_eq_div_mul]; omega
  have h2 := Nat.div_add_mod (x / 10 ^ (i + 1)) y
  rw [← hr] at h2
  have hrl : r < y := by rw [hr]; exact Nat.mod_lt _ hy
  have h3 : x / 10 ^ i = y * (10 * (x / 10 ^ (i + 1) / y)) + (10 * r + d10 x i) := by
    rw [h1, ← h2]
    have : y * (10 * ((y * (x / 10 ^ (i + 1) / y) + r) / y)) = 10 * (y * (x / 10 ^ (i + 1) / y)) := by
      rw [Nat.mul_add_div hy, Nat.div_eq_of_lt hrl, Nat.add_zero]; ac_rfl
    omega
  have h4 : (10 * r + d10 x i) / y < 10 := by
    rw [Nat.div_lt_iff_lt_mul hy]; omega
  refine ⟨?_, ?_, h4⟩
  · show _ = x / y / 10 ^ i % 10
    rw [Nat.div_div_eq_div_mul, Nat.mul_comm y, ← Nat.div_div_eq_div_mul, h3, Nat.mul_add_div hy, Nat.mul_add_mod, Nat.mod_eq_of_lt h4]
  · rw [h3, Nat.mul_add_mod]
theorem LefV.congr {I J : M32} {M y : Nat} (h : LefV I M y) (e : J (M + 4) = I (M + 4)) : LefV J M y := ⟨h.1, fun k hk => by rw [e]; exact h.2 k hk⟩
theorem tdiv_sg (v w : Int) : Int.tdiv v w ≠ 0 → cmpZ v 0 * cmpZ w 0 = cmpZ (Int.tdiv v w) 0 := by
  intro h
  have hz : v ≠ 0 := fun e => h (by rw [e, Int.zero_tdiv])
  have hw : w ≠ 0 := fun e => h (by rw [e, Int.tdiv_zero])
  have key : ∀ a b : Int, 0 < a → 0 < b → Int.tdiv a b ≠ 0 → 0 < Int.tdiv a b := fun a b ha hb h => by
    have := Int.tdiv_nonneg (Int.le_of_lt ha) (Int.le_of_lt hb); omega
  rcases cmpZ_cases v with ⟨g1, g2⟩ | ⟨g1, g2⟩ | ⟨g1, g2⟩ <;> rcases cmpZ_cases w with ⟨k1, k2⟩ | ⟨k1, k2⟩ | ⟨k1, k2⟩ <;> rw [g2, k2]
  · have e : Int.tdiv v w = Int.tdiv (-v) (-w) := by rw [Int.neg_tdiv, Int.tdiv_neg, Int.neg_neg]
    rw [e] at h ⊢
    have := key (-v) (-w) (by omega) (by omega) h
    unfold cmpZ; rw [if_neg (by omega), if_neg (by omega)]; rfl
  · omega
  · have e : Int.tdiv v w = -Int.tdiv (-v) w := by rw [Int.neg_tdiv, Int.neg_neg]
    have := key (-v) w (by omega) (by omega) (by omega)
    unfold cmpZ; rw [if_pos (by omega)]; rfl
  · omega
  · omega
  · omega
  · have e : Int.tdiv v w = -Int.tdiv v (-w) := by rw [Int.tdiv_neg, Int.neg_neg]
    have := key v (-w) (by omega) (by omega) (by omega)
    unfold cmpZ; rw [if_pos (by omega)]; rfl
  · omega
  · have := key v w (by omega) (by omega) h
    unfold cmpZ; rw [if_neg (by omega), if_neg (by omega)]; rfl
theorem c_Model_by (d : Nat) {M a b n m t : Nat} {v w : Int} {c : Bool} {I : M32} {L : M64} {R : MR} {T : SH} (hd : 2 ≤ d) (hM : MdlS M R T) (hV : PolV I (M + 3) a n v) (hW : PolV I (M + 3) b m w) (ht : I M 7 = cI t) (h8 : I M 8 = cI (bI (c = true))) (ha : a + n + 2 ≤ t) (hb : b + m + 2 ≤ t) (h1 : t + n + 2 ≤ 1100000) (hm : m ≤ 303) :
    Call m_Model_by y_Model_by d 0 0 [.ref M, .int (cI a), .int (cI b)] I L R T (rI fun r' I' L' R' T' => (r' = cI t ∧ ∃ k, k ≤ n ∧ PolV I' (M + 3) t k (Int.tdiv v w) ∧ I' M 7 = cI (t + k + 2 : Nat) ∧ I' M 8 = cI (bI (c = true ∨ 300 < k)) ∧ FrW M t I I') ∧ L' = L ∧ R' = R ∧ T' = T) := by
  refine Call.ofRun (by decide) ⟨rfl, rfl⟩ (Nat.le_of_ble_eq_true rfl) ?_
  refine Run.gen fun Q hQ => ?_
  have cw := cmpZ_cases w
  have iw := cmpZ_in w 0
  refine q_aload_n d_Model_by_0 rfl ?_
  refine q_getR d_Model_by_1 fl_Model_17 hM.1 ⟨rfl, by decide⟩ (mR5 hM) ?_
  refine q_iload_n d_Model_by_4 rfl ?_
  refine j_iald (j := b) (v := (cI (cmpZ w 0))) d_Model_by_5 (mT5 hM) (mN5 hM) (by omega) (by omega) (by omega) hW.2.1 ?_
  refine j_if_ne (tgt := 14) d_Model_by_6 (by decide) (by omega) (fun h0 => ?_) (fun h0 => ?_)
  rotate_left
  · skip
    obtain rfl : w = 0 := by omega
    refine q_aload_n d_Model_by_9 rfl ?_
    refine q_callV (ci := 17) (rc := 0) (rs := 0) (rest := []) d_Model_by_10 ml_Model_453 ok_Model_zero rfl hM.1 (by decide) (c_Model_zero (d - 1) hM ht (by omega)) rfl rfl (by omega) (Nat.le_of_ble_eq_true rfl) (kv_I (fun q J hJ => ?_)) kt_I
    obtain ⟨rfl, rfl⟩ := hJ
    refine q_ireturn d_Model_by_13 rfl rfl ?_
    refine hQ _ _ _ _ _ ?_
    refine ⟨_, rfl, ⟨rfl, 0, by omega, ?_, ?_, ?_, ((((FrP.rf.p (Nat.le_refl _) _).p (by omega) _).f7 _).w)⟩, rfl, rfl, rfl⟩
    · rw [Int.tdiv_zero]
      refine ⟨⟨by decide, fun h => by omega⟩, ?_, ?_, fun k hk => by omega⟩
      · rw [up2_a _ _ _ (by omega), up2_k _ _ _ (by omega), up2_s]; rfl
      · rw [up2_a _ _ _ (by omega), up2_s]; rfl
    · rw [up2_s]; congr 1
    · rw [up2_k _ _ _ (by omega), up2_a _ _ _ (by omega), up2_a _ _ _ (by omega), h8]; congr 1; exact bI_c ⟨Or.inl, fun q => q.elim id fun q => by omega⟩
  have hy : 0 < w.natAbs := by omega
  have hw304 : w.natAbs < 10 ^ 303 := Nat.lt_of_lt_of_le hW.1.1 (Nat.pow_le_pow_right (by decide) hm)
  have hq : (Int.tdiv v w).natAbs = v.natAbs / w.natAbs := Int.natAbs_tdiv v w
  refine q_aload_n d_Model_by_14 rfl ?_
  refine q_getR d_Model_by_15 fl_Model_17 hM.1 ⟨rfl, by decide⟩ (mR5 hM) ?_
  refine q_iload_n d_Model_by_18 rfl ?_
  refine j_iconst d_Model_by_19 ?_
  refine j_iadd d_Model_by_20 ?_
  refine j_iald (j := (a + 1)) (v := (cI (n : Int))) d_Model_by_21 (mT5 hM) (mN5 hM) (by omega) (by omega) (by omega) hV.2.2.1 ?_
  refine q_istore_n (lv' := [(3, .int (cI (n : Int))), (0, .ref M), (1, .int (cI (a : Int))), (2, .int (cI (b : Int)))]) d_Model_by_22 (by decide) rfl ?_
  refine q_aload_n d_Model_by_23 rfl ?_
  refine j_getI (v := (cI (t : Int))) d_Model_by_24 fl_Model_428 hM.1 ⟨rfl, by decide⟩ ht ?_
  refine q_istore (lv' := [(4, .int (cI (t : Int))), (3, .int (cI (n : Int))), (0, .ref M), (1, .int (cI (a : Int))), (2, .int (cI (b : Int)))]) d_Model_by_27 (by decide) rfl ?_
  refine j_iconst d_Model_by_29 ?_
  refine q_istore (lv' := [(5, .int (cI 0)), (4, .int (cI (t : Int))), (3, .int (cI (n : Int))), (0, .ref M), (1, .int (cI (a : Int))), (2, .int (cI (b : Int)))]) d_Model_by_30 (by decide) rfl ?_
  have out : ∀ (f i y : Nat) (z : Int) (J : M32), i < f → z = (i : Int) - 1 → i ≤ n → y = v.natAbs / 10 ^ i % w.natAbs → LefV J M y → (∀ j, i ≤ j → j < n → J (M + 3) (t + j + 2) = cI (d10 (v.natAbs / w.natAbs) j)) → J M = I M → FrW M t I J → Run m_Model_by d 0 0 59 [(0, .ref M), (1, .int (cI (a : Int))), (2, .int (cI (b : Int))), (3, .int (cI (n : Int))), (4, .int (cI (t : Int))), (5, .int (cI z))] [] J L R T Q := by
    intro f
    induction f with
    | zero => intro i y z J h; omega
    | succ f ihf =>
    intro i y z J hf hz hi hyy hL hD hJM hF
    have hVJ := hV.keepW hF ha
    have hWJ := hW.keepW hF hb
    refine q_iload d_Model_by_59 rfl ?_
    refine j_if_lt (tgt := 155) d_Model_by_61 (by decide) (by omega) (fun h3 => ?_) (fun h3 => ?_)
    · skip
      obtain rfl : i = 0 := by omega
      refine q_aload_n d_Model_by_155 rfl ?_
      refine q_iload d_Model_by_156 rfl ?_
      refine q_iload_n d_Model_by_158 rfl ?_
      refine q_aload_n d_Model_by_159 rfl ?_
      refine q_getR d_Model_by_160 fl_Model_17 hM.1 ⟨rfl, by decide⟩ (mR5 hM) ?_
      refine q_iload_n d_Model_by_163 rfl ?_
      refine j_iald (j := a) (v := (cI (cmpZ v 0))) d_Model_by_164 (mT5 hM) (mN5 hM) (by omega) (by omega) (by omega) hVJ.2.1 ?_
      refine q_aload_n d_Model_by_165 rfl ?_
      refine q_getR d_Model_by_166 fl_Model_17 hM.1 ⟨rfl, by decide⟩ (mR5 hM) ?_
      refine q_iload_n d_Model_by_169 rfl ?_
      refine j_iald (j := b) (v := (cI (cmpZ w 0))) d_Model_by_170 (mT5 hM) (mN5 hM) (by omega) (by omega) (by omega) hWJ.2.1 ?_
      refine j_imul d_Model_by_171 ?_
      refine Run.top (v := .int (cI (cmpZ v 0 * cmpZ w 0))) (by rfl) ?_
      refine q_callV (ci := 17) (rc := 0) (rs := 0) (rest := []) d_Model_by_172 ml_Model_434 ok_Model_close rfl hM.1 (by decide) (c_Model_closeV (d - 1) (u := Int.tdiv v w) (P := c = true) hM (by rw [hq]; exact fun k hk => hD k (by omega) hk) (by rw [hq]; exact Nat.lt_of_le_of_lt (Nat.div_le_self _ _) hV.1.1) (by omega) (by rw [hJM]; exact h8) (tdiv_sg v w)) rfl rfl (by omega) (Nat.le_of_ble_eq_true rfl) (kv_I (fun q K hK => ?_)) kt_I
      obtain ⟨rfl, k', hk', g1, g2, g3, g4⟩ := hK
      refine q_ireturn d_Model_by_175 rfl rfl ?_
      refine hQ _ _ _ _ _ ?_
      exact ⟨_, rfl, ⟨rfl, k', hk', g1, g2, g3, hF.tr g4.w (Nat.le_refl _)⟩, rfl, rfl, rfl⟩
    obtain ⟨j, rfl⟩ : ∃ j, i = j + 1 := ⟨i - 1, by omega⟩
    obtain rfl : z = (j : Int) := by omega
    have hyl : y < w.natAbs := by rw [hyy]; exact Nat.mod_lt _ hy
    have g9 := d10_lt v.natAbs j
    obtain ⟨s1, s2, s3⟩ := quo_step (i := j) hy hyy
    refine j_sipush d_Model_by_64 (by decide) ?_
    refine q_istore (lv' := [(6, .int (cI 303)), (0, .ref M), (1, .int (cI (a : Int))), (2, .int (cI (b : Int))), (3, .int (cI (n : Int))), (4, .int (cI (t : Int))), (5, .int (cI (j : Int)))]) d_Model_by_67 (by decide) rfl ?_
    have sub : ∀ (f2 k y2 : Nat) (e : Int) (K : M32), y2 < f2 → e = k → y2 + k * w.natAbs = 10 * y + d10 v.natAbs j → LefV K M y2 → K (M + 3) = J (M + 3) → K M = I M → FrW M t I K → Run m_Model_by d 0 0 116 [(0, .ref M), (1, .int (cI (a : Int))), (2, .int (cI (b : Int))), (3, .int (cI (n : Int))), (4, .int (cI (t : Int))), (5, .int (cI (j : Int))), (6, .int (cI e))] [] K L R T Q := by
      intro f2
      induction f2 with
      | zero => intro k y2 e K h; omega
      | succ f2 ih =>
      intro k y2 e K hf2 he hsum hLK hK3 hKM hFK
      subst he
      have hWK := hW.keepW hFK hb
      refine q_aload_n d_Model_by_116 rfl ?_
      refine q_iload_n d_Model_by_117 rfl ?_
      refine q_callV (ci := 17) (rc := 0) (rs := 0) (rest := []) d_Model_by_118 ml_Model_457 ok_Model_leftHas rfl hM.1 (by decide) (c_Model_leftHas (d - 1) (by omega) hM hLK hWK (by omega) (by omega)) rfl rfl (by omega) (Nat.le_of_ble_eq_true rfl) (kp_I ?_) kt_I
      refine j_ifb_eq (tgt := 135) d_Model_by_121 (by decide) (fun h4 => ?_) (fun h4 => ?_)
      · skip
        have hk : (10 * y + d10 v.natAbs j) / w.natAbs = k := by
          rw [← hsum, Nat.add_mul_div_right _ _ hy, Nat.div_eq_of_lt (by omega)]; omega
        have hm2 : (10 * y + d10 v.natAbs j) % w.natAbs = y2 := by
          rw [← hsum, Nat.add_mul_mod_self_right, Nat.mod_eq_of_lt (by omega)]
        refine q_aload_n d_Model_by_135 rfl ?_
        refine q_getR d_Model_by_136 fl_Model_17 hM.1 ⟨rfl, by decide⟩ (mR5 hM) ?_
        refine q_iload d_Model_by_139 rfl ?_
        refine j_iconst d_Model_by_141 ?_
        refine j_iadd d_Model_by_142 ?_
        refine q_iload d_Model_by_143 rfl ?_
        refine j_iadd d_Model_by_145 ?_
        refine q_iload d_Model_by_146 rfl ?_
        refine j_iast (j := (t + j + 2)) d_Model_by_148 (mT5 hM) (mN5 hM) (by omega) (by omega) (by omega) ?_
        refine j_iinc (lv' := [(5, .int (cI ((j : Int) + (-1)))), (0, .ref M), (1, .int (cI (a : Int))), (2, .int (cI (b : Int))), (3, .int (cI (n : Int))), (4, .int (cI (t : Int))), (6, .int (cI (k : Int)))]) d_Model_by_149 rfl (by decide) rfl ?_
        refine q_goto (tgt := 59) d_Model_by_152 (by decide) ?_
        refine Run.lv (lv' := [(0, .ref M), (1, .int (cI (a : Int))), (2, .int (cI (b : Int))), (3, .int (cI (n : Int))), (4, .int (cI (t : Int))), (5, .int (cI ((j : Int) + (-1))))]) (by intro q hq; simp only [List.mem_cons, List.not_mem_nil, or_false] at hq ⊢; rcases hq with rfl | rfl | rfl | rfl | rfl | rfl <;> simp) ?_
        refine ihf j y2 _ _ (by omega) (by omega) (by omega) (by rw [← hm2, s2]) (hLK.congr (by rw [up2_row _ _ (by omega)])) (fun i hi1 hi2 => ?_) (by rw [up2_row _ _ (by omega)]; exact hKM) (hFK.p (by omega) _)
        by_cases e : i = j
        · subst e; rw [up2_s, ← s1, hk]
        · rw [up2_k _ _ _ (by omega), hK3]; exact hD i (by omega) hi2
      refine q_aload_n d_Model_by_124 rfl ?_
      refine q_iload_n d_Model_by_125 rfl ?_
      refine q_callV (ci := 17) (rc := 0) (rs := 0) (rest := []) d_Model_by_126 ml_Model_461 ok_Model_leftLess rfl hM.1 (by decide) (c_Model_leftLess (d - 1) (by omega) hM hLK hWK (by omega) (by omega) h4) rfl rfl (by omega) (Nat.le_of_ble_eq_true rfl) (kv_V (fun K2 hK2 => ?_)) kt_V
      refine j_iinc (lv' := [(6, .int (cI ((k : Int) + 1))), (0, .ref M), (1, .int (cI (a : Int))), (2, .int (cI (b : Int))), (3, .int (cI (n : Int))), (4, .int (cI (t : Int))), (5, .int (cI (j : Int)))]) d_Model_by_129 rfl (by decide) rfl ?_
      refine q_goto (tgt := 116) d_Model_by_132 (by decide) ?_
      refine Run.lv (lv' := [(0, .ref M), (1, .int (cI (a : Int))), (2, .int (cI (b : Int))), (3, .int (cI (n : Int))), (4, .int (cI (t : Int))), (5, .int (cI (j : Int))), (6, .int (cI ((k : Int) + 1)))]) (by intro q hq; simp only [List.mem_cons, List.not_mem_nil, or_false] at hq ⊢; rcases hq with rfl | rfl | rfl | rfl | rfl | rfl | rfl <;> simp) ?_
      exact ih (k + 1) (y2 - w.natAbs) _ K2 (by omega) (by omega) (by rw [Nat.add_mul]; omega) hK2.1 (by rw [hK2.2 _ (by omega)]; exact hK3) (by rw [hK2.2 _ (by omega)]; exact hKM) (hFK.tr ⟨fun q _ _ h => hK2.2 q h, fun k _ _ => by rw [hK2.2 _ (by omega)], fun k _ => by rw [hK2.2 _ (by omega)]⟩ (Nat.le_refl _))
    have shf : ∀ (f2 k : Nat) (e : Int) (K : M32), k < f2 → e = k → k ≤ 303 → (∀ j, k < j → j < 304 → K (M + 4) j = J (M + 4) (j - 1)) → (∀ j, j ≤ k → K (M + 4) j = J (M + 4) j) → K (M + 3) = J (M + 3) → K M = I M → FrW M t I K → Run m_Model_by d 0 0 69 [(0, .ref M), (1, .int (cI (a : Int))), (2, .int (cI (b : Int))), (3, .int (cI (n : Int))), (4, .int (cI (t : Int))), (5, .int (cI (j : Int))), (6, .int (cI e))] [] K L R T Q := by
      intro f2
      induction f2 with
      | zero => intro k e K h; omega
      | succ f2 ih =>
      intro k e K hf2 he hk hU hB hK3 hKM hFK
      subst he
      have hVK := hV.keepW hFK ha
      refine q_iload d_Model_by_69 rfl ?_
      refine j_if_le (tgt := 96) d_Model_by_71 (by decide) (by omega) (fun h4 => ?_) (fun h4 => ?_)
      · skip
        obtain rfl : k = 0 := by omega
        refine q_aload_n d_Model_by_96 rfl ?_
        refine q_getR d_Model_by_97 fl_Model_20 hM.1 ⟨rfl, by decide⟩ (mR9 hM) ?_
        refine j_iconst d_Model_by_100 ?_
        refine q_aload_n d_Model_by_101 rfl ?_
        refine q_getR d_Model_by_102 fl_Model_17 hM.1 ⟨rfl, by decide⟩ (mR5 hM) ?_
        refine q_iload_n d_Model_by_105 rfl ?_
        refine j_iconst d_Model_by_106 ?_
        refine j_iadd d_Model_by_107 ?_
        refine q_iload d_Model_by_108 rfl ?_
        refine j_iadd d_Model_by_110 ?_
        refine j_iald (j := (a + j + 2)) (v := (cI (d10 v.natAbs j : Int))) d_Model_by_111 (mT5 hM) (mN5 hM) (by omega) (by omega) (by omega) (hVK.2.2.2 j (by omega)) ?_
        refine j_iast (j := 0) d_Model_by_112 (mT9 hM) (mN9 hM) (by omega) (by omega) (by omega) ?_
        refine j_iconst d_Model_by_113 ?_
        refine q_istore (lv' := [(6, .int (cI 0)), (0, .ref M), (1, .int (cI (a : Int))), (2, .int (cI (b : Int))), (3, .int (cI (n : Int))), (4, .int (cI (t : Int))), (5, .int (cI (j : Int)))]) d_Model_by_114 (by decide) rfl ?_
        refine Run.lv (lv' := [(0, .ref M), (1, .int (cI (a : Int))), (2, .int (cI (b : Int))), (3, .int (cI (n : Int))), (4, .int (cI (t : Int))), (5, .int (cI (j : Int))), (6, .int (cI 0))]) (by intro q hq; simp only [List.mem_cons, List.not_mem_nil, or_false] at hq ⊢; rcases hq with rfl | rfl | rfl | rfl | rfl | rfl | rfl <;> simp) ?_
        refine sub (10 * y + 11) 0 (10 * y + d10 v.natAbs j) _ _ (by omega) rfl (by omega) ⟨?_, fun i hi => ?_⟩ (by rw [up2_row _ _ (by omega)]; exact hK3) (by rw [up2_row _ _ (by omega)]; exact hKM) (hFK.l _)
        · rw [show (10 : Nat) ^ 304 = 10 ^ 303 * 10 from Nat.pow_succ 10 303]; omega
        · have e10 : d10 (10 * y + d10 v.natAbs j) i = if i = 0 then d10 v.natAbs j else d10 y (i - 1) := by
            split
            · rename_i h; subst h; simp only [d10, Nat.pow_zero, Nat.div_one] at g9 ⊢; omega
            · rename_i h
              obtain ⟨i', rfl⟩ : ∃ i', i = i' + 1 := ⟨i - 1, by omega⟩
              show (10 * y + d10 v.natAbs j) / 10 ^ (i' + 1) % 10 = y / 10 ^ (i' + 1 - 1) % 10
              rw [Nat.pow_succ, Nat.mul_comm (10 ^ i'), ← Nat.div_div_eq_div_mul, show (10 * y + d10 v.natAbs j) / 10 = y by omega, Nat.add_sub_cancel]
          rw [e10]
          by_cases e : i = 0
          · subst e; rw [up2_s, if_pos rfl]
          · rw [up2_k _ _ _ (by omega), if_neg e, hU i (by omega) hi]; exact hL.2 _ (by omega)
      refine q_aload_n d_Model_by_74 rfl ?_
      refine q_getR d_Model_by_75 fl_Model_20 hM.1 ⟨rfl, by decide⟩ (mR9 hM) ?_
      refine q_iload d_Model_by_78 rfl ?_
      refine q_aload_n d_Model_by_80 rfl ?_
      refine q_getR d_Model_by_81 fl_Model_20 hM.1 ⟨rfl, by decide⟩ (mR9 hM) ?_
      refine q_iload d_Model_by_84 rfl ?_
      refine j_iconst d_Model_by_86 ?_
      refine j_isub d_Model_by_87 ?_
      refine j_iald (j := (k - 1)) (v := (J (M + 4) (k - 1))) d_Model_by_88 (mT9 hM) (mN9 hM) (by omega) (by omega) (by omega) (hB (k - 1) (by omega)) ?_
      refine j_iast (j := k) d_Model_by_89 (mT9 hM) (mN9 hM) (by omega) (by omega) (by omega) ?_
      refine j_iinc (lv' := [(6, .int (cI ((k : Int) + (-1)))), (0, .ref M), (1, .int (cI (a : Int))), (2, .int (cI (b : Int))), (3, .int (cI (n : Int))), (4, .int (cI (t : Int))), (5, .int (cI (j : Int)))]) d_Model_by_90 rfl (by decide) rfl ?_
      refine q_goto (tgt := 69) d_Model_by_93 (by decide) ?_
      refine Run.lv (lv' := [(0, .ref M), (1, .int (cI (a : Int))), (2, .int (cI (b : Int))), (3, .int (cI (n : Int))), (4, .int (cI (t : Int))), (5, .int (cI (j : Int))), (6, .int (cI ((k : Int) + (-1))))]) (by intro q hq; simp only [List.mem_cons, List.not_mem_nil, or_false] at hq ⊢; rcases hq with rfl | rfl | rfl | rfl | rfl | rfl | rfl <;> simp) ?_
      refine ih (k - 1) _ _ (by omega) (by omega) (by omega) (fun i hi1 hi2 => ?_) (fun i hi => by rw [up2_k _ _ _ (by omega)]; exact hB i (by omega)) (by rw [up2_row _ _ (by omega)]; exact hK3) (by rw [up2_row _ _ (by omega)]; exact hKM) (hFK.l _)
      by_cases e : i = k
      · subst e; rw [up2_s]
      · rw [up2_k _ _ _ (by omega)]; exact hU i (by omega) hi2
    refine Run.lv (lv' := [(0, .ref M), (1, .int (cI (a : Int))), (2, .int (cI (b : Int))), (3, .int (cI (n : Int))), (4, .int (cI (t : Int))), (5, .int (cI (j : Int))), (6, .int (cI 303))]) (by intro q hq; simp only [List.mem_cons, List.not_mem_nil, or_false] at hq ⊢; rcases hq with rfl | rfl | rfl | rfl | rfl | rfl | rfl <;> simp) ?_
    exact shf 304 303 _ J (by omega) rfl (by omega) (fun j h1 h2 => by omega) (fun _ _ => rfl) rfl hJM hF
  have zer : ∀ (f k : Nat) (z : Int) (J : M32), 304 - k < f → z = k → k ≤ 304 → (∀ j, j < k → J (M + 4) j = cI 0) → J M = I M → FrW M t I J → Run m_Model_by d 0 0 32 [(0, .ref M), (1, .int (cI (a : Int))), (2, .int (cI (b : Int))), (3, .int (cI (n : Int))), (4, .int (cI (t : Int))), (5, .int (cI z))] [] J L R T Q := by
    intro f
    induction f with
    | zero => intro k z J h; omega
    | succ f ih =>
    intro k z J hf hz hk hD hJM hF
    subst hz
    refine q_iload d_Model_by_32 rfl ?_
    refine j_sipush d_Model_by_34 (by decide) ?_
    refine j_icmp_ge (tgt := 54) d_Model_by_37 (by decide) (by omega) (by omega) (fun h3 => ?_) (fun h3 => ?_)
    · skip
      refine q_iload_n d_Model_by_54 rfl ?_
      refine j_iconst d_Model_by_55 ?_
      refine j_isub d_Model_by_56 ?_
      refine q_istore (lv' := [(5, .int (cI ((n : Int) - 1))), (0, .ref M), (1, .int (cI (a : Int))), (2, .int (cI (b : Int))), (3, .int (cI (n : Int))), (4, .int (cI (t : Int)))]) d_Model_by_57 (by decide) rfl ?_
      refine Run.lv (lv' := [(0, .ref M), (1, .int (cI (a : Int))), (2, .int (cI (b : Int))), (3, .int (cI (n : Int))), (4, .int (cI (t : Int))), (5, .int (cI ((n : Int) - 1)))]) (by intro q hq; simp only [List.mem_cons, List.not_mem_nil, or_false] at hq ⊢; rcases hq with rfl | rfl | rfl | rfl | rfl | rfl <;> simp) ?_
      exact out (n + 1) n 0 _ J (by omega) rfl (by omega) (by rw [Nat.div_eq_of_lt hV.1.1, Nat.zero_mod]) ⟨by decide, fun j hj => by rw [hD j (by omega), d10_0]; rfl⟩ (fun j h1 h2 => by omega) hJM hF
    refine q_aload_n d_Model_by_40 rfl ?_
    refine q_getR d_Model_by_41 fl_Model_20 hM.1 ⟨rfl, by decide⟩ (mR9 hM) ?_
    refine q_iload d_Model_by_44 rfl ?_
    refine j_iconst d_Model_by_46 ?_
    refine j_iast (j := k) d_Model_by_47 (mT9 hM) (mN9 hM) (by omega) (by omega) (by omega) ?_
    refine j_iinc (lv' := [(5, .int (cI ((k : Int) + 1))), (0, .ref M), (1, .int (cI (a : Int))), (2, .int (cI (b : Int))), (3, .int (cI (n : Int))), (4, .int (cI (t : Int)))]) d_Model_by_48 rfl (by decide) rfl ?_
    refine q_goto (tgt := 32) d_Model_by_51 (by decide) ?_
    refine Run.lv (lv' := [(0, .ref M), (1, .int (cI (a : Int))), (2, .int (cI (b : Int))), (3, .int (cI (n : Int))), (4, .int (cI (t : Int))), (5, .int (cI ((k : Int) + 1)))]) (by intro q hq; simp only [List.mem_cons, List.not_mem_nil, or_false] at hq ⊢; rcases hq with rfl | rfl | rfl | rfl | rfl | rfl <;> simp) ?_
    refine ih (k + 1) _ _ (by omega) (by omega) (by omega) (fun j hj => ?_) (by rw [up2_row _ _ (by omega)]; exact hJM) (hF.l _)
    by_cases e : j = k
    · subst e; rw [up2_s]
    · rw [up2_k _ _ _ (by omega)]; exact hD j (by omega)
  refine Run.lv (lv' := [(0, .ref M), (1, .int (cI (a : Int))), (2, .int (cI (b : Int))), (3, .int (cI (n : Int))), (4, .int (cI (t : Int))), (5, .int (cI 0))]) (by intro q hq; simp only [List.mem_cons, List.not_mem_nil, or_false] at hq ⊢; rcases hq with rfl | rfl | rfl | rfl | rfl | rfl <;> simp) ?_
  exact zer 305 0 0 I (by omega) rfl (by omega) (fun j hj => by omega) rfl FrW.rf

