/-! ===== 56 THE REFERENCE'S TOKENS: look ===== -/
theorem d_Model_look_0 : decode m_Model_look.2.1 0 = .ok (.aload_n 0, 1) := by decide +kernel
theorem d_Model_look_1 : decode m_Model_look.2.1 1 = .ok (.getfield 561, 3) := by decide +kernel
theorem d_Model_look_4 : decode m_Model_look.2.1 4 = .ok (.aload_n 0, 1) := by decide +kernel
theorem d_Model_look_5 : decode m_Model_look.2.1 5 = .ok (.getfield 564, 3) := by decide +kernel
theorem d_Model_look_8 : decode m_Model_look.2.1 8 = .ok (.if_icmp .ge 30, 3) := by decide +kernel
theorem d_Model_look_11 : decode m_Model_look.2.1 11 = .ok (.aload_n 0, 1) := by decide +kernel
theorem d_Model_look_12 : decode m_Model_look.2.1 12 = .ok (.getfield 23, 3) := by decide +kernel
theorem d_Model_look_15 : decode m_Model_look.2.1 15 = .ok (.aload_n 0, 1) := by decide +kernel
theorem d_Model_look_16 : decode m_Model_look.2.1 16 = .ok (.getfield 561, 3) := by decide +kernel
theorem d_Model_look_19 : decode m_Model_look.2.1 19 = .ok (.iaload, 1) := by decide +kernel
theorem d_Model_look_20 : decode m_Model_look.2.1 20 = .ok (.bipush 32, 2) := by decide +kernel
theorem d_Model_look_22 : decode m_Model_look.2.1 22 = .ok (.if_icmp .gt 16, 3) := by decide +kernel
theorem d_Model_look_25 : decode m_Model_look.2.1 25 = .ok (.aload_n 0, 1) := by decide +kernel
theorem d_Model_look_26 : decode m_Model_look.2.1 26 = .ok (.dup, 1) := by decide +kernel
theorem d_Model_look_27 : decode m_Model_look.2.1 27 = .ok (.getfield 561, 3) := by decide +kernel
theorem d_Model_look_30 : decode m_Model_look.2.1 30 = .ok (.iconst 1, 1) := by decide +kernel
theorem d_Model_look_31 : decode m_Model_look.2.1 31 = .ok (.iadd, 1) := by decide +kernel
theorem d_Model_look_32 : decode m_Model_look.2.1 32 = .ok (.putfield 561, 3) := by decide +kernel
theorem d_Model_look_35 : decode m_Model_look.2.1 35 = .ok (.goto (-35), 3) := by decide +kernel
theorem d_Model_look_38 : decode m_Model_look.2.1 38 = .ok (.aload_n 0, 1) := by decide +kernel
theorem d_Model_look_39 : decode m_Model_look.2.1 39 = .ok (.aload_n 0, 1) := by decide +kernel
theorem d_Model_look_40 : decode m_Model_look.2.1 40 = .ok (.getfield 561, 3) := by decide +kernel
theorem d_Model_look_43 : decode m_Model_look.2.1 43 = .ok (.putfield 544, 3) := by decide +kernel
theorem d_Model_look_46 : decode m_Model_look.2.1 46 = .ok (.aload_n 0, 1) := by decide +kernel
theorem d_Model_look_47 : decode m_Model_look.2.1 47 = .ok (.aload_n 0, 1) := by decide +kernel
theorem d_Model_look_48 : decode m_Model_look.2.1 48 = .ok (.getfield 561, 3) := by decide +kernel
theorem d_Model_look_51 : decode m_Model_look.2.1 51 = .ok (.putfield 547, 3) := by decide +kernel
theorem d_Model_look_54 : decode m_Model_look.2.1 54 = .ok (.aload_n 0, 1) := by decide +kernel
theorem d_Model_look_55 : decode m_Model_look.2.1 55 = .ok (.lconst 0, 1) := by decide +kernel
theorem d_Model_look_56 : decode m_Model_look.2.1 56 = .ok (.putfield 557, 3) := by decide +kernel
theorem d_Model_look_59 : decode m_Model_look.2.1 59 = .ok (.aload_n 0, 1) := by decide +kernel
theorem d_Model_look_60 : decode m_Model_look.2.1 60 = .ok (.getfield 561, 3) := by decide +kernel
theorem d_Model_look_63 : decode m_Model_look.2.1 63 = .ok (.aload_n 0, 1) := by decide +kernel
theorem d_Model_look_64 : decode m_Model_look.2.1 64 = .ok (.getfield 564, 3) := by decide +kernel
theorem d_Model_look_67 : decode m_Model_look.2.1 67 = .ok (.if_icmp .ne 9, 3) := by decide +kernel
theorem d_Model_look_70 : decode m_Model_look.2.1 70 = .ok (.aload_n 0, 1) := by decide +kernel
theorem d_Model_look_71 : decode m_Model_look.2.1 71 = .ok (.iconst 0, 1) := by decide +kernel
theorem d_Model_look_72 : decode m_Model_look.2.1 72 = .ok (.putfield 550, 3) := by decide +kernel
theorem d_Model_look_75 : decode m_Model_look.2.1 75 = .ok (.return_, 1) := by decide +kernel
theorem d_Model_look_76 : decode m_Model_look.2.1 76 = .ok (.aload_n 0, 1) := by decide +kernel
theorem d_Model_look_77 : decode m_Model_look.2.1 77 = .ok (.getfield 23, 3) := by decide +kernel
theorem d_Model_look_80 : decode m_Model_look.2.1 80 = .ok (.aload_n 0, 1) := by decide +kernel
theorem d_Model_look_81 : decode m_Model_look.2.1 81 = .ok (.getfield 561, 3) := by decide +kernel
theorem d_Model_look_84 : decode m_Model_look.2.1 84 = .ok (.iaload, 1) := by decide +kernel
theorem d_Model_look_85 : decode m_Model_look.2.1 85 = .ok (.istore_n 1, 1) := by decide +kernel
theorem d_Model_look_86 : decode m_Model_look.2.1 86 = .ok (.iload_n 1, 1) := by decide +kernel
theorem d_Model_look_87 : decode m_Model_look.2.1 87 = .ok (.invokestatic 567, 3) := by decide +kernel
theorem d_Model_look_90 : decode m_Model_look.2.1 90 = .ok (.ifCond .eq 52, 3) := by decide +kernel
theorem d_Model_look_93 : decode m_Model_look.2.1 93 = .ok (.aload_n 0, 1) := by decide +kernel
theorem d_Model_look_94 : decode m_Model_look.2.1 94 = .ok (.aload_n 0, 1) := by decide +kernel
theorem d_Model_look_95 : decode m_Model_look.2.1 95 = .ok (.getfield 561, 3) := by decide +kernel
theorem d_Model_look_98 : decode m_Model_look.2.1 98 = .ok (.iconst 1, 1) := by decide +kernel
theorem d_Model_look_99 : decode m_Model_look.2.1 99 = .ok (.iadd, 1) := by decide +kernel
theorem d_Model_look_100 : decode m_Model_look.2.1 100 = .ok (.putfield 547, 3) := by decide +kernel
theorem d_Model_look_103 : decode m_Model_look.2.1 103 = .ok (.aload_n 0, 1) := by decide +kernel
theorem d_Model_look_104 : decode m_Model_look.2.1 104 = .ok (.iload_n 1, 1) := by decide +kernel
theorem d_Model_look_105 : decode m_Model_look.2.1 105 = .ok (.bipush 40, 2) := by decide +kernel
theorem d_Model_look_107 : decode m_Model_look.2.1 107 = .ok (.if_icmp .ne 7, 3) := by decide +kernel
theorem d_Model_look_110 : decode m_Model_look.2.1 110 = .ok (.iconst 5, 1) := by decide +kernel
theorem d_Model_look_111 : decode m_Model_look.2.1 111 = .ok (.goto 27, 3) := by decide +kernel
theorem d_Model_look_114 : decode m_Model_look.2.1 114 = .ok (.iload_n 1, 1) := by decide +kernel
theorem d_Model_look_115 : decode m_Model_look.2.1 115 = .ok (.bipush 41, 2) := by decide +kernel
theorem d_Model_look_117 : decode m_Model_look.2.1 117 = .ok (.if_icmp .ne 8, 3) := by decide +kernel
theorem d_Model_look_120 : decode m_Model_look.2.1 120 = .ok (.bipush 6, 2) := by decide +kernel
theorem d_Model_look_122 : decode m_Model_look.2.1 122 = .ok (.goto 16, 3) := by decide +kernel
theorem d_Model_look_125 : decode m_Model_look.2.1 125 = .ok (.iload_n 1, 1) := by decide +kernel
theorem d_Model_look_126 : decode m_Model_look.2.1 126 = .ok (.bipush 91, 2) := by decide +kernel
theorem d_Model_look_128 : decode m_Model_look.2.1 128 = .ok (.if_icmp .ne 8, 3) := by decide +kernel
theorem d_Model_look_131 : decode m_Model_look.2.1 131 = .ok (.bipush 7, 2) := by decide +kernel
theorem d_Model_look_133 : decode m_Model_look.2.1 133 = .ok (.goto 5, 3) := by decide +kernel
theorem d_Model_look_136 : decode m_Model_look.2.1 136 = .ok (.bipush 8, 2) := by decide +kernel
theorem d_Model_look_138 : decode m_Model_look.2.1 138 = .ok (.putfield 550, 3) := by decide +kernel
theorem d_Model_look_141 : decode m_Model_look.2.1 141 = .ok (.return_, 1) := by decide +kernel
theorem d_Model_look_142 : decode m_Model_look.2.1 142 = .ok (.aload_n 0, 1) := by decide +kernel
theorem d_Model_look_143 : decode m_Model_look.2.1 143 = .ok (.getfield 547, 3) := by decide +kernel
theorem d_Model_look_146 : decode m_Model_look.2.1 146 = .ok (.aload_n 0, 1) := by decide +kernel
theorem d_Model_look_147 : decode m_Model_look.2.1 147 = .ok (.getfield 564, 3) := by decide +kernel
theorem d_Model_look_150 : decode m_Model_look.2.1 150 = .ok (.if_icmp .ge 45, 3) := by decide +kernel
theorem d_Model_look_153 : decode m_Model_look.2.1 153 = .ok (.aload_n 0, 1) := by decide +kernel
theorem d_Model_look_154 : decode m_Model_look.2.1 154 = .ok (.getfield 23, 3) := by decide +kernel
theorem d_Model_look_157 : decode m_Model_look.2.1 157 = .ok (.aload_n 0, 1) := by decide +kernel
theorem d_Model_look_158 : decode m_Model_look.2.1 158 = .ok (.getfield 547, 3) := by decide +kernel
theorem d_Model_look_161 : decode m_Model_look.2.1 161 = .ok (.iaload, 1) := by decide +kernel
theorem d_Model_look_162 : decode m_Model_look.2.1 162 = .ok (.bipush 32, 2) := by decide +kernel
theorem d_Model_look_164 : decode m_Model_look.2.1 164 = .ok (.if_icmp .le 31, 3) := by decide +kernel
theorem d_Model_look_167 : decode m_Model_look.2.1 167 = .ok (.aload_n 0, 1) := by decide +kernel
theorem d_Model_look_168 : decode m_Model_look.2.1 168 = .ok (.getfield 23, 3) := by decide +kernel
theorem d_Model_look_171 : decode m_Model_look.2.1 171 = .ok (.aload_n 0, 1) := by decide +kernel
theorem d_Model_look_172 : decode m_Model_look.2.1 172 = .ok (.getfield 547, 3) := by decide +kernel
theorem d_Model_look_175 : decode m_Model_look.2.1 175 = .ok (.iaload, 1) := by decide +kernel
theorem d_Model_look_176 : decode m_Model_look.2.1 176 = .ok (.invokestatic 567, 3) := by decide +kernel
theorem d_Model_look_179 : decode m_Model_look.2.1 179 = .ok (.ifCond .ne 16, 3) := by decide +kernel
theorem d_Model_look_182 : decode m_Model_look.2.1 182 = .ok (.aload_n 0, 1) := by decide +kernel
theorem d_Model_look_183 : decode m_Model_look.2.1 183 = .ok (.dup, 1) := by decide +kernel
theorem d_Model_look_184 : decode m_Model_look.2.1 184 = .ok (.getfield 547, 3) := by decide +kernel
theorem d_Model_look_187 : decode m_Model_look.2.1 187 = .ok (.iconst 1, 1) := by decide +kernel
theorem d_Model_look_188 : decode m_Model_look.2.1 188 = .ok (.iadd, 1) := by decide +kernel
theorem d_Model_look_189 : decode m_Model_look.2.1 189 = .ok (.putfield 547, 3) := by decide +kernel
theorem d_Model_look_192 : decode m_Model_look.2.1 192 = .ok (.goto (-50), 3) := by decide +kernel
theorem d_Model_look_195 : decode m_Model_look.2.1 195 = .ok (.aload_n 0, 1) := by decide +kernel
theorem d_Model_look_196 : decode m_Model_look.2.1 196 = .ok (.invokevirtual 570, 3) := by decide +kernel
theorem d_Model_look_199 : decode m_Model_look.2.1 199 = .ok (.return_, 1) := by decide +kernel
theorem d_Model_takeTape_0 : decode m_Model_takeTape.2.1 0 = .ok (.iconst 0, 1) := by decide +kernel
theorem d_Model_takeTape_1 : decode m_Model_takeTape.2.1 1 = .ok (.istore_n 1, 1) := by decide +kernel
theorem d_Model_takeTape_2 : decode m_Model_takeTape.2.1 2 = .ok (.iload_n 1, 1) := by decide +kernel
theorem d_Model_takeTape_3 : decode m_Model_takeTape.2.1 3 = .ok (.aload_n 0, 1) := by decide +kernel
theorem d_Model_takeTape_4 : decode m_Model_takeTape.2.1 4 = .ok (.getfield 395, 3) := by decide +kernel
theorem d_Model_takeTape_7 : decode m_Model_takeTape.2.1 7 = .ok (.if_icmp .ge 21, 3) := by decide +kernel
theorem d_Model_takeTape_10 : decode m_Model_takeTape.2.1 10 = .ok (.aload_n 0, 1) := by decide +kernel
theorem d_Model_takeTape_11 : decode m_Model_takeTape.2.1 11 = .ok (.getfield 23, 3) := by decide +kernel
theorem d_Model_takeTape_14 : decode m_Model_takeTape.2.1 14 = .ok (.iload_n 1, 1) := by decide +kernel
theorem d_Model_takeTape_15 : decode m_Model_takeTape.2.1 15 = .ok (.aload_n 0, 1) := by decide +kernel
theorem d_Model_takeTape_16 : decode m_Model_takeTape.2.1 16 = .ok (.getfield 7, 3) := by decide +kernel
theorem d_Model_takeTape_19 : decode m_Model_takeTape.2.1 19 = .ok (.iload_n 1, 1) := by decide +kernel
theorem d_Model_takeTape_20 : decode m_Model_takeTape.2.1 20 = .ok (.iaload, 1) := by decide +kernel
theorem d_Model_takeTape_21 : decode m_Model_takeTape.2.1 21 = .ok (.iastore, 1) := by decide +kernel
theorem d_Model_takeTape_22 : decode m_Model_takeTape.2.1 22 = .ok (.iinc 1 1, 3) := by decide +kernel
theorem d_Model_takeTape_25 : decode m_Model_takeTape.2.1 25 = .ok (.goto (-23), 3) := by decide +kernel
theorem d_Model_takeTape_28 : decode m_Model_takeTape.2.1 28 = .ok (.aload_n 0, 1) := by decide +kernel
theorem d_Model_takeTape_29 : decode m_Model_takeTape.2.1 29 = .ok (.aload_n 0, 1) := by decide +kernel
theorem d_Model_takeTape_30 : decode m_Model_takeTape.2.1 30 = .ok (.getfield 395, 3) := by decide +kernel
theorem d_Model_takeTape_33 : decode m_Model_takeTape.2.1 33 = .ok (.putfield 564, 3) := by decide +kernel
theorem d_Model_takeTape_36 : decode m_Model_takeTape.2.1 36 = .ok (.aload_n 0, 1) := by decide +kernel
theorem d_Model_takeTape_37 : decode m_Model_takeTape.2.1 37 = .ok (.iconst 0, 1) := by decide +kernel
theorem d_Model_takeTape_38 : decode m_Model_takeTape.2.1 38 = .ok (.putfield 395, 3) := by decide +kernel
theorem d_Model_takeTape_41 : decode m_Model_takeTape.2.1 41 = .ok (.return_, 1) := by decide +kernel
theorem d_Model_beginText_0 : decode m_Model_beginText.2.1 0 = .ok (.aload_n 0, 1) := by decide +kernel
theorem d_Model_beginText_1 : decode m_Model_beginText.2.1 1 = .ok (.iconst 0, 1) := by decide +kernel
theorem d_Model_beginText_2 : decode m_Model_beginText.2.1 2 = .ok (.putfield 561, 3) := by decide +kernel
theorem d_Model_beginText_5 : decode m_Model_beginText.2.1 5 = .ok (.aload_n 0, 1) := by decide +kernel
theorem d_Model_beginText_6 : decode m_Model_beginText.2.1 6 = .ok (.iconst 0, 1) := by decide +kernel
theorem d_Model_beginText_7 : decode m_Model_beginText.2.1 7 = .ok (.putfield 382, 3) := by decide +kernel
theorem d_Model_beginText_10 : decode m_Model_beginText.2.1 10 = .ok (.aload_n 0, 1) := by decide +kernel
theorem d_Model_beginText_11 : decode m_Model_beginText.2.1 11 = .ok (.iconst (-1), 1) := by decide +kernel
theorem d_Model_beginText_12 : decode m_Model_beginText.2.1 12 = .ok (.putfield 385, 3) := by decide +kernel
theorem d_Model_beginText_15 : decode m_Model_beginText.2.1 15 = .ok (.aload_n 0, 1) := by decide +kernel
theorem d_Model_beginText_16 : decode m_Model_beginText.2.1 16 = .ok (.aload_n 0, 1) := by decide +kernel
theorem d_Model_beginText_17 : decode m_Model_beginText.2.1 17 = .ok (.getfield 576, 3) := by decide +kernel
theorem d_Model_beginText_20 : decode m_Model_beginText.2.1 20 = .ok (.putfield 428, 3) := by decide +kernel
theorem d_Model_beginText_23 : decode m_Model_beginText.2.1 23 = .ok (.return_, 1) := by decide +kernel
theorem d_Model_endText_0 : decode m_Model_endText.2.1 0 = .ok (.aload_n 0, 1) := by decide +kernel
theorem d_Model_endText_1 : decode m_Model_endText.2.1 1 = .ok (.invokevirtual 579, 3) := by decide +kernel
theorem d_Model_endText_4 : decode m_Model_endText.2.1 4 = .ok (.aload_n 0, 1) := by decide +kernel
theorem d_Model_endText_5 : decode m_Model_endText.2.1 5 = .ok (.getfield 382, 3) := by decide +kernel
theorem d_Model_endText_8 : decode m_Model_endText.2.1 8 = .ok (.ifCond .ne 42, 3) := by decide +kernel
theorem d_Model_endText_11 : decode m_Model_endText.2.1 11 = .ok (.aload_n 0, 1) := by decide +kernel
theorem d_Model_endText_12 : decode m_Model_endText.2.1 12 = .ok (.getfield 550, 3) := by decide +kernel
theorem d_Model_endText_15 : decode m_Model_endText.2.1 15 = .ok (.ifCond .eq 35, 3) := by decide +kernel
theorem d_Model_endText_18 : decode m_Model_endText.2.1 18 = .ok (.aload_n 0, 1) := by decide +kernel
theorem d_Model_endText_19 : decode m_Model_endText.2.1 19 = .ok (.aload_n 0, 1) := by decide +kernel
theorem d_Model_endText_20 : decode m_Model_endText.2.1 20 = .ok (.getfield 550, 3) := by decide +kernel
theorem d_Model_endText_23 : decode m_Model_endText.2.1 23 = .ok (.bipush 9, 2) := by decide +kernel
theorem d_Model_endText_25 : decode m_Model_endText.2.1 25 = .ok (.if_icmp .ne 7, 3) := by decide +kernel
theorem d_Model_endText_28 : decode m_Model_endText.2.1 28 = .ok (.iconst 1, 1) := by decide +kernel
theorem d_Model_endText_29 : decode m_Model_endText.2.1 29 = .ok (.goto 18, 3) := by decide +kernel
theorem d_Model_endText_32 : decode m_Model_endText.2.1 32 = .ok (.aload_n 0, 1) := by decide +kernel
theorem d_Model_endText_33 : decode m_Model_endText.2.1 33 = .ok (.getfield 550, 3) := by decide +kernel
theorem d_Model_endText_36 : decode m_Model_endText.2.1 36 = .ok (.bipush 10, 2) := by decide +kernel
theorem d_Model_endText_38 : decode m_Model_endText.2.1 38 = .ok (.if_icmp .ne 7, 3) := by decide +kernel
theorem d_Model_endText_41 : decode m_Model_endText.2.1 41 = .ok (.iconst 2, 1) := by decide +kernel
theorem d_Model_endText_42 : decode m_Model_endText.2.1 42 = .ok (.goto 5, 3) := by decide +kernel
theorem d_Model_endText_45 : decode m_Model_endText.2.1 45 = .ok (.bipush 9, 2) := by decide +kernel
theorem d_Model_endText_47 : decode m_Model_endText.2.1 47 = .ok (.invokevirtual 573, 3) := by decide +kernel
theorem d_Model_endText_50 : decode m_Model_endText.2.1 50 = .ok (.return_, 1) := by decide +kernel
/-- only the token at hand may have changed -/
def FrT (M : Nat) (I I' : M32) : Prop := (∀ a, a ≠ M → I' a = I a) ∧ ∀ k, k ≠ 12 → k ≠ 13 → k ≠ 14 → k ≠ 15 → I' M k = I M k
def FrZ (M : Nat) (L L' : M64) : Prop := ∀ a k, ¬ (a = M ∧ k = 16) → L' a k = L a k
theorem FrT.rf {M : Nat} {I : M32} : FrT M I I := ⟨fun _ _ => rfl, fun _ _ _ _ _ => rfl⟩
theorem FrT.tr {M : Nat} {I J K : M32} (h : FrT M I J) (g : FrT M J K) : FrT M I K := ⟨fun a e => (g.1 a e).trans (h.1 a e), fun k a b c e => (g.2 k a b c e).trans (h.2 k a b c e)⟩
theorem FrT.up {M k : Nat} {I : M32} {v : Int32} (hk : 12 ≤ k ∧ k ≤ 15) : FrT M I (up2 I M k v) := ⟨fun a e => up2_row _ _ e, fun j a b c e => up2_k _ _ _ (by omega)⟩
theorem TxM.fr {M N : Nat} {t : Nat → Nat} {I J : M32} (h : TxM I M N t) (g : FrT M I J) : TxM J M N t := ⟨h.1, fun j hj => by rw [g.1 _ (by omega)]; exact h.2 j hj⟩
theorem FrZ.rf {M : Nat} {L : M64} : FrZ M L L := fun _ _ _ => rfl
theorem FrZ.tr {M : Nat} {L L1 L2 : M64} (h : FrZ M L L1) (g : FrZ M L1 L2) : FrZ M L L2 := fun a k e => (g a k e).trans (h a k e)
theorem FrZ.up {M : Nat} {L : M64} {v : Int64} : FrZ M L (up2 L M 16 v) := fun a k h => by
  by_cases e1 : a = M
  · subst e1; rw [up2_k _ _ _ (fun e2 => h ⟨rfl, e2⟩)]
  · rw [up2_row _ _ e1]
/-- the token at hand of the reference: read from place a on -/
def TkM (M N a : Nat) (t : Nat → Nat) (I : M32) (L : M64) : Prop := ∃ (b e : Nat) (kind : Int) (x : Nat) (v : Int), TokR t N a b e kind x v ∧ I M 12 = cI b ∧ I M 13 = cI (tkc kind) ∧ I M 14 = cI b ∧ I M 15 = cI e ∧ (0 ≤ kind ∧ kind < 100 ∨ kind = 101 ∨ kind = 102 → L M 16 = cL x)
theorem c_Model_look (d : Nat) {M N a : Nat} {t : Nat → Nat} {I : M32} {L : M64} {R : MR} {T : SH} (hd : 3 ≤ d) (hM : MdlS M R T) (hV : TxM I M N t) (hN : I M 11 = cI N) (ha : I M 12 = cI a) (haN : a ≤ N) :
    Call m_Model_look y_Model_look d 0 0 [.ref M] I L R T (rV fun I' L' R' T' => TkM M N a t I' L' ∧ FrT M I I' ∧ FrZ M L L' ∧ R' = R ∧ T' = T) := by
  refine Call.ofRun (by decide) ⟨rfl, rfl⟩ (Nat.le_of_ble_eq_true rfl) ?_
  refine Run.gen fun Q hQ => ?_
  have hN4 := hV.1
  have main : ∀ (b : Nat) (J : M32), SkR t N a b → FrT M I J → J M 12 = cI b → Run m_Model_look d 0 0 38 [(0, .ref M)] [] J L R T Q := by
    intro b J hsk hFJ hJ2
    have hbN := hsk.2.1
    refine q_aload_n d_Model_look_38 rfl ?_
    refine q_aload_n d_Model_look_39 rfl ?_
    refine j_getI (v := (cI (b : Int))) d_Model_look_40 fl_Model_561 hM.1 ⟨rfl, by decide⟩ hJ2 ?_
    refine q_putI d_Model_look_43 fl_Model_544 hM.1 ⟨rfl, by decide, rfl, rfl⟩ ?_
    refine q_aload_n d_Model_look_46 rfl ?_
    refine q_aload_n d_Model_look_47 rfl ?_
    refine j_getI (v := (cI (b : Int))) d_Model_look_48 fl_Model_561 hM.1 ⟨rfl, by decide⟩ ((up2_k _ _ _ (by omega)).trans (hJ2)) ?_
    refine q_putI d_Model_look_51 fl_Model_547 hM.1 ⟨rfl, by decide, rfl, rfl⟩ ?_
    refine q_aload_n d_Model_look_54 rfl ?_
    refine j_lconst (z := 0) d_Model_look_55 (by decide) ?_
    refine q_putL d_Model_look_56 fl_Model_557 hM.1 ⟨rfl, by decide, rfl, rfl⟩ ?_
    refine q_aload_n d_Model_look_59 rfl ?_
    refine j_getI (v := (cI (b : Int))) d_Model_look_60 fl_Model_561 hM.1 ⟨rfl, by decide⟩ ((up2_k _ _ _ (by omega)).trans ((up2_k _ _ _ (by omega)).trans (hJ2))) ?_
    refine q_aload_n d_Model_look_63 rfl ?_
    refine j_getI (v := (cI (N : Int))) d_Model_look_64 fl_Model_564 hM.1 ⟨rfl, by decide⟩ ((up2_k _ _ _ (by omega)).trans ((up2_k _ _ _ (by omega)).trans ((by rw [hFJ.2 11 (by decide) (by decide) (by decide) (by decide)]; exact hN)))) ?_
    refine j_icmp_ne (tgt := 76) d_Model_look_67 (by decide) (by omega) (by omega) (fun h1 => ?_) (fun h1 => ?_)
    rotate_left
    · skip
      refine q_aload_n d_Model_look_70 rfl ?_
      refine j_iconst d_Model_look_71 ?_
      refine q_putI d_Model_look_72 fl_Model_550 hM.1 ⟨rfl, by decide, rfl, rfl⟩ ?_
      refine q_return d_Model_look_75 rfl ?_
      refine hQ _ _ _ _ _ ?_
      exact ⟨rfl, ⟨b, b, 107, 0, 0, ⟨hsk, Or.inl ⟨by omega, rfl, rfl⟩⟩, by rw [up2_k _ _ _ (by decide), up2_k _ _ _ (by decide), up2_k _ _ _ (by decide)]; exact hJ2, by rw [up2_s]; rfl, by rw [up2_k _ _ _ (by decide), up2_k _ _ _ (by decide), up2_s], by rw [up2_k _ _ _ (by decide), up2_s], fun h => by omega⟩, ((hFJ.tr (FrT.up (by decide))).tr (FrT.up (by decide))).tr (FrT.up (by decide)), FrZ.up, rfl, rfl⟩
    generalize hJ1 : (up2 (up2 J M 14 (cI (b : Int))) M 15 (cI (b : Int))) = J1
    generalize hL1 : (up2 L M 16 (cL 0)) = L1
    have hF1 : FrT M I J1 := by rw [← hJ1]; exact (hFJ.tr (FrT.up (by decide))).tr (FrT.up (by decide))
    have hLL : FrZ M L L1 := by rw [← hL1]; exact FrZ.up
    have hJ12 : J1 M 12 = cI b := by rw [← hJ1, up2_k _ _ _ (by decide), up2_k _ _ _ (by decide)]; exact hJ2
    have hJ14 : J1 M 14 = cI b := by rw [← hJ1, up2_k _ _ _ (by decide), up2_s]
    have hJ15 : J1 M 15 = cI b := by rw [← hJ1, up2_s]
    have hJ11 : J1 M 11 = cI N := by rw [hF1.2 11 (by decide) (by decide) (by decide) (by decide)]; exact hN
    have hV1 := hV.fr hF1
    have tb := hV1.2 b (by omega)
    refine q_aload_n d_Model_look_76 rfl ?_
    refine q_getR d_Model_look_77 fl_Model_23 hM.1 ⟨rfl, by decide⟩ (mR10 hM) ?_
    refine q_aload_n d_Model_look_80 rfl ?_
    refine j_getI (v := (cI (b : Int))) d_Model_look_81 fl_Model_561 hM.1 ⟨rfl, by decide⟩ hJ12 ?_
    refine j_iald (j := b) (v := (cI (t b : Int))) d_Model_look_84 (mT10 hM) (mN10 hM) (by omega) (by omega) (by omega) tb.2 ?_
    refine q_istore_n (lv' := [(1, .int (cI (t b : Int))), (0, .ref M)]) d_Model_look_85 (by decide) rfl ?_
    refine q_iload_n d_Model_look_86 rfl ?_
    refine q_callS (rc := 0) (rs := 0) (rest := []) d_Model_look_87 ml_Model_567 ok_Model_isBracket (c_Model_isBracket (d - 1) tb.1) rfl rfl (by omega) (Nat.le_of_ble_eq_true rfl) (kp_I ?_) kt_I
    refine j_ifb_eq (tgt := 142) d_Model_look_90 (by decide) (fun h2 => ?_) (fun h2 => ?_)
    rotate_left
    · skip
      refine q_aload_n d_Model_look_93 rfl ?_
      refine q_aload_n d_Model_look_94 rfl ?_
      refine j_getI (v := (cI (b : Int))) d_Model_look_95 fl_Model_561 hM.1 ⟨rfl, by decide⟩ hJ12 ?_
      refine j_iconst d_Model_look_98 ?_
      refine j_iadd d_Model_look_99 ?_
      refine q_putI d_Model_look_100 fl_Model_547 hM.1 ⟨rfl, by decide, rfl, rfl⟩ ?_
      refine q_aload_n d_Model_look_103 rfl ?_
      refine q_iload_n d_Model_look_104 rfl ?_
      refine j_bipush d_Model_look_105 (by decide) ?_
      suffices J : ∀ (u : Int), (((¬ (t b : Int) = 40) ∧ (¬ (t b : Int) = 41) ∧ (¬ (t b : Int) = 91) ∧ u = 8) ∨ ((¬ (t b : Int) = 40) ∧ (¬ (t b : Int) = 41) ∧ ((t b : Int) = 91) ∧ u = 7) ∨ ((¬ (t b : Int) = 40) ∧ ((t b : Int) = 41) ∧ u = 6) ∨ (((t b : Int) = 40) ∧ u = 5)) → Run m_Model_look d 0 0 138 [(0, .ref M), (1, .int (cI (t b : Int)))] [.int (cI u), .ref M] (up2 J1 M 15 (cI ((b : Int) + 1))) L1 R T Q by
        refine j_icmp_ne (tgt := 114) d_Model_look_107 (by decide) (by omega) (by omega) (fun hp1 => ?_) (fun hp1 => ?_)
        · refine q_iload_n d_Model_look_114 rfl ?_
          refine j_bipush d_Model_look_115 (by decide) ?_
          refine j_icmp_ne (tgt := 125) d_Model_look_117 (by decide) (by omega) (by omega) (fun hp2 => ?_) (fun hp2 => ?_)
          · refine q_iload_n d_Model_look_125 rfl ?_
            refine j_bipush d_Model_look_126 (by decide) ?_
            refine j_icmp_ne (tgt := 136) d_Model_look_128 (by decide) (by omega) (by omega) (fun hp3 => ?_) (fun hp3 => ?_)
            · refine j_bipush d_Model_look_136 (by decide) ?_
              refine Run.lv (lv' := [(0, .ref M), (1, .int (cI (t b : Int)))]) (by intro q hq; simp only [List.mem_cons, List.not_mem_nil, or_false] at hq ⊢; rcases hq with rfl | rfl <;> simp) ?_
              exact J _ (Or.inl ⟨hp1, hp2, hp3, rfl⟩)
            · refine j_bipush d_Model_look_131 (by decide) ?_
              refine q_goto (tgt := 138) d_Model_look_133 (by decide) ?_
              refine Run.lv (lv' := [(0, .ref M), (1, .int (cI (t b : Int)))]) (by intro q hq; simp only [List.mem_cons, List.not_mem_nil, or_false] at hq ⊢; rcases hq with rfl | rfl <;> simp) ?_
              exact J _ (Or.inr (Or.inl ⟨hp1, hp2, hp3, rfl⟩))
          · refine j_bipush d_Model_look_120 (by decide) ?_
            refine q_goto (tgt := 138) d_Model_look_122 (by decide) ?_
            refine Run.lv (lv' := [(0, .ref M), (1, .int (cI (t b : Int)))]) (by intro q hq; simp only [List.mem_cons, List.not_mem_nil, or_false] at hq ⊢; rcases hq with rfl | rfl <;> simp) ?_
            exact J _ (Or.inr (Or.inr (Or.inl ⟨hp1, hp2, rfl⟩)))
        · refine j_iconst d_Model_look_110 ?_
          refine q_goto (tgt := 138) d_Model_look_111 (by decide) ?_
          refine Run.lv (lv' := [(0, .ref M), (1, .int (cI (t b : Int)))]) (by intro q hq; simp only [List.mem_cons, List.not_mem_nil, or_false] at hq ⊢; rcases hq with rfl | rfl <;> simp) ?_
          exact J _ (Or.inr (Or.inr (Or.inr ⟨hp1, rfl⟩)))
      intro u hu
      refine q_putI d_Model_look_138 fl_Model_550 hM.1 ⟨rfl, by decide, rfl, rfl⟩ ?_
      refine q_return d_Model_look_141 rfl ?_
      refine hQ _ _ _ _ _ ?_
      exact ⟨rfl, ⟨b, b + 1, (if t b = 40 then 103 else if t b = 41 then 104 else if t b = 91 then 105 else 106), 0, 0, ⟨hsk, Or.inr (Or.inl ⟨by omega, h2, rfl, rfl⟩)⟩, by rw [up2_k _ _ _ (by decide), up2_k _ _ _ (by decide)]; exact hJ12, by rw [up2_s]; congr 1; unfold tkc; (repeat' split) <;> omega, by rw [up2_k _ _ _ (by decide), up2_k _ _ _ (by decide)]; exact hJ14, by rw [up2_k _ _ _ (by decide), up2_s]; simp, fun h => by (repeat' split at h) <;> omega⟩, (hF1.tr (FrT.up (by decide))).tr (FrT.up (by decide)), hLL, rfl, rfl⟩
    have word : ∀ (e : Nat) (K : M32), WeR t N b e → FrT M J1 K → K M 12 = cI b → K M 14 = cI b → K M 15 = cI e → Run m_Model_look d 0 0 195 [(0, .ref M)] [] K L1 R T Q := by
      intro e K hwe hFK hK2 hK4 hK5
      obtain ⟨hbe, heN, -, -⟩ := id hwe
      refine q_aload_n d_Model_look_195 rfl ?_
      refine q_callV (ci := 17) (rc := 0) (rs := 0) (rest := []) d_Model_look_196 ml_Model_570 ok_Model_classify rfl hM.1 (by decide) (c_Model_classify (d - 1) (by omega) hM (hV1.fr hFK) hK4 hK5 hbe heN) rfl rfl (by omega) (Nat.le_of_ble_eq_true rfl) (kr_V (fun I2 L2 R2 T2 h => ?_)) kt_V
      obtain ⟨kind, x, hcl, hI2, hx, hL2, hR2, hT2⟩ := h
      refine q_return d_Model_look_199 rfl ?_
      refine hQ _ _ _ _ _ ?_
      refine ⟨rfl, ⟨b, e, kind, x, (if t b = 45 then -(dvF t (b + 1) (e - (b + 1)) : Int) else (dvF t b (e - b) : Int)), ⟨hsk, ?_⟩, by rw [hI2, up2_k _ _ _ (by decide)]; exact hK2, by rw [hI2, up2_s], by rw [hI2, up2_k _ _ _ (by decide)]; exact hK4, by rw [hI2, up2_k _ _ _ (by decide)]; exact hK5, hx⟩, by rw [hI2]; exact (hF1.tr hFK).tr (FrT.up (by decide)), hLL.tr hL2, hR2, hT2⟩
      rcases hcl with ⟨hc, bad, hr, hk⟩ | ⟨hc, hr⟩
      · exact Or.inr (Or.inr (Or.inl ⟨by omega, h2, hwe, hc, bad, hr, hk, fun _ => rfl⟩))
      · exact Or.inr (Or.inr (Or.inr ⟨by omega, h2, hwe, hc, hr⟩))
    have scan : ∀ (f k : Nat) (K : M32), N - k < f → b ≤ k → k ≤ N → (∀ j, b < j → j < k → 32 < t j ∧ ¬ alone (t j)) → FrT M J1 K → K M 12 = cI b → K M 14 = cI b → K M 15 = cI k → Run m_Model_look d 0 0 142 [(0, .ref M)] [] K L1 R T Q := by
      intro f
      induction f with
      | zero => intro k K h; omega
      | succ f ih =>
      intro k K hf hbk hk hall hFK hK2 hK4 hK5
      have hVK := hV1.fr hFK
      refine q_aload_n d_Model_look_142 rfl ?_
      refine j_getI (v := (cI (k : Int))) d_Model_look_143 fl_Model_547 hM.1 ⟨rfl, by decide⟩ hK5 ?_
      refine q_aload_n d_Model_look_146 rfl ?_
      refine j_getI (v := (cI (N : Int))) d_Model_look_147 fl_Model_564 hM.1 ⟨rfl, by decide⟩ (by rw [hFK.2 11 (by decide) (by decide) (by decide) (by decide)]; exact hJ11) ?_
      refine j_icmp_ge (tgt := 195) d_Model_look_150 (by decide) (by omega) (by omega) (fun h3 => ?_) (fun h3 => ?_)
      · skip
        exact word k K ⟨by omega, hk, hall, fun h => by omega⟩ hFK hK2 hK4 hK5
      have tk := hVK.2 k (by omega)
      refine q_aload_n d_Model_look_153 rfl ?_
      refine q_getR d_Model_look_154 fl_Model_23 hM.1 ⟨rfl, by decide⟩ (mR10 hM) ?_
      refine q_aload_n d_Model_look_157 rfl ?_
      refine j_getI (v := (cI (k : Int))) d_Model_look_158 fl_Model_547 hM.1 ⟨rfl, by decide⟩ hK5 ?_
      refine j_iald (j := k) (v := (cI (t k : Int))) d_Model_look_161 (mT10 hM) (mN10 hM) (by omega) (by omega) (by omega) ((hVK.2 k (by omega)).2) ?_
      refine j_bipush d_Model_look_162 (by decide) ?_
      refine j_icmp_le (tgt := 195) d_Model_look_164 (by decide) (by omega) (by omega) (fun h4 => ?_) (fun h4 => ?_)
      · skip
        have hkb : b ≠ k := fun e => by have := hsk.2.2.2 (by omega); subst e; omega
        exact word k K ⟨by omega, hk, hall, fun _ => Or.inl (by omega)⟩ hFK hK2 hK4 hK5
      refine q_aload_n d_Model_look_167 rfl ?_
      refine q_getR d_Model_look_168 fl_Model_23 hM.1 ⟨rfl, by decide⟩ (mR10 hM) ?_
      refine q_aload_n d_Model_look_171 rfl ?_
      refine j_getI (v := (cI (k : Int))) d_Model_look_172 fl_Model_547 hM.1 ⟨rfl, by decide⟩ hK5 ?_
      refine j_iald (j := k) (v := (cI (t k : Int))) d_Model_look_175 (mT10 hM) (mN10 hM) (by omega) (by omega) (by omega) ((hVK.2 k (by omega)).2) ?_
      refine q_callS (rc := 0) (rs := 0) (rest := []) d_Model_look_176 ml_Model_567 ok_Model_isBracket (c_Model_isBracket (d - 1) tk.1) rfl rfl (by omega) (Nat.le_of_ble_eq_true rfl) (kp_I ?_) kt_I
      refine j_ifb_ne (tgt := 195) d_Model_look_179 (by decide) (fun h5 => ?_) (fun h5 => ?_)
      · skip
        have hkb : b ≠ k := fun e => by subst e; exact h2 h5
        exact word k K ⟨by omega, hk, hall, fun _ => Or.inr h5⟩ hFK hK2 hK4 hK5
      refine q_aload_n d_Model_look_182 rfl ?_
      refine q_dup d_Model_look_183 rfl ?_
      refine j_getI (v := (cI (k : Int))) d_Model_look_184 fl_Model_547 hM.1 ⟨rfl, by decide⟩ hK5 ?_
      refine j_iconst d_Model_look_187 ?_
      refine j_iadd d_Model_look_188 ?_
      refine q_putI d_Model_look_189 fl_Model_547 hM.1 ⟨rfl, by decide, rfl, rfl⟩ ?_
      refine q_goto (tgt := 142) d_Model_look_192 (by decide) ?_
      exact ih (k + 1) _ (by omega) (by omega) (by omega) (fun j h1 h2 => if q : j = k then (by subst q; exact ⟨by omega, h5⟩) else hall j h1 (by omega)) (hFK.tr (FrT.up (by decide))) (by rw [up2_k _ _ _ (by decide)]; exact hK2) (by rw [up2_k _ _ _ (by decide)]; exact hK4) (by rw [up2_s]; simp)
    refine Run.lv (lv' := [(0, .ref M)]) (by intro q hq; simp only [List.mem_cons, List.not_mem_nil, or_false] at hq ⊢; subst hq; simp) ?_
    exact scan (N - b + 1) b J1 (by omega) (Nat.le_refl _) (by omega) (fun j h1 h2 => by omega) FrT.rf hJ12 hJ14 hJ15
  have skip : ∀ (f k : Nat) (J : M32), N - k < f → a ≤ k → k ≤ N → (∀ j, a ≤ j → j < k → t j ≤ 32) → FrT M I J → J M 12 = cI k → Run m_Model_look d 0 0 0 [(0, .ref M)] [] J L R T Q := by
    intro f
    induction f with
    | zero => intro k J h; omega
    | succ f ih =>
    intro k J hf hak hk hall hFJ hJ2
    have hVJ := hV.fr hFJ
    refine q_aload_n d_Model_look_0 rfl ?_
    refine j_getI (v := (cI (k : Int))) d_Model_look_1 fl_Model_561 hM.1 ⟨rfl, by decide⟩ hJ2 ?_
    refine q_aload_n d_Model_look_4 rfl ?_
    refine j_getI (v := (cI (N : Int))) d_Model_look_5 fl_Model_564 hM.1 ⟨rfl, by decide⟩ (by rw [hFJ.2 11 (by decide) (by decide) (by decide) (by decide)]; exact hN) ?_
    refine j_icmp_ge (tgt := 38) d_Model_look_8 (by decide) (by omega) (by omega) (fun h1 => ?_) (fun h1 => ?_)
    · skip
      exact main k J ⟨hak, hk, hall, fun h => by omega⟩ hFJ hJ2
    have tk := hVJ.2 k (by omega)
    refine q_aload_n d_Model_look_11 rfl ?_
    refine q_getR d_Model_look_12 fl_Model_23 hM.1 ⟨rfl, by decide⟩ (mR10 hM) ?_
    refine q_aload_n d_Model_look_15 rfl ?_
    refine j_getI (v := (cI (k : Int))) d_Model_look_16 fl_Model_561 hM.1 ⟨rfl, by decide⟩ hJ2 ?_
    refine j_iald (j := k) (v := (cI (t k : Int))) d_Model_look_19 (mT10 hM) (mN10 hM) (by omega) (by omega) (by omega) ((hVJ.2 k (by omega)).2) ?_
    refine j_bipush d_Model_look_20 (by decide) ?_
    refine j_icmp_gt (tgt := 38) d_Model_look_22 (by decide) (by omega) (by omega) (fun h2 => ?_) (fun h2 => ?_)
    · skip
      exact main k J ⟨hak, hk, hall, fun _ => by omega⟩ hFJ hJ2
    refine q_aload_n d_Model_look_25 rfl ?_
    refine q_dup d_Model_look_26 rfl ?_
    refine j_getI (v := (cI (k : Int))) d_Model_look_27 fl_Model_561 hM.1 ⟨rfl, by decide⟩ hJ2 ?_
    refine j_iconst d_Model_look_30 ?_
    refine j_iadd d_Model_look_31 ?_
    refine q_putI d_Model_look_32 fl_Model_561 hM.1 ⟨rfl, by decide, rfl, rfl⟩ ?_
    refine q_goto (tgt := 0) d_Model_look_35 (by decide) ?_
    exact ih (k + 1) _ (by omega) (by omega) (by omega) (fun j h1 h2 => if q : j = k then (by subst q; omega) else hall j h1 (by omega)) (hFJ.tr (FrT.up (by decide))) (by rw [up2_s]; simp)
  exact skip (N - a + 1) a I (by omega) (Nat.le_refl _) haN (fun j h1 h2 => by omega) FrT.rf ha
theorem c_Model_beginText (d : Nat) {M : Nat} {I : M32} {L : M64} {R : MR} {T : SH} (hM : MdlS M R T) : Call m_Model_beginText y_Model_beginText d 0 0 [.ref M] I L R T (rV fun I' L' R' T' => I' = up2 (up2 (up2 (up2 I M 12 (cI 0)) M 17 (cI 0)) M 18 (cI (-1))) M 7 (I M 6) ∧ L' = L ∧ R' = R ∧ T' = T) := by
  refine Call.ofRun (by decide) ⟨rfl, rfl⟩ (Nat.le_of_ble_eq_true rfl) ?_
  refine Run.gen fun Q hQ => ?_
  refine q_aload_n d_Model_beginText_0 rfl ?_
  refine j_iconst d_Model_beginText_1 ?_
  refine q_putI d_Model_beginText_2 fl_Model_561 hM.1 ⟨rfl, by decide, rfl, rfl⟩ ?_
  refine q_aload_n d_Model_beginText_5 rfl ?_
  refine j_iconst d_Model_beginText_6 ?_
  refine q_putI d_Model_beginText_7 fl_Model_382 hM.1 ⟨rfl, by decide, rfl, rfl⟩ ?_
  refine q_aload_n d_Model_beginText_10 rfl ?_
  refine j_iconst d_Model_beginText_11 ?_
  refine q_putI d_Model_beginText_12 fl_Model_385 hM.1 ⟨rfl, by decide, rfl, rfl⟩ ?_
  refine q_aload_n d_Model_beginText_15 rfl ?_
  refine q_aload_n d_Model_beginText_16 rfl ?_
  refine j_getI (v := (I M 6)) d_Model_beginText_17 fl_Model_576 hM.1 ⟨rfl, by decide⟩ ((up2_k _ _ _ (by omega)).trans ((up2_k _ _ _ (by omega)).trans (up2_k _ _ _ (by omega)))) ?_
  refine q_putI d_Model_beginText_20 fl_Model_428 hM.1 ⟨rfl, by decide, rfl, rfl⟩ ?_
  refine q_return d_Model_beginText_23 rfl ?_
  refine hQ _ _ _ _ _ ?_
  exact ⟨rfl, rfl, rfl, rfl, rfl⟩
/-- the tape of the reference becomes its text -/
theorem c_Model_takeTape (d : Nat) {M N : Nat} {I : M32} {L : M64} {R : MR} {T : SH} (hM : MdlS M R T) (hN : I M 2 = cI N) (hN4 : N ≤ 16384) : Call m_Model_takeTape y_Model_takeTape d 0 0 [.ref M] I L R T (rV fun I' L' R' T' => (I' M 11 = cI N ∧ I' M 2 = cI 0 ∧ (∀ j, j < N → I' (M + 5) j = I (M + 1) j) ∧ (∀ a, a ≠ M → a ≠ M + 5 → I' a = I a) ∧ ∀ k, k ≠ 11 → k ≠ 2 → I' M k = I M k) ∧ L' = L ∧ R' = R ∧ T' = T) := by
  refine Call.ofRun (by decide) ⟨rfl, rfl⟩ (Nat.le_of_ble_eq_true rfl) ?_
  refine Run.gen fun Q hQ => ?_
  refine j_iconst d_Model_takeTape_0 ?_
  refine q_istore_n (lv' := [(1, .int (cI 0)), (0, .ref M)]) d_Model_takeTape_1 (by decide) rfl ?_
  have loop : ∀ (f k : Nat) (z : Int) (J : M32), N - k < f → z = k → k ≤ N → (∀ j, j < k → J (M + 5) j = I (M + 1) j) → (∀ a, a ≠ M + 5 → J a = I a) → Run m_Model_takeTape d 0 0 2 [(0, .ref M), (1, .int (cI z))] [] J L R T Q := by
    intro f
    induction f with
    | zero => intro k z J h; omega
    | succ f ih =>
    intro k z J hf hz hk hJ5 hJ
    subst hz
    refine q_iload_n d_Model_takeTape_2 rfl ?_
    refine q_aload_n d_Model_takeTape_3 rfl ?_
    refine j_getI (v := (cI (N : Int))) d_Model_takeTape_4 fl_Model_395 hM.1 ⟨rfl, by decide⟩ (by rw [hJ M (by omega)]; exact hN) ?_
    refine j_icmp_ge (tgt := 28) d_Model_takeTape_7 (by decide) (by omega) (by omega) (fun h1 => ?_) (fun h1 => ?_)
    · skip
      obtain rfl : N = k := by omega
      refine q_aload_n d_Model_takeTape_28 rfl ?_
      refine q_aload_n d_Model_takeTape_29 rfl ?_
      refine j_getI (v := (cI (N : Int))) d_Model_takeTape_30 fl_Model_395 hM.1 ⟨rfl, by decide⟩ (by rw [hJ M (by omega)]; exact hN) ?_
      refine q_putI d_Model_takeTape_33 fl_Model_564 hM.1 ⟨rfl, by decide, rfl, rfl⟩ ?_
      refine q_aload_n d_Model_takeTape_36 rfl ?_
      refine j_iconst d_Model_takeTape_37 ?_
      refine q_putI d_Model_takeTape_38 fl_Model_395 hM.1 ⟨rfl, by decide, rfl, rfl⟩ ?_
      refine q_return d_Model_takeTape_41 rfl ?_
      refine hQ _ _ _ _ _ ?_
      exact ⟨rfl, ⟨by rw [up2_k _ _ _ (by decide), up2_s], by rw [up2_s], fun j hj => by rw [up2_a _ _ _ (by omega), up2_a _ _ _ (by omega)]; exact hJ5 j hj, fun a e1 e2 => by rw [up2_row _ _ e1, up2_row _ _ e1]; exact hJ a e2, fun q e1 e2 => by rw [up2_k _ _ _ e2, up2_k _ _ _ e1, hJ M (by omega)]⟩, rfl, rfl, rfl⟩
    · skip
      refine q_aload_n d_Model_takeTape_10 rfl ?_
      refine q_getR d_Model_takeTape_11 fl_Model_23 hM.1 ⟨rfl, by decide⟩ (mR10 hM) ?_
      refine q_iload_n d_Model_takeTape_14 rfl ?_
      refine q_aload_n d_Model_takeTape_15 rfl ?_
      refine q_getR d_Model_takeTape_16 fl_Model_7 hM.1 ⟨rfl, by decide⟩ (mR1 hM) ?_
      refine q_iload_n d_Model_takeTape_19 rfl ?_
      refine j_iald (j := k) (v := (J (M + 1) k)) d_Model_takeTape_20 (mT1 hM) (mN1 hM) (by omega) (by omega) (by omega) rfl ?_
      refine j_iast (j := k) d_Model_takeTape_21 (mT10 hM) (mN10 hM) (by omega) (by omega) (by omega) ?_
      refine j_iinc (lv' := [(1, .int (cI ((k : Int) + 1))), (0, .ref M)]) d_Model_takeTape_22 rfl (by decide) rfl ?_
      refine q_goto (tgt := 2) d_Model_takeTape_25 (by decide) ?_
      refine Run.lv (lv' := [(0, .ref M), (1, .int (cI ((k : Int) + 1)))]) (by intro q hq; simp only [List.mem_cons, List.not_mem_nil, or_false] at hq ⊢; rcases hq with rfl | rfl <;> simp) ?_
      refine ih (k + 1) _ _ (by omega) (by omega) (by omega) (fun j hj => ?_) (fun a e => by rw [up2_row _ _ e]; exact hJ a e)
      by_cases e : j = k
      · subst e; rw [up2_s, hJ _ (by omega)]
      · rw [up2_k _ _ _ e]; exact hJ5 j (by omega)
  refine Run.lv (lv' := [(0, .ref M), (1, .int (cI 0))]) (by intro q hq; simp only [List.mem_cons, List.not_mem_nil, or_false] at hq ⊢; rcases hq with rfl | rfl <;> simp) ?_
  exact loop (N + 1) 0 _ I (by omega) rfl (by omega) (fun j h => by omega) (fun _ _ => rfl)

