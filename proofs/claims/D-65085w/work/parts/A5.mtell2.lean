/-! ===== A5 THE REFERENCE PRINTS: cases ===== -/
theorem d_Model_tellCase_0 : decode m_Model_tellCase.2.1 0 = .ok (.aload_n 0, 1) := by decide +kernel
theorem d_Model_tellCase_1 : decode m_Model_tellCase.2.1 1 = .ok (.ldc2_w 476, 3) := by decide +kernel
theorem d_Model_tellCase_4 : decode m_Model_tellCase.2.1 4 = .ok (.invokevirtual 710, 3) := by decide +kernel
theorem d_Model_tellCase_7 : decode m_Model_tellCase.2.1 7 = .ok (.aload_n 0, 1) := by decide +kernel
theorem d_Model_tellCase_8 : decode m_Model_tellCase.2.1 8 = .ok (.aload_n 0, 1) := by decide +kernel
theorem d_Model_tellCase_9 : decode m_Model_tellCase.2.1 9 = .ok (.getfield 26, 3) := by decide +kernel
theorem d_Model_tellCase_12 : decode m_Model_tellCase.2.1 12 = .ok (.iload_n 1, 1) := by decide +kernel
theorem d_Model_tellCase_13 : decode m_Model_tellCase.2.1 13 = .ok (.iaload, 1) := by decide +kernel
theorem d_Model_tellCase_14 : decode m_Model_tellCase.2.1 14 = .ok (.bipush 8, 2) := by decide +kernel
theorem d_Model_tellCase_16 : decode m_Model_tellCase.2.1 16 = .ok (.if_icmp .ne 9, 3) := by decide +kernel
theorem d_Model_tellCase_19 : decode m_Model_tellCase.2.1 19 = .ok (.ldc2_w 478, 3) := by decide +kernel
theorem d_Model_tellCase_22 : decode m_Model_tellCase.2.1 22 = .ok (.goto 23, 3) := by decide +kernel
theorem d_Model_tellCase_25 : decode m_Model_tellCase.2.1 25 = .ok (.aload_n 0, 1) := by decide +kernel
theorem d_Model_tellCase_26 : decode m_Model_tellCase.2.1 26 = .ok (.getfield 26, 3) := by decide +kernel
theorem d_Model_tellCase_29 : decode m_Model_tellCase.2.1 29 = .ok (.iload_n 1, 1) := by decide +kernel
theorem d_Model_tellCase_30 : decode m_Model_tellCase.2.1 30 = .ok (.iaload, 1) := by decide +kernel
theorem d_Model_tellCase_31 : decode m_Model_tellCase.2.1 31 = .ok (.bipush 9, 2) := by decide +kernel
theorem d_Model_tellCase_33 : decode m_Model_tellCase.2.1 33 = .ok (.if_icmp .ne 9, 3) := by decide +kernel
theorem d_Model_tellCase_36 : decode m_Model_tellCase.2.1 36 = .ok (.ldc2_w 480, 3) := by decide +kernel
theorem d_Model_tellCase_39 : decode m_Model_tellCase.2.1 39 = .ok (.goto 6, 3) := by decide +kernel
theorem d_Model_tellCase_42 : decode m_Model_tellCase.2.1 42 = .ok (.ldc2_w 482, 3) := by decide +kernel
theorem d_Model_tellCase_45 : decode m_Model_tellCase.2.1 45 = .ok (.invokevirtual 710, 3) := by decide +kernel
theorem d_Model_tellCase_48 : decode m_Model_tellCase.2.1 48 = .ok (.aload_n 0, 1) := by decide +kernel
theorem d_Model_tellCase_49 : decode m_Model_tellCase.2.1 49 = .ok (.iconst 0, 1) := by decide +kernel
theorem d_Model_tellCase_50 : decode m_Model_tellCase.2.1 50 = .ok (.aload_n 0, 1) := by decide +kernel
theorem d_Model_tellCase_51 : decode m_Model_tellCase.2.1 51 = .ok (.getfield 48, 3) := by decide +kernel
theorem d_Model_tellCase_54 : decode m_Model_tellCase.2.1 54 = .ok (.iload_n 1, 1) := by decide +kernel
theorem d_Model_tellCase_55 : decode m_Model_tellCase.2.1 55 = .ok (.iaload, 1) := by decide +kernel
theorem d_Model_tellCase_56 : decode m_Model_tellCase.2.1 56 = .ok (.invokevirtual 713, 3) := by decide +kernel
theorem d_Model_tellCase_59 : decode m_Model_tellCase.2.1 59 = .ok (.aload_n 0, 1) := by decide +kernel
theorem d_Model_tellCase_60 : decode m_Model_tellCase.2.1 60 = .ok (.iconst 0, 1) := by decide +kernel
theorem d_Model_tellCase_61 : decode m_Model_tellCase.2.1 61 = .ok (.aload_n 0, 1) := by decide +kernel
theorem d_Model_tellCase_62 : decode m_Model_tellCase.2.1 62 = .ok (.getfield 42, 3) := by decide +kernel
theorem d_Model_tellCase_65 : decode m_Model_tellCase.2.1 65 = .ok (.iload_n 1, 1) := by decide +kernel
theorem d_Model_tellCase_66 : decode m_Model_tellCase.2.1 66 = .ok (.iaload, 1) := by decide +kernel
theorem d_Model_tellCase_67 : decode m_Model_tellCase.2.1 67 = .ok (.invokevirtual 713, 3) := by decide +kernel
theorem d_Model_tellCase_70 : decode m_Model_tellCase.2.1 70 = .ok (.aload_n 0, 1) := by decide +kernel
theorem d_Model_tellCase_71 : decode m_Model_tellCase.2.1 71 = .ok (.iconst 0, 1) := by decide +kernel
theorem d_Model_tellCase_72 : decode m_Model_tellCase.2.1 72 = .ok (.aload_n 0, 1) := by decide +kernel
theorem d_Model_tellCase_73 : decode m_Model_tellCase.2.1 73 = .ok (.getfield 39, 3) := by decide +kernel
theorem d_Model_tellCase_76 : decode m_Model_tellCase.2.1 76 = .ok (.iload_n 1, 1) := by decide +kernel
theorem d_Model_tellCase_77 : decode m_Model_tellCase.2.1 77 = .ok (.iaload, 1) := by decide +kernel
theorem d_Model_tellCase_78 : decode m_Model_tellCase.2.1 78 = .ok (.invokevirtual 713, 3) := by decide +kernel
theorem d_Model_tellCase_81 : decode m_Model_tellCase.2.1 81 = .ok (.aload_n 0, 1) := by decide +kernel
theorem d_Model_tellCase_82 : decode m_Model_tellCase.2.1 82 = .ok (.getfield 26, 3) := by decide +kernel
theorem d_Model_tellCase_85 : decode m_Model_tellCase.2.1 85 = .ok (.iload_n 1, 1) := by decide +kernel
theorem d_Model_tellCase_86 : decode m_Model_tellCase.2.1 86 = .ok (.iaload, 1) := by decide +kernel
theorem d_Model_tellCase_87 : decode m_Model_tellCase.2.1 87 = .ok (.bipush 10, 2) := by decide +kernel
theorem d_Model_tellCase_89 : decode m_Model_tellCase.2.1 89 = .ok (.if_icmp .ne 4, 3) := by decide +kernel
theorem d_Model_tellCase_92 : decode m_Model_tellCase.2.1 92 = .ok (.return_, 1) := by decide +kernel
theorem d_Model_tellCase_93 : decode m_Model_tellCase.2.1 93 = .ok (.aload_n 0, 1) := by decide +kernel
theorem d_Model_tellCase_94 : decode m_Model_tellCase.2.1 94 = .ok (.aload_n 0, 1) := by decide +kernel
theorem d_Model_tellCase_95 : decode m_Model_tellCase.2.1 95 = .ok (.getfield 29, 3) := by decide +kernel
theorem d_Model_tellCase_98 : decode m_Model_tellCase.2.1 98 = .ok (.iload_n 1, 1) := by decide +kernel
theorem d_Model_tellCase_99 : decode m_Model_tellCase.2.1 99 = .ok (.laload, 1) := by decide +kernel
theorem d_Model_tellCase_100 : decode m_Model_tellCase.2.1 100 = .ok (.invokevirtual 710, 3) := by decide +kernel
theorem d_Model_tellCase_103 : decode m_Model_tellCase.2.1 103 = .ok (.aload_n 0, 1) := by decide +kernel
theorem d_Model_tellCase_104 : decode m_Model_tellCase.2.1 104 = .ok (.aload_n 0, 1) := by decide +kernel
theorem d_Model_tellCase_105 : decode m_Model_tellCase.2.1 105 = .ok (.getfield 33, 3) := by decide +kernel
theorem d_Model_tellCase_108 : decode m_Model_tellCase.2.1 108 = .ok (.iload_n 1, 1) := by decide +kernel
theorem d_Model_tellCase_109 : decode m_Model_tellCase.2.1 109 = .ok (.laload, 1) := by decide +kernel
theorem d_Model_tellCase_110 : decode m_Model_tellCase.2.1 110 = .ok (.invokevirtual 710, 3) := by decide +kernel
theorem d_Model_tellCase_113 : decode m_Model_tellCase.2.1 113 = .ok (.aload_n 0, 1) := by decide +kernel
theorem d_Model_tellCase_114 : decode m_Model_tellCase.2.1 114 = .ok (.getfield 26, 3) := by decide +kernel
theorem d_Model_tellCase_117 : decode m_Model_tellCase.2.1 117 = .ok (.iload_n 1, 1) := by decide +kernel
theorem d_Model_tellCase_118 : decode m_Model_tellCase.2.1 118 = .ok (.iaload, 1) := by decide +kernel
theorem d_Model_tellCase_119 : decode m_Model_tellCase.2.1 119 = .ok (.bipush 8, 2) := by decide +kernel
theorem d_Model_tellCase_121 : decode m_Model_tellCase.2.1 121 = .ok (.if_icmp .ne 14, 3) := by decide +kernel
theorem d_Model_tellCase_124 : decode m_Model_tellCase.2.1 124 = .ok (.aload_n 0, 1) := by decide +kernel
theorem d_Model_tellCase_125 : decode m_Model_tellCase.2.1 125 = .ok (.aload_n 0, 1) := by decide +kernel
theorem d_Model_tellCase_126 : decode m_Model_tellCase.2.1 126 = .ok (.getfield 36, 3) := by decide +kernel
theorem d_Model_tellCase_129 : decode m_Model_tellCase.2.1 129 = .ok (.iload_n 1, 1) := by decide +kernel
theorem d_Model_tellCase_130 : decode m_Model_tellCase.2.1 130 = .ok (.laload, 1) := by decide +kernel
theorem d_Model_tellCase_131 : decode m_Model_tellCase.2.1 131 = .ok (.invokevirtual 710, 3) := by decide +kernel
theorem d_Model_tellCase_134 : decode m_Model_tellCase.2.1 134 = .ok (.return_, 1) := by decide +kernel
theorem d_Model_tellCase_135 : decode m_Model_tellCase.2.1 135 = .ok (.aload_n 0, 1) := by decide +kernel
theorem d_Model_tellCase_136 : decode m_Model_tellCase.2.1 136 = .ok (.bipush 32, 2) := by decide +kernel
theorem d_Model_tellCase_138 : decode m_Model_tellCase.2.1 138 = .ok (.invokevirtual 411, 3) := by decide +kernel
theorem d_Model_tellCase_141 : decode m_Model_tellCase.2.1 141 = .ok (.aload_n 0, 1) := by decide +kernel
theorem d_Model_tellCase_142 : decode m_Model_tellCase.2.1 142 = .ok (.bipush 91, 2) := by decide +kernel
theorem d_Model_tellCase_144 : decode m_Model_tellCase.2.1 144 = .ok (.invokevirtual 411, 3) := by decide +kernel
theorem d_Model_tellCase_147 : decode m_Model_tellCase.2.1 147 = .ok (.aload_n 0, 1) := by decide +kernel
theorem d_Model_tellCase_148 : decode m_Model_tellCase.2.1 148 = .ok (.getfield 61, 3) := by decide +kernel
theorem d_Model_tellCase_151 : decode m_Model_tellCase.2.1 151 = .ok (.iload_n 1, 1) := by decide +kernel
theorem d_Model_tellCase_152 : decode m_Model_tellCase.2.1 152 = .ok (.iaload, 1) := by decide +kernel
theorem d_Model_tellCase_153 : decode m_Model_tellCase.2.1 153 = .ok (.istore_n 2, 1) := by decide +kernel
theorem d_Model_tellCase_154 : decode m_Model_tellCase.2.1 154 = .ok (.iload_n 2, 1) := by decide +kernel
theorem d_Model_tellCase_155 : decode m_Model_tellCase.2.1 155 = .ok (.aload_n 0, 1) := by decide +kernel
theorem d_Model_tellCase_156 : decode m_Model_tellCase.2.1 156 = .ok (.getfield 61, 3) := by decide +kernel
theorem d_Model_tellCase_159 : decode m_Model_tellCase.2.1 159 = .ok (.iload_n 1, 1) := by decide +kernel
theorem d_Model_tellCase_160 : decode m_Model_tellCase.2.1 160 = .ok (.iaload, 1) := by decide +kernel
theorem d_Model_tellCase_161 : decode m_Model_tellCase.2.1 161 = .ok (.aload_n 0, 1) := by decide +kernel
theorem d_Model_tellCase_162 : decode m_Model_tellCase.2.1 162 = .ok (.getfield 64, 3) := by decide +kernel
theorem d_Model_tellCase_165 : decode m_Model_tellCase.2.1 165 = .ok (.iload_n 1, 1) := by decide +kernel
theorem d_Model_tellCase_166 : decode m_Model_tellCase.2.1 166 = .ok (.iaload, 1) := by decide +kernel
theorem d_Model_tellCase_167 : decode m_Model_tellCase.2.1 167 = .ok (.iadd, 1) := by decide +kernel
theorem d_Model_tellCase_168 : decode m_Model_tellCase.2.1 168 = .ok (.if_icmp .ge 41, 3) := by decide +kernel
theorem d_Model_tellCase_171 : decode m_Model_tellCase.2.1 171 = .ok (.aload_n 0, 1) := by decide +kernel
theorem d_Model_tellCase_172 : decode m_Model_tellCase.2.1 172 = .ok (.bipush 32, 2) := by decide +kernel
theorem d_Model_tellCase_174 : decode m_Model_tellCase.2.1 174 = .ok (.invokevirtual 411, 3) := by decide +kernel
theorem d_Model_tellCase_177 : decode m_Model_tellCase.2.1 177 = .ok (.aload_n 0, 1) := by decide +kernel
theorem d_Model_tellCase_178 : decode m_Model_tellCase.2.1 178 = .ok (.aload_n 0, 1) := by decide +kernel
theorem d_Model_tellCase_179 : decode m_Model_tellCase.2.1 179 = .ok (.getfield 67, 3) := by decide +kernel
theorem d_Model_tellCase_182 : decode m_Model_tellCase.2.1 182 = .ok (.iload_n 2, 1) := by decide +kernel
theorem d_Model_tellCase_183 : decode m_Model_tellCase.2.1 183 = .ok (.iaload, 1) := by decide +kernel
theorem d_Model_tellCase_184 : decode m_Model_tellCase.2.1 184 = .ok (.invokevirtual 716, 3) := by decide +kernel
theorem d_Model_tellCase_187 : decode m_Model_tellCase.2.1 187 = .ok (.aload_n 0, 1) := by decide +kernel
theorem d_Model_tellCase_188 : decode m_Model_tellCase.2.1 188 = .ok (.bipush 32, 2) := by decide +kernel
theorem d_Model_tellCase_190 : decode m_Model_tellCase.2.1 190 = .ok (.invokevirtual 411, 3) := by decide +kernel
theorem d_Model_tellCase_193 : decode m_Model_tellCase.2.1 193 = .ok (.aload_n 0, 1) := by decide +kernel
theorem d_Model_tellCase_194 : decode m_Model_tellCase.2.1 194 = .ok (.aload_n 0, 1) := by decide +kernel
theorem d_Model_tellCase_195 : decode m_Model_tellCase.2.1 195 = .ok (.getfield 70, 3) := by decide +kernel
theorem d_Model_tellCase_198 : decode m_Model_tellCase.2.1 198 = .ok (.iload_n 2, 1) := by decide +kernel
theorem d_Model_tellCase_199 : decode m_Model_tellCase.2.1 199 = .ok (.iaload, 1) := by decide +kernel
theorem d_Model_tellCase_200 : decode m_Model_tellCase.2.1 200 = .ok (.invokevirtual 716, 3) := by decide +kernel
theorem d_Model_tellCase_203 : decode m_Model_tellCase.2.1 203 = .ok (.iinc 2 1, 3) := by decide +kernel
theorem d_Model_tellCase_206 : decode m_Model_tellCase.2.1 206 = .ok (.goto (-52), 3) := by decide +kernel
theorem d_Model_tellCase_209 : decode m_Model_tellCase.2.1 209 = .ok (.aload_n 0, 1) := by decide +kernel
theorem d_Model_tellCase_210 : decode m_Model_tellCase.2.1 210 = .ok (.bipush 32, 2) := by decide +kernel
theorem d_Model_tellCase_212 : decode m_Model_tellCase.2.1 212 = .ok (.invokevirtual 411, 3) := by decide +kernel
theorem d_Model_tellCase_215 : decode m_Model_tellCase.2.1 215 = .ok (.aload_n 0, 1) := by decide +kernel
theorem d_Model_tellCase_216 : decode m_Model_tellCase.2.1 216 = .ok (.bipush 93, 2) := by decide +kernel
theorem d_Model_tellCase_218 : decode m_Model_tellCase.2.1 218 = .ok (.invokevirtual 411, 3) := by decide +kernel
theorem d_Model_tellCase_221 : decode m_Model_tellCase.2.1 221 = .ok (.return_, 1) := by decide +kernel
def nmX (r : Row) (j : Nat) : Prop := ∃ x : Nat, r.getD j 0 = (x : Int) ∧ nmO x
def CaN (r : Row) : Prop := (r.getD 3 0 = 7 ∧ nmX r 5 ∧ nmX r 6 ∧ nmX r 7) ∨ (r.getD 3 0 = 8 ∧ nmX r 5 ∧ nmX r 6 ∧ r.getD 7 0 = 0 ∧ r.getD 1 0 = -1) ∨ (r.getD 3 0 = 9 ∧ r.getD 5 0 = 0 ∧ r.getD 6 0 = 0 ∧ r.getD 7 0 = 0)
theorem nmX.n {r : Row} {j s : Nat} {v : Int} (h : nmX r j) (hs : j ≠ s) : nmX (r.set s v) j := by
  obtain ⟨x, h1, h2⟩ := h
  exact ⟨x, by rw [gset_n hs]; exact h1, h2⟩
theorem CaN.o {r : Row} {v : Int} (h : CaN r) : CaN (r.set 4 v) := by
  rcases h with ⟨h1, h2, h3, h4⟩ | ⟨h1, h2, h3, h4, h5⟩ | ⟨h1, h2, h3, h4⟩
  · exact Or.inl ⟨by rw [gset_n (by decide)]; exact h1, h2.n (by decide), h3.n (by decide), h4.n (by decide)⟩
  · exact Or.inr (Or.inl ⟨by rw [gset_n (by decide)]; exact h1, h2.n (by decide), h3.n (by decide), by rw [gset_n (by decide)]; exact h4, by rw [gset_n (by decide)]; exact h5⟩)
  · exact Or.inr (Or.inr ⟨by rw [gset_n (by decide)]; exact h1, by rw [gset_n (by decide)]; exact h2, by rw [gset_n (by decide)]; exact h3, by rw [gset_n (by decide)]; exact h4⟩)
section
variable {ρ : Nat → Row} {V : Nat → Int}
theorem WfL.can {P : Nat → Nat → Nat → Nat → Nat → Prop} {n m n1 m1 : Nat} {κ dep : Int} {r : Row} (hκ : κ = 7 ∨ κ = 8 ∨ κ = 9) (h : WfL (WfS V (fun _ _ _ _ _ _ => False) P) (itA κ) [6, -1, -1, κ, -1, 0, 0, 0, -1, 0, dep] (n + 1) m r n1 m1) : CaN r := by
  rcases hκ with rfl | rfl | rfl
  · obtain ⟨r1, n2, m2, q1, r2, n3, m3, q2, r3, n4, m4, q3, r4, n5, m5, q4, r5, n6, m6, q5, e1, e2, e3⟩ := h
    obtain ⟨⟨x1, z1, v1⟩, -⟩ := (show (∃ x : Nat, r1 = _ ∧ nmO x) ∧ n2 = n + 1 ∧ m2 = m from q1)
    obtain ⟨⟨x2, z2, v2⟩, -⟩ := (show (∃ x : Nat, r2 = _ ∧ nmO x) ∧ n3 = n2 ∧ m3 = m2 from q2)
    obtain ⟨⟨x3, z3, v3⟩, -⟩ := (show (∃ x : Nat, r3 = _ ∧ nmO x) ∧ n4 = n3 ∧ m4 = m3 from q3)
    obtain ⟨z4, -⟩ := (show r4 = r3.set 1 n4 ∧ P 2 n4 m4 n5 m5 from q4)
    obtain ⟨z5, -⟩ := (show r5 = r4.set 2 n5 ∧ P 1 n5 m5 n6 m6 from q5)
    rw [e1, z5, z4, z3, z2, z1]
    exact Or.inl ⟨rfl, ⟨x1, rfl, v1⟩, ⟨x2, rfl, v2⟩, ⟨x3, rfl, v3⟩⟩
  · obtain ⟨r1, n2, m2, q1, r2, n3, m3, q2, r3, n4, m4, q3, r4, n5, m5, q4, r5, n6, m6, q5, e1, e2, e3⟩ := h
    obtain ⟨⟨x1, z1, v1⟩, -⟩ := (show (∃ x : Nat, r1 = _ ∧ nmO x) ∧ n2 = n + 1 ∧ m2 = m from q1)
    obtain ⟨⟨x2, z2, v2⟩, -⟩ := (show (∃ x : Nat, r2 = _ ∧ nmO x) ∧ n3 = n2 ∧ m3 = m2 from q2)
    obtain ⟨z3, -⟩ := (show r3 = r2 ∧ n4 = n3 ∧ m4 = m3 from q3)
    obtain ⟨-, p, -, z4, -⟩ := (show n5 = n4 ∧ ∃ p : Nat, (1 ≤ p ∧ p ≤ 4) ∧ r4 = (r3.set 8 m4).set 9 p ∧ m5 = m4 + 2 * p from q4)
    obtain ⟨z5, -⟩ := (show r5 = r4.set 2 n5 ∧ P 1 n5 m5 n6 m6 from q5)
    rw [e1, z5, z4, z3, z2, z1]
    exact Or.inr (Or.inl ⟨rfl, ⟨x1, rfl, v1⟩, ⟨x2, rfl, v2⟩, rfl, rfl⟩)
  · obtain ⟨r1, n2, m2, q1, r2, n3, m3, q2, e1, e2, e3⟩ := h
    obtain ⟨z1, -⟩ := (show r1 = _ ∧ P 3 (n + 1) m n2 m2 from q1)
    obtain ⟨z2, -⟩ := (show r2 = r1.set 2 n2 ∧ P 1 n2 m2 n3 m3 from q2)
    rw [e1, z2, z1]
    exact Or.inr (Or.inr ⟨rfl, rfl, rfl, rfl⟩)
/-- the words of a case itself -/
noncomputable def kaL (V : Nat → Int) (r : Row) (l : List Nat) : List Nat :=
  let l1 := nmP (r.getD 7 0) (nmP (r.getD 6 0) (nmP (r.getD 5 0) (wordL (wordL l (kwL 6)) (kwL (r.getD 3 0).toNat))))
  if r.getD 3 0 = 8 then wordL (nusP V (r.getD 8 0).toNat (2 * (r.getD 9 0).toNat) (wordL l1 [91])) [93] else l1
theorem prK_ka {P : Nat → List Nat → List Nat} {n : Nat} {l : List Nat} : prK ρ V P n l = P ((ρ n).getD 2 0).toNat (if (ρ n).getD 3 0 = 8 then kaL V (ρ n) l else P ((ρ n).getD 1 0).toNat (kaL V (ρ n) l)) := by
  unfold prK kaL
  dsimp only
  by_cases h : (ρ n).getD 3 0 = 8
  · rw [if_pos h, if_pos h, if_pos h]
  · rw [if_neg h, if_neg h, if_neg h]
end
section
variable {M tp pt : Nat} {ρ : Nat → Row} {V : Nat → Int} {I0 I : M32} {L : M64} {R : MR} {T : SH} {l : List Nat} {pile : List (Nat × Nat)}
theorem RowM.tl {i : Nat} {r : Row} (h : RowM I0 L M tp pt V i r) (hS : TlS M I0 l pile I) : RowM I L M tp pt V i r := by
  have hF := hS.2.2.2.1.1
  exact h.fx (fun a h1 h2 => by rw [hF a (by omega) (by omega) (by omega) (by omega)]) (fun a h1 h2 => rfl) (fun k _ => by rw [hF _ (by omega) (by omega) (by omega) (by omega)]) (fun k _ => ⟨by rw [hF _ (by omega) (by omega) (by omega) (by omega)], by rw [hF _ (by omega) (by omega) (by omega) (by omega)]⟩) (Nat.le_refl _) (Nat.le_refl _)
theorem c_Model_tellCase {n : Nat} (d : Nat) (hd : 3 ≤ d) (hM : MdlS M R T) (hS : TlS M I0 l pile I) (hl : pile.length + 3 ≤ 5090) (hr : RowM I0 L M tp pt V n (ρ n)) (hn : n < 5100) (htp : tp ≤ 1100000) (hpt : pt ≤ 20400) (hk : (ρ n).getD 0 0 = 6) (hca : CaN (ρ n)) (h89 : (ρ n).getD 3 0 = 8 → ∃ k p : Nat, (ρ n).getD 8 0 = (k : Int) ∧ (ρ n).getD 9 0 = (p : Int) ∧ (1 ≤ p ∧ p ≤ 4))
    (h1i : -1 ≤ (ρ n).getD 1 0 ∧ (ρ n).getD 1 0 < 5100) (h2i : -1 ≤ (ρ n).getD 2 0 ∧ (ρ n).getD 2 0 < 5100) (h4i : -1 ≤ (ρ n).getD 4 0 ∧ (ρ n).getD 4 0 < 5100) :
    Call m_Model_tellCase y_Model_tellCase d 0 0 [.ref M, .int (cI (n : Int))] I L R T (rV fun I' L' R' T' => TlS M I0 (kaL V (ρ n) l) (layL 0 ((ρ n).getD 1 0) (layL 0 ((ρ n).getD 2 0) (layL 0 ((ρ n).getD 4 0) pile))) I' ∧ L' = L ∧ R' = R ∧ T' = T) := by
  have hrw : ∀ J l' pile', TlS M I0 l' pile' J → RowM J L M tp pt V n (ρ n) := fun J l' pile' h => hr.tl h
  obtain ⟨c1, hc1⟩ : ∃ c1, c1 = (ρ n).getD 1 0 := ⟨_, rfl⟩
  obtain ⟨c2, hc2⟩ : ∃ c2, c2 = (ρ n).getD 2 0 := ⟨_, rfl⟩
  obtain ⟨c4, hc4⟩ : ∃ c4, c4 = (ρ n).getD 4 0 := ⟨_, rfl⟩
  obtain ⟨kk, hkk⟩ : ∃ kk, kk = kdM ((ρ n).getD 0 0) ((ρ n).getD 3 0) := ⟨_, rfl⟩
  rw [← hc1] at h1i
  rw [← hc2] at h2i
  rw [← hc4] at h4i
  rw [← hc1, ← hc2, ← hc4]
  have hlay : ∀ (w : Nat) (z : Int) (pl : List (Nat × Nat)), (layL w z pl).length ≤ pl.length + 1 := fun w z pl => by
    unfold layL; split
    · omega
    · rw [List.length_cons]; exact Nat.le_refl _
  have e3 : (ρ n).getD 3 0 = 7 ∨ (ρ n).getD 3 0 = 8 ∨ (ρ n).getD 3 0 = 9 := by
    rcases hca with h | h | h
    · exact Or.inl h.1
    · exact Or.inr (Or.inl h.1)
    · exact Or.inr (Or.inr h.1)
  obtain ⟨k3, hk3, hk9⟩ : ∃ k3 : Nat, (ρ n).getD 3 0 = (k3 : Int) ∧ (k3 = 7 ∨ k3 = 8 ∨ k3 = 9) := by
    rcases e3 with h | h | h
    · exact ⟨7, h, by decide⟩
    · exact ⟨8, h, by decide⟩
    · exact ⟨9, h, by decide⟩
  have hkk2 : kk = (k3 : Int) + 1 := by
    rw [hkk, hk, hk3]
    rcases hk9 with rfl | rfl | rfl <;> rfl
  refine Call.ofRun (by decide) ⟨rfl, rfl⟩ (Nat.le_of_ble_eq_true rfl) ?_
  refine Run.gen fun Q hQ => ?_
  refine q_aload_n d_Model_tellCase_0 rfl ?_
  refine j_ldc2 (z := 1667330917) d_Model_tellCase_1 (inT11 128 rfl) (by decide) ?_
  refine q_callV (ci := 17) (rc := 0) (rs := 0) (rest := []) d_Model_tellCase_4 ml_Model_710 ok_Model_putWord rfl hM.1 (by decide) (c_Model_putWord (d - 1) (by omega) hM hS.1 (NmN_kw 6 (by decide))) rfl rfl (by omega) (Nat.le_of_ble_eq_true rfl) (kv_V (fun J1 q1 => ?_)) kt_V
  have s1 := hS.out q1.1 q1.2
  have v1 : ∀ J l' pile', TlS M I0 l' pile' J → J (M + 6) n = cI kk := fun J l' pile' h => (hrw J l' pile' h).1.1.trans (by rw [hkk])
  refine q_aload_n d_Model_tellCase_7 rfl ?_
  refine q_aload_n d_Model_tellCase_8 rfl ?_
  refine q_getR d_Model_tellCase_9 fl_Model_26 hM.1 ⟨rfl, by decide⟩ (mR19 hM) ?_
  refine q_iload_n d_Model_tellCase_12 rfl ?_
  refine j_iald (j := n) (v := (cI kk)) d_Model_tellCase_13 (mT19 hM) (mN19 hM) (by omega) (by omega) (by omega) (v1 _ _ _ s1) ?_
  refine j_bipush d_Model_tellCase_14 (by decide) ?_
  suffices J : ∀ (u : Int), (((¬ kk = 8) ∧ (¬ kk = 9) ∧ u = 121424973489785) ∨ ((¬ kk = 8) ∧ (kk = 9) ∧ u = 109300196926309) ∨ ((kk = 8) ∧ u = 28259031251642740)) → Run m_Model_tellCase d 0 0 45 [(0, .ref M), (1, .int (cI (n : Int)))] [.long (cL u), .ref M] J1 L R T Q by
    refine j_icmp_ne (tgt := 25) d_Model_tellCase_16 (by decide) (by omega) (by omega) (fun hp1 => ?_) (fun hp1 => ?_)
    · refine q_aload_n d_Model_tellCase_25 rfl ?_
      refine q_getR d_Model_tellCase_26 fl_Model_26 hM.1 ⟨rfl, by decide⟩ (mR19 hM) ?_
      refine q_iload_n d_Model_tellCase_29 rfl ?_
      refine j_iald (j := n) (v := (cI kk)) d_Model_tellCase_30 (mT19 hM) (mN19 hM) (by omega) (by omega) (by omega) (v1 _ _ _ s1) ?_
      refine j_bipush d_Model_tellCase_31 (by decide) ?_
      refine j_icmp_ne (tgt := 42) d_Model_tellCase_33 (by decide) (by omega) (by omega) (fun hp2 => ?_) (fun hp2 => ?_)
      · refine j_ldc2 (z := 121424973489785) d_Model_tellCase_42 (inT11 131 rfl) (by decide) ?_
        exact J _ (Or.inl ⟨hp1, hp2, rfl⟩)
      · refine j_ldc2 (z := 109300196926309) d_Model_tellCase_36 (inT11 130 rfl) (by decide) ?_
        refine q_goto (tgt := 45) d_Model_tellCase_39 (by decide) ?_
        exact J _ (Or.inr (Or.inl ⟨hp1, hp2, rfl⟩))
    · refine j_ldc2 (z := 28259031251642740) d_Model_tellCase_19 (inT11 129 rfl) (by decide) ?_
      refine q_goto (tgt := 45) d_Model_tellCase_22 (by decide) ?_
      exact J _ (Or.inr (Or.inr ⟨hp1, rfl⟩))
  intro u hu
  obtain ⟨x, hx, hx2⟩ : ∃ x : Nat, u = (x : Int) ∧ x = KW.getD k3 0 := by
    refine ⟨KW.getD k3 0, ?_, rfl⟩
    rcases hk9 with rfl | rfl | rfl
    · show u = 28259031251642740; omega
    · show u = 109300196926309; omega
    · show u = 121424973489785; omega
  subst hx
  have hxn : NmN x (KWn.getD k3 0) := by rw [hx2]; exact NmN_kw k3 (by omega)
  refine q_callV (ci := 17) (rc := 0) (rs := 0) (rest := []) d_Model_tellCase_45 ml_Model_710 ok_Model_putWord rfl hM.1 (by decide) (c_Model_putWord (d - 1) (by omega) hM q1.1 hxn) rfl rfl (by omega) (Nat.le_of_ble_eq_true rfl) (kv_V (fun J2 q2 => ?_)) kt_V
  have s2 := s1.out q2.1 q2.2
  have el2 : wordL (wordL l (kwL 6)) (spl x (KWn.getD k3 0)) = wordL (wordL l (kwL 6)) (kwL k3) := by rw [hx2]; rfl
  have s2 : TlS M I0 (wordL (wordL l (kwL 6)) (kwL k3)) pile J2 := by rw [← el2]; exact s2
  refine q_aload_n d_Model_tellCase_48 rfl ?_
  refine j_iconst d_Model_tellCase_49 ?_
  refine q_aload_n d_Model_tellCase_50 rfl ?_
  refine q_getR d_Model_tellCase_51 fl_Model_48 hM.1 ⟨rfl, by decide⟩ (mR26 hM) ?_
  refine q_iload_n d_Model_tellCase_54 rfl ?_
  refine j_iald (j := n) (v := (cI c4)) d_Model_tellCase_55 (mT26 hM) (mN26 hM) (by omega) (by omega) (by omega) ((hrw _ _ _ s2).1.2.2.2.2.1.trans (by rw [← hc4])) ?_
  refine q_callV (ci := 17) (rc := 0) (rs := 0) (rest := []) d_Model_tellCase_56 ml_Model_713 ok_Model_lay rfl hM.1 (by decide) (c_Model_lay (d - 1) (w := 0) hM s2 (by omega) (by omega)) rfl rfl (by omega) (Nat.le_of_ble_eq_true rfl) (kv_V (fun J3 s3 => ?_)) kt_V
  have g3 := hlay 0 c4 pile
  refine q_aload_n d_Model_tellCase_59 rfl ?_
  refine j_iconst d_Model_tellCase_60 ?_
  refine q_aload_n d_Model_tellCase_61 rfl ?_
  refine q_getR d_Model_tellCase_62 fl_Model_42 hM.1 ⟨rfl, by decide⟩ (mR24 hM) ?_
  refine q_iload_n d_Model_tellCase_65 rfl ?_
  refine j_iald (j := n) (v := (cI c2)) d_Model_tellCase_66 (mT24 hM) (mN24 hM) (by omega) (by omega) (by omega) ((hrw _ _ _ s3).1.2.2.1.trans (by rw [← hc2])) ?_
  refine q_callV (ci := 17) (rc := 0) (rs := 0) (rest := []) d_Model_tellCase_67 ml_Model_713 ok_Model_lay rfl hM.1 (by decide) (c_Model_lay (d - 1) (w := 0) hM s3 (by omega) (by omega)) rfl rfl (by omega) (Nat.le_of_ble_eq_true rfl) (kv_V (fun J4 s4 => ?_)) kt_V
  have g4 := hlay 0 c2 (layL 0 c4 pile)
  refine q_aload_n d_Model_tellCase_70 rfl ?_
  refine j_iconst d_Model_tellCase_71 ?_
  refine q_aload_n d_Model_tellCase_72 rfl ?_
  refine q_getR d_Model_tellCase_73 fl_Model_39 hM.1 ⟨rfl, by decide⟩ (mR23 hM) ?_
  refine q_iload_n d_Model_tellCase_76 rfl ?_
  refine j_iald (j := n) (v := (cI c1)) d_Model_tellCase_77 (mT23 hM) (mN23 hM) (by omega) (by omega) (by omega) ((hrw _ _ _ s4).1.2.1.trans (by rw [← hc1])) ?_
  refine q_callV (ci := 17) (rc := 0) (rs := 0) (rest := []) d_Model_tellCase_78 ml_Model_713 ok_Model_lay rfl hM.1 (by decide) (c_Model_lay (d - 1) (w := 0) hM s4 (by omega) (by omega)) rfl rfl (by omega) (Nat.le_of_ble_eq_true rfl) (kv_V (fun J5 s5 => ?_)) kt_V
  refine q_aload_n d_Model_tellCase_81 rfl ?_
  refine q_getR d_Model_tellCase_82 fl_Model_26 hM.1 ⟨rfl, by decide⟩ (mR19 hM) ?_
  refine q_iload_n d_Model_tellCase_85 rfl ?_
  refine j_iald (j := n) (v := (cI kk)) d_Model_tellCase_86 (mT19 hM) (mN19 hM) (by omega) (by omega) (by omega) (v1 _ _ _ s5) ?_
  refine j_bipush d_Model_tellCase_87 (by decide) ?_
  unfold kaL at hQ
  simp only [hk3, Int.toNat_natCast] at hQ
  by_cases h9 : k3 = 9
  · refine j_icmp_ne (tgt := 93) d_Model_tellCase_89 (by decide) (by omega) (by omega) (fun hx => by exfalso; omega) (fun hx => ?_)
    refine q_return d_Model_tellCase_92 rfl ?_
    refine hQ _ _ _ _ _ ?_
    refine ⟨rfl, ?_, rfl, rfl, rfl⟩
    rcases hca with h | h | ⟨-, y1, y2, y3⟩
    · omega
    · omega
    · rw [y1, y2, y3, if_neg (by omega)]
      exact s5
  have hx56 : nmX (ρ n) 5 ∧ nmX (ρ n) 6 := by
    rcases hca with h | h | h
    · exact ⟨h.2.1, h.2.2.1⟩
    · exact ⟨h.2.1, h.2.2.1⟩
    · omega
  obtain ⟨⟨x5, e5, y5, n5, z5⟩, ⟨x6, e6, y6, n6, z6⟩⟩ := hx56
  simp only [e5, e6] at hQ
  refine j_icmp_ne (tgt := 93) d_Model_tellCase_89 (by decide) (by omega) (by omega) (fun hx => ?_) (fun hx => by exfalso; omega)
  refine q_aload_n d_Model_tellCase_93 rfl ?_
  refine q_aload_n d_Model_tellCase_94 rfl ?_
  refine q_getR d_Model_tellCase_95 fl_Model_29 hM.1 ⟨rfl, by decide⟩ (mR20 hM) ?_
  refine q_iload_n d_Model_tellCase_98 rfl ?_
  refine j_lald (j := n) (v := (cL (x5 : Int))) d_Model_tellCase_99 (mT20 hM) (mN20 hM) (by omega) (by omega) (by omega) ((hrw _ _ _ s5).1.2.2.2.2.2.1.trans (by rw [e5])) ?_
  refine q_callV (ci := 17) (rc := 0) (rs := 0) (rest := []) d_Model_tellCase_100 ml_Model_710 ok_Model_putWord rfl hM.1 (by decide) (c_Model_putWord (d - 1) (by omega) hM s5.1 z5) rfl rfl (by omega) (Nat.le_of_ble_eq_true rfl) (kv_V (fun J6 q6 => ?_)) kt_V
  have s6 := s5.out q6.1 q6.2
  refine q_aload_n d_Model_tellCase_103 rfl ?_
  refine q_aload_n d_Model_tellCase_104 rfl ?_
  refine q_getR d_Model_tellCase_105 fl_Model_33 hM.1 ⟨rfl, by decide⟩ (mR21 hM) ?_
  refine q_iload_n d_Model_tellCase_108 rfl ?_
  refine j_lald (j := n) (v := (cL (x6 : Int))) d_Model_tellCase_109 (mT21 hM) (mN21 hM) (by omega) (by omega) (by omega) ((hrw _ _ _ s5).1.2.2.2.2.2.2.1.trans (by rw [e6])) ?_
  refine q_callV (ci := 17) (rc := 0) (rs := 0) (rest := []) d_Model_tellCase_110 ml_Model_710 ok_Model_putWord rfl hM.1 (by decide) (c_Model_putWord (d - 1) (by omega) hM s6.1 z6) rfl rfl (by omega) (Nat.le_of_ble_eq_true rfl) (kv_V (fun J7 q7 => ?_)) kt_V
  have s7 := s6.out q7.1 q7.2
  have el7 : wordL (wordL (wordL (wordL l (kwL 6)) (kwL k3)) (spl x5 n5)) (spl x6 n6) = nmP (x6 : Int) (nmP (x5 : Int) (wordL (wordL l (kwL 6)) (kwL k3))) := by
    unfold nmP
    rw [if_neg (show ¬ (x5 : Int) = 0 by omega), if_neg (show ¬ (x6 : Int) = 0 by omega), Int.toNat_natCast, Int.toNat_natCast, nmL_eq z5, nmL_eq z6]
  rw [el7] at s7
  have hpos : 0 < (nmP (x6 : Int) (nmP (x5 : Int) (wordL (wordL l (kwL 6)) (kwL k3)))).length := by rw [← el7]; exact Nat.lt_of_lt_of_le (wordL_pos (by decide)) (Nat.le_trans (wordL_len (wordL l (kwL 6)) (kwL k3)) (Nat.le_trans (wordL_len _ _) (wordL_len _ _)))
  refine q_aload_n d_Model_tellCase_113 rfl ?_
  refine q_getR d_Model_tellCase_114 fl_Model_26 hM.1 ⟨rfl, by decide⟩ (mR19 hM) ?_
  refine q_iload_n d_Model_tellCase_117 rfl ?_
  refine j_iald (j := n) (v := (cI kk)) d_Model_tellCase_118 (mT19 hM) (mN19 hM) (by omega) (by omega) (by omega) (v1 _ _ _ s7) ?_
  refine j_bipush d_Model_tellCase_119 (by decide) ?_
  by_cases h7 : k3 = 7
  · refine j_icmp_ne (tgt := 135) d_Model_tellCase_121 (by decide) (by omega) (by omega) (fun hx => by exfalso; omega) (fun hx => ?_)
    obtain ⟨x7, e7, y7, n7, z7⟩ : nmX (ρ n) 7 := by
      rcases hca with h | h | h
      · exact h.2.2.2
      · omega
      · omega
    refine q_aload_n d_Model_tellCase_124 rfl ?_
    refine q_aload_n d_Model_tellCase_125 rfl ?_
    refine q_getR d_Model_tellCase_126 fl_Model_36 hM.1 ⟨rfl, by decide⟩ (mR22 hM) ?_
    refine q_iload_n d_Model_tellCase_129 rfl ?_
    refine j_lald (j := n) (v := (cL (x7 : Int))) d_Model_tellCase_130 (mT22 hM) (mN22 hM) (by omega) (by omega) (by omega) ((hrw _ _ _ s5).1.2.2.2.2.2.2.2.1.trans (by rw [e7])) ?_
    refine q_callV (ci := 17) (rc := 0) (rs := 0) (rest := []) d_Model_tellCase_131 ml_Model_710 ok_Model_putWord rfl hM.1 (by decide) (c_Model_putWord (d - 1) (by omega) hM s7.1 z7) rfl rfl (by omega) (Nat.le_of_ble_eq_true rfl) (kv_V (fun J8 q8 => ?_)) kt_V
    have s8 := s7.out q8.1 q8.2
    refine q_return d_Model_tellCase_134 rfl ?_
    refine hQ _ _ _ _ _ ?_
    refine ⟨rfl, ?_, rfl, rfl, rfl⟩
    rw [if_neg (by omega), e7]
    have e : ∀ l0, nmP (x7 : Int) l0 = wordL l0 (spl x7 n7) := fun l0 => by unfold nmP; rw [if_neg (by omega), Int.toNat_natCast, nmL_eq z7]
    rw [e]
    exact s8
  have h8 : k3 = 8 := by omega
  obtain ⟨kn, pn, ek, ep, hpn⟩ := h89 (by rw [hk3, h8]; rfl)
  have e7 : (ρ n).getD 7 0 = 0 := by
    rcases hca with h | h | h
    · omega
    · exact h.2.2.2.1
    · omega
  obtain ⟨q, r1, r2, r3⟩ := (hrw _ _ _ s7).2.2.2 hk (by rw [hk3, h8]; rfl) (by omega)
  rw [ek, ep, Int.toNat_natCast, Int.toNat_natCast] at r3
  rw [ep, Int.toNat_natCast] at r2
  simp only [ek, ep, e7, Int.toNat_natCast] at hQ
  rw [if_pos (by omega)] at hQ
  have enm : ∀ l0, nmP 0 l0 = l0 := fun l0 => by unfold nmP; rw [if_pos rfl]
  rw [enm] at hQ
  obtain ⟨l1, hl1⟩ : ∃ l1, l1 = nmP (x6 : Int) (nmP (x5 : Int) (wordL (wordL l (kwL 6)) (kwL k3))) := ⟨_, rfl⟩
  rw [← hl1] at s7 hpos hQ
  refine j_icmp_ne (tgt := 135) d_Model_tellCase_121 (by decide) (by omega) (by omega) (fun hx => ?_) (fun hx => by exfalso; omega)
  refine q_aload_n d_Model_tellCase_135 rfl ?_
  refine j_bipush d_Model_tellCase_136 (by decide) ?_
  refine q_callV (ci := 17) (rc := 0) (rs := 0) (rest := []) d_Model_tellCase_138 ml_Model_411 ok_Model_put rfl hM.1 (by decide) (c_Model_put (d - 1) (b := 32) hM s7.1) rfl rfl (by omega) (Nat.le_of_ble_eq_true rfl) (kv_V (fun J8 q8 => ?_)) kt_V
  have s8 := s7.out q8.1 q8.2
  refine q_aload_n d_Model_tellCase_141 rfl ?_
  refine j_bipush d_Model_tellCase_142 (by decide) ?_
  refine q_callV (ci := 17) (rc := 0) (rs := 0) (rest := []) d_Model_tellCase_144 ml_Model_411 ok_Model_put rfl hM.1 (by decide) (c_Model_put (d - 1) (b := 91) hM s8.1) rfl rfl (by omega) (Nat.le_of_ble_eq_true rfl) (kv_V (fun J9 q9 => ?_)) kt_V
  have s9 := s8.out q9.1 q9.2
  have el9 : putL (putL l1 32) 91 = wordL l1 [91] := (wordL_32 (bs := [91]) hpos).symm
  rw [el9] at s9
  have hrq : ∀ J l' pile', TlS M I0 l' pile' J → J (M + 17) n = cI (q : Int) ∧ J (M + 18) n = cI (pn : Int) ∧ ∀ j, j < pn → (∃ p : Nat, J (M + 19) (q + j) = cI p ∧ PnV J M tp p (V (kn + 2 * j))) ∧ (∃ p : Nat, J (M + 20) (q + j) = cI p ∧ PnV J M tp p (V (kn + 2 * j + 1))) := fun J l' pile' h => by
    have hF := h.2.2.2.1.1
    have hF7 := s7.2.2.2.1.1
    have ee : ∀ a, a ≠ M → a ≠ M + 2 → a ≠ M + 33 → a ≠ M + 34 → J a = J7 a := fun a x1 x2 x3 x4 => (hF a x1 x2 x3 x4).trans (hF7 a x1 x2 x3 x4).symm
    refine ⟨by rw [ee _ (by omega) (by omega) (by omega) (by omega)]; exact r1, by rw [(hrw J l' pile' h).1.2.2.2.2.2.2.2.2, ep], fun j hj => ?_⟩
    obtain ⟨⟨p1, y1, y2⟩, p2, y3, y4⟩ := r3 j hj
    exact ⟨⟨p1, by rw [ee _ (by omega) (by omega) (by omega) (by omega)]; exact y1, y2.fx (fun k _ => by rw [ee _ (by omega) (by omega) (by omega) (by omega)]) (Nat.le_refl _)⟩, p2, by rw [ee _ (by omega) (by omega) (by omega) (by omega)]; exact y3, y4.fx (fun k _ => by rw [ee _ (by omega) (by omega) (by omega) (by omega)]) (Nat.le_refl _)⟩
  refine q_aload_n d_Model_tellCase_147 rfl ?_
  refine q_getR d_Model_tellCase_148 fl_Model_61 hM.1 ⟨rfl, by decide⟩ (mR30 hM) ?_
  refine q_iload_n d_Model_tellCase_151 rfl ?_
  refine j_iald (j := n) (v := (cI (q : Int))) d_Model_tellCase_152 (mT30 hM) (mN30 hM) (by omega) (by omega) (by omega) ((hrq _ _ _ s9).1) ?_
  refine q_istore_n (lv' := [(2, .int (cI (q : Int))), (0, .ref M), (1, .int (cI (n : Int)))]) d_Model_tellCase_153 (by decide) rfl ?_
  obtain ⟨pl, hpl⟩ : ∃ pl, pl = layL 0 c1 (layL 0 c2 (layL 0 c4 pile)) := ⟨_, rfl⟩
  rw [← hpl] at s9 hQ
  have loop : ∀ (fl j : Nat) (JJ : M32), j + fl = pn → TlS M I0 (nusP V kn (2 * j) (wordL l1 [91])) pl JJ → Run m_Model_tellCase d 0 0 154 [(0, .ref M), (1, .int (cI (n : Int))), (2, .int (cI (((q + j : Nat) : Int))))] [] JJ L R T Q := by
    intro fl
    induction fl with
    | zero =>
      intro j JJ hj sj
      refine q_iload_n d_Model_tellCase_154 rfl ?_
      refine q_aload_n d_Model_tellCase_155 rfl ?_
      refine q_getR d_Model_tellCase_156 fl_Model_61 hM.1 ⟨rfl, by decide⟩ (mR30 hM) ?_
      refine q_iload_n d_Model_tellCase_159 rfl ?_
      refine j_iald (j := n) (v := (cI (q : Int))) d_Model_tellCase_160 (mT30 hM) (mN30 hM) (by omega) (by omega) (by omega) ((hrq _ _ _ sj).1) ?_
      refine q_aload_n d_Model_tellCase_161 rfl ?_
      refine q_getR d_Model_tellCase_162 fl_Model_64 hM.1 ⟨rfl, by decide⟩ (mR31 hM) ?_
      refine q_iload_n d_Model_tellCase_165 rfl ?_
      refine j_iald (j := n) (v := (cI (pn : Int))) d_Model_tellCase_166 (mT31 hM) (mN31 hM) (by omega) (by omega) (by omega) ((hrq _ _ _ sj).2.1) ?_
      refine j_iadd d_Model_tellCase_167 ?_
      refine j_icmp_ge (tgt := 209) d_Model_tellCase_168 (by decide) (by omega) (by omega) (fun hx => ?_) (fun hx => by exfalso; omega)
      refine q_aload_n d_Model_tellCase_209 rfl ?_
      refine j_bipush d_Model_tellCase_210 (by decide) ?_
      refine q_callV (ci := 17) (rc := 0) (rs := 0) (rest := []) d_Model_tellCase_212 ml_Model_411 ok_Model_put rfl hM.1 (by decide) (c_Model_put (d - 1) (b := 32) hM sj.1) rfl rfl (by omega) (Nat.le_of_ble_eq_true rfl) (kv_V (fun K1 w1 => ?_)) kt_V
      have t1 := sj.out w1.1 w1.2
      refine q_aload_n d_Model_tellCase_215 rfl ?_
      refine j_bipush d_Model_tellCase_216 (by decide) ?_
      refine q_callV (ci := 17) (rc := 0) (rs := 0) (rest := []) d_Model_tellCase_218 ml_Model_411 ok_Model_put rfl hM.1 (by decide) (c_Model_put (d - 1) (b := 93) hM t1.1) rfl rfl (by omega) (Nat.le_of_ble_eq_true rfl) (kv_V (fun K2 w2 => ?_)) kt_V
      have t2 := t1.out w2.1 w2.2
      refine q_return d_Model_tellCase_221 rfl ?_
      refine hQ _ _ _ _ _ ?_
      refine ⟨rfl, ?_, rfl, rfl, rfl⟩
      obtain rfl : j = pn := by omega
      rw [wordL_32 (Nat.lt_of_lt_of_le (wordL_pos (bs := [91]) (by decide)) (nusP_len _ _ _ _))]
      exact t2
    | succ fl ih =>
      intro j JJ hj sj
      obtain ⟨w1, w2, w3⟩ := hrq _ _ _ sj
      obtain ⟨⟨b1, y1, mm1, y2, y3, y4⟩, b2, y5, mm2, y6, y7, y8⟩ := w3 j (by omega)
      have hp0 : 0 < (nusP V kn (2 * j) (wordL l1 [91])).length := Nat.lt_of_lt_of_le (wordL_pos (bs := [91]) (by decide)) (nusP_len _ _ _ _)
      refine q_iload_n d_Model_tellCase_154 rfl ?_
      refine q_aload_n d_Model_tellCase_155 rfl ?_
      refine q_getR d_Model_tellCase_156 fl_Model_61 hM.1 ⟨rfl, by decide⟩ (mR30 hM) ?_
      refine q_iload_n d_Model_tellCase_159 rfl ?_
      refine j_iald (j := n) (v := (cI (q : Int))) d_Model_tellCase_160 (mT30 hM) (mN30 hM) (by omega) (by omega) (by omega) w1 ?_
      refine q_aload_n d_Model_tellCase_161 rfl ?_
      refine q_getR d_Model_tellCase_162 fl_Model_64 hM.1 ⟨rfl, by decide⟩ (mR31 hM) ?_
      refine q_iload_n d_Model_tellCase_165 rfl ?_
      refine j_iald (j := n) (v := (cI (pn : Int))) d_Model_tellCase_166 (mT31 hM) (mN31 hM) (by omega) (by omega) (by omega) w2 ?_
      refine j_iadd d_Model_tellCase_167 ?_
      refine j_icmp_ge (tgt := 209) d_Model_tellCase_168 (by decide) (by omega) (by omega) (fun hx => by exfalso; omega) (fun hx => ?_)
      refine q_aload_n d_Model_tellCase_171 rfl ?_
      refine j_bipush d_Model_tellCase_172 (by decide) ?_
      refine q_callV (ci := 17) (rc := 0) (rs := 0) (rest := []) d_Model_tellCase_174 ml_Model_411 ok_Model_put rfl hM.1 (by decide) (c_Model_put (d - 1) (b := 32) hM sj.1) rfl rfl (by omega) (Nat.le_of_ble_eq_true rfl) (kv_V (fun K1 v1 => ?_)) kt_V
      have t1 := sj.out v1.1 v1.2
      have fr1 : ∀ a, a ≠ M → a ≠ M + 2 → K1 a = JJ a := v1.2.1
      refine q_aload_n d_Model_tellCase_177 rfl ?_
      refine q_aload_n d_Model_tellCase_178 rfl ?_
      refine q_getR d_Model_tellCase_179 fl_Model_67 hM.1 ⟨rfl, by decide⟩ (mR32 hM) ?_
      refine q_iload_n d_Model_tellCase_182 rfl ?_
      refine j_iald (j := (q + j)) (v := (cI (b1 : Int))) d_Model_tellCase_183 (mT32 hM) (mN32 hM) (by omega) (by omega) (by omega) (by rw [fr1 _ (by omega) (by omega)]; exact y1) ?_
      refine q_callV (ci := 17) (rc := 0) (rs := 0) (rest := []) d_Model_tellCase_184 ml_Model_716 ok_Model_putNumber rfl hM.1 (by decide) (c_Model_putNumber (d - 1) (by omega) hM t1.1 (y4.congr fun k _ hk => by rw [fr1 _ (by omega) (by omega)]) (by omega)) rfl rfl (by omega) (Nat.le_of_ble_eq_true rfl) (kv_V (fun K2 v2 => ?_)) kt_V
      obtain ⟨dn1, dd1, v2, f2⟩ := v2
      rw [nuL_eq dd1, ← wordL_32 hp0] at v2
      have t2 := t1.out v2 f2
      refine q_aload_n d_Model_tellCase_187 rfl ?_
      refine j_bipush d_Model_tellCase_188 (by decide) ?_
      refine q_callV (ci := 17) (rc := 0) (rs := 0) (rest := []) d_Model_tellCase_190 ml_Model_411 ok_Model_put rfl hM.1 (by decide) (c_Model_put (d - 1) (b := 32) hM t2.1) rfl rfl (by omega) (Nat.le_of_ble_eq_true rfl) (kv_V (fun K3 v3 => ?_)) kt_V
      have t3 := t2.out v3.1 v3.2
      have fr3 : ∀ a, a ≠ M → a ≠ M + 2 → K3 a = JJ a := fun a e1 e2 => ((v3.2.1 a e1 e2).trans (f2.1 a e1 e2)).trans (fr1 a e1 e2)
      refine q_aload_n d_Model_tellCase_193 rfl ?_
      refine q_aload_n d_Model_tellCase_194 rfl ?_
      refine q_getR d_Model_tellCase_195 fl_Model_70 hM.1 ⟨rfl, by decide⟩ (mR33 hM) ?_
      refine q_iload_n d_Model_tellCase_198 rfl ?_
      refine j_iald (j := (q + j)) (v := (cI (b2 : Int))) d_Model_tellCase_199 (mT33 hM) (mN33 hM) (by omega) (by omega) (by omega) (by rw [fr3 _ (by omega) (by omega)]; exact y5) ?_
      refine q_callV (ci := 17) (rc := 0) (rs := 0) (rest := []) d_Model_tellCase_200 ml_Model_716 ok_Model_putNumber rfl hM.1 (by decide) (c_Model_putNumber (d - 1) (by omega) hM t3.1 (y8.congr fun k _ hk => by rw [fr3 _ (by omega) (by omega)]) (by omega)) rfl rfl (by omega) (Nat.le_of_ble_eq_true rfl) (kv_V (fun K4 v4 => ?_)) kt_V
      obtain ⟨dn2, dd2, v4, f4⟩ := v4
      rw [nuL_eq dd2, ← wordL_32 (Nat.lt_of_lt_of_le hp0 (wordL_len _ _))] at v4
      have t4 := t3.out v4 f4
      refine j_iinc (lv' := [(2, .int (cI ((((q + j : Nat) : Int)) + 1))), (0, .ref M), (1, .int (cI (n : Int)))]) d_Model_tellCase_203 rfl (by decide) rfl ?_
      refine q_goto (tgt := 154) d_Model_tellCase_206 (by decide) ?_
      rw [show ((q + j : Nat) : Int) + 1 = ((q + (j + 1) : Nat) : Int) by omega]
      refine Run.lv (lv' := [(0, .ref M), (1, .int (cI (n : Int))), (2, .int (cI (((q + (j + 1) : Nat) : Int))))]) (by intro q hq; simp only [List.mem_cons, List.not_mem_nil, or_false] at hq ⊢; rcases hq with rfl | rfl | rfl <;> simp) ?_
      exact ih (j + 1) _ (by omega) t4
  refine Run.lv (lv' := [(0, .ref M), (1, .int (cI (n : Int))), (2, .int (cI (q : Int)))]) (by intro q hq; simp only [List.mem_cons, List.not_mem_nil, or_false] at hq ⊢; rcases hq with rfl | rfl | rfl <;> simp) ?_
  exact loop pn 0 _ (by omega) s9
end

