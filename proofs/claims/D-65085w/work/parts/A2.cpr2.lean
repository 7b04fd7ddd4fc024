/-! ===== A2 THE COMPONENT PRINTS: cases ===== -/
theorem d_Nodes_printCase_0 : decode m_Nodes_printCase.2.1 0 = .ok (.aload_n 0, 1) := by decide +kernel
theorem d_Nodes_printCase_1 : decode m_Nodes_printCase.2.1 1 = .ok (.getfield 3, 3) := by decide +kernel
theorem d_Nodes_printCase_4 : decode m_Nodes_printCase.2.1 4 = .ok (.getfield 216, 3) := by decide +kernel
theorem d_Nodes_printCase_7 : decode m_Nodes_printCase.2.1 7 = .ok (.bipush 6, 2) := by decide +kernel
theorem d_Nodes_printCase_9 : decode m_Nodes_printCase.2.1 9 = .ok (.aload_n 0, 1) := by decide +kernel
theorem d_Nodes_printCase_10 : decode m_Nodes_printCase.2.1 10 = .ok (.getfield 3, 3) := by decide +kernel
theorem d_Nodes_printCase_13 : decode m_Nodes_printCase.2.1 13 = .ok (.getfield 181, 3) := by decide +kernel
theorem d_Nodes_printCase_16 : decode m_Nodes_printCase.2.1 16 = .ok (.invokevirtual 220, 3) := by decide +kernel
theorem d_Nodes_printCase_19 : decode m_Nodes_printCase.2.1 19 = .ok (.aload_n 0, 1) := by decide +kernel
theorem d_Nodes_printCase_20 : decode m_Nodes_printCase.2.1 20 = .ok (.getfield 3, 3) := by decide +kernel
theorem d_Nodes_printCase_23 : decode m_Nodes_printCase.2.1 23 = .ok (.getfield 216, 3) := by decide +kernel
theorem d_Nodes_printCase_26 : decode m_Nodes_printCase.2.1 26 = .ok (.aload_n 0, 1) := by decide +kernel
theorem d_Nodes_printCase_27 : decode m_Nodes_printCase.2.1 27 = .ok (.getfield 25, 3) := by decide +kernel
theorem d_Nodes_printCase_30 : decode m_Nodes_printCase.2.1 30 = .ok (.iload_n 1, 1) := by decide +kernel
theorem d_Nodes_printCase_31 : decode m_Nodes_printCase.2.1 31 = .ok (.iaload, 1) := by decide +kernel
theorem d_Nodes_printCase_32 : decode m_Nodes_printCase.2.1 32 = .ok (.aload_n 0, 1) := by decide +kernel
theorem d_Nodes_printCase_33 : decode m_Nodes_printCase.2.1 33 = .ok (.getfield 3, 3) := by decide +kernel
theorem d_Nodes_printCase_36 : decode m_Nodes_printCase.2.1 36 = .ok (.getfield 181, 3) := by decide +kernel
theorem d_Nodes_printCase_39 : decode m_Nodes_printCase.2.1 39 = .ok (.invokevirtual 220, 3) := by decide +kernel
theorem d_Nodes_printCase_42 : decode m_Nodes_printCase.2.1 42 = .ok (.aload_n 0, 1) := by decide +kernel
theorem d_Nodes_printCase_43 : decode m_Nodes_printCase.2.1 43 = .ok (.aload_n 0, 1) := by decide +kernel
theorem d_Nodes_printCase_44 : decode m_Nodes_printCase.2.1 44 = .ok (.getfield 37, 3) := by decide +kernel
theorem d_Nodes_printCase_47 : decode m_Nodes_printCase.2.1 47 = .ok (.iload_n 1, 1) := by decide +kernel
theorem d_Nodes_printCase_48 : decode m_Nodes_printCase.2.1 48 = .ok (.laload, 1) := by decide +kernel
theorem d_Nodes_printCase_49 : decode m_Nodes_printCase.2.1 49 = .ok (.invokevirtual 225, 3) := by decide +kernel
theorem d_Nodes_printCase_52 : decode m_Nodes_printCase.2.1 52 = .ok (.aload_n 0, 1) := by decide +kernel
theorem d_Nodes_printCase_53 : decode m_Nodes_printCase.2.1 53 = .ok (.aload_n 0, 1) := by decide +kernel
theorem d_Nodes_printCase_54 : decode m_Nodes_printCase.2.1 54 = .ok (.getfield 41, 3) := by decide +kernel
theorem d_Nodes_printCase_57 : decode m_Nodes_printCase.2.1 57 = .ok (.iload_n 1, 1) := by decide +kernel
theorem d_Nodes_printCase_58 : decode m_Nodes_printCase.2.1 58 = .ok (.laload, 1) := by decide +kernel
theorem d_Nodes_printCase_59 : decode m_Nodes_printCase.2.1 59 = .ok (.invokevirtual 225, 3) := by decide +kernel
theorem d_Nodes_printCase_62 : decode m_Nodes_printCase.2.1 62 = .ok (.aload_n 0, 1) := by decide +kernel
theorem d_Nodes_printCase_63 : decode m_Nodes_printCase.2.1 63 = .ok (.aload_n 0, 1) := by decide +kernel
theorem d_Nodes_printCase_64 : decode m_Nodes_printCase.2.1 64 = .ok (.getfield 44, 3) := by decide +kernel
theorem d_Nodes_printCase_67 : decode m_Nodes_printCase.2.1 67 = .ok (.iload_n 1, 1) := by decide +kernel
theorem d_Nodes_printCase_68 : decode m_Nodes_printCase.2.1 68 = .ok (.laload, 1) := by decide +kernel
theorem d_Nodes_printCase_69 : decode m_Nodes_printCase.2.1 69 = .ok (.invokevirtual 225, 3) := by decide +kernel
theorem d_Nodes_printCase_72 : decode m_Nodes_printCase.2.1 72 = .ok (.aload_n 0, 1) := by decide +kernel
theorem d_Nodes_printCase_73 : decode m_Nodes_printCase.2.1 73 = .ok (.getfield 25, 3) := by decide +kernel
theorem d_Nodes_printCase_76 : decode m_Nodes_printCase.2.1 76 = .ok (.iload_n 1, 1) := by decide +kernel
theorem d_Nodes_printCase_77 : decode m_Nodes_printCase.2.1 77 = .ok (.iaload, 1) := by decide +kernel
theorem d_Nodes_printCase_78 : decode m_Nodes_printCase.2.1 78 = .ok (.bipush 8, 2) := by decide +kernel
theorem d_Nodes_printCase_80 : decode m_Nodes_printCase.2.1 80 = .ok (.if_icmp .ne 72, 3) := by decide +kernel
theorem d_Nodes_printCase_83 : decode m_Nodes_printCase.2.1 83 = .ok (.aload_n 0, 1) := by decide +kernel
theorem d_Nodes_printCase_84 : decode m_Nodes_printCase.2.1 84 = .ok (.getfield 3, 3) := by decide +kernel
theorem d_Nodes_printCase_87 : decode m_Nodes_printCase.2.1 87 = .ok (.getfield 181, 3) := by decide +kernel
theorem d_Nodes_printCase_90 : decode m_Nodes_printCase.2.1 90 = .ok (.ldc 231, 2) := by decide +kernel
theorem d_Nodes_printCase_92 : decode m_Nodes_printCase.2.1 92 = .ok (.invokevirtual 233, 3) := by decide +kernel
theorem d_Nodes_printCase_95 : decode m_Nodes_printCase.2.1 95 = .ok (.iconst 0, 1) := by decide +kernel
theorem d_Nodes_printCase_96 : decode m_Nodes_printCase.2.1 96 = .ok (.istore_n 2, 1) := by decide +kernel
theorem d_Nodes_printCase_97 : decode m_Nodes_printCase.2.1 97 = .ok (.iload_n 2, 1) := by decide +kernel
theorem d_Nodes_printCase_98 : decode m_Nodes_printCase.2.1 98 = .ok (.iconst 2, 1) := by decide +kernel
theorem d_Nodes_printCase_99 : decode m_Nodes_printCase.2.1 99 = .ok (.aload_n 0, 1) := by decide +kernel
theorem d_Nodes_printCase_100 : decode m_Nodes_printCase.2.1 100 = .ok (.getfield 34, 3) := by decide +kernel
theorem d_Nodes_printCase_103 : decode m_Nodes_printCase.2.1 103 = .ok (.iload_n 1, 1) := by decide +kernel
theorem d_Nodes_printCase_104 : decode m_Nodes_printCase.2.1 104 = .ok (.iaload, 1) := by decide +kernel
theorem d_Nodes_printCase_105 : decode m_Nodes_printCase.2.1 105 = .ok (.imul, 1) := by decide +kernel
theorem d_Nodes_printCase_106 : decode m_Nodes_printCase.2.1 106 = .ok (.if_icmp .ge 31, 3) := by decide +kernel
theorem d_Nodes_printCase_109 : decode m_Nodes_printCase.2.1 109 = .ok (.aload_n 0, 1) := by decide +kernel
theorem d_Nodes_printCase_110 : decode m_Nodes_printCase.2.1 110 = .ok (.getfield 3, 3) := by decide +kernel
theorem d_Nodes_printCase_113 : decode m_Nodes_printCase.2.1 113 = .ok (.getfield 181, 3) := by decide +kernel
theorem d_Nodes_printCase_116 : decode m_Nodes_printCase.2.1 116 = .ok (.aload_n 0, 1) := by decide +kernel
theorem d_Nodes_printCase_117 : decode m_Nodes_printCase.2.1 117 = .ok (.aload_n 0, 1) := by decide +kernel
theorem d_Nodes_printCase_118 : decode m_Nodes_printCase.2.1 118 = .ok (.getfield 31, 3) := by decide +kernel
theorem d_Nodes_printCase_121 : decode m_Nodes_printCase.2.1 121 = .ok (.iload_n 1, 1) := by decide +kernel
theorem d_Nodes_printCase_122 : decode m_Nodes_printCase.2.1 122 = .ok (.iaload, 1) := by decide +kernel
theorem d_Nodes_printCase_123 : decode m_Nodes_printCase.2.1 123 = .ok (.iload_n 2, 1) := by decide +kernel
theorem d_Nodes_printCase_124 : decode m_Nodes_printCase.2.1 124 = .ok (.iadd, 1) := by decide +kernel
theorem d_Nodes_printCase_125 : decode m_Nodes_printCase.2.1 125 = .ok (.invokevirtual 157, 3) := by decide +kernel
theorem d_Nodes_printCase_128 : decode m_Nodes_printCase.2.1 128 = .ok (.invokevirtual 197, 3) := by decide +kernel
theorem d_Nodes_printCase_131 : decode m_Nodes_printCase.2.1 131 = .ok (.iinc 2 1, 3) := by decide +kernel
theorem d_Nodes_printCase_134 : decode m_Nodes_printCase.2.1 134 = .ok (.goto (-37), 3) := by decide +kernel
theorem d_Nodes_printCase_137 : decode m_Nodes_printCase.2.1 137 = .ok (.aload_n 0, 1) := by decide +kernel
theorem d_Nodes_printCase_138 : decode m_Nodes_printCase.2.1 138 = .ok (.getfield 3, 3) := by decide +kernel
theorem d_Nodes_printCase_141 : decode m_Nodes_printCase.2.1 141 = .ok (.getfield 181, 3) := by decide +kernel
theorem d_Nodes_printCase_144 : decode m_Nodes_printCase.2.1 144 = .ok (.ldc 237, 2) := by decide +kernel
theorem d_Nodes_printCase_146 : decode m_Nodes_printCase.2.1 146 = .ok (.invokevirtual 233, 3) := by decide +kernel
theorem d_Nodes_printCase_149 : decode m_Nodes_printCase.2.1 149 = .ok (.goto 13, 3) := by decide +kernel
theorem d_Nodes_printCase_152 : decode m_Nodes_printCase.2.1 152 = .ok (.aload_n 0, 1) := by decide +kernel
theorem d_Nodes_printCase_153 : decode m_Nodes_printCase.2.1 153 = .ok (.aload_n 0, 1) := by decide +kernel
theorem d_Nodes_printCase_154 : decode m_Nodes_printCase.2.1 154 = .ok (.getfield 19, 3) := by decide +kernel
theorem d_Nodes_printCase_157 : decode m_Nodes_printCase.2.1 157 = .ok (.iload_n 1, 1) := by decide +kernel
theorem d_Nodes_printCase_158 : decode m_Nodes_printCase.2.1 158 = .ok (.iaload, 1) := by decide +kernel
theorem d_Nodes_printCase_159 : decode m_Nodes_printCase.2.1 159 = .ok (.invokevirtual 213, 3) := by decide +kernel
theorem d_Nodes_printCase_162 : decode m_Nodes_printCase.2.1 162 = .ok (.aload_n 0, 1) := by decide +kernel
theorem d_Nodes_printCase_163 : decode m_Nodes_printCase.2.1 163 = .ok (.aload_n 0, 1) := by decide +kernel
theorem d_Nodes_printCase_164 : decode m_Nodes_printCase.2.1 164 = .ok (.getfield 22, 3) := by decide +kernel
theorem d_Nodes_printCase_167 : decode m_Nodes_printCase.2.1 167 = .ok (.iload_n 1, 1) := by decide +kernel
theorem d_Nodes_printCase_168 : decode m_Nodes_printCase.2.1 168 = .ok (.iaload, 1) := by decide +kernel
theorem d_Nodes_printCase_169 : decode m_Nodes_printCase.2.1 169 = .ok (.invokevirtual 213, 3) := by decide +kernel
theorem d_Nodes_printCase_172 : decode m_Nodes_printCase.2.1 172 = .ok (.return_, 1) := by decide +kernel
/-- a case's row -/
def CaF (ρ : Nat → Row) (V : Nat → Int) (f lo hi mh : Nat) (r : Row) : Prop := InvR ρ V f lo hi mh 6 r ∧ ChO ρ V f lo hi mh (r.getD 2 0) ∧ ((r.getD 3 0 = 7 ∨ r.getD 3 0 = 9) ∧ ChO ρ V f lo hi mh (r.getD 1 0) ∨ r.getD 3 0 = 8 ∧ ∃ k p : Nat, r.getD 8 0 = (k : Int) ∧ r.getD 9 0 = (p : Int) ∧ (1 ≤ p ∧ p ≤ 4) ∧ k + 2 * p ≤ mh)
section
variable {ρ : Nat → Row} {V : Nat → Int}
theorem CaF.o {f lo hi mh : Nat} {v : Int} {r : Row} (h : CaF ρ V f lo hi mh r) : CaF ρ V f lo hi mh (r.set 4 v) := by
  obtain ⟨h1, h2, h3⟩ := h
  refine ⟨h1.o (Or.inr (Or.inl rfl)), by rw [gset_n (by decide)]; exact h2, ?_⟩
  rw [gset_n (j := 3) (by decide), gset_n (j := 1) (by decide), gset_n (j := 8) (by decide), gset_n (j := 9) (by decide)]
  exact h3
theorem WfL.caf {f n m n1 m1 : Nat} {κ dep : Int} {r : Row} (hκ : κ = 7 ∨ κ = 8 ∨ κ = 9) (h : WfL (WfS V (fun _ _ _ _ _ _ => False) (Wf ρ V f)) (itA κ) [6, -1, -1, κ, -1, 0, 0, 0, -1, 0, dep] (n + 1) m r n1 m1) : CaF ρ V f n n1 m1 r := by
  have hI := WfL_inv (κ := 6) (lo := n) (hi := n1) (mh := m1) (fun _ _ _ _ _ _ h => absurd h (fun h => h)) _ itA_s _ _ _ _ _ _ h (by omega) (Nat.le_refl _) (Nat.le_refl _) (InvR.i (x := 0) (Or.inl rfl))
  rcases hκ with rfl | rfl | rfl
  · obtain ⟨r1, n2, m2, q1, r2, n3, m3, q2, r3, n4, m4, q3, r4, n5, m5, q4, r5, n6, m6, q5, e1, e2, e3⟩ := h
    obtain ⟨⟨x1, z1, -⟩, y1, w1⟩ := (show (∃ x : Nat, r1 = _ ∧ nmO x) ∧ n2 = n + 1 ∧ m2 = m from q1)
    obtain ⟨⟨x2, z2, -⟩, y2, w2⟩ := (show (∃ x : Nat, r2 = _ ∧ nmO x) ∧ n3 = n2 ∧ m3 = m2 from q2)
    obtain ⟨⟨x3, z3, -⟩, y3, w3⟩ := (show (∃ x : Nat, r3 = _ ∧ nmO x) ∧ n4 = n3 ∧ m4 = m3 from q3)
    obtain ⟨z4, u4⟩ := (show r4 = r3.set 1 n4 ∧ Wf ρ V f 2 n4 m4 n5 m5 from q4)
    obtain ⟨z5, u5⟩ := (show r5 = r4.set 2 n5 ∧ Wf ρ V f 1 n5 m5 n6 m6 from q5)
    have b4 := Wf_le _ _ _ _ _ _ u4
    have b5 := Wf_le _ _ _ _ _ _ u5
    subst e1 e2 e3 z5 z4 z3 z2 z1
    refine ⟨hI, ⟨n5, 1, m5, n1, m1, rfl, by omega, Nat.le_refl _, Nat.le_refl _, u5⟩, Or.inl ⟨Or.inl rfl, ⟨n4, 2, m4, n5, m5, rfl, by omega, by omega, by omega, u4⟩⟩⟩
  · obtain ⟨r1, n2, m2, q1, r2, n3, m3, q2, r3, n4, m4, q3, r4, n5, m5, q4, r5, n6, m6, q5, e1, e2, e3⟩ := h
    obtain ⟨⟨x1, z1, -⟩, y1, w1⟩ := (show (∃ x : Nat, r1 = _ ∧ nmO x) ∧ n2 = n + 1 ∧ m2 = m from q1)
    obtain ⟨⟨x2, z2, -⟩, y2, w2⟩ := (show (∃ x : Nat, r2 = _ ∧ nmO x) ∧ n3 = n2 ∧ m3 = m2 from q2)
    obtain ⟨z3, y3, w3⟩ := (show r3 = r2 ∧ n4 = n3 ∧ m4 = m3 from q3)
    obtain ⟨y4, p, hp, z4, w4⟩ := (show n5 = n4 ∧ ∃ p : Nat, (1 ≤ p ∧ p ≤ 4) ∧ r4 = (r3.set 8 m4).set 9 p ∧ m5 = m4 + 2 * p from q4)
    obtain ⟨z5, u5⟩ := (show r5 = r4.set 2 n5 ∧ Wf ρ V f 1 n5 m5 n6 m6 from q5)
    have b5 := Wf_le _ _ _ _ _ _ u5
    subst e1 e2 e3 z5 z4 z3 z2 z1
    refine ⟨hI, ⟨n5, 1, m5, n1, m1, rfl, by omega, Nat.le_refl _, Nat.le_refl _, u5⟩, Or.inr ⟨rfl, m4, p, rfl, rfl, hp, by omega⟩⟩
  · obtain ⟨r1, n2, m2, q1, r2, n3, m3, q2, e1, e2, e3⟩ := h
    obtain ⟨z1, u1⟩ := (show r1 = _ ∧ Wf ρ V f 3 (n + 1) m n2 m2 from q1)
    obtain ⟨z2, u2⟩ := (show r2 = r1.set 2 n2 ∧ Wf ρ V f 1 n2 m2 n3 m3 from q2)
    have b1 := Wf_le _ _ _ _ _ _ u1
    have b2 := Wf_le _ _ _ _ _ _ u2
    subst e1 e2 e3 z2 z1
    refine ⟨hI, ⟨n2, 1, m2, n1, m1, rfl, by omega, Nat.le_refl _, Nat.le_refl _, u2⟩, Or.inl ⟨Or.inr rfl, ⟨n + 1, 3, m, n2, m2, rfl, by omega, by omega, by omega, u1⟩⟩⟩
end
section
variable {P w o D Z mm sz lo hi a1 p1 a2 p2 : Nat} {ρ : Nat → Row} {V : Nat → Int} {I : M32} {L : M64} {R : MR} {T : SH}
theorem c_Nodes_printCase {f n n' m' : Nat} (d : Nat) {l : List Nat} (hd : 5 * f + 12 ≤ d) (hF : PrF P w o D L R T) (hK : PrOk P w o D Z mm sz lo hi a1 p1 a2 p2 ρ V L R T f) (hI : CaF ρ V f n n' m' (ρ n)) (hlo : lo ≤ n) (hn : n < n') (hhi : n' ≤ hi) (hmh : m' ≤ mm) (hP : PrI o D Z mm sz lo hi a1 p1 a2 p2 ρ V L R T I) (hV : OutV I o l) :
    Call m_Nodes_printCase y_Nodes_printCase d 0 0 [.ref D, .int (cI (n : Int))] I L R T (rV fun I' L' R' T' => (OutV I' o (prK ρ V (prN ρ V f) n l) ∧ FrO o (o + 1) I I') ∧ L' = L ∧ R' = R ∧ T' = T) := by
  obtain ⟨f1, f2, f3, f4, f5, f6, f7⟩ := id hF
  obtain ⟨⟨g1, g2, ⟨⟨x5, e5, y5⟩, ⟨x6, e6, y6⟩, ⟨x7, e7, y7⟩⟩, -, -⟩, g7, g8⟩ := id hI
  have hly := hP.2.2.2.2.1
  have hrw : ∀ J, PrI o D Z mm sz lo hi a1 p1 a2 p2 ρ V L R T J → RowC J L D n (ρ n) := fun J hJ => hJ.2.1 n hlo (by omega)
  have hr0 := hrw I hP
  obtain ⟨c1, hc1⟩ : ∃ c1, c1 = (ρ n).getD 1 0 := ⟨_, rfl⟩
  obtain ⟨c2, hc2⟩ : ∃ c2, c2 = (ρ n).getD 2 0 := ⟨_, rfl⟩
  obtain ⟨k3, hk3, hk9⟩ : ∃ k3 : Nat, (ρ n).getD 3 0 = (k3 : Int) ∧ (k3 = 7 ∨ k3 = 8 ∨ k3 = 9) := by
    rcases g8 with ⟨h | h, -⟩ | ⟨h, -⟩
    · exact ⟨7, h, by decide⟩
    · exact ⟨9, h, by decide⟩
    · exact ⟨8, h, by decide⟩
  unfold prK
  rw [← hc2] at g7
  simp only [e5, e6, e7, ← hc1, ← hc2, hk3, Int.toNat_natCast]
  refine Call.ofRun (by decide) ⟨rfl, rfl⟩ (Nat.le_of_ble_eq_true rfl) ?_
  refine Run.gen fun Q hQ => ?_
  refine q_aload_n d_Nodes_printCase_0 rfl ?_
  refine q_getR d_Nodes_printCase_1 fl_Nodes_3 f7.1 ⟨rfl, by decide⟩ f7.2.2 ?_
  refine q_getR d_Nodes_printCase_4 fl_Nodes_216 f1 ⟨rfl, by decide⟩ f2 ?_
  refine j_bipush d_Nodes_printCase_7 (by decide) ?_
  refine q_aload_n d_Nodes_printCase_9 rfl ?_
  refine q_getR d_Nodes_printCase_10 fl_Nodes_3 f7.1 ⟨rfl, by decide⟩ f7.2.2 ?_
  refine q_getR d_Nodes_printCase_13 fl_Nodes_181 f1 ⟨rfl, by decide⟩ f3 ?_
  refine q_callV (ci := 3) (rc := 0) (rs := 0) (rest := []) d_Nodes_printCase_16 ml_Nodes_220 ok_Keywords_print rfl f4.1 (by decide) (c_Keywords_print (d - 1) (k := 6) (by omega) f4 f5 f6 hV (by decide)) rfl rfl (by omega) (Nat.le_of_ble_eq_true rfl) (kv_V (fun J1 q1 => ?_)) kt_V
  have hP1 := hP.fr q1.2.o
  refine q_aload_n d_Nodes_printCase_19 rfl ?_
  refine q_getR d_Nodes_printCase_20 fl_Nodes_3 f7.1 ⟨rfl, by decide⟩ f7.2.2 ?_
  refine q_getR d_Nodes_printCase_23 fl_Nodes_216 f1 ⟨rfl, by decide⟩ f2 ?_
  refine q_aload_n d_Nodes_printCase_26 rfl ?_
  refine q_getR d_Nodes_printCase_27 fl_Nodes_25 f7.1 ⟨rfl, by decide⟩ (nR3 f7) ?_
  refine q_iload_n d_Nodes_printCase_30 rfl ?_
  refine j_iald (j := n) (v := (cI (k3 : Int))) d_Nodes_printCase_31 (nT3 f7) (nN3 f7) (by omega) (by omega) (by omega) ((hrw _ hP1).2.2.2.1.trans (by rw [hk3])) ?_
  refine q_aload_n d_Nodes_printCase_32 rfl ?_
  refine q_getR d_Nodes_printCase_33 fl_Nodes_3 f7.1 ⟨rfl, by decide⟩ f7.2.2 ?_
  refine q_getR d_Nodes_printCase_36 fl_Nodes_181 f1 ⟨rfl, by decide⟩ f3 ?_
  refine q_callV (ci := 3) (rc := 0) (rs := 0) (rest := []) d_Nodes_printCase_39 ml_Nodes_220 ok_Keywords_print rfl f4.1 (by decide) (c_Keywords_print (d - 1) (k := k3) (by omega) f4 f5 f6 q1.1 (by omega)) rfl rfl (by omega) (Nat.le_of_ble_eq_true rfl) (kv_V (fun J2 q2 => ?_)) kt_V
  refine q_aload_n d_Nodes_printCase_42 rfl ?_
  refine q_aload_n d_Nodes_printCase_43 rfl ?_
  refine q_getR d_Nodes_printCase_44 fl_Nodes_37 f7.1 ⟨rfl, by decide⟩ (nR7 f7) ?_
  refine q_iload_n d_Nodes_printCase_47 rfl ?_
  refine j_lald (j := n) (v := (cL (x5 : Int))) d_Nodes_printCase_48 (nT7 f7) (nN7 f7) (by omega) (by omega) (by omega) (hr0.2.2.2.2.2.1.trans (by rw [e5])) ?_
  refine q_callV (ci := 6) (rc := 0) (rs := 0) (rest := []) d_Nodes_printCase_49 ml_Nodes_225 ok_Nodes_printName rfl f7.1 (by decide) (c_Nodes_printName (d - 1) (by omega) hF q2.1 y5) rfl rfl (by omega) (Nat.le_of_ble_eq_true rfl) (kv_V (fun J3 q3 => ?_)) kt_V
  refine q_aload_n d_Nodes_printCase_52 rfl ?_
  refine q_aload_n d_Nodes_printCase_53 rfl ?_
  refine q_getR d_Nodes_printCase_54 fl_Nodes_41 f7.1 ⟨rfl, by decide⟩ (nR8 f7) ?_
  refine q_iload_n d_Nodes_printCase_57 rfl ?_
  refine j_lald (j := n) (v := (cL (x6 : Int))) d_Nodes_printCase_58 (nT8 f7) (nN8 f7) (by omega) (by omega) (by omega) (hr0.2.2.2.2.2.2.1.trans (by rw [e6])) ?_
  refine q_callV (ci := 6) (rc := 0) (rs := 0) (rest := []) d_Nodes_printCase_59 ml_Nodes_225 ok_Nodes_printName rfl f7.1 (by decide) (c_Nodes_printName (d - 1) (by omega) hF q3.1 y6) rfl rfl (by omega) (Nat.le_of_ble_eq_true rfl) (kv_V (fun J4 q4 => ?_)) kt_V
  refine q_aload_n d_Nodes_printCase_62 rfl ?_
  refine q_aload_n d_Nodes_printCase_63 rfl ?_
  refine q_getR d_Nodes_printCase_64 fl_Nodes_44 f7.1 ⟨rfl, by decide⟩ (nR9 f7) ?_
  refine q_iload_n d_Nodes_printCase_67 rfl ?_
  refine j_lald (j := n) (v := (cL (x7 : Int))) d_Nodes_printCase_68 (nT9 f7) (nN9 f7) (by omega) (by omega) (by omega) (hr0.2.2.2.2.2.2.2.1.trans (by rw [e7])) ?_
  refine q_callV (ci := 6) (rc := 0) (rs := 0) (rest := []) d_Nodes_printCase_69 ml_Nodes_225 ok_Nodes_printName rfl f7.1 (by decide) (c_Nodes_printName (d - 1) (by omega) hF q4.1 y7) rfl rfl (by omega) (Nat.le_of_ble_eq_true rfl) (kv_V (fun J5 q5 => ?_)) kt_V
  have hF5 : FrO o (o + 1) I J5 := (((q1.2.o.tr q2.2.o).tr q3.2).tr q4.2).tr q5.2
  have hP5 := hP.fr hF5
  have t162 : ∀ (l6 : List Nat) (J6 : M32), FrO o (o + 1) I J6 → OutV J6 o l6 → l6 = (if (k3 : Int) = 8 then wordL (nusP V ((ρ n).getD 8 0).toNat (2 * ((ρ n).getD 9 0).toNat) (wordL (nmP x7 (nmP x6 (nmP x5 (wordL (wordL l (kwL 6)) (kwL k3))))) [91])) [93] else prN ρ V f c1.toNat (nmP x7 (nmP x6 (nmP x5 (wordL (wordL l (kwL 6)) (kwL k3)))))) → Run m_Nodes_printCase d 0 0 162 [(0, .ref D), (1, .int (cI (n : Int)))] [] J6 L R T Q := by
    intro l6 J6 q6 v6 hl6
    rw [← hl6] at hQ
    have hP6 := hP.fr q6
    have g7i := g7.in (by omega)
    refine q_aload_n d_Nodes_printCase_162 rfl ?_
    refine q_aload_n d_Nodes_printCase_163 rfl ?_
    refine q_getR d_Nodes_printCase_164 fl_Nodes_22 f7.1 ⟨rfl, by decide⟩ (nR2 f7) ?_
    refine q_iload_n d_Nodes_printCase_167 rfl ?_
    refine j_iald (j := n) (v := (cI c2)) d_Nodes_printCase_168 (nT2 f7) (nN2 f7) (by omega) (by omega) (by omega) ((hrw _ hP6).2.2.1.trans (by rw [← hc2])) ?_
    refine q_callV (ci := 6) (rc := 0) (rs := 0) (rest := []) d_Nodes_printCase_169 ml_Nodes_213 ok_Nodes_print rfl f7.1 (by decide) (hK.ch (d := d - 1) g7 (by omega) hlo hhi hmh hP6 v6) rfl rfl (by omega) (Nat.le_of_ble_eq_true rfl) (kv_V (fun J7 q7 => ?_)) kt_V
    refine q_return d_Nodes_printCase_172 rfl ?_
    refine hQ _ _ _ _ _ ?_
    exact ⟨rfl, ⟨q7.1, q6.tr q7.2⟩, rfl, rfl, rfl⟩
  refine q_aload_n d_Nodes_printCase_72 rfl ?_
  refine q_getR d_Nodes_printCase_73 fl_Nodes_25 f7.1 ⟨rfl, by decide⟩ (nR3 f7) ?_
  refine q_iload_n d_Nodes_printCase_76 rfl ?_
  refine j_iald (j := n) (v := (cI (k3 : Int))) d_Nodes_printCase_77 (nT3 f7) (nN3 f7) (by omega) (by omega) (by omega) ((hrw _ hP5).2.2.2.1.trans (by rw [hk3])) ?_
  refine j_bipush d_Nodes_printCase_78 (by decide) ?_
  by_cases h8 : k3 = 8
  rotate_left
  · refine j_icmp_ne (tgt := 152) d_Nodes_printCase_80 (by decide) (by omega) (by omega) (fun hx => ?_) (fun hx => by exfalso; omega)
    have g1c : ChO ρ V f n n' m' c1 := by
      rcases g8 with ⟨-, h⟩ | ⟨h, -⟩
      · rw [hc1]; exact h
      · omega
    have g1i := g1c.in (by omega)
    refine q_aload_n d_Nodes_printCase_152 rfl ?_
    refine q_aload_n d_Nodes_printCase_153 rfl ?_
    refine q_getR d_Nodes_printCase_154 fl_Nodes_19 f7.1 ⟨rfl, by decide⟩ (nR1 f7) ?_
    refine q_iload_n d_Nodes_printCase_157 rfl ?_
    refine j_iald (j := n) (v := (cI c1)) d_Nodes_printCase_158 (nT1 f7) (nN1 f7) (by omega) (by omega) (by omega) ((hrw _ hP5).2.1.trans (by rw [← hc1])) ?_
    refine q_callV (ci := 6) (rc := 0) (rs := 0) (rest := []) d_Nodes_printCase_159 ml_Nodes_213 ok_Nodes_print rfl f7.1 (by decide) (hK.ch (d := d - 1) g1c (by omega) hlo hhi hmh hP5 q5.1) rfl rfl (by omega) (Nat.le_of_ble_eq_true rfl) (kv_V (fun J6 q6 => ?_)) kt_V
    exact t162 _ _ (hF5.tr q6.2) q6.1 (by rw [if_neg (by omega)]; rfl)
  obtain ⟨kn, pn, ek, ep, hpn, hkm⟩ : ∃ k p : Nat, (ρ n).getD 8 0 = (k : Int) ∧ (ρ n).getD 9 0 = (p : Int) ∧ (1 ≤ p ∧ p ≤ 4) ∧ k + 2 * p ≤ m' := by
    rcases g8 with ⟨h | h, -⟩ | ⟨-, h⟩
    · omega
    · omega
    · exact h
  rw [ek, ep, if_pos (by omega), Int.toNat_natCast, Int.toNat_natCast] at t162
  have hms := hP.1.lt
  refine j_icmp_ne (tgt := 152) d_Nodes_printCase_80 (by decide) (by omega) (by omega) (fun hx => by exfalso; omega) (fun hx => ?_)
  refine q_aload_n d_Nodes_printCase_83 rfl ?_
  refine q_getR d_Nodes_printCase_84 fl_Nodes_3 f7.1 ⟨rfl, by decide⟩ f7.2.2 ?_
  refine q_getR d_Nodes_printCase_87 fl_Nodes_181 f1 ⟨rfl, by decide⟩ f3 ?_
  refine q_ldcS (i := 1) d_Nodes_printCase_90 rfl hP.2.2.1.2.1 ?_
  refine q_callV (ci := 2) (rc := 0) (rs := 0) (rest := []) d_Nodes_printCase_92 ml_Nodes_233 ok_Out_word rfl f6.1 (by decide) (c_Out_word (d - 1) (by omega) f6 q5.1 hP5.2.2.1) rfl rfl (by omega) (Nat.le_of_ble_eq_true rfl) (kv_V (fun J6 q6 => ?_)) kt_V
  have hF6 := hF5.tr q6.2.o
  refine j_iconst d_Nodes_printCase_95 ?_
  refine q_istore_n (lv' := [(2, .int (cI 0)), (0, .ref D), (1, .int (cI (n : Int)))]) d_Nodes_printCase_96 (by decide) rfl ?_
  have loop : ∀ (fl j : Nat) (J7 : M32), j + fl = 2 * pn → FrO o (o + 1) I J7 → OutV J7 o (nusP V kn j (wordL (nmP x7 (nmP x6 (nmP x5 (wordL (wordL l (kwL 6)) (kwL k3))))) [91])) → Run m_Nodes_printCase d 0 0 97 [(0, .ref D), (1, .int (cI (n : Int))), (2, .int (cI (j : Int)))] [] J7 L R T Q := by
    intro fl
    induction fl with
    | zero =>
      intro j J7 hj q7 v7
      have hP7 := hP.fr q7
      refine q_iload_n d_Nodes_printCase_97 rfl ?_
      refine j_iconst d_Nodes_printCase_98 ?_
      refine q_aload_n d_Nodes_printCase_99 rfl ?_
      refine q_getR d_Nodes_printCase_100 fl_Nodes_34 f7.1 ⟨rfl, by decide⟩ (nR6 f7) ?_
      refine q_iload_n d_Nodes_printCase_103 rfl ?_
      refine j_iald (j := n) (v := (cI (pn : Int))) d_Nodes_printCase_104 (nT6 f7) (nN6 f7) (by omega) (by omega) (by omega) ((hrw _ hP7).2.2.2.2.2.2.2.2.2.trans (by rw [ep])) ?_
      refine j_imul d_Nodes_printCase_105 ?_
      refine j_icmp_ge (tgt := 137) d_Nodes_printCase_106 (by decide) (by omega) (by omega) (fun hx => ?_) (fun hx => by exfalso; omega)
      refine q_aload_n d_Nodes_printCase_137 rfl ?_
      refine q_getR d_Nodes_printCase_138 fl_Nodes_3 f7.1 ⟨rfl, by decide⟩ f7.2.2 ?_
      refine q_getR d_Nodes_printCase_141 fl_Nodes_181 f1 ⟨rfl, by decide⟩ f3 ?_
      refine q_ldcS (i := 2) d_Nodes_printCase_144 rfl hP7.2.2.2.1.2.1 ?_
      refine q_callV (ci := 2) (rc := 0) (rs := 0) (rest := []) d_Nodes_printCase_146 ml_Nodes_233 ok_Out_word rfl f6.1 (by decide) (c_Out_word (d - 1) (by omega) f6 v7 hP7.2.2.2.1) rfl rfl (by omega) (Nat.le_of_ble_eq_true rfl) (kv_V (fun J8 q8 => ?_)) kt_V
      refine q_goto (tgt := 162) d_Nodes_printCase_149 (by decide) ?_
      obtain rfl : j = 2 * pn := by omega
      refine Run.lv (lv' := [(0, .ref D), (1, .int (cI (n : Int)))]) (by intro q hq; simp only [List.mem_cons, List.not_mem_nil, or_false] at hq ⊢; rcases hq with rfl | rfl <;> simp) ?_
      exact t162 _ _ (q7.tr q8.2.o) q8.1 rfl
    | succ fl ih =>
      intro j J7 hj q7 v7
      have hP7 := hP.fr q7
      obtain ⟨b, b1, b2, b3, b4⟩ := hP7.1.at (k := kn + j) f7 (by omega)
      refine q_iload_n d_Nodes_printCase_97 rfl ?_
      refine j_iconst d_Nodes_printCase_98 ?_
      refine q_aload_n d_Nodes_printCase_99 rfl ?_
      refine q_getR d_Nodes_printCase_100 fl_Nodes_34 f7.1 ⟨rfl, by decide⟩ (nR6 f7) ?_
      refine q_iload_n d_Nodes_printCase_103 rfl ?_
      refine j_iald (j := n) (v := (cI (pn : Int))) d_Nodes_printCase_104 (nT6 f7) (nN6 f7) (by omega) (by omega) (by omega) ((hrw _ hP7).2.2.2.2.2.2.2.2.2.trans (by rw [ep])) ?_
      refine j_imul d_Nodes_printCase_105 ?_
      refine j_icmp_ge (tgt := 137) d_Nodes_printCase_106 (by decide) (by omega) (by omega) (fun hx => by exfalso; omega) (fun hx => ?_)
      refine q_aload_n d_Nodes_printCase_109 rfl ?_
      refine q_getR d_Nodes_printCase_110 fl_Nodes_3 f7.1 ⟨rfl, by decide⟩ f7.2.2 ?_
      refine q_getR d_Nodes_printCase_113 fl_Nodes_181 f1 ⟨rfl, by decide⟩ f3 ?_
      refine q_aload_n d_Nodes_printCase_116 rfl ?_
      refine q_aload_n d_Nodes_printCase_117 rfl ?_
      refine q_getR d_Nodes_printCase_118 fl_Nodes_31 f7.1 ⟨rfl, by decide⟩ (nR5 f7) ?_
      refine q_iload_n d_Nodes_printCase_121 rfl ?_
      refine j_iald (j := n) (v := (cI (kn : Int))) d_Nodes_printCase_122 (nT5 f7) (nN5 f7) (by omega) (by omega) (by omega) ((hrw _ hP7).2.2.2.2.2.2.2.2.1.trans (by rw [ek])) ?_
      refine q_iload_n d_Nodes_printCase_123 rfl ?_
      refine j_iadd d_Nodes_printCase_124 ?_
      refine Run.top (v := .int (cI (((kn + j : Nat) : Int)))) (by rw [show ((kn : Int) + (j : Int)) = ((kn + j : Nat) : Int) by omega]) ?_
      refine q_callV (ci := 6) (rc := 0) (rs := 0) (rest := [.ref o]) d_Nodes_printCase_125 ml_Nodes_157 ok_Nodes_numberAt rfl f7.1 (by decide) (b4 (d - 1) L (by omega)) rfl rfl (by omega) (Nat.le_of_ble_eq_true rfl) (kp_O ?_) kt_O
      refine q_callV (ci := 2) (rc := 0) (rs := 0) (rest := []) d_Nodes_printCase_128 ml_Nodes_197 ok_Out_number rfl f6.1 (by decide) (c_Out_number (d - 1) (by omega) f6 b1 v7 b2) rfl rfl (by omega) (Nat.le_of_ble_eq_true rfl) (kv_V (fun J8 q8 => ?_)) kt_V
      obtain ⟨nn, d1, d2, d3⟩ := q8
      rw [nuL_eq d1] at d2
      refine j_iinc (lv' := [(2, .int (cI ((j : Int) + 1))), (0, .ref D), (1, .int (cI (n : Int)))]) d_Nodes_printCase_131 rfl (by decide) rfl ?_
      refine q_goto (tgt := 97) d_Nodes_printCase_134 (by decide) ?_
      refine Run.lv (lv' := [(0, .ref D), (1, .int (cI (n : Int))), (2, .int (cI ((j : Int) + 1)))]) (by intro q hq; simp only [List.mem_cons, List.not_mem_nil, or_false] at hq ⊢; rcases hq with rfl | rfl | rfl <;> simp) ?_
      exact ih (j + 1) _ (by omega) (q7.tr d3) d2
  refine Run.lv (lv' := [(0, .ref D), (1, .int (cI (n : Int))), (2, .int (cI 0))]) (by intro q hq; simp only [List.mem_cons, List.not_mem_nil, or_false] at hq ⊢; rcases hq with rfl | rfl | rfl <;> simp) ?_
  exact loop (2 * pn) 0 _ (by omega) hF6 q6.1
end

