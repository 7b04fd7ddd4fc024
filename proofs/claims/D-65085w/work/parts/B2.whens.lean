/-! ===== B2 WHAT IS TOLD OF A CONTRACT: whens in one another, the component ===== -/
theorem d_Nodes_whens_0 : decode m_Nodes_whens.2.1 0 = .ok (.iload_n 1, 1) := by decide +kernel
theorem d_Nodes_whens_1 : decode m_Nodes_whens.2.1 1 = .ok (.iconst (-1), 1) := by decide +kernel
theorem d_Nodes_whens_2 : decode m_Nodes_whens.2.1 2 = .ok (.if_icmp .eq 34, 3) := by decide +kernel
theorem d_Nodes_whens_5 : decode m_Nodes_whens.2.1 5 = .ok (.aload_n 0, 1) := by decide +kernel
theorem d_Nodes_whens_6 : decode m_Nodes_whens.2.1 6 = .ok (.getfield 15, 3) := by decide +kernel
theorem d_Nodes_whens_9 : decode m_Nodes_whens.2.1 9 = .ok (.iload_n 1, 1) := by decide +kernel
theorem d_Nodes_whens_10 : decode m_Nodes_whens.2.1 10 = .ok (.iaload, 1) := by decide +kernel
theorem d_Nodes_whens_11 : decode m_Nodes_whens.2.1 11 = .ok (.invokestatic 173, 3) := by decide +kernel
theorem d_Nodes_whens_14 : decode m_Nodes_whens.2.1 14 = .ok (.ifCond .ne 22, 3) := by decide +kernel
theorem d_Nodes_whens_17 : decode m_Nodes_whens.2.1 17 = .ok (.aload_n 0, 1) := by decide +kernel
theorem d_Nodes_whens_18 : decode m_Nodes_whens.2.1 18 = .ok (.getfield 15, 3) := by decide +kernel
theorem d_Nodes_whens_21 : decode m_Nodes_whens.2.1 21 = .ok (.iload_n 1, 1) := by decide +kernel
theorem d_Nodes_whens_22 : decode m_Nodes_whens.2.1 22 = .ok (.iaload, 1) := by decide +kernel
theorem d_Nodes_whens_23 : decode m_Nodes_whens.2.1 23 = .ok (.i2l, 1) := by decide +kernel
theorem d_Nodes_whens_24 : decode m_Nodes_whens.2.1 24 = .ok (.ldc2_w 177, 3) := by decide +kernel
theorem d_Nodes_whens_27 : decode m_Nodes_whens.2.1 27 = .ok (.ldc2_w 179, 3) := by decide +kernel
theorem d_Nodes_whens_30 : decode m_Nodes_whens.2.1 30 = .ok (.invokestatic 169, 3) := by decide +kernel
theorem d_Nodes_whens_33 : decode m_Nodes_whens.2.1 33 = .ok (.ifCond .eq 5, 3) := by decide +kernel
theorem d_Nodes_whens_36 : decode m_Nodes_whens.2.1 36 = .ok (.iconst 0, 1) := by decide +kernel
theorem d_Nodes_whens_37 : decode m_Nodes_whens.2.1 37 = .ok (.ireturn, 1) := by decide +kernel
theorem d_Nodes_whens_38 : decode m_Nodes_whens.2.1 38 = .ok (.aload_n 0, 1) := by decide +kernel
theorem d_Nodes_whens_39 : decode m_Nodes_whens.2.1 39 = .ok (.aload_n 0, 1) := by decide +kernel
theorem d_Nodes_whens_40 : decode m_Nodes_whens.2.1 40 = .ok (.getfield 22, 3) := by decide +kernel
theorem d_Nodes_whens_43 : decode m_Nodes_whens.2.1 43 = .ok (.iload_n 1, 1) := by decide +kernel
theorem d_Nodes_whens_44 : decode m_Nodes_whens.2.1 44 = .ok (.iaload, 1) := by decide +kernel
theorem d_Nodes_whens_45 : decode m_Nodes_whens.2.1 45 = .ok (.invokevirtual 248, 3) := by decide +kernel
theorem d_Nodes_whens_48 : decode m_Nodes_whens.2.1 48 = .ok (.aload_n 0, 1) := by decide +kernel
theorem d_Nodes_whens_49 : decode m_Nodes_whens.2.1 49 = .ok (.getfield 15, 3) := by decide +kernel
theorem d_Nodes_whens_52 : decode m_Nodes_whens.2.1 52 = .ok (.iload_n 1, 1) := by decide +kernel
theorem d_Nodes_whens_53 : decode m_Nodes_whens.2.1 53 = .ok (.iaload, 1) := by decide +kernel
theorem d_Nodes_whens_54 : decode m_Nodes_whens.2.1 54 = .ok (.iconst 4, 1) := by decide +kernel
theorem d_Nodes_whens_55 : decode m_Nodes_whens.2.1 55 = .ok (.if_icmp .ne 16, 3) := by decide +kernel
theorem d_Nodes_whens_58 : decode m_Nodes_whens.2.1 58 = .ok (.aload_n 0, 1) := by decide +kernel
theorem d_Nodes_whens_59 : decode m_Nodes_whens.2.1 59 = .ok (.aload_n 0, 1) := by decide +kernel
theorem d_Nodes_whens_60 : decode m_Nodes_whens.2.1 60 = .ok (.getfield 25, 3) := by decide +kernel
theorem d_Nodes_whens_63 : decode m_Nodes_whens.2.1 63 = .ok (.iload_n 1, 1) := by decide +kernel
theorem d_Nodes_whens_64 : decode m_Nodes_whens.2.1 64 = .ok (.iaload, 1) := by decide +kernel
theorem d_Nodes_whens_65 : decode m_Nodes_whens.2.1 65 = .ok (.invokevirtual 248, 3) := by decide +kernel
theorem d_Nodes_whens_68 : decode m_Nodes_whens.2.1 68 = .ok (.goto 4, 3) := by decide +kernel
theorem d_Nodes_whens_71 : decode m_Nodes_whens.2.1 71 = .ok (.iconst 0, 1) := by decide +kernel
theorem d_Nodes_whens_72 : decode m_Nodes_whens.2.1 72 = .ok (.invokestatic 251, 3) := by decide +kernel
theorem d_Nodes_whens_75 : decode m_Nodes_whens.2.1 75 = .ok (.istore_n 2, 1) := by decide +kernel
theorem d_Nodes_whens_76 : decode m_Nodes_whens.2.1 76 = .ok (.aload_n 0, 1) := by decide +kernel
theorem d_Nodes_whens_77 : decode m_Nodes_whens.2.1 77 = .ok (.getfield 15, 3) := by decide +kernel
theorem d_Nodes_whens_80 : decode m_Nodes_whens.2.1 80 = .ok (.iload_n 1, 1) := by decide +kernel
theorem d_Nodes_whens_81 : decode m_Nodes_whens.2.1 81 = .ok (.iaload, 1) := by decide +kernel
theorem d_Nodes_whens_82 : decode m_Nodes_whens.2.1 82 = .ok (.iconst 5, 1) := by decide +kernel
theorem d_Nodes_whens_83 : decode m_Nodes_whens.2.1 83 = .ok (.if_icmp .ne 12, 3) := by decide +kernel
theorem d_Nodes_whens_86 : decode m_Nodes_whens.2.1 86 = .ok (.aload_n 0, 1) := by decide +kernel
theorem d_Nodes_whens_87 : decode m_Nodes_whens.2.1 87 = .ok (.getfield 19, 3) := by decide +kernel
theorem d_Nodes_whens_90 : decode m_Nodes_whens.2.1 90 = .ok (.iload_n 1, 1) := by decide +kernel
theorem d_Nodes_whens_91 : decode m_Nodes_whens.2.1 91 = .ok (.iaload, 1) := by decide +kernel
theorem d_Nodes_whens_92 : decode m_Nodes_whens.2.1 92 = .ok (.goto 4, 3) := by decide +kernel
theorem d_Nodes_whens_95 : decode m_Nodes_whens.2.1 95 = .ok (.iconst (-1), 1) := by decide +kernel
theorem d_Nodes_whens_96 : decode m_Nodes_whens.2.1 96 = .ok (.istore_n 3, 1) := by decide +kernel
theorem d_Nodes_whens_97 : decode m_Nodes_whens.2.1 97 = .ok (.iload_n 3, 1) := by decide +kernel
theorem d_Nodes_whens_98 : decode m_Nodes_whens.2.1 98 = .ok (.iconst (-1), 1) := by decide +kernel
theorem d_Nodes_whens_99 : decode m_Nodes_whens.2.1 99 = .ok (.if_icmp .eq 28, 3) := by decide +kernel
theorem d_Nodes_whens_102 : decode m_Nodes_whens.2.1 102 = .ok (.iload_n 2, 1) := by decide +kernel
theorem d_Nodes_whens_103 : decode m_Nodes_whens.2.1 103 = .ok (.aload_n 0, 1) := by decide +kernel
theorem d_Nodes_whens_104 : decode m_Nodes_whens.2.1 104 = .ok (.aload_n 0, 1) := by decide +kernel
theorem d_Nodes_whens_105 : decode m_Nodes_whens.2.1 105 = .ok (.getfield 22, 3) := by decide +kernel
theorem d_Nodes_whens_108 : decode m_Nodes_whens.2.1 108 = .ok (.iload_n 3, 1) := by decide +kernel
theorem d_Nodes_whens_109 : decode m_Nodes_whens.2.1 109 = .ok (.iaload, 1) := by decide +kernel
theorem d_Nodes_whens_110 : decode m_Nodes_whens.2.1 110 = .ok (.invokevirtual 248, 3) := by decide +kernel
theorem d_Nodes_whens_113 : decode m_Nodes_whens.2.1 113 = .ok (.invokestatic 251, 3) := by decide +kernel
theorem d_Nodes_whens_116 : decode m_Nodes_whens.2.1 116 = .ok (.istore_n 2, 1) := by decide +kernel
theorem d_Nodes_whens_117 : decode m_Nodes_whens.2.1 117 = .ok (.aload_n 0, 1) := by decide +kernel
theorem d_Nodes_whens_118 : decode m_Nodes_whens.2.1 118 = .ok (.getfield 28, 3) := by decide +kernel
theorem d_Nodes_whens_121 : decode m_Nodes_whens.2.1 121 = .ok (.iload_n 3, 1) := by decide +kernel
theorem d_Nodes_whens_122 : decode m_Nodes_whens.2.1 122 = .ok (.iaload, 1) := by decide +kernel
theorem d_Nodes_whens_123 : decode m_Nodes_whens.2.1 123 = .ok (.istore_n 3, 1) := by decide +kernel
theorem d_Nodes_whens_124 : decode m_Nodes_whens.2.1 124 = .ok (.goto (-27), 3) := by decide +kernel
theorem d_Nodes_whens_127 : decode m_Nodes_whens.2.1 127 = .ok (.iload_n 2, 1) := by decide +kernel
theorem d_Nodes_whens_128 : decode m_Nodes_whens.2.1 128 = .ok (.aload_n 0, 1) := by decide +kernel
theorem d_Nodes_whens_129 : decode m_Nodes_whens.2.1 129 = .ok (.getfield 15, 3) := by decide +kernel
theorem d_Nodes_whens_132 : decode m_Nodes_whens.2.1 132 = .ok (.iload_n 1, 1) := by decide +kernel
theorem d_Nodes_whens_133 : decode m_Nodes_whens.2.1 133 = .ok (.iaload, 1) := by decide +kernel
theorem d_Nodes_whens_134 : decode m_Nodes_whens.2.1 134 = .ok (.iconst 5, 1) := by decide +kernel
theorem d_Nodes_whens_135 : decode m_Nodes_whens.2.1 135 = .ok (.if_icmp .ne 7, 3) := by decide +kernel
theorem d_Nodes_whens_138 : decode m_Nodes_whens.2.1 138 = .ok (.iconst 1, 1) := by decide +kernel
theorem d_Nodes_whens_139 : decode m_Nodes_whens.2.1 139 = .ok (.goto 4, 3) := by decide +kernel
theorem d_Nodes_whens_142 : decode m_Nodes_whens.2.1 142 = .ok (.iconst 0, 1) := by decide +kernel
theorem d_Nodes_whens_143 : decode m_Nodes_whens.2.1 143 = .ok (.iadd, 1) := by decide +kernel
theorem d_Nodes_whens_144 : decode m_Nodes_whens.2.1 144 = .ok (.ireturn, 1) := by decide +kernel
def whCs (ρ : Nat → Row) (W : Int → Nat) : Nat → Int → Nat → Nat
  | 0, _, a => a
  | k + 1, c, a => if c = -1 then a else whCs ρ W k ((ρ c.toNat).getD 4 0) (max a (W ((ρ c.toNat).getD 2 0)))
/-- the most whens in one another -/
def whF (ρ : Nat → Row) : Nat → Int → Nat
  | 0, _ => 0
  | f + 1, c => if c = -1 then 0 else if okS 2 ((ρ c.toNat).getD 0 0) = true ∨ okS 3 ((ρ c.toNat).getD 0 0) = true then 0 else
      (if (ρ c.toNat).getD 0 0 = 5 then whCs ρ (whF ρ f) 8 ((ρ c.toNat).getD 1 0) (max (whF ρ f ((ρ c.toNat).getD 2 0)) (if (ρ c.toNat).getD 0 0 = 4 then whF ρ f ((ρ c.toNat).getD 3 0) else 0)) + 1 else max (whF ρ f ((ρ c.toNat).getD 2 0)) (if (ρ c.toNat).getD 0 0 = 4 then whF ρ f ((ρ c.toNat).getD 3 0) else 0))
theorem whCs_le {ρ : Nat → Row} {W : Int → Nat} {b : Nat} (hW : ∀ c, W c ≤ b) : ∀ k c a, a ≤ b → whCs ρ W k c a ≤ b
  | 0, c, a, h => h
  | k + 1, c, a, h => by
    show (if c = -1 then a else _) ≤ b
    split
    · exact h
    · exact whCs_le hW k _ _ (by have := hW ((ρ c.toNat).getD 2 0); omega)
theorem whF_le (ρ : Nat → Row) : ∀ f c, whF ρ f c ≤ f
  | 0, c => Nat.le_refl _
  | f + 1, c => by
    have ih := whF_le ρ f
    unfold whF
    split
    · omega
    · split
      · omega
      · have h1 : max (whF ρ f ((ρ c.toNat).getD 2 0)) (if (ρ c.toNat).getD 0 0 = 4 then whF ρ f ((ρ c.toNat).getD 3 0) else 0) ≤ f := by
          have a1 := ih ((ρ c.toNat).getD 2 0)
          have a2 := ih ((ρ c.toNat).getD 3 0)
          split <;> omega
        split
        · exact Nat.succ_le_succ (whCs_le ih _ _ _ h1)
        · omega
section
variable {P D Z mm sz lo hi : Nat} {ρ : Nat → Row} {V : Nat → Int} {I : M32} {L : M64} {R : MR} {T : SH}
def WhOk (D mm lo hi : Nat) (ρ : Nat → Row) (V : Nat → Int) (I : M32) (L : M64) (R : MR) (T : SH) (f : Nat) : Prop := ∀ (c : Int) (d : Nat), (c = -1 ∨ ∃ (n s m n' m' : Nat), c = (n : Int) ∧ lo ≤ n ∧ n' ≤ hi ∧ m' ≤ mm ∧ Wf ρ V f s n m n' m') → f + 4 ≤ d → Call m_Nodes_whens y_Nodes_whens d 0 0 [.ref D, .int (cI c)] I L R T (rI fun r I' L' R' T' => r = cI (whF ρ f c : Nat) ∧ I' = I ∧ L' = L ∧ R' = R ∧ T' = T)
theorem WhOk.ch {f n n' m' : Nat} {c : Int} {d : Nat} (h : WhOk D mm lo hi ρ V I L R T f) (hc : c = -1 ∨ ChO ρ V f n n' m' c) (hlo : lo ≤ n) (hhi : n' ≤ hi) (hmm : m' ≤ mm) (hd : f + 4 ≤ d) : Call m_Nodes_whens y_Nodes_whens d 0 0 [.ref D, .int (cI c)] I L R T (rI fun r I' L' R' T' => r = cI (whF ρ f c : Nat) ∧ I' = I ∧ L' = L ∧ R' = R ∧ T' = T) := by
  refine h c d ?_ hd
  rcases hc with hc | ⟨k, s, m, n1, m1, e, h1, h2, h3, h4⟩
  · exact Or.inl hc
  · exact Or.inr ⟨k, s, m, n1, m1, e, by omega, by omega, by omega, h4⟩
theorem WhOk.step {f : Nat} (hf : f ≤ 1000) (hA : AbI P D Z mm sz lo hi ρ V L R T I) (hK : WhOk D mm lo hi ρ V I L R T f) : WhOk D mm lo hi ρ V I L R T (f + 1) := by
  intro c d hc hd
  obtain ⟨a1, a2, a3, a4⟩ := id hA
  refine Call.ofRun (by decide) ⟨rfl, rfl⟩ (Nat.le_of_ble_eq_true rfl) ?_
  refine Run.gen fun Q hQ => ?_
  refine q_iload_n d_Nodes_whens_0 rfl ?_
  refine j_iconst d_Nodes_whens_1 ?_
  by_cases h1 : c = -1
  · refine j_icmp_eq (tgt := 36) d_Nodes_whens_2 (by decide) (by omega) (by omega) (fun hx => ?_) (fun hx => by exfalso; omega)
    refine j_iconst d_Nodes_whens_36 ?_
    refine q_ireturn d_Nodes_whens_37 rfl rfl ?_
    refine hQ _ _ _ _ _ ?_
    exact ⟨_, rfl, by unfold whF; rw [if_pos h1]; rfl, rfl, rfl, rfl, rfl⟩
  rcases hc with hc | ⟨n, s, m, n', m', e, hlo, hhi, hmm, hw⟩
  · exact absurd hc h1
  have hb := Wf_le _ _ _ _ _ _ hw
  subst e
  obtain ⟨hr, hq⟩ := a3 n hlo (by omega)
  obtain ⟨κ, hκ⟩ : ∃ κ, κ = (ρ n).getD 0 0 := ⟨_, rfl⟩
  have hκi := hq.2.1
  rw [← hκ] at hκi
  obtain ⟨c2, hc2⟩ : ∃ c2, c2 = (ρ n).getD 2 0 := ⟨_, rfl⟩
  obtain ⟨c3, hc3⟩ : ∃ c3, c3 = (ρ n).getD 3 0 := ⟨_, rfl⟩
  obtain ⟨c1, hc1⟩ : ∃ c1, c1 = (ρ n).getD 1 0 := ⟨_, rfl⟩
  have hst : whF ρ (f + 1) (n : Int) = if okS 2 κ = true ∨ okS 3 κ = true then 0 else (if κ = 5 then whCs ρ (whF ρ f) 8 c1 (max (whF ρ f c2) (if κ = 4 then whF ρ f c3 else 0)) + 1 else max (whF ρ f c2) (if κ = 4 then whF ρ f c3 else 0)) := by
    rw [hκ, hc1, hc2, hc3]
    show (if (n : Int) = -1 then 0 else _) = _
    rw [if_neg h1]
    rfl
  have b2 := whF_le ρ f c2
  have b3 := whF_le ρ f c3
  refine j_icmp_eq (tgt := 36) d_Nodes_whens_2 (by decide) (by omega) (by omega) (fun hx => by exfalso; omega) (fun hx => ?_)
  refine q_aload_n d_Nodes_whens_5 rfl ?_
  refine q_getR d_Nodes_whens_6 fl_Nodes_15 a1.1 ⟨rfl, by decide⟩ (nR0 a1) ?_
  refine q_iload_n d_Nodes_whens_9 rfl ?_
  refine j_iald (j := n) (v := (cI κ)) d_Nodes_whens_10 (nT0 a1) (nN0 a1) (by omega) (by omega) (by omega) (hr.1.trans (by rw [← hκ])) ?_
  refine q_callS (rc := 0) (rs := 0) (rest := []) d_Nodes_whens_11 ml_Nodes_173 ok_Nodes_isValue (c_Nodes_isValue (d - 1) (k := κ) (by omega) (by omega)) rfl rfl (by omega) (Nat.le_of_ble_eq_true rfl) (kp_I ?_) kt_I
  by_cases hv : okS 2 κ = true
  · refine j_ifb_ne (tgt := 36) d_Nodes_whens_14 (by decide) (fun hx => ?_) (fun hx => absurd hv hx)
    refine j_iconst d_Nodes_whens_36 ?_
    refine q_ireturn d_Nodes_whens_37 rfl rfl ?_
    refine hQ _ _ _ _ _ ?_
    exact ⟨_, rfl, by rw [hst, if_pos (Or.inl hv)]; rfl, rfl, rfl, rfl, rfl⟩
  refine j_ifb_ne (tgt := 36) d_Nodes_whens_14 (by decide) (fun hx => absurd hx hv) (fun hx => ?_)
  refine q_aload_n d_Nodes_whens_17 rfl ?_
  refine q_getR d_Nodes_whens_18 fl_Nodes_15 a1.1 ⟨rfl, by decide⟩ (nR0 a1) ?_
  refine q_iload_n d_Nodes_whens_21 rfl ?_
  refine j_iald (j := n) (v := (cI κ)) d_Nodes_whens_22 (nT0 a1) (nN0 a1) (by omega) (by omega) (by omega) (hr.1.trans (by rw [← hκ])) ?_
  refine j_i2l d_Nodes_whens_23 (by omega) ?_
  refine j_ldc2 (z := 23) d_Nodes_whens_24 (inT5 56 rfl) (by decide) ?_
  refine j_ldc2 (z := 33) d_Nodes_whens_27 (inT5 57 rfl) (by decide) ?_
  refine q_callS (rc := 0) (rs := 0) (rest := []) d_Nodes_whens_30 ml_Nodes_169 ok_Platform_within (c_Platform_within (d - 1) (v := κ) (a := 23) (b := 33) (by omega) (by decide) (by decide)) rfl rfl (by omega) (Nat.le_of_ble_eq_true rfl) (kp_I ?_) kt_I
  have hob : okS 3 κ = true ↔ (23 ≤ κ ∧ κ ≤ 33) := by unfold okS; rw [if_neg (by decide), if_neg (by decide), decide_eq_true_eq]
  by_cases ho : 23 ≤ κ ∧ κ ≤ 33
  · refine j_ifb_eq (tgt := 38) d_Nodes_whens_33 (by decide) (fun hx => by exfalso; omega) (fun hx => ?_)
    refine j_iconst d_Nodes_whens_36 ?_
    refine q_ireturn d_Nodes_whens_37 rfl rfl ?_
    refine hQ _ _ _ _ _ ?_
    exact ⟨_, rfl, by rw [hst, if_pos (Or.inr (hob.mpr ho))]; rfl, rfl, rfl, rfl, rfl⟩
  refine j_ifb_eq (tgt := 38) d_Nodes_whens_33 (by decide) (fun hx => ?_) (fun hx => by exfalso; omega)
  rw [if_neg (fun q => q.elim hv (fun q => ho (hob.mp q)))] at hst
  have h2c : c2 = -1 ∨ ChO ρ V f n n' m' c2 := by
    rw [hc2]
    by_cases h5 : (ρ n).getD 0 0 = 5
    · obtain ⟨n2, m2, -, -, -, -, g5, -⟩ := hw.whn h5
      exact Or.inr g5
    · exact (hw.inv h5).2.2.2.2.2
  refine q_aload_n d_Nodes_whens_38 rfl ?_
  refine q_aload_n d_Nodes_whens_39 rfl ?_
  refine q_getR d_Nodes_whens_40 fl_Nodes_22 a1.1 ⟨rfl, by decide⟩ (nR2 a1) ?_
  refine q_iload_n d_Nodes_whens_43 rfl ?_
  refine j_iald (j := n) (v := (cI c2)) d_Nodes_whens_44 (nT2 a1) (nN2 a1) (by omega) (by omega) (by omega) (hr.2.2.1.trans (by rw [← hc2])) ?_
  refine q_callV (ci := 6) (rc := 0) (rs := 0) (rest := []) d_Nodes_whens_45 ml_Nodes_248 ok_Nodes_whens rfl a1.1 (by decide) (hK.ch (d := d - 1) h2c hlo hhi hmm (by omega)) rfl rfl (by omega) (Nat.le_of_ble_eq_true rfl) (kp_I ?_) kt_I
  have t72 : ∀ (w : Nat), w = (if κ = 4 then whF ρ f c3 else 0) → Run m_Nodes_whens d 0 0 72 [(0, .ref D), (1, .int (cI (n : Int)))] [.int (cI (w : Int)), .int (cI (whF ρ f c2 : Int))] I L R T Q := by
    intro w hw0
    have hwb : w ≤ f := by rw [hw0]; split <;> omega
    refine q_callS (rc := 0) (rs := 0) (rest := []) d_Nodes_whens_72 ml_Nodes_251 ok_Math_max (c_Math_max (d - 1) (x := ((whF ρ f c2 : Nat) : Int)) (y := (w : Int)) (by omega) (by omega)) rfl rfl (by omega) (Nat.le_of_ble_eq_true rfl) (kp_I ?_) kt_I
    obtain ⟨a0, ha0⟩ : ∃ a0 : Nat, a0 = max (whF ρ f c2) w := ⟨_, rfl⟩
    rw [show max ((whF ρ f c2 : Nat) : Int) (w : Int) = (a0 : Int) by omega]
    rw [← hw0, ← ha0] at hst
    have t127 : ∀ (a : Nat), (if κ = 5 then a + 1 else a) = whF ρ (f + 1) (n : Int) → a ≤ f → Run m_Nodes_whens d 0 0 127 [(0, .ref D), (1, .int (cI (n : Int))), (2, .int (cI (a : Int)))] [] I L R T Q := by
      intro a hea hal
      refine q_iload_n d_Nodes_whens_127 rfl ?_
      refine q_aload_n d_Nodes_whens_128 rfl ?_
      refine q_getR d_Nodes_whens_129 fl_Nodes_15 a1.1 ⟨rfl, by decide⟩ (nR0 a1) ?_
      refine q_iload_n d_Nodes_whens_132 rfl ?_
      refine j_iald (j := n) (v := (cI κ)) d_Nodes_whens_133 (nT0 a1) (nN0 a1) (by omega) (by omega) (by omega) (hr.1.trans (by rw [← hκ])) ?_
      refine j_iconst d_Nodes_whens_134 ?_
      suffices J : ∀ (u : Int), (((¬ κ = 5) ∧ u = 0) ∨ ((κ = 5) ∧ u = 1)) → Run m_Nodes_whens d 0 0 143 [(0, .ref D), (1, .int (cI (n : Int))), (2, .int (cI (a : Int)))] [.int (cI u), .int (cI (a : Int))] I L R T Q by
        refine j_icmp_ne (tgt := 142) d_Nodes_whens_135 (by decide) (by omega) (by omega) (fun hp1 => ?_) (fun hp1 => ?_)
        · refine j_iconst d_Nodes_whens_142 ?_
          exact J _ (Or.inl ⟨hp1, rfl⟩)
        · refine j_iconst d_Nodes_whens_138 ?_
          refine q_goto (tgt := 143) d_Nodes_whens_139 (by decide) ?_
          exact J _ (Or.inr ⟨hp1, rfl⟩)
      intro u hu
      have hu2 : (a : Int) + u = ((whF ρ (f + 1) (n : Int) : Nat) : Int) := by
        rw [← hea]
        split <;> omega
      refine j_iadd d_Nodes_whens_143 ?_
      rw [hu2]
      refine q_ireturn d_Nodes_whens_144 rfl rfl ?_
      refine hQ _ _ _ _ _ ?_
      exact ⟨_, rfl, rfl, rfl, rfl, rfl, rfl⟩
    by_cases h5 : κ = 5
    rotate_left
    · refine q_istore_n (lv' := [(2, .int (cI (a0 : Int))), (0, .ref D), (1, .int (cI (n : Int)))]) d_Nodes_whens_75 (by decide) rfl ?_
      refine q_aload_n d_Nodes_whens_76 rfl ?_
      refine q_getR d_Nodes_whens_77 fl_Nodes_15 a1.1 ⟨rfl, by decide⟩ (nR0 a1) ?_
      refine q_iload_n d_Nodes_whens_80 rfl ?_
      refine j_iald (j := n) (v := (cI κ)) d_Nodes_whens_81 (nT0 a1) (nN0 a1) (by omega) (by omega) (by omega) (hr.1.trans (by rw [← hκ])) ?_
      refine j_iconst d_Nodes_whens_82 ?_
      refine j_icmp_ne (tgt := 95) d_Nodes_whens_83 (by decide) (by omega) (by omega) (fun hx => ?_) (fun hx => by exfalso; omega)
      refine j_iconst d_Nodes_whens_95 ?_
      refine q_istore_n (lv' := [(3, .int (cI (-1))), (2, .int (cI (a0 : Int))), (0, .ref D), (1, .int (cI (n : Int)))]) d_Nodes_whens_96 (by decide) rfl ?_
      refine q_iload_n d_Nodes_whens_97 rfl ?_
      refine j_iconst d_Nodes_whens_98 ?_
      refine j_icmp_eq (tgt := 127) d_Nodes_whens_99 (by decide) (by omega) (by omega) (fun hx => ?_) (fun hx => by exfalso; omega)
      refine Run.lv (lv' := [(0, .ref D), (1, .int (cI (n : Int))), (2, .int (cI (a0 : Int)))]) (by intro q hq; simp only [List.mem_cons, List.not_mem_nil, or_false] at hq ⊢; rcases hq with rfl | rfl | rfl <;> simp) ?_
      exact t127 a0 (by rw [hst, if_neg h5, if_neg h5]) (by omega)
    obtain ⟨n2, m2, g1, g2, g3, g4, g5, g6⟩ := hw.whn (hκ.symm.trans h5)
    rw [← hc1] at g1
    have hc1i : -1 ≤ c1 ∧ c1 < 5000 := by rw [g1]; split <;> omega
    rw [if_pos h5] at hst
    refine q_istore_n (lv' := [(2, .int (cI (a0 : Int))), (0, .ref D), (1, .int (cI (n : Int)))]) d_Nodes_whens_75 (by decide) rfl ?_
    refine q_aload_n d_Nodes_whens_76 rfl ?_
    refine q_getR d_Nodes_whens_77 fl_Nodes_15 a1.1 ⟨rfl, by decide⟩ (nR0 a1) ?_
    refine q_iload_n d_Nodes_whens_80 rfl ?_
    refine j_iald (j := n) (v := (cI κ)) d_Nodes_whens_81 (nT0 a1) (nN0 a1) (by omega) (by omega) (by omega) (hr.1.trans (by rw [← hκ])) ?_
    refine j_iconst d_Nodes_whens_82 ?_
    refine j_icmp_ne (tgt := 95) d_Nodes_whens_83 (by decide) (by omega) (by omega) (fun hx => by exfalso; omega) (fun hx => ?_)
    refine q_aload_n d_Nodes_whens_86 rfl ?_
    refine q_getR d_Nodes_whens_87 fl_Nodes_19 a1.1 ⟨rfl, by decide⟩ (nR1 a1) ?_
    refine q_iload_n d_Nodes_whens_90 rfl ?_
    refine j_iald (j := n) (v := (cI c1)) d_Nodes_whens_91 (nT1 a1) (nN1 a1) (by omega) (by omega) (by omega) (hr.2.1.trans (by rw [← hc1])) ?_
    refine q_goto (tgt := 96) d_Nodes_whens_92 (by decide) ?_
    refine q_istore_n (lv' := [(3, .int (cI c1)), (2, .int (cI (a0 : Int))), (0, .ref D), (1, .int (cI (n : Int)))]) d_Nodes_whens_96 (by decide) rfl ?_
    have loop : ∀ (k n3 m3 : Nat) (cc : Int) (a : Nat), lo ≤ n3 ∧ n < n3 ∧ cc = (if n2 = n3 then -1 else (n3 : Int)) → WfC ρ (WfS V (fun _ _ _ _ _ _ => False) (Wf ρ V f)) k n3 m3 n2 m2 → whCs ρ (whF ρ f) k cc a + 1 = whF ρ (f + 1) (n : Int) → a ≤ f → Run m_Nodes_whens d 0 0 97 [(0, .ref D), (1, .int (cI (n : Int))), (2, .int (cI (a : Int))), (3, .int (cI cc))] [] I L R T Q := by
      intro k
      induction k with
      | zero =>
        intro n3 m3 cc a hcc hC he hal
        rw [if_pos hC.1] at hcc
        refine q_iload_n d_Nodes_whens_97 rfl ?_
        refine j_iconst d_Nodes_whens_98 ?_
        refine j_icmp_eq (tgt := 127) d_Nodes_whens_99 (by decide) (by omega) (by omega) (fun hx => ?_) (fun hx => by exfalso; omega)
        refine Run.lv (lv' := [(0, .ref D), (1, .int (cI (n : Int))), (2, .int (cI (a : Int)))]) (by intro q hq; simp only [List.mem_cons, List.not_mem_nil, or_false] at hq ⊢; rcases hq with rfl | rfl | rfl <;> simp) ?_
        exact t127 a (by rw [if_pos h5]; exact he) hal
      | succ k ih =>
        intro n3 m3 cc a hcc hC he hal
        rcases hC with ⟨e1, e2⟩ | ⟨κ2, dep, r, n4, m4, k1, k2, k3, k4, k5⟩
        · rw [if_pos e1] at hcc
          refine q_iload_n d_Nodes_whens_97 rfl ?_
          refine j_iconst d_Nodes_whens_98 ?_
          refine j_icmp_eq (tgt := 127) d_Nodes_whens_99 (by decide) (by omega) (by omega) (fun hx => ?_) (fun hx => by exfalso; omega)
          refine Run.lv (lv' := [(0, .ref D), (1, .int (cI (n : Int))), (2, .int (cI (a : Int)))]) (by intro q hq; simp only [List.mem_cons, List.not_mem_nil, or_false] at hq ⊢; rcases hq with rfl | rfl | rfl <;> simp) ?_
          exact t127 a (by rw [if_pos h5, ← he, hcc.2.2]; rfl) hal
        have hSle : ∀ (w sl : Nat) (r : Row) (n m : Nat) (r' : Row) (n' m' : Nat), WfS V (fun _ _ _ _ _ _ => False) (Wf ρ V f) w sl r n m r' n' m' → n ≤ n' ∧ m ≤ m' := fun w sl r n m r' n' m' => WfS_le (V := V) (C := fun _ _ _ _ _ _ => False) (w := w) (sl := sl) (r := r) (n := n) (m := m) (r' := r') (n' := n') (m' := m') (Wf_le (ρ := ρ) (V := V) f) (fun _ _ _ _ _ _ h => absurd h (fun h => h))
        have b1 := WfL_le hSle _ _ _ _ _ _ _ k2
        have b4 := WfC_le hSle _ _ _ _ _ k5
        obtain ⟨hcc1, hcc2, hcc3⟩ := hcc
        rw [if_neg (by omega)] at hcc3
        have hca : CaF ρ V f n3 n4 m4 (ρ n3) := by rw [k3]; exact (WfL.caf k1 k2).o
        have hr11 : r.length = 11 := (WfL.caf k1 k2).1.1
        have hnx : (ρ n3).getD 4 0 = (if n2 = n4 then -1 else (n4 : Int)) := by rw [k3, gset_s (by omega)]
        have hnxi : -1 ≤ (if n2 = n4 then -1 else (n4 : Int)) ∧ (if n2 = n4 then -1 else (n4 : Int)) < 5000 := by split <;> omega
        obtain ⟨hr3, -⟩ := a3 n3 hcc1 (by omega)
        obtain ⟨c5, hc5⟩ : ∃ c5, c5 = (ρ n3).getD 2 0 := ⟨_, rfl⟩
        have h5c : c5 = -1 ∨ ChO ρ V f n3 n4 m4 c5 := by rw [hc5]; exact Or.inr hca.2.1
        have b5 := whF_le ρ f c5
        refine q_iload_n d_Nodes_whens_97 rfl ?_
        refine j_iconst d_Nodes_whens_98 ?_
        refine j_icmp_eq (tgt := 127) d_Nodes_whens_99 (by decide) (by omega) (by omega) (fun hx => by exfalso; omega) (fun hx => ?_)
        refine q_iload_n d_Nodes_whens_102 rfl ?_
        refine q_aload_n d_Nodes_whens_103 rfl ?_
        refine q_aload_n d_Nodes_whens_104 rfl ?_
        refine q_getR d_Nodes_whens_105 fl_Nodes_22 a1.1 ⟨rfl, by decide⟩ (nR2 a1) ?_
        refine q_iload_n d_Nodes_whens_108 rfl ?_
        refine j_iald (j := n3) (v := (cI c5)) d_Nodes_whens_109 (nT2 a1) (nN2 a1) (by omega) (by omega) (by omega) (hr3.2.2.1.trans (by rw [← hc5])) ?_
        refine q_callV (ci := 6) (rc := 0) (rs := 0) (rest := [.int (cI (a : Int))]) d_Nodes_whens_110 ml_Nodes_248 ok_Nodes_whens rfl a1.1 (by decide) (hK.ch (d := d - 1) h5c (by omega) (by omega) (by omega) (by omega)) rfl rfl (by omega) (Nat.le_of_ble_eq_true rfl) (kp_I ?_) kt_I
        refine q_callS (rc := 0) (rs := 0) (rest := []) d_Nodes_whens_113 ml_Nodes_251 ok_Math_max (c_Math_max (d - 1) (x := (a : Int)) (y := ((whF ρ f c5 : Nat) : Int)) (by omega) (by omega)) rfl rfl (by omega) (Nat.le_of_ble_eq_true rfl) (kp_I ?_) kt_I
        rw [show max (a : Int) ((whF ρ f c5 : Nat) : Int) = ((max a (whF ρ f c5) : Nat) : Int) by omega]
        refine q_istore_n (lv' := [(2, .int (cI (((max a (whF ρ f c5) : Nat) : Int)))), (0, .ref D), (1, .int (cI (n : Int))), (3, .int (cI cc))]) d_Nodes_whens_116 (by decide) rfl ?_
        refine q_aload_n d_Nodes_whens_117 rfl ?_
        refine q_getR d_Nodes_whens_118 fl_Nodes_28 a1.1 ⟨rfl, by decide⟩ (nR4 a1) ?_
        refine q_iload_n d_Nodes_whens_121 rfl ?_
        refine j_iald (j := n3) (v := (cI (if n2 = n4 then -1 else (n4 : Int)))) d_Nodes_whens_122 (nT4 a1) (nN4 a1) (by omega) (by omega) (by omega) (hr3.2.2.2.2.1.trans (by rw [hnx])) ?_
        refine q_istore_n (lv' := [(3, .int (cI (if n2 = n4 then -1 else (n4 : Int)))), (2, .int (cI (((max a (whF ρ f c5) : Nat) : Int)))), (0, .ref D), (1, .int (cI (n : Int)))]) d_Nodes_whens_123 (by decide) rfl ?_
        refine q_goto (tgt := 97) d_Nodes_whens_124 (by decide) ?_
        refine Run.lv (lv' := [(0, .ref D), (1, .int (cI (n : Int))), (2, .int (cI (((max a (whF ρ f c5) : Nat) : Int)))), (3, .int (cI (if n2 = n4 then -1 else (n4 : Int))))]) (by intro q hq; simp only [List.mem_cons, List.not_mem_nil, or_false] at hq ⊢; rcases hq with rfl | rfl | rfl | rfl <;> simp) ?_
        exact ih n4 m4 _ _ ⟨by omega, by omega, rfl⟩ k5 (by rw [← he]; show _ = (if cc = -1 then a else whCs ρ (whF ρ f) k ((ρ cc.toNat).getD 4 0) (max a (whF ρ f ((ρ cc.toNat).getD 2 0)))) + 1; rw [if_neg (show ¬ cc = -1 by omega), hcc3, Int.toNat_natCast, hnx, hc5]) (by omega)
    refine Run.lv (lv' := [(0, .ref D), (1, .int (cI (n : Int))), (2, .int (cI (a0 : Int))), (3, .int (cI c1))]) (by intro q hq; simp only [List.mem_cons, List.not_mem_nil, or_false] at hq ⊢; rcases hq with rfl | rfl | rfl | rfl <;> simp) ?_
    exact loop 8 (n + 1) m c1 a0 ⟨by omega, by omega, g1⟩ g2 (by rw [hst]) (by omega)
  refine q_aload_n d_Nodes_whens_48 rfl ?_
  refine q_getR d_Nodes_whens_49 fl_Nodes_15 a1.1 ⟨rfl, by decide⟩ (nR0 a1) ?_
  refine q_iload_n d_Nodes_whens_52 rfl ?_
  refine j_iald (j := n) (v := (cI κ)) d_Nodes_whens_53 (nT0 a1) (nN0 a1) (by omega) (by omega) (by omega) (hr.1.trans (by rw [← hκ])) ?_
  refine j_iconst d_Nodes_whens_54 ?_
  by_cases h4 : κ = 4
  rotate_left
  · refine j_icmp_ne (tgt := 71) d_Nodes_whens_55 (by decide) (by omega) (by omega) (fun hx => ?_) (fun hx => by exfalso; omega)
    refine j_iconst d_Nodes_whens_71 ?_
    exact t72 0 (by rw [if_neg h4])
  have h3c : c3 = -1 ∨ ChO ρ V f n n' m' c3 := by rw [hc3]; exact Or.inr (hw.thr (Or.inl (hκ.symm.trans h4)))
  refine j_icmp_ne (tgt := 71) d_Nodes_whens_55 (by decide) (by omega) (by omega) (fun hx => by exfalso; omega) (fun hx => ?_)
  refine q_aload_n d_Nodes_whens_58 rfl ?_
  refine q_aload_n d_Nodes_whens_59 rfl ?_
  refine q_getR d_Nodes_whens_60 fl_Nodes_25 a1.1 ⟨rfl, by decide⟩ (nR3 a1) ?_
  refine q_iload_n d_Nodes_whens_63 rfl ?_
  refine j_iald (j := n) (v := (cI c3)) d_Nodes_whens_64 (nT3 a1) (nN3 a1) (by omega) (by omega) (by omega) (hr.2.2.2.1.trans (by rw [← hc3])) ?_
  refine q_callV (ci := 6) (rc := 0) (rs := 0) (rest := [.int (cI (whF ρ f c2 : Int))]) d_Nodes_whens_65 ml_Nodes_248 ok_Nodes_whens rfl a1.1 (by decide) (hK.ch (d := d - 1) h3c hlo hhi hmm (by omega)) rfl rfl (by omega) (Nat.le_of_ble_eq_true rfl) (kp_I ?_) kt_I
  refine q_goto (tgt := 72) d_Nodes_whens_68 (by decide) ?_
  exact t72 _ (by rw [if_pos h4])
theorem whAll (hA : AbI P D Z mm sz lo hi ρ V L R T I) : ∀ f, f ≤ 1000 → WhOk D mm lo hi ρ V I L R T f
  | 0, _ => fun c d hc hd => by
    rcases hc with hc | ⟨n, s, m, n', m', e, hlo, hhi, hmm, hw⟩
    · obtain ⟨a1, a2, a3, a4⟩ := id hA
      refine Call.ofRun (by decide) ⟨rfl, rfl⟩ (Nat.le_of_ble_eq_true rfl) ?_
      refine Run.gen fun Q hQ => ?_
      refine q_iload_n d_Nodes_whens_0 rfl ?_
      refine j_iconst d_Nodes_whens_1 ?_
      refine j_icmp_eq (tgt := 36) d_Nodes_whens_2 (by decide) (by omega) (by omega) (fun hx => ?_) (fun hx => by exfalso; omega)
      refine j_iconst d_Nodes_whens_36 ?_
      refine q_ireturn d_Nodes_whens_37 rfl rfl ?_
      refine hQ _ _ _ _ _ ?_
      exact ⟨_, rfl, rfl, rfl, rfl, rfl, rfl⟩
    · exact absurd hw (fun h => h)
  | f + 1, h => (whAll hA f (by omega)).step (by omega) hA
end

