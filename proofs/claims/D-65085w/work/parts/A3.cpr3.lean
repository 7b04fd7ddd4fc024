/-! ===== A3 THE COMPONENT PRINTS: whens, nodes ===== -/
theorem d_Nodes_print_0 : decode m_Nodes_print.2.1 0 = .ok (.aload_n 0, 1) := by decide +kernel
theorem d_Nodes_print_1 : decode m_Nodes_print.2.1 1 = .ok (.getfield 15, 3) := by decide +kernel
theorem d_Nodes_print_4 : decode m_Nodes_print.2.1 4 = .ok (.iload_n 1, 1) := by decide +kernel
theorem d_Nodes_print_5 : decode m_Nodes_print.2.1 5 = .ok (.iaload, 1) := by decide +kernel
theorem d_Nodes_print_6 : decode m_Nodes_print.2.1 6 = .ok (.istore_n 2, 1) := by decide +kernel
theorem d_Nodes_print_7 : decode m_Nodes_print.2.1 7 = .ok (.iload_n 2, 1) := by decide +kernel
theorem d_Nodes_print_8 : decode m_Nodes_print.2.1 8 = .ok (.lookupswitch 96 #[(5, 88), (6, 80), (100, 44), (102, 67)], 44) := by decide +kernel
theorem d_Nodes_print_52 : decode m_Nodes_print.2.1 52 = .ok (.aload_n 0, 1) := by decide +kernel
theorem d_Nodes_print_53 : decode m_Nodes_print.2.1 53 = .ok (.getfield 3, 3) := by decide +kernel
theorem d_Nodes_print_56 : decode m_Nodes_print.2.1 56 = .ok (.getfield 181, 3) := by decide +kernel
theorem d_Nodes_print_59 : decode m_Nodes_print.2.1 59 = .ok (.aload_n 0, 1) := by decide +kernel
theorem d_Nodes_print_60 : decode m_Nodes_print.2.1 60 = .ok (.aload_n 0, 1) := by decide +kernel
theorem d_Nodes_print_61 : decode m_Nodes_print.2.1 61 = .ok (.getfield 31, 3) := by decide +kernel
theorem d_Nodes_print_64 : decode m_Nodes_print.2.1 64 = .ok (.iload_n 1, 1) := by decide +kernel
theorem d_Nodes_print_65 : decode m_Nodes_print.2.1 65 = .ok (.iaload, 1) := by decide +kernel
theorem d_Nodes_print_66 : decode m_Nodes_print.2.1 66 = .ok (.invokevirtual 157, 3) := by decide +kernel
theorem d_Nodes_print_69 : decode m_Nodes_print.2.1 69 = .ok (.invokevirtual 197, 3) := by decide +kernel
theorem d_Nodes_print_72 : decode m_Nodes_print.2.1 72 = .ok (.goto 38, 3) := by decide +kernel
theorem d_Nodes_print_75 : decode m_Nodes_print.2.1 75 = .ok (.aload_n 0, 1) := by decide +kernel
theorem d_Nodes_print_76 : decode m_Nodes_print.2.1 76 = .ok (.aload_n 0, 1) := by decide +kernel
theorem d_Nodes_print_77 : decode m_Nodes_print.2.1 77 = .ok (.getfield 37, 3) := by decide +kernel
theorem d_Nodes_print_80 : decode m_Nodes_print.2.1 80 = .ok (.iload_n 1, 1) := by decide +kernel
theorem d_Nodes_print_81 : decode m_Nodes_print.2.1 81 = .ok (.laload, 1) := by decide +kernel
theorem d_Nodes_print_82 : decode m_Nodes_print.2.1 82 = .ok (.invokevirtual 199, 3) := by decide +kernel
theorem d_Nodes_print_85 : decode m_Nodes_print.2.1 85 = .ok (.goto 25, 3) := by decide +kernel
theorem d_Nodes_print_88 : decode m_Nodes_print.2.1 88 = .ok (.aload_n 0, 1) := by decide +kernel
theorem d_Nodes_print_89 : decode m_Nodes_print.2.1 89 = .ok (.iload_n 1, 1) := by decide +kernel
theorem d_Nodes_print_90 : decode m_Nodes_print.2.1 90 = .ok (.invokevirtual 202, 3) := by decide +kernel
theorem d_Nodes_print_93 : decode m_Nodes_print.2.1 93 = .ok (.goto 17, 3) := by decide +kernel
theorem d_Nodes_print_96 : decode m_Nodes_print.2.1 96 = .ok (.aload_n 0, 1) := by decide +kernel
theorem d_Nodes_print_97 : decode m_Nodes_print.2.1 97 = .ok (.iload_n 1, 1) := by decide +kernel
theorem d_Nodes_print_98 : decode m_Nodes_print.2.1 98 = .ok (.invokevirtual 205, 3) := by decide +kernel
theorem d_Nodes_print_101 : decode m_Nodes_print.2.1 101 = .ok (.goto 9, 3) := by decide +kernel
theorem d_Nodes_print_104 : decode m_Nodes_print.2.1 104 = .ok (.aload_n 0, 1) := by decide +kernel
theorem d_Nodes_print_105 : decode m_Nodes_print.2.1 105 = .ok (.iload_n 1, 1) := by decide +kernel
theorem d_Nodes_print_106 : decode m_Nodes_print.2.1 106 = .ok (.iload_n 2, 1) := by decide +kernel
theorem d_Nodes_print_107 : decode m_Nodes_print.2.1 107 = .ok (.invokevirtual 208, 3) := by decide +kernel
theorem d_Nodes_print_110 : decode m_Nodes_print.2.1 110 = .ok (.return_, 1) := by decide +kernel
theorem d_Nodes_printWhen_0 : decode m_Nodes_printWhen.2.1 0 = .ok (.aload_n 0, 1) := by decide +kernel
theorem d_Nodes_printWhen_1 : decode m_Nodes_printWhen.2.1 1 = .ok (.getfield 3, 3) := by decide +kernel
theorem d_Nodes_printWhen_4 : decode m_Nodes_printWhen.2.1 4 = .ok (.getfield 216, 3) := by decide +kernel
theorem d_Nodes_printWhen_7 : decode m_Nodes_printWhen.2.1 7 = .ok (.iconst 5, 1) := by decide +kernel
theorem d_Nodes_printWhen_8 : decode m_Nodes_printWhen.2.1 8 = .ok (.aload_n 0, 1) := by decide +kernel
theorem d_Nodes_printWhen_9 : decode m_Nodes_printWhen.2.1 9 = .ok (.getfield 3, 3) := by decide +kernel
theorem d_Nodes_printWhen_12 : decode m_Nodes_printWhen.2.1 12 = .ok (.getfield 181, 3) := by decide +kernel
theorem d_Nodes_printWhen_15 : decode m_Nodes_printWhen.2.1 15 = .ok (.invokevirtual 220, 3) := by decide +kernel
theorem d_Nodes_printWhen_18 : decode m_Nodes_printWhen.2.1 18 = .ok (.aload_n 0, 1) := by decide +kernel
theorem d_Nodes_printWhen_19 : decode m_Nodes_printWhen.2.1 19 = .ok (.getfield 3, 3) := by decide +kernel
theorem d_Nodes_printWhen_22 : decode m_Nodes_printWhen.2.1 22 = .ok (.getfield 181, 3) := by decide +kernel
theorem d_Nodes_printWhen_25 : decode m_Nodes_printWhen.2.1 25 = .ok (.ldc 231, 2) := by decide +kernel
theorem d_Nodes_printWhen_27 : decode m_Nodes_printWhen.2.1 27 = .ok (.invokevirtual 233, 3) := by decide +kernel
theorem d_Nodes_printWhen_30 : decode m_Nodes_printWhen.2.1 30 = .ok (.aload_n 0, 1) := by decide +kernel
theorem d_Nodes_printWhen_31 : decode m_Nodes_printWhen.2.1 31 = .ok (.getfield 19, 3) := by decide +kernel
theorem d_Nodes_printWhen_34 : decode m_Nodes_printWhen.2.1 34 = .ok (.iload_n 1, 1) := by decide +kernel
theorem d_Nodes_printWhen_35 : decode m_Nodes_printWhen.2.1 35 = .ok (.iaload, 1) := by decide +kernel
theorem d_Nodes_printWhen_36 : decode m_Nodes_printWhen.2.1 36 = .ok (.istore_n 2, 1) := by decide +kernel
theorem d_Nodes_printWhen_37 : decode m_Nodes_printWhen.2.1 37 = .ok (.iload_n 2, 1) := by decide +kernel
theorem d_Nodes_printWhen_38 : decode m_Nodes_printWhen.2.1 38 = .ok (.iconst (-1), 1) := by decide +kernel
theorem d_Nodes_printWhen_39 : decode m_Nodes_printWhen.2.1 39 = .ok (.if_icmp .eq 18, 3) := by decide +kernel
theorem d_Nodes_printWhen_42 : decode m_Nodes_printWhen.2.1 42 = .ok (.aload_n 0, 1) := by decide +kernel
theorem d_Nodes_printWhen_43 : decode m_Nodes_printWhen.2.1 43 = .ok (.iload_n 2, 1) := by decide +kernel
theorem d_Nodes_printWhen_44 : decode m_Nodes_printWhen.2.1 44 = .ok (.invokevirtual 213, 3) := by decide +kernel
theorem d_Nodes_printWhen_47 : decode m_Nodes_printWhen.2.1 47 = .ok (.aload_n 0, 1) := by decide +kernel
theorem d_Nodes_printWhen_48 : decode m_Nodes_printWhen.2.1 48 = .ok (.getfield 28, 3) := by decide +kernel
theorem d_Nodes_printWhen_51 : decode m_Nodes_printWhen.2.1 51 = .ok (.iload_n 2, 1) := by decide +kernel
theorem d_Nodes_printWhen_52 : decode m_Nodes_printWhen.2.1 52 = .ok (.iaload, 1) := by decide +kernel
theorem d_Nodes_printWhen_53 : decode m_Nodes_printWhen.2.1 53 = .ok (.istore_n 2, 1) := by decide +kernel
theorem d_Nodes_printWhen_54 : decode m_Nodes_printWhen.2.1 54 = .ok (.goto (-17), 3) := by decide +kernel
theorem d_Nodes_printWhen_57 : decode m_Nodes_printWhen.2.1 57 = .ok (.aload_n 0, 1) := by decide +kernel
theorem d_Nodes_printWhen_58 : decode m_Nodes_printWhen.2.1 58 = .ok (.getfield 3, 3) := by decide +kernel
theorem d_Nodes_printWhen_61 : decode m_Nodes_printWhen.2.1 61 = .ok (.getfield 181, 3) := by decide +kernel
theorem d_Nodes_printWhen_64 : decode m_Nodes_printWhen.2.1 64 = .ok (.ldc 237, 2) := by decide +kernel
theorem d_Nodes_printWhen_66 : decode m_Nodes_printWhen.2.1 66 = .ok (.invokevirtual 233, 3) := by decide +kernel
theorem d_Nodes_printWhen_69 : decode m_Nodes_printWhen.2.1 69 = .ok (.aload_n 0, 1) := by decide +kernel
theorem d_Nodes_printWhen_70 : decode m_Nodes_printWhen.2.1 70 = .ok (.getfield 31, 3) := by decide +kernel
theorem d_Nodes_printWhen_73 : decode m_Nodes_printWhen.2.1 73 = .ok (.iload_n 1, 1) := by decide +kernel
theorem d_Nodes_printWhen_74 : decode m_Nodes_printWhen.2.1 74 = .ok (.iaload, 1) := by decide +kernel
theorem d_Nodes_printWhen_75 : decode m_Nodes_printWhen.2.1 75 = .ok (.iconst (-1), 1) := by decide +kernel
theorem d_Nodes_printWhen_76 : decode m_Nodes_printWhen.2.1 76 = .ok (.if_icmp .ne 16, 3) := by decide +kernel
theorem d_Nodes_printWhen_79 : decode m_Nodes_printWhen.2.1 79 = .ok (.aload_n 0, 1) := by decide +kernel
theorem d_Nodes_printWhen_80 : decode m_Nodes_printWhen.2.1 80 = .ok (.aload_n 0, 1) := by decide +kernel
theorem d_Nodes_printWhen_81 : decode m_Nodes_printWhen.2.1 81 = .ok (.getfield 37, 3) := by decide +kernel
theorem d_Nodes_printWhen_84 : decode m_Nodes_printWhen.2.1 84 = .ok (.iload_n 1, 1) := by decide +kernel
theorem d_Nodes_printWhen_85 : decode m_Nodes_printWhen.2.1 85 = .ok (.laload, 1) := by decide +kernel
theorem d_Nodes_printWhen_86 : decode m_Nodes_printWhen.2.1 86 = .ok (.invokevirtual 199, 3) := by decide +kernel
theorem d_Nodes_printWhen_89 : decode m_Nodes_printWhen.2.1 89 = .ok (.goto 23, 3) := by decide +kernel
theorem d_Nodes_printWhen_92 : decode m_Nodes_printWhen.2.1 92 = .ok (.aload_n 0, 1) := by decide +kernel
theorem d_Nodes_printWhen_93 : decode m_Nodes_printWhen.2.1 93 = .ok (.getfield 3, 3) := by decide +kernel
theorem d_Nodes_printWhen_96 : decode m_Nodes_printWhen.2.1 96 = .ok (.getfield 181, 3) := by decide +kernel
theorem d_Nodes_printWhen_99 : decode m_Nodes_printWhen.2.1 99 = .ok (.aload_n 0, 1) := by decide +kernel
theorem d_Nodes_printWhen_100 : decode m_Nodes_printWhen.2.1 100 = .ok (.aload_n 0, 1) := by decide +kernel
theorem d_Nodes_printWhen_101 : decode m_Nodes_printWhen.2.1 101 = .ok (.getfield 31, 3) := by decide +kernel
theorem d_Nodes_printWhen_104 : decode m_Nodes_printWhen.2.1 104 = .ok (.iload_n 1, 1) := by decide +kernel
theorem d_Nodes_printWhen_105 : decode m_Nodes_printWhen.2.1 105 = .ok (.iaload, 1) := by decide +kernel
theorem d_Nodes_printWhen_106 : decode m_Nodes_printWhen.2.1 106 = .ok (.invokevirtual 157, 3) := by decide +kernel
theorem d_Nodes_printWhen_109 : decode m_Nodes_printWhen.2.1 109 = .ok (.invokevirtual 197, 3) := by decide +kernel
theorem d_Nodes_printWhen_112 : decode m_Nodes_printWhen.2.1 112 = .ok (.aload_n 0, 1) := by decide +kernel
theorem d_Nodes_printWhen_113 : decode m_Nodes_printWhen.2.1 113 = .ok (.aload_n 0, 1) := by decide +kernel
theorem d_Nodes_printWhen_114 : decode m_Nodes_printWhen.2.1 114 = .ok (.getfield 22, 3) := by decide +kernel
theorem d_Nodes_printWhen_117 : decode m_Nodes_printWhen.2.1 117 = .ok (.iload_n 1, 1) := by decide +kernel
theorem d_Nodes_printWhen_118 : decode m_Nodes_printWhen.2.1 118 = .ok (.iaload, 1) := by decide +kernel
theorem d_Nodes_printWhen_119 : decode m_Nodes_printWhen.2.1 119 = .ok (.invokevirtual 213, 3) := by decide +kernel
theorem d_Nodes_printWhen_122 : decode m_Nodes_printWhen.2.1 122 = .ok (.return_, 1) := by decide +kernel
section
variable {P w o D Z mm sz lo hi a1 p1 a2 p2 : Nat} {ρ : Nat → Row} {V : Nat → Int} {I : M32} {L : M64} {R : MR} {T : SH}
/-- print of a case -/
theorem c_Nodes_printK {f n n' m' : Nat} (d : Nat) {l : List Nat} (hd : 5 * f + 13 ≤ d) (hF : PrF P w o D L R T) (hK : PrOk P w o D Z mm sz lo hi a1 p1 a2 p2 ρ V L R T f) (hI : CaF ρ V f n n' m' (ρ n)) (hlo : lo ≤ n) (hn : n < n') (hhi : n' ≤ hi) (hmh : m' ≤ mm) (hP : PrI o D Z mm sz lo hi a1 p1 a2 p2 ρ V L R T I) (hV : OutV I o l) :
    Call m_Nodes_print y_Nodes_print d 0 0 [.ref D, .int (cI (n : Int))] I L R T (rV fun I' L' R' T' => (OutV I' o (prK ρ V (prN ρ V f) n l) ∧ FrO o (o + 1) I I') ∧ L' = L ∧ R' = R ∧ T' = T) := by
  obtain ⟨f1, f2, f3, f4, f5, f6, f7⟩ := id hF
  have hly := hP.2.2.2.2.1
  have hr0 : RowC I L D n (ρ n) := hP.2.1 n hlo (by omega)
  refine Call.ofRun (by decide) ⟨rfl, rfl⟩ (Nat.le_of_ble_eq_true rfl) ?_
  refine Run.gen fun Q hQ => ?_
  refine q_aload_n d_Nodes_print_0 rfl ?_
  refine q_getR d_Nodes_print_1 fl_Nodes_15 f7.1 ⟨rfl, by decide⟩ (nR0 f7) ?_
  refine q_iload_n d_Nodes_print_4 rfl ?_
  refine j_iald (j := n) (v := (cI 6)) d_Nodes_print_5 (nT0 f7) (nN0 f7) (by omega) (by omega) (by omega) (hr0.1.trans (by rw [hI.1.2.1])) ?_
  refine q_istore_n (lv' := [(2, .int (cI 6)), (0, .ref D), (1, .int (cI (n : Int)))]) d_Nodes_print_6 (by decide) rfl ?_
  refine q_iload_n d_Nodes_print_7 rfl ?_
  refine j_lookup (tgt := 88) d_Nodes_print_8 (by omega) (by decide) rfl (by decide) ?_
  refine q_aload_n d_Nodes_print_88 rfl ?_
  refine q_iload_n d_Nodes_print_89 rfl ?_
  refine q_callV (ci := 6) (rc := 0) (rs := 0) (rest := []) d_Nodes_print_90 ml_Nodes_202 ok_Nodes_printCase rfl f7.1 (by decide) (c_Nodes_printCase (d - 1) (by omega) hF hK hI hlo hn hhi hmh hP hV) rfl rfl (by omega) (Nat.le_of_ble_eq_true rfl) (kv_V (fun J1 q1 => ?_)) kt_V
  refine q_goto (tgt := 110) d_Nodes_print_93 (by decide) ?_
  refine q_return d_Nodes_print_110 rfl ?_
  refine hQ _ _ _ _ _ ?_
  exact ⟨rfl, q1, rfl, rfl, rfl⟩
/-- a when's row -/
theorem Wf.whn {f s n m n' m' : Nat} (h : Wf ρ V (f + 1) s n m n' m') (h5 : (ρ n).getD 0 0 = 5) : ∃ (n2 m2 : Nat), (ρ n).getD 1 0 = (if n2 = n + 1 then -1 else ((n + 1 : Nat) : Int)) ∧ WfC ρ (WfS V (fun _ _ _ _ _ _ => False) (Wf ρ V f)) 8 (n + 1) m n2 m2 ∧ (n + 1 ≤ n2 ∧ n2 < n' ∧ m ≤ m2 ∧ m2 ≤ m') ∧ ((∃ x : Nat, (ρ n).getD 5 0 = (x : Int) ∧ nmO x ∧ (ρ n).getD 8 0 = -1) ∨ ((ρ n).getD 5 0 = 0 ∧ (ρ n).getD 8 0 = (m2 : Int) ∧ m2 < m' ∧ 0 ≤ V m2 ∧ V m2 ≤ 1000000000000000)) ∧ ChO ρ V f n n' m' ((ρ n).getD 2 0) ∧ (ρ n).length = 11 := by
  obtain ⟨κ, dep, x, h1, h2, h3, h⟩ := h
  by_cases e : κ = 5
  rotate_left
  · exfalso
    have h0 : InvR ρ V f n n' m' κ [κ, -1, -1, -1, -1, (x : Int), 0, 0, if κ = 100 then (m : Int) else -1, 0, dep] := InvR.i (by
      by_cases e : κ = 102
      · exact Or.inr (h2 e)
      · exact Or.inl (h3 e))
    have hI := WfL_inv (lo := n) (hi := n') (mh := m') WfCf_le _ (itC_s e) _ _ _ _ _ _ h (by omega) (Nat.le_refl _) (Nat.le_refl _) h0
    exact e (hI.2.1.symm.trans h5)
  subst e
  obtain rfl : x = 0 := h3 (by decide)
  obtain ⟨r1, n1, m1, q1, r2, n2, m2, q2, r3, n3, m3, q3, r4, n4, m4, q4, e1, e2, e3⟩ := h
  obtain ⟨z1, y1, w1⟩ := (show r1 = [5, -1, -1, -1, -1, ((0 : Nat) : Int), 0, 0, -1, 0, dep] ∧ n1 = n + 1 ∧ m1 = m from q1)
  obtain ⟨z2, u2⟩ := (show r2 = r1.set 1 (if n2 = n1 then -1 else (n1 : Int)) ∧ WfC ρ (WfS V (fun _ _ _ _ _ _ => False) (Wf ρ V f)) 8 n1 m1 n2 m2 from q2)
  obtain ⟨y3, u3⟩ := (show n3 = n2 ∧ ((∃ x : Nat, r3 = r2.set 5 x ∧ nmO x ∧ m3 = m2) ∨ (r3 = r2.set 8 m2 ∧ m3 = m2 + 1 ∧ 0 ≤ V m2 ∧ V m2 ≤ 1000000000000000)) from q3)
  obtain ⟨z4, u4⟩ := (show r4 = r3.set 2 n3 ∧ Wf ρ V f 1 n3 m3 n4 m4 from q4)
  subst z1 y1 w1 y3 e2 e3
  have b4 := Wf_le _ _ _ _ _ _ u4
  have b2 := WfCf_le (ρ := ρ) (V := V) (f := f) r2 _ _ _ _ _ ⟨rfl, u2⟩
  rcases u3 with ⟨x, z3, hx, w3⟩ | ⟨z3, w3, v1, v2⟩
  · subst z2 z3 z4 w3
    rw [e1]
    exact ⟨_, _, rfl, u2, by omega, Or.inl ⟨x, rfl, hx, rfl⟩, ⟨_, 1, _, n', m', rfl, by omega, Nat.le_refl _, Nat.le_refl _, u4⟩, rfl⟩
  · subst z2 z3 z4 w3
    rw [e1]
    exact ⟨_, _, rfl, u2, by omega, Or.inr ⟨rfl, rfl, by omega, v1, v2⟩, ⟨_, 1, _, n', m', rfl, by omega, Nat.le_refl _, Nat.le_refl _, u4⟩, rfl⟩
theorem c_Nodes_printWhen {f s n m n' m' : Nat} (d : Nat) {l : List Nat} (hd : 5 * f + 14 ≤ d) (hF : PrF P w o D L R T) (hK : PrOk P w o D Z mm sz lo hi a1 p1 a2 p2 ρ V L R T f) (hw : Wf ρ V (f + 1) s n m n' m') (h5 : (ρ n).getD 0 0 = 5) (hlo : lo ≤ n) (hn : n < n') (hhi : n' ≤ hi) (hmh : m' ≤ mm) (hP : PrI o D Z mm sz lo hi a1 p1 a2 p2 ρ V L R T I) (hV : OutV I o l) :
    Call m_Nodes_printWhen y_Nodes_printWhen d 0 0 [.ref D, .int (cI (n : Int))] I L R T (rV fun I' L' R' T' => (OutV I' o (prN ρ V (f + 1) n l) ∧ FrO o (o + 1) I I') ∧ L' = L ∧ R' = R ∧ T' = T) := by
  obtain ⟨f1, f2, f3, f4, f5, f6, f7⟩ := id hF
  obtain ⟨n2, m2, g1, g2, g3, g4, g5, g6⟩ := hw.whn h5
  have hly := hP.2.2.2.2.1
  have hms := hP.1.lt
  have hrw : ∀ i J, n ≤ i → i < n' → PrI o D Z mm sz lo hi a1 p1 a2 p2 ρ V L R T J → RowC J L D i (ρ i) := fun i J h1 h2 hJ => hJ.2.1 i (by omega) (by omega)
  obtain ⟨c1, hc1⟩ : ∃ c1, c1 = (ρ n).getD 1 0 := ⟨_, rfl⟩
  obtain ⟨c2, hc2⟩ : ∃ c2, c2 = (ρ n).getD 2 0 := ⟨_, rfl⟩
  obtain ⟨z8, hz8⟩ : ∃ z8, z8 = (ρ n).getD 8 0 := ⟨_, rfl⟩
  unfold prN
  rw [← hc2] at g5
  rw [← hc1] at g1
  rw [← hz8] at g4
  simp only [h5, ← hc1, ← hc2, ← hz8]
  rw [if_neg (by decide), if_neg (by decide), if_pos trivial]
  have g5i := g5.in (by omega)
  have hc1i : -1 ≤ c1 ∧ c1 < 5000 := by rw [g1]; split <;> omega
  have hz8i : -1 ≤ z8 ∧ z8 ≤ 60000 := by rcases g4 with ⟨x, -, -, h⟩ | ⟨-, h, -⟩ <;> omega
  refine Call.ofRun (by decide) ⟨rfl, rfl⟩ (Nat.le_of_ble_eq_true rfl) ?_
  refine Run.gen fun Q hQ => ?_
  refine q_aload_n d_Nodes_printWhen_0 rfl ?_
  refine q_getR d_Nodes_printWhen_1 fl_Nodes_3 f7.1 ⟨rfl, by decide⟩ f7.2.2 ?_
  refine q_getR d_Nodes_printWhen_4 fl_Nodes_216 f1 ⟨rfl, by decide⟩ f2 ?_
  refine j_iconst d_Nodes_printWhen_7 ?_
  refine q_aload_n d_Nodes_printWhen_8 rfl ?_
  refine q_getR d_Nodes_printWhen_9 fl_Nodes_3 f7.1 ⟨rfl, by decide⟩ f7.2.2 ?_
  refine q_getR d_Nodes_printWhen_12 fl_Nodes_181 f1 ⟨rfl, by decide⟩ f3 ?_
  refine q_callV (ci := 3) (rc := 0) (rs := 0) (rest := []) d_Nodes_printWhen_15 ml_Nodes_220 ok_Keywords_print rfl f4.1 (by decide) (c_Keywords_print (d - 1) (k := 5) (by omega) f4 f5 f6 hV (by decide)) rfl rfl (by omega) (Nat.le_of_ble_eq_true rfl) (kv_V (fun J1 q1 => ?_)) kt_V
  have hP1 := hP.fr q1.2.o
  refine q_aload_n d_Nodes_printWhen_18 rfl ?_
  refine q_getR d_Nodes_printWhen_19 fl_Nodes_3 f7.1 ⟨rfl, by decide⟩ f7.2.2 ?_
  refine q_getR d_Nodes_printWhen_22 fl_Nodes_181 f1 ⟨rfl, by decide⟩ f3 ?_
  refine q_ldcS (i := 1) d_Nodes_printWhen_25 rfl hP.2.2.1.2.1 ?_
  refine q_callV (ci := 2) (rc := 0) (rs := 0) (rest := []) d_Nodes_printWhen_27 ml_Nodes_233 ok_Out_word rfl f6.1 (by decide) (c_Out_word (d - 1) (by omega) f6 q1.1 hP1.2.2.1) rfl rfl (by omega) (Nat.le_of_ble_eq_true rfl) (kv_V (fun J2 q2 => ?_)) kt_V
  have hF2 : FrO o (o + 1) I J2 := q1.2.o.tr q2.2.o
  have hP2 := hP.fr hF2
  have t112 : ∀ (l6 : List Nat) (J6 : M32), FrO o (o + 1) I J6 → OutV J6 o l6 → OutV J6 o l6 ∧ l6 = (if z8 = -1 then wordL (wordL (prCs ρ V (prN ρ V f) 8 c1 (wordL (wordL l (kwL 5)) [91])) [93]) (63 :: nmL ((ρ n).getD 5 0).toNat) else wordL (wordL (prCs ρ V (prN ρ V f) 8 c1 (wordL (wordL l (kwL 5)) [91])) [93]) (nuL (V z8.toNat))) → Run m_Nodes_printWhen d 0 0 112 [(0, .ref D), (1, .int (cI (n : Int)))] [] J6 L R T Q := by
    intro l6 J6 q6 v6 hl6
    rw [← hl6.2] at hQ
    have hP6 := hP.fr q6
    refine q_aload_n d_Nodes_printWhen_112 rfl ?_
    refine q_aload_n d_Nodes_printWhen_113 rfl ?_
    refine q_getR d_Nodes_printWhen_114 fl_Nodes_22 f7.1 ⟨rfl, by decide⟩ (nR2 f7) ?_
    refine q_iload_n d_Nodes_printWhen_117 rfl ?_
    refine j_iald (j := n) (v := (cI c2)) d_Nodes_printWhen_118 (nT2 f7) (nN2 f7) (by omega) (by omega) (by omega) ((hrw n _ (by omega) (by omega) hP6).2.2.1.trans (by rw [← hc2])) ?_
    refine q_callV (ci := 6) (rc := 0) (rs := 0) (rest := []) d_Nodes_printWhen_119 ml_Nodes_213 ok_Nodes_print rfl f7.1 (by decide) (hK.ch (d := d - 1) g5 (by omega) hlo hhi hmh hP6 v6) rfl rfl (by omega) (Nat.le_of_ble_eq_true rfl) (kv_V (fun J7 q7 => ?_)) kt_V
    refine q_return d_Nodes_printWhen_122 rfl ?_
    refine hQ _ _ _ _ _ ?_
    exact ⟨rfl, ⟨q7.1, q6.tr q7.2⟩, rfl, rfl, rfl⟩
  have t57 : ∀ (l6 : List Nat) (J6 : M32), FrO o (o + 1) I J6 → OutV J6 o l6 → l6 = prCs ρ V (prN ρ V f) 8 c1 (wordL (wordL l (kwL 5)) [91]) → Run m_Nodes_printWhen d 0 0 57 [(0, .ref D), (1, .int (cI (n : Int)))] [] J6 L R T Q := by
    intro l6 J6 q6 v6 hl6
    rw [← hl6] at t112
    have hP6 := hP.fr q6
    refine q_aload_n d_Nodes_printWhen_57 rfl ?_
    refine q_getR d_Nodes_printWhen_58 fl_Nodes_3 f7.1 ⟨rfl, by decide⟩ f7.2.2 ?_
    refine q_getR d_Nodes_printWhen_61 fl_Nodes_181 f1 ⟨rfl, by decide⟩ f3 ?_
    refine q_ldcS (i := 2) d_Nodes_printWhen_64 rfl hP6.2.2.2.1.2.1 ?_
    refine q_callV (ci := 2) (rc := 0) (rs := 0) (rest := []) d_Nodes_printWhen_66 ml_Nodes_233 ok_Out_word rfl f6.1 (by decide) (c_Out_word (d - 1) (by omega) f6 v6 hP6.2.2.2.1) rfl rfl (by omega) (Nat.le_of_ble_eq_true rfl) (kv_V (fun J7 q7 => ?_)) kt_V
    have hF7 := q6.tr q7.2.o
    have hP7 := hP.fr hF7
    have hrn := hrw n _ (by omega) (by omega) hP7
    refine q_aload_n d_Nodes_printWhen_69 rfl ?_
    refine q_getR d_Nodes_printWhen_70 fl_Nodes_31 f7.1 ⟨rfl, by decide⟩ (nR5 f7) ?_
    refine q_iload_n d_Nodes_printWhen_73 rfl ?_
    refine j_iald (j := n) (v := (cI z8)) d_Nodes_printWhen_74 (nT5 f7) (nN5 f7) (by omega) (by omega) (by omega) (hrn.2.2.2.2.2.2.2.2.1.trans (by rw [← hz8])) ?_
    refine j_iconst d_Nodes_printWhen_75 ?_
    rcases g4 with ⟨x, y1, y2, y3⟩ | ⟨y1, y2, y3, y4, y5⟩
    · refine j_icmp_ne (tgt := 92) d_Nodes_printWhen_76 (by decide) (by omega) (by omega) (fun hx => by exfalso; omega) (fun hx => ?_)
      refine q_aload_n d_Nodes_printWhen_79 rfl ?_
      refine q_aload_n d_Nodes_printWhen_80 rfl ?_
      refine q_getR d_Nodes_printWhen_81 fl_Nodes_37 f7.1 ⟨rfl, by decide⟩ (nR7 f7) ?_
      refine q_iload_n d_Nodes_printWhen_84 rfl ?_
      refine j_lald (j := n) (v := (cL (x : Int))) d_Nodes_printWhen_85 (nT7 f7) (nN7 f7) (by omega) (by omega) (by omega) (hrn.2.2.2.2.2.1.trans (by rw [y1])) ?_
      refine q_callV (ci := 6) (rc := 0) (rs := 0) (rest := []) d_Nodes_printWhen_86 ml_Nodes_199 ok_Nodes_printParameter rfl f7.1 (by decide) (c_Nodes_printParameter (d - 1) (by omega) hF q7.1 y2) rfl rfl (by omega) (Nat.le_of_ble_eq_true rfl) (kv_V (fun J8 q8 => ?_)) kt_V
      refine q_goto (tgt := 112) d_Nodes_printWhen_89 (by decide) ?_
      exact t112 _ _ (hF7.tr q8.2) q8.1 ⟨q8.1, by rw [if_pos y3, y1]; rfl⟩
    · refine j_icmp_ne (tgt := 92) d_Nodes_printWhen_76 (by decide) (by omega) (by omega) (fun hx => ?_) (fun hx => by exfalso; omega)
      obtain ⟨b, b1, b2, b3, b4⟩ := hP7.1.at (k := m2) f7 (by omega)
      refine q_aload_n d_Nodes_printWhen_92 rfl ?_
      refine q_getR d_Nodes_printWhen_93 fl_Nodes_3 f7.1 ⟨rfl, by decide⟩ f7.2.2 ?_
      refine q_getR d_Nodes_printWhen_96 fl_Nodes_181 f1 ⟨rfl, by decide⟩ f3 ?_
      refine q_aload_n d_Nodes_printWhen_99 rfl ?_
      refine q_aload_n d_Nodes_printWhen_100 rfl ?_
      refine q_getR d_Nodes_printWhen_101 fl_Nodes_31 f7.1 ⟨rfl, by decide⟩ (nR5 f7) ?_
      refine q_iload_n d_Nodes_printWhen_104 rfl ?_
      refine j_iald (j := n) (v := (cI z8)) d_Nodes_printWhen_105 (nT5 f7) (nN5 f7) (by omega) (by omega) (by omega) (hrn.2.2.2.2.2.2.2.2.1.trans (by rw [← hz8])) ?_
      refine Run.top (v := .int (cI (m2 : Int))) (by rw [y2]) ?_
      refine q_callV (ci := 6) (rc := 0) (rs := 0) (rest := [.ref o]) d_Nodes_printWhen_106 ml_Nodes_157 ok_Nodes_numberAt rfl f7.1 (by decide) (b4 (d - 1) L (by omega)) rfl rfl (by omega) (Nat.le_of_ble_eq_true rfl) (kp_O ?_) kt_O
      refine q_callV (ci := 2) (rc := 0) (rs := 0) (rest := []) d_Nodes_printWhen_109 ml_Nodes_197 ok_Out_number rfl f6.1 (by decide) (c_Out_number (d - 1) (by omega) f6 b1 q7.1 b2) rfl rfl (by omega) (Nat.le_of_ble_eq_true rfl) (kv_V (fun J8 q8 => ?_)) kt_V
      obtain ⟨nn, d1, d2, d3⟩ := q8
      rw [nuL_eq d1] at d2
      exact t112 _ _ (hF7.tr d3) d2 ⟨d2, by rw [if_neg (by omega), y2]; rfl⟩
  have loop : ∀ (k : Nat) (n3 m3 : Nat) (c : Int) (l3 : List Nat) (J3 : M32), n + 1 ≤ n3 ∧ c = (if n2 = n3 then -1 else (n3 : Int)) → WfC ρ (WfS V (fun _ _ _ _ _ _ => False) (Wf ρ V f)) k n3 m3 n2 m2 → FrO o (o + 1) I J3 → OutV J3 o l3 → prCs ρ V (prN ρ V f) k c l3 = prCs ρ V (prN ρ V f) 8 c1 (wordL (wordL l (kwL 5)) [91]) → Run m_Nodes_printWhen d 0 0 37 [(0, .ref D), (1, .int (cI (n : Int))), (2, .int (cI c))] [] J3 L R T Q := by
    intro k
    induction k with
    | zero =>
      intro n3 m3 c l3 J3 hc hC q3 v3 he
      rw [if_pos hC.1] at hc
      refine q_iload_n d_Nodes_printWhen_37 rfl ?_
      refine j_iconst d_Nodes_printWhen_38 ?_
      refine j_icmp_eq (tgt := 57) d_Nodes_printWhen_39 (by decide) (by omega) (by omega) (fun hx => ?_) (fun hx => by exfalso; omega)
      refine Run.lv (lv' := [(0, .ref D), (1, .int (cI (n : Int)))]) (by intro q hq; simp only [List.mem_cons, List.not_mem_nil, or_false] at hq ⊢; rcases hq with rfl | rfl <;> simp) ?_
      exact t57 _ _ q3 v3 he
    | succ k ih =>
      intro n3 m3 c l3 J3 hc hC q3 v3 he
      rcases hC with ⟨e1, e2⟩ | ⟨κ, dep, r, n4, m4, k1, k2, k3, k4, k5⟩
      · rw [if_pos e1] at hc
        refine q_iload_n d_Nodes_printWhen_37 rfl ?_
        refine j_iconst d_Nodes_printWhen_38 ?_
        refine j_icmp_eq (tgt := 57) d_Nodes_printWhen_39 (by decide) (by omega) (by omega) (fun hx => ?_) (fun hx => by exfalso; omega)
        refine Run.lv (lv' := [(0, .ref D), (1, .int (cI (n : Int)))]) (by intro q hq; simp only [List.mem_cons, List.not_mem_nil, or_false] at hq ⊢; rcases hq with rfl | rfl <;> simp) ?_
        exact t57 _ _ q3 v3 (by rw [← he, hc.2]; rfl)
      have b1 := WfL_le (fun w sl r n m r' n' m' => WfS_le (V := V) (C := fun _ _ _ _ _ _ => False) (w := w) (sl := sl) (r := r) (n := n) (m := m) (r' := r') (n' := n') (m' := m') (Wf_le (ρ := ρ) (V := V) f) (fun _ _ _ _ _ _ h => absurd h (fun h => h))) _ _ _ _ _ _ _ k2
      have b2 := WfC_le (fun w sl r n m r' n' m' => WfS_le (V := V) (C := fun _ _ _ _ _ _ => False) (w := w) (sl := sl) (r := r) (n := n) (m := m) (r' := r') (n' := n') (m' := m') (Wf_le (ρ := ρ) (V := V) f) (fun _ _ _ _ _ _ h => absurd h (fun h => h))) _ _ _ _ _ k5
      obtain ⟨hc0, hc⟩ := hc
      rw [if_neg (by omega)] at hc
      have hca : CaF ρ V f n3 n4 m4 (ρ n3) := by rw [k3]; exact (WfL.caf k1 k2).o
      have hr11 : r.length = 11 := (WfL.caf k1 k2).1.1
      have hnx : (ρ n3).getD 4 0 = (if n2 = n4 then -1 else (n4 : Int)) := by rw [k3, gset_s (by omega)]
      have hP3 := hP.fr q3
      refine q_iload_n d_Nodes_printWhen_37 rfl ?_
      refine j_iconst d_Nodes_printWhen_38 ?_
      refine j_icmp_eq (tgt := 57) d_Nodes_printWhen_39 (by decide) (by omega) (by omega) (fun hx => by exfalso; omega) (fun hx => ?_)
      refine q_aload_n d_Nodes_printWhen_42 rfl ?_
      refine q_iload_n d_Nodes_printWhen_43 rfl ?_
      refine Run.top (v := .int (cI (n3 : Int))) (by rw [hc]) ?_
      refine q_callV (ci := 6) (rc := 0) (rs := 0) (rest := []) d_Nodes_printWhen_44 ml_Nodes_213 ok_Nodes_print rfl f7.1 (by decide) (c_Nodes_printK (d - 1) (by omega) hF hK hca (by omega) (by omega) (by omega) (by omega) hP3 v3) rfl rfl (by omega) (Nat.le_of_ble_eq_true rfl) (kv_V (fun J4 q4 => ?_)) kt_V
      have hF4 := q3.tr q4.2
      have hP4 := hP.fr hF4
      refine q_aload_n d_Nodes_printWhen_47 rfl ?_
      refine q_getR d_Nodes_printWhen_48 fl_Nodes_28 f7.1 ⟨rfl, by decide⟩ (nR4 f7) ?_
      refine q_iload_n d_Nodes_printWhen_51 rfl ?_
      refine j_iald (j := n3) (v := (cI (if n2 = n4 then -1 else (n4 : Int)))) d_Nodes_printWhen_52 (nT4 f7) (nN4 f7) (by omega) (by omega) (by omega) ((hrw n3 _ (by omega) (by omega) hP4).2.2.2.2.1.trans (by rw [hnx])) ?_
      refine q_istore_n (lv' := [(2, .int (cI (if n2 = n4 then -1 else (n4 : Int)))), (0, .ref D), (1, .int (cI (n : Int)))]) d_Nodes_printWhen_53 (by decide) rfl ?_
      refine q_goto (tgt := 37) d_Nodes_printWhen_54 (by decide) ?_
      have hstep : prCs ρ V (prN ρ V f) (k + 1) c l3 = prCs ρ V (prN ρ V f) k (if n2 = n4 then -1 else (n4 : Int)) (prK ρ V (prN ρ V f) n3 l3) := by
        show (if c = -1 then l3 else prCs ρ V (prN ρ V f) k ((ρ c.toNat).getD 4 0) (prK ρ V (prN ρ V f) c.toNat l3)) = _
        rw [if_neg (show ¬ c = -1 by omega), hc, Int.toNat_natCast, hnx]
      refine Run.lv (lv' := [(0, .ref D), (1, .int (cI (n : Int))), (2, .int (cI (if n2 = n4 then -1 else (n4 : Int))))]) (by intro q hq; simp only [List.mem_cons, List.not_mem_nil, or_false] at hq ⊢; rcases hq with rfl | rfl | rfl <;> simp) ?_
      exact ih n4 m4 _ _ _ ⟨by omega, rfl⟩ k5 hF4 q4.1 (by rw [← hstep]; exact he)
  refine q_aload_n d_Nodes_printWhen_30 rfl ?_
  refine q_getR d_Nodes_printWhen_31 fl_Nodes_19 f7.1 ⟨rfl, by decide⟩ (nR1 f7) ?_
  refine q_iload_n d_Nodes_printWhen_34 rfl ?_
  refine j_iald (j := n) (v := (cI c1)) d_Nodes_printWhen_35 (nT1 f7) (nN1 f7) (by omega) (by omega) (by omega) ((hrw n _ (by omega) (by omega) hP2).2.1.trans (by rw [← hc1])) ?_
  refine q_istore_n (lv' := [(2, .int (cI c1)), (0, .ref D), (1, .int (cI (n : Int)))]) d_Nodes_printWhen_36 (by decide) rfl ?_
  refine Run.lv (lv' := [(0, .ref D), (1, .int (cI (n : Int))), (2, .int (cI c1))]) (by intro q hq; simp only [List.mem_cons, List.not_mem_nil, or_false] at hq ⊢; rcases hq with rfl | rfl | rfl <;> simp) ?_
  exact loop 8 (n + 1) m c1 _ _ ⟨by omega, g1⟩ g2 hF2 q2.1 rfl
theorem WfL_0 {C : SRel} {P : Nat → Nat → Nat → Nat → Nat → Prop} (hC : ∀ r n m r' n' m', C r n m r' n' m' → r'.getD 0 0 = r.getD 0 0) : ∀ ws : List (Nat × Nat), (∀ x ∈ ws, x.1 ≤ 3 → 1 ≤ x.2) → ∀ r n m r' n' m', WfL (WfS V C P) ws r n m r' n' m' → r'.getD 0 0 = r.getD 0 0
  | [], _, r, n, m, r', n', m', h => by rw [h.1]
  | x :: ws, hw, r, n, m, r', n', m', h => by
    obtain ⟨r1, n1, m1, h1, h2⟩ := h
    have hx := hw x (List.mem_cons_self ..)
    refine (WfL_0 hC ws (fun y hy => hw y (List.mem_cons_of_mem _ hy)) r1 n1 m1 r' n' m' h2).trans ?_
    unfold WfS at h1
    split at h1
    · rename_i q
      have := hx q
      rw [h1.1, gset_n (by omega)]
    · split at h1
      · obtain ⟨⟨y, h3, -⟩, -⟩ := h1
        rw [h3, gset_n (by omega)]
      · split at h1
        · rcases h1.1 with e | e <;> rw [e, gset_n (by decide)]
        · split at h1
          · rcases h1.2 with ⟨y, h3, -⟩ | ⟨h3, -⟩ <;> rw [h3, gset_n (by decide)]
          · split at h1
            · obtain ⟨-, p, -, h3, -⟩ := h1
              rw [h3, gset_n (by decide), gset_n (by decide)]
            · split at h1
              · exact hC _ _ _ _ _ _ h1
              · rw [h1.1]
theorem itC_1 {κ : Int} : ∀ x ∈ itC κ, x.1 ≤ 3 → 1 ≤ x.2 := by
  unfold itC
  repeat (refine ite_all (by decide) ?_)
  decide
/-- a node, by the kind that its row has -/
theorem Wf.un {f s n m n' m' : Nat} (h : Wf ρ V (f + 1) s n m n' m') : ∃ (κ dep : Int) (x : Nat), (ρ n).getD 0 0 = κ ∧ okS s κ = true ∧ (κ = 102 → nmO x) ∧ (κ ≠ 102 → x = 0) ∧
      WfL (WfS V (fun r n m r' n' m' => r' = r.set 1 (if n' = n then -1 else (n : Int)) ∧ WfC ρ (WfS V (fun _ _ _ _ _ _ => False) (Wf ρ V f)) 8 n m n' m') (Wf ρ V f)) (itC κ) [κ, -1, -1, -1, -1, (x : Int), 0, 0, if κ = 100 then (m : Int) else -1, 0, dep] (n + 1) (if κ = 100 then m + 1 else m) (ρ n) n' m' := by
  obtain ⟨κ, dep, x, h1, h2, h3, h⟩ := h
  exact ⟨κ, dep, x, WfL_0 (fun r n m r' n' m' z => by rw [z.1, gset_n (by decide)]) _ itC_1 _ _ _ _ _ _ h, h1, h2, h3, h⟩
theorem Wf.num {f s n m n' m' : Nat} (h : Wf ρ V (f + 1) s n m n' m') (hk : (ρ n).getD 0 0 = 100) : (ρ n).getD 8 0 = (m : Int) ∧ n' = n + 1 ∧ m' = m + 1 := by
  obtain ⟨κ, dep, x, h0, h1, h2, h3, h⟩ := h.un
  rw [hk] at h0
  subst h0
  obtain ⟨e1, e2, e3⟩ := h
  rw [e1]
  exact ⟨rfl, e2, e3⟩
theorem Wf.par {f s n m n' m' : Nat} (h : Wf ρ V (f + 1) s n m n' m') (hk : (ρ n).getD 0 0 = 102) : ∃ x : Nat, (ρ n).getD 5 0 = (x : Int) ∧ nmO x := by
  obtain ⟨κ, dep, x, h0, h1, h2, h3, h⟩ := h.un
  rw [hk] at h0
  subst h0
  obtain ⟨e1, e2, e3⟩ := h
  rw [e1]
  exact ⟨x, rfl, h2 rfl⟩
theorem Wf.thr {f s n m n' m' : Nat} (h : Wf ρ V (f + 1) s n m n' m') (hk : (ρ n).getD 0 0 = 4 ∨ (ρ n).getD 0 0 = 22) : ChO ρ V f n n' m' ((ρ n).getD 3 0) := by
  obtain ⟨κ, dep, x, h0, h1, h2, h3, h⟩ := h.un
  rw [h0] at hk
  obtain ⟨ss, hss⟩ : ∃ ss, itC κ = [(3, 1), (ss, 2), (ss, 3)] ∧ (ss = 1 ∨ ss = 2) := by
    rcases hk with e | e
    · exact ⟨1, by rw [e]; rfl, Or.inl rfl⟩
    · exact ⟨2, by rw [e]; rfl, Or.inr rfl⟩
  rw [hss.1] at h
  obtain ⟨r1, n1, m1, q1, r2, n2, m2, q2, r3, n3, m3, q3, e1, e2, e3⟩ := h
  obtain ⟨-, u1⟩ := (show r1 = _ ∧ Wf ρ V f 3 (n + 1) _ n1 m1 from q1)
  have b1 := Wf_le _ _ _ _ _ _ u1
  obtain ⟨z2, u2⟩ : r2 = r1.set 2 n1 ∧ Wf ρ V f ss n1 m1 n2 m2 := by
    rcases hss.2 with rfl | rfl <;> exact q2
  obtain ⟨z3, u3⟩ : r3 = r2.set 3 n2 ∧ Wf ρ V f ss n2 m2 n3 m3 := by
    rcases hss.2 with rfl | rfl <;> exact q3
  have b2 := Wf_le _ _ _ _ _ _ u2
  have b3 := Wf_le _ _ _ _ _ _ u3
  have hl : r2.length = 11 := by
    rw [z2, List.length_set, (show r1 = _ ∧ _ from q1).1, List.length_set]; rfl
  rw [e1, z3, gset_s (by omega)]
  exact ⟨n2, ss, m2, n3, m3, rfl, by omega, by omega, by omega, u3⟩
theorem Wf.sgn {f s n m n' m' : Nat} (h : Wf ρ V (f + 1) s n m n' m') (hk : (ρ n).getD 0 0 = 1) : (ρ n).getD 3 0 = 0 ∨ (ρ n).getD 3 0 = 1 := by
  obtain ⟨κ, dep, x, h0, h1, h2, h3, h⟩ := h.un
  rw [hk] at h0
  subst h0
  obtain ⟨r1, n1, m1, q1, r2, n2, m2, q2, r3, n3, m3, q3, r4, n4, m4, q4, r5, n5, m5, q5, r6, n6, m6, q6, e1, e2, e3⟩ := h
  obtain ⟨⟨x1, z1, -⟩, -⟩ := (show (∃ x : Nat, r1 = _ ∧ nmO x) ∧ _ from q1)
  obtain ⟨z2, -⟩ := (show (r2 = r1.set 3 0 ∨ r2 = r1.set 3 1) ∧ _ from q2)
  obtain ⟨⟨x3, z3, -⟩, -⟩ := (show (∃ x : Nat, r3 = r2.set 6 x ∧ nmO x) ∧ _ from q3)
  obtain ⟨⟨x4, z4, -⟩, -⟩ := (show (∃ x : Nat, r4 = r3.set 7 x ∧ nmO x) ∧ _ from q4)
  obtain ⟨z5, -⟩ := (show r5 = r4.set 1 n4 ∧ _ from q5)
  obtain ⟨z6, -⟩ := (show r6 = r5.set 2 n5 ∧ _ from q6)
  have hl : r1.length = 11 := by rw [z1, List.length_set]; rfl
  rw [e1, z6, gset_n (by decide), z5, gset_n (by decide), z4, gset_n (by decide), z3, gset_n (by decide)]
  rcases z2 with z | z
  · exact Or.inl (by rw [z, gset_s (by omega)])
  · exact Or.inr (by rw [z, gset_s (by omega)])
theorem PrOk.step {f : Nat} (hF : PrF P w o D L R T) (hK : PrOk P w o D Z mm sz lo hi a1 p1 a2 p2 ρ V L R T f) : PrOk P w o D Z mm sz lo hi a1 p1 a2 p2 ρ V L R T (f + 1) := by
  intro s n m n' m' d l I hd hw hlo hhi hmh hP hV
  have hb := Wf_le _ _ _ _ _ _ hw
  obtain ⟨f1, f2, f3, f4, f5, f6, f7⟩ := id hF
  have hly := hP.2.2.2.2.1
  have hr0 : RowC I L D n (ρ n) := hP.2.1 n hlo (by omega)
  obtain ⟨κ, hκ⟩ : ∃ κ, κ = (ρ n).getD 0 0 := ⟨_, rfl⟩
  have hms := hP.1.lt
  refine Call.ofRun (by decide) ⟨rfl, rfl⟩ (Nat.le_of_ble_eq_true rfl) ?_
  refine Run.gen fun Q hQ => ?_
  refine q_aload_n d_Nodes_print_0 rfl ?_
  refine q_getR d_Nodes_print_1 fl_Nodes_15 f7.1 ⟨rfl, by decide⟩ (nR0 f7) ?_
  refine q_iload_n d_Nodes_print_4 rfl ?_
  refine j_iald (j := n) (v := (cI κ)) d_Nodes_print_5 (nT0 f7) (nN0 f7) (by omega) (by omega) (by omega) (hr0.1.trans (by rw [← hκ])) ?_
  refine q_istore_n (lv' := [(2, .int (cI κ)), (0, .ref D), (1, .int (cI (n : Int)))]) d_Nodes_print_6 (by decide) rfl ?_
  refine q_iload_n d_Nodes_print_7 rfl ?_
  by_cases h5 : κ = 5
  · refine j_lookup (tgt := 96) d_Nodes_print_8 (by omega) (by decide) (by rw [h5]) (by decide) ?_
    refine q_aload_n d_Nodes_print_96 rfl ?_
    refine q_iload_n d_Nodes_print_97 rfl ?_
    refine q_callV (ci := 6) (rc := 0) (rs := 0) (rest := []) d_Nodes_print_98 ml_Nodes_205 ok_Nodes_printWhen rfl f7.1 (by decide) (c_Nodes_printWhen (d - 1) (by omega) hF hK hw (hκ.symm.trans h5) hlo hb.1 hhi hmh hP hV) rfl rfl (by omega) (Nat.le_of_ble_eq_true rfl) (kv_V (fun J1 q1 => ?_)) kt_V
    refine q_goto (tgt := 110) d_Nodes_print_101 (by decide) ?_
    refine q_return d_Nodes_print_110 rfl ?_
    refine hQ _ _ _ _ _ ?_
    exact ⟨rfl, q1, rfl, rfl, rfl⟩
  obtain ⟨hok, hI⟩ := hw.inv (by rw [← hκ]; exact h5)
  rw [← hκ] at hok hI
  unfold prN at hQ
  simp only [← hκ] at hQ
  by_cases h100 : κ = 100
  · rw [if_pos h100] at hQ
    obtain ⟨w1, w2, w3⟩ := hw.num (hκ.symm.trans h100)
    obtain ⟨b, b1, b2, b3, b4⟩ := hP.1.at (k := m) f7 (by omega)
    refine j_lookup (tgt := 52) d_Nodes_print_8 (by omega) (by decide) (by rw [h100]) (by decide) ?_
    refine q_aload_n d_Nodes_print_52 rfl ?_
    refine q_getR d_Nodes_print_53 fl_Nodes_3 f7.1 ⟨rfl, by decide⟩ f7.2.2 ?_
    refine q_getR d_Nodes_print_56 fl_Nodes_181 f1 ⟨rfl, by decide⟩ f3 ?_
    refine q_aload_n d_Nodes_print_59 rfl ?_
    refine q_aload_n d_Nodes_print_60 rfl ?_
    refine q_getR d_Nodes_print_61 fl_Nodes_31 f7.1 ⟨rfl, by decide⟩ (nR5 f7) ?_
    refine q_iload_n d_Nodes_print_64 rfl ?_
    refine j_iald (j := n) (v := (cI (m : Int))) d_Nodes_print_65 (nT5 f7) (nN5 f7) (by omega) (by omega) (by omega) (hr0.2.2.2.2.2.2.2.2.1.trans (by rw [w1])) ?_
    refine q_callV (ci := 6) (rc := 0) (rs := 0) (rest := [.ref o]) d_Nodes_print_66 ml_Nodes_157 ok_Nodes_numberAt rfl f7.1 (by decide) (b4 (d - 1) L (by omega)) rfl rfl (by omega) (Nat.le_of_ble_eq_true rfl) (kp_O ?_) kt_O
    refine q_callV (ci := 2) (rc := 0) (rs := 0) (rest := []) d_Nodes_print_69 ml_Nodes_197 ok_Out_number rfl f6.1 (by decide) (c_Out_number (d - 1) (by omega) f6 b1 hV b2) rfl rfl (by omega) (Nat.le_of_ble_eq_true rfl) (kv_V (fun J8 q8 => ?_)) kt_V
    obtain ⟨nn, d1, d2, d3⟩ := q8
    rw [nuL_eq d1] at d2
    refine q_goto (tgt := 110) d_Nodes_print_72 (by decide) ?_
    refine q_return d_Nodes_print_110 rfl ?_
    refine hQ _ _ _ _ _ ?_
    refine ⟨rfl, ⟨?_, d3⟩, rfl, rfl, rfl⟩
    rw [w1, Int.toNat_natCast]
    exact d2
  rw [if_neg h100] at hQ
  by_cases h102 : κ = 102
  · rw [if_pos h102] at hQ
    obtain ⟨x, w1, w2⟩ := hw.par (hκ.symm.trans h102)
    refine j_lookup (tgt := 75) d_Nodes_print_8 (by omega) (by decide) (by rw [h102]) (by decide) ?_
    refine q_aload_n d_Nodes_print_75 rfl ?_
    refine q_aload_n d_Nodes_print_76 rfl ?_
    refine q_getR d_Nodes_print_77 fl_Nodes_37 f7.1 ⟨rfl, by decide⟩ (nR7 f7) ?_
    refine q_iload_n d_Nodes_print_80 rfl ?_
    refine j_lald (j := n) (v := (cL (x : Int))) d_Nodes_print_81 (nT7 f7) (nN7 f7) (by omega) (by omega) (by omega) (hr0.2.2.2.2.2.1.trans (by rw [w1])) ?_
    refine q_callV (ci := 6) (rc := 0) (rs := 0) (rest := []) d_Nodes_print_82 ml_Nodes_199 ok_Nodes_printParameter rfl f7.1 (by decide) (c_Nodes_printParameter (d - 1) (by omega) hF hV w2) rfl rfl (by omega) (Nat.le_of_ble_eq_true rfl) (kv_V (fun J8 q8 => ?_)) kt_V
    refine q_goto (tgt := 110) d_Nodes_print_85 (by decide) ?_
    refine q_return d_Nodes_print_110 rfl ?_
    refine hQ _ _ _ _ _ ?_
    refine ⟨rfl, ⟨?_, q8.2⟩, rfl, rfl, rfl⟩
    rw [w1, Int.toNat_natCast]
    exact q8.1
  rw [if_neg h102, if_neg h5] at hQ
  obtain ⟨k, hk, hk34⟩ : ∃ k : Nat, κ = (k : Int) ∧ k < 34 ∧ k ≠ 6 := by
    have hx : 0 ≤ κ ∧ κ < 34 ∧ κ ≠ 6 := by
      unfold okS at hok
      (repeat' split at hok) <;> rw [decide_eq_true_eq] at hok <;> omega
    exact ⟨κ.toNat, by omega, by omega, by omega⟩
  rw [hk] at hI
  have hk1 : k = 1 → inI ((ρ n).getD 3 0) := fun e => by
    have := hw.sgn (by rw [← hκ]; omega)
    omega
  have hk4 : k = 4 ∨ k = 22 → ChO ρ V f n n' m' ((ρ n).getD 3 0) := fun e => hw.thr (by rw [← hκ]; omega)
  subst hk
  refine j_lookup (tgt := 104) d_Nodes_print_8 (by omega) (by decide) (by show lookupswitch.offset [(5, 88), (6, 80), (100, 44), (102, 67)] 96 (k : Int) = 96; rw [lookupswitch.offset_cons, if_neg (by omega), lookupswitch.offset_cons, if_neg (by omega), lookupswitch.offset_cons, if_neg (by omega), lookupswitch.offset_cons, if_neg (by omega)]; rfl) (by decide) ?_
  refine q_aload_n d_Nodes_print_104 rfl ?_
  refine q_iload_n d_Nodes_print_105 rfl ?_
  refine q_iload_n d_Nodes_print_106 rfl ?_
  refine q_callV (ci := 6) (rc := 0) (rs := 0) (rest := []) d_Nodes_print_107 ml_Nodes_208 ok_Nodes_printWord rfl f7.1 (by decide) (c_Nodes_printWord (d - 1) (by omega) hF hK hI hk34.1 hk1 hk4 hlo hb.1 hhi hmh hP hV) rfl rfl (by omega) (Nat.le_of_ble_eq_true rfl) (kv_V (fun J1 q1 => ?_)) kt_V
  refine q_return d_Nodes_print_110 rfl ?_
  refine hQ _ _ _ _ _ ?_
  refine ⟨rfl, ⟨?_, q1.2⟩, rfl, rfl, rfl⟩
  have := q1.1
  unfold pwL at this
  simp only [← hκ] at this
  exact this
theorem prAll (hF : PrF P w o D L R T) : ∀ f, PrOk P w o D Z mm sz lo hi a1 p1 a2 p2 ρ V L R T f
  | 0 => fun s n m n' m' d l I hd hw => absurd hw (fun h => h)
  | f + 1 => (prAll hF f).step hF
end

