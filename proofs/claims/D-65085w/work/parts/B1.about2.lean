/-! ===== B1 WHAT IS TOLD OF A CONTRACT: the component counts ===== -/
section
variable {P D Z mm sz lo hi : Nat} {ρ : Nat → Row} {V : Nat → Int} {I : M32} {L : M64} {R : MR} {T : SH}
theorem bI_ex {p : Prop} [Decidable p] : ∃ u : Int, bI p = u ∧ ((u = 1 ∧ p) ∨ (u = 0 ∧ ¬ p)) := by
  unfold bI
  by_cases q : p
  · exact ⟨1, by rw [if_pos q], Or.inl ⟨rfl, q⟩⟩
  · exact ⟨0, by rw [if_neg q], Or.inr ⟨rfl, q⟩⟩
theorem cntF_y {A : Nat → Prop} [DecidablePred A] {K : Nat → Int × Int} {n k : Nat} (h : A (n + k) ∧ ∀ i, i < k → ¬ (A (n + i) ∧ K (n + i) = K (n + k))) : cntF A K n (k + 1) = cntF A K n k + 1 := by
  show cntF A K n k + _ = _
  rw [if_pos h]
theorem cntF_n {A : Nat → Prop} [DecidablePred A] {K : Nat → Int × Int} {n k : Nat} (h : ¬ (A (n + k) ∧ ∀ i, i < k → ¬ (A (n + i) ∧ K (n + i) = K (n + k)))) : cntF A K n (k + 1) = cntF A K n k := by
  show cntF A K n k + _ = _
  rw [if_neg h]; rfl
theorem c_Nodes_parameters (d : Nat) (hd : 4 ≤ d) (hA : AbI P D Z mm sz lo hi ρ V L R T I) (hlh : lo ≤ hi) : Call m_Nodes_parameters y_Nodes_parameters d 0 0 [.ref D, .int (cI (lo : Int)), .int (cI (hi : Int))] I L R T (rI fun r I' L' R' T' => r = cI (cntF (fun i => isPar (ρ i)) (parK ρ) lo (hi - lo) : Nat) ∧ I' = I ∧ L' = L ∧ R' = R ∧ T' = T) := by
  obtain ⟨a1, a2, a3, a4⟩ := id hA
  refine Call.ofRun (by decide) ⟨rfl, rfl⟩ (Nat.le_of_ble_eq_true rfl) ?_
  refine Run.gen fun Q hQ => ?_
  refine j_iconst d_Nodes_parameters_0 ?_
  refine q_istore_n (lv' := [(3, .int (cI 0)), (0, .ref D), (1, .int (cI (lo : Int))), (2, .int (cI (hi : Int)))]) d_Nodes_parameters_1 (by decide) rfl ?_
  refine q_iload_n d_Nodes_parameters_2 rfl ?_
  refine q_istore (lv' := [(4, .int (cI (lo : Int))), (3, .int (cI 0)), (0, .ref D), (1, .int (cI (lo : Int))), (2, .int (cI (hi : Int)))]) d_Nodes_parameters_3 (by decide) rfl ?_
  have loop : ∀ (fl j i c : Nat), i = lo + j → i + fl = hi → c = cntF (fun i => isPar (ρ i)) (parK ρ) lo j → Run m_Nodes_parameters d 0 0 5 [(0, .ref D), (1, .int (cI (lo : Int))), (2, .int (cI (hi : Int))), (3, .int (cI (c : Int))), (4, .int (cI (i : Int)))] [] I L R T Q := by
    intro fl
    induction fl with
    | zero =>
      intro j i c hi1 hi2 hc
      refine q_iload d_Nodes_parameters_5 rfl ?_
      refine q_iload_n d_Nodes_parameters_7 rfl ?_
      refine j_icmp_ge (tgt := 93) d_Nodes_parameters_8 (by decide) (by omega) (by omega) (fun hx => ?_) (fun hx => by exfalso; omega)
      refine q_iload_n d_Nodes_parameters_93 rfl ?_
      refine q_ireturn d_Nodes_parameters_94 rfl rfl ?_
      refine hQ _ _ _ _ _ ?_
      exact ⟨_, rfl, by rw [hc, show hi - lo = j by omega], rfl, rfl, rfl, rfl⟩
    | succ fl ih =>
      intro j i c hi1 hi2 hc
      have hcl := cntF_le (fun i => isPar (ρ i)) (parK ρ) lo j
      rw [← hc] at hcl
      obtain ⟨hri, hqi⟩ := a3 i (by omega) (by omega)
      have vi := hqi.1.1.v
      have vi6 := hqi.1.2.1.v
      have vi7 := hqi.1.2.2.v
      refine q_iload d_Nodes_parameters_5 rfl ?_
      refine q_iload_n d_Nodes_parameters_7 rfl ?_
      refine j_icmp_ge (tgt := 93) d_Nodes_parameters_8 (by decide) (by omega) (by omega) (fun hx => by exfalso; omega) (fun hx => ?_)
      refine q_aload_n d_Nodes_parameters_11 rfl ?_
      refine q_iload d_Nodes_parameters_12 rfl ?_
      refine q_callV (ci := 6) (rc := 0) (rs := 0) (rest := []) d_Nodes_parameters_14 ml_Nodes_245 ok_Nodes_isParameter rfl a1.1 (by decide) (c_Nodes_isParameter (d - 1) hA (by omega) (by omega)) rfl rfl (by omega) (Nat.le_of_ble_eq_true rfl) (kp_I ?_) kt_I
      obtain ⟨u0, hu0, hu1⟩ : ∃ u : Int, bI (isPar (ρ i)) = u ∧ ((u = 1 ∧ isPar (ρ i)) ∨ (u = 0 ∧ ¬ isPar (ρ i))) := bI_ex
      rw [hu0]
      refine q_istore (lv' := [(5, .int (cI u0)), (0, .ref D), (1, .int (cI (lo : Int))), (2, .int (cI (hi : Int))), (3, .int (cI (c : Int))), (4, .int (cI (i : Int)))]) d_Nodes_parameters_17 (by decide) rfl ?_
      refine q_iload_n d_Nodes_parameters_19 rfl ?_
      refine q_istore (lv' := [(6, .int (cI (lo : Int))), (5, .int (cI u0)), (0, .ref D), (1, .int (cI (lo : Int))), (2, .int (cI (hi : Int))), (3, .int (cI (c : Int))), (4, .int (cI (i : Int)))]) d_Nodes_parameters_20 (by decide) rfl ?_
      have t74 : ∀ (u : Int), (u = 1 ∧ (isPar (ρ i) ∧ ∀ q, q < j → ¬ (isPar (ρ (lo + q)) ∧ parK ρ (lo + q) = parK ρ i))) ∨ (u = 0 ∧ ¬ (isPar (ρ i) ∧ ∀ q, q < j → ¬ (isPar (ρ (lo + q)) ∧ parK ρ (lo + q) = parK ρ i))) → Run m_Nodes_parameters d 0 0 74 [(0, .ref D), (1, .int (cI (lo : Int))), (2, .int (cI (hi : Int))), (3, .int (cI (c : Int))), (4, .int (cI (i : Int))), (5, .int (cI u))] [] I L R T Q := by
        intro u hu
        have hcs : (c : Int) + u = ((cntF (fun i => isPar (ρ i)) (parK ρ) lo (j + 1) : Nat) : Int) := by
          rw [hi1] at hu
          rcases hu with ⟨h1, h2⟩ | ⟨h1, h2⟩
          · rw [cntF_y h2, ← hc]; omega
          · rw [cntF_n h2, ← hc]; omega
        have hui : u = 0 ∨ u = 1 := by rcases hu with ⟨h1, -⟩ | ⟨h1, -⟩ <;> omega
        refine q_iload_n d_Nodes_parameters_74 rfl ?_
        refine q_iload d_Nodes_parameters_75 rfl ?_
        suffices J : ∀ (w : Int), (((u = 0) ∧ w = 0) ∨ ((¬ u = 0) ∧ w = 1)) → Run m_Nodes_parameters d 0 0 85 [(0, .ref D), (1, .int (cI (lo : Int))), (2, .int (cI (hi : Int))), (3, .int (cI (c : Int))), (4, .int (cI (i : Int))), (5, .int (cI u))] [.int (cI w), .int (cI (c : Int))] I L R T Q by
          refine j_if_eq (tgt := 84) d_Nodes_parameters_77 (by decide) (by omega) (fun hp1 => ?_) (fun hp1 => ?_)
          · refine j_iconst d_Nodes_parameters_84 ?_
            exact J _ (Or.inl ⟨hp1, rfl⟩)
          · refine j_iconst d_Nodes_parameters_80 ?_
            refine q_goto (tgt := 85) d_Nodes_parameters_81 (by decide) ?_
            exact J _ (Or.inr ⟨hp1, rfl⟩)
        intro w hw
        obtain rfl : u = w := by omega
        refine j_iadd d_Nodes_parameters_85 ?_
        rw [hcs]
        refine q_istore_n (lv' := [(3, .int (cI (((cntF (fun i => isPar (ρ i)) (parK ρ) lo (j + 1) : Nat) : Int)))), (0, .ref D), (1, .int (cI (lo : Int))), (2, .int (cI (hi : Int))), (4, .int (cI (i : Int))), (5, .int (cI u))]) d_Nodes_parameters_86 (by decide) rfl ?_
        refine j_iinc (lv' := [(4, .int (cI ((i : Int) + 1))), (3, .int (cI (((cntF (fun i => isPar (ρ i)) (parK ρ) lo (j + 1) : Nat) : Int)))), (0, .ref D), (1, .int (cI (lo : Int))), (2, .int (cI (hi : Int))), (5, .int (cI u))]) d_Nodes_parameters_87 rfl (by decide) rfl ?_
        refine q_goto (tgt := 5) d_Nodes_parameters_90 (by decide) ?_
        rw [show (i : Int) + 1 = ((i + 1 : Nat) : Int) by omega]
        refine Run.lv (lv' := [(0, .ref D), (1, .int (cI (lo : Int))), (2, .int (cI (hi : Int))), (3, .int (cI (((cntF (fun i => isPar (ρ i)) (parK ρ) lo (j + 1) : Nat) : Int)))), (4, .int (cI (((i + 1 : Nat) : Int))))]) (by intro q hq; simp only [List.mem_cons, List.not_mem_nil, or_false] at hq ⊢; rcases hq with rfl | rfl | rfl | rfl | rfl <;> simp) ?_
        exact ih (j + 1) (i + 1) _ (by omega) (by omega) rfl
      have inner : ∀ (fk k m : Nat) (u : Int), m = lo + k → m + fk = i → ((u = 1 ∧ (isPar (ρ i) ∧ ∀ q, q < k → ¬ (isPar (ρ (lo + q)) ∧ parK ρ (lo + q) = parK ρ i))) ∨ (u = 0 ∧ ¬ (isPar (ρ i) ∧ ∀ q, q < k → ¬ (isPar (ρ (lo + q)) ∧ parK ρ (lo + q) = parK ρ i)))) → Run m_Nodes_parameters d 0 0 22 [(0, .ref D), (1, .int (cI (lo : Int))), (2, .int (cI (hi : Int))), (3, .int (cI (c : Int))), (4, .int (cI (i : Int))), (5, .int (cI u)), (6, .int (cI (m : Int)))] [] I L R T Q := by
        intro fk
        induction fk with
        | zero =>
          intro k m u hm1 hm2 hF
          obtain rfl : k = j := by omega
          refine q_iload d_Nodes_parameters_22 rfl ?_
          refine q_iload d_Nodes_parameters_24 rfl ?_
          refine j_icmp_ge (tgt := 74) d_Nodes_parameters_26 (by decide) (by omega) (by omega) (fun hx => ?_) (fun hx => by exfalso; omega)
          refine Run.lv (lv' := [(0, .ref D), (1, .int (cI (lo : Int))), (2, .int (cI (hi : Int))), (3, .int (cI (c : Int))), (4, .int (cI (i : Int))), (5, .int (cI u))]) (by intro q hq; simp only [List.mem_cons, List.not_mem_nil, or_false] at hq ⊢; rcases hq with rfl | rfl | rfl | rfl | rfl | rfl <;> simp) ?_
          exact t74 u hF
        | succ fk ihk =>
          intro k m u hm1 hm2 hF
          have hui : u = 0 ∨ u = 1 := by rcases hF with ⟨h1, -⟩ | ⟨h1, -⟩ <;> omega
          obtain ⟨hrm, hqm⟩ := a3 m (by omega) (by omega)
          have vm := hqm.1.1.v
          have vm6 := hqm.1.2.1.v
          have vm7 := hqm.1.2.2.v
          refine q_iload d_Nodes_parameters_22 rfl ?_
          refine q_iload d_Nodes_parameters_24 rfl ?_
          refine j_icmp_ge (tgt := 74) d_Nodes_parameters_26 (by decide) (by omega) (by omega) (fun hx => by exfalso; omega) (fun hx => ?_)
          refine q_iload d_Nodes_parameters_29 rfl ?_
          by_cases hFF : u = 0
          · refine j_if_eq (tgt := 74) d_Nodes_parameters_31 (by decide) (by omega) (fun hx => ?_) (fun hx => by exfalso; omega)
            refine Run.lv (lv' := [(0, .ref D), (1, .int (cI (lo : Int))), (2, .int (cI (hi : Int))), (3, .int (cI (c : Int))), (4, .int (cI (i : Int))), (5, .int (cI u))]) (by intro q hq; simp only [List.mem_cons, List.not_mem_nil, or_false] at hq ⊢; rcases hq with rfl | rfl | rfl | rfl | rfl | rfl <;> simp) ?_
            exact t74 u (Or.inr ⟨hFF, fun z => by
              rcases hF with ⟨h1, -⟩ | ⟨-, h2⟩
              · omega
              · exact h2 ⟨z.1, fun q hq => z.2 q (by omega)⟩⟩)
          have hFt : isPar (ρ i) ∧ ∀ q, q < k → ¬ (isPar (ρ (lo + q)) ∧ parK ρ (lo + q) = parK ρ i) := by
            rcases hF with ⟨-, h2⟩ | ⟨h1, -⟩
            · exact h2
            · exact absurd h1 hFF
          refine j_if_eq (tgt := 74) d_Nodes_parameters_31 (by decide) (by omega) (fun hx => by exfalso; omega) (fun hx => ?_)
          refine q_aload_n d_Nodes_parameters_34 rfl ?_
          refine q_iload d_Nodes_parameters_35 rfl ?_
          refine q_callV (ci := 6) (rc := 0) (rs := 0) (rest := []) d_Nodes_parameters_37 ml_Nodes_245 ok_Nodes_isParameter rfl a1.1 (by decide) (c_Nodes_isParameter (d - 1) hA (by omega) (by omega)) rfl rfl (by omega) (Nat.le_of_ble_eq_true rfl) (kp_I ?_) kt_I
          obtain ⟨u3, hu3, hu4⟩ : ∃ u : Int, bI (isPar (ρ m)) = u ∧ ((u = 1 ∧ isPar (ρ m)) ∨ (u = 0 ∧ ¬ isPar (ρ m))) := bI_ex
          rw [hu3]
          have hu3i : u3 = 0 ∨ u3 = 1 := by rcases hu4 with ⟨h1, -⟩ | ⟨h1, -⟩ <;> omega
          have t66 : ∀ (v : Int), ((v = 0 ∧ isPar (ρ m) ∧ (ρ m).getD 5 0 = (ρ i).getD 5 0) ∨ (v = 1 ∧ ¬ (isPar (ρ m) ∧ (ρ m).getD 5 0 = (ρ i).getD 5 0))) → Run m_Nodes_parameters d 0 0 66 [(0, .ref D), (1, .int (cI (lo : Int))), (2, .int (cI (hi : Int))), (3, .int (cI (c : Int))), (4, .int (cI (i : Int))), (5, .int (cI u)), (6, .int (cI (m : Int)))] [.int (cI v)] I L R T Q := by
            intro v hv
            refine q_istore (lv' := [(5, .int (cI v)), (0, .ref D), (1, .int (cI (lo : Int))), (2, .int (cI (hi : Int))), (3, .int (cI (c : Int))), (4, .int (cI (i : Int))), (6, .int (cI (m : Int)))]) d_Nodes_parameters_66 (by decide) rfl ?_
            refine j_iinc (lv' := [(6, .int (cI ((m : Int) + 1))), (5, .int (cI v)), (0, .ref D), (1, .int (cI (lo : Int))), (2, .int (cI (hi : Int))), (3, .int (cI (c : Int))), (4, .int (cI (i : Int)))]) d_Nodes_parameters_68 rfl (by decide) rfl ?_
            refine q_goto (tgt := 22) d_Nodes_parameters_71 (by decide) ?_
            rw [show (m : Int) + 1 = ((m + 1 : Nat) : Int) by omega]
            refine Run.lv (lv' := [(0, .ref D), (1, .int (cI (lo : Int))), (2, .int (cI (hi : Int))), (3, .int (cI (c : Int))), (4, .int (cI (i : Int))), (5, .int (cI v)), (6, .int (cI (((m + 1 : Nat) : Int))))]) (by intro q hq; simp only [List.mem_cons, List.not_mem_nil, or_false] at hq ⊢; rcases hq with rfl | rfl | rfl | rfl | rfl | rfl | rfl <;> simp) ?_
            refine ihk (k + 1) (m + 1) _ (by omega) (by omega) ?_
            rcases hv with ⟨v1, v2, v3⟩ | ⟨v1, v2⟩
            · refine Or.inr ⟨v1, fun z => z.2 k (by omega) ⟨by rw [← hm1]; exact v2, ?_⟩⟩
              rw [← hm1]
              unfold parK; rw [v3]
            · refine Or.inl ⟨v1, hFt.1, fun q hq => ?_⟩
              by_cases e : q = k
              · subst e
                rw [← hm1]
                exact fun w => v2 ⟨w.1, congrArg Prod.fst w.2⟩
              · exact hFt.2 q (by omega)
          rcases hu4 with ⟨h1, h2⟩ | ⟨h1, h2⟩
          rotate_left
          · refine j_if_eq (tgt := 61) d_Nodes_parameters_40 (by decide) (by omega) (fun hx => ?_) (fun hx => by exfalso; omega)
            refine j_iconst d_Nodes_parameters_61 ?_
            refine q_goto (tgt := 66) d_Nodes_parameters_62 (by decide) ?_
            exact t66 1 (Or.inr ⟨rfl, fun z => h2 z.1⟩)
          refine j_if_eq (tgt := 61) d_Nodes_parameters_40 (by decide) (by omega) (fun hx => by exfalso; omega) (fun hx => ?_)
          refine q_aload_n d_Nodes_parameters_43 rfl ?_
          refine q_getR d_Nodes_parameters_44 fl_Nodes_37 a1.1 ⟨rfl, by decide⟩ (nR7 a1) ?_
          refine q_iload d_Nodes_parameters_47 rfl ?_
          refine j_lald (j := m) (v := (cL ((ρ m).getD 5 0))) d_Nodes_parameters_49 (nT7 a1) (nN7 a1) (by omega) (by omega) (by omega) hrm.2.2.2.2.2.1 ?_
          refine q_aload_n d_Nodes_parameters_50 rfl ?_
          refine q_getR d_Nodes_parameters_51 fl_Nodes_37 a1.1 ⟨rfl, by decide⟩ (nR7 a1) ?_
          refine q_iload d_Nodes_parameters_54 rfl ?_
          refine j_lald (j := i) (v := (cL ((ρ i).getD 5 0))) d_Nodes_parameters_56 (nT7 a1) (nN7 a1) (by omega) (by omega) (by omega) hri.2.2.2.2.2.1 ?_
          by_cases h3 : (ρ m).getD 5 0 = (ρ i).getD 5 0
          · refine j_lcmp_eq (tgt := 65) d_Nodes_parameters_57 d_Nodes_parameters_58 (by decide) (by omega) (by omega) (fun hx => ?_) (fun hx => by exfalso; omega)
            refine j_iconst d_Nodes_parameters_65 ?_
            exact t66 0 (Or.inl ⟨rfl, h2, h3⟩)
          refine j_lcmp_eq (tgt := 65) d_Nodes_parameters_57 d_Nodes_parameters_58 (by decide) (by omega) (by omega) (fun hx => by exfalso; omega) (fun hx => ?_)
          refine j_iconst d_Nodes_parameters_61 ?_
          refine q_goto (tgt := 66) d_Nodes_parameters_62 (by decide) ?_
          exact t66 1 (Or.inr ⟨rfl, fun z => h3 z.2⟩)
      refine Run.lv (lv' := [(0, .ref D), (1, .int (cI (lo : Int))), (2, .int (cI (hi : Int))), (3, .int (cI (c : Int))), (4, .int (cI (i : Int))), (5, .int (cI u0)), (6, .int (cI (lo : Int)))]) (by intro q hq; simp only [List.mem_cons, List.not_mem_nil, or_false] at hq ⊢; rcases hq with rfl | rfl | rfl | rfl | rfl | rfl | rfl <;> simp) ?_
      exact inner j 0 lo _ (by omega) (by omega) (hu1.elim (fun h => Or.inl ⟨h.1, h.2, fun q hq => absurd hq (Nat.not_lt_zero q)⟩) (fun h => Or.inr ⟨h.1, fun z => h.2 z.1⟩))
  refine Run.lv (lv' := [(0, .ref D), (1, .int (cI (lo : Int))), (2, .int (cI (hi : Int))), (3, .int (cI 0)), (4, .int (cI (lo : Int)))]) (by intro q hq; simp only [List.mem_cons, List.not_mem_nil, or_false] at hq ⊢; rcases hq with rfl | rfl | rfl | rfl | rfl <;> simp) ?_
  exact loop (hi - lo) 0 lo 0 rfl (by omega) rfl
theorem c_Nodes_accounts (d : Nat) (hd : 4 ≤ d) (hA : AbI P D Z mm sz lo hi ρ V L R T I) (hlh : lo ≤ hi) : Call m_Nodes_accounts y_Nodes_accounts d 0 0 [.ref D, .int (cI (lo : Int)), .int (cI (hi : Int))] I L R T (rI fun r I' L' R' T' => r = cI (cntF (fun i => isAcc (ρ i)) (accK ρ) lo (hi - lo) : Nat) ∧ I' = I ∧ L' = L ∧ R' = R ∧ T' = T) := by
  obtain ⟨a1, a2, a3, a4⟩ := id hA
  refine Call.ofRun (by decide) ⟨rfl, rfl⟩ (Nat.le_of_ble_eq_true rfl) ?_
  refine Run.gen fun Q hQ => ?_
  refine j_iconst d_Nodes_accounts_0 ?_
  refine q_istore_n (lv' := [(3, .int (cI 0)), (0, .ref D), (1, .int (cI (lo : Int))), (2, .int (cI (hi : Int)))]) d_Nodes_accounts_1 (by decide) rfl ?_
  refine q_iload_n d_Nodes_accounts_2 rfl ?_
  refine q_istore (lv' := [(4, .int (cI (lo : Int))), (3, .int (cI 0)), (0, .ref D), (1, .int (cI (lo : Int))), (2, .int (cI (hi : Int)))]) d_Nodes_accounts_3 (by decide) rfl ?_
  have loop : ∀ (fl j i c : Nat), i = lo + j → i + fl = hi → c = cntF (fun i => isAcc (ρ i)) (accK ρ) lo j → Run m_Nodes_accounts d 0 0 5 [(0, .ref D), (1, .int (cI (lo : Int))), (2, .int (cI (hi : Int))), (3, .int (cI (c : Int))), (4, .int (cI (i : Int)))] [] I L R T Q := by
    intro fl
    induction fl with
    | zero =>
      intro j i c hi1 hi2 hc
      refine q_iload d_Nodes_accounts_5 rfl ?_
      refine q_iload_n d_Nodes_accounts_7 rfl ?_
      refine j_icmp_ge (tgt := 109) d_Nodes_accounts_8 (by decide) (by omega) (by omega) (fun hx => ?_) (fun hx => by exfalso; omega)
      refine q_iload_n d_Nodes_accounts_109 rfl ?_
      refine q_ireturn d_Nodes_accounts_110 rfl rfl ?_
      refine hQ _ _ _ _ _ ?_
      exact ⟨_, rfl, by rw [hc, show hi - lo = j by omega], rfl, rfl, rfl, rfl⟩
    | succ fl ih =>
      intro j i c hi1 hi2 hc
      have hcl := cntF_le (fun i => isAcc (ρ i)) (accK ρ) lo j
      rw [← hc] at hcl
      obtain ⟨hri, hqi⟩ := a3 i (by omega) (by omega)
      have vi := hqi.1.1.v
      have vi6 := hqi.1.2.1.v
      have vi7 := hqi.1.2.2.v
      refine q_iload d_Nodes_accounts_5 rfl ?_
      refine q_iload_n d_Nodes_accounts_7 rfl ?_
      refine j_icmp_ge (tgt := 109) d_Nodes_accounts_8 (by decide) (by omega) (by omega) (fun hx => by exfalso; omega) (fun hx => ?_)
      refine q_aload_n d_Nodes_accounts_11 rfl ?_
      refine q_iload d_Nodes_accounts_12 rfl ?_
      refine q_callV (ci := 6) (rc := 0) (rs := 0) (rest := []) d_Nodes_accounts_14 ml_Nodes_253 ok_Nodes_opensAccount rfl a1.1 (by decide) (c_Nodes_opensAccount (d - 1) hA (by omega) (by omega)) rfl rfl (by omega) (Nat.le_of_ble_eq_true rfl) (kp_I ?_) kt_I
      obtain ⟨u0, hu0, hu1⟩ : ∃ u : Int, bI (isAcc (ρ i)) = u ∧ ((u = 1 ∧ isAcc (ρ i)) ∨ (u = 0 ∧ ¬ isAcc (ρ i))) := bI_ex
      rw [hu0]
      refine q_istore (lv' := [(5, .int (cI u0)), (0, .ref D), (1, .int (cI (lo : Int))), (2, .int (cI (hi : Int))), (3, .int (cI (c : Int))), (4, .int (cI (i : Int)))]) d_Nodes_accounts_17 (by decide) rfl ?_
      refine q_iload_n d_Nodes_accounts_19 rfl ?_
      refine q_istore (lv' := [(6, .int (cI (lo : Int))), (5, .int (cI u0)), (0, .ref D), (1, .int (cI (lo : Int))), (2, .int (cI (hi : Int))), (3, .int (cI (c : Int))), (4, .int (cI (i : Int)))]) d_Nodes_accounts_20 (by decide) rfl ?_
      have t90 : ∀ (u : Int), (u = 1 ∧ (isAcc (ρ i) ∧ ∀ q, q < j → ¬ (isAcc (ρ (lo + q)) ∧ accK ρ (lo + q) = accK ρ i))) ∨ (u = 0 ∧ ¬ (isAcc (ρ i) ∧ ∀ q, q < j → ¬ (isAcc (ρ (lo + q)) ∧ accK ρ (lo + q) = accK ρ i))) → Run m_Nodes_accounts d 0 0 90 [(0, .ref D), (1, .int (cI (lo : Int))), (2, .int (cI (hi : Int))), (3, .int (cI (c : Int))), (4, .int (cI (i : Int))), (5, .int (cI u))] [] I L R T Q := by
        intro u hu
        have hcs : (c : Int) + u = ((cntF (fun i => isAcc (ρ i)) (accK ρ) lo (j + 1) : Nat) : Int) := by
          rw [hi1] at hu
          rcases hu with ⟨h1, h2⟩ | ⟨h1, h2⟩
          · rw [cntF_y h2, ← hc]; omega
          · rw [cntF_n h2, ← hc]; omega
        have hui : u = 0 ∨ u = 1 := by rcases hu with ⟨h1, -⟩ | ⟨h1, -⟩ <;> omega
        refine q_iload_n d_Nodes_accounts_90 rfl ?_
        refine q_iload d_Nodes_accounts_91 rfl ?_
        suffices J : ∀ (w : Int), (((u = 0) ∧ w = 0) ∨ ((¬ u = 0) ∧ w = 1)) → Run m_Nodes_accounts d 0 0 101 [(0, .ref D), (1, .int (cI (lo : Int))), (2, .int (cI (hi : Int))), (3, .int (cI (c : Int))), (4, .int (cI (i : Int))), (5, .int (cI u))] [.int (cI w), .int (cI (c : Int))] I L R T Q by
          refine j_if_eq (tgt := 100) d_Nodes_accounts_93 (by decide) (by omega) (fun hp2 => ?_) (fun hp2 => ?_)
          · refine j_iconst d_Nodes_accounts_100 ?_
            exact J _ (Or.inl ⟨hp2, rfl⟩)
          · refine j_iconst d_Nodes_accounts_96 ?_
            refine q_goto (tgt := 101) d_Nodes_accounts_97 (by decide) ?_
            exact J _ (Or.inr ⟨hp2, rfl⟩)
        intro w hw
        obtain rfl : u = w := by omega
        refine j_iadd d_Nodes_accounts_101 ?_
        rw [hcs]
        refine q_istore_n (lv' := [(3, .int (cI (((cntF (fun i => isAcc (ρ i)) (accK ρ) lo (j + 1) : Nat) : Int)))), (0, .ref D), (1, .int (cI (lo : Int))), (2, .int (cI (hi : Int))), (4, .int (cI (i : Int))), (5, .int (cI u))]) d_Nodes_accounts_102 (by decide) rfl ?_
        refine j_iinc (lv' := [(4, .int (cI ((i : Int) + 1))), (3, .int (cI (((cntF (fun i => isAcc (ρ i)) (accK ρ) lo (j + 1) : Nat) : Int)))), (0, .ref D), (1, .int (cI (lo : Int))), (2, .int (cI (hi : Int))), (5, .int (cI u))]) d_Nodes_accounts_103 rfl (by decide) rfl ?_
        refine q_goto (tgt := 5) d_Nodes_accounts_106 (by decide) ?_
        rw [show (i : Int) + 1 = ((i + 1 : Nat) : Int) by omega]
        refine Run.lv (lv' := [(0, .ref D), (1, .int (cI (lo : Int))), (2, .int (cI (hi : Int))), (3, .int (cI (((cntF (fun i => isAcc (ρ i)) (accK ρ) lo (j + 1) : Nat) : Int)))), (4, .int (cI (((i + 1 : Nat) : Int))))]) (by intro q hq; simp only [List.mem_cons, List.not_mem_nil, or_false] at hq ⊢; rcases hq with rfl | rfl | rfl | rfl | rfl <;> simp) ?_
        exact ih (j + 1) (i + 1) _ (by omega) (by omega) rfl
      have inner : ∀ (fk k m : Nat) (u : Int), m = lo + k → m + fk = i → ((u = 1 ∧ (isAcc (ρ i) ∧ ∀ q, q < k → ¬ (isAcc (ρ (lo + q)) ∧ accK ρ (lo + q) = accK ρ i))) ∨ (u = 0 ∧ ¬ (isAcc (ρ i) ∧ ∀ q, q < k → ¬ (isAcc (ρ (lo + q)) ∧ accK ρ (lo + q) = accK ρ i)))) → Run m_Nodes_accounts d 0 0 22 [(0, .ref D), (1, .int (cI (lo : Int))), (2, .int (cI (hi : Int))), (3, .int (cI (c : Int))), (4, .int (cI (i : Int))), (5, .int (cI u)), (6, .int (cI (m : Int)))] [] I L R T Q := by
        intro fk
        induction fk with
        | zero =>
          intro k m u hm1 hm2 hF
          obtain rfl : k = j := by omega
          refine q_iload d_Nodes_accounts_22 rfl ?_
          refine q_iload d_Nodes_accounts_24 rfl ?_
          refine j_icmp_ge (tgt := 90) d_Nodes_accounts_26 (by decide) (by omega) (by omega) (fun hx => ?_) (fun hx => by exfalso; omega)
          refine Run.lv (lv' := [(0, .ref D), (1, .int (cI (lo : Int))), (2, .int (cI (hi : Int))), (3, .int (cI (c : Int))), (4, .int (cI (i : Int))), (5, .int (cI u))]) (by intro q hq; simp only [List.mem_cons, List.not_mem_nil, or_false] at hq ⊢; rcases hq with rfl | rfl | rfl | rfl | rfl | rfl <;> simp) ?_
          exact t90 u hF
        | succ fk ihk =>
          intro k m u hm1 hm2 hF
          have hui : u = 0 ∨ u = 1 := by rcases hF with ⟨h1, -⟩ | ⟨h1, -⟩ <;> omega
          obtain ⟨hrm, hqm⟩ := a3 m (by omega) (by omega)
          have vm := hqm.1.1.v
          have vm6 := hqm.1.2.1.v
          have vm7 := hqm.1.2.2.v
          refine q_iload d_Nodes_accounts_22 rfl ?_
          refine q_iload d_Nodes_accounts_24 rfl ?_
          refine j_icmp_ge (tgt := 90) d_Nodes_accounts_26 (by decide) (by omega) (by omega) (fun hx => by exfalso; omega) (fun hx => ?_)
          refine q_iload d_Nodes_accounts_29 rfl ?_
          by_cases hFF : u = 0
          · refine j_if_eq (tgt := 90) d_Nodes_accounts_31 (by decide) (by omega) (fun hx => ?_) (fun hx => by exfalso; omega)
            refine Run.lv (lv' := [(0, .ref D), (1, .int (cI (lo : Int))), (2, .int (cI (hi : Int))), (3, .int (cI (c : Int))), (4, .int (cI (i : Int))), (5, .int (cI u))]) (by intro q hq; simp only [List.mem_cons, List.not_mem_nil, or_false] at hq ⊢; rcases hq with rfl | rfl | rfl | rfl | rfl | rfl <;> simp) ?_
            exact t90 u (Or.inr ⟨hFF, fun z => by
              rcases hF with ⟨h1, -⟩ | ⟨-, h2⟩
              · omega
              · exact h2 ⟨z.1, fun q hq => z.2 q (by omega)⟩⟩)
          have hFt : isAcc (ρ i) ∧ ∀ q, q < k → ¬ (isAcc (ρ (lo + q)) ∧ accK ρ (lo + q) = accK ρ i) := by
            rcases hF with ⟨-, h2⟩ | ⟨h1, -⟩
            · exact h2
            · exact absurd h1 hFF
          refine j_if_eq (tgt := 90) d_Nodes_accounts_31 (by decide) (by omega) (fun hx => by exfalso; omega) (fun hx => ?_)
          refine q_aload_n d_Nodes_accounts_34 rfl ?_
          refine q_iload d_Nodes_accounts_35 rfl ?_
          refine q_callV (ci := 6) (rc := 0) (rs := 0) (rest := []) d_Nodes_accounts_37 ml_Nodes_253 ok_Nodes_opensAccount rfl a1.1 (by decide) (c_Nodes_opensAccount (d - 1) hA (by omega) (by omega)) rfl rfl (by omega) (Nat.le_of_ble_eq_true rfl) (kp_I ?_) kt_I
          obtain ⟨u3, hu3, hu4⟩ : ∃ u : Int, bI (isAcc (ρ m)) = u ∧ ((u = 1 ∧ isAcc (ρ m)) ∨ (u = 0 ∧ ¬ isAcc (ρ m))) := bI_ex
          rw [hu3]
          have hu3i : u3 = 0 ∨ u3 = 1 := by rcases hu4 with ⟨h1, -⟩ | ⟨h1, -⟩ <;> omega
          have t82 : ∀ (v : Int), ((v = 0 ∧ isAcc (ρ m) ∧ (ptyF (ρ m) = ptyF (ρ i) ∧ (ρ m).getD 7 0 = (ρ i).getD 7 0)) ∨ (v = 1 ∧ ¬ (isAcc (ρ m) ∧ (ptyF (ρ m) = ptyF (ρ i) ∧ (ρ m).getD 7 0 = (ρ i).getD 7 0)))) → Run m_Nodes_accounts d 0 0 82 [(0, .ref D), (1, .int (cI (lo : Int))), (2, .int (cI (hi : Int))), (3, .int (cI (c : Int))), (4, .int (cI (i : Int))), (5, .int (cI u)), (6, .int (cI (m : Int)))] [.int (cI v)] I L R T Q := by
            intro v hv
            refine q_istore (lv' := [(5, .int (cI v)), (0, .ref D), (1, .int (cI (lo : Int))), (2, .int (cI (hi : Int))), (3, .int (cI (c : Int))), (4, .int (cI (i : Int))), (6, .int (cI (m : Int)))]) d_Nodes_accounts_82 (by decide) rfl ?_
            refine j_iinc (lv' := [(6, .int (cI ((m : Int) + 1))), (5, .int (cI v)), (0, .ref D), (1, .int (cI (lo : Int))), (2, .int (cI (hi : Int))), (3, .int (cI (c : Int))), (4, .int (cI (i : Int)))]) d_Nodes_accounts_84 rfl (by decide) rfl ?_
            refine q_goto (tgt := 22) d_Nodes_accounts_87 (by decide) ?_
            rw [show (m : Int) + 1 = ((m + 1 : Nat) : Int) by omega]
            refine Run.lv (lv' := [(0, .ref D), (1, .int (cI (lo : Int))), (2, .int (cI (hi : Int))), (3, .int (cI (c : Int))), (4, .int (cI (i : Int))), (5, .int (cI v)), (6, .int (cI (((m + 1 : Nat) : Int))))]) (by intro q hq; simp only [List.mem_cons, List.not_mem_nil, or_false] at hq ⊢; rcases hq with rfl | rfl | rfl | rfl | rfl | rfl | rfl <;> simp) ?_
            refine ihk (k + 1) (m + 1) _ (by omega) (by omega) ?_
            rcases hv with ⟨v1, v2, v3⟩ | ⟨v1, v2⟩
            · refine Or.inr ⟨v1, fun z => z.2 k (by omega) ⟨by rw [← hm1]; exact v2, ?_⟩⟩
              rw [← hm1]
              unfold accK; rw [v3.1, v3.2]
            · refine Or.inl ⟨v1, hFt.1, fun q hq => ?_⟩
              by_cases e : q = k
              · subst e
                rw [← hm1]
                exact fun w => v2 ⟨w.1, congrArg Prod.fst w.2, congrArg Prod.snd w.2⟩
              · exact hFt.2 q (by omega)
          have pm : 0 ≤ ptyF (ρ m) ∧ ptyF (ρ m) < 9223372036854775808 := by unfold ptyF; split <;> assumption
          have pi : 0 ≤ ptyF (ρ i) ∧ ptyF (ρ i) < 9223372036854775808 := by unfold ptyF; split <;> assumption
          rcases hu4 with ⟨h1, h2⟩ | ⟨h1, h2⟩
          rotate_left
          · refine j_if_eq (tgt := 77) d_Nodes_accounts_40 (by decide) (by omega) (fun hx => ?_) (fun hx => by exfalso; omega)
            refine j_iconst d_Nodes_accounts_77 ?_
            refine q_goto (tgt := 82) d_Nodes_accounts_78 (by decide) ?_
            exact t82 1 (Or.inr ⟨rfl, fun z => h2 z.1⟩)
          refine j_if_eq (tgt := 77) d_Nodes_accounts_40 (by decide) (by omega) (fun hx => by exfalso; omega) (fun hx => ?_)
          refine q_aload_n d_Nodes_accounts_43 rfl ?_
          refine q_iload d_Nodes_accounts_44 rfl ?_
          refine q_callV (ci := 6) (rc := 0) (rs := 0) (rest := []) d_Nodes_accounts_46 ml_Nodes_256 ok_Nodes_partyOf rfl a1.1 (by decide) (c_Nodes_partyOf (d - 1) hA (by omega) (by omega)) rfl rfl (by omega) (Nat.le_of_ble_eq_true rfl) (kp_L ?_) kt_L
          refine q_aload_n d_Nodes_accounts_49 rfl ?_
          refine q_iload d_Nodes_accounts_50 rfl ?_
          refine q_callV (ci := 6) (rc := 0) (rs := 0) (rest := [.long (cL (ptyF (ρ m)))]) d_Nodes_accounts_52 ml_Nodes_256 ok_Nodes_partyOf rfl a1.1 (by decide) (c_Nodes_partyOf (d - 1) hA (by omega) (by omega)) rfl rfl (by omega) (Nat.le_of_ble_eq_true rfl) (kp_L ?_) kt_L
          by_cases h3 : ptyF (ρ m) = ptyF (ρ i)
          rotate_left
          · refine j_lcmp_ne (tgt := 77) d_Nodes_accounts_55 d_Nodes_accounts_56 (by decide) (by omega) (by omega) (fun hx => ?_) (fun hx => by exfalso; omega)
            refine j_iconst d_Nodes_accounts_77 ?_
            refine q_goto (tgt := 82) d_Nodes_accounts_78 (by decide) ?_
            exact t82 1 (Or.inr ⟨rfl, fun z => h3 z.2.1⟩)
          refine j_lcmp_ne (tgt := 77) d_Nodes_accounts_55 d_Nodes_accounts_56 (by decide) (by omega) (by omega) (fun hx => by exfalso; omega) (fun hx => ?_)
          refine q_aload_n d_Nodes_accounts_59 rfl ?_
          refine q_getR d_Nodes_accounts_60 fl_Nodes_44 a1.1 ⟨rfl, by decide⟩ (nR9 a1) ?_
          refine q_iload d_Nodes_accounts_63 rfl ?_
          refine j_lald (j := m) (v := (cL ((ρ m).getD 7 0))) d_Nodes_accounts_65 (nT9 a1) (nN9 a1) (by omega) (by omega) (by omega) hrm.2.2.2.2.2.2.2.1 ?_
          refine q_aload_n d_Nodes_accounts_66 rfl ?_
          refine q_getR d_Nodes_accounts_67 fl_Nodes_44 a1.1 ⟨rfl, by decide⟩ (nR9 a1) ?_
          refine q_iload d_Nodes_accounts_70 rfl ?_
          refine j_lald (j := i) (v := (cL ((ρ i).getD 7 0))) d_Nodes_accounts_72 (nT9 a1) (nN9 a1) (by omega) (by omega) (by omega) hri.2.2.2.2.2.2.2.1 ?_
          by_cases h4 : (ρ m).getD 7 0 = (ρ i).getD 7 0
          · refine j_lcmp_eq (tgt := 81) d_Nodes_accounts_73 d_Nodes_accounts_74 (by decide) (by omega) (by omega) (fun hx => ?_) (fun hx => by exfalso; omega)
            refine j_iconst d_Nodes_accounts_81 ?_
            exact t82 0 (Or.inl ⟨rfl, h2, h3, h4⟩)
          refine j_lcmp_eq (tgt := 81) d_Nodes_accounts_73 d_Nodes_accounts_74 (by decide) (by omega) (by omega) (fun hx => by exfalso; omega) (fun hx => ?_)
          refine j_iconst d_Nodes_accounts_77 ?_
          refine q_goto (tgt := 82) d_Nodes_accounts_78 (by decide) ?_
          exact t82 1 (Or.inr ⟨rfl, fun z => h4 z.2.2⟩)
      refine Run.lv (lv' := [(0, .ref D), (1, .int (cI (lo : Int))), (2, .int (cI (hi : Int))), (3, .int (cI (c : Int))), (4, .int (cI (i : Int))), (5, .int (cI u0)), (6, .int (cI (lo : Int)))]) (by intro q hq; simp only [List.mem_cons, List.not_mem_nil, or_false] at hq ⊢; rcases hq with rfl | rfl | rfl | rfl | rfl | rfl | rfl <;> simp) ?_
      exact inner j 0 lo _ (by omega) (by omega) (hu1.elim (fun h => Or.inl ⟨h.1, h.2, fun q hq => absurd hq (Nat.not_lt_zero q)⟩) (fun h => Or.inr ⟨h.1, fun z => h.2 z.1⟩))
  refine Run.lv (lv' := [(0, .ref D), (1, .int (cI (lo : Int))), (2, .int (cI (hi : Int))), (3, .int (cI 0)), (4, .int (cI (lo : Int)))]) (by intro q hq; simp only [List.mem_cons, List.not_mem_nil, or_false] at hq ⊢; rcases hq with rfl | rfl | rfl | rfl | rfl <;> simp) ?_
  exact loop (hi - lo) 0 lo 0 rfl (by omega) rfl
end

