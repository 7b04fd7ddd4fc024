/-! ===== B4 WHENS IN ONE ANOTHER: the reference's loop over a tree ===== -/
theorem WfL_kp {V : Nat → Int} {C : SRel} {P : Nat → Nat → Nat → Nat → Nat → Prop} {j : Nat} (hC : ∀ r n m r' n' m', C r n m r' n' m' → j ≠ 1 → r'.getD j 0 = r.getD j 0) : ∀ ws : List (Nat × Nat), (∀ x ∈ ws, j ∉ fldW x) → ∀ r n m r' n' m', WfL (WfS V C P) ws r n m r' n' m' → r'.getD j 0 = r.getD j 0
  | [], _, r, n, m, r', n', m', h => by rw [h.1]
  | x :: ws, hw, r, n, m, r', n', m', h => by
    obtain ⟨r1, n1, m1, h1, h2⟩ := h
    have hx := hw x (List.mem_cons_self ..)
    refine (WfL_kp hC ws (fun y hy => hw y (List.mem_cons_of_mem _ hy)) r1 n1 m1 r' n' m' h2).trans ?_
    unfold WfS at h1
    unfold fldW at hx
    split at h1
    · rename_i q
      rw [if_pos q, List.mem_singleton] at hx
      rw [h1.1, gset_n hx]
    · rename_i q
      rw [if_neg q] at hx
      split at h1
      · rename_i q2
        rw [if_pos q2, List.mem_singleton] at hx
        obtain ⟨⟨y, h3, -⟩, -⟩ := h1
        rw [h3, gset_n hx]
      · rename_i q2
        rw [if_neg q2] at hx
        split at h1
        · rename_i q3
          rw [if_pos q3, List.mem_singleton] at hx
          rcases h1.1 with e | e <;> rw [e, gset_n hx]
        · rename_i q3
          rw [if_neg q3] at hx
          split at h1
          · rename_i q4
            rw [if_pos q4] at hx
            have hx5 : j ≠ 5 := fun e => hx (by rw [e]; decide)
            have hx8 : j ≠ 8 := fun e => hx (by rw [e]; decide)
            rcases h1.2 with ⟨y, h3, -⟩ | ⟨h3, -⟩
            · rw [h3, gset_n hx5]
            · rw [h3, gset_n hx8]
          · rename_i q4
            rw [if_neg q4] at hx
            split at h1
            · rename_i q5
              rw [if_pos q5] at hx
              have hx9 : j ≠ 9 := fun e => hx (by rw [e]; decide)
              have hx8 : j ≠ 8 := fun e => hx (by rw [e]; decide)
              obtain ⟨-, p, -, h3, -⟩ := h1
              rw [h3, gset_n hx9, gset_n hx8]
            · rename_i q5
              rw [if_neg q5] at hx
              split at h1
              · rename_i q6
                rw [if_pos q6, List.mem_singleton] at hx
                exact hC _ _ _ _ _ _ h1 hx
              · rw [h1.1]
def sepC : List (Nat × Nat) → Bool
  | [] => true
  | x :: ws => ws.all (fun y => decide (x.1 ≤ 3 → x.2 ∉ fldW y)) && sepC ws
theorem itC_sepC (κ : Int) : sepC (itC κ) = true := by
  unfold itC
  repeat (refine ite_P (P := fun l => sepC l = true) (fun _ => rfl) (fun _ => ?_))
  rfl
theorem itA_sepC (κ : Int) : sepC (itA κ) = true := by
  unfold itA
  repeat (refine ite_P (P := fun l => sepC l = true) (fun _ => rfl) (fun _ => ?_))
  rfl
/-- the most of the children -/
def chM (W : Int → Nat) (v : Nat) (r : Row) : List (Nat × Nat) → Nat
  | [] => 0
  | x :: ws => max (if x.1 ≤ 3 then v + W (r.getD x.2 0) else 0) (chM W v r ws)
theorem whF_v {ρ : Nat → Row} {V : Nat → Int} {f s n m n' m' : Nat} (h : Wf ρ V f s n m n' m') (hs : s ≠ 1) : whF ρ f (n : Int) = 0 := by
  cases f with
  | zero => exact absurd h (fun h => h)
  | succ f =>
    obtain ⟨κ, dep, x, e0, e1, -⟩ := h.un
    unfold whF
    rw [if_neg (by omega), Int.toNat_natCast, e0, if_pos]
    by_cases h2 : s = 2
    · subst h2; exact Or.inl e1
    · right
      unfold okS at e1 ⊢
      rw [if_neg hs, if_neg h2] at e1
      rw [if_neg (by decide), if_neg (by decide)]
      exact e1
theorem whCs_max {ρ : Nat → Row} {W : Int → Nat} : ∀ k c a, whCs ρ W k c a = max a (whCs ρ W k c 0)
  | 0, c, a => by show a = max a 0; omega
  | k + 1, c, a => by
    show (if c = -1 then a else _) = max a (if c = -1 then 0 else _)
    split
    · omega
    · rw [whCs_max k _ (max a _), whCs_max k _ (max 0 _)]; omega
/-- children lie where their slots say, not before the first place -/
theorem WfL_pos (ρ : Nat → Row) (V : Nat → Int) {C : SRel} {f : Nat} (hC : ∀ r n m r' n' m', C r n m r' n' m' → n ≤ n' ∧ m ≤ m') (hC1 : ∀ j r n m r' n' m', C r n m r' n' m' → j ≠ 1 → r'.getD j 0 = r.getD j 0) : ∀ (ws : List (Nat × Nat)), sepC ws = true → (∀ x ∈ ws, x.1 ≠ 8 ∧ (x.1 ≤ 4 → 1 ≤ x.2 ∧ x.2 ≤ 3)) → ∀ (r : Row) (n m : Nat) (r' : Row) (n' m' : Nat), WfL (WfS V C (Wf ρ V f)) ws r n m r' n' m' → r.length = 11 → ∀ y ∈ ws, y.1 ≤ 3 → ∀ p : Nat, (p : Int) = r'.getD y.2 0 → n ≤ p
  | [], _, _, r, n, m, r', n', m', h, hl, y, hy, _, p, hp => absurd hy (List.not_mem_nil)
  | x :: ws, hsep, hw, r, n, m, r', n', m', h, hl, y, hy, hy3, p, hp => by
    obtain ⟨r1, n1, m1, h1, h2⟩ := h
    have hx := hw x (List.mem_cons_self ..)
    have hSle : ∀ (w sl : Nat) (r : Row) (n m : Nat) (r' : Row) (n' m' : Nat), WfS V C (Wf ρ V f) w sl r n m r' n' m' → n ≤ n' ∧ m ≤ m' := fun w sl r n m r' n' m' => WfS_le (V := V) (C := C) (w := w) (sl := sl) (r := r) (n := n) (m := m) (r' := r') (n' := n') (m' := m') (Wf_le (ρ := ρ) (V := V) f) hC
    have l1 := hSle _ _ _ _ _ _ _ _ h1
    have hsep' : (ws.all (fun y => decide (x.1 ≤ 3 → x.2 ∉ fldW y)) && sepC ws) = true := hsep
    rw [Bool.and_eq_true, List.all_eq_true] at hsep'
    have hl1 : r1.length = 11 := by
      unfold WfS at h1
      split at h1
      · rw [h1.1, List.length_set]; exact hl
      · split at h1
        · obtain ⟨⟨y, z, -⟩, z2, -⟩ := h1; rw [z, List.length_set]; exact hl
        · split at h1
          · obtain ⟨z, z2, -⟩ := h1; rcases z with z | z <;> rw [z, List.length_set] <;> exact hl
          · split at h1
            · obtain ⟨z2, ⟨y, z, -⟩ | ⟨z, -⟩⟩ := h1 <;> rw [z, List.length_set] <;> exact hl
            · split at h1
              · obtain ⟨z2, p, -, z, -⟩ := h1; rw [z, List.length_set, List.length_set]; exact hl
              · split at h1
                · rename_i q; exact absurd q hx.1
                · rw [h1.1]; exact hl
    rcases List.mem_cons.mp hy with e | e
    · subst e
      have hx3 := hx.2 (by omega)
      have g1 : r1 = r.set y.2 n ∧ Wf ρ V f y.1 n m n1 m1 := by unfold WfS at h1; rw [if_pos hy3] at h1; exact h1
      rw [WfL_kp (fun r n m r' n' m' q e => hC1 _ r n m r' n' m' q e) ws (fun y' hy' => of_decide_eq_true (hsep'.1 y' hy') hy3) _ _ _ _ _ _ h2, g1.1, gset_s (by omega)] at hp
      omega
    · have := WfL_pos ρ V hC hC1 ws hsep'.2 (fun z hz => hw z (List.mem_cons_of_mem _ hz)) r1 n1 m1 r' n' m' h2 hl1 y e hy3 p hp
      omega
section
variable {M tp pt d LO HI aa bb : Nat} {ρ : Nat → Row} {V : Nat → Int} {I0 I : M32} {L : M64} {R : MR} {T : SH} {Q : QT}
def WmOk (M d LO HI aa bb : Nat) (ρ : Nat → Row) (V : Nat → Int) (I0 : M32) (L : M64) (R : MR) (T : SH) (Q : QT) (f : Nat) : Prop := ∀ (s n m n' m' b μ : Nat) (I : M32), Wf ρ V f s n m n' m' → LO ≤ n → n' ≤ HI → n' ≤ bb → FrW' M I0 I → I (M + 37) n = cI ((b : Int) + wh1 ρ n) → b + f ≤ 1000 → μ ≤ 1000 → (∀ I', FrW' M I0 I' → (∀ k, n' ≤ k → I' (M + 37) k = I (M + 37) k) → MH d M aa bb L R T Q n' (max μ (b + whF ρ f (n : Int))) I') → MH d M aa bb L R T Q n μ I
/-- the children of a node, one behind the other -/
theorem wm_its {C : SRel} {f v : Nat} (hC : ∀ r n m r' n' m', C r n m r' n' m' → n ≤ n' ∧ m ≤ m') (hC1 : ∀ j r n m r' n' m', C r n m r' n' m' → j ≠ 1 → r'.getD j 0 = r.getD j 0) (ih : WmOk M d LO HI aa bb ρ V I0 L R T Q f) (hv : v + f ≤ 1000) : ∀ (ws : List (Nat × Nat)), (∀ x ∈ ws, x.1 ≠ 8 ∧ (x.1 ≤ 4 → 1 ≤ x.2 ∧ x.2 ≤ 3)) → sepC ws = true → ∀ (r : Row) (n m : Nat) (r' : Row) (n' m' μ : Nat) (I : M32), WfL (WfS V C (Wf ρ V f)) ws r n m r' n' m' → r.length = 11 → LO ≤ n → n' ≤ HI → n' ≤ bb → FrW' M I0 I → μ ≤ 1000 → (∀ x ∈ ws, x.1 ≤ 3 → ∀ p : Nat, (p : Int) = r'.getD x.2 0 → I (M + 37) p = cI ((v : Int) + wh1 ρ p)) → (∀ I', FrW' M I0 I' → (∀ k, n' ≤ k → I' (M + 37) k = I (M + 37) k) → MH d M aa bb L R T Q n' (max μ (chM (whF ρ f) v r' ws)) I') → MH d M aa bb L R T Q n μ I
  | [], _, _, r, n, m, r', n', m', μ, I, h, hl, hlo, hhi, hbb, hF, hμ, hc, kk => by
    obtain ⟨e1, e2, e3⟩ := h
    subst e2
    have := kk I hF (fun _ _ => rfl)
    rw [show max μ (chM (whF ρ f) v r' []) = μ by show max μ 0 = μ; omega] at this
    exact this
  | x :: ws, hw, hsep, r, n, m, r', n', m', μ, I, h, hl, hlo, hhi, hbb, hF, hμ, hc, kk => by
    obtain ⟨r1, n1, m1, h1, h2⟩ := h
    have hx := hw x (List.mem_cons_self ..)
    have hSle : ∀ (w sl : Nat) (r : Row) (n m : Nat) (r' : Row) (n' m' : Nat), WfS V C (Wf ρ V f) w sl r n m r' n' m' → n ≤ n' ∧ m ≤ m' := fun w sl r n m r' n' m' => WfS_le (V := V) (C := C) (w := w) (sl := sl) (r := r) (n := n) (m := m) (r' := r') (n' := n') (m' := m') (Wf_le (ρ := ρ) (V := V) f) hC
    have l2 := WfL_le hSle _ _ _ _ _ _ _ h2
    have hsep' : (ws.all (fun y => decide (x.1 ≤ 3 → x.2 ∉ fldW y)) && sepC ws) = true := hsep
    rw [Bool.and_eq_true, List.all_eq_true] at hsep'
    have hwt : ∀ y ∈ ws, y.1 ≠ 8 ∧ (y.1 ≤ 4 → 1 ≤ y.2 ∧ y.2 ≤ 3) := fun y hy => hw y (List.mem_cons_of_mem _ hy)
    have hch : chM (whF ρ f) v r' (x :: ws) = max (if x.1 ≤ 3 then v + whF ρ f (r'.getD x.2 0) else 0) (chM (whF ρ f) v r' ws) := rfl
    by_cases h3 : x.1 ≤ 3
    · have hx3 := hx.2 (by omega)
      have g1 : r1 = r.set x.2 n ∧ Wf ρ V f x.1 n m n1 m1 := by unfold WfS at h1; rw [if_pos h3] at h1; exact h1
      have hsl : r'.getD x.2 0 = (n : Int) := by
        rw [WfL_kp (fun r n m r' n' m' q e => hC1 _ r n m r' n' m' q e) ws (fun y hy => of_decide_eq_true (hsep'.1 y hy) h3) _ _ _ _ _ _ h2, g1.1, gset_s (by omega)]
      have hwl := whF_le ρ f (n : Int)
      rw [if_pos h3, hsl] at hch
      refine ih x.1 n m n1 m1 v μ I g1.2 hlo (by omega) (by omega) hF (hc x (List.mem_cons_self ..) h3 n hsl.symm) hv hμ fun I1 f1 o1 => ?_
      refine wm_its hC hC1 ih hv ws hwt hsep'.2 r1 n1 m1 r' n' m' (max μ (v + whF ρ f (n : Int))) I1 h2 (by rw [g1.1, List.length_set]; exact hl) (by have := Wf_le _ _ _ _ _ _ g1.2; omega) hhi hbb f1 (by omega) (fun y hy hy3 p hp => ?_) fun I2 f2 o2 => ?_
      · rw [o1 p ?_]
        · exact hc y (List.mem_cons_of_mem _ hy) hy3 p hp
        · exact WfL_pos ρ V hC hC1 ws hsep'.2 hwt r1 n1 m1 r' n' m' h2 (by rw [g1.1, List.length_set]; exact hl) y hy hy3 p hp
      · have := kk I2 f2 (fun k hk => (o2 k hk).trans (o1 k (by omega)))
        rw [hch, ← Nat.max_assoc] at this
        exact this
    · have e1 : n1 = n ∧ r1.length = 11 := by
        unfold WfS at h1
        rw [if_neg h3] at h1
        split at h1
        · obtain ⟨⟨y, z, -⟩, z2, -⟩ := h1; exact ⟨z2, by rw [z, List.length_set]; exact hl⟩
        · split at h1
          · obtain ⟨z, z2, -⟩ := h1; exact ⟨z2, by rcases z with z | z <;> rw [z, List.length_set] <;> exact hl⟩
          · split at h1
            · obtain ⟨z2, ⟨y, z, -⟩ | ⟨z, -⟩⟩ := h1 <;> exact ⟨z2, by rw [z, List.length_set]; exact hl⟩
            · split at h1
              · obtain ⟨z2, p, -, z, -⟩ := h1; exact ⟨z2, by rw [z, List.length_set, List.length_set]; exact hl⟩
              · split at h1
                · rename_i q; exact absurd q hx.1
                · exact ⟨h1.2.1, by rw [h1.1]; exact hl⟩
      obtain ⟨e1, e2⟩ := e1
      subst e1
      rw [if_neg h3] at hch
      refine wm_its hC hC1 ih hv ws hwt hsep'.2 r1 n1 m1 r' n' m' μ I h2 e2 hlo hhi hbb hF hμ (fun y hy hy3 => hc y (List.mem_cons_of_mem _ hy) hy3) fun I2 f2 o2 => ?_
      have := kk I2 f2 o2
      rw [hch, show max μ (max 0 (chM (whF ρ f) v r' ws)) = max μ (chM (whF ρ f) v r' ws) by omega] at this
      exact this
end

