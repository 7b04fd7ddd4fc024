/-! ===== A9 EVERY NODE OF A CONTRACT ===== -/
section
variable {ρ : Nat → Row} {V : Nat → Int} {X : Nat → Prop} {mh : Nat}
theorem WfS_all {C : SRel} {P : Nat → Nat → Nat → Nat → Nat → Prop} {w sl : Nat} {r r' : Row} {n m n' m' : Nat} (hP : ∀ s n m n' m', P s n m n' m' → m' ≤ mh → ∀ i, n ≤ i → i < n' → X i) (hC : ∀ r n m r' n' m', C r n m r' n' m' → m' ≤ mh → ∀ i, n ≤ i → i < n' → X i) (h : WfS V C P w sl r n m r' n' m') (hm : m' ≤ mh) : ∀ i, n ≤ i → i < n' → X i := by
  unfold WfS at h
  split at h
  · exact hP _ _ _ _ _ h.2 hm
  · split at h
    · intro i i1 i2; omega
    · split at h
      · intro i i1 i2; omega
      · split at h
        · intro i i1 i2; have := h.1; omega
        · split at h
          · intro i i1 i2; have := h.1; omega
          · split at h
            · exact hC _ _ _ _ _ _ h hm
            · intro i i1 i2; omega
theorem WfL_all {S : Nat → Nat → SRel} (hl : ∀ w sl r n m r' n' m', S w sl r n m r' n' m' → n ≤ n' ∧ m ≤ m') (hS : ∀ w sl r n m r' n' m', S w sl r n m r' n' m' → m' ≤ mh → ∀ i, n ≤ i → i < n' → X i) : ∀ ws r n m r' n' m', WfL S ws r n m r' n' m' → m' ≤ mh → ∀ i, n ≤ i → i < n' → X i
  | [], r, n, m, r', n', m', h, hm => fun i i1 i2 => by have := h.2.1; omega
  | x :: ws, r, n, m, r', n', m', h, hm => fun i i1 i2 => by
    obtain ⟨r1, n1, m1, h1, h2⟩ := h
    have l2 := WfL_le hl _ _ _ _ _ _ _ h2
    by_cases q : i < n1
    · exact hS _ _ _ _ _ _ _ _ h1 (by omega) i i1 q
    · exact WfL_all hl hS ws _ _ _ _ _ _ h2 hm i (by omega) i2
theorem WfC_all {f : Nat} (hS : ∀ w sl r n m r' n' m', WfS V (fun _ _ _ _ _ _ => False) (Wf ρ V f) w sl r n m r' n' m' → m' ≤ mh → ∀ i, n ≤ i → i < n' → X i) (hK : ∀ f n n1 m1, CaF ρ V f n n1 m1 (ρ n) → CaN (ρ n) → m1 ≤ mh → X n) : ∀ k n m n' m', WfC ρ (WfS V (fun _ _ _ _ _ _ => False) (Wf ρ V f)) k n m n' m' → m' ≤ mh → ∀ i, n ≤ i → i < n' → X i
  | 0, n, m, n', m', h, hm => fun i i1 i2 => by have := h.1; omega
  | k + 1, n, m, n', m', h, hm => fun i i1 i2 => by
    have hl : ∀ (w sl : Nat) (r : Row) (n m : Nat) (r' : Row) (n' m' : Nat), WfS V (fun _ _ _ _ _ _ => False) (Wf ρ V f) w sl r n m r' n' m' → n ≤ n' ∧ m ≤ m' := fun w sl r n m r' n' m' => WfS_le (V := V) (C := fun _ _ _ _ _ _ => False) (w := w) (sl := sl) (r := r) (n := n) (m := m) (r' := r') (n' := n') (m' := m') (Wf_le (ρ := ρ) (V := V) f) (fun _ _ _ _ _ _ h => absurd h (fun h => h))
    rcases h with h | ⟨κ, dep, r, n1, m1, k1, k2, k3, k4, k5⟩
    · omega
    · have b2 := WfC_le hl _ _ _ _ _ k5
      by_cases q : i = n
      · subst q
        exact hK f i n1 m1 (by rw [k3]; exact (WfL.caf k1 k2).o) (by rw [k3]; exact (WfL.can k1 k2).o) (by omega)
      · by_cases q2 : i < n1
        · exact WfL_all hl hS _ _ _ _ _ _ _ k2 (by omega) i (by omega) q2
        · exact WfC_all hS hK k _ _ _ _ k5 hm i (by omega) i2
theorem Wf_all (hN : ∀ f s n m n' m', Wf ρ V (f + 1) s n m n' m' → m' ≤ mh → X n) (hK : ∀ f n n1 m1, CaF ρ V f n n1 m1 (ρ n) → CaN (ρ n) → m1 ≤ mh → X n) : ∀ f s n m n' m', Wf ρ V f s n m n' m' → m' ≤ mh → ∀ i, n ≤ i → i < n' → X i
  | 0, s, n, m, n', m', h, _ => absurd h (fun h => h)
  | f + 1, s, n, m, n', m', h, hm => fun i i1 i2 => by
    by_cases q : i = n
    · subst q; exact hN f s i m n' m' h hm
    · have ih := Wf_all hN hK f
      obtain ⟨κ, dep, x, h1, h2, h3, h⟩ := h
      have hS := fun w sl r n m r' n' m' => WfS_all (V := V) (C := fun _ _ _ _ _ _ => False) (w := w) (sl := sl) (r := r) (n := n) (m := m) (r' := r') (n' := n') (m' := m') ih (fun _ _ _ _ _ _ h => absurd h (fun h => h))
      exact WfL_all (fun w sl r n m r' n' m' q => WfS_le (Wf_le f) WfCf_le q) (fun w sl r n m r' n' m' q => WfS_all ih (fun r n m r' n' m' z => WfC_all hS hK _ _ _ _ _ z.2) q) _ _ _ _ _ _ _ h hm i (by omega) i2
/-- what is known of every node -/
def NdQ (ρ : Nat → Row) (V : Nat → Int) (mh : Nat) (i : Nat) : Prop := (nmZ (ρ i) 5 ∧ nmZ (ρ i) 6 ∧ nmZ (ρ i) 7) ∧ (0 ≤ (ρ i).getD 0 0 ∧ (ρ i).getD 0 0 ≤ 102) ∧ ((ρ i).getD 0 0 = 5 → (nmX (ρ i) 5 ∧ (ρ i).getD 8 0 = -1) ∨ ((ρ i).getD 5 0 = 0 ∧ ∃ k : Nat, (ρ i).getD 8 0 = (k : Int) ∧ k < mh ∧ 0 ≤ V k ∧ V k ≤ 1000000000000000)) ∧ ((ρ i).getD 0 0 = 102 → nmX (ρ i) 5) ∧ ((ρ i).getD 0 0 = 6 → (ρ i).getD 3 0 = 7 ∨ (ρ i).getD 3 0 = 8 ∨ (ρ i).getD 3 0 = 9) ∧ ((ρ i).getD 0 0 = 1 → (ρ i).getD 3 0 = 0 ∨ (ρ i).getD 3 0 = 1)
theorem okS_in {s : Nat} {κ : Int} (h : okS s κ = true) : (0 ≤ κ ∧ κ ≤ 102) ∧ κ ≠ 6 := by
  unfold okS at h
  (repeat' split at h) <;> rw [decide_eq_true_eq] at h <;> omega
theorem Wf.ndq {f s n m n' m' : Nat} (h : Wf ρ V f s n m n' m') (hm : m' ≤ mh) : ∀ i, n ≤ i → i < n' → NdQ ρ V mh i := by
  refine Wf_all (fun f s n m n' m' h hm => ?_) (fun f n n1 m1 h h2 hm => ?_) f s n m n' m' h hm
  · obtain ⟨κ, dep, x, e0, e1, -⟩ := h.un
    have ho := okS_in e1
    rw [← e0] at ho
    by_cases h5 : (ρ n).getD 0 0 = 5
    · obtain ⟨n2, m2, g1, g2, g3, g4, g5, g6⟩ := h.whn h5
      have hz : nmZ (ρ n) 5 ∧ nmZ (ρ n) 6 ∧ nmZ (ρ n) 7 := by
        obtain ⟨κ, dep, x, e0, e1, e2, e3, e4⟩ := h.un
        rw [h5] at e0
        subst e0
        obtain rfl : x = 0 := e3 (by decide)
        obtain ⟨r1, n1, m1, q1, r2, n2, m2, q2, r3, n3, m3, q3, r4, n4, m4, q4, z1, z2, z3⟩ := e4
        obtain ⟨y1, -⟩ := (show r1 = [5, -1, -1, -1, -1, ((0 : Nat) : Int), 0, 0, -1, 0, dep] ∧ _ from q1)
        obtain ⟨y2, -⟩ := (show r2 = r1.set 1 _ ∧ _ from q2)
        obtain ⟨-, y3⟩ := (show n3 = n2 ∧ ((∃ x : Nat, r3 = r2.set 5 x ∧ nmO x ∧ m3 = m2) ∨ (r3 = r2.set 8 m2 ∧ m3 = m2 + 1 ∧ 0 ≤ V m2 ∧ V m2 ≤ 1000000000000000)) from q3)
        obtain ⟨y4, -⟩ := (show r4 = r3.set 2 n3 ∧ _ from q4)
        rw [z1, y4]
        rcases y3 with ⟨x, y3, hx, -⟩ | ⟨y3, -⟩
        · rw [y3, y2, y1]
          exact ⟨⟨x, rfl, Or.inr hx⟩, ⟨0, rfl, Or.inl rfl⟩, ⟨0, rfl, Or.inl rfl⟩⟩
        · rw [y3, y2, y1]
          exact ⟨⟨0, rfl, Or.inl rfl⟩, ⟨0, rfl, Or.inl rfl⟩, ⟨0, rfl, Or.inl rfl⟩⟩
      refine ⟨hz, ho.1, fun _ => ?_, fun e => by omega, fun e => by omega, fun e => by omega⟩
      rcases g4 with ⟨x, a1, a2, a3⟩ | ⟨a1, a2, a3, a4, a5⟩
      · exact Or.inl ⟨⟨x, a1, a2⟩, a3⟩
      · exact Or.inr ⟨a1, m2, a2, by omega, a4, a5⟩
    · have hI := (h.inv h5).2
      refine ⟨hI.2.2.1, ho.1, fun e => absurd e h5, fun e => ?_, fun e => absurd e ho.2, fun e => h.sgn e⟩
      obtain ⟨x, a1, a2⟩ := h.par e
      exact ⟨x, a1, a2⟩
  · have e6 := h.1.2.1
    refine ⟨h.1.2.2.1, by omega, fun e => by omega, fun e => by omega, fun _ => ?_, fun e => by omega⟩
    rcases h2 with ⟨e, -⟩ | ⟨e, -⟩ | ⟨e, -⟩
    · exact Or.inl e
    · exact Or.inr (Or.inl e)
    · exact Or.inr (Or.inr e)
end

