/-! ===== 100 PRINTING: what both programs print of nodes ===== -/
theorem NmN.uq {x n n' : Nat} (h : NmN x n) (h' : NmN x n') : n = n' := by
  rcases Nat.lt_trichotomy n n' with q | q | q
  · have := h'.2.2.2 n q
    rw [Nat.div_eq_of_lt h.1] at this
    exact absurd rfl this
  · exact q
  · have := h.2.2.2 n' q
    rw [Nat.div_eq_of_lt h'.1] at this
    exact absurd rfl this
noncomputable def nmL (x : Nat) : List Nat := spl x (Classical.epsilon (NmN x))
theorem nmL_eq {x n : Nat} (h : NmN x n) : spl x n = nmL x := by
  unfold nmL
  rw [h.uq (Classical.epsilon_spec (p := NmN x) ⟨n, h⟩)]
noncomputable def nuL (v : Int) : List Nat := numL v (Classical.epsilon (DN v.natAbs))
theorem nuL_eq {v : Int} {n : Nat} (h : DN v.natAbs n) : numL v n = nuL v := by
  unfold nuL
  rw [h.uq (Classical.epsilon_spec (p := DN v.natAbs) ⟨n, h⟩)]
def kwL (k : Nat) : List Nat := spl (KW.getD k 0) (KWn.getD k 0)
/-- a name, if there is one -/
noncomputable def nmP (x : Int) (l : List Nat) : List Nat := if x = 0 then l else wordL l (nmL x.toNat)
/-- a child, if there is one -/
def chP (P : Nat → List Nat → List Nat) (c : Int) (l : List Nat) : List Nat := if c = -1 then l else P c.toNat l
noncomputable def nusP (V : Nat → Int) (m : Nat) : Nat → List Nat → List Nat
  | 0, l => l
  | k + 1, l => wordL (nusP V m k l) (nuL (V (m + k)))
/-- a case -/
noncomputable def prK (ρ : Nat → Row) (V : Nat → Int) (P : Nat → List Nat → List Nat) (n : Nat) (l : List Nat) : List Nat :=
  let r := ρ n
  let l1 := nmP (r.getD 7 0) (nmP (r.getD 6 0) (nmP (r.getD 5 0) (wordL (wordL l (kwL 6)) (kwL (r.getD 3 0).toNat))))
  P (r.getD 2 0).toNat (if r.getD 3 0 = 8 then wordL (nusP V (r.getD 8 0).toNat (2 * (r.getD 9 0).toNat) (wordL l1 [91])) [93] else P (r.getD 1 0).toNat l1)
noncomputable def prCs (ρ : Nat → Row) (V : Nat → Int) (P : Nat → List Nat → List Nat) : Nat → Int → List Nat → List Nat
  | 0, _, l => l
  | k + 1, c, l => if c = -1 then l else prCs ρ V P k ((ρ c.toNat).getD 4 0) (prK ρ V P c.toNat l)
/-- a node -/
noncomputable def prN (ρ : Nat → Row) (V : Nat → Int) : Nat → Nat → List Nat → List Nat
  | 0, _, l => l
  | f + 1, n, l =>
    let r := ρ n
    let P := prN ρ V f
    if r.getD 0 0 = 100 then wordL l (nuL (V (r.getD 8 0).toNat))
    else if r.getD 0 0 = 102 then wordL l (63 :: nmL (r.getD 5 0).toNat)
    else if r.getD 0 0 = 5 then
      let l1 := wordL (prCs ρ V P 8 (r.getD 1 0) (wordL (wordL l (kwL 5)) [91])) [93]
      P (r.getD 2 0).toNat (if r.getD 8 0 = -1 then wordL l1 (63 :: nmL (r.getD 5 0).toNat) else wordL l1 (nuL (V (r.getD 8 0).toNat)))
    else
      let l1 := nmP (r.getD 5 0) (wordL l (kwL (r.getD 0 0).toNat))
      let l2 := if r.getD 0 0 = 1 then wordL l1 (kwL (if r.getD 3 0 = 1 then 3 else 2)) else l1
      let l3 := chP P (r.getD 2 0) (chP P (r.getD 1 0) (nmP (r.getD 7 0) (nmP (r.getD 6 0) l2)))
      if r.getD 0 0 = 4 ∨ r.getD 0 0 = 22 then P (r.getD 3 0).toNat l3 else l3
/-! ranges of nodes -/
section
variable {ρ : Nat → Row} {V : Nat → Int}
theorem WfS_le {C : SRel} {P : Nat → Nat → Nat → Nat → Nat → Prop} {w sl : Nat} {r r' : Row} {n m n' m' : Nat} (hP : ∀ s n m n' m', P s n m n' m' → n < n' ∧ m ≤ m') (hC : ∀ r n m r' n' m', C r n m r' n' m' → n ≤ n' ∧ m ≤ m') (h : WfS V C P w sl r n m r' n' m') : n ≤ n' ∧ m ≤ m' := by
  unfold WfS at h
  split at h
  · have := hP _ _ _ _ _ h.2; omega
  · split at h
    · omega
    · split at h
      · omega
      · split at h
        · rcases h with ⟨h1, ⟨x, -, -, h2⟩ | ⟨-, h2, -⟩⟩ <;> omega
        · split at h
          · obtain ⟨h1, p, h2, -, h3⟩ := h; omega
          · split at h
            · exact hC _ _ _ _ _ _ h
            · omega
theorem WfL_le {S : Nat → Nat → SRel} (hS : ∀ w sl r n m r' n' m', S w sl r n m r' n' m' → n ≤ n' ∧ m ≤ m') : ∀ ws r n m r' n' m', WfL S ws r n m r' n' m' → n ≤ n' ∧ m ≤ m'
  | [], r, n, m, r', n', m', h => by obtain ⟨-, h1, h2⟩ := h; omega
  | x :: ws, r, n, m, r', n', m', h => by
    obtain ⟨r1, n1, m1, h1, h2⟩ := h
    have g1 := hS _ _ _ _ _ _ _ _ h1
    have g2 := WfL_le hS ws _ _ _ _ _ _ h2
    omega
theorem WfC_le {S : Nat → Nat → SRel} (hS : ∀ w sl r n m r' n' m', S w sl r n m r' n' m' → n ≤ n' ∧ m ≤ m') : ∀ k n m n' m', WfC ρ S k n m n' m' → n ≤ n' ∧ m ≤ m'
  | 0, n, m, n', m', h => by obtain ⟨h1, h2⟩ := h; omega
  | k + 1, n, m, n', m', h => by
    rcases h with h | ⟨κ, dep, r, n1, m1, -, h1, -, h3, h4⟩
    · omega
    · have g1 := WfL_le hS _ _ _ _ _ _ _ h1
      have g2 := WfC_le hS k _ _ _ _ h4
      omega
theorem Wf_le : ∀ f s n m n' m', Wf ρ V f s n m n' m' → n < n' ∧ m ≤ m'
  | 0, s, n, m, n', m', h => absurd h (fun h => h)
  | f + 1, s, n, m, n', m', h => by
    obtain ⟨κ, dep, x, -, -, -, h⟩ := h
    have ih := Wf_le f
    have h1 := fun w sl r n m r' n' m' => WfS_le (V := V) (C := fun _ _ _ _ _ _ => False) (w := w) (sl := sl) (r := r) (n := n) (m := m) (r' := r') (n' := n') (m' := m') ih (fun _ _ _ _ _ _ h => absurd h (fun h => h))
    have g := WfL_le (fun w sl r n m r' n' m' q => WfS_le ih (fun r n m r' n' m' z => WfC_le h1 _ _ _ _ _ z.2) q) _ _ _ _ _ _ _ h
    split at g <;> omega
end
/-! what printing has to know of a node's row -/
section
variable {ρ : Nat → Row} {V : Nat → Int}
def ChO (ρ : Nat → Row) (V : Nat → Int) (f lo hi mh : Nat) (c : Int) : Prop := ∃ (k s m n' m' : Nat), c = (k : Int) ∧ lo < k ∧ n' ≤ hi ∧ m' ≤ mh ∧ Wf ρ V f s k m n' m'
def nmZ (r : Row) (j : Nat) : Prop := ∃ x : Nat, r.getD j 0 = (x : Int) ∧ (x = 0 ∨ nmO x)
def InvR (ρ : Nat → Row) (V : Nat → Int) (f lo hi mh : Nat) (κ : Int) (r : Row) : Prop := r.length = 11 ∧ r.getD 0 0 = κ ∧ (nmZ r 5 ∧ nmZ r 6 ∧ nmZ r 7) ∧ (r.getD 1 0 = -1 ∨ ChO ρ V f lo hi mh (r.getD 1 0)) ∧ (r.getD 2 0 = -1 ∨ ChO ρ V f lo hi mh (r.getD 2 0))
theorem nmZ.n {r : Row} {j s : Nat} {v : Int} (h : nmZ r j) (hs : j ≠ s) : nmZ (r.set s v) j := by
  obtain ⟨x, h1, h2⟩ := h
  exact ⟨x, by rw [gset_n hs]; exact h1, h2⟩
theorem nmZ.s {r : Row} {j x : Nat} (hl : j < r.length) (hx : nmO x) : nmZ (r.set j (x : Int)) j := ⟨x, gset_s hl, Or.inr hx⟩
theorem InvR.c {f lo hi mh : Nat} {κ : Int} {r : Row} {s sl k m n' m' : Nat} (h : InvR ρ V f lo hi mh κ r) (h1 : 1 ≤ sl) (h3 : sl ≤ 3) (hk : lo < k) (hn : n' ≤ hi) (hm : m' ≤ mh) (hw : Wf ρ V f s k m n' m') : InvR ρ V f lo hi mh κ (r.set sl (k : Int)) := by
  obtain ⟨g1, g2, ⟨g3, g4, g5⟩, g6, g7⟩ := h
  refine ⟨by rw [List.length_set]; exact g1, by rw [gset_n (by omega)]; exact g2, ⟨g3.n (by omega), g4.n (by omega), g5.n (by omega)⟩, ?_, ?_⟩
  · by_cases e : sl = 1
    · subst e
      rw [gset_s (by omega)]
      exact Or.inr ⟨k, s, m, n', m', rfl, hk, hn, hm, hw⟩
    · rw [gset_n (fun z => e z.symm)]; exact g6
  · by_cases e : sl = 2
    · subst e
      rw [gset_s (by omega)]
      exact Or.inr ⟨k, s, m, n', m', rfl, hk, hn, hm, hw⟩
    · rw [gset_n (fun z => e z.symm)]; exact g7
theorem InvR.m {f lo hi mh : Nat} {κ : Int} {r : Row} {sl x : Nat} (h : InvR ρ V f lo hi mh κ r) (h1 : 1 ≤ sl) (h3 : sl ≤ 3) (hx : nmO x) : InvR ρ V f lo hi mh κ (r.set (4 + sl) (x : Int)) := by
  obtain ⟨g1, g2, ⟨g3, g4, g5⟩, g6, g7⟩ := h
  refine ⟨by rw [List.length_set]; exact g1, by rw [gset_n (by omega)]; exact g2, ⟨?_, ?_, ?_⟩, by rw [gset_n (by omega)]; exact g6, by rw [gset_n (by omega)]; exact g7⟩
  · by_cases e : sl = 1
    · subst e; exact nmZ.s (by omega) hx
    · exact g3.n (by omega)
  · by_cases e : sl = 2
    · subst e; exact nmZ.s (by omega) hx
    · exact g4.n (by omega)
  · by_cases e : sl = 3
    · subst e; exact nmZ.s (by omega) hx
    · exact g5.n (by omega)
theorem InvR.o {f lo hi mh : Nat} {κ v : Int} {r : Row} {s : Nat} (h : InvR ρ V f lo hi mh κ r) (hs : s = 3 ∨ s = 4 ∨ 8 ≤ s) : InvR ρ V f lo hi mh κ (r.set s v) := by
  obtain ⟨g1, g2, ⟨g3, g4, g5⟩, g6, g7⟩ := h
  exact ⟨by rw [List.length_set]; exact g1, by rw [gset_n (by omega)]; exact g2, ⟨g3.n (by omega), g4.n (by omega), g5.n (by omega)⟩, by rw [gset_n (by omega)]; exact g6, by rw [gset_n (by omega)]; exact g7⟩
theorem WfL_inv {C : SRel} {f lo hi mh : Nat} {κ : Int} (hC : ∀ r n m r' n' m', C r n m r' n' m' → n ≤ n' ∧ m ≤ m') : ∀ ws : List (Nat × Nat), (∀ x ∈ ws, x.1 ≠ 8 ∧ (x.1 ≤ 4 → 1 ≤ x.2 ∧ x.2 ≤ 3)) → ∀ r n m r' n' m', WfL (WfS V C (Wf ρ V f)) ws r n m r' n' m' → lo < n → n' ≤ hi → m' ≤ mh → InvR ρ V f lo hi mh κ r → InvR ρ V f lo hi mh κ r'
  | [], _, r, n, m, r', n', m', h, _, _, _, hI => by rw [h.1]; exact hI
  | x :: ws, hw, r, n, m, r', n', m', h, hl, hh, hm, hI => by
    obtain ⟨r1, n1, m1, h1, h2⟩ := h
    have hx := hw x (List.mem_cons_self ..)
    have hS := fun w sl r n m r' n' m' => WfS_le (V := V) (C := C) (w := w) (sl := sl) (r := r) (n := n) (m := m) (r' := r') (n' := n') (m' := m') (Wf_le (ρ := ρ) (V := V) f) hC
    have l1 := hS _ _ _ _ _ _ _ _ h1
    have l2 := WfL_le hS _ _ _ _ _ _ _ h2
    refine WfL_inv hC ws (fun y hy => hw y (List.mem_cons_of_mem _ hy)) r1 n1 m1 r' n' m' h2 (by omega) hh hm ?_
    unfold WfS at h1
    split at h1
    · rename_i q
      obtain ⟨h3, h4⟩ := h1
      have := hx.2 (by omega)
      rw [h3]
      exact hI.c this.1 this.2 hl (by omega) (by omega) h4
    · split at h1
      · rename_i q
        obtain ⟨⟨y, h3, h4⟩, -⟩ := h1
        have := hx.2 (by omega)
        rw [h3]
        exact hI.m this.1 this.2 h4
      · split at h1
        · rcases h1.1 with e | e <;> rw [e] <;> exact hI.o (Or.inl rfl)
        · split at h1
          · rcases h1.2 with ⟨y, h3, h4, -⟩ | ⟨h3, -⟩
            · rw [h3]; exact hI.m (sl := 1) (by decide) (by decide) h4
            · rw [h3]; exact hI.o (by omega)
          · split at h1
            · obtain ⟨-, p, -, h3, -⟩ := h1
              rw [h3]; exact (hI.o (by omega)).o (by omega)
            · split at h1
              · rename_i q; exact absurd q hx.1
              · rw [h1.1]; exact hI
theorem ite_all {c : Prop} [Decidable c] {a b : List (Nat × Nat)} {p : Nat × Nat → Prop} (ha : ∀ x ∈ a, p x) (hb : ∀ x ∈ b, p x) : ∀ x ∈ (if c then a else b), p x := by
  by_cases h : c
  · rw [if_pos h]; exact ha
  · rw [if_neg h]; exact hb
theorem itC_s {κ : Int} (h5 : κ ≠ 5) : ∀ x ∈ itC κ, x.1 ≠ 8 ∧ (x.1 ≤ 4 → 1 ≤ x.2 ∧ x.2 ≤ 3) := by
  unfold itC
  rw [if_neg h5]
  repeat (refine ite_all (by decide) ?_)
  decide
theorem itA_s {κ : Int} : ∀ x ∈ itA κ, x.1 ≠ 8 ∧ (x.1 ≤ 4 → 1 ≤ x.2 ∧ x.2 ≤ 3) := by
  unfold itA
  repeat (refine ite_all (by decide) ?_)
  decide
theorem InvR.i {f lo hi mh : Nat} {κ a3 k8 dep : Int} {x : Nat} (hx : x = 0 ∨ nmO x) : InvR ρ V f lo hi mh κ [κ, -1, -1, a3, -1, (x : Int), 0, 0, k8, 0, dep] := ⟨rfl, rfl, ⟨⟨x, rfl, hx⟩, ⟨0, rfl, Or.inl rfl⟩, ⟨0, rfl, Or.inl rfl⟩⟩, Or.inl rfl, Or.inl rfl⟩
theorem WfCf_le {f : Nat} (r : Row) (n m : Nat) (r' : Row) (n' m' : Nat) (h : r' = r.set 1 (if n' = n then -1 else (n : Int)) ∧ WfC ρ (WfS V (fun _ _ _ _ _ _ => False) (Wf ρ V f)) 8 n m n' m') : n ≤ n' ∧ m ≤ m' := WfC_le (fun w sl r n m r' n' m' => WfS_le (V := V) (C := fun _ _ _ _ _ _ => False) (w := w) (sl := sl) (r := r) (n := n) (m := m) (r' := r') (n' := n') (m' := m') (Wf_le (ρ := ρ) (V := V) f) (fun _ _ _ _ _ _ h => absurd h (fun h => h))) _ _ _ _ _ h.2
/-- a node that is no when -/
theorem Wf.inv {f s n m n' m' : Nat} (h : Wf ρ V (f + 1) s n m n' m') (h5 : (ρ n).getD 0 0 ≠ 5) : okS s ((ρ n).getD 0 0) = true ∧ InvR ρ V f n n' m' ((ρ n).getD 0 0) (ρ n) := by
  obtain ⟨κ, dep, x, h1, h2, h3, h⟩ := h
  have h0 : InvR ρ V f n n' m' κ [κ, -1, -1, -1, -1, (x : Int), 0, 0, if κ = 100 then (m : Int) else -1, 0, dep] := InvR.i (by
    by_cases e : κ = 102
    · exact Or.inr (h2 e)
    · exact Or.inl (h3 e))
  by_cases e : κ = 5
  · exfalso
    subst e
    obtain ⟨r1, n1, m1, q1, r2, n2, m2, q2, r3, n3, m3, q3, r4, n4, m4, q4, q5⟩ := h
    have q1 : r1 = _ ∧ _ := q1
    have q2 : r2 = r1.set 1 _ ∧ _ := q2
    have q3 : n3 = n2 ∧ ((∃ x : Nat, r3 = r2.set 5 x ∧ nmO x ∧ m3 = m2) ∨ (r3 = r2.set 8 m2 ∧ m3 = m2 + 1 ∧ 0 ≤ V m2 ∧ V m2 ≤ 1000000000000000)) := q3
    have q4 : r4 = r3.set 2 _ ∧ _ := q4
    apply h5
    rw [q5.1, q4.1, gset_n (by decide)]
    rcases q3.2 with ⟨y, z, -⟩ | ⟨z, -⟩
    · rw [z, gset_n (by decide), q2.1, gset_n (by decide), q1.1]; rfl
    · rw [z, gset_n (by decide), q2.1, gset_n (by decide), q1.1]; rfl
  · have hI := WfL_inv (lo := n) (hi := n') (mh := m') WfCf_le _ (itC_s e) _ _ _ _ _ _ h (by omega) (Nat.le_refl _) (Nat.le_refl _) h0
    rw [hI.2.1]
    exact ⟨h1, hI⟩
end

