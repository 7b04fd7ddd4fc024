/-! ===== 98 EVERY PLACE OF A TEXT HAS ITS TOKEN ===== -/
theorem SkR_ex (t : Nat → Nat) (N : Nat) : ∀ k a, a + k = N → ∃ b, SkR t N a b
  | 0, a, h => ⟨a, Nat.le_refl _, by omega, fun j h1 h2 => by omega, fun h1 => by omega⟩
  | k + 1, a, h => by
    by_cases q : t a ≤ 32
    · obtain ⟨b, h1, h2, h3, h4⟩ := SkR_ex t N k (a + 1) (by omega)
      refine ⟨b, by omega, h2, fun j j1 j2 => ?_, h4⟩
      by_cases e : j = a
      · rw [e]; exact q
      · exact h3 j (by omega) j2
    · exact ⟨a, Nat.le_refl _, by omega, fun j h1 h2 => by omega, fun _ => by omega⟩
theorem WeR_go (t : Nat → Nat) (N b : Nat) : ∀ k j, j + k = N → b < j → (∀ i, b < i → i < j → 32 < t i ∧ ¬ alone (t i)) → ∃ e, WeR t N b e
  | 0, j, h, hj, hi => ⟨j, hj, by omega, hi, fun h1 => by omega⟩
  | k + 1, j, h, hj, hi => by
    by_cases q : t j ≤ 32 ∨ alone (t j)
    · exact ⟨j, hj, by omega, hi, fun _ => q⟩
    · refine WeR_go t N b k (j + 1) (by omega) (by omega) fun i i1 i2 => ?_
      by_cases e : i = j
      · rw [e]; exact ⟨by have := fun z => q (Or.inl z); omega, fun z => q (Or.inr z)⟩
      · exact hi i i1 (by omega)
theorem WeR_ex {t : Nat → Nat} {N b : Nat} (h : b < N) : ∃ e, WeR t N b e := WeR_go t N b (N - (b + 1)) (b + 1) (by omega) (by omega) fun i i1 i2 => by omega
theorem RnR_ex (t : Nat → Nat) (f e : Nat) (hfe : f ≤ e) : ∃ bad, RnR t f e bad := by
  by_cases q : f = e ∨ ∃ j, f ≤ j ∧ j < e ∧ ¬ dgt (t j)
  · exact ⟨1, Or.inl ⟨rfl, q⟩⟩
  · have h1 : f < e := by
      have : f ≠ e := fun z => q (Or.inl z)
      omega
    have h2 : ∀ j, f ≤ j → j < e → dgt (t j) := fun j j1 j2 => Decidable.not_not.mp fun z => q (Or.inr ⟨j, j1, j2, z⟩)
    by_cases z : dvF t f (e - f) < 10 ^ 300
    · exact ⟨0, Or.inr ⟨h1, h2, Or.inr ⟨rfl, z⟩⟩⟩
    · exact ⟨2, Or.inr ⟨h1, h2, Or.inl ⟨rfl, Nat.not_lt.mp z⟩⟩⟩
theorem TokR_ex (t : Nat → Nat) {N a : Nat} (ha : a ≤ N) : ∃ b e kind x v, TokR t N a b e kind x v := by
  obtain ⟨b, hb⟩ := SkR_ex t N (N - a) a (by omega)
  by_cases h1 : b = N
  · exact ⟨b, b, 107, 0, 0, hb, Or.inl ⟨h1, rfl, rfl⟩⟩
  have h1 : b < N := by have := hb.2.1; omega
  by_cases h2 : alone (t b)
  · exact ⟨b, b + 1, _, 0, 0, hb, Or.inr (Or.inl ⟨h1, h2, rfl, rfl⟩)⟩
  obtain ⟨e, he⟩ := WeR_ex (t := t) h1
  by_cases h3 : t b = 45 ∨ dgt (t b)
  · obtain ⟨bad, hbad⟩ := RnR_ex t (if t b = 45 then b + 1 else b) e (by have := he.1; split <;> omega)
    exact ⟨b, e, _, 0, _, hb, Or.inr (Or.inr (Or.inl ⟨h1, h2, he, h3, bad, hbad, rfl, fun _ => rfl⟩))⟩
  · by_cases h4 : NamR t (if t b = 63 then b + 1 else b) e
    · exact ⟨b, e, _, _, 0, hb, Or.inr (Or.inr (Or.inr ⟨h1, h2, he, h3, Or.inr ⟨h4, rfl, rfl⟩⟩))⟩
    · exact ⟨b, e, -1, 0, 0, hb, Or.inr (Or.inr (Or.inr ⟨h1, h2, he, h3, Or.inl ⟨h4, rfl⟩⟩))⟩
theorem TkOk_all (t : Nat → Nat) {N a : Nat} (ha : a ≤ N) : TkOk t N a := by
  obtain ⟨b, e, k, x, v, h⟩ := TokR_ex t ha
  exact Classical.epsilon_spec (p := fun p : Nat × Nat × Int × Nat × Int => TokR t N a p.1 p.2.1 p.2.2.1 p.2.2.2.1 p.2.2.2.2) ⟨(b, e, k, x, v), h⟩
theorem TkOk.te {t : Nat → Nat} {N a : Nat} (h : TkOk t N a) : te (tkP t N) a ≤ N := (TokR.le h).2.2.1
theorem nvF_dg {t : Nat → Nat} {g : Nat} : ∀ k i, i < k → (∀ j, j < k → t (g + j) < 256) → nvF t g k / 256 ^ i % 256 = t (g + (k - 1 - i))
  | 0, i, h, _ => by omega
  | k + 1, 0, h, hb => by
    have := hb k (Nat.lt_succ_self _)
    show (nvF t g k * 256 + t (g + k)) / 1 % 256 = t (g + (k + 1 - 1 - 0))
    rw [Nat.div_one, Nat.mul_add_mod', Nat.mod_eq_of_lt this]
    rfl
  | k + 1, i + 1, h, hb => by
    have h1 := hb k (Nat.lt_succ_self _)
    show (nvF t g k * 256 + t (g + k)) / 256 ^ (i + 1) % 256 = _
    rw [Nat.pow_succ', ← Nat.div_div_eq_div_mul, show (nvF t g k * 256 + t (g + k)) / 256 = nvF t g k by omega, nvF_dg k i (by omega) (fun j hj => hb j (by omega))]
    congr 2
    omega
theorem nvF_NmN {t : Nat → Nat} {g e : Nat} (h : NamR t g e) : NmN (nvF t g (e - g)) (e - g) := by
  have h63 := nvF_63 h
  obtain ⟨g1, g2, g3, g4⟩ := h
  have hb : ∀ j, j < e - g → t (g + j) < 256 ∧ t (g + j) ≠ 0 := fun j hj => by
    have := g4 (g + j) (by omega) (by omega)
    omega
  refine ⟨nvF_lt _ fun j hj => (hb j hj).1, g2, h63, fun k hk => ?_⟩
  rw [nvF_dg _ k hk fun j hj => (hb j hj).1]
  exact (hb _ (by omega)).2

