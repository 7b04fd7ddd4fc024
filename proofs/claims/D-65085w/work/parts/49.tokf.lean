/-! ===== 49 THE TOKEN FUNCTION ===== -/
/-- the place of the next byte above 32 (or the end) -/
def SkR (t : Nat → Nat) (N a b : Nat) : Prop := a ≤ b ∧ b ≤ N ∧ (∀ j, a ≤ j → j < b → t j ≤ 32) ∧ (b < N → 32 < t b)
/-- the end of a word that begins at b -/
def WeR (t : Nat → Nat) (N b e : Nat) : Prop := b < e ∧ e ≤ N ∧ (∀ j, b < j → j < e → 32 < t j ∧ ¬ alone (t j)) ∧ (e < N → t e ≤ 32 ∨ alone (t e))
theorem SkR.uq {t : Nat → Nat} {N a b c : Nat} (h : SkR t N a b) (g : SkR t N a c) : b = c := by
  rcases Nat.lt_trichotomy b c with q | q | q
  · have h1 := h.2.2.2 (by have := g.2.1; omega)
    have h2 := g.2.2.1 b h.1 q
    omega
  · exact q
  · have h1 := g.2.2.2 (by have := h.2.1; omega)
    have h2 := h.2.2.1 c g.1 q
    omega
theorem WeR.uq {t : Nat → Nat} {N a b c : Nat} (h : WeR t N a b) (g : WeR t N a c) : b = c := by
  rcases Nat.lt_trichotomy b c with q | q | q
  · have h1 := h.2.2.2 (by have := g.2.1; omega)
    have h2 := g.2.2.1 b h.1 q
    rcases h1 with z | z
    · omega
    · exact absurd z h2.2
  · exact q
  · have h1 := g.2.2.2 (by have := h.2.1; omega)
    have h2 := h.2.2.1 c g.1 q
    rcases h1 with z | z
    · omega
    · exact absurd z h2.2
theorem RnR.uq {t : Nat → Nat} {f e : Nat} {x y : Int} (h : RnR t f e x) (g : RnR t f e y) : x = y := by
  rcases h with ⟨h1, h2⟩ | ⟨h1, h2, h3⟩ <;> rcases g with ⟨g1, g2⟩ | ⟨g1, g2, g3⟩
  · omega
  · rcases h2 with h2 | ⟨j, a, b, c⟩
    · omega
    · exact absurd (g2 j a b) c
  · rcases g2 with g2 | ⟨j, a, b, c⟩
    · omega
    · exact absurd (h2 j a b) c
  · omega
/-- the token from place a on: first byte b, end e, kind (the component's; -1, -2 for what is none), name, number -/
def TokR (t : Nat → Nat) (N a b e : Nat) (kind : Int) (x : Nat) (v : Int) : Prop := SkR t N a b ∧
  ((b = N ∧ e = b ∧ kind = 107) ∨
   (b < N ∧ alone (t b) ∧ e = b + 1 ∧ kind = (if t b = 40 then 103 else if t b = 41 then 104 else if t b = 91 then 105 else 106)) ∨
   (b < N ∧ ¬ alone (t b) ∧ WeR t N b e ∧ (t b = 45 ∨ dgt (t b)) ∧ ∃ bad, RnR t (if t b = 45 then b + 1 else b) e bad ∧ kind = (if bad = 0 then 100 else -bad) ∧ (bad = 0 → v = if t b = 45 then -(dvF t (b + 1) (e - (b + 1)) : Int) else (dvF t b (e - b) : Int))) ∨
   (b < N ∧ ¬ alone (t b) ∧ WeR t N b e ∧ ¬ (t b = 45 ∨ dgt (t b)) ∧ ((¬ NamR t (if t b = 63 then b + 1 else b) e ∧ kind = -1) ∨ (NamR t (if t b = 63 then b + 1 else b) e ∧ x = nvF t (if t b = 63 then b + 1 else b) (e - (if t b = 63 then b + 1 else b)) ∧ kind = (if t b = 63 then (if kwF x = -1 then 102 else -1) else if kwF x = -1 then 101 else kwF x)))))

