/-! ===== 60x FRAMES OF THE POOL ===== -/
theorem FrP.x {M tp : Nat} {I I' : M32} (h : FrP M tp I I') : Fx (fun a k => (a = M ∧ (k = 7 ∨ k = 8)) ∨ (a = M + 3 ∧ tp ≤ k)) I I' := fun a k e => by
  by_cases e1 : a = M
  · subst e1; exact h.2.1 k (by omega) (by omega)
  · by_cases e2 : a = M + 3
    · subst e2; exact h.2.2 k (by omega)
    · rw [h.1 a e1 e2]

