/-! ===== 21 BIG, digits: pure laws ===== -/
def lo (m k : Nat) : Nat := m % B9 ^ k
theorem lo_0 (m : Nat) : lo m 0 = 0 := by simp [lo, Nat.mod_one]
theorem lo_s (m k : Nat) : lo m (k + 1) = lo m k + dg m k * B9 ^ k := by
  unfold lo dg
  rw [Nat.pow_succ, Nat.mod_mul]
  rw [Nat.mul_comm (B9 ^ k)]
theorem lo_lt (m k : Nat) : lo m k < B9 ^ k := Nat.mod_lt _ (pow9_pos k)
theorem lo_all {m n : Nat} (h : m < B9 ^ n) : lo m n = m := Nat.mod_eq_of_lt h
theorem dg_big {m n k : Nat} (h : m < B9 ^ n) (hk : n ≤ k) : dg m k = 0 := by
  unfold dg
  have h1 : m < B9 ^ k := Nat.lt_of_lt_of_le h (Nat.pow_le_pow_right (by decide) hk)
  rw [Nat.div_eq_of_lt h1]
  rfl
theorem dg_add_lo {s r k : Nat} (hs : s < B9 ^ k) {j : Nat} (hj : j < k) : dg (s + r * B9 ^ k) j = dg s j := by
  unfold dg
  obtain ⟨i, rfl⟩ : ∃ i, k = j + 1 + i := ⟨k - (j + 1), by omega⟩
  have e : r * B9 ^ (j + 1 + i) = B9 ^ j * (B9 * (r * B9 ^ i)) := by
    rw [Nat.pow_add, Nat.pow_succ]; ac_rfl
  rw [e, Nat.add_mul_div_left _ _ (pow9_pos j), Nat.add_mul_mod_self_left]
theorem dg_add_hi {s r k : Nat} (hs : s < B9 ^ k) (hr : r < B9) : dg (s + r * B9 ^ k) k = r := by
  unfold dg
  rw [Nat.add_mul_div_right _ _ (pow9_pos k), Nat.div_eq_of_lt hs, Nat.zero_add, Nat.mod_eq_of_lt hr]
theorem add_lt9 {s r k : Nat} (hs : s < B9 ^ k) (hr : r < B9) : s + r * B9 ^ k < B9 ^ (k + 1) := by
  rw [Nat.pow_succ]
  have h : (r + 1) * B9 ^ k ≤ B9 * B9 ^ k := Nat.mul_le_mul_right _ hr
  rw [Nat.add_mul, Nat.one_mul] at h
  rw [Nat.mul_comm (B9 ^ k)]
  omega
/-- the top digit is 0: one place less -/
theorem top_zero {m n : Nat} (h : m < B9 ^ (n + 1)) (h0 : dg m n = 0) : m < B9 ^ n := by
  unfold dg at h0
  have h1 : m / B9 ^ n < B9 := Nat.div_lt_of_lt_mul (by rw [← Nat.pow_succ]; exact h)
  rw [Nat.mod_eq_of_lt h1] at h0
  rcases Nat.lt_or_ge m (B9 ^ n) with q | q
  · exact q
  · have := Nat.div_pos q (pow9_pos n)
    omega
theorem top_pos {m n : Nat} (h : m < B9 ^ (n + 1)) (h0 : dg m n ≠ 0) : B9 ^ n ≤ m := by
  rcases Nat.lt_or_ge m (B9 ^ n) with q | q
  · exact absurd (dg_big q (Nat.le_refl n)) h0
  · exact q
/-- two numbers that agree above place k are ordered by what is at k and below -/
theorem cmp_step {x y k : Nat} (h : x / B9 ^ (k + 1) = y / B9 ^ (k + 1)) : (dg x k < dg y k → x < y) ∧ (dg x k = dg y k → x / B9 ^ k = y / B9 ^ k) := by
  have hx : x / B9 ^ k = B9 * (x / B9 ^ (k + 1)) + dg x k := by
    unfold dg
    rw [Nat.pow_succ, ← Nat.div_div_eq_div_mul]
    exact (Nat.div_add_mod _ _).symm
  have hy : y / B9 ^ k = B9 * (y / B9 ^ (k + 1)) + dg y k := by
    unfold dg
    rw [Nat.pow_succ, ← Nat.div_div_eq_div_mul]
    exact (Nat.div_add_mod _ _).symm
  refine ⟨fun h2 => ?_, fun h2 => by rw [hx, hy, h, h2]⟩
  have h3 : x / B9 ^ k < y / B9 ^ k := by rw [hx, hy, h]; omega
  rcases Nat.lt_or_ge x y with q | q
  · exact q
  · have := Nat.div_le_div_right (c := B9 ^ k) q
    omega
theorem bigV_of {I : M32} {a n m : Nat} {s : Bool} (h : BigW I a n m s) (hn : 0 < n → B9 ^ (n - 1) ≤ m) (hs : s = true → 0 < m) : BigV I a (if s then -(m : Int) else (m : Int)) := by
  refine ⟨n, ?_, ?_⟩
  · have e1 : (if s then -(m : Int) else (m : Int)).natAbs = m := by cases s <;> simp
    have e2 : decide ((if s then -(m : Int) else (m : Int)) < 0) = s := by
      cases s
      · simp
      · have := hs rfl
        simp
        omega
    rw [e1, e2]
    exact h
  · have e1 : (if s then -(m : Int) else (m : Int)).natAbs = m := by cases s <;> simp
    rw [e1]
    exact hn
theorem BigW.congr {I J : M32} {a n m : Nat} {s : Bool} (h : BigW I a n m s) (h1 : J a = I a) (h2 : J (a + 1) = I (a + 1)) : BigW J a n m s :=
  ⟨h.1, h.2.1, by rw [h1]; exact h.2.2.1, fun k hk => by rw [h2]; exact h.2.2.2.1 k hk, by rw [h1]; exact h.2.2.2.2⟩
theorem BigV.congr {I J : M32} {a : Nat} {v : Int} (h : BigV I a v) (h1 : J a = I a) (h2 : J (a + 1) = I (a + 1)) : BigV J a v := by
  obtain ⟨n, h3, h4⟩ := h
  exact ⟨n, h3.congr h1 h2, h4⟩
/-- two numbers at different addresses don't touch -/
theorem BigS.apart {R : MR} {T : SH} {a b : Nat} (ha : BigS R T a) (hb : BigS R T b) (h : a ≠ b) : b ≠ a ∧ b ≠ a + 1 ∧ b + 1 ≠ a ∧ b + 1 ≠ a + 1 := by
  refine ⟨fun e => h e.symm, fun e => ?_, fun e => ?_, fun e => h (by omega)⟩
  · have h1 := ha.2.2.1; have h2 := hb.1; rw [e, h1] at h2; exact absurd h2 (by decide)
  · have h1 := hb.2.2.1; have h2 := ha.1; rw [e, h2] at h1; exact absurd h1 (by decide)
theorem BigV.keep {R : MR} {T : SH} {I J : M32} {a b : Nat} {v : Int} (h : BigV I b v) (hf : FrB a I J) (ha : BigS R T a) (hb : BigS R T b) (hn : a ≠ b) : BigV J b v := by
  obtain ⟨q1, q2, q3, q4⟩ := ha.apart hb hn
  exact h.congr (hf b q1 q2) (hf (b + 1) q3 q4)

