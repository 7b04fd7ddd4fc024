/-! ===== 30: digits in base 10 (the laws of parts 20..26 in another base; printed by tools/ten.py) ===== -/
def d10 (m k : Nat) : Nat := m / 10 ^ k % 10
theorem d10_lt (m k : Nat) : d10 m k < 10 := Nat.mod_lt _ (by decide)
theorem pow10_pos (n : Nat) : 0 < 10 ^ n := Nat.pow_pos (by decide)
def l10 (m k : Nat) : Nat := m % 10 ^ k
theorem l10_0 (m : Nat) : l10 m 0 = 0 := by simp [l10, Nat.mod_one]
theorem l10_s (m k : Nat) : l10 m (k + 1) = l10 m k + d10 m k * 10 ^ k := by
  unfold l10 d10
  rw [Nat.pow_succ, Nat.mod_mul]
  rw [Nat.mul_comm (10 ^ k)]
theorem l10_lt (m k : Nat) : l10 m k < 10 ^ k := Nat.mod_lt _ (pow10_pos k)
theorem l10_all {m n : Nat} (h : m < 10 ^ n) : l10 m n = m := Nat.mod_eq_of_lt h
theorem d10_big {m n k : Nat} (h : m < 10 ^ n) (hk : n ≤ k) : d10 m k = 0 := by
  unfold d10
  have h1 : m < 10 ^ k := Nat.lt_of_lt_of_le h (Nat.pow_le_pow_right (by decide) hk)
  rw [Nat.div_eq_of_lt h1]
theorem d10_add_lo {s r k : Nat} (hs : s < 10 ^ k) {j : Nat} (hj : j < k) : d10 (s + r * 10 ^ k) j = d10 s j := by
  unfold d10
  obtain ⟨i, rfl⟩ : ∃ i, k = j + 1 + i := ⟨k - (j + 1), by omega⟩
  have e : r * 10 ^ (j + 1 + i) = 10 ^ j * (10 * (r * 10 ^ i)) := by
    rw [Nat.pow_add, Nat.pow_succ]; ac_rfl
  rw [e, Nat.add_mul_div_left _ _ (pow10_pos j), Nat.add_mul_mod_self_left]
theorem d10_add_hi {s r k : Nat} (hs : s < 10 ^ k) (hr : r < 10) : d10 (s + r * 10 ^ k) k = r := by
  unfold d10
  rw [Nat.add_mul_div_right _ _ (pow10_pos k), Nat.div_eq_of_lt hs, Nat.zero_add, Nat.mod_eq_of_lt hr]
theorem add_lt10 {s r k : Nat} (hs : s < 10 ^ k) (hr : r < 10) : s + r * 10 ^ k < 10 ^ (k + 1) := by
  rw [Nat.pow_succ]
  have h : (r + 1) * 10 ^ k ≤ 10 * 10 ^ k := Nat.mul_le_mul_right _ hr
  rw [Nat.add_mul, Nat.one_mul] at h
  rw [Nat.mul_comm (10 ^ k)]
  omega
theorem top_zero10 {m n : Nat} (h : m < 10 ^ (n + 1)) (h0 : d10 m n = 0) : m < 10 ^ n := by
  unfold d10 at h0
  have h1 : m / 10 ^ n < 10 := Nat.div_lt_of_lt_mul (by rw [← Nat.pow_succ]; exact h)
  rw [Nat.mod_eq_of_lt h1] at h0
  rcases Nat.lt_or_ge m (10 ^ n) with q | q
  · exact q
  · have := Nat.div_pos q (pow10_pos n)
    omega
theorem top_pos10 {m n : Nat} (h : m < 10 ^ (n + 1)) (h0 : d10 m n ≠ 0) : 10 ^ n ≤ m := by
  rcases Nat.lt_or_ge m (10 ^ n) with q | q
  · exact absurd (d10_big q (Nat.le_refl n)) h0
  · exact q
theorem cmp_step10 {x y k : Nat} (h : x / 10 ^ (k + 1) = y / 10 ^ (k + 1)) : (d10 x k < d10 y k → x < y) ∧ (d10 x k = d10 y k → x / 10 ^ k = y / 10 ^ k) := by
  have hx : x / 10 ^ k = 10 * (x / 10 ^ (k + 1)) + d10 x k := by
    unfold d10
    rw [Nat.pow_succ, ← Nat.div_div_eq_div_mul]
    exact (Nat.div_add_mod _ _).symm
  have hy : y / 10 ^ k = 10 * (y / 10 ^ (k + 1)) + d10 y k := by
    unfold d10
    rw [Nat.pow_succ, ← Nat.div_div_eq_div_mul]
    exact (Nat.div_add_mod _ _).symm
  refine ⟨fun h2 => ?_, fun h2 => by rw [hx, hy, h, h2]⟩
  have h3 : x / 10 ^ k < y / 10 ^ k := by rw [hx, hy, h]; omega
  rcases Nat.lt_or_ge x y with q | q
  · exact q
  · have := Nat.div_le_div_right (c := 10 ^ k) q
    omega
theorem add_step10 {x y s k c : Nat} (h : s + c * 10 ^ k = l10 x k + l10 y k) (hs : s < 10 ^ k) (hc : c ≤ 1) :
    ∃ c' r, c + d10 x k + d10 y k = r + c' * 10 ∧ r < 10 ∧ c' ≤ 1 ∧ (s + r * 10 ^ k) + c' * 10 ^ (k + 1) = l10 x (k + 1) + l10 y (k + 1) := by
  have h1 := d10_lt x k
  have h2 := d10_lt y k
  refine ⟨(c + d10 x k + d10 y k) / 10, (c + d10 x k + d10 y k) % 10, by omega, by omega, by omega, ?_⟩
  generalize hr : (c + d10 x k + d10 y k) % 10 = r
  generalize hq : (c + d10 x k + d10 y k) / 10 = q
  have h3 : c + d10 x k + d10 y k = r + q * 10 := by omega
  rw [l10_s, l10_s, Nat.pow_succ]
  have e1 : q * (10 ^ k * 10) = (q * 10) * 10 ^ k := by show q * (10 ^ k * 10) = _; ac_rfl
  have e2 : (c + d10 x k + d10 y k) * 10 ^ k = (r + q * 10) * 10 ^ k := by rw [h3]
  simp only [Nat.add_mul] at e2
  rw [e1]
  omega
theorem sub_step10 {x y s k c : Nat} (h : s + l10 y k = l10 x k + c * 10 ^ k) (hs : s < 10 ^ k) (hc : c ≤ 1) :
    ∃ c' r, d10 x k + c' * 10 = r + c + d10 y k ∧ r < 10 ∧ c' ≤ 1 ∧ (c' = 1 ↔ d10 x k < c + d10 y k) ∧ (s + r * 10 ^ k) + l10 y (k + 1) = l10 x (k + 1) + c' * 10 ^ (k + 1) := by
  have h1 := d10_lt x k
  have h2 := d10_lt y k
  obtain ⟨c', r, e1, e2, e3, e4⟩ : ∃ c' r, d10 x k + c' * 10 = r + c + d10 y k ∧ r < 10 ∧ c' ≤ 1 ∧ (c' = 1 ↔ d10 x k < c + d10 y k) := by
    by_cases q : d10 x k < c + d10 y k
    · exact ⟨1, d10 x k + 10 - c - d10 y k, by omega, by omega, by omega, by omega⟩
    · exact ⟨0, d10 x k - c - d10 y k, by omega, by omega, by omega, by omega⟩
  refine ⟨c', r, e1, e2, e3, e4, ?_⟩
  rw [l10_s, l10_s, Nat.pow_succ]
  have e5 : c' * (10 ^ k * 10) = (c' * 10) * 10 ^ k := by show c' * (10 ^ k * 10) = _; ac_rfl
  have e6 : (d10 x k + c' * 10) * 10 ^ k = (r + c + d10 y k) * 10 ^ k := by rw [e1]
  simp only [Nat.add_mul] at e6
  rw [e5]
  omega
theorem n_of10 {m n j : Nat} (hn : 0 < n → 10 ^ (n - 1) ≤ m) (hm : m < 10 ^ j) : n ≤ j := by
  rcases Nat.lt_or_ge j n with q | q
  · have h1 := hn (by omega)
    have h2 : 10 ^ j ≤ 10 ^ (n - 1) := Nat.pow_le_pow_right (by decide) (by omega)
    omega
  · exact q
theorem d10_split (s p : Nat) : s = l10 s p + d10 s p * 10 ^ p + s / 10 ^ (p + 1) * 10 ^ (p + 1) := by
  rw [← l10_s]
  unfold l10
  have := Nat.div_add_mod s (10 ^ (p + 1))
  rw [Nat.mul_comm] at this
  omega
theorem d10_set {s p r : Nat} (hr : r < 10) : ∃ s', s' + d10 s p * 10 ^ p = s + r * 10 ^ p ∧ d10 s' p = r ∧ (∀ j, j ≠ p → d10 s' j = d10 s j) ∧ (∀ n, p < n → s < 10 ^ n → s' < 10 ^ n) := by
  have hsp := d10_split s p
  have hl := l10_lt s p
  have hd : d10 s p < 10 := d10_lt s p
  generalize hh : s / 10 ^ (p + 1) = h at hsp
  have key : ∀ d, d < 10 → ∀ j, d10 (l10 s p + d * 10 ^ p + h * 10 ^ (p + 1)) j = if j < p then d10 (l10 s p) j else if j = p then d else h / 10 ^ (j - (p + 1)) % 10 := by
    intro d hd' j
    have hlt := add_lt10 hl hd'
    by_cases q1 : j < p
    · rw [if_pos q1, d10_add_lo hlt (by omega), d10_add_lo hl q1]
    · rw [if_neg q1]
      by_cases q2 : j = p
      · subst q2; rw [if_pos rfl, d10_add_lo hlt (by omega), d10_add_hi hl hd']
      · rw [if_neg q2]
        unfold d10
        obtain ⟨i, rfl⟩ : ∃ i, j = p + 1 + i := ⟨j - (p + 1), by omega⟩
        rw [Nat.pow_add 10 (p + 1) i, ← Nat.div_div_eq_div_mul, Nat.add_mul_div_right _ _ (pow10_pos (p + 1)), Nat.div_eq_of_lt hlt, Nat.zero_add, show p + 1 + i - (p + 1) = i by omega]
  refine ⟨l10 s p + r * 10 ^ p + h * 10 ^ (p + 1), by omega, ?_, ?_, ?_⟩
  · rw [key r hr p, if_neg (by omega), if_pos rfl]
  · intro j hj
    rw [key r hr j]
    have e := key (d10 s p) hd j
    rw [← hsp] at e
    rw [e]
    by_cases q1 : j < p
    · rw [if_pos q1, if_pos q1]
    · rw [if_neg q1, if_neg q1, if_neg hj, if_neg hj]
  · intro n hn hs
    have hlt := add_lt10 hl hr
    obtain ⟨i, rfl⟩ : ∃ i, n = p + 1 + i := ⟨n - (p + 1), by omega⟩
    rw [Nat.pow_add 10 (p + 1) i] at hs ⊢
    have hh2 : h < 10 ^ i := by
      rw [← hh]
      exact Nat.div_lt_of_lt_mul hs
    have h3 : (h + 1) * 10 ^ (p + 1) ≤ 10 ^ i * 10 ^ (p + 1) := Nat.mul_le_mul_right _ hh2
    rw [Nat.add_mul, Nat.one_mul] at h3
    rw [Nat.mul_comm (10 ^ (p + 1))]
    omega
theorem mul_step10 {x y s i j c P : Nat} (h : s + c * 10 ^ (i + j) = P + d10 x i * (l10 y j) * 10 ^ i) (hc : c ≤ 9) (u : Nat) (hu : u = d10 s (i + j) + d10 x i * d10 y j + c) :
    u ≤ 99 ∧ ∃ s', (∀ k, k ≠ i + j → d10 s' k = d10 s k) ∧ d10 s' (i + j) = u % 10 ∧ (∀ n, i + j < n → s < 10 ^ n → s' < 10 ^ n) ∧ u / 10 ≤ 9 ∧ s' + u / 10 * 10 ^ (i + (j + 1)) = P + d10 x i * (l10 y (j + 1)) * 10 ^ i := by
  have d1 := d10_lt s (i + j)
  have d2 := d10_lt x i
  have d3 := d10_lt y j
  have hp : d10 x i * d10 y j ≤ 9 * 9 := Nat.mul_le_mul (by omega) (by omega)
  obtain ⟨s', e1, e2, e3, e4⟩ := d10_set (s := s) (p := i + j) (r := u % 10) (Nat.mod_lt _ (by decide))
  refine ⟨by omega, s', e3, e2, e4, by omega, ?_⟩
  have hu2 : u = u % 10 + 10 * (u / 10) := by omega
  have e5 : u * 10 ^ (i + j) = (u % 10) * 10 ^ (i + j) + (u / 10) * 10 ^ (i + (j + 1)) := by
    rw [show i + (j + 1) = (i + j) + 1 by omega, Nat.pow_succ]
    show _ = _ + (u / 10) * (10 ^ (i + j) * 10)
    rw [show (u / 10) * (10 ^ (i + j) * 10) = 10 * (u / 10) * 10 ^ (i + j) by ac_rfl, ← Nat.add_mul, ← hu2]
  have e6 : u * 10 ^ (i + j) = d10 s (i + j) * 10 ^ (i + j) + d10 x i * d10 y j * 10 ^ (i + j) + c * 10 ^ (i + j) := by rw [hu]; simp only [Nat.add_mul]
  rw [l10_s, Nat.mul_add, Nat.add_mul]
  have e7 : d10 x i * (d10 y j * 10 ^ j) * 10 ^ i = d10 x i * d10 y j * 10 ^ (i + j) := by rw [Nat.pow_add]; ac_rfl
  rw [e7]
  omega
