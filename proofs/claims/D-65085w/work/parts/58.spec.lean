/-! ===== 58 THE READING OF TEXTS: what both programs do, without a program ===== -/
/-- the token from place a on, as a function -/
noncomputable def tkP (t : Nat → Nat) (N a : Nat) : Nat × Nat × Int × Nat × Int := Classical.epsilon fun p => TokR t N a p.1 p.2.1 p.2.2.1 p.2.2.2.1 p.2.2.2.2
theorem TokR.k {t : Nat → Nat} {N a b e b' e' x x' : Nat} {k k' v v' : Int} (h : TokR t N a b e k x v) (g : TokR t N a b' e' k' x' v') : b' = b ∧ e' = e ∧ k' = k ∧ (0 ≤ k ∧ k < 100 ∨ k = 101 ∨ k = 102 → x' = x) ∧ (k = 100 → v' = v) := by
  obtain ⟨h1, h2⟩ := h
  obtain ⟨g1, g2⟩ := g
  obtain rfl := h1.uq g1
  rcases h2 with ⟨p1, p2, p3⟩ | ⟨p1, p2, p3, p4⟩ | ⟨p1, p2, p3, p4, bad, p5, p6, p7⟩ | ⟨p1, p2, p3, p4, p5⟩ <;> rcases g2 with ⟨q1, q2, q3⟩ | ⟨q1, q2, q3, q4⟩ | ⟨q1, q2, q3, q4, bad', q5, q6, q7⟩ | ⟨q1, q2, q3, q4, q5⟩
  · exact ⟨rfl, by omega, by omega, fun h => by omega, fun h => by omega⟩
  · omega
  · omega
  · omega
  · omega
  · refine ⟨rfl, by omega, by omega, fun h => ?_, fun h => ?_⟩
    · exfalso; (repeat' split at p4) <;> omega
    · exfalso; (repeat' split at p4) <;> omega
  · exact absurd p2 q2
  · exact absurd p2 q2
  · omega
  · exact absurd q2 p2
  · obtain rfl := p3.uq q3
    obtain rfl := p5.uq q5
    refine ⟨rfl, rfl, by omega, fun h => ?_, fun h => ?_⟩
    · exfalso
      have : bad = 0 ∨ bad = 1 ∨ bad = 2 := by rcases p5 with ⟨z, _⟩ | ⟨_, _, ⟨z, _⟩ | ⟨z, _⟩⟩ <;> omega
      split at p6 <;> omega
    · have hb : bad = 0 := by
        have : bad = 0 ∨ bad = 1 ∨ bad = 2 := by rcases p5 with ⟨z, _⟩ | ⟨_, _, ⟨z, _⟩ | ⟨z, _⟩⟩ <;> omega
        split at p6 <;> omega
      rw [p7 hb, q7 hb]
  · exact absurd p4 q4
  · omega
  · exact absurd q2 p2
  · exact absurd q4 p4
  · obtain rfl := p3.uq q3
    rcases p5 with ⟨p5, p6⟩ | ⟨p5, p6, p7⟩ <;> rcases q5 with ⟨q5, q6⟩ | ⟨q5, q6, q7⟩
    · exact ⟨rfl, rfl, by omega, fun h => by omega, fun h => by omega⟩
    · exact absurd q5 p5
    · exact absurd p5 q5
    · obtain rfl : x' = x := by rw [p6, q6]
      refine ⟨rfl, rfl, by rw [p7, q7], fun _ => rfl, fun h => ?_⟩
      exfalso
      have := kwG_in x' 34
      unfold kwF at p7
      (repeat' split at p7) <;> omega
theorem TokR.le {t : Nat → Nat} {N a b e x : Nat} {k v : Int} (h : TokR t N a b e k x v) : a ≤ b ∧ b ≤ e ∧ e ≤ N ∧ (k ≠ 107 → b < e) := by
  obtain ⟨⟨h1, h2, -, -⟩, h3⟩ := h
  rcases h3 with ⟨p1, p2, p3⟩ | ⟨p1, p2, p3, p4⟩ | ⟨p1, p2, p3, p4⟩ | ⟨p1, p2, p3, p4⟩
  · exact ⟨h1, by omega, by omega, fun h => absurd p3 h⟩
  · exact ⟨h1, by omega, by omega, fun _ => by omega⟩
  · have := p3.1; have := p3.2.1; exact ⟨h1, by omega, by omega, fun _ => by omega⟩
  · have := p3.1; have := p3.2.1; exact ⟨h1, by omega, by omega, fun _ => by omega⟩
theorem tkP_ok {t : Nat → Nat} {N a b e x : Nat} {k v : Int} (h : TokR t N a b e k x v) : (tkP t N a).1 = b ∧ (tkP t N a).2.1 = e ∧ (tkP t N a).2.2.1 = k ∧ (0 ≤ k ∧ k < 100 ∨ k = 101 ∨ k = 102 → (tkP t N a).2.2.2.1 = x) ∧ (k = 100 → (tkP t N a).2.2.2.2 = v) :=
  h.k (Classical.epsilon_spec (p := fun p : Nat × Nat × Int × Nat × Int => TokR t N a p.1 p.2.1 p.2.2.1 p.2.2.2.1 p.2.2.2.2) ⟨(b, e, k, x, v), h⟩)
abbrev TkF := Nat → Nat × Nat × Int × Nat × Int
abbrev ER (α : Type) := Except (Int × Nat) α
/-- first byte, end, kind, name, number of the token from a place on -/
def tb (τ : TkF) (a : Nat) : Nat := (τ a).1
def te (τ : TkF) (a : Nat) : Nat := (τ a).2.1
def tk (τ : TkF) (a : Nat) : Int := (τ a).2.2.1
def tx (τ : TkF) (a : Nat) : Nat := (τ a).2.2.2.1
def tv (τ : TkF) (a : Nat) : Int := (τ a).2.2.2.2
def bnd {α β : Type} (r : ER α) (f : α → ER β) : ER β := match r with | .ok x => f x | .error e => .error e
theorem bnd_ok {α β : Type} {x : α} {f : α → ER β} : bnd (.ok x) f = f x := rfl
theorem bnd_er {α β : Type} {e : Int × Nat} {f : α → ER β} : bnd (.error e) f = .error e := rfl
/-- the next token is read, behind the one at hand -/
def nx (τ : TkF) (a : Nat) : ER Nat := if tk τ (te τ a) < 0 then .error (-(tk τ (te τ a)), tb τ (te τ a)) else .ok (te τ a)
/-- the token at hand must be of a kind -/
def wn (τ : TkF) (due : Int) (a : Nat) : ER Nat := if tk τ a = 107 then .error (3, tb τ a) else if tk τ a ≠ due then .error (4, tb τ a) else nx τ a
def opn (τ : TkF) : Nat → Nat → ER (Nat × Nat)
  | 0, a => .ok (0, a)
  | f + 1, a => if tk τ a = 103 then bnd (nx τ a) fun a1 => bnd (opn τ f a1) fun p => .ok (p.1 + 1, p.2) else if tk τ a = 107 then .error (3, tb τ a) else .ok (0, a)
def shu (τ : TkF) : Nat → Nat → ER Nat
  | 0, a => .ok a
  | k + 1, a => bnd (wn τ 104 a) (shu τ k)
/-- what may begin a contract, a value, an observation -/
def okS (s : Nat) (k : Int) : Bool := if s = 1 then decide (k = 0 ∨ k = 1 ∨ k = 4 ∨ k = 5 ∨ k = 10 ∨ k = 11) else if s = 2 then decide (k = 100 ∨ k = 102 ∨ (12 ≤ k ∧ k ≤ 22)) else decide (23 ≤ k ∧ k ≤ 33)
/-- what a node of a kind wants, in order: (what, slot) -/
def itC (k : Int) : List (Nat × Nat) := if k = 1 then [(4, 1), (6, 0), (4, 2), (4, 3), (2, 1), (1, 2)] else if k = 4 then [(3, 1), (1, 2), (1, 3)] else if k = 5 then [(7, 0), (8, 0), (9, 0), (1, 2)] else if k = 10 then [(4, 1), (2, 1), (1, 2)] else if k = 11 then [(3, 1), (1, 2)] else if k = 12 ∨ k = 18 ∨ k = 26 then [(4, 1), (4, 2)] else if k = 21 then [(4, 1)] else if k = 13 then [(2, 1)] else if 14 ≤ k ∧ k ≤ 17 then [(2, 1), (2, 2)] else if k = 22 then [(3, 1), (2, 2), (2, 3)] else if k = 23 ∨ k = 24 then [(3, 1), (3, 2)] else if k = 25 then [(3, 1)] else if 27 ≤ k ∧ k ≤ 31 then [(2, 1), (2, 2)] else []
def itA (k : Int) : List (Nat × Nat) := if k = 7 then [(4, 1), (4, 2), (4, 3), (2, 1), (1, 2)] else if k = 8 then [(4, 1), (4, 2), (11, 0), (12, 0), (1, 2)] else [(3, 1), (1, 2)]
/-- a row: kind first second third next name other token number pairs depth -/
abbrev Row := List Int
abbrev PT := Nat → Nat → Nat → Nat → Nat → ER (Nat × List Row × List Int)
abbrev IT := Nat → Nat → Row → Nat → Nat → Nat → ER (Nat × Row × List Row × List Int)
def bnds (τ : TkF) : Nat → Nat → Nat → ER (Nat × Nat × List Int)
  | 0, _, a => .error (0, a)
  | k + 1, p, a => if tk τ a = 100 ∧ p = 4 then .error (8, tb τ a) else bnd (wn τ 100 a) fun a1 => if tk τ a1 = 100 ∧ tv τ a1 < tv τ a then .error (6, tb τ a1) else bnd (wn τ 100 a1) fun a2 => if tk τ a2 = 106 then .ok (a2, p + 1, [tv τ a, tv τ a1]) else bnd (bnds τ k (p + 1) a2) fun r => .ok (r.1, r.2.1, tv τ a :: tv τ a1 :: r.2.2)
def itm0 (τ : TkF) (P : PT) (dep : Nat) : IT := fun what slot row n m a =>
  if what ≤ 3 then bnd (P what (dep + 1) n m a) fun q => .ok (q.1, row.set slot n, q.2.1, q.2.2)
  else if what = 4 then bnd (wn τ 101 a) fun a' => .ok (a', row.set (4 + slot) (tx τ a), [], [])
  else if what = 6 then bnd (wn τ (if tk τ a = 3 then 3 else 2) a) fun a' => .ok (a', row.set 3 (if tk τ a = 3 then 1 else 0), [], [])
  else if what = 9 then (if tk τ a = 102 then bnd (wn τ 102 a) fun a' => .ok (a', row.set 5 (tx τ a), [], []) else if tk τ a = 100 ∧ ¬ (0 ≤ tv τ a ∧ tv τ a ≤ 1000000000000000) then .error (5, tb τ a) else bnd (wn τ 100 a) fun a' => .ok (a', row.set 8 m, [], [tv τ a]))
  else if what = 12 then bnd (bnds τ 5 0 a) fun q => bnd (wn τ 106 q.1) fun a' => .ok (a', (row.set 8 m).set 9 q.2.1, [], q.2.2)
  else bnd (wn τ 105 a) fun a' => .ok (a', row, [], [])
def its (it : IT) : List (Nat × Nat) → Row → Nat → Nat → Nat → ER (Nat × Row × List Row × List Int)
  | [], row, _, _, a => .ok (a, row, [], [])
  | w :: ws, row, n, m, a => bnd (it w.1 w.2 row n m a) fun q => bnd (its it ws q.2.1 (n + q.2.2.1.length) (m + q.2.2.2.length) q.1) fun r => .ok (r.1, r.2.1, q.2.2.1 ++ r.2.2.1, q.2.2.2 ++ r.2.2.2)
/-- the cases of a when of depth dep -/
def cas (τ : TkF) (g : Nat) (P : PT) (dep : Nat) : Nat → Nat → Nat → Nat → Nat → ER (Nat × List Row × List Int)
  | 0, _, _, _, a => .error (0, a)
  | k + 1, cnt, n, m, a => if tk τ a ≠ 6 then .ok (a, [], []) else if 100 < dep + 1 ∨ n - g = 1000 then .error (7, tb τ a) else if cnt = 8 then .error (8, tb τ a) else
    bnd (nx τ a) fun a1 => if tk τ a1 = 107 then .error (3, tb τ a1) else if ¬ (tk τ a1 = 7 ∨ tk τ a1 = 8 ∨ tk τ a1 = 9) then .error (4, tb τ a1) else
    bnd (nx τ a1) fun a2 => bnd (its (itm0 τ P (dep + 1)) (itA (tk τ a1)) [6, -1, -1, tk τ a1, -1, 0, 0, 0, -1, 0, dep + 1] (n + 1) m a2) fun q =>
    bnd (cas τ g P dep k (cnt + 1) (n + 1 + q.2.2.1.length) (m + q.2.2.2.length) q.1) fun r =>
    .ok (r.1, q.2.1.set 4 (if r.2.1 = [] then -1 else ((n + 1 + q.2.2.1.length : Nat) : Int)) :: (q.2.2.1 ++ r.2.1), q.2.2.2 ++ r.2.2)
def itm (τ : TkF) (g : Nat) (P : PT) (dep : Nat) : IT := fun what slot row n m a =>
  if what = 8 then bnd (cas τ g P dep 9 0 n m a) fun q => bnd (wn τ 106 q.1) fun a' => .ok (a', row.set 1 (if q.2.1 = [] then -1 else (n : Int)), q.2.1, q.2.2)
  else itm0 τ P dep what slot row n m a
/-- a contract (1), a value (2) or an observation (3) -/
def ps (τ : TkF) (g F : Nat) : Nat → PT
  | 0, _, _, _, _, a => .error (0, a)
  | f + 1, s, dep, n, m, a => bnd (opn τ F a) fun p => if ¬ okS s (tk τ p.2) then .error (4, tb τ p.2) else if 100 < dep ∨ n - g = 1000 then .error (7, tb τ p.2) else
    bnd (nx τ p.2) fun a2 => bnd (its (itm τ g (ps τ g F f) dep) (itC (tk τ p.2)) [tk τ p.2, -1, -1, -1, -1, if tk τ p.2 = 102 then tx τ p.2 else 0, 0, 0, if tk τ p.2 = 100 then (m : Int) else -1, 0, dep] (n + 1) (if tk τ p.2 = 100 then m + 1 else m) a2) fun q =>
    bnd (shu τ p.1 q.1) fun a4 => .ok (a4, q.2.1 :: q.2.2.1, if tk τ p.2 = 100 then tv τ p.2 :: q.2.2.2 else q.2.2.2)
/-- a text of one contract -/
def rd (τ : TkF) (g F m : Nat) : ER (List Row × List Int) := if tk τ 0 < 0 then .error (-(tk τ 0), tb τ 0) else bnd (ps τ g F 102 1 0 g m 0) fun q => if tk τ q.1 ≠ 107 then .error (9, tb τ q.1) else .ok q.2

