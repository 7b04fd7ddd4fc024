/-! ===== 83 THE READING OF TEXTS, with the count of the numbers that it makes (also when it fails) ===== -/
abbrev CR (α : Type) := Nat × ER α
def bdC {α β : Type} (r : CR α) (f : α → CR β) : CR β := match r.2 with | .ok x => (r.1 + (f x).1, (f x).2) | .error e => (r.1, .error e)
abbrev lfC {α : Type} (r : ER α) : CR α := (0, r)
abbrev adC {α : Type} (k : Nat) (r : CR α) : CR α := (k + r.1, r.2)
abbrev okC {α : Type} (x : α) : CR α := (0, .ok x)
abbrev erC {α : Type} (e : Int × Nat) : CR α := (0, .error e)
theorem bdC_2 {α β : Type} (r : CR α) (f : α → CR β) : (bdC r f).2 = bnd r.2 (fun x => (f x).2) := by
  obtain ⟨c, r⟩ := r
  cases r <;> rfl
theorem bdC_ok {α β : Type} (c : Nat) (x : α) (f : α → CR β) : bdC (c, .ok x) f = adC c (f x) := rfl
theorem bdC_er {α β : Type} (c : Nat) (e : Int × Nat) (f : α → CR β) : bdC (c, .error e) f = (c, .error e) := rfl
theorem bdC_ge {α β : Type} (r : CR α) (f : α → CR β) : r.1 ≤ (bdC r f).1 := by
  obtain ⟨c, r⟩ := r
  cases r
  · exact Nat.le_refl _
  · exact Nat.le_add_right _ _
theorem adC_adC {α : Type} (a b : Nat) (r : CR α) : adC a (adC b r) = adC (a + b) r := by show (_, _) = (_, _); rw [Nat.add_assoc]
theorem adC_0 {α : Type} (r : CR α) : adC 0 r = r := by show (0 + r.1, r.2) = r; rw [Nat.zero_add]
theorem bdC_adC {α β : Type} (k : Nat) (r : CR α) (f : α → CR β) : bdC (adC k r) f = adC k (bdC r f) := by
  obtain ⟨c, r⟩ := r
  cases r
  · rfl
  · show (_, _) = (_, _); rw [Nat.add_assoc]; rfl
theorem bdC_bdC {α β γ : Type} (r : CR α) (f : α → CR β) (g : β → CR γ) : bdC (bdC r f) g = bdC r (fun x => bdC (f x) g) := by
  obtain ⟨c, r⟩ := r
  cases r with
  | error e => rfl
  | ok x => exact bdC_adC c (f x) g
def bndsC (τ : TkF) : Nat → Nat → Nat → CR (Nat × Nat × List Int)
  | 0, _, a => erC (0, a)
  | k + 1, p, a => if tk τ a = 100 ∧ p = 4 then erC (8, tb τ a) else adC (if tk τ a = 100 then 1 else 0) (bdC (lfC (wn τ 100 a)) fun a1 => if tk τ a1 = 100 ∧ tv τ a1 < tv τ a then erC (6, tb τ a1) else adC (if tk τ a1 = 100 then 1 else 0) (bdC (lfC (wn τ 100 a1)) fun a2 => if tk τ a2 = 106 then okC (a2, p + 1, [tv τ a, tv τ a1]) else bdC (bndsC τ k (p + 1) a2) fun r => okC (r.1, r.2.1, tv τ a :: tv τ a1 :: r.2.2)))
abbrev PTC := Nat → Nat → Nat → Nat → Nat → CR (Nat × List Row × List Int)
abbrev ITC := Nat → Nat → Row → Nat → Nat → Nat → CR (Nat × Row × List Row × List Int)
def itm0C (τ : TkF) (P : PTC) (dep : Nat) : ITC := fun what slot row n m a =>
  if what ≤ 3 then bdC (P what (dep + 1) n m a) fun q => okC (q.1, row.set slot n, q.2.1, q.2.2)
  else if what = 4 then bdC (lfC (wn τ 101 a)) fun a' => okC (a', row.set (4 + slot) (tx τ a), [], [])
  else if what = 6 then bdC (lfC (wn τ (if tk τ a = 3 then 3 else 2) a)) fun a' => okC (a', row.set 3 (if tk τ a = 3 then 1 else 0), [], [])
  else if what = 9 then (if tk τ a = 102 then bdC (lfC (wn τ 102 a)) fun a' => okC (a', row.set 5 (tx τ a), [], []) else if tk τ a = 100 ∧ ¬ (0 ≤ tv τ a ∧ tv τ a ≤ 1000000000000000) then erC (5, tb τ a) else adC (if tk τ a = 100 then 1 else 0) (bdC (lfC (wn τ 100 a)) fun a' => okC (a', row.set 8 m, [], [tv τ a])))
  else if what = 12 then bdC (bndsC τ 5 0 a) fun q => bdC (lfC (wn τ 106 q.1)) fun a' => okC (a', (row.set 8 m).set 9 q.2.1, [], q.2.2)
  else bdC (lfC (wn τ 105 a)) fun a' => okC (a', row, [], [])
def itsC (it : ITC) : List (Nat × Nat) → Row → Nat → Nat → Nat → CR (Nat × Row × List Row × List Int)
  | [], row, _, _, a => okC (a, row, [], [])
  | w :: ws, row, n, m, a => bdC (it w.1 w.2 row n m a) fun q => bdC (itsC it ws q.2.1 (n + q.2.2.1.length) (m + q.2.2.2.length) q.1) fun r => okC (r.1, r.2.1, q.2.2.1 ++ r.2.2.1, q.2.2.2 ++ r.2.2.2)
def casC (τ : TkF) (g : Nat) (P : PTC) (dep : Nat) : Nat → Nat → Nat → Nat → Nat → CR (Nat × List Row × List Int)
  | 0, _, _, _, a => erC (0, a)
  | k + 1, cnt, n, m, a => if tk τ a ≠ 6 then okC (a, [], []) else if 100 < dep + 1 ∨ n - g = 1000 then erC (7, tb τ a) else if cnt = 8 then erC (8, tb τ a) else
    bdC (lfC (nx τ a)) fun a1 => if tk τ a1 = 107 then erC (3, tb τ a1) else if ¬ (tk τ a1 = 7 ∨ tk τ a1 = 8 ∨ tk τ a1 = 9) then erC (4, tb τ a1) else
    bdC (lfC (nx τ a1)) fun a2 => bdC (itsC (itm0C τ P (dep + 1)) (itA (tk τ a1)) [6, -1, -1, tk τ a1, -1, 0, 0, 0, -1, 0, dep + 1] (n + 1) m a2) fun q =>
    bdC (casC τ g P dep k (cnt + 1) (n + 1 + q.2.2.1.length) (m + q.2.2.2.length) q.1) fun r =>
    okC (r.1, q.2.1.set 4 (if r.2.1 = [] then -1 else ((n + 1 + q.2.2.1.length : Nat) : Int)) :: (q.2.2.1 ++ r.2.1), q.2.2.2 ++ r.2.2)
def itmC (τ : TkF) (g : Nat) (P : PTC) (dep : Nat) : ITC := fun what slot row n m a =>
  if what = 8 then bdC (casC τ g P dep 9 0 n m a) fun q => bdC (lfC (wn τ 106 q.1)) fun a' => okC (a', row.set 1 (if q.2.1 = [] then -1 else (n : Int)), q.2.1, q.2.2)
  else itm0C τ P dep what slot row n m a
def psC (τ : TkF) (g F : Nat) : Nat → PTC
  | 0, _, _, _, _, a => erC (0, a)
  | f + 1, s, dep, n, m, a => bdC (lfC (opn τ F a)) fun p => if ¬ okS s (tk τ p.2) then erC (4, tb τ p.2) else if 100 < dep ∨ n - g = 1000 then erC (7, tb τ p.2) else
    adC (if tk τ p.2 = 100 then 1 else 0) (bdC (lfC (nx τ p.2)) fun a2 => bdC (itsC (itmC τ g (psC τ g F f) dep) (itC (tk τ p.2)) [tk τ p.2, -1, -1, -1, -1, if tk τ p.2 = 102 then tx τ p.2 else 0, 0, 0, if tk τ p.2 = 100 then (m : Int) else -1, 0, dep] (n + 1) (if tk τ p.2 = 100 then m + 1 else m) a2) fun q =>
    bdC (lfC (shu τ p.1 q.1)) fun a4 => okC (a4, q.2.1 :: q.2.2.1, if tk τ p.2 = 100 then tv τ p.2 :: q.2.2.2 else q.2.2.2))
theorem bndsC_2 (τ : TkF) : ∀ k p a, (bndsC τ k p a).2 = bnds τ k p a
  | 0, _, _ => rfl
  | k + 1, p, a => by
    have ih := bndsC_2 τ k
    simp only [bndsC, bnds, apply_ite Prod.snd, bdC_2, ih]
theorem itm0C_2 (τ : TkF) (P : PTC) (dep what slot : Nat) (row : Row) (n m a : Nat) : (itm0C τ P dep what slot row n m a).2 = itm0 τ (fun s d n m a => (P s d n m a).2) dep what slot row n m a := by
  simp only [itm0C, itm0, apply_ite Prod.snd, bdC_2, bndsC_2]
theorem itsC_2 {it : ITC} {it' : IT} (h : ∀ what slot row n m a, (it what slot row n m a).2 = it' what slot row n m a) : ∀ ws row n m a, (itsC it ws row n m a).2 = its it' ws row n m a
  | [], _, _, _, _ => rfl
  | w :: ws, row, n, m, a => by
    have ih := itsC_2 h ws
    simp only [itsC, its, bdC_2, h, ih]
theorem casC_2 (τ : TkF) (g : Nat) (P : PTC) (dep : Nat) : ∀ k cnt n m a, (casC τ g P dep k cnt n m a).2 = cas τ g (fun s d n m a => (P s d n m a).2) dep k cnt n m a
  | 0, _, _, _, _ => rfl
  | k + 1, cnt, n, m, a => by
    have ih := casC_2 τ g P dep k
    have h2 := fun dd => itsC_2 (it := itm0C τ P dd) (fun what slot row n m a => itm0C_2 τ P dd what slot row n m a)
    simp only [casC, cas, apply_ite Prod.snd, bdC_2, ih, h2]
theorem itmC_2 (τ : TkF) (g : Nat) (P : PTC) (dep what slot : Nat) (row : Row) (n m a : Nat) : (itmC τ g P dep what slot row n m a).2 = itm τ g (fun s d n m a => (P s d n m a).2) dep what slot row n m a := by
  simp only [itmC, itm, apply_ite Prod.snd, bdC_2, casC_2, itm0C_2]
theorem psC_2 (τ : TkF) (g F : Nat) : ∀ f s dep n m a, (psC τ g F f s dep n m a).2 = ps τ g F f s dep n m a
  | 0, _, _, _, _, _ => rfl
  | f + 1, s, dep, n, m, a => by
    have ih := psC_2 τ g F f
    have e : (fun s d n m a => (psC τ g F f s d n m a).2) = ps τ g F f := by funext s d n m a; exact ih s d n m a
    have h2 := fun dd => itsC_2 (it := itmC τ g (psC τ g F f) dd) (fun what slot row n m a => itmC_2 τ g (psC τ g F f) dd what slot row n m a)
    rw [e] at h2
    simp only [psC, ps, apply_ite Prod.snd, bdC_2, h2]

