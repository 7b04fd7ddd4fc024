/-! ===== 99 WELL-FORMED NODES: what a text that was read leaves ===== -/
def nmO (x : Nat) : Prop := 0 < x ∧ ∃ n, NmN x n
abbrev SRel := Row → Nat → Nat → Row → Nat → Nat → Prop
/-- one item of a node: row, next node, next number before and after -/
def WfS (V : Nat → Int) (C : SRel) (P : Nat → Nat → Nat → Nat → Nat → Prop) (w sl : Nat) : SRel := fun r n m r' n' m' =>
  if w ≤ 3 then r' = r.set sl n ∧ P w n m n' m'
  else if w = 4 then (∃ x : Nat, r' = r.set (4 + sl) x ∧ nmO x) ∧ n' = n ∧ m' = m
  else if w = 6 then (r' = r.set 3 0 ∨ r' = r.set 3 1) ∧ n' = n ∧ m' = m
  else if w = 9 then n' = n ∧ ((∃ x : Nat, r' = r.set 5 x ∧ nmO x ∧ m' = m) ∨ (r' = r.set 8 m ∧ m' = m + 1 ∧ 0 ≤ V m ∧ V m ≤ 1000000000000000))
  else if w = 12 then n' = n ∧ ∃ p : Nat, (1 ≤ p ∧ p ≤ 4) ∧ r' = (r.set 8 m).set 9 p ∧ m' = m + 2 * p
  else if w = 8 then C r n m r' n' m'
  else r' = r ∧ n' = n ∧ m' = m
def WfL (S : Nat → Nat → SRel) : List (Nat × Nat) → SRel
  | [] => fun r n m r' n' m' => r' = r ∧ n' = n ∧ m' = m
  | x :: ws => fun r n m r' n' m' => ∃ r1 n1 m1, S x.1 x.2 r n m r1 n1 m1 ∧ WfL S ws r1 n1 m1 r' n' m'
/-- cases in a row, from node n on -/
def WfC (ρ : Nat → Row) (S : Nat → Nat → SRel) : Nat → Nat → Nat → Nat → Nat → Prop
  | 0 => fun n m n' m' => n' = n ∧ m' = m
  | k + 1 => fun n m n' m' => (n' = n ∧ m' = m) ∨ ∃ (κ dep : Int) (r : Row) (n1 m1 : Nat), (κ = 7 ∨ κ = 8 ∨ κ = 9) ∧ WfL S (itA κ) [6, -1, -1, κ, -1, 0, 0, 0, -1, 0, dep] (n + 1) m r n1 m1 ∧ ρ n = r.set 4 (if n' = n1 then -1 else (n1 : Int)) ∧ n1 ≤ n' ∧ WfC ρ S k n1 m1 n' m'
/-- a contract (1), a value (2), an observation (3) from node n on -/
def Wf (ρ : Nat → Row) (V : Nat → Int) : Nat → Nat → Nat → Nat → Nat → Nat → Prop
  | 0 => fun _ _ _ _ _ => False
  | f + 1 => fun s n m n' m' => ∃ (κ dep : Int) (x : Nat), okS s κ = true ∧ (κ = 102 → nmO x) ∧ (κ ≠ 102 → x = 0) ∧
      WfL (WfS V (fun r n m r' n' m' => r' = r.set 1 (if n' = n then -1 else (n : Int)) ∧ WfC ρ (WfS V (fun _ _ _ _ _ _ => False) (Wf ρ V f)) 8 n m n' m') (Wf ρ V f)) (itC κ) [κ, -1, -1, -1, -1, (x : Int), 0, 0, if κ = 100 then (m : Int) else -1, 0, dep] (n + 1) (if κ = 100 then m + 1 else m) (ρ n) n' m'
/-- rows and numbers where they lie -/
def RwA (ρ : Nat → Row) (n : Nat) (l : List Row) : Prop := ∀ k, k < l.length → ρ (n + k) = l.getD k []
def NuA (V : Nat → Int) (m : Nat) (l : List Int) : Prop := ∀ k, k < l.length → V (m + k) = l.getD k 0
theorem RwA.l {ρ : Nat → Row} {n : Nat} {l l' : List Row} (h : RwA ρ n (l ++ l')) : RwA ρ n l := fun k hk => by rw [h k (by rw [List.length_append]; omega), gapp_l _ _ _ hk]
theorem RwA.r {ρ : Nat → Row} {n : Nat} {l l' : List Row} (h : RwA ρ n (l ++ l')) : RwA ρ (n + l.length) l' := fun k hk => by
  have := h (l.length + k) (by rw [List.length_append]; omega)
  rw [gapp_r _ _ _ (by omega), Nat.add_sub_cancel_left, ← Nat.add_assoc] at this
  exact this
theorem RwA.h {ρ : Nat → Row} {n : Nat} {r : Row} {l : List Row} (h : RwA ρ n (r :: l)) : ρ n = r := h 0 (Nat.succ_pos _)
theorem RwA.t {ρ : Nat → Row} {n : Nat} {r : Row} {l : List Row} (h : RwA ρ n (r :: l)) : RwA ρ (n + 1) l := fun k hk => by
  have := h (k + 1) (Nat.succ_lt_succ hk)
  rw [show n + 1 + k = n + (k + 1) by omega]
  exact this
theorem NuA.l {V : Nat → Int} {n : Nat} {l l' : List Int} (h : NuA V n (l ++ l')) : NuA V n l := fun k hk => by rw [h k (by rw [List.length_append]; omega), gapp_l _ _ _ hk]
theorem NuA.r {V : Nat → Int} {n : Nat} {l l' : List Int} (h : NuA V n (l ++ l')) : NuA V (n + l.length) l' := fun k hk => by
  have := h (l.length + k) (by rw [List.length_append]; omega)
  rw [gapp_r _ _ _ (by omega), Nat.add_sub_cancel_left, ← Nat.add_assoc] at this
  exact this
theorem NuA.h {V : Nat → Int} {n : Nat} {r : Int} {l : List Int} (h : NuA V n (r :: l)) : V n = r := h 0 (Nat.succ_pos _)
theorem NuA.t {V : Nat → Int} {n : Nat} {r : Int} {l : List Int} (h : NuA V n (r :: l)) : NuA V (n + 1) l := fun k hk => by
  have := h (k + 1) (Nat.succ_lt_succ hk)
  rw [show n + 1 + k = n + (k + 1) by omega]
  exact this
/-- names of tokens are names -/
theorem TkOk.nm {t : Nat → Nat} {N a : Nat} (h : TkOk t N a) (hk : tk (tkP t N) a = 101 ∨ tk (tkP t N) a = 102) : nmO (tx (tkP t N) a) := by
  obtain ⟨h0, h1 | h1 | h1 | h1⟩ := h
  · omega
  · obtain ⟨-, -, -, h4⟩ := h1
    (repeat' split at h4) <;> omega
  · obtain ⟨-, -, -, -, bad, h5, h6, -⟩ := h1
    have : bad = 0 ∨ bad = 1 ∨ bad = 2 := by rcases h5 with ⟨z, _⟩ | ⟨_, _, ⟨z, _⟩ | ⟨z, _⟩⟩ <;> omega
    split at h6 <;> omega
  · obtain ⟨-, -, -, -, ⟨-, h5⟩ | ⟨h5, h6, -⟩⟩ := h1
    · omega
    · rw [h6]
      refine ⟨?_, _, nvF_NmN h5⟩
      obtain ⟨g1, g2, g3, g4⟩ := h5
      exact nvF_pos (by omega) _ (by omega)
section
variable {t : Nat → Nat} {N : Nat} {ρ : Nat → Row} {V : Nat → Int}
theorem nx_le {a a' : Nat} (ha : a ≤ N) (h : nx (tkP t N) a = .ok a') : a' ≤ N := by
  unfold nx at h
  split at h
  · cases h
  · cases h; exact (TkOk_all t ha).te
theorem wn_le {a a' : Nat} {due : Int} (ha : a ≤ N) (h : wn (tkP t N) due a = .ok a') : a' ≤ N ∧ tk (tkP t N) a = due := by
  refine ⟨?_, wn_k h⟩
  unfold wn at h
  split at h
  · cases h
  · split at h
    · cases h
    · exact nx_le ha h
theorem opn_le2 : ∀ F a k a', a ≤ N → opn (tkP t N) F a = .ok (k, a') → a' ≤ N
  | 0, a, k, a', ha, h => by cases h; exact ha
  | F + 1, a, k, a', ha, h => by
    have h : (if tk (tkP t N) a = 103 then bnd (nx (tkP t N) a) fun a1 => bnd (opn (tkP t N) F a1) fun p => .ok (p.1 + 1, p.2) else if tk (tkP t N) a = 107 then .error (3, tb (tkP t N) a) else .ok (0, a)) = .ok (k, a') := h
    split at h
    · obtain ⟨a1, h1, h⟩ := bnd_inv h
      obtain ⟨p, h2, h⟩ := bnd_inv h
      cases h
      exact opn_le2 F a1 p.1 p.2 (nx_le ha h1) h2
    · split at h
      · cases h
      · cases h; exact ha
theorem shu_le : ∀ k a a', a ≤ N → shu (tkP t N) k a = .ok a' → a' ≤ N
  | 0, a, a', ha, h => by cases h; exact ha
  | k + 1, a, a', ha, h => by
    obtain ⟨a1, h1, h⟩ := bnd_inv (show bnd (wn (tkP t N) 104 a) (shu (tkP t N) k) = .ok a' from h)
    exact shu_le k a1 a' (wn_le ha h1).1 h
theorem bnds_ok : ∀ k p a a' p' ns, a ≤ N → p ≤ 4 → bnds (tkP t N) k p a = .ok (a', p', ns) → a' ≤ N ∧ p + 1 ≤ p' ∧ p' ≤ 4 ∧ ns.length = 2 * (p' - p)
  | 0, p, a, a', p', ns, ha, hp, h => by cases h
  | k + 1, p, a, a', p', ns, ha, hp, h => by
    have h : (if tk (tkP t N) a = 100 ∧ p = 4 then .error (8, tb (tkP t N) a) else bnd (wn (tkP t N) 100 a) fun a1 => if tk (tkP t N) a1 = 100 ∧ tv (tkP t N) a1 < tv (tkP t N) a then .error (6, tb (tkP t N) a1) else bnd (wn (tkP t N) 100 a1) fun a2 => if tk (tkP t N) a2 = 106 then .ok (a2, p + 1, [tv (tkP t N) a, tv (tkP t N) a1]) else bnd (bnds (tkP t N) k (p + 1) a2) fun r => .ok (r.1, r.2.1, tv (tkP t N) a :: tv (tkP t N) a1 :: r.2.2)) = .ok (a', p', ns) := h
    split at h
    · cases h
    · rename_i hn
      obtain ⟨a1, h1, h⟩ := bnd_inv h
      split at h
      · cases h
      · obtain ⟨a2, h2, h⟩ := bnd_inv h
        have w1 := wn_le ha h1
        have w2 := wn_le w1.1 h2
        have hp4 : p ≠ 4 := fun q => hn ⟨w1.2, q⟩
        split at h
        · cases h
          exact ⟨w2.1, Nat.le_refl _, by omega, by show 2 = _; omega⟩
        · obtain ⟨r, h3, h⟩ := bnd_inv h
          cases h
          have := bnds_ok k (p + 1) a2 r.1 r.2.1 r.2.2 w2.1 (by omega) h3
          exact ⟨this.1, by omega, this.2.2.1, by rw [List.length_cons, List.length_cons, this.2.2.2]; omega⟩
/-- a reader that leaves what W says -/
def PGd (t : Nat → Nat) (N : Nat) (ρ : Nat → Row) (V : Nat → Int) (P : PT) (W : Nat → Nat → Nat → Nat → Nat → Prop) : Prop := ∀ s dep n m a a' rows nums, a ≤ N → P s dep n m a = .ok (a', rows, nums) → RwA ρ n rows → NuA V m nums → W s n m (n + rows.length) (m + nums.length) ∧ a' ≤ N
def IGd (t : Nat → Nat) (N : Nat) (ρ : Nat → Row) (V : Nat → Int) (it : IT) (S : Nat → Nat → SRel) (x : Nat × Nat) : Prop := ∀ row n m a a' row' rs ns, a ≤ N → it x.1 x.2 row n m a = .ok (a', row', rs, ns) → RwA ρ n rs → NuA V m ns → S x.1 x.2 row n m row' (n + rs.length) (m + ns.length) ∧ a' ≤ N
theorem itm0_wf {P : PT} {W : Nat → Nat → Nat → Nat → Nat → Prop} {C : SRel} {dep : Nat} {x : Nat × Nat} (hP : PGd t N ρ V P W) (hx : x.1 ≠ 8) : IGd t N ρ V (itm0 (tkP t N) P dep) (WfS V C W) x := by
  intro row n m a a' row' rs ns ha h hr hn
  unfold WfS
  unfold itm0 at h
  split at h
  · rename_i h1
    obtain ⟨q, h2, h⟩ := bnd_inv h
    cases h
    have := hP _ _ _ _ _ _ _ _ ha h2 hr hn
    rw [if_pos h1]
    exact ⟨⟨rfl, this.1⟩, this.2⟩
  · rename_i h1
    rw [if_neg h1]
    split at h
    · rename_i h2
      obtain ⟨q, h3, h⟩ := bnd_inv h
      cases h
      rw [if_pos h2]
      have w := wn_le ha h3
      exact ⟨⟨⟨_, rfl, (TkOk_all t ha).nm (Or.inl w.2)⟩, rfl, rfl⟩, w.1⟩
    · rename_i h2
      rw [if_neg h2]
      split at h
      · rename_i h3
        obtain ⟨q, h4, h⟩ := bnd_inv h
        cases h
        rw [if_pos h3]
        have w := wn_le ha h4
        refine ⟨⟨?_, rfl, rfl⟩, w.1⟩
        split
        · exact Or.inr rfl
        · exact Or.inl rfl
      · rename_i h3
        rw [if_neg h3]
        split at h
        · rename_i h4
          rw [if_pos h4]
          split at h
          · rename_i h5
            obtain ⟨q, h6, h⟩ := bnd_inv h
            cases h
            have w := wn_le ha h6
            exact ⟨⟨rfl, Or.inl ⟨_, rfl, (TkOk_all t ha).nm (Or.inr w.2), rfl⟩⟩, w.1⟩
          · split at h
            · cases h
            · rename_i h5 h6
              obtain ⟨q, h7, h⟩ := bnd_inv h
              cases h
              have w := wn_le ha h7
              have hv : V m = tv (tkP t N) a := hn.h
              have h8 : 0 ≤ tv (tkP t N) a ∧ tv (tkP t N) a ≤ 1000000000000000 := Decidable.not_not.mp fun z => h6 ⟨w.2, z⟩
              exact ⟨⟨rfl, Or.inr ⟨rfl, rfl, by rw [hv]; exact h8.1, by rw [hv]; exact h8.2⟩⟩, w.1⟩
        · rename_i h4
          rw [if_neg h4]
          split at h
          · rename_i h5
            rw [if_pos h5]
            obtain ⟨q, h6, h⟩ := bnd_inv h
            obtain ⟨q2, h7, h⟩ := bnd_inv h
            cases h
            have w := bnds_ok _ _ _ _ _ _ ha (by decide) h6
            have w2 := wn_le w.1 h7
            exact ⟨⟨rfl, q.2.1, ⟨w.2.1, w.2.2.1⟩, rfl, by rw [w.2.2.2, Nat.sub_zero]⟩, w2.1⟩
          · rename_i h5
            rw [if_neg h5, if_neg hx]
            obtain ⟨q, h6, h⟩ := bnd_inv h
            cases h
            have w := wn_le ha h6
            exact ⟨⟨rfl, rfl, rfl⟩, w.1⟩
theorem its_wf {it : IT} {S : Nat → Nat → SRel} : ∀ ws : List (Nat × Nat), (∀ x ∈ ws, IGd t N ρ V it S x) → ∀ row n m a a' row' rs ns, a ≤ N → its it ws row n m a = .ok (a', row', rs, ns) → RwA ρ n rs → NuA V m ns → WfL S ws row n m row' (n + rs.length) (m + ns.length) ∧ a' ≤ N
  | [], _, row, n, m, a, a', row', rs, ns, ha, h, hr, hn => by cases h; exact ⟨⟨rfl, rfl, rfl⟩, ha⟩
  | x :: ws, hw, row, n, m, a, a', row', rs, ns, ha, h, hr, hn => by
    obtain ⟨q, h1, h⟩ := bnd_inv (show bnd (it x.1 x.2 row n m a) (fun q => bnd (its it ws q.2.1 (n + q.2.2.1.length) (m + q.2.2.2.length) q.1) fun r => .ok (r.1, r.2.1, q.2.2.1 ++ r.2.2.1, q.2.2.2 ++ r.2.2.2)) = _ from h)
    obtain ⟨r, h2, h⟩ := bnd_inv h
    cases h
    have g1 := hw x (List.mem_cons_self ..) row n m a q.1 q.2.1 q.2.2.1 q.2.2.2 ha h1 hr.l hn.l
    have g2 := its_wf ws (fun y hy => hw y (List.mem_cons_of_mem _ hy)) _ _ _ _ _ _ _ _ g1.2 h2 hr.r hn.r
    rw [List.length_append, List.length_append, ← Nat.add_assoc, ← Nat.add_assoc]
    exact ⟨⟨_, _, _, g1.1, g2.1⟩, g2.2⟩
theorem itA_8 {κ : Int} : ∀ x ∈ itA κ, x.1 ≠ 8 := by
  unfold itA
  split
  · decide
  · split <;> decide
theorem cas_wf {P : PT} {W : Nat → Nat → Nat → Nat → Nat → Prop} {C : SRel} {g dep : Nat} (hP : PGd t N ρ V P W) : ∀ k cnt n m a a' rs ns, a ≤ N → k + cnt = 9 → cas (tkP t N) g P dep k cnt n m a = .ok (a', rs, ns) → RwA ρ n rs → NuA V m ns → WfC ρ (WfS V C W) (8 - cnt) n m (n + rs.length) (m + ns.length) ∧ a' ≤ N
  | 0, cnt, n, m, a, a', rs, ns, ha, hk, h, hr, hn => by cases h
  | k + 1, cnt, n, m, a, a', rs, ns, ha, hk, h, hr, hn => by
    rw [cas] at h
    split at h
    · cases h
      refine ⟨?_, ha⟩
      cases 8 - cnt with
      | zero => exact ⟨rfl, rfl⟩
      | succ j => exact Or.inl ⟨rfl, rfl⟩
    · split at h
      · cases h
      · split at h
        · cases h
        · rename_i hc8
          obtain ⟨a1, h1, h⟩ := bnd_inv h
          split at h
          · cases h
          · split at h
            · cases h
            · rename_i h789
              obtain ⟨a2, h2, h⟩ := bnd_inv h
              obtain ⟨q, h3, h⟩ := bnd_inv h
              obtain ⟨r, h4, h⟩ := bnd_inv h
              cases h
              have i1 := nx_le ha h1
              have i2 := nx_le i1 h2
              have g1 := its_wf (t := t) (S := WfS V C W) (itA (tk (tkP t N) a1)) (fun x hx => itm0_wf hP (itA_8 x hx)) _ _ _ _ _ _ _ _ i2 h3 hr.t.l hn.l
              have hr2 := hr.t.r
              have g2 := cas_wf (C := C) hP k (cnt + 1) _ _ _ _ _ _ g1.2 (by omega) h4 hr2 hn.r
              rw [show 8 - cnt = (8 - (cnt + 1)) + 1 by omega]
              refine ⟨Or.inr ⟨tk (tkP t N) a1, _, q.2.1, n + 1 + q.2.2.1.length, m + q.2.2.2.length, Decidable.not_not.mp h789, g1.1, ?_, ?_, ?_⟩, g2.2⟩
              · rw [hr.h]
                congr 1
                rw [List.length_cons, List.length_append]
                by_cases z : r.2.1 = []
                · rw [if_pos z, if_pos (by rw [z]; show n + (q.2.2.1.length + 0 + 1) = _; omega)]
                · rw [if_neg z, if_neg]
                  intro e
                  exact z (List.eq_nil_of_length_eq_zero (by omega))
              · rw [List.length_cons, List.length_append]; omega
              · rw [List.length_cons, List.length_append, show n + (q.2.2.1.length + r.2.1.length + 1) = n + 1 + q.2.2.1.length + r.2.1.length by omega, List.length_append, ← Nat.add_assoc m]
                exact g2.1
theorem ps_wf {g F : Nat} : ∀ f, PGd t N ρ V (ps (tkP t N) g F f) (Wf ρ V f)
  | 0 => fun s dep n m a a' rows nums ha h => by cases h
  | f + 1 => by
    intro s dep n m a a' rows nums ha h hr hn
    have ih := ps_wf (g := g) (F := F) f
    rw [ps] at h
    obtain ⟨p, h1, h⟩ := bnd_inv h
    have i1 := opn_le2 F a p.1 p.2 ha h1
    split at h
    · cases h
    · split at h
      · cases h
      · rename_i hok _
        have hok := Decidable.not_not.mp hok
        obtain ⟨a2, h2, h⟩ := bnd_inv h
        obtain ⟨q, h3, h⟩ := bnd_inv h
        obtain ⟨a4, h4, h⟩ := bnd_inv h
        cases h
        have i2 := nx_le i1 h2
        obtain ⟨x, hx, hx1, hx2⟩ : ∃ x : Nat, (if tk (tkP t N) p.2 = 102 then (tx (tkP t N) p.2 : Int) else 0) = (x : Int) ∧ (tk (tkP t N) p.2 = 102 → nmO x) ∧ (tk (tkP t N) p.2 ≠ 102 → x = 0) := by
          by_cases z : tk (tkP t N) p.2 = 102
          · exact ⟨tx (tkP t N) p.2, by rw [if_pos z], fun _ => (TkOk_all t i1).nm (Or.inr z), fun w => absurd z w⟩
          · exact ⟨0, by rw [if_neg z]; rfl, fun w => absurd w z, fun _ => rfl⟩
        rw [hx] at h3
        have hnu : NuA V (if tk (tkP t N) p.2 = 100 then m + 1 else m) q.2.2.2 ∧ m + (if tk (tkP t N) p.2 = 100 then tv (tkP t N) p.2 :: q.2.2.2 else q.2.2.2).length = (if tk (tkP t N) p.2 = 100 then m + 1 else m) + q.2.2.2.length := by
          by_cases z : tk (tkP t N) p.2 = 100
          · rw [if_pos z] at hn
            rw [if_pos z, if_pos z, List.length_cons]
            exact ⟨hn.t, by omega⟩
          · rw [if_neg z] at hn
            rw [if_neg z, if_neg z]
            exact ⟨hn, rfl⟩
        have g1 := its_wf (t := t) (S := WfS V (fun r n m r' n' m' => r' = r.set 1 (if n' = n then -1 else (n : Int)) ∧ WfC ρ (WfS V (fun _ _ _ _ _ _ => False) (Wf ρ V f)) 8 n m n' m') (Wf ρ V f)) (itC (tk (tkP t N) p.2)) (fun x hx => ?_) _ _ _ _ _ _ _ _ i2 h3 hr.t hnu.1
        · refine ⟨⟨tk (tkP t N) p.2, (dep : Int), x, hok, hx1, hx2, ?_⟩, shu_le _ _ _ g1.2 h4⟩
          rw [hnu.2, hr.h, List.length_cons, show n + (q.2.2.1.length + 1) = n + 1 + q.2.2.1.length by omega]
          exact g1.1
        · by_cases z : x.1 = 8
          · intro row n m a a' row' rs ns ha h hr hn
            unfold itm at h
            rw [if_pos z] at h
            obtain ⟨c, h5, h⟩ := bnd_inv h
            obtain ⟨a6, h6, h⟩ := bnd_inv h
            cases h
            have w := cas_wf (C := fun _ _ _ _ _ _ => False) ih 9 0 _ _ _ _ _ _ ha rfl h5 hr hn
            unfold WfS
            rw [z]
            show ((row.set 1 _ = row.set 1 _) ∧ _) ∧ _
            refine ⟨⟨?_, w.1⟩, (wn_le w.2 h6).1⟩
            congr 1
            by_cases y : c.2.1 = []
            · rw [if_pos y, if_pos (by rw [y]; rfl)]
            · rw [if_neg y, if_neg]
              intro e
              exact y (List.eq_nil_of_length_eq_zero (by omega))
          · intro row n m a a' row' rs ns ha h hr hn
            unfold itm at h
            rw [if_neg z] at h
            exact itm0_wf ih z row n m a a' row' rs ns ha h hr hn
end

