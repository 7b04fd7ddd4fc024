/-! ===== 69d ALL ITEMS OF A NODE ===== -/
theorem bnd_inv {α β : Type} {r : ER α} {f : α → ER β} {x : β} (h : bnd r f = .ok x) : ∃ y, r = .ok y ∧ f y = .ok x := by
  cases r with
  | error e => cases h
  | ok y => exact ⟨y, rfl, h⟩
theorem itm0_f {τ : TkF} {P : PT} {dep w s n m a a' : Nat} {row row' : Row} {rows : List Row} {nums : List Int} (h : itm0 τ P dep w s row n m a = .ok (a', row', rows, nums)) : ∀ j, j ∉ fldW (w, s) → row'.getD j 0 = row.getD j 0 := by
  intro j hj
  have fin : ∀ {a'' : Nat} {r : Row} {rs : List Row} {ns : List Int}, (Except.ok (a'', r, rs, ns) : ER (Nat × Row × List Row × List Int)) = .ok (a', row', rows, nums) → row' = r := fun h => by cases h; rfl
  unfold fldW at hj
  unfold itm0 at h
  dsimp only at hj
  split at h
  · next h1 =>
    rw [if_pos h1] at hj
    obtain ⟨q, -, h⟩ := bnd_inv h
    rw [fin h, gset_ne (fun e => hj (by rw [e]; exact List.mem_singleton.mpr rfl))]
  · next h1 =>
    rw [if_neg h1] at hj
    split at h
    · next h2 =>
      rw [if_pos h2] at hj
      obtain ⟨q, -, h⟩ := bnd_inv h
      rw [fin h, gset_ne (fun e => hj (by rw [e]; exact List.mem_singleton.mpr rfl))]
    · next h2 =>
      rw [if_neg h2] at hj
      split at h
      · next h3 =>
        rw [if_pos h3] at hj
        obtain ⟨q, -, h⟩ := bnd_inv h
        rw [fin h, gset_ne (fun e => hj (by rw [e]; exact List.mem_singleton.mpr rfl))]
      · next h3 =>
        rw [if_neg h3] at hj
        split at h
        · next h4 =>
          rw [if_pos h4] at hj
          split at h
          · obtain ⟨q, -, h⟩ := bnd_inv h
            rw [fin h, gset_ne (fun e => hj (by rw [← e]; decide))]
          · split at h
            · cases h
            · obtain ⟨q, -, h⟩ := bnd_inv h
              rw [fin h, gset_ne (fun e => hj (by rw [← e]; decide))]
        · next h4 =>
          rw [if_neg h4] at hj
          split at h
          · next h5 =>
            rw [if_pos h5] at hj
            obtain ⟨q, -, h⟩ := bnd_inv h
            obtain ⟨q2, -, h⟩ := bnd_inv h
            rw [fin h, gset_ne (fun e => hj (by rw [← e]; decide)), gset_ne (fun e => hj (by rw [← e]; decide))]
          · obtain ⟨q, -, h⟩ := bnd_inv h
            rw [fin h]
section
variable {d M N g pk kp : Nat} {t : Nat → Nat} {I0 : M32} {L0 : M64} {R : MR} {T : SH} {Q : QT}
/-- an item of node nd is read as it says, wherever -/
def ItA (d M N g pk kp : Nat) (t : Nat → Nat) (z : Int32) (I0 : M32) (L0 : M64) (R : MR) (T : SH) (Q : QT) (e : Nat) (it : IT) (dep : Nat) (w : Nat × Nat) : Prop :=
  ∀ (nd : Nat) (row : Row) (n m a pt tp : Nat) (A : (Nat → Int) → Prop) (p : Wt) (q : List Wt) (I : M32) (L : M64), row.length = 11 → ndR w row → (p.1 = w.1 ∧ p.2.1 = nd ∧ p.2.2.1 = w.2 ∧ (w.1 ≤ 3 → p.2.2.2 = dep + 1) ∧ (w.1 = 8 → p.2.2.2 = dep)) → g ≤ nd → nd < n → TS M N g pk kp t z I0 L0 n pt tp a I L → 0 ≤ tk (tkP t N) a → PileV I M (p :: q) → I M 43 = cI (q.length + 1 : Nat) → PW q → q.length + e + (N - a) ≤ 28999 →
    (∀ V, A V → RowM I L M tp pt V nd row) → KIt d M N g pk kp t z I0 L0 R T Q (it w.1 w.2 row n m a) nd n m a pt tp A q I L → Hd d M R T Q I L
theorem it_any0 {B : Prop} [Decidable B] {F f e dep : Nat} {w : Nat × Nat} (he : 32 * f ≤ e) (hd : 5 ≤ d) (hM : MdlS M R T) (hN : N ≤ 16384) (hP : PsT d M N g pk kp t (cI (bI B)) I0 L0 R T Q F f) (hfd : 102 ≤ f + (dep + 1) ∧ dep + 1 ≤ 101) (hw8 : w.1 ≠ 8) : ItA d M N g pk kp t (cI (bI B)) I0 L0 R T Q e (itm0 (tkP t N) (ps (tkP t N) g F f) dep) dep w := by
  intro nd row n m a pt tp A p q I L hr hnr hp hg hnd hT hk hA h43 hpw hl hR hK
  obtain ⟨w1, w2⟩ := w
  obtain ⟨p1, p2, p3, p4⟩ := p
  obtain ⟨e1, e2, e3, e4, -⟩ := hp
  dsimp only at e1 e2 e3 e4 hK hw8
  subst e1 e2 e3
  unfold ndR at hnr
  dsimp only at hnr
  split at hnr
  · next h1 =>
    have e4' := e4 h1
    subst e4'
    exact it_child hP hfd hnr.1 hnr.2 hr hg hnd hT hk hA h43 hpw (by omega) hR hK
  · split at hnr
    · next h2 =>
      subst h2
      exact sit_name hd hM hnr.1 hr hnr.2 hg hnd hT hk hA h43 hpw (by omega) hR hK.st
    · split at hnr
      · next h3 =>
        subst h3
        obtain ⟨rfl, h5, h6⟩ := hnr
        exact sit_to hd hM hr h5 h6 hg hnd hT hk hA h43 hpw (by omega) hR hK
      · split at hnr
        · next h4 =>
          subst h4
          obtain ⟨rfl, h5⟩ := hnr
          exact sit_time hd hM hr h5 hg hnd hT hN hk hA h43 hpw (by omega) hR hK
        · obtain ⟨h5, rfl⟩ := hnr
          exact sit_row hd hM h5 hr hT hk hA h43 hpw (by omega) hR hK.st
theorem tw_its {z : Int32} {e dep : Nat} {it : IT} (hf : ∀ w1 w2 row n m a a' row' rows nums, it w1 w2 row n m a = .ok (a', row', rows, nums) → ∀ j, j ∉ fldW (w1, w2) → row'.getD j 0 = row.getD j 0) :
    ∀ (ws : List (Nat × Nat)), (∀ w ∈ ws, ItA d M N g pk kp t z I0 L0 R T Q e it dep w) → sepW ws = true → ∀ (nd : Nat) (row : Row) (n m a pt tp : Nat) (A : (Nat → Int) → Prop) (ql l : List Wt) (I : M32) (L : M64), row.length = 11 → (∀ w ∈ ws, ndR w row) → PI nd dep ws ql l → g ≤ nd → nd < n → TS M N g pk kp t z I0 L0 n pt tp a I L → 0 ≤ tk (tkP t N) a → PileV I M ql → I M 43 = cI ql.length → PW ql → ql.length + e + (N - a) ≤ 29000 → (∀ V, A V → RowM I L M tp pt V nd row) →
    KIt d M N g pk kp t z I0 L0 R T Q (its it ws row n m a) nd n m a pt tp A l I L → Hd d M R T Q I L := by
  intro ws
  induction ws with
  | nil =>
    intro _ _ nd row n m a pt tp A ql l I L hr hn hPI hg hnd hT hk hA h43 hpw hl hR hK
    obtain rfl : ql = l := hPI
    exact hK.nil hr hT hk hA h43 hR
  | cons w ws ih =>
    intro hit hsep nd row n m a pt tp A ql l I L hr hn hPI hg hnd hT hk hA h43 hpw hl hR hK
    cases ql with
    | nil => exact absurd hPI (fun h => h)
    | cons p q =>
      obtain ⟨hp, hPI⟩ := hPI
      have hsep2 : (ws.all (fun v => (fldW w).all fun f => (ndF v).all fun h => f != h) && sepW ws) = true := hsep
      rw [Bool.and_eq_true] at hsep2
      simp only [List.length_cons] at h43 hl
      refine hit w List.mem_cons_self nd row n m a pt tp A p q I L hr (hn w List.mem_cons_self) hp hg hnd hT hk hA h43 (fun v h => hpw v (List.mem_cons_of_mem _ h)) (by omega) hR (hK.cons hnd fun a' row' rows nums he h0 hae hr' I' L' pt' tp' h1 h2 h3 h4 h5 h6 h7 => ?_)
      refine ih (fun v h => hit v (List.mem_cons_of_mem _ h)) hsep2.2 nd row' (n + rows.length) (m + nums.length) a' pt' tp' _ q l I' L' hr' (fun v hv => ?_) hPI hg (by omega) h1 h0 h3 h4 (fun v h => hpw v (List.mem_cons_of_mem _ h)) (by omega) h5 h7
      refine ndR_eq (hn v (List.mem_cons_of_mem _ hv)) fun j hj => hf _ _ _ _ _ _ _ _ _ _ he j fun hjw => ?_
      have h8 := List.all_eq_true.mp hsep2.1 v hv
      have h9 := List.all_eq_true.mp h8 j hjw
      have h10 := List.all_eq_true.mp h9 j hj
      simp at h10
end

