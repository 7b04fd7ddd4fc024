/-! ===== 69g THE REFERENCE READS NODES AS THE SPEC SAYS ===== -/
theorem itm_f {τ : TkF} {P : PT} {g dep w s n m a a' : Nat} {row row' : Row} {rows : List Row} {nums : List Int} (h : itm τ g P dep w s row n m a = .ok (a', row', rows, nums)) : ∀ j, j ∉ fldW (w, s) → row'.getD j 0 = row.getD j 0 := by
  unfold itm at h
  split at h
  · next h8 =>
    subst h8
    obtain ⟨q, -, h⟩ := bnd_inv h
    obtain ⟨q2, -, h⟩ := bnd_inv h
    intro j hj
    cases h
    exact gset_ne (fun e => hj (by rw [← e]; show 1 ∈ [1]; decide))
  · exact itm0_f h
theorem RowM.nilch {I : M32} {L : M64} {M tp pt i : Nat} {V : Nat → Int} {r : Row} (h : RowM I L M tp pt V i r) (h1 : r.getD 1 0 = -1) (hr : r.length = 11) : RowM I L M tp pt V i (r.set 1 (-1)) := by
  have e : r.set 1 (-1) = r := by
    have h2 : r[1]? = some (-1) := by
      have h3 : 1 < r.length := by omega
      rw [List.getD_eq_getElem?_getD, List.getElem?_eq_getElem h3, Option.getD_some] at h1
      rw [List.getElem?_eq_getElem h3, h1]
    apply List.ext_getElem?
    intro j
    by_cases ej : j = 1
    · subst ej; rw [List.getElem?_set_self (by omega), h2]
    · rw [List.getElem?_set_ne (fun q => ej q.symm)]
  rw [e]; exact h
section
variable {d M N g pk kp : Nat} {t : Nat → Nat} {I0 : M32} {L0 : M64} {R : MR} {T : SH} {Q : QT}
theorem it_cases {B : Prop} [Decidable B] {F f e dep : Nat} (he : 32 * f + 20 ≤ e) (hd : 5 ≤ d) (hM : MdlS M R T) (hN : N ≤ 16384) (hP : PsT d M N g pk kp t (cI (bI B)) I0 L0 R T Q F f) (hfd : 102 ≤ f + (dep + 1) ∧ dep + 1 ≤ 101) : ItA d M N g pk kp t (cI (bI B)) I0 L0 R T Q e (itm (tkP t N) g (ps (tkP t N) g F f) dep) dep (8, 0) := by
  intro nd row n m a pt tp A p q I L hr hnr hp hg hnd hT hk hA h43 hpw hl hR hK
  obtain ⟨p1, p2, p3, p4⟩ := p
  obtain ⟨e1, e2, e3, -, e5⟩ := hp
  have e5' := e5 rfl
  dsimp only at e1 e2 e3 e5' hK
  subst e1 e2 e3 e5'
  obtain ⟨-, h0, h1⟩ := hnr
  have hres : itm (tkP t N) g (ps (tkP t N) g F f) dep 8 0 row n m a = bnd (cas (tkP t N) g (ps (tkP t N) g F f) dep 9 0 n m a) fun q => bnd (wn (tkP t N) 106 q.1) fun a' => .ok (a', row.set 1 (if q.2.1 = [] then -1 else (n : Int)), q.2.1, q.2.2) := rfl
  rw [hres] at hK
  refine tw_cas hd hM hN hP (by omega) hg 9 0 nd n m a pt tp q I L (by decide) (by decide) hnd ⟨hg, hnd⟩ (fun h => absurd rfl h) hT hk hA h43 hpw (by omega) ⟨fun a' rows nums hok k0 kae I' L' pt' tp' k1 k2 k3 k4 k5 k6 k7 k8 k9 => ?_, fun c b her => hK.2 c b ?_⟩
  · obtain ⟨r, w1, w2⟩ := bnd_inv hok
    obtain ⟨a'', w3, w4⟩ := bnd_inv w2
    cases w4
    obtain ⟨r1, r2, r3⟩ := r
    dsimp only at *
    refine hK.1 _ (row.set 1 (if r2 = [] then -1 else (n : Int))) r2 r3 (by rw [w1]; simp only [bnd_ok]; rw [w3]; rfl) k0 kae (by rw [List.length_set]; exact hr) I' L' pt' tp' k1 k2 k3 k4 (fun V hA hag => ⟨?_, k6 V hag⟩) ⟨k7.1, fun y k' y1 y2 y3 y4 => k7.2.1 y k' y1 y2 y3 (fun q => absurd (by omega) y4) (fun q => absurd (by omega) y4), k7.2.2.1, k7.2.2.2⟩ k8 (k9.mo (Nat.le_refl _) (by omega))
    have hL : ∀ y, M + 6 ≤ y → y ≤ M + 18 → L' y nd = L y nd := fun y y1 y2 => k9.2.2 y nd y1 y2 hnd (by omega)
    have h19 : ∀ k, k < pt → I' (M + 19) k = I (M + 19) k ∧ I' (M + 20) k = I (M + 20) k := fun k hk => ⟨k7.2.2.1 _ _ (by omega) (by omega) hk, k7.2.2.1 _ _ (by omega) (by omega) hk⟩
    obtain ⟨⟨a1, a2, a3, a4, a5, a6, a7, a8, a9⟩, b, c, e⟩ := hR V hA
    have hrw : ∀ c, 6 ≤ c → c ≤ 18 → c ≠ 12 → c ≠ 10 → I' (M + c) nd = I (M + c) nd := fun c h1 h2 h3 h4 => k7.2.1 _ _ (by omega) (by omega) hnd (fun _ => ⟨by omega, fun q => by omega⟩) (fun _ q => Or.inl rfl)
    have h10 : I' (M + 10) nd = cI (if r2 = [] then -1 else (n : Int)) := by
      by_cases er : r2 = []
      · rw [if_pos er, k7.2.1 (M + 10) nd (by omega) (by omega) hnd (fun _ => ⟨by omega, fun _ => Or.inr (by rw [er]; rfl)⟩) (fun _ q => Or.inl rfl), a2, h1]
      · rw [if_neg er]; exact (k5 er).1 rfl
    refine ⟨⟨?_, ?_, ?_, fun q => ?_, ?_, ?_, ?_, ?_, ?_⟩, fun q => ?_, fun q => ?_, fun q => ?_⟩
    · rw [gset_ne (by decide), gset_ne (by decide), hrw _ (by decide) (by decide) (by decide) (by decide)]; exact a1
    · rw [gset_eq (by rw [hr]; decide)]; exact h10
    · rw [gset_ne (by decide), hrw _ (by decide) (by decide) (by decide) (by decide)]; exact a3
    · rw [gset_ne (by decide), h0] at q; exact absurd rfl q
    · rw [gset_ne (by decide), hrw _ (by decide) (by decide) (by decide) (by decide)]; exact a5
    · rw [gset_ne (by decide), hL _ (Nat.add_le_add_left (by decide) _) (Nat.add_le_add_left (by decide) _)]; exact a6
    · rw [gset_ne (by decide), hL _ (Nat.add_le_add_left (by decide) _) (Nat.add_le_add_left (by decide) _)]; exact a7
    · rw [gset_ne (by decide), hL _ (Nat.add_le_add_left (by decide) _) (Nat.add_le_add_left (by decide) _)]; exact a8
    · rw [gset_ne (by decide), hrw _ (by decide) (by decide) (by decide) (by decide)]; exact a9
    · rw [gset_ne (by decide), h0] at q; exact absurd q (by decide)
    · rw [gset_ne (by decide), gset_ne (by decide), hrw _ (by decide) (by decide) (by decide) (by decide), hL _ (Nat.add_le_add_left (by decide) _) (Nat.add_le_add_left (by decide) _)]; exact c h0
    · rw [gset_ne (by decide), h0] at q; exact absurd q (by decide)
  · cases hc : cas (tkP t N) g (ps (tkP t N) g F f) dep 9 0 n m a with
    | error x => rw [hc] at her; simp only [bnd_er] at her ⊢; cases her; rfl
    | ok r =>
      rw [hc] at her
      simp only [bnd_ok] at her ⊢
      cases hwn : wn (tkP t N) 106 r.1 with
      | error x => rw [hwn] at her; simp only [bnd_er] at her ⊢; cases her; rfl
      | ok x => rw [hwn] at her; cases her
theorem it_any {B : Prop} [Decidable B] {F f e dep : Nat} {w : Nat × Nat} (he : 32 * f + 20 ≤ e) (hd : 5 ≤ d) (hM : MdlS M R T) (hN : N ≤ 16384) (hP : PsT d M N g pk kp t (cI (bI B)) I0 L0 R T Q F f) (hfd : 102 ≤ f + (dep + 1) ∧ dep + 1 ≤ 101) (hw : w.1 = 8 → w.2 = 0) : ItA d M N g pk kp t (cI (bI B)) I0 L0 R T Q e (itm (tkP t N) g (ps (tkP t N) g F f) dep) dep w := by
  by_cases h8 : w.1 = 8
  · obtain ⟨w1, w2⟩ := w
    have h9 := hw h8
    dsimp only at h8 h9
    subst h8 h9
    exact it_cases he hd hM hN hP hfd
  · intro nd row n m a pt tp A p q I L hr hnr hp hg hnd hT hk hA h43 hpw hl hR hK
    have hres : itm (tkP t N) g (ps (tkP t N) g F f) dep w.1 w.2 row n m a = itm0 (tkP t N) (ps (tkP t N) g F f) dep w.1 w.2 row n m a := by
      unfold itm
      rw [if_neg h8]
    rw [hres] at hK
    exact it_any0 (Nat.le_refl (32 * f)) hd hM hN hP hfd h8 nd row n m a pt tp A p q I L hr hnr hp hg hnd hT hk hA h43 hpw (by omega) hR hK
end

