/-! ===== 69e A CASE'S ITEMS ===== -/
theorem its_f {it : IT} (hf : ∀ w1 w2 row n m a a' row' rows nums, it w1 w2 row n m a = .ok (a', row', rows, nums) → ∀ j, j ∉ fldW (w1, w2) → row'.getD j 0 = row.getD j 0) : ∀ (ws : List (Nat × Nat)) (row : Row) (n m a a' : Nat) (row' : Row) (rows : List Row) (nums : List Int), its it ws row n m a = .ok (a', row', rows, nums) → ∀ j, (∀ w ∈ ws, j ∉ fldW w) → row'.getD j 0 = row.getD j 0 := by
  intro ws
  induction ws with
  | nil => intro row n m a a' row' rows nums h j _; cases h; rfl
  | cons w ws ih =>
    intro row n m a a' row' rows nums h j hj
    obtain ⟨q, h1, h2⟩ := bnd_inv (r := it w.1 w.2 row n m a) h
    obtain ⟨r, h3, h4⟩ := bnd_inv h2
    cases h4
    obtain ⟨q1, q2, q3, q4⟩ := q
    obtain ⟨r1, r2, r3, r4⟩ := r
    rw [ih _ _ _ _ _ _ _ _ h3 j fun v hv => hj v (List.mem_cons_of_mem _ hv), hf _ _ _ _ _ _ _ _ _ _ h1 j (hj w List.mem_cons_self)]
/-- the next of a case is set -/
theorem RowM.nx {I J : M32} {L : M64} {M tp pt i : Nat} {v : Int} {V : Nat → Int} {r : Row} (h : RowM I L M tp pt V i r) (hr : r.length = 11) (hJ : ∀ y, M + 6 ≤ y → y ≤ M + 18 → y ≠ M + 13 → J y i = I y i) (h3 : ∀ k, k < tp → J (M + 3) k = I (M + 3) k) (h19 : ∀ k, k < pt → J (M + 19) k = I (M + 19) k ∧ J (M + 20) k = I (M + 20) k) (hx : J (M + 13) i = cI v) : RowM J L M tp pt V i (r.set 4 v) := by
  have e18 : ∀ c, 6 ≤ c → c ≤ 18 → c ≠ 13 → J (M + c) i = I (M + c) i := fun c h h2 h3 => hJ _ (by omega) (by omega) (by omega)
  obtain ⟨⟨a1, a2, a3, a4, a5, a6, a7, a8, a9⟩, b, c, e⟩ := h
  refine ⟨⟨?_, ?_, ?_, ?_, ?_, ?_, ?_, ?_, ?_⟩, ?_, ?_, ?_⟩
  · rw [gset_ne (by decide), gset_ne (by decide), e18 _ (by decide) (by decide) (by decide)]; exact a1
  · rw [gset_ne (by decide), e18 _ (by decide) (by decide) (by decide)]; exact a2
  · rw [gset_ne (by decide), e18 _ (by decide) (by decide) (by decide)]; exact a3
  · rw [gset_ne (by decide), gset_ne (by decide), e18 _ (by decide) (by decide) (by decide)]; exact a4
  · rw [gset_eq (by rw [hr]; decide)]; exact hx
  · rw [gset_ne (by decide)]; exact a6
  · rw [gset_ne (by decide)]; exact a7
  · rw [gset_ne (by decide)]; exact a8
  · rw [gset_ne (by decide), e18 _ (by decide) (by decide) (by decide)]; exact a9
  · rw [gset_ne (by decide), gset_ne (by decide), e18 _ (by decide) (by decide) (by decide)]
    intro q
    obtain ⟨p, z1, z2⟩ := b q
    exact ⟨p, z1, z2.fx h3 (Nat.le_refl _)⟩
  · rw [gset_ne (by decide), gset_ne (by decide), gset_ne (by decide), e18 _ (by decide) (by decide) (by decide)]; exact c
  · rw [gset_ne (by decide), gset_ne (by decide), gset_ne (by decide), gset_ne (by decide), e18 _ (by decide) (by decide) (by decide)]
    intro q1 q2 q3
    obtain ⟨w, z1, z2, z3⟩ := e q1 q2 q3
    refine ⟨w, z1, z2, fun j hj => ?_⟩
    obtain ⟨⟨p, y1, y2⟩, p', y3, y4⟩ := z3 j hj
    have h5 := h19 (w + j) (Nat.lt_of_lt_of_le (Nat.add_lt_add_left hj w) z2)
    exact ⟨⟨p, by rw [h5.1]; exact y1, y2.fx h3 (Nat.le_refl _)⟩, p', by rw [h5.2]; exact y3, y4.fx h3 (Nat.le_refl _)⟩
section
variable {d M N g pk kp : Nat} {t : Nat → Nat} {I0 : M32} {L0 : M64} {R : MR} {T : SH} {Q : QT}
theorem KIt.consS {z : Int32} {it : IT} {w : Nat × Nat} {ws : List (Nat × Nat)} {nd n m a pt tp : Nat} {A : (Nat → Int) → Prop} {row : Row} {q l : List Wt} {I : M32} {L : M64} (hK : KIt d M N g pk kp t z I0 L0 R T Q (its it (w :: ws) row n m a) nd n m a pt tp A l I L)
    (hrest : ∀ a' row', it w.1 w.2 row n m a = .ok (a', row', [], []) → 0 ≤ tk (tkP t N) a' → a ≤ a' → row'.length = 11 → ∀ I' L', TS M N g pk kp t z I0 L0 n pt tp a' I' L' → PileV I' M q → I' M 43 = cI q.length → (∀ V, A V → RowM I' L' M tp pt V nd row') → (∀ nd' n' pt' tp', FA M nd' n' pt' tp' I I') → KIt d M N g pk kp t z I0 L0 R T Q (its it ws row' n m a') nd n m a' pt tp A l I' L' → Hd d M R T Q I' L') :
    KSt d M N g pk kp t z I0 L0 R T Q (it w.1 w.2 row n m a) nd n a pt tp A q I L := by
  have hres : its it (w :: ws) row n m a = bnd (it w.1 w.2 row n m a) fun q => bnd (its it ws q.2.1 (n + q.2.2.1.length) (m + q.2.2.2.length) q.1) fun r => .ok (r.1, r.2.1, q.2.2.1 ++ r.2.2.1, q.2.2.2 ++ r.2.2.2) := rfl
  rw [hres] at hK
  refine ⟨fun a' row' he h0 hae hr' I' L' h1 h3 h4 h5 h6 h7 h8 => ?_, fun c b he => hK.2 c b (by rw [he]; rfl)⟩
  rw [he] at hK
  simp only [bnd_ok] at hK
  refine hrest a' row' he h0 hae hr' I' L' h1 h3 h4 h5 h6 ⟨fun a2 row2 rows2 nums2 he2 k0 kae kr I2 L2 pt2 tp2 k1 k2 k3 k4 k5 k6 k7 k8 => ?_, fun c b he2 => hK.2 c b (by rw [show its it ws row' (n + ([] : List Row).length) (m + ([] : List Int).length) a' = .error (c, b) from he2]; rfl)⟩
  exact hK.1 a2 row2 rows2 nums2 (by rw [show its it ws row' (n + ([] : List Row).length) (m + ([] : List Int).length) a' = .ok (a2, row2, rows2, nums2) from he2]; rfl) k0 (Nat.le_trans hae kae) kr I2 L2 pt2 tp2 k1 k2 k3 k4 k5 ((h6 _ _ _ _).tr k6) (h7.tr k7) (h8.tr k8)
/-- the items of a choice: two names, bounds, what comes then -/
theorem it_choice {B : Prop} [Decidable B] {F f nd n m a pt tp dep : Nat} {A : (Nat → Int) → Prop} {row : Row} {ql l : List Wt} {I : M32} {L : M64} (hd : 5 ≤ d) (hM : MdlS M R T) (hN : N ≤ 16384) (hP : PsT d M N g pk kp t (cI (bI B)) I0 L0 R T Q F f) (hfd : 102 ≤ f + (dep + 1) ∧ dep + 1 ≤ 101) (hr : row.length = 11) (h0 : row.getD 0 0 = 6) (hPI : PI nd dep (itA 8) ql l) (hg : g ≤ nd) (hnd : nd < n) (hT : TS M N g pk kp t (cI (bI B)) I0 L0 n pt tp a I L) (hk : 0 ≤ tk (tkP t N) a) (hA : PileV I M ql) (h43 : I M 43 = cI ql.length) (hpw : PW ql) (hl : ql.length + 32 * f + (N - a) ≤ 29000) (hR : ∀ V, A V → RowM I L M tp pt V nd row) (h17 : I (M + 17) nd = cI pt) (h18 : I (M + 18) nd = cI 0)
    (hK : KIt d M N g pk kp t (cI (bI B)) I0 L0 R T Q (its (itm0 (tkP t N) (ps (tkP t N) g F f) dep) (itA 8) row n m a) nd n m a pt tp A l I L) : Hd d M R T Q I L := by
  have hit : itA 8 = [(4, 1), (4, 2), (11, 0), (12, 0), (1, 2)] := rfl
  rw [hit] at hPI hK
  match ql, hPI with
  | p1 :: p2 :: p3 :: p4 :: p5 :: q, hPI => ?_
  obtain ⟨⟨e1, e2, e3, -, -⟩, ⟨e4, e5, e6, -, -⟩, ⟨e7, e8, e9, -, -⟩, ⟨e10, e11, e12, -, -⟩, ⟨e13, e14, e15, e16, -⟩, e17⟩ := hPI
  obtain ⟨a1, a2, a3, a4⟩ := p1
  obtain ⟨a5, a6, a7, a8⟩ := p2
  obtain ⟨a9, a10, a11, a12⟩ := p3
  obtain ⟨a13, a14, a15, a16⟩ := p4
  obtain ⟨a17, a18, a19, a20⟩ := p5
  dsimp only at e1 e2 e3 e4 e5 e6 e7 e8 e9 e10 e11 e12 e13 e14 e15 e16
  have e16' := e16 (by decide)
  subst e1 e2 e3 e4 e5 e6 e7 e8 e9 e10 e11 e12 e13 e14 e15 e16' e17
  simp only [List.length_cons] at h43 hl
  refine sit_name (s := 1) hd hM (Or.inl rfl) hr (fun _ => by rw [h0]; decide) hg hnd hT hk hA h43 (fun w h => hpw w (List.mem_cons_of_mem _ h)) (by simp only [List.length_cons]; omega) hR (hK.consS fun b1 r1 he1 k1 ka1 kr1 I1 L1 hT1 hA1 h431 hR1 hF1 hK1 => ?_)
  refine sit_name (s := 2) hd hM (Or.inr (Or.inl rfl)) kr1 (fun h => absurd h (by decide)) hg hnd hT1 k1 hA1 h431 (fun w h => hpw w (List.mem_cons_of_mem _ (List.mem_cons_of_mem _ h))) (by simp only [List.length_cons]; omega) hR1 (hK1.consS fun b2 r2 he2 k2 ka2 kr2 I2 L2 hT2 hA2 h432 hR2 hF2 hK2 => ?_)
  refine sit_row (w := 11) hd hM (Or.inr rfl) kr2 hT2 k2 hA2 h432 (fun w h => hpw w (List.mem_cons_of_mem _ (List.mem_cons_of_mem _ (List.mem_cons_of_mem _ h)))) (by simp only [List.length_cons]; omega) hR2 (hK2.consS fun b3 r3 he3 k3 ka3 kr3 I3 L3 hT3 hA3 h433 hR3 hF3 hK3 => ?_)
  have g1 := itm0_f he1 0 (by decide)
  have g2 := itm0_f he2 0 (by decide)
  have g3 := itm0_f he3 0 (by decide)
  have hrow : ∀ y, M + 6 ≤ y → y ≤ M + 18 → I3 y nd = I y nd := fun y y1 y2 => by rw [(hF3 (-1) (nd + 1) 0 0).2.1 y nd y1 y2 (by omega) (by omega), (hF2 (-1) (nd + 1) 0 0).2.1 y nd y1 y2 (by omega) (by omega), (hF1 (-1) (nd + 1) 0 0).2.1 y nd y1 y2 (by omega) (by omega)]
  have hpw4 : PW ((1, (nd : Int), 2, (dep : Int) + 1) :: q) := fun w h => hpw w (List.mem_cons_of_mem _ (List.mem_cons_of_mem _ (List.mem_cons_of_mem _ (List.mem_cons_of_mem _ h))))
  refine s_bnds (aS := b3) hd hM kr3 (by rw [g3, g2, g1]; exact h0) hg hnd hN hpw4 (by simp only [List.length_cons]; omega) hR3 5 0 b3 pt tp _ [] I3 L3 _ (by decide) (by decide) hT3 k3 (fun h => absurd h.2 (by decide)) hA3 h433 ⟨⟨rfl, Nat.le_refl _, Nat.le_refl _, rfl, Nat.le_refl _⟩, by rw [hrow _ (by omega) (by omega)]; exact h17, by rw [hrow _ (by omega) (by omega)]; exact h18, fun _ _ _ => rfl, fun _ _ _ => rfl, fun _ _ j hj => absurd hj (Nat.not_lt_zero j), FA.rf, FF.rf, FLn.rf⟩ (hK3.cons hnd fun b4 r4 rows4 nums4 he4 k4 ka4 kr4 I4 L4 pt4 tp4 hT4 hp4 hA4 h434 hR4 hF4 hK4 => ?_) rfl
  have g4 := itm0_f he4
  refine tw_its (e := 32 * f) (dep := dep) (fun w1 w2 row n m a a' row' rows nums h => itm0_f h) [(1, 2)] (fun w hw => ?_) (by decide) nd r4 _ _ b4 pt4 tp4 _ ((1, (nd : Int), 2, (dep : Int) + 1) :: q) q I4 L4 kr4 (fun w hw => ?_) ⟨⟨rfl, rfl, rfl, fun _ => rfl, fun h => absurd h (by decide)⟩, rfl⟩ hg (by omega) hT4 k4 hA4 h434 hpw4 (by simp only [List.length_cons]; omega) hR4 hK4
  · obtain rfl := List.mem_singleton.mp hw
    exact it_any0 (Nat.le_refl _) hd hM hN hP hfd (by decide)
  · obtain rfl := List.mem_singleton.mp hw
    exact ⟨Or.inl rfl, Or.inr (Or.inl rfl)⟩
end

