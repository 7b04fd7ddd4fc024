/-! ===== 69h THE REFERENCE READS A CONTRACT, A VALUE, AN OBSERVATION AS THE SPEC SAYS ===== -/
theorem ite_P {α : Type} {P : α → Prop} {c : Prop} [Decidable c] {a b : α} (ha : c → P a) (hb : ¬ c → P b) : P (if c then a else b) := by
  split
  · next h => exact ha h
  · next h => exact hb h
theorem itC_sep (K : Int) : sepW (itC K) = true := by
  unfold itC
  repeat (refine ite_P (P := fun l => sepW l = true) (fun _ => rfl) (fun _ => ?_))
  rfl
/-- a name, a child: what they need -/
theorem nd_name {K x y dep : Int} {j : Nat} (hj : j = 1 ∨ j = 2 ∨ j = 3) (h5 : K ≠ 5) : ndR (4, j) [K, -1, -1, -1, -1, x, 0, 0, y, 0, dep] ∧ ((4 : Nat) = 8 → j = 0) ∧ 1 ≤ 4 ∧ 4 ≤ 13 := ⟨⟨hj, fun _ => h5⟩, fun h => absurd h (by decide), by decide, by decide⟩
theorem nd_child {K x y dep : Int} {c j : Nat} (hc : c = 1 ∨ c = 2 ∨ c = 3) (hj : j = 1 ∨ j = 2 ∨ (j = 3 ∧ (K = 4 ∨ K = 22))) : ndR (c, j) [K, -1, -1, -1, -1, x, 0, 0, y, 0, dep] ∧ (c = 8 → j = 0) ∧ 1 ≤ c ∧ c ≤ 13 := by
  refine ⟨?_, fun h => by omega, by omega, by omega⟩
  unfold ndR
  rw [if_pos (show (c, j).1 ≤ 3 by show c ≤ 3; omega)]
  exact ⟨hc, hj⟩
def ndL (r : Row) (l : List (Nat × Nat)) : Prop := ∀ w ∈ l, ndR w r ∧ (w.1 = 8 → w.2 = 0) ∧ 1 ≤ w.1 ∧ w.1 ≤ 13
theorem ndL.nil {r : Row} : ndL r [] := fun v hv => by cases hv
theorem ndL.cons {r : Row} {w : Nat × Nat} {l : List (Nat × Nat)} (h : ndR w r ∧ (w.1 = 8 → w.2 = 0) ∧ 1 ≤ w.1 ∧ w.1 ≤ 13) (g : ndL r l) : ndL r (w :: l) := fun v hv => by
  rcases List.mem_cons.mp hv with rfl | hv
  · exact h
  · exact g v hv
theorem itC_nd {K x y dep : Int} (hx : K = 5 → x = 0 ∧ y = -1) : ndL [K, -1, -1, -1, -1, x, 0, 0, y, 0, dep] (itC K) := by
  unfold itC
  refine ite_P (P := ndL [K, -1, -1, -1, -1, x, 0, 0, y, 0, dep]) (fun h => ndL.cons (nd_name (by decide) (by omega)) (ndL.cons ⟨⟨rfl, h, rfl⟩, fun h => absurd h (by decide), by decide, by decide⟩ (ndL.cons (nd_name (by decide) (by omega)) (ndL.cons (nd_name (by decide) (by omega)) (ndL.cons (nd_child (by decide) (by omega)) (ndL.cons (nd_child (by decide) (by omega)) ndL.nil)))))) (fun _ => ?_)
  refine ite_P (P := ndL [K, -1, -1, -1, -1, x, 0, 0, y, 0, dep]) (fun h => ndL.cons (nd_child (by decide) (by omega)) (ndL.cons (nd_child (by decide) (by omega)) (ndL.cons (nd_child (by decide) (Or.inr (Or.inr ⟨rfl, Or.inl h⟩))) ndL.nil))) (fun _ => ?_)
  refine ite_P (P := ndL [K, -1, -1, -1, -1, x, 0, 0, y, 0, dep]) (fun h => ndL.cons ⟨⟨by decide, rfl⟩, fun h => absurd h (by decide), by decide, by decide⟩ (ndL.cons ⟨⟨rfl, h, rfl⟩, fun _ => rfl, by decide, by decide⟩ (ndL.cons ⟨⟨rfl, h, (hx h).2, (hx h).1⟩, fun h => absurd h (by decide), by decide, by decide⟩ (ndL.cons (nd_child (by decide) (by omega)) ndL.nil)))) (fun _ => ?_)
  refine ite_P (P := ndL [K, -1, -1, -1, -1, x, 0, 0, y, 0, dep]) (fun h => ndL.cons (nd_name (by decide) (by omega)) (ndL.cons (nd_child (by decide) (by omega)) (ndL.cons (nd_child (by decide) (by omega)) ndL.nil))) (fun _ => ?_)
  refine ite_P (P := ndL [K, -1, -1, -1, -1, x, 0, 0, y, 0, dep]) (fun h => ndL.cons (nd_child (by decide) (by omega)) (ndL.cons (nd_child (by decide) (by omega)) ndL.nil)) (fun _ => ?_)
  refine ite_P (P := ndL [K, -1, -1, -1, -1, x, 0, 0, y, 0, dep]) (fun h => ndL.cons (nd_name (by decide) (by omega)) (ndL.cons (nd_name (by decide) (by omega)) ndL.nil)) (fun _ => ?_)
  refine ite_P (P := ndL [K, -1, -1, -1, -1, x, 0, 0, y, 0, dep]) (fun h => ndL.cons (nd_name (by decide) (by omega)) ndL.nil) (fun _ => ?_)
  refine ite_P (P := ndL [K, -1, -1, -1, -1, x, 0, 0, y, 0, dep]) (fun h => ndL.cons (nd_child (by decide) (by omega)) ndL.nil) (fun _ => ?_)
  refine ite_P (P := ndL [K, -1, -1, -1, -1, x, 0, 0, y, 0, dep]) (fun h => ndL.cons (nd_child (by decide) (by omega)) (ndL.cons (nd_child (by decide) (by omega)) ndL.nil)) (fun _ => ?_)
  refine ite_P (P := ndL [K, -1, -1, -1, -1, x, 0, 0, y, 0, dep]) (fun h => ndL.cons (nd_child (by decide) (by omega)) (ndL.cons (nd_child (by decide) (by omega)) (ndL.cons (nd_child (by decide) (Or.inr (Or.inr ⟨rfl, Or.inr h⟩))) ndL.nil))) (fun _ => ?_)
  refine ite_P (P := ndL [K, -1, -1, -1, -1, x, 0, 0, y, 0, dep]) (fun h => ndL.cons (nd_child (by decide) (by omega)) (ndL.cons (nd_child (by decide) (by omega)) ndL.nil)) (fun _ => ?_)
  refine ite_P (P := ndL [K, -1, -1, -1, -1, x, 0, 0, y, 0, dep]) (fun h => ndL.cons (nd_child (by decide) (by omega)) ndL.nil) (fun _ => ?_)
  refine ite_P (P := ndL [K, -1, -1, -1, -1, x, 0, 0, y, 0, dep]) (fun h => ndL.cons (nd_child (by decide) (by omega)) (ndL.cons (nd_child (by decide) (by omega)) ndL.nil)) (fun _ => ?_)
  exact ndL.nil
/-- ) wanted so often -/
def fives (k : Nat) (l : List Wt) : List Wt := List.replicate k (5, -1, 0, 0) ++ l
theorem fives_len (k : Nat) (l : List Wt) : (fives k l).length = k + l.length := by unfold fives; rw [List.length_append, List.length_replicate]
theorem fives_pw {k : Nat} {l : List Wt} (h : PW l) : PW (fives k l) := fun w hw => by
  rcases List.mem_append.mp hw with h1 | h1
  · rw [(List.mem_replicate.mp h1).2]; decide
  · exact h w h1
section
variable {d M N g pk kp : Nat} {t : Nat → Nat} {I0 : M32} {L0 : M64} {R : MR} {T : SH} {Q : QT}
theorem tw_shut {z : Int32} {n pt tp : Nat} {l : List Wt} (hd : 5 ≤ d) (hM : MdlS M R T) (hpw : PW l) : ∀ (k a : Nat) (I : M32) (L : M64), TS M N g pk kp t z I0 L0 n pt tp a I L → 0 ≤ tk (tkP t N) a → PileV I M (fives k l) → I M 43 = cI (fives k l).length → k + l.length < 29000 →
    (∀ a', shu (tkP t N) k a = .ok a' → 0 ≤ tk (tkP t N) a' → a ≤ a' → ∀ I' L', TS M N g pk kp t z I0 L0 n pt tp a' I' L' → PileV I' M l → I' M 43 = cI l.length → FF M GI I I' → (∀ x k, x ≠ M → ¬ (M + 21 ≤ x ∧ x ≤ M + 24) → I' x k = I x k) → Fx (fun x k => x = M ∧ k = 16) L L' → Hd d M R T Q I' L') → (∀ c b, shu (tkP t N) k a = .error (c, b) → EK d M N g pk kp t z I0 L0 R T Q c b) → Hd d M R T Q I L := by
  intro k
  induction k with
  | zero =>
    intro a I L hT hk hA h43 hl hK hE
    exact hK a rfl hk (Nat.le_refl _) I L hT hA h43 FF.rf (fun _ _ _ _ => rfl) Fx.rf
  | succ k ih =>
    intro a I L hT hk hA h43 hl hK hE
    have hf : fives (k + 1) l = (5, -1, 0, 0) :: fives k l := rfl
    rw [hf] at hA h43
    have hlen := fives_len k l
    simp only [List.length_cons] at h43
    refine s_shut hd hM hT hk hA h43 (fives_pw hpw) (by omega) (fun a' hw h0 hae I' L' h1 h2 h3 h4 h5 h6 h7 => ?_) (fun c b hw => hE c b (by show bnd (wn (tkP t N) 104 a) (shu (tkP t N) k) = _; rw [hw]; rfl))
    refine ih a' I' L' h1 h0 h2 h3 (by omega) (fun a2 hs g0 gae I2 L2 g1 g2 g3 g4 g5 g6 => hK a2 (by show bnd (wn (tkP t N) 104 a) (shu (tkP t N) k) = _; rw [hw]; exact hs) g0 (by omega) I2 L2 g1 g2 g3 (h5.tr g4) (fun x k e1 e2 => by rw [g5 x k e1 e2, h6 x k e1]) (h7.tr g6)) (fun c b hs => hE c b (by show bnd (wn (tkP t N) 104 a) (shu (tkP t N) k) = _; rw [hw]; exact hs))
/-- what the spec does behind the opened brackets -/
def bdy (τ : TkF) (g F f s dep n m κ p2 : Nat) : ER (Nat × List Row × List Int) := if ¬ okS s (tk τ p2) then .error (4, tb τ p2) else if 100 < dep ∨ n - g = 1000 then .error (7, tb τ p2) else
    bnd (nx τ p2) fun a2 => bnd (its (itm τ g (ps τ g F f) dep) (itC (tk τ p2)) [tk τ p2, -1, -1, -1, -1, if tk τ p2 = 102 then tx τ p2 else 0, 0, 0, if tk τ p2 = 100 then (m : Int) else -1, 0, dep] (n + 1) (if tk τ p2 = 100 then m + 1 else m) a2) fun q =>
    bnd (shu τ κ q.1) fun a4 => .ok (a4, q.2.1 :: q.2.2.1, if tk τ p2 = 100 then tv τ p2 :: q.2.2.2 else q.2.2.2)
/-- the reading of a node comes to its items -/
theorem tw_node {B : Prop} [Decidable B] {F f s dep n m a a0 pt tp κ : Nat} {u sl : Int} {l : List Wt} {IS I1 I2 : M32} {LS L1 L2 : M64} (hd : 5 ≤ d) (hM : MdlS M R T) (hN : N ≤ 16384) (hP : PsT d M N g pk kp t (cI (bI B)) I0 L0 R T Q F f) (hfd : 102 ≤ f + 1 + dep ∧ dep ≤ 101) (haa : a0 ≤ a) (hT : TS M N g pk kp t (cI (bI B)) I0 L0 n pt tp a IS LS) (hk : 0 ≤ tk (tkP t N) a) (h107 : tk (tkP t N) a ≠ 107) (hAL : AL M N a t (fives κ l) IS LS I1 L1) (hpw : PW l) (hl : l.length + κ + 32 * (f + 1) + (N - a) ≤ 29000) (hu : -1 ≤ u ∧ u < n ∧ (u ≠ -1 → (g : Int) ≤ u)) (hsl : 0 ≤ sl ∧ sl ≤ 3)
    (hrd : rdQ M n g dep tp u sl s (tk (tkP t N) a) (tb (tkP t N) a) (te (tkP t N) a) (tx (tkP t N) a) (tv (tkP t N) a) (fives κ l) (I1 M 8) I1 L1 I2 L2) {JS : M32} {KS : M64} (hJ : ∀ nd' n' pt' tp', FA M nd' n' pt' tp' JS IS) (hJf : FF M GI JS IS) (hJr : ∀ x k, x ≠ M → ¬ (M + 21 ≤ x ∧ x ≤ M + 24) → IS x k = JS x k) (hJl : Fx (fun x k => x = M ∧ k = 16) KS LS)
    (hK : KPs d M N g pk kp t (cI (bI B)) I0 L0 R T Q (bdy (tkP t N) g F f s dep n m κ a) u sl n m a0 pt tp l JS KS) : Hd d M R T Q I2 L2 := by
  obtain ⟨⟨t1, t2, t3, t4, t5, t6, t7, t8, t9, t10⟩, ⟨b1, b2, b3, b4, b5, b6, b7⟩, f1, f2, f3⟩ := id hT
  obtain ⟨x1, x2, x3, x4, x5, x6⟩ := hT.al hAL
  obtain ⟨j1, j2, j3, j4, j5⟩ := id hAL
  have hle := TokR.le j1.1
  have hkd := TokR.kd j1.1
  unfold bdy at hK
  rcases hrd with ⟨z1, z2⟩ | ⟨z1, z2, z3⟩ | ⟨z1, z2, ql, tp', z3, z4, z5, z6, z7, z8, z9, z10, z11, z12, z13, z14, z15, z16, z17, z18, z19⟩
  · rw [if_pos (by rw [z1]; decide)] at hK
    rw [fcF_ok hk, if_neg h107] at z2
    exact (hK.2 _ _ rfl).er (by decide) hT hAL z2
  · rw [if_neg (fun q => q z1), if_pos z2] at hK
    exact (hK.2 _ _ rfl).er (by decide) hT hAL z3
  · rw [if_neg (fun q => q z1), if_neg z2] at hK
    unfold nx at hK
    replace z12 : Unit → _ := fun _ => z12
    replace z13 : Unit → _ := fun _ => z13
    have htp : tp ≤ tp' ∧ tp' ≤ 49152 + 3 * te (tkP t N) a := by
      by_cases e : tk (tkP t N) a = 100
      · obtain ⟨m9, w1, w2, w3, w4⟩ := z12 () e
        have j1' : TokR t N a (tb (tkP t N) a) (te (tkP t N) a) 100 (tx (tkP t N) a) (tv (tkP t N) a) := e ▸ j1.1
        have := j1'.len w4.1
        omega
      · rw [z13 () e]; omega
    have hx0 := fun (_ : Unit) => TokR.x63 j1.1
    have hT2 : TS M N g pk kp t (cI (bI B)) I0 L0 (n + 1) pt tp' (te (tkP t N) a) I2 L2 := hT.go2 (((x3 (-1) g pk kp).tr ((z15 pk).mo (by omega) (Nat.le_refl _) (by omega) (by omega)))) ((x4.mo (by decide)).tr (z16.mo (by decide))) ((x5 _ _).tr (z19.mo (by omega) (by omega))) z7 (by omega) (by rw [z16 _ (by decide), x1 _ (by decide) (by decide)]; exact t5) z9 (by rw [z16 _ (by decide), x1 _ (by decide) (by decide)]; exact t8) z11 (by rw [z14, x1 _ (by decide) (by decide)]; exact t10) (by omega) (by omega) (by omega)
    have hpwq : PW ql := PI_pw (fun w hw => (itC_nd (K := tk (tkP t N) a) (x := 0) (y := -1) (dep := 0) (fun _ => ⟨rfl, rfl⟩) w hw).2.2) (fives_pw hpw) z3
    have hflen := fives_len κ l
    by_cases hb2 : tk (tkP t N) (te (tkP t N) a) < 0
    · rw [if_pos hb2] at hK
      exact (hK.2 _ _ rfl).bad hd hM hT2 hb2 rfl rfl z4 z5 (by omega) hpwq
    rw [if_neg hb2] at hK
    simp only [bnd_ok] at hK
    generalize ha2 : te (tkP t N) a = a2 at *
    have hrow : ∀ V : Nat → Int, (tk (tkP t N) a = 100 → V m = tv (tkP t N) a) → RowM I2 L2 M tp' pt V n [tk (tkP t N) a, -1, -1, -1, -1, if tk (tkP t N) a = 102 then (tx (tkP t N) a : Int) else 0, 0, 0, if tk (tkP t N) a = 100 then (m : Int) else -1, 0, (dep : Int)] := fun V hV => by
      obtain ⟨q1, q2, q3, q4, q5, q6, q7, q8, q9, q10⟩ := z8
      refine ⟨⟨q1, q2, q3, fun _ => ?_, q5, q6, q7, q8, q10⟩, fun q => ?_, fun q => ⟨?_, fun q' => ?_⟩, fun _ _ q => absurd (show (0 : Int) < 0 from q) (by decide)⟩
      · show I2 (M + 12) n = cI (if tk (tkP t N) a = 4 ∨ tk (tkP t N) a = 22 then -1 else -1)
        rw [q4]; congr 1; split <;> rfl
      · have q' : tk (tkP t N) a = 100 := q
        obtain ⟨m9, w1, w2, w3, w4⟩ := z12 () q'
        refine ⟨tp, w3, m9, w1, by omega, ?_⟩
        show PolV I2 (M + 3) tp m9 (V (if tk (tkP t N) a = 100 then (m : Int) else -1).toNat)
        rw [if_pos q', Int.toNat_natCast, hV q']
        exact w4
      · have q' : tk (tkP t N) a = 5 := q
        show I2 (M + 16) n = cI (if (if tk (tkP t N) a = 100 then (m : Int) else -1) = -1 ∧ (if tk (tkP t N) a = 102 then (tx (tkP t N) a : Int) else 0) ≠ 0 then 1 else 0)
        rw [if_neg (show ¬ tk (tkP t N) a = 102 by omega), if_neg (fun h => absurd rfl h.2)]
        exact q9
      · have q9' : tk (tkP t N) a = 5 := q
        have q'' : (if tk (tkP t N) a = 100 then (m : Int) else -1) ≠ -1 := q'
        rw [if_neg (by omega)] at q''
        exact absurd rfl q''
    refine tw_its (e := 32 * f + 20) (dep := dep) (fun w1 w2 row n m a a' row' rows nums h => itm_f h) (itC (tk (tkP t N) a)) (fun w hw => it_any (Nat.le_refl _) hd hM hN hP (by omega) (itC_nd (K := tk (tkP t N) a) (x := 0) (y := -1) (dep := 0) (fun _ => ⟨rfl, rfl⟩) w hw).2.1) (itC_sep _) n _ (n + 1) (if tk (tkP t N) a = 100 then m + 1 else m) a2 pt tp' (fun V => tk (tkP t N) a = 100 → V m = tv (tkP t N) a) ql (fives κ l) I2 L2 rfl (fun w hw => (itC_nd (fun e5 => ⟨by rw [if_neg (by omega)], by rw [if_neg (by omega)]⟩) w hw).1) z3 b1 (by omega) hT2 (by omega) z4 z5 hpwq (by omega) hrow ⟨fun a3 row' rows1 nums1 he k0 kae kr I3 L3 pt3 tp3 k1 k2 k3 k4 k5 k6 k7 k8 => ?_, fun c b he => hK.2 c b (by rw [he]; rfl)⟩
    rw [he] at hK
    simp only [bnd_ok] at hK
    refine tw_shut hd hM hpw κ a3 I3 L3 k1 k0 k3 k4 (by omega) (fun a4 hs g0 gae I4 L4 g1 g2 g3 g4 g5 g6 => ?_) (fun c b hs => hK.2 c b (by rw [hs]; rfl))
    have hrw3 : ∀ y k', M + 6 ≤ y → y ≤ M + 18 → k' < n → I4 y k' = I2 y k' := fun y k' y1 y2 y3 => by rw [g5 y k' (by omega) (by omega), k6.2.1 y k' y1 y2 (by omega) (by omega)]
    have h38 : I4 M 38 = I2 M 38 := by rw [g4 _ (by decide), k7 _ (by decide)]
    refine hK.1 a4 (row' :: rows1) _ (by rw [hs]; rfl) g0 (by omega) I4 L4 pt3 tp3 (by rw [List.length_cons, show n + (rows1.length + 1) = n + 1 + rows1.length by omega]; exact g1) ⟨by omega, by omega⟩ g2 g3 ?_ (fun V hag => ?_) ?_ ?_ (fun e9 => ?_) (fun c1 c2 c3 y y1 y2 y3 => ?_) ?_
    · refine ⟨fun e9 => by rw [h38]; exact z10.1 e9, fun e9 => ⟨fun e8 => ?_, fun e8 => ?_, fun e8 => ?_⟩⟩
      · rw [hrw3 _ _ (by omega) (by omega) (by omega)]; exact (z10.2 e9).1 e8
      · rw [hrw3 _ _ (by omega) (by omega) (by omega)]; exact (z10.2 e9).2.1 e8
      · rw [hrw3 _ _ (by omega) (by omega) (by omega)]; exact (z10.2 e9).2.2 e8
    · have hV : (tk (tkP t N) a = 100 → V m = tv (tkP t N) a) ∧ AgV V (if tk (tkP t N) a = 100 then m + 1 else m) nums1 := by
        by_cases e : tk (tkP t N) a = 100
        · rw [if_pos e] at hag ⊢
          have := AgV.app (a := [tv (tkP t N) a]) hag
          exact ⟨fun _ => this.1 0 (Nat.succ_pos 0), this.2⟩
        · rw [if_neg e] at hag ⊢
          exact ⟨fun h => absurd h e, hag⟩
      have R3 := k5 V hV.1 hV.2
      have e3 : ∀ c, 0 < c → c ≤ 20 → ∀ k', I4 (M + c) k' = I3 (M + c) k' := fun c h1 h2 k' => g5 _ _ (by omega) (by omega)
      refine RowsM.cons (R3.1.fx (fun y y1 y2 => g5 _ _ (by omega) (by omega)) (fun y y1 y2 => g6 _ _ (by omega)) (fun k' _ => e3 3 (by decide) (by decide) k') (fun k' _ => ⟨e3 19 (by decide) (by decide) k', e3 20 (by decide) (by decide) k'⟩) (Nat.le_refl _) (Nat.le_refl _)) (R3.2.fx (fun y k' y1 y2 y3 y4 => g5 _ _ (by omega) (by omega)) (fun y k' y1 y2 y3 y4 => g6 _ _ (by omega)) (fun k' _ => e3 3 (by decide) (by decide) k') (fun k' _ => ⟨e3 19 (by decide) (by decide) k', e3 20 (by decide) (by decide) k'⟩) (Nat.le_refl _) (Nat.le_refl _))
    · have hF34 : FA M u n pt tp I3 I4 := ⟨fun y k' e => g5 y k' (by omega) (by omega), fun y k' y1 y2 _ _ => g5 y k' (by omega) (by omega), fun y k' y1 y2 _ => g5 y k' (by omega) (by omega), fun k' _ => g5 _ k' (by omega) (by omega)⟩
      exact ((((hJ u n pt tp).tr (x3 u n pt tp)).tr (z15 pt)).tr (k6.mo (by omega) (Nat.le_refl _) (by omega) (by omega))).tr hF34
    · exact ((((hJf.mo (by decide)).tr (x4.mo (by decide))).tr (z16.mo (by decide))).tr (k7.mo (by decide))).tr (g4.mo (by decide))
    · rw [h38, z17 e9, x1 _ (by decide) (by decide), hJf _ (by decide)]
    · rw [hrw3 _ _ y1 y2 (by omega), z18 c1 c2 c3 y y1 y2 y3, x2 _ _ (by omega), hJr _ _ (by omega) (by omega)]
    · exact (((((FLn.of hJl fun x k e => by omega).tr (x5 _ _)).tr z19).tr (k8.mo (by omega) (by omega))).tr (FLn.of g6 fun x k e => by omega))
end

