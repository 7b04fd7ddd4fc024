/-! ===== 69b ITEMS: bounds ===== -/
/-- a choice with its bounds -/
theorem RowM.bd {I J : M32} {L L' : M64} {M tp pt tp' pt' i m p q0 : Nat} {V : Nat → Int} {r : Row} (h : RowM I L M tp pt V i r) (hr : r.length = 11) (h0 : r.getD 0 0 = 6) (hJ : ∀ y, M + 6 ≤ y → y < M + 18 → J y i = I y i) (hL : ∀ y, M + 6 ≤ y → y ≤ M + 18 → L' y i = L y i) (h18 : J (M + 18) i = cI p) (h17 : J (M + 17) i = cI q0) (hq : q0 + p ≤ pt') (hB : ∀ j, j < p → (∃ p1 : Nat, J (M + 19) (q0 + j) = cI p1 ∧ PnV J M tp' p1 (V (m + 2 * j))) ∧ (∃ p2 : Nat, J (M + 20) (q0 + j) = cI p2 ∧ PnV J M tp' p2 (V (m + 2 * j + 1)))) : RowM J L' M tp' pt' V i ((r.set 8 (m : Int)).set 9 (p : Int)) := by
  have e18 : ∀ c, 6 ≤ c → c < 18 → J (M + c) i = I (M + c) i := fun c h h2 => hJ _ (by omega) (by omega)
  have l8 : ∀ c, 6 ≤ c → c ≤ 18 → L' (M + c) i = L (M + c) i := fun c h h2 => hL _ (by omega) (by omega)
  obtain ⟨⟨a1, a2, a3, a4, a5, a6, a7, a8, a9⟩, b, c, e⟩ := h
  have g : ∀ j, j ≠ 8 → j ≠ 9 → ((r.set 8 (m : Int)).set 9 (p : Int)).getD j 0 = r.getD j 0 := fun j h1 h2 => by rw [gset_ne (Ne.symm h2), gset_ne (Ne.symm h1)]
  have g9 : ((r.set 8 (m : Int)).set 9 (p : Int)).getD 9 0 = p := gset_eq (by rw [List.length_set, hr]; decide)
  have g8 : ((r.set 8 (m : Int)).set 9 (p : Int)).getD 8 0 = m := by rw [gset_ne (by decide), gset_eq (by rw [hr]; decide)]
  refine ⟨⟨?_, ?_, ?_, fun q => ?_, ?_, ?_, ?_, ?_, ?_⟩, fun q => ?_, fun q => ?_, fun _ _ _ => ?_⟩
  · rw [g _ (by decide) (by decide), g _ (by decide) (by decide), e18 _ (by decide) (by decide)]; exact a1
  · rw [g _ (by decide) (by decide), e18 _ (by decide) (by decide)]; exact a2
  · rw [g _ (by decide) (by decide), e18 _ (by decide) (by decide)]; exact a3
  · rw [g _ (by decide) (by decide), g _ (by decide) (by decide), e18 _ (by decide) (by decide)]
    rw [g _ (by decide) (by decide)] at q
    exact a4 q
  · rw [g _ (by decide) (by decide), e18 _ (by decide) (by decide)]; exact a5
  · rw [g _ (by decide) (by decide), l8 _ (by decide) (by decide)]; exact a6
  · rw [g _ (by decide) (by decide), l8 _ (by decide) (by decide)]; exact a7
  · rw [g _ (by decide) (by decide), l8 _ (by decide) (by decide)]; exact a8
  · rw [g9]; exact h18
  · rw [g _ (by decide) (by decide), h0] at q; exact absurd q (by decide)
  · rw [g _ (by decide) (by decide), h0] at q; exact absurd q (by decide)
  · rw [g9, g8, Int.toNat_natCast, Int.toNat_natCast]
    exact ⟨q0, h17, hq, hB⟩
section
variable {d M N g pk kp : Nat} {t : Nat → Nat} {I0 : M32} {L0 : M64} {R : MR} {T : SH} {Q : QT}
/-- the state while bounds are read: since (IS, LS) -/
def BS (M nd n m aS a ptS tpS q0 p pt tp : Nat) (A : (Nat → Int) → Prop) (vals : List Int) (IS : M32) (LS : M64) (I : M32) (L : M64) : Prop :=
  (pt = q0 + p ∧ ptS ≤ pt ∧ tpS ≤ tp ∧ vals.length = 2 * p ∧ aS ≤ a) ∧ I (M + 17) nd = cI q0 ∧ I (M + 18) nd = cI p ∧ (∀ y, M + 6 ≤ y → y < M + 18 → I y nd = IS y nd) ∧ (∀ y, M + 6 ≤ y → y ≤ M + 18 → L y nd = LS y nd) ∧ (∀ V, AgV V m vals → ∀ j, j < p → (∃ p1 : Nat, I (M + 19) (q0 + j) = cI p1 ∧ PnV I M tp p1 (V (m + 2 * j))) ∧ (∃ p2 : Nat, I (M + 20) (q0 + j) = cI p2 ∧ PnV I M tp p2 (V (m + 2 * j + 1)))) ∧ FA M nd n ptS tpS IS I ∧ FF M GI IS I ∧ FLn M nd n LS L
/-- ] behind bounds -/
theorem s_bend {B : Prop} [Decidable B] {nd n m aS a pt tp ptS tpS q0 p : Nat} {w4 : Int} {A : (Nat → Int) → Prop} {row : Row} {vals : List Int} {q : List Wt} {IS I : M32} {LS L : M64} {res : ER (Nat × Row × List Row × List Int)} (hd : 5 ≤ d) (hM : MdlS M R T) (hr : row.length = 11) (hok : row.getD 0 0 = 6) (hg : g ≤ nd) (hnd : nd < n) (hT : TS M N g pk kp t (cI (bI B)) I0 L0 n pt tp a I L) (hN : N ≤ 16384) (hk : tk (tkP t N) a = 106) (hp0 : 0 < p) (hp4 : p ≤ 4) (hA : PileV I M ((12, (nd : Int), (p : Int), w4) :: q)) (h43 : I M 43 = cI (q.length + 1 : Nat)) (hw : PW q) (hl : q.length < 29000) (hR : ∀ V, A V → RowM IS LS M tpS ptS V nd row) (hB : BS M nd n m aS a ptS tpS q0 p pt tp A vals IS LS I L)
    (hK : KIt d M N g pk kp t (cI (bI B)) I0 L0 R T Q res nd n m aS ptS tpS A q IS LS) (hres : res = bnd (wn (tkP t N) 106 a) fun a' => .ok (a', (row.set 8 (m : Int)).set 9 (p : Int), [], vals)) : Hd d M R T Q I L := by
  obtain ⟨⟨t1, t2, t3, t4, t5, t6, t7, t8, t9, t10⟩, ⟨b1, b2, b3, b4, b5, b6, b7⟩, f1, f2, f3⟩ := id hT
  obtain ⟨⟨c1, c2, c3, c4, cA⟩, c5, c6, c7, c8, c9, c10, c11, c12⟩ := hB
  refine hn12 hd hM hT hA h43 (by omega) fun I1 L1 hAL => ?_
  obtain ⟨x1, x2, x3, x4, x5, x6⟩ := hT.al hAL
  obtain ⟨j1, j2, j3, j4, j5⟩ := id hAL
  refine (c_Model_readBound (d - 1 - 1) (P := B) (tp := tp) (pt := pt) (l := q) (by omega) hM j1 x6 (by rw [x1 _ (by decide) (by decide)]; exact t5) (by rw [x1 _ (by decide) (by decide)]; exact t9) (by omega) (by rw [x1 _ (by decide) (by decide)]; exact t10) (by rw [x1 _ (by decide) (by decide)]; exact t8) (by omega) hp4 j2 j3 (by omega)).mono ?_
  rintro o I' L' R' T' ⟨h1, h2, h3⟩
  refine ⟨h1, ?_, h3⟩
  rcases h2 with ⟨-, z2, z3⟩ | ⟨z1, -⟩ | ⟨z1, -⟩ | ⟨z1, -⟩
  · rw [wn_yes hk (by decide)] at hres
    obtain ⟨u1, u2, u3, u4, u5, u6, u7⟩ := hT.use (nd := -1) (L' := L') hAL z2 (by rw [z3]; exact FLn.rf) (by omega)
    have hll : ∀ y k, y ≠ M → L' y k = L y k := fun y k e => by rw [z3]; exact j5 _ _ (fun q => e q.1)
    refine hK.use hd hM (by have := TokR.le j1.1; omega) hres (by rw [List.length_set, List.length_set]; exact hr) u1 ⟨c2, c3⟩ u2 u3 (by omega) hw (fun V h9 hag => ?_) (c10.tr (u4 _ _ _ _)) (c11.tr u5) (c12.tr (u6.mo (Nat.le_refl _) (by omega)))
    refine (hR V h9).bd hr hok (q0 := q0) (fun y y1 y2 => by rw [u7 _ _ (by omega)]; exact c7 y y1 y2) (fun y y1 y2 => by rw [hll _ _ (by omega)]; exact c8 y y1 y2) (by rw [u7 _ _ (by omega)]; exact c6) (by rw [u7 _ _ (by omega)]; exact c5) (by omega) (fun j hj => ?_)
    obtain ⟨⟨p1, y1, y2⟩, p2, y3, y4⟩ := c9 V hag j hj
    exact ⟨⟨p1, by rw [u7 _ _ (by omega)]; exact y1, y2.fx (fun k _ => u7 _ _ (by omega)) (Nat.le_refl _)⟩, p2, by rw [u7 _ _ (by omega)]; exact y3, y4.fx (fun k _ => u7 _ _ (by omega)) (Nat.le_refl _)⟩
  · exact absurd ⟨hk, hp0⟩ z1
  · rw [hk] at z1; exact absurd z1 (by decide)
  · rw [hk] at z1; exact absurd z1 (by decide)
theorem s_bnds {B : Prop} [Decidable B] {nd n m aS ptS tpS q0 : Nat} {A : (Nat → Int) → Prop} {row : Row} {q : List Wt} {IS : M32} {LS : M64} (hd : 5 ≤ d) (hM : MdlS M R T) (hr : row.length = 11) (hok : row.getD 0 0 = 6) (hg : g ≤ nd) (hnd : nd < n) (hN : N ≤ 16384) (hw : PW q) (hl : q.length < 29000) (hR : ∀ V, A V → RowM IS LS M tpS ptS V nd row) :
    ∀ (k p a pt tp : Nat) (w4 : Int) (vals : List Int) (I : M32) (L : M64) (res : ER (Nat × Row × List Row × List Int)), p + k = 5 → p ≤ 4 → TS M N g pk kp t (cI (bI B)) I0 L0 n pt tp a I L → 0 ≤ tk (tkP t N) a → ¬ (tk (tkP t N) a = 106 ∧ 0 < p) → PileV I M ((12, (nd : Int), (p : Int), w4) :: q) → I M 43 = cI (q.length + 1 : Nat) → BS M nd n m aS a ptS tpS q0 p pt tp A vals IS LS I L →
    KIt d M N g pk kp t (cI (bI B)) I0 L0 R T Q res nd n m aS ptS tpS A q IS LS → (res = bnd (bnds (tkP t N) k p a) fun r => bnd (wn (tkP t N) 106 r.1) fun a' => .ok (a', (row.set 8 (m : Int)).set 9 (r.2.1 : Int), [], vals ++ r.2.2)) → Hd d M R T Q I L := by
  intro k
  induction k with
  | zero => intro p a pt tp w4 vals I L res h1 h2; omega
  | succ k ih =>
  intro p a pt tp w4 vals I L res hpk hp4 hT hk hnb hA h43 hB hK hres
  obtain ⟨⟨t1, t2, t3, t4, t5, t6, t7, t8, t9, t10⟩, ⟨b1, b2, b3, b4, b5, b6, b7⟩, f1, f2, f3⟩ := id hT
  refine hn12 hd hM hT hA h43 (by omega) fun I1 L1 hAL => ?_
  obtain ⟨x1, x2, x3, x4, x5, x6⟩ := hT.al hAL
  obtain ⟨j1, j2, j3, j4, j5⟩ := id hAL
  have hle := TokR.le j1.1
  refine (c_Model_readBound (d - 1 - 1) (P := B) (tp := tp) (pt := pt) (l := q) (by omega) hM j1 x6 (by rw [x1 _ (by decide) (by decide)]; exact t5) (by rw [x1 _ (by decide) (by decide)]; exact t9) (by omega) (by rw [x1 _ (by decide) (by decide)]; exact t10) (by rw [x1 _ (by decide) (by decide)]; exact t8) (by omega) hp4 j2 j3 (by omega)).mono ?_
  rintro o I' L' R' T' ⟨h1, h2, h3⟩
  refine ⟨h1, ?_, h3⟩
  have hbn : bnds (tkP t N) (k + 1) p a = if tk (tkP t N) a = 100 ∧ p = 4 then .error (8, tb (tkP t N) a) else bnd (wn (tkP t N) 100 a) fun a1 => if tk (tkP t N) a1 = 100 ∧ tv (tkP t N) a1 < tv (tkP t N) a then .error (6, tb (tkP t N) a1) else bnd (wn (tkP t N) 100 a1) fun a2 => if tk (tkP t N) a2 = 106 then .ok (a2, p + 1, [tv (tkP t N) a, tv (tkP t N) a1]) else bnd (bnds (tkP t N) k (p + 1) a2) fun r => .ok (r.1, r.2.1, tv (tkP t N) a :: tv (tkP t N) a1 :: r.2.2) := rfl
  rw [hbn] at hres
  rcases h2 with ⟨z1, -⟩ | ⟨-, z1, z2⟩ | ⟨z1, z2, z3⟩ | ⟨z1, z2, ⟨m1, z3, z4, z5⟩, z6, z7, z8, z9, z10, z11, z12, z13, z14, z15⟩
  · exact absurd z1 hnb
  · rw [if_neg (fun q => z1 q.1), wn_no z1] at hres
    rw [fcF_ok hk] at z2
    exact (hK.2 _ _ hres).er fc_in hT hAL z2
  · rw [if_pos ⟨z1, z2⟩] at hres
    exact (hK.2 _ _ hres).er (by decide) hT hAL z3
  · rw [if_neg (fun q => z2 q.2), wn_yes z1 (by decide)] at hres
    have j1' : TokR t N a (tb (tkP t N) a) (te (tkP t N) a) 100 (tx (tkP t N) a) (tv (tkP t N) a) := z1 ▸ j1.1
    have hlen := j1'.len z4.1
    obtain ⟨⟨c1, c2, c3, c4, cA⟩, c5, c6, c7, c8, c9, c10, c11, c12⟩ := hB
    generalize ha1 : te (tkP t N) a = a1 at *
    have hFa : FA M nd n pt tp I I' := (x3 _ _ _ _).tr ((z13 n).mo (Nat.le_refl _) (Nat.le_refl _) (Nat.le_refl _) (by omega))
    have hFa1 : ∀ n', FA M (-1) n' pt tp I I' := fun n' => (x3 _ _ _ _).tr (z13 n')
    have hFf : FF M GI I I' := (x4.mo (by decide)).tr (z14.mo (by decide))
    have hFl : FLn M nd n L L' := by rw [z15]; exact x5 _ _
    have hT1 : TS M N g pk kp t (cI (bI B)) I0 L0 n pt (tp + m1 + 2) a1 I' L' := hT.go hFa (by omega) hFf (by decide) hFl (by omega) z8 (by omega) z9 (by rw [z14 _ (by decide), x1 _ (by decide) (by decide)]; exact t7) z10 z5 (by rw [z7, x1 _ (by decide) (by decide)]; exact t10) (by omega) (by omega) (by omega)
    have hPW13 : PW ((13, (nd : Int), (p : Int), 0) :: q) := fun w h => by
      rcases List.mem_cons.mp h with rfl | h
      · show (1 : Int) ≤ 13 ∧ (13 : Int) ≤ 13; decide
      · exact hw w h
    by_cases hb1 : tk (tkP t N) a1 < 0
    · rw [if_pos hb1] at hres
      exact (hK.2 _ _ hres).bad hd hM hT1 hb1 rfl rfl z11 z12 (by simp only [List.length_cons]; omega) hPW13
    rw [if_neg hb1] at hres
    simp only [bnd_ok] at hres
    refine hn13 hd hM hT1 z11 z12 (by omega) fun I3 L3 hAL3 => ?_
    obtain ⟨⟨s1, s2, s3, s4, s5, s6, s7, s8, s9, s10⟩, ⟨e1, e2, e3, e4, e5, e6, e7⟩, g1, g2, g3⟩ := id hT1
    obtain ⟨y1, y2, y3, y4, y5, y6⟩ := hT1.al hAL3
    obtain ⟨k1, k2, k3, k4, k5⟩ := id hAL3
    have hle3 := TokR.le k1.1
    refine (c_Model_readSecond (d - 1 - 1) (P := B) (tp := tp + m1 + 2) (pt := pt) (l := q) (r0 := tp) (m0 := m1) (v0 := tv (tkP t N) a) (by omega) hM k1 y6 (by rw [y1 _ (by decide) (by decide)]; exact s5) (by rw [y1 _ (by decide) (by decide)]; exact s9) (by omega) (by rw [y1 _ (by decide) (by decide)]; exact s10) (by rw [y1 _ (by decide) (by decide)]; exact s8) (by omega) hp4 (by omega) (by rw [y2 _ _ (by omega)]; exact z6) (z4.congr fun k _ _ => y2 _ _ (by omega)) (by omega) k2 k3 (by omega)).mono ?_
    rintro o4 I4 L4 R4 T4 ⟨h4, h5, h6⟩
    refine ⟨h4, ?_, h6⟩
    rcases h5 with ⟨v1, v2⟩ | ⟨v1, v2, v3, v4, v5, v6, v7⟩ | ⟨v1, v2, ⟨m2, v3, v4, v5⟩, v6, v7, v8, v9, v10, v11, v12, v13, v14, v15, v16, v17, v18⟩
    · rw [if_neg (fun q => v1 q.1), wn_no v1] at hres
      rw [fcF_ok (by omega)] at v2
      exact (hK.2 _ _ hres).er fc_in hT1 hAL3 v2
    · rw [if_pos ⟨v1, v2⟩] at hres
      exact (hK.2 _ _ hres).1 I4 L4 ⟨v3, v4, by decide, (g1.tr (y3 _ _ _ _)).tr ((v5 g).mo (Nat.le_refl _) (by omega) (by omega) (by omega)), ((g2.mo (by decide)).tr (y4.mo (by decide))).tr (v6.mo (by decide)), by rw [v7]; exact g3.tr (y5 _ _)⟩
    · rw [if_neg (fun q => v2 q.2), wn_yes v1 (by decide)] at hres
      have k1' : TokR t N a1 (tb (tkP t N) a1) (te (tkP t N) a1) 100 (tx (tkP t N) a1) (tv (tkP t N) a1) := v1 ▸ k1.1
      have hlen2 := k1'.len v4.1
      generalize ha2 : te (tkP t N) a1 = a2 at *
      have hFa4 : FA M nd n pt (tp + m1 + 2) I' I4 := (y3 _ _ _ _).tr (v15 n)
      have hFf4 : FF M GI I' I4 := (y4.mo (by decide)).tr (v17.mo (by decide))
      have hFl4 : FLn M nd n L' L4 := by rw [v18]; exact y5 _ _
      have hT2 : TS M N g pk kp t (cI (bI B)) I0 L0 n (pt + 1) (tp + m1 + 2 + m2 + 2) a2 I4 L4 := hT1.go hFa4 (by omega) hFf4 (by decide) hFl4 (by omega) v9 (by omega) v10 (by rw [v17 _ (by decide), y1 _ (by decide) (by decide)]; exact s7) v11 v5 (by rw [v8, y1 _ (by decide) (by decide)]; exact s10) (by omega) (by omega) (by omega)
      have hPW12 : PW ((12, (nd : Int), ((p : Int) + 1), 0) :: q) := fun w h => by
        rcases List.mem_cons.mp h with rfl | h
        · show (1 : Int) ≤ 12 ∧ (12 : Int) ≤ 13; decide
        · exact hw w h
      by_cases hb2 : tk (tkP t N) a2 < 0
      · rw [if_pos hb2] at hres
        exact (hK.2 _ _ hres).bad hd hM hT2 hb2 rfl rfl v13 v14 (by simp only [List.length_cons]; omega) hPW12
      rw [if_neg hb2] at hres
      simp only [bnd_ok] at hres
      have hrow : ∀ y, M + 6 ≤ y → y < M + 18 → I4 y nd = I y nd := fun y q1 q2 => by rw [v16 y q1 q2, y2 _ _ (by omega), (hFa1 (nd + 1)).2.1 y nd q1 (by omega) (by omega) (by omega)]
      have hpool : ∀ k, k < tp → I4 (M + 3) k = I (M + 3) k := fun k hk => by rw [hFa4.2.2.2 k (by omega), hFa.2.2.2 k hk]
      have hprs : ∀ y k, M + 19 ≤ y → y ≤ M + 20 → k < pt → I4 y k = I y k := fun y k q1 q2 hk => by rw [hFa4.2.2.1 y k q1 q2 hk, hFa.2.2.1 y k q1 q2 hk]
      have hB2 : BS M nd n m aS a2 ptS tpS q0 (p + 1) (pt + 1) (tp + m1 + 2 + m2 + 2) A (vals ++ [tv (tkP t N) a, tv (tkP t N) a1]) IS LS I4 L4 := by
        refine ⟨⟨by omega, by omega, by omega, by rw [List.length_append, c4]; simp only [List.length_cons, List.length_nil]; omega, by omega⟩, by rw [hrow _ (by omega) (by omega)]; exact c5, v12, fun y q1 q2 => by rw [hrow y q1 q2]; exact c7 y q1 q2, fun y q1 q2 => ?_, fun V hag j hj => ?_, (c10.tr (hFa.mo (Nat.le_refl _) c2 c3 (by omega))).tr (hFa4.mo (Nat.le_refl _) c2 (by omega) (by omega)), (c11.tr hFf).tr hFf4, (c12.tr hFl).tr hFl4⟩
        · rw [v18, k5 _ _ (by omega), z15, j5 _ _ (by omega)]; exact c8 y q1 q2
        · by_cases ej : j = p
          · subst ej
            have ag := hag.app.2
            have g0 : V (m + vals.length + 0) = tv (tkP t N) a := ag 0 (by simp)
            have g1' : V (m + vals.length + 1) = tv (tkP t N) a1 := ag 1 (by simp)
            rw [c4] at g0 g1'
            refine ⟨⟨tp, by rw [← c1]; exact v7, m1, z3, by omega, ?_⟩, ⟨tp + m1 + 2, by rw [← c1]; exact v6, m2, v3, by omega, ?_⟩⟩
            · rw [show m + 2 * j = m + 2 * j + 0 by omega, g0]
              exact z4.congr fun k _ hk => by rw [hFa4.2.2.2 k (by omega)]
            · rw [g1']; exact v4
          · obtain ⟨⟨p1, w1, w2⟩, p2, w3, w4⟩ := c9 V hag.app.1 j (by omega)
            exact ⟨⟨p1, by rw [hprs _ _ (by omega) (by omega) (by omega)]; exact w1, w2.fx hpool (by omega)⟩, p2, by rw [hprs _ _ (by omega) (by omega) (by omega)]; exact w3, w4.fx hpool (by omega)⟩
      by_cases h106 : tk (tkP t N) a2 = 106
      · rw [if_pos h106] at hres
        simp only [bnd_ok] at hres
        exact s_bend hd hM hr hok hg hnd hT2 hN h106 (Nat.succ_pos p) (by omega) v13 v14 hw hl hR hB2 hK hres
      · rw [if_neg h106] at hres
        refine ih (p + 1) a2 (pt + 1) (tp + m1 + 2 + m2 + 2) 0 (vals ++ [tv (tkP t N) a, tv (tkP t N) a1]) I4 L4 res (by omega) (by omega) hT2 (by omega) (fun q => h106 q.1) v13 v14 hB2 hK ?_
        rw [hres]
        cases bnds (tkP t N) k (p + 1) a2 with
        | error e => rfl
        | ok r => simp only [bnd_ok, List.append_assoc]; rfl
end

