/-! ===== 69a ITEMS: to or into, times ===== -/
theorem TokR.len {t : Nat → Nat} {N a b e x m : Nat} {v : Int} (h : TokR t N a b e 100 x v) (hm : ND v.natAbs m) : m + 2 ≤ 3 * (e - a) ∧ a < e := by
  obtain ⟨h1, h2, h3, h4⟩ := h.num
  have hle := h.le
  generalize hf : (if t b = 45 then b + 1 else b) = f at *
  have hfb : b ≤ f := by rw [← hf]; split <;> omega
  have hv : v.natAbs = dvF t f (e - f) := by rw [h4]; split <;> omega
  have hlt : v.natAbs < 10 ^ (e - f) := by rw [hv]; exact dvF_lt _ fun j hj => h2 (f + j) (by omega) (by omega)
  have : m ≤ e - f := by
    rcases Nat.eq_zero_or_pos m with q | q
    · omega
    · have h5 := Nat.lt_of_le_of_lt (hm.2 q) hlt
      have h6 := (Nat.pow_lt_pow_iff_right (show 1 < 10 by decide)).mp h5
      omega
  omega
theorem RowM.k3 {I J : M32} {L L' : M64} {M tp pt i : Nat} {v : Int} {V : Nat → Int} {r : Row} (h : RowM I L M tp pt V i r) (hr : r.length = 11) (h0 : r.getD 0 0 = 1) (hJ : ∀ a k, a ≠ M → a ≠ M + 6 → J a k = I a k) (hL : ∀ a k, a ≠ M → L' a k = L a k) (hx : J (M + 6) i = cI (kdM 1 v)) : RowM J L' M tp pt V i (r.set 3 v) := by
  have e18 : ∀ a, M + 6 < a → ∀ k, J a k = I a k := fun a h k => hJ a k (by omega) (by omega)
  have e3 : ∀ k, J (M + 3) k = I (M + 3) k := fun k => hJ _ k (by omega) (by omega)
  have l7 : ∀ a, M + 6 < a → L' a i = L a i := fun a h => hL a i (by omega)
  obtain ⟨⟨a1, a2, a3, a4, a5, a6, a7, a8, a9⟩, b, c, e⟩ := h
  refine ⟨⟨?_, ?_, ?_, fun _ => ?_, ?_, ?_, ?_, ?_, ?_⟩, fun q => ?_, fun q => ?_, fun q => ?_⟩
  · rw [gset_ne (by decide), gset_eq (by rw [hr]; decide), h0]; exact hx
  · rw [gset_ne (by decide), e18 _ (Nat.add_lt_add_left (by decide) _)]; exact a2
  · rw [gset_ne (by decide), e18 _ (Nat.add_lt_add_left (by decide) _)]; exact a3
  · rw [gset_ne (by decide), e18 _ (Nat.add_lt_add_left (by decide) _), a4 (by rw [h0]; decide), h0]; rfl
  · rw [gset_ne (by decide), e18 _ (Nat.add_lt_add_left (by decide) _)]; exact a5
  · rw [gset_ne (by decide), l7 _ (Nat.add_lt_add_left (by decide) _)]; exact a6
  · rw [gset_ne (by decide), l7 _ (Nat.add_lt_add_left (by decide) _)]; exact a7
  · rw [gset_ne (by decide), l7 _ (Nat.add_lt_add_left (by decide) _)]; exact a8
  · rw [gset_ne (by decide), e18 _ (Nat.add_lt_add_left (by decide) _)]; exact a9
  · rw [gset_ne (by decide), h0] at q; exact absurd q (by decide)
  · rw [gset_ne (by decide), h0] at q; exact absurd q (by decide)
  · rw [gset_ne (by decide), h0] at q; exact absurd q (by decide)
theorem RowM.tm1 {I J : M32} {L L' : M64} {M tp pt i x : Nat} {V : Nat → Int} {r : Row} (h : RowM I L M tp pt V i r) (hr : r.length = 11) (h0 : r.getD 0 0 = 5) (h8 : r.getD 8 0 = -1) (hx0 : 0 < x) (hJ : ∀ a k, a ≠ M → ¬ (a = M + 16 ∧ k = i) → J a k = I a k) (hL : ∀ a k, a ≠ M → ¬ (a = M + 7 ∧ k = i) → L' a k = L a k) (hx : L' (M + 7) i = cL x) (h16 : J (M + 16) i = cI 1) : RowM J L' M tp pt V i (r.set 5 (x : Int)) := by
  have e18 : ∀ a, M < a → a ≠ M + 16 → J a i = I a i := fun a h h2 => hJ a i (by omega) (fun q => h2 q.1)
  have l8 : ∀ a, M + 7 < a → L' a i = L a i := fun a h => hL a i (by omega) (fun q => by omega)
  obtain ⟨⟨a1, a2, a3, a4, a5, a6, a7, a8, a9⟩, b, c, e⟩ := h
  refine ⟨⟨?_, ?_, ?_, fun q => ?_, ?_, ?_, ?_, ?_, ?_⟩, fun q => ?_, fun q => ⟨?_, fun q2 => ?_⟩, fun q => ?_⟩
  · rw [gset_ne (by decide), gset_ne (by decide), e18 _ (Nat.lt_add_of_pos_right (by decide)) (fun q => absurd (Nat.add_left_cancel q) (by decide))]; exact a1
  · rw [gset_ne (by decide), e18 _ (Nat.lt_add_of_pos_right (by decide)) (fun q => absurd (Nat.add_left_cancel q) (by decide))]; exact a2
  · rw [gset_ne (by decide), e18 _ (Nat.lt_add_of_pos_right (by decide)) (fun q => absurd (Nat.add_left_cancel q) (by decide))]; exact a3
  · rw [gset_ne (by decide), h0] at q; exact absurd rfl q
  · rw [gset_ne (by decide), e18 _ (Nat.lt_add_of_pos_right (by decide)) (fun q => absurd (Nat.add_left_cancel q) (by decide))]; exact a5
  · rw [gset_eq (by rw [hr]; decide)]; exact hx
  · rw [gset_ne (by decide), l8 _ (Nat.add_lt_add_left (by decide) _)]; exact a7
  · rw [gset_ne (by decide), l8 _ (Nat.add_lt_add_left (by decide) _)]; exact a8
  · rw [gset_ne (by decide), e18 _ (Nat.lt_add_of_pos_right (by decide)) (fun q => absurd (Nat.add_left_cancel q) (by decide))]; exact a9
  · rw [gset_ne (by decide), h0] at q; exact absurd q (by decide)
  · rw [gset_ne (by decide), gset_eq (by rw [hr]; decide), h8, if_pos ⟨rfl, fun q => absurd (Int.ofNat.inj q) (Nat.ne_of_gt hx0)⟩]; exact h16
  · rw [gset_ne (by decide), h8] at q2; exact absurd rfl q2
  · rw [gset_ne (by decide), h0] at q; exact absurd q (by decide)
theorem RowM.tm2 {I J : M32} {L L' : M64} {M tp pt i m : Nat} {v : Int} {V : Nat → Int} {r : Row} (h : RowM I L M tp pt V i r) (hr : r.length = 11) (h0 : r.getD 0 0 = 5) (h5 : r.getD 5 0 = 0) (hv : V m = v) (hv2 : 0 ≤ v ∧ v ≤ 1000000000000000) (hJ : ∀ a k, M + 6 ≤ a → J a k = I a k) (hL : ∀ a k, a ≠ M → ¬ (a = M + 15 ∧ k = i) → L' a k = L a k) (hx : L' (M + 15) i = cL v) : RowM J L' M tp pt V i (r.set 8 (m : Int)) := by
  have e18 : ∀ c, 6 ≤ c → J (M + c) i = I (M + c) i := fun c h => hJ _ i (by omega)
  have l8 : ∀ c, 0 < c → c ≠ 15 → L' (M + c) i = L (M + c) i := fun c h h2 => hL _ i (by omega) (fun q => by omega)
  obtain ⟨⟨a1, a2, a3, a4, a5, a6, a7, a8, a9⟩, b, c, e⟩ := h
  refine ⟨⟨?_, ?_, ?_, fun q => ?_, ?_, ?_, ?_, ?_, ?_⟩, fun q => ?_, fun q => ⟨?_, fun q2 => ?_⟩, fun q => ?_⟩
  · rw [gset_ne (by decide), gset_ne (by decide), e18 _ (by decide)]; exact a1
  · rw [gset_ne (by decide), e18 _ (by decide)]; exact a2
  · rw [gset_ne (by decide), e18 _ (by decide)]; exact a3
  · rw [gset_ne (by decide), h0] at q; exact absurd rfl q
  · rw [gset_ne (by decide), e18 _ (by decide)]; exact a5
  · rw [gset_ne (by decide), l8 _ (by decide) (by decide)]; exact a6
  · rw [gset_ne (by decide), l8 _ (by decide) (by decide)]; exact a7
  · rw [gset_ne (by decide), l8 _ (by decide) (by decide)]; exact a8
  · rw [gset_ne (by decide), e18 _ (by decide)]; exact a9
  · rw [gset_ne (by decide), h0] at q; exact absurd q (by decide)
  · have h16 := (c h0).1
    rw [h5] at h16
    rw [if_neg (fun q => absurd rfl q.2)] at h16
    rw [gset_eq (by rw [hr]; decide), gset_ne (by decide), h5, if_neg (fun q => absurd rfl q.2), e18 _ (by decide)]
    exact h16
  · rw [gset_eq (by rw [hr]; decide), Int.toNat_natCast, hv]; exact ⟨hx, hv2⟩
  · rw [gset_ne (by decide), h0] at q; exact absurd q (by decide)
section
variable {d M N g pk kp : Nat} {t : Nat → Nat} {I0 : M32} {L0 : M64} {R : MR} {T : SH} {Q : QT}
/-- to or into -/
theorem sit_to {z : Int32} {P : PT} {nd n m a pt tp dep : Nat} {w3 w4 : Int} {A : (Nat → Int) → Prop} {row : Row} {q : List Wt} {I : M32} {L : M64} (hd : 5 ≤ d) (hM : MdlS M R T) (hr : row.length = 11) (hok : row.getD 0 0 = 1) (hok3 : row.getD 3 0 = -1) (hg : g ≤ nd) (hnd : nd < n) (hT : TS M N g pk kp t z I0 L0 n pt tp a I L) (hk : 0 ≤ tk (tkP t N) a) (hA : PileV I M ((6, (nd : Int), w3, w4) :: q)) (h43 : I M 43 = cI (q.length + 1 : Nat)) (hw : PW q) (hl : q.length < 29000) (hR : ∀ V, A V → RowM I L M tp pt V nd row) (hK : KIt d M N g pk kp t z I0 L0 R T Q (itm0 (tkP t N) P dep 6 0 row n m a) nd n m a pt tp A q I L) : Hd d M R T Q I L := by
  obtain ⟨⟨t1, t2, t3, t4, t5, t6, t7, t8, t9, t10⟩, ⟨b1, b2, b3, b4, b5, b6, b7⟩, f1, f2⟩ := id hT
  refine hn0 hd hM (by omega) hT hA h43 (by omega) fun I1 L1 hAL => ?_
  obtain ⟨x1, x2, x3, x4, x5, x6⟩ := hT.al hAL
  obtain ⟨j1, j2, j3, j4, j5⟩ := id hAL
  have hle := TokR.le j1.1
  refine (c_Model_readSign (d - 1 - 1) (n := nd) (by omega) hM j1 (fun _ => rfl) (by omega) (by omega) (by rw [x1 _ (by decide) (by decide)]; exact t5)).mono ?_
  rintro o I' L' R' T' ⟨h1, h2, h3⟩
  refine ⟨h1, ?_, h3⟩
  have hres : itm0 (tkP t N) P dep 6 0 row n m a = bnd (wn (tkP t N) (if tk (tkP t N) a = 3 then 3 else 2) a) fun a' => .ok (a', row.set 3 (if tk (tkP t N) a = 3 then 1 else 0), [], []) := rfl
  rw [hres] at hK
  rw [if_neg (by decide), if_pos rfl, if_neg (by decide), if_pos rfl] at h2
  rcases h2 with ⟨z1, z2⟩ | ⟨z1, z2, z3⟩
  · rw [fcF_ok hk] at z2
    rw [if_neg z1.2, wn_no z1.1] at hK
    exact (hK.2 _ _ rfl).er fc_in hT hAL z2
  · have hwy : tk (tkP t N) a = if tk (tkP t N) a = 3 then 3 else 2 := by split <;> omega
    rw [wn_yes hwy (by split <;> decide)] at hK
    have hI6 : Fx (fun x k => (x = M ∧ k = 12) ∨ (x = M + 6 ∧ k = nd)) I1 I' := by
      rw [z2]
      split
      · exact (Fx.up (Or.inr ⟨rfl, rfl⟩)).tu (Or.inl ⟨rfl, rfl⟩)
      · exact Fx.up (Or.inl ⟨rfl, rfl⟩)
    have hIf : FF M [12] I1 I' := FF.of hI6 fun k e => by obtain rfl : k = 12 := (by omega); decide
    have hFa : FA M nd n pt tp I I' := (x3 _ _ _ _).tr (FA.of hI6 (fun x k e => by omega) (fun x k e => by omega) (fun x k e => by omega) (fun k e => by omega))
    have hFf : FF M GI I I' := (x4.mo (by decide)).tr (hIf.mo (by decide))
    have hFl : FLn M nd n L L' := by rw [z3]; exact x5 _ _
    have h12 : I' M 12 = cI (te (tkP t N) a) := by rw [z2, up2_s]
    refine hK.use hd hM (by omega) rfl (by rw [List.length_set]; exact hr) (pt' := pt) (tp' := tp) (hT.go hFa (by omega) hFf (by decide) hFl (by omega) h12 (by omega) (by rw [hIf _ (by decide), x1 _ (by decide) (by decide)]; exact t5) (by rw [hIf _ (by decide), x1 _ (by decide) (by decide)]; exact t7) (by rw [hIf _ (by decide), x1 _ (by decide) (by decide)]; exact t8) (by rw [hIf _ (by decide), x1 _ (by decide) (by decide)]; exact t9) (by rw [hIf _ (by decide), x1 _ (by decide) (by decide)]; exact t10) (by omega) (by omega) (by omega)) ⟨Nat.le_refl _, Nat.le_refl _⟩ (j2.fx fun x k _ _ _ => hI6 _ _ (by omega)) (by rw [hIf _ (by decide)]; exact j3) (by omega) hw (fun V h9 _ => ?_) hFa hFf hFl
    refine (hR V h9).k3 hr hok (fun x k e1 e2 => by rw [hI6 _ _ (by omega), x2 _ _ e1]) (fun x k e1 => by rw [z3]; exact j5 _ _ (by omega)) ?_
    by_cases e3 : tk (tkP t N) a = 3
    · rw [z2, if_pos ⟨rfl, e3⟩, up2_a _ _ _ (by omega), up2_s, if_pos e3]; rfl
    · have h6 := (hR V h9).1.1
      rw [hok, hok3] at h6
      rw [if_neg e3, z2, if_neg (fun q => e3 q.2), up2_a _ _ _ (by omega), x2 _ _ (by omega), h6]
      rfl
/-- the time of a when -/
theorem sit_time {B : Prop} [Decidable B] {P : PT} {nd n m a pt tp dep : Nat} {w3 w4 : Int} {A : (Nat → Int) → Prop} {row : Row} {q : List Wt} {I : M32} {L : M64} (hd : 5 ≤ d) (hM : MdlS M R T) (hr : row.length = 11) (hok : row.getD 0 0 = 5 ∧ row.getD 8 0 = -1 ∧ row.getD 5 0 = 0) (hg : g ≤ nd) (hnd : nd < n) (hT : TS M N g pk kp t (cI (bI B)) I0 L0 n pt tp a I L) (hN : N ≤ 16384) (hk : 0 ≤ tk (tkP t N) a) (hA : PileV I M ((9, (nd : Int), w3, w4) :: q)) (h43 : I M 43 = cI (q.length + 1 : Nat)) (hw : PW q) (hl : q.length < 29000) (hR : ∀ V, A V → RowM I L M tp pt V nd row) (hK : KIt d M N g pk kp t (cI (bI B)) I0 L0 R T Q (itm0 (tkP t N) P dep 9 0 row n m a) nd n m a pt tp A q I L) : Hd d M R T Q I L := by
  obtain ⟨⟨t1, t2, t3, t4, t5, t6, t7, t8, t9, t10⟩, ⟨b1, b2, b3, b4, b5, b6, b7⟩, f1, f2, f3⟩ := id hT
  refine hn9 hd hM hT hA h43 (by omega) fun I1 L1 hAL => ?_
  obtain ⟨x1, x2, x3, x4, x5, x6⟩ := hT.al hAL
  obtain ⟨j1, j2, j3, j4, j5⟩ := id hAL
  have hle := TokR.le j1.1
  have hx63 := fun (_ : Unit) => TokR.x63 j1.1
  refine (c_Model_readTime (d - 1 - 1) (P := B) (tp := tp) (by omega) hM j1 x6 (by omega) (by rw [x1 _ (by decide) (by decide)]; exact t5) (by rw [x1 _ (by decide) (by decide)]; exact t9) (by omega) (by rw [x1 _ (by decide) (by decide)]; exact t10)).mono ?_
  rintro o I' L' R' T' ⟨h1, h2, h3⟩
  refine ⟨h1, ?_, h3⟩
  have hres : itm0 (tkP t N) P dep 9 0 row n m a = (if tk (tkP t N) a = 102 then bnd (wn (tkP t N) 102 a) fun a' => .ok (a', row.set 5 (tx (tkP t N) a), [], []) else if tk (tkP t N) a = 100 ∧ ¬ (0 ≤ tv (tkP t N) a ∧ tv (tkP t N) a ≤ 1000000000000000) then .error (5, tb (tkP t N) a) else bnd (wn (tkP t N) 100 a) fun a' => .ok (a', row.set 8 m, [], [tv (tkP t N) a])) := rfl
  rw [hres] at hK
  rcases h2 with ⟨z1, z2, z3⟩ | ⟨z1, z2, z3⟩ | ⟨z1, z2, z3, z4, z5, z6⟩ | ⟨z1, z2, z3, z4, z5, z6, z7, z8⟩
  · rw [if_pos z1, wn_yes z1 (by decide)] at hK
    have hI6 : Fx (fun x k => (x = M ∧ k = 12) ∨ (x = M + 16 ∧ k = nd)) I1 I' := by rw [z2]; exact (Fx.up (Or.inr ⟨rfl, rfl⟩)).tu (Or.inl ⟨rfl, rfl⟩)
    have hL6 : Fx (fun x k => x = M + 7 ∧ k = nd) L1 L' := by rw [z3]; exact Fx.up ⟨rfl, rfl⟩
    have hIf : FF M [12] I1 I' := FF.of hI6 fun k e => by obtain rfl : k = 12 := (by omega); decide
    have hFa : FA M nd n pt tp I I' := (x3 _ _ _ _).tr (FA.of hI6 (fun x k e => by omega) (fun x k e => by omega) (fun x k e => by omega) (fun k e => by omega))
    have hFf : FF M GI I I' := (x4.mo (by decide)).tr (hIf.mo (by decide))
    have hFl : FLn M nd n L L' := (x5 _ _).tr (FLn.of hL6 fun x k e => by omega)
    refine hK.use hd hM (by omega) rfl (by rw [List.length_set]; exact hr) (pt' := pt) (tp' := tp) (hT.go hFa (by omega) hFf (by decide) hFl (by omega) (by rw [z2, up2_s]) (by omega) (by rw [hIf _ (by decide), x1 _ (by decide) (by decide)]; exact t5) (by rw [hIf _ (by decide), x1 _ (by decide) (by decide)]; exact t7) (by rw [hIf _ (by decide), x1 _ (by decide) (by decide)]; exact t8) (by rw [hIf _ (by decide), x1 _ (by decide) (by decide)]; exact t9) (by rw [hIf _ (by decide), x1 _ (by decide) (by decide)]; exact t10) (by omega) (by omega) (by omega)) ⟨Nat.le_refl _, Nat.le_refl _⟩ (j2.fx fun x k _ _ _ => hI6 _ _ (by omega)) (by rw [hIf _ (by decide)]; exact j3) (by omega) hw (fun V h9 _ => ?_) hFa hFf hFl
    exact (hR V h9).tm1 hr hok.1 hok.2.1 (hx63 () (Or.inr (Or.inr z1))).2 (fun x k e1 e2 => by rw [hI6 _ _ (by omega), x2 _ _ e1]) (fun x k e1 e2 => by rw [hL6 _ _ e2]; exact j5 _ _ (by omega)) (by rw [z3, up2_s]) (by rw [z2, up2_a _ _ _ (by omega), up2_s])
  · rw [if_neg z1, if_neg (fun q => z2 q.1), wn_no z2] at hK
    rw [fcF_ok hk] at z3
    exact (hK.2 _ _ rfl).er fc_in hT hAL z3
  · rw [if_neg (by omega), if_pos ⟨z1, z2⟩] at hK
    exact (hK.2 _ _ rfl).1 I' L' ⟨z3, z4, by decide, (f1.tr (x3 _ _ _ _)).tr (FA.of z5 (fun x k e => by omega) (fun x k e => by omega) (fun x k e => by omega) (fun k e => by omega)), ((f2.mo (by decide)).tr (x4.mo (by decide))).tr (FF.of z5 fun k e => by rcases (show k = 7 ∨ k = 8 ∨ k = 12 ∨ k = 17 ∨ k = 18 by omega) with rfl | rfl | rfl | rfl | rfl <;> decide), by rw [z6]; exact f3.tr (x5 _ _)⟩
  · rw [if_neg (by omega), if_neg (fun q => q.2 z2), wn_yes z1 (by decide)] at hK
    have hL6 : Fx (fun x k => x = M + 15 ∧ k = nd) L1 L' := by rw [z8]; exact Fx.up ⟨rfl, rfl⟩
    have hIf : FF M [7, 8, 12] I1 I' := FF.of z7 fun k e => by rcases (show k = 7 ∨ k = 8 ∨ k = 12 by omega) with rfl | rfl | rfl <;> decide
    have hFa : FA M nd n pt tp I I' := (x3 _ _ _ _).tr (FA.of z7 (fun x k e => by omega) (fun x k e => by omega) (fun x k e => by omega) (fun k e => by omega))
    have hFf : FF M GI I I' := (x4.mo (by decide)).tr (hIf.mo (by decide))
    have hFl : FLn M nd n L L' := (x5 _ _).tr (FLn.of hL6 fun x k e => by omega)
    refine hK.use hd hM (by omega) rfl (by rw [List.length_set]; exact hr) (pt' := pt) (tp' := tp) (hT.go hFa (by omega) hFf (by decide) hFl (by omega) z5 (by omega) z6 (by rw [hIf _ (by decide), x1 _ (by decide) (by decide)]; exact t7) (by rw [hIf _ (by decide), x1 _ (by decide) (by decide)]; exact t8) z3 (by rw [z4, x1 _ (by decide) (by decide)]; exact t10) (by omega) (by omega) (by omega)) ⟨Nat.le_refl _, Nat.le_refl _⟩ (j2.fx fun x k _ _ _ => z7 _ _ (by omega)) (by rw [hIf _ (by decide)]; exact j3) (by omega) hw (fun V h9 hag => ?_) hFa hFf hFl
    have hv : V m = tv (tkP t N) a := hag 0 (Nat.succ_pos 0)
    exact (hR V h9).tm2 hr hok.1 hok.2.2 hv z2 (fun x k e1 => by rw [z7 _ _ (by omega), x2 _ _ (by omega)]) (fun x k e1 e2 => by rw [hL6 _ _ e2]; exact j5 _ _ (by omega)) (by rw [z8, up2_s])
end

