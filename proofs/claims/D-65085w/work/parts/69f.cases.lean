/-! ===== 69f CASES ===== -/
theorem TS.go2 {M N g pk kp : Nat} {t : Nat → Nat} {z : Int32} {I0 : M32} {L0 : M64} {n pt tp a n' pt' tp' a' : Nat} {I I' : M32} {L L' : M64} (h : TS M N g pk kp t z I0 L0 n pt tp a I L) (hF : FA M (-1) g pk kp I I') (hf : FF M GF I I') (hL : FLn M (-1) g L L')
    (h12 : I' M 12 = cI a') (ha : a ≤ a' ∧ a' ≤ N) (h17 : I' M 17 = cI 0) (h37 : I' M 37 = cI n') (h35 : I' M 35 = cI pt') (h7 : I' M 7 = cI tp') (h8 : I' M 8 = z) (hn : n ≤ n' ∧ n' ≤ g + 1000) (hp : pt ≤ pt' ∧ 2 * pt' ≤ 16384 + a') (ht : tp ≤ tp' ∧ tp' ≤ 49152 + 3 * a') : TS M N g pk kp t z I0 L0 n' pt' tp' a' I' L' := by
  obtain ⟨⟨t1, t2, t3, t4, t5, t6, t7, t8, t9, t10⟩, ⟨b1, b2, b3, b4, b5, b6, b7⟩, f1, f2, f3⟩ := h
  exact ⟨⟨⟨t1.1, fun j hj => by rw [hF.1 _ _ (by omega)]; exact t1.2 j hj⟩, by rw [hf _ (by decide)]; exact t2, h12, ha.2, h17, by rw [hf _ (by decide)]; exact t6, h37, h35, h7, h8⟩, ⟨by omega, by omega, b3, by omega, by omega, hp.2, ht.2⟩, f1.tr hF, f2.tr hf, f3.tr hL⟩
/-- what the reading of cases of the when nd may change: last is the case before (if cnt > 0) -/
def FQ (M nd last n cnt pt tp : Nat) (e : Bool) (I I' : M32) : Prop := (∀ a k, a < M ∨ M + 24 < a ∨ a = M + 1 ∨ a = M + 2 ∨ a = M + 4 ∨ a = M + 5 → I' a k = I a k) ∧ (∀ a k, M + 6 ≤ a → a ≤ M + 18 → k < n → (k = nd → a ≠ M + 12 ∧ (a = M + 10 → cnt ≠ 0 ∨ e = true)) → (k = last → a = M + 13 → cnt = 0 ∨ e = true) → I' a k = I a k) ∧ (∀ a k, M + 19 ≤ a → a ≤ M + 20 → k < pt → I' a k = I a k) ∧ (∀ k, k < tp → I' (M + 3) k = I (M + 3) k)
theorem PI_pw {nd : Int} {dep : Nat} {l : List Wt} : ∀ {ws : List (Nat × Nat)} {ql : List Wt}, (∀ w ∈ ws, 1 ≤ w.1 ∧ w.1 ≤ 13) → PW l → PI nd dep ws ql l → PW ql
  | [], ql, _, hl, h => by
    obtain rfl : ql = l := h
    exact hl
  | w :: ws, [], _, _, h => absurd h (fun q => q)
  | w :: ws, p :: q, hw, hl, h => fun v hv => by
    rcases List.mem_cons.mp hv with rfl | hv
    · rw [h.1.1]
      have := hw w List.mem_cons_self
      omega
    · exact PI_pw (fun x hx => hw x (List.mem_cons_of_mem _ hx)) hl h.2 v hv
theorem itA_w {K : Int} (h : K = 7 ∨ K = 8 ∨ K = 9) : ∀ w ∈ itA K, 1 ≤ w.1 ∧ w.1 ≤ 13 := by rcases h with rfl | rfl | rfl <;> decide
theorem itA_4 {K : Int} (h : K = 7 ∨ K = 8 ∨ K = 9) : ∀ w ∈ itA K, 4 ∉ fldW w := by rcases h with rfl | rfl | rfl <;> decide
section
variable {d M N g pk kp : Nat} {t : Nat → Nat} {I0 : M32} {L0 : M64} {R : MR} {T : SH} {Q : QT}
/-- what goes on behind cases -/
def KCs (d M N g pk kp : Nat) (t : Nat → Nat) (z : Int32) (I0 : M32) (L0 : M64) (R : MR) (T : SH) (Q : QT) (res : ER (Nat × List Row × List Int)) (nd last cnt n m a0 pt tp : Nat) (l : List Wt) (I : M32) (L : M64) : Prop :=
  (∀ a' rows nums, res = .ok (a', rows, nums) → 0 ≤ tk (tkP t N) a' → a0 ≤ a' → ∀ I' L' pt' tp', TS M N g pk kp t z I0 L0 (n + rows.length) pt' tp' a' I' L' → (pt ≤ pt' ∧ tp ≤ tp') → PileV I' M l → I' M 43 = cI l.length → (rows ≠ [] → (cnt = 0 → I' (M + 10) nd = cI n) ∧ (cnt ≠ 0 → I' (M + 13) last = cI n)) → (∀ V, AgV V m nums → RowsM I' L' M tp' pt' V n rows) → FQ M nd last n cnt pt tp rows.isEmpty I I' → FF M GI I I' → FLn M (-1) n L L' → Hd d M R T Q I' L') ∧
  (∀ c b, res = .error (c, b) → EK d M N g pk kp t z I0 L0 R T Q c b)
theorem tw_cas {B : Prop} [Decidable B] {F f dep nd : Nat} (hd : 5 ≤ d) (hM : MdlS M R T) (hN : N ≤ 16384) (hP : PsT d M N g pk kp t (cI (bI B)) I0 L0 R T Q F f) (hfd : 102 ≤ f + (dep + 1) ∧ dep ≤ 100) (hg : g ≤ nd) :
    ∀ (k cnt last n m a pt tp : Nat) (q : List Wt) (I : M32) (L : M64), cnt + k = 9 → cnt ≤ 8 → nd < n → (g ≤ last ∧ last < n) → (cnt ≠ 0 → last ≠ nd ∧ I (M + 12) nd = cI last) → TS M N g pk kp t (cI (bI B)) I0 L0 n pt tp a I L → 0 ≤ tk (tkP t N) a → PileV I M ((8, (nd : Int), (cnt : Int), (dep : Int)) :: q) → I M 43 = cI (q.length + 1 : Nat) → PW q → q.length + 32 * f + 8 + (N - a) ≤ 28990 →
    KCs d M N g pk kp t (cI (bI B)) I0 L0 R T Q (bnd (cas (tkP t N) g (ps (tkP t N) g F f) dep k cnt n m a) fun r => bnd (wn (tkP t N) 106 r.1) fun a' => .ok (a', r.2.1, r.2.2)) nd last cnt n m a pt tp q I L → Hd d M R T Q I L := by
  intro k
  induction k with
  | zero => intro cnt last n m a pt tp q I L h1 h2; omega
  | succ k ih =>
  intro cnt last n m a pt tp q I L hck hc8 hnd hla hlast hT hk hA h43 hpw hl hK
  obtain ⟨⟨t1, t2, t3, t4, t5, t6, t7, t8, t9, t10⟩, ⟨b1, b2, b3, b4, b5, b6, b7⟩, f1, f2, f3⟩ := id hT
  have hcs : cas (tkP t N) g (ps (tkP t N) g F f) dep (k + 1) cnt n m a = if tk (tkP t N) a ≠ 6 then .ok (a, [], []) else if 100 < dep + 1 ∨ n - g = 1000 then .error (7, tb (tkP t N) a) else if cnt = 8 then .error (8, tb (tkP t N) a) else
    bnd (nx (tkP t N) a) fun a1 => if tk (tkP t N) a1 = 107 then .error (3, tb (tkP t N) a1) else if ¬ (tk (tkP t N) a1 = 7 ∨ tk (tkP t N) a1 = 8 ∨ tk (tkP t N) a1 = 9) then .error (4, tb (tkP t N) a1) else
    bnd (nx (tkP t N) a1) fun a2 => bnd (its (itm0 (tkP t N) (ps (tkP t N) g F f) (dep + 1)) (itA (tk (tkP t N) a1)) [6, -1, -1, tk (tkP t N) a1, -1, 0, 0, 0, -1, 0, dep + 1] (n + 1) m a2) fun q =>
    bnd (cas (tkP t N) g (ps (tkP t N) g F f) dep k (cnt + 1) (n + 1 + q.2.2.1.length) (m + q.2.2.2.length) q.1) fun r =>
    .ok (r.1, q.2.1.set 4 (if r.2.1 = [] then -1 else ((n + 1 + q.2.2.1.length : Nat) : Int)) :: (q.2.2.1 ++ r.2.1), q.2.2.2 ++ r.2.2) := rfl
  rw [hcs] at hK
  refine hn8 hd hM hT hA h43 (by omega) fun I1 L1 hAL => ?_
  obtain ⟨x1, x2, x3, x4, x5, x6⟩ := hT.al hAL
  obtain ⟨j1, j2, j3, j4, j5⟩ := id hAL
  have hle := TokR.le j1.1
  refine (c_Model_readCase (d - 1 - 1) (g := g) (n := n) (last := last) (l := q) (by omega) hM j1 (by rw [x1 _ (by decide) (by decide)]; exact t5) (by rw [x1 _ (by decide) (by decide)]; exact t7) (by rw [x1 _ (by decide) (by decide)]; exact t6) b1 (by omega) hnd (by omega) hc8 hla.2 (fun h => by rw [x2 _ _ (by omega)]; exact (hlast h).2) j2 j3 (by omega)).mono ?_
  rintro o I2 L2 R2 T2 ⟨h1, h2, h3⟩
  refine ⟨h1, ?_, h3⟩
  rcases h2 with ⟨z1, z2, z3⟩ | ⟨z1, z2, z3⟩ | ⟨z1, z2, z3⟩ | ⟨z1, z2, z3, z4, z5, z6, z7, z8⟩ | ⟨z1, z2, z3, z4, z5, z6, z7, z8, z9, z10, z11, z12, z13, z14, z15⟩
  · rw [if_pos (by omega)] at hK
    simp only [bnd_ok] at hK
    rw [wn_yes z1 (by decide)] at hK
    obtain ⟨u1, u2, u3, u4, u5, u6, u7⟩ := hT.use (nd := -1) (L' := L2) hAL z2 (by rw [z3]; exact FLn.rf) (by omega)
    by_cases hb : tk (tkP t N) (te (tkP t N) a) < 0
    · rw [if_pos hb] at hK
      exact (hK.2 _ _ rfl).bad hd hM u1 hb rfl rfl u2 u3 (by omega) hpw
    · rw [if_neg hb] at hK
      exact hK.1 _ [] [] rfl (by omega) (by omega) I2 L2 pt tp u1 ⟨Nat.le_refl _, Nat.le_refl _⟩ u2 u3 (fun h => absurd rfl h) (fun V _ => RowsM.nil) ⟨fun a k e => u7 _ _ (by omega), fun a k e1 e2 _ _ _ => u7 _ _ (by omega), fun a k e1 e2 _ => u7 _ _ (by omega), fun k _ => u7 _ _ (by omega)⟩ u5 u6
  · rw [if_pos z2] at hK
    simp only [bnd_ok] at hK
    rw [wn_no z1] at hK
    rw [fcF_ok hk] at z3
    exact (hK.2 _ _ rfl).er fc_in hT hAL z3
  · rw [if_neg (by omega), if_pos z2] at hK
    exact (hK.2 _ _ rfl).er (by decide) hT hAL z3
  · rw [if_neg (by omega), if_neg z2, if_pos z3] at hK
    exact (hK.2 _ _ rfl).1 I2 L2 ⟨z4, z5, by decide, (f1.tr (x3 _ _ _ _)).tr ⟨fun a k e => z6.1 a k (by omega), fun a k e1 e2 e3 e4 => z6.2 a k e1 e2 (by omega) (fun q => by omega) (fun q => by omega), fun a k e1 e2 e3 => z6.1 a k (by omega), fun k e => z6.1 _ k (by omega)⟩, ((f2.mo (by decide)).tr (x4.mo (by decide))).tr (z7.mo (by decide)), (f3.tr (x5 _ _)).tr (FLn.of z8 fun x k e => by omega)⟩
  · rw [if_neg (by omega), if_neg z2, if_neg z3] at hK
    unfold nx at hK
    have hI2a : ∀ y k', (M < y ∧ y < M + 6) ∨ y = M + 19 ∨ y = M + 20 → I2 y k' = I y k' := fun y k' e => by rw [z13.1 y k' (by omega), x2 _ _ (by omega)]
    have hT2 : TS M N g pk kp t (cI (bI B)) I0 L0 (n + 1) pt tp (te (tkP t N) a) I2 L2 := hT.go2 ((x3 _ _ _ _).tr ⟨fun a k e => z13.1 a k (by omega), fun a k e1 e2 e3 e4 => z13.2 a k e1 e2 (by omega) (fun q => by omega) (fun q => by omega), fun a k e1 e2 e3 => z13.1 a k (by omega), fun k e => z13.1 _ k (by omega)⟩) ((x4.mo (by decide)).tr (z14.mo (by decide))) ((x5 _ _).tr (FLn.of z15 fun x k e => by omega)) z11 (by omega) z12 z5 (by rw [z14 _ (by decide), x1 _ (by decide) (by decide)]; exact t8) (by rw [z14 _ (by decide), x1 _ (by decide) (by decide)]; exact t9) (by rw [z14 _ (by decide), x1 _ (by decide) (by decide)]; exact t10) (by omega) (by omega) (by omega)
    have hpw8 : PW ((8, (nd : Int), ((cnt : Int) + 1), (dep : Int)) :: q) := fun w h => by
      rcases List.mem_cons.mp h with rfl | h
      · show (1 : Int) ≤ 8 ∧ (8 : Int) ≤ 13; decide
      · exact hpw w h
    have hpw1 : PW ((1, (n : Int), 2, ((dep : Int) + 2)) :: (8, (nd : Int), ((cnt : Int) + 1), (dep : Int)) :: q) := fun w h => by
      rcases List.mem_cons.mp h with rfl | h
      · show (1 : Int) ≤ 1 ∧ (1 : Int) ≤ 13; decide
      · exact hpw8 w h
    generalize ha1 : te (tkP t N) a = a1 at *
    by_cases hb1 : tk (tkP t N) a1 < 0
    · rw [if_pos hb1] at hK
      refine (hK.2 _ _ rfl).bad hd hM hT2 hb1 rfl rfl z9 z10 (by simp only [List.length_cons]; omega) (fun w h => ?_)
      rcases List.mem_cons.mp h with rfl | h
      · show (1 : Int) ≤ 10 ∧ (10 : Int) ≤ 13; decide
      · exact hpw1 w h
    rw [if_neg hb1] at hK
    simp only [bnd_ok] at hK
    obtain ⟨⟨s1, s2, s3, s4, s5, s6, s7, s8, s9, s10⟩, ⟨d1, d2, d3, d4, d5, d6, d7⟩, g1, g2, g3⟩ := id hT2
    refine hn10 (q := (1, (n : Int), 2, ((dep : Int) + 2)) :: (8, (nd : Int), ((cnt : Int) + 1), (dep : Int)) :: q) hd hM hT2 z9 z10 (by simp only [List.length_cons]; omega) fun I3 L3 hAL3 => ?_
    obtain ⟨y1, y2, y3, y4, y5, y6⟩ := hT2.al hAL3
    obtain ⟨k1, k2, k3, k4, k5⟩ := id hAL3
    have hle3 := TokR.le k1.1
    have hd2 : ((dep : Int) + 2) = ((dep + 1 : Nat) : Int) + 1 := by omega
    rw [hd2] at k2 ⊢
    refine (c_Model_readAction (d - 1 - 1) (dep := dep + 1) (pt := pt) (l := (8, (nd : Int), ((cnt : Int) + 1), (dep : Int)) :: q) (by omega) hM k1 (by omega) (by rw [y1 _ (by decide) (by decide)]; exact s5) (by rw [y1 _ (by decide) (by decide)]; exact s8) k2 k3 (by simp only [List.length_cons]; omega) (by omega)).mono ?_
    rintro o4 I4 L4 R4 T4 ⟨h4, h5, h6⟩
    refine ⟨h4, ?_, h6⟩
    rcases h5 with ⟨v1, v2⟩ | ⟨v1, ⟨ql, v2, v3, v4, v5⟩, v6, v7, v8, v9, v10⟩
    · rw [fcF_ok (by omega)] at v2
      by_cases h107 : tk (tkP t N) a1 = 107
      · rw [if_pos h107] at hK v2
        exact (hK.2 _ _ rfl).er (by decide) hT2 hAL3 v2
      · rw [if_neg h107] at hK v2
        rw [if_pos v1] at hK
        exact (hK.2 _ _ rfl).er (by decide) hT2 hAL3 v2
    · rw [if_neg (by omega), if_neg (fun q => q v1)] at hK
      generalize ha2 : te (tkP t N) a1 = a2 at *
      have hFA4 : FA M (-1) g pk kp I2 I4 := (y3 _ _ _ _).tr (FA.of v9 (fun x k e => by omega) (fun x k e => by omega) (fun x k e => by omega) (fun k e => by omega))
      have hFf4 : FF M [12, 43] I3 I4 := FF.of v9 fun k e => by rcases (show k = 12 ∨ k = 43 by omega) with rfl | rfl <;> decide
      have hL4 : ∀ y k', y ≠ M → L4 y k' = L2 y k' := fun y k' e => by rw [v10]; exact k5 _ _ (fun q => e q.1)
      have hI4 : ∀ y k', y ≠ M → ¬ (M + 21 ≤ y ∧ y ≤ M + 24) → ¬ (k' = n ∧ (y = M + 6 ∨ y = M + 17)) → I4 y k' = I2 y k' := fun y k' e1 e2 e3 => by rw [v9 _ _ (by omega), y2 _ _ e1]
      have hT4 : TS M N g pk kp t (cI (bI B)) I0 L0 (n + 1) pt tp a2 I4 L4 := hT2.go2 hFA4 ((y4.mo (by decide)).tr (hFf4.mo (by decide))) (by rw [v10]; exact y5 _ _) v6 (by omega) (by rw [hFf4 _ (by decide), y1 _ (by decide) (by decide)]; exact s5) (by rw [hFf4 _ (by decide), y1 _ (by decide) (by decide)]; exact s7) (by rw [hFf4 _ (by decide), y1 _ (by decide) (by decide)]; exact s8) (by rw [hFf4 _ (by decide), y1 _ (by decide) (by decide)]; exact s9) (by rw [hFf4 _ (by decide), y1 _ (by decide) (by decide)]; exact s10) (by omega) (by omega) (by omega)
      have hpwq : PW ql := PI_pw (itA_w v1) hpw8 v2
      by_cases hb2 : tk (tkP t N) a2 < 0
      · rw [if_pos hb2] at hK
        exact (hK.2 _ _ rfl).bad hd hM hT4 hb2 rfl rfl v3 v4 (by simp only [List.length_cons] at v5; omega) hpwq
      rw [if_neg hb2] at hK
      simp only [bnd_ok] at hK
      obtain ⟨q1, q2, q3, q4, q5, q6, q7, q8, q9, q10⟩ := z4
      have hrow : ∀ V : Nat → Int, True → RowM I4 L4 M tp pt V n [6, -1, -1, tk (tkP t N) a1, -1, 0, 0, 0, -1, 0, ((dep + 1 : Nat) : Int)] := fun V _ => by
        refine ⟨⟨v7, ?_, ?_, fun _ => ?_, ?_, ?_, ?_, ?_, ?_⟩, fun q => absurd (show (6 : Int) = 100 from q) (by decide), fun q => absurd (show (6 : Int) = 5 from q) (by decide), fun _ _ q => absurd (show (0 : Int) < 0 from q) (by decide)⟩
        · rw [hI4 _ _ (by omega) (by omega) (by omega)]; exact q2
        · rw [hI4 _ _ (by omega) (by omega) (by omega)]; exact q3
        · rw [hI4 _ _ (by omega) (by omega) (by omega)]; exact q4
        · rw [hI4 _ _ (by omega) (by omega) (by omega)]; exact q5
        · rw [hL4 _ _ (by omega)]; exact q6
        · rw [hL4 _ _ (by omega)]; exact q7
        · rw [hL4 _ _ (by omega)]; exact q8
        · rw [hI4 _ _ (by omega) (by omega) (by omega)]; exact q10
      have hn18 : I4 (M + 18) n = cI 0 := by rw [hI4 _ _ (by omega) (by omega) (by omega)]; exact q10
      have hdc : ((dep : Int) + 1) = ((dep + 1 : Nat) : Int) := by omega
      rw [hdc] at hK
      clear q1 q2 q3 q4 q5 q6 q7 q8 q9 q10
      have hKI : KIt d M N g pk kp t (cI (bI B)) I0 L0 R T Q (its (itm0 (tkP t N) (ps (tkP t N) g F f) (dep + 1)) (itA (tk (tkP t N) a1)) [6, -1, -1, tk (tkP t N) a1, -1, 0, 0, 0, -1, 0, ((dep + 1 : Nat) : Int)] (n + 1) m a2) n (n + 1) m a2 pt tp (fun _ => True) ((8, (nd : Int), ((cnt : Int) + 1), (dep : Int)) :: q) I4 L4 := by
        refine ⟨fun a3 row' rows1 nums1 he h0 hae hr' I5 L5 pt5 tp5 hT5 hp5 hA5 h435 hR5 hF5 hf5 hL5 => ?_, fun c b he => hK.2 c b (by rw [he]; rfl)⟩
        rw [he] at hK
        simp only [bnd_ok] at hK
        have hr4 : row'.getD 4 0 = -1 := its_f (fun w1 w2 row n m a a' row' rows nums h => itm0_f h) _ _ _ _ _ _ _ _ _ he 4 (itA_4 v1)
        have h12n : I5 (M + 12) nd = cI n := by rw [hF5.2.1 _ _ (by omega) (by omega) (by omega) (by omega), hI4 _ _ (by omega) (by omega) (by omega)]; exact z8
        refine ih (cnt + 1) n (n + 1 + rows1.length) (m + nums1.length) a3 pt5 tp5 q I5 L5 (by omega) (by omega) (by omega) (by omega) (fun _ => ⟨by omega, h12n⟩) hT5 h0 hA5 h435 hpw (by omega) ⟨fun a' rows2 nums2 he2 g0 gae I6 L6 pt6 tp6 hT6 hp6 hA6 h436 hlk6 hR6 hFQ6 hf6 hL6 => ?_, fun c b he2 => hK.2 c b ?_⟩
        · obtain ⟨r, w1, w2⟩ := bnd_inv he2
          obtain ⟨a'', w3, w4⟩ := bnd_inv w2
          cases w4
          obtain ⟨r1, r2, r3⟩ := r
          dsimp only at *
          have hrest : ∀ y k', M + 6 ≤ y → y ≤ M + 18 → k' < n → (k' = nd → y ≠ M + 12) → I6 y k' = I2 y k' := fun y k' y1 y2 y3 y4 => by
            rw [hFQ6.2.1 y k' y1 y2 (by omega) (fun q => ⟨y4 q, fun _ => Or.inl (by omega)⟩) (fun q => by omega), hF5.2.1 y k' y1 y2 (by omega) (by omega), hI4 y k' (by omega) (by omega) (by omega)]
          refine hK.1 _ _ _ (by rw [w1]; simp only [bnd_ok]; rw [w3]; rfl) g0 (by omega) I6 L6 pt6 tp6 (by rw [show n + (row'.set 4 (if r2 = [] then -1 else ((n + 1 + rows1.length : Nat) : Int)) :: (rows1 ++ r2)).length = n + 1 + rows1.length + r2.length by rw [List.length_cons, List.length_append]; omega]; exact hT6) ⟨by omega, by omega⟩ hA6 h436 (fun _ => ⟨fun e9 => ?_, fun e9 => ?_⟩) (fun V hag => ?_) ?_ ?_ ?_
          · rw [hrest _ _ (by omega) (by omega) hnd (fun _ => by omega)]; exact (z6 e9).1
          · rw [hrest _ _ (by omega) (by omega) hla.2 (fun q => absurd q (hlast e9).1)]; exact (z7 e9).1
          · have ag := hag.app
            have R5 := hR5 V trivial ag.1
            refine RowsM.cons ?_ (RowsM.app ?_ ?_)
            · have R5' : RowM I5 L6 M tp5 pt5 V n row' := R5.1.fx (fun _ _ _ => rfl) (fun y y1 y2 => hL6.2.2 y n y1 y2 (by omega) (by omega)) (fun _ _ => rfl) (fun _ _ => ⟨rfl, rfl⟩) (Nat.le_refl _) (Nat.le_refl _)
              refine (R5'.nx hr' (fun y y1 y2 y3 => hFQ6.2.1 y n y1 y2 (by omega) (fun q => by omega) (fun _ q => absurd q y3)) hFQ6.2.2.2 (fun k' hk' => ⟨hFQ6.2.2.1 _ _ (by omega) (by omega) hk', hFQ6.2.2.1 _ _ (by omega) (by omega) hk'⟩) ?_).fx (fun _ _ _ => rfl) (fun _ _ _ => rfl) (fun _ _ => rfl) (fun _ _ => ⟨rfl, rfl⟩) hp6.2 hp6.1
              by_cases er : r2 = []
              · rw [if_pos er]
                have h13 := R5.1.1.2.2.2.2.1
                rw [hr4] at h13
                rw [hFQ6.2.1 (M + 13) n (by omega) (by omega) (by omega) (fun q => by omega) (fun _ _ => Or.inr (by rw [er]; rfl))]
                exact h13
              · rw [if_neg er]
                exact (hlk6 er).2 (by omega)
            · exact R5.2.fx (fun y k' y1 y2 y3 y4 => hFQ6.2.1 y k' y1 y2 (by omega) (fun q => by omega) (fun q => by omega)) (fun y k' y1 y2 y3 y4 => hL6.2.2 y k' y1 y2 (by omega) (by omega)) hFQ6.2.2.2 (fun k' hk' => ⟨hFQ6.2.2.1 _ _ (by omega) (by omega) hk', hFQ6.2.2.1 _ _ (by omega) (by omega) hk'⟩) hp6.2 hp6.1
            · exact hR6 V ag.2
          · refine ⟨fun y k' e => ?_, fun y k' y1 y2 y3 y4 y5 => ?_, fun y k' y1 y2 y3 => ?_, fun k' hk' => ?_⟩
            · rw [hFQ6.1 y k' e, hF5.1 y k' e, hI4 y k' (by omega) (by omega) (by omega), z13.1 y k' (by omega), x2 _ _ (by omega)]
            · rw [hrest y k' y1 y2 y3 (fun q => (y4 q).1)]
              by_cases c1 : k' = nd ∧ y = M + 10
              · obtain ⟨rfl, rfl⟩ := c1
                have c2 : cnt ≠ 0 := by
                  rcases (y4 rfl).2 rfl with h | h
                  · exact h
                  · exact absurd (show false = true from h) (by decide)
                rw [(z7 c2).2, x2 _ _ (by omega)]
              · by_cases c3 : k' = last ∧ y = M + 13
                · obtain ⟨rfl, rfl⟩ := c3
                  have c4 : cnt = 0 := by
                    rcases y5 rfl rfl with h | h
                    · exact h
                    · exact absurd (show false = true from h) (by decide)
                  rw [(z6 c4).2, x2 _ _ (by omega)]
                · rw [z13.2 y k' y1 y2 y3 (fun q => ⟨fun e => c1 ⟨q, e⟩, (y4 q).1⟩) (fun q e => c3 ⟨q, e⟩), x2 _ _ (by omega)]
            · rw [hFQ6.2.2.1 y k' y1 y2 (by omega), hF5.2.2.1 y k' y1 y2 y3, hI4 y k' (by omega) (by omega) (by omega), hI2a _ _ (by omega)]
            · rw [hFQ6.2.2.2 k' (by omega), hF5.2.2.2 k' hk', hI4 _ k' (by omega) (by omega) (by omega), hI2a _ _ (by omega)]
          · exact ((((x4.mo (by decide)).tr (z14.mo (by decide))).tr ((y4.mo (by decide)).tr (hFf4.mo (by decide)))).tr hf5).tr hf6
          · exact ((((x5 _ _).tr (FLn.of z15 fun x k e => by omega)).tr (by rw [v10]; exact y5 _ _)).tr (hL5.mo (by omega) (by omega))).tr (hL6.mo (by omega) (by omega))
        · cases hc : cas (tkP t N) g (ps (tkP t N) g F f) dep k (cnt + 1) (n + 1 + rows1.length) (m + nums1.length) a3 with
          | error e => rw [hc] at he2; exact he2
          | ok r =>
            rw [hc] at he2
            simp only [bnd_ok] at he2 ⊢
            cases hwn : wn (tkP t N) 106 r.1 with
            | error e => rw [hwn] at he2; exact he2
            | ok x => rw [hwn] at he2; cases he2
      simp only [List.length_cons] at v5
      by_cases h8 : tk (tkP t N) a1 = 8
      · have hKI' := hKI
        rw [h8] at v2 hKI'
        exact it_choice (dep := dep + 1) hd hM hN hP (by omega) rfl rfl v2 (by omega) (by omega) hT4 (by omega) v3 v4 hpwq (by omega) (by rw [← h8]; exact hrow) (v8 h8) hn18 hKI'
      · refine tw_its (e := 32 * f) (dep := dep + 1) (fun w1 w2 row n m a a' row' rows nums h => itm0_f h) (itA (tk (tkP t N) a1)) (fun w hw => it_any0 (Nat.le_refl _) hd hM hN hP (by omega) ?_) ?_ n _ (n + 1) m a2 pt tp _ ql _ I4 L4 rfl (fun w hw => ?_) v2 (by omega) (by omega) hT4 (by omega) v3 v4 hpwq (by omega) hrow hKI
        · rcases v1 with e | e | e
          · rw [e] at hw; revert w; decide
          · exact absurd e h8
          · rw [e] at hw; revert w; decide
        · rcases v1 with e | e | e
          · rw [e]; decide
          · exact absurd e h8
          · rw [e]; decide
        · rcases v1 with e | e | e
          · rw [e] at hw
            rcases (show w = (4, 1) ∨ w = (4, 2) ∨ w = (4, 3) ∨ w = (2, 1) ∨ w = (1, 2) by simpa [itA] using hw) with rfl | rfl | rfl | rfl | rfl
            · exact ⟨by decide, fun _ => by show (6 : Int) ≠ 5; decide⟩
            · exact ⟨by decide, fun h => absurd h (by decide)⟩
            · exact ⟨by decide, fun h => absurd h (by decide)⟩
            · exact ⟨by decide, Or.inl rfl⟩
            · exact ⟨by decide, Or.inr (Or.inl rfl)⟩
          · exact absurd e h8
          · rw [e] at hw
            rcases (show w = (3, 1) ∨ w = (1, 2) by simpa [itA] using hw) with rfl | rfl
            · exact ⟨by decide, Or.inl rfl⟩
            · exact ⟨by decide, Or.inr (Or.inl rfl)⟩
end

