/-! ===== 69i THE REFERENCE READS A CONTRACT, A VALUE, AN OBSERVATION: brackets, depth ===== -/
section
variable {d M N g pk kp : Nat} {t : Nat → Nat} {I0 : M32} {L0 : M64} {R : MR} {T : SH} {Q : QT}
theorem okS_107 {s : Nat} (hs : s = 1 ∨ s = 2 ∨ s = 3) : okS s 107 = false := by rcases hs with rfl | rfl | rfl <;> decide
theorem tw_open {B : Prop} [Decidable B] {F f s dep n m a0 pt tp : Nat} {u sl : Int} {l : List Wt} {JS : M32} {KS : M64} (hd : 5 ≤ d) (hM : MdlS M R T) (hN : N ≤ 16384) (hP : PsT d M N g pk kp t (cI (bI B)) I0 L0 R T Q F f) (hs : s = 1 ∨ s = 2 ∨ s = 3) (hfd : 102 ≤ f + 1 + dep ∧ dep ≤ 101) (hpw : PW l) (hu : -1 ≤ u ∧ u < n ∧ (u ≠ -1 → (g : Int) ≤ u)) (hsl : 0 ≤ sl ∧ sl ≤ 3) :
    ∀ (F' κ a : Nat) (I : M32) (L : M64), N - a < F' → a0 ≤ a → TS M N g pk kp t (cI (bI B)) I0 L0 n pt tp a I L → 0 ≤ tk (tkP t N) a → PileV I M (((s : Int), u, sl, (dep : Int)) :: fives κ l) → I M 43 = cI ((fives κ l).length + 1 : Nat) → l.length + κ + 32 * (f + 1) + (N - a) ≤ 29000 → (∀ nd' n' pt' tp', FA M nd' n' pt' tp' JS I) → FF M GI JS I → (∀ x k, x ≠ M → ¬ (M + 21 ≤ x ∧ x ≤ M + 24) → I x k = JS x k) → Fx (fun x k => x = M ∧ k = 16) KS L →
    KPs d M N g pk kp t (cI (bI B)) I0 L0 R T Q (bnd (opn (tkP t N) F' a) fun p => bdy (tkP t N) g F f s dep n m (p.1 + κ) p.2) u sl n m a0 pt tp l JS KS → Hd d M R T Q I L := by
  intro F'
  induction F' with
  | zero => intro κ a I L h; omega
  | succ F' ih =>
  intro κ a I L hF haa hT hk hA h43 hl hJ hJf hJr hJl hK
  obtain ⟨⟨t1, t2, t3, t4, t5, t6, t7, t8, t9, t10⟩, ⟨b1, b2, b3, b4, b5, b6, b7⟩, f1, f2, f3⟩ := id hT
  have hflen := fives_len κ l
  have hop : opn (tkP t N) (F' + 1) a = if tk (tkP t N) a = 103 then bnd (nx (tkP t N) a) fun a1 => bnd (opn (tkP t N) F' a1) fun p => .ok (p.1 + 1, p.2) else if tk (tkP t N) a = 107 then .error (3, tb (tkP t N) a) else .ok (0, a) := rfl
  rw [hop] at hK
  by_cases h103 : tk (tkP t N) a = 103
  · rw [if_pos h103] at hK
    unfold nx at hK
    refine hno hd hM (by omega) hT hA h43 (by omega) h103 fun I1 L1 hAL I2 z1 z2 z3 z4 => ?_
    obtain ⟨x1, x2, x3, x4, x5, x6⟩ := hT.al hAL
    obtain ⟨j1, j2, j3, j4, j5⟩ := id hAL
    have hle := TokR.le j1.1
    have hFA2 : ∀ nd' n' pt' tp', FA M nd' n' pt' tp' I1 I2 := fun nd' n' pt' tp' => FA.of z4 (fun x k e => by omega) (fun x k e => by omega) (fun x k e => by omega) (fun k e => by omega)
    have hFf2 : FF M [12, 43] I1 I2 := FF.of z4 fun k e => by rcases (show k = 12 ∨ k = 43 by omega) with rfl | rfl <;> decide
    have hT2 : TS M N g pk kp t (cI (bI B)) I0 L0 n pt tp (te (tkP t N) a) I2 L1 := hT.go2 ((x3 _ _ _ _).tr (hFA2 _ _ _ _)) ((x4.mo (by decide)).tr (hFf2.mo (by decide))) (x5 _ _) z3 (by omega) (by rw [hFf2 _ (by decide), x1 _ (by decide) (by decide)]; exact t5) (by rw [hFf2 _ (by decide), x1 _ (by decide) (by decide)]; exact t7) (by rw [hFf2 _ (by decide), x1 _ (by decide) (by decide)]; exact t8) (by rw [hFf2 _ (by decide), x1 _ (by decide) (by decide)]; exact t9) (by rw [hFf2 _ (by decide), x1 _ (by decide) (by decide)]; exact t10) (by omega) (by omega) (by omega)
    have hlt : a < te (tkP t N) a := by have := hle.2.2.2 (by omega); omega
    generalize ha1 : te (tkP t N) a = a1 at *
    have hpws : PW (((s : Int), u, sl, (dep : Int)) :: fives (κ + 1) l) := fun w h => by
      rcases List.mem_cons.mp h with rfl | h
      · show 1 ≤ (s : Int) ∧ (s : Int) ≤ 13; omega
      · exact fives_pw hpw w h
    have hflen1 := fives_len (κ + 1) l
    by_cases hb : tk (tkP t N) a1 < 0
    · rw [if_pos hb] at hK
      exact (hK.2 _ _ rfl).bad hd hM hT2 hb rfl rfl z1 z2 (by show (fives (κ + 1) l).length + 1 < _; omega) hpws
    rw [if_neg hb] at hK
    simp only [bnd_ok] at hK
    refine ih (κ + 1) a1 I2 L1 (by omega) (by omega) hT2 (by omega) z1 z2 (by omega) (fun nd' n' pt' tp' => ((hJ _ _ _ _).tr (x3 _ _ _ _)).tr (hFA2 _ _ _ _)) ((hJf.tr (x4.mo (by decide))).tr (hFf2.mo (by decide))) (fun x k e1 e2 => by rw [z4 _ _ (by omega), x2 _ _ e1, hJr x k e1 e2]) (hJl.tr j5) ?_
    have heq : (bnd (bnd (opn (tkP t N) F' a1) fun p => .ok (p.1 + 1, p.2)) fun p => bdy (tkP t N) g F f s dep n m (p.1 + κ) p.2) = bnd (opn (tkP t N) F' a1) fun p => bdy (tkP t N) g F f s dep n m (p.1 + (κ + 1)) p.2 := by
      cases opn (tkP t N) F' a1 with
      | error e => rfl
      | ok p => simp only [bnd_ok]; rw [show p.1 + 1 + κ = p.1 + (κ + 1) by omega]
    rw [heq] at hK
    exact hK
  · rw [if_neg h103] at hK
    have fin : ∀ (I1 : M32) (L1 : M64) (I2 : M32) (L2 : M64), AL M N a t (fives κ l) I L I1 L1 → rdQ M n g dep tp u sl s (tk (tkP t N) a) (tb (tkP t N) a) (te (tkP t N) a) (tx (tkP t N) a) (tv (tkP t N) a) (fives κ l) (I1 M 8) I1 L1 I2 L2 → Hd d M R T Q I2 L2 := fun I1 L1 I2 L2 hAL hrd => by
      by_cases h107 : tk (tkP t N) a = 107
      · rw [if_pos h107] at hK
        rw [h107] at hrd
        rcases hrd with ⟨z1, z2⟩ | ⟨z1, -⟩ | ⟨z1, -⟩
        · exact (hK.2 _ _ rfl).er (by decide) hT hAL z2
        · rw [okS_107 hs] at z1; exact absurd z1 (by decide)
        · rw [okS_107 hs] at z1; exact absurd z1 (by decide)
      · rw [if_neg h107] at hK
        simp only [bnd_ok, Nat.zero_add] at hK
        exact tw_node hd hM hN hP hfd haa hT hk h107 hAL hpw hl hu hsl hrd hJ hJf hJr hJl hK
    rcases hs with rfl | rfl | rfl
    · refine hn1 hd hM hT hA h43 (by omega) h103 fun I1 L1 hAL => ?_
      obtain ⟨x1, x2, x3, x4, x5, x6⟩ := hT.al hAL
      obtain ⟨j1, j2, j3, j4, j5⟩ := id hAL
      refine (c_Model_readContract (d - 1 - 1) (tp := tp) (g := g) (n := n) (by omega) hM j1 (by rw [x1 _ (by decide) (by decide)]; exact t7) (by rw [x1 _ (by decide) (by decide)]; exact t6) b1 (by omega) (by rw [x1 _ (by decide) (by decide)]; exact t5) j2 j3 (by omega) hu.1 hu.2.1 (by omega) (by omega) (by rw [x1 _ (by decide) (by decide)]; exact t9)).mono ?_
      rintro o I' L' R' T' ⟨h1, h2, h3⟩
      exact ⟨h1, fin I1 L1 I' L' hAL h2, h3⟩
    · refine hn2 hd hM hT hA h43 (by omega) h103 fun I1 L1 hAL => ?_
      obtain ⟨x1, x2, x3, x4, x5, x6⟩ := hT.al hAL
      obtain ⟨j1, j2, j3, j4, j5⟩ := id hAL
      refine (c_Model_readValue (d - 1 - 1) (tp := tp) (g := g) (n := n) (P := B) (by omega) hM j1 (by rw [x1 _ (by decide) (by decide)]; exact t7) (by rw [x1 _ (by decide) (by decide)]; exact t6) b1 (by omega) (by rw [x1 _ (by decide) (by decide)]; exact t5) j2 j3 (by omega) hu.1 hu.2.1 (by omega) (by omega) (by rw [x1 _ (by decide) (by decide)]; exact t9) (by rw [x1 _ (by decide) (by decide)]; exact t10) (by omega) x6).mono ?_
      rintro o I' L' R' T' ⟨h1, h2, h3⟩
      exact ⟨h1, fin I1 L1 I' L' hAL h2, h3⟩
    · refine hn3 hd hM hT hA h43 (by omega) h103 fun I1 L1 hAL => ?_
      obtain ⟨x1, x2, x3, x4, x5, x6⟩ := hT.al hAL
      obtain ⟨j1, j2, j3, j4, j5⟩ := id hAL
      refine (c_Model_readObservation (d - 1 - 1) (tp := tp) (g := g) (n := n) (by omega) hM j1 (by rw [x1 _ (by decide) (by decide)]; exact t7) (by rw [x1 _ (by decide) (by decide)]; exact t6) b1 (by omega) (by rw [x1 _ (by decide) (by decide)]; exact t5) j2 j3 (by omega) hu.1 hu.2.1 (by omega) (by omega) (by rw [x1 _ (by decide) (by decide)]; exact t9)).mono ?_
      rintro o I' L' R' T' ⟨h1, h2, h3⟩
      exact ⟨h1, fin I1 L1 I' L' hAL h2, h3⟩
/-- the reference reads nodes as the spec says -/
theorem tw_ps {B : Prop} [Decidable B] (hd : 5 ≤ d) (hM : MdlS M R T) (hN : N ≤ 16384) : ∀ f, PsT d M N g pk kp t (cI (bI B)) I0 L0 R T Q (N + 1) f := by
  intro f
  induction f with
  | zero => intro s dep u sl n m a pt tp l I L h1 h2; omega
  | succ f ih =>
    intro s dep u sl n m a pt tp l I L hs hfd hT hk hA h43 hpw hl hu hsl hK
    exact tw_open hd hM hN ih hs (by omega) hpw hu hsl (N + 1) 0 a I L (by omega) (Nat.le_refl _) hT hk hA (by rw [fives_len, Nat.zero_add]; exact h43) (by omega) (fun _ _ _ _ => FA.rf) FF.rf (fun _ _ _ _ => rfl) Fx.rf hK
end

