/-! ===== 69 THE REFERENCE READS AS THE SPEC SAYS: items ===== -/
def ErS (M g pk kp : Nat) (I0 : M32) (L0 : M64) (c : Int) (b : Nat) (I' : M32) (L' : M64) : Prop := I' M 17 = cI c ∧ I' M 18 = cI b ∧ (0 < c ∧ c < 10) ∧ FA M (-1) g pk kp I0 I' ∧ FF M GE I0 I' ∧ FLn M (-1) g L0 L'
/-- every want is one -/
def PW (l : List Wt) : Prop := ∀ w ∈ l, 1 ≤ w.1 ∧ w.1 ≤ 13
section
variable {d M N g pk kp : Nat} {t : Nat → Nat} {z : Int32} {I0 : M32} {L0 : M64} {R : MR} {T : SH} {Q : QT}
/-- the ways out with fault c at b -/
def EK (d M N g pk kp : Nat) (t : Nat → Nat) (z : Int32) (I0 : M32) (L0 : M64) (R : MR) (T : SH) (Q : QT) (c : Int) (b : Nat) : Prop := (∀ I' L', ErS M g pk kp I0 L0 c b I' L' → Hd d M R T Q I' L') ∧ (∀ I' L' n pt tp a, TS M N g pk kp t z I0 L0 n pt tp a I' L' → tk (tkP t N) a < 0 → c = -(tk (tkP t N) a) → b = tb (tkP t N) a → I' M 43 = cI 0 → Hd d M R T Q I' L')
theorem EK.bad {c : Int} {b n pt tp a : Nat} {l : List Wt} {I : M32} {L : M64} (hd : 5 ≤ d) (hM : MdlS M R T) (h : EK d M N g pk kp t z I0 L0 R T Q c b) (hT : TS M N g pk kp t z I0 L0 n pt tp a I L) (hk : tk (tkP t N) a < 0) (hc : c = -(tk (tkP t N) a)) (hb : b = tb (tkP t N) a) (hA : PileV I M l) (h43 : I M 43 = cI l.length) (hl : l.length < 29990) (hw : PW l) : Hd d M R T Q I L := by
  cases l with
  | nil => exact h.2 I L n pt tp a hT hk hc hb h43
  | cons w l =>
    obtain ⟨w1, w2, w3, w4⟩ := w
    obtain ⟨⟨t1, t2, t3, t4, t5, t6, t7, t8, t9, t10⟩, -, f1, f2, f3⟩ := hT
    simp only [List.length_cons] at hl
    refine hd_step hd hM h43 (by omega) t5 ((cb_Model_readNext (d - 1) (by omega) hM t1 t2 t3 t4 hA h43 (by omega) (hw _ (List.mem_cons_self)) t5 hk).mono ?_)
    rintro o I' L' R' T' ⟨h1, ⟨h2, h3, h4, h5, h6⟩, h7⟩
    have hkd := TokR.kd h2
    refine ⟨h1, h.1 I' L' ⟨by rw [hc]; exact h3, by rw [hb]; exact h4, by omega, f1.tr (FA.of h5 (fun x k e => by omega) (fun x k e => by omega) (fun x k e => by omega) (fun k e => by omega)), (f2.mo (by decide)).tr (FF.of h5 fun k e => by rcases (show k = 43 ∨ k = 12 ∨ k = 13 ∨ k = 14 ∨ k = 15 ∨ k = 17 ∨ k = 18 by omega) with rfl | rfl | rfl | rfl | rfl | rfl | rfl <;> decide), f3.tr (FLn.of h6 fun x k e => by omega)⟩, h7⟩
/-- what goes on behind the reading of a node -/
def KPs (d M N g pk kp : Nat) (t : Nat → Nat) (z : Int32) (I0 : M32) (L0 : M64) (R : MR) (T : SH) (Q : QT) (res : ER (Nat × List Row × List Int)) (u s : Int) (n m a0 pt tp : Nat) (l : List Wt) (I : M32) (L : M64) : Prop :=
  (∀ a' rows nums, res = .ok (a', rows, nums) → 0 ≤ tk (tkP t N) a' → a0 ≤ a' → ∀ I' L' pt' tp', TS M N g pk kp t z I0 L0 (n + rows.length) pt' tp' a' I' L' → (pt ≤ pt' ∧ tp ≤ tp') → PileV I' M l → I' M 43 = cI l.length → lkC M I' u s n → (∀ V, AgV V m nums → RowsM I' L' M tp' pt' V n rows) → FA M u n pt tp I I' → FF M GF I I' → (u ≠ -1 → I' M 38 = I M 38) → RwU M u s I I' → FLn M (-1) n L L' → Hd d M R T Q I' L') ∧
  (∀ c b, res = .error (c, b) → EK d M N g pk kp t z I0 L0 R T Q c b)
/-- what goes on behind items of node nd -/
def KIt (d M N g pk kp : Nat) (t : Nat → Nat) (z : Int32) (I0 : M32) (L0 : M64) (R : MR) (T : SH) (Q : QT) (res : ER (Nat × Row × List Row × List Int)) (nd n m a0 pt tp : Nat) (A : (Nat → Int) → Prop) (l : List Wt) (I : M32) (L : M64) : Prop :=
  (∀ a' row' rows nums, res = .ok (a', row', rows, nums) → 0 ≤ tk (tkP t N) a' → a0 ≤ a' → row'.length = 11 → ∀ I' L' pt' tp', TS M N g pk kp t z I0 L0 (n + rows.length) pt' tp' a' I' L' → (pt ≤ pt' ∧ tp ≤ tp') → PileV I' M l → I' M 43 = cI l.length → (∀ V, A V → AgV V m nums → RowM I' L' M tp' pt' V nd row' ∧ RowsM I' L' M tp' pt' V n rows) → FA M nd n pt tp I I' → FF M GI I I' → FLn M nd n L L' → Hd d M R T Q I' L') ∧
  (∀ c b, res = .error (c, b) → EK d M N g pk kp t z I0 L0 R T Q c b)
/-- an item is read as its spec says -/
def ItT (d M N g pk kp : Nat) (t : Nat → Nat) (z : Int32) (I0 : M32) (L0 : M64) (R : MR) (T : SH) (Q : QT) (f : Nat) (it : IT) (nd dep : Nat) (w : Nat × Nat) (ok : Row → Prop) : Prop :=
  ∀ (row : Row) (n m a pt tp : Nat) (A : (Nat → Int) → Prop) (p : Wt) (q : List Wt) (I : M32) (L : M64), row.length = 11 → ok row → (p.1 = w.1 ∧ p.2.1 = nd ∧ p.2.2.1 = w.2 ∧ (w.1 ≤ 3 → p.2.2.2 = dep + 1) ∧ (w.1 = 8 → p.2.2.2 = dep)) → g ≤ nd → nd < n → TS M N g pk kp t z I0 L0 n pt tp a I L → 0 ≤ tk (tkP t N) a → PileV I M (p :: q) → I M 43 = cI (q.length + 1 : Nat) → PW (p :: q) → q.length + 8 * f + (N - a) ≤ 29000 →
    (∀ V, A V → RowM I L M tp pt V nd row) → KIt d M N g pk kp t z I0 L0 R T Q (it w.1 w.2 row n m a) nd n m a pt tp A q I L → Hd d M R T Q I L
/-- after a token of the item is used: the next one is none, or it goes on -/
theorem KIt.use {res : ER (Nat × Row × List Row × List Int)} {nd n m a0 pt tp pt' tp' e : Nat} {A : (Nat → Int) → Prop} {l : List Wt} {row : Row} {nums : List Int} {I I' : M32} {L L' : M64} (hd : 5 ≤ d) (hM : MdlS M R T) (hK : KIt d M N g pk kp t z I0 L0 R T Q res nd n m a0 pt tp A l I L) (hae : a0 ≤ e)
    (he : res = bnd (if tk (tkP t N) e < 0 then .error (-(tk (tkP t N) e), tb (tkP t N) e) else .ok e) fun a' => .ok (a', row, [], nums)) (hr : row.length = 11) (hT : TS M N g pk kp t z I0 L0 n pt' tp' e I' L') (hpt : pt ≤ pt' ∧ tp ≤ tp') (hA : PileV I' M l) (h43 : I' M 43 = cI l.length) (hl : l.length < 29990) (hw : PW l) (hR : ∀ V, A V → AgV V m nums → RowM I' L' M tp' pt' V nd row) (hF : FA M nd n pt tp I I') (hf : FF M GI I I') (hL : FLn M nd n L L') : Hd d M R T Q I' L' := by
  by_cases hk : tk (tkP t N) e < 0
  · rw [if_pos hk] at he
    exact (hK.2 _ _ he).bad hd hM hT hk rfl rfl hA h43 hl hw
  · rw [if_neg hk] at he
    exact hK.1 e row [] nums he (by omega) hae hr I' L' pt' tp' hT hpt hA h43 (fun V h1 h2 => ⟨hR V h1 h2, RowsM.nil⟩) hF hf hL
/-- a want that isn't met -/
theorem KIt.no {res : ER (Nat × Row × List Row × List Int)} {nd n m a0 pt tp : Nat} {A : (Nat → Int) → Prop} {l : List Wt} {I : M32} {L : M64} {c : Int} {b : Nat} {I' : M32} {L' : M64} (hK : KIt d M N g pk kp t z I0 L0 R T Q res nd n m a0 pt tp A l I L) (he : res = .error (c, b)) (hc : 0 < c ∧ c < 10) (h17 : I' M 17 = cI c) (h18 : I' M 18 = cI b) (hF : FA M (-1) g pk kp I0 I') (hf : FF M GE I0 I') (hL : FLn M (-1) g L0 L') : Hd d M R T Q I' L' := (hK.2 _ _ he).1 I' L' ⟨h17, h18, hc, hF, hf, hL⟩
/-- the token is looked at: the state is as it was -/
theorem TS.al {n pt tp a : Nat} {l : List Wt} {I I1 : M32} {L L1 : M64} (h : TS M N g pk kp t z I0 L0 n pt tp a I L) (hA : AL M N a t l I L I1 L1) : (∀ k, k ≠ 43 → ¬ (12 ≤ k ∧ k ≤ 15) → I1 M k = I M k) ∧ (∀ x k, x ≠ M → I1 x k = I x k) ∧ (∀ nd n' pt' tp', FA M nd n' pt' tp' I I1) ∧ FF M [12, 13, 14, 15, 43] I I1 ∧ (∀ nd n', FLn M nd n' L L1) ∧ TxM I1 M N t := by
  obtain ⟨j1, j2, j3, j4, j5⟩ := hA
  refine ⟨fun k h1 h2 => j4 _ _ (by omega), fun x k h1 => j4 _ _ (by omega), fun nd n' pt' tp' => FA.of j4 (fun x k e => by omega) (fun x k e => by omega) (fun x k e => by omega) (fun k e => by omega), FF.of j4 fun k e => ?_, fun nd n' => FLn.of j5 fun x k e => by omega, h.1.1.1, fun j hj => ?_⟩
  · rcases (show k = 43 ∨ k = 12 ∨ k = 13 ∨ k = 14 ∨ k = 15 by omega) with rfl | rfl | rfl | rfl | rfl <;> decide
  · rw [j4 _ _ (by omega)]; exact h.1.1.2 j hj
/-- a fault out of the token at hand -/
theorem KIt.er {res : ER (Nat × Row × List Row × List Int)} {nd n m a0 pt tp n1 pt1 tp1 a : Nat} {A : (Nat → Int) → Prop} {l l' : List Wt} {I I1 I' : M32} {L L1 L' : M64} {c : Int} {b : Nat} {Ix : M32} {Lx : M64} (hK : KIt d M N g pk kp t z I0 L0 R T Q res nd n m a0 pt tp A l Ix Lx) (he : res = .error (c, b)) (hc : 0 < c ∧ c < 10) (hT : TS M N g pk kp t z I0 L0 n1 pt1 tp1 a I L) (hAL : AL M N a t l' I L I1 L1) (hE : erQ M c b I1 L1 I' L') : Hd d M R T Q I' L' := by
  obtain ⟨-, -, f1, f2, f3⟩ := id hT
  obtain ⟨-, -, x3, x4, x5, -⟩ := hT.al hAL
  obtain ⟨e1, e2, e3, e4⟩ := hE
  exact hK.no he hc e1 e2 ((f1.tr (x3 _ _ _ _)).tr (FA.of e3 (fun x k e => by omega) (fun x k e => by omega) (fun x k e => by omega) (fun k e => by omega))) (((f2.mo (by decide)).tr (x4.mo (by decide))).tr (FF.of e3 fun k e => by rcases (show k = 17 ∨ k = 18 by omega) with rfl | rfl <;> decide)) (by rw [e4]; exact f3.tr (x5 _ _))
theorem fcF_ok {K : Int} (h : 0 ≤ K) : fcF K = if K = 107 then 3 else 4 := by unfold fcF; rw [if_neg (by omega)]
theorem fc_in {K : Int} : 0 < (if K = 107 then (3 : Int) else 4) ∧ (if K = 107 then (3 : Int) else 4) < 10 := by split <;> decide
theorem wn_no {a : Nat} {due : Int} (h : tk (tkP t N) a ≠ due) : wn (tkP t N) due a = .error ((if tk (tkP t N) a = 107 then 3 else 4), tb (tkP t N) a) := by
  unfold wn
  split
  · rfl
  · first | rfl | rw [if_pos h]
theorem wn_yes {a : Nat} {due : Int} (h : tk (tkP t N) a = due) (h7 : due ≠ 107) : wn (tkP t N) due a = if tk (tkP t N) (te (tkP t N) a) < 0 then .error (-(tk (tkP t N) (te (tkP t N) a)), tb (tkP t N) (te (tkP t N) a)) else .ok (te (tkP t N) a) := by
  unfold wn nx
  rw [if_neg (by omega), if_neg (by omega)]
theorem hn1 {n pt tp a : Nat} {nd s u : Int} {q : List Wt} {I : M32} {L : M64} (hd : 5 ≤ d) (hM : MdlS M R T) (hT : TS M N g pk kp t z I0 L0 n pt tp a I L) (hA : PileV I M ((1, nd, s, u) :: q)) (h43 : I M 43 = cI (q.length + 1 : Nat)) (hl : q.length + 2 < 30000) (hK : tk (tkP t N) a ≠ 103) (h : ∀ I1 L1, AL M N a t q I L I1 L1 → Call m_Model_readContract y_Model_readContract (d - 1 - 1) 0 0 [.ref M, .int (cI nd), .int (cI s), .int (cI u)] I1 L1 R T (rV fun I' L' R' T' => Hd d M R T Q I' L' ∧ R' = R ∧ T' = T)) : Hd d M R T Q I L :=
  have hT1 := hT.1
  hd_step hd hM h43 (by omega) hT1.2.2.2.2.1 (c_Model_readNext (d - 1) (by omega) hM hT1.1 hT1.2.1 hT1.2.2.1 hT1.2.2.2.1 hA h43 hl (by decide) (fun _ _ _ _ h2 => absurd h2 hK) (fun I1 L1 h1 _ _ => h I1 L1 h1) (fun _ _ _ h => absurd h (by decide)) (fun _ _ _ h => absurd h (by decide)) (fun _ _ _ h => absurd h (by decide)) (fun _ _ _ h => absurd h (by decide)) (fun _ _ _ h => absurd h (by decide)) (fun _ _ _ h => absurd h (by decide)) (fun _ _ _ h => absurd h (by decide)) (fun _ _ _ h => absurd h (by decide)) (fun _ _ _ h => absurd h (by decide)))
theorem hn2 {n pt tp a : Nat} {nd s u : Int} {q : List Wt} {I : M32} {L : M64} (hd : 5 ≤ d) (hM : MdlS M R T) (hT : TS M N g pk kp t z I0 L0 n pt tp a I L) (hA : PileV I M ((2, nd, s, u) :: q)) (h43 : I M 43 = cI (q.length + 1 : Nat)) (hl : q.length + 2 < 30000) (hK : tk (tkP t N) a ≠ 103) (h : ∀ I1 L1, AL M N a t q I L I1 L1 → Call m_Model_readValue y_Model_readValue (d - 1 - 1) 0 0 [.ref M, .int (cI nd), .int (cI s), .int (cI u)] I1 L1 R T (rV fun I' L' R' T' => Hd d M R T Q I' L' ∧ R' = R ∧ T' = T)) : Hd d M R T Q I L :=
  have hT1 := hT.1
  hd_step hd hM h43 (by omega) hT1.2.2.2.2.1 (c_Model_readNext (d - 1) (by omega) hM hT1.1 hT1.2.1 hT1.2.2.1 hT1.2.2.2.1 hA h43 hl (by decide) (fun _ _ _ _ h2 => absurd h2 hK) (fun _ _ _ h => absurd h (by decide)) (fun I1 L1 h1 _ _ => h I1 L1 h1) (fun _ _ _ h => absurd h (by decide)) (fun _ _ _ h => absurd h (by decide)) (fun _ _ _ h => absurd h (by decide)) (fun _ _ _ h => absurd h (by decide)) (fun _ _ _ h => absurd h (by decide)) (fun _ _ _ h => absurd h (by decide)) (fun _ _ _ h => absurd h (by decide)) (fun _ _ _ h => absurd h (by decide)))
theorem hn3 {n pt tp a : Nat} {nd s u : Int} {q : List Wt} {I : M32} {L : M64} (hd : 5 ≤ d) (hM : MdlS M R T) (hT : TS M N g pk kp t z I0 L0 n pt tp a I L) (hA : PileV I M ((3, nd, s, u) :: q)) (h43 : I M 43 = cI (q.length + 1 : Nat)) (hl : q.length + 2 < 30000) (hK : tk (tkP t N) a ≠ 103) (h : ∀ I1 L1, AL M N a t q I L I1 L1 → Call m_Model_readObservation y_Model_readObservation (d - 1 - 1) 0 0 [.ref M, .int (cI nd), .int (cI s), .int (cI u)] I1 L1 R T (rV fun I' L' R' T' => Hd d M R T Q I' L' ∧ R' = R ∧ T' = T)) : Hd d M R T Q I L :=
  have hT1 := hT.1
  hd_step hd hM h43 (by omega) hT1.2.2.2.2.1 (c_Model_readNext (d - 1) (by omega) hM hT1.1 hT1.2.1 hT1.2.2.1 hT1.2.2.2.1 hA h43 hl (by decide) (fun _ _ _ _ h2 => absurd h2 hK) (fun _ _ _ h => absurd h (by decide)) (fun _ _ _ h => absurd h (by decide)) (fun I1 L1 h1 _ _ => h I1 L1 h1) (fun _ _ _ h => absurd h (by decide)) (fun _ _ _ h => absurd h (by decide)) (fun _ _ _ h => absurd h (by decide)) (fun _ _ _ h => absurd h (by decide)) (fun _ _ _ h => absurd h (by decide)) (fun _ _ _ h => absurd h (by decide)) (fun _ _ _ h => absurd h (by decide)))
theorem hn4 {n pt tp a : Nat} {nd s u : Int} {q : List Wt} {I : M32} {L : M64} (hd : 5 ≤ d) (hM : MdlS M R T) (hT : TS M N g pk kp t z I0 L0 n pt tp a I L) (hA : PileV I M ((4, nd, s, u) :: q)) (h43 : I M 43 = cI (q.length + 1 : Nat)) (hl : q.length + 2 < 30000) (h : ∀ I1 L1, AL M N a t q I L I1 L1 → Call m_Model_readName y_Model_readName (d - 1 - 1) 0 0 [.ref M, .int (cI nd), .int (cI s)] I1 L1 R T (rV fun I' L' R' T' => Hd d M R T Q I' L' ∧ R' = R ∧ T' = T)) : Hd d M R T Q I L :=
  have hT1 := hT.1
  hd_step hd hM h43 (by omega) hT1.2.2.2.2.1 (c_Model_readNext (d - 1) (by omega) hM hT1.1 hT1.2.1 hT1.2.2.1 hT1.2.2.2.1 hA h43 hl (by decide) (fun _ _ _ h => absurd h (by decide)) (fun _ _ _ h => absurd h (by decide)) (fun _ _ _ h => absurd h (by decide)) (fun _ _ _ h => absurd h (by decide)) (fun I1 L1 h1 _ => h I1 L1 h1) (fun _ _ _ h => absurd h (by decide)) (fun _ _ _ h => absurd h (by decide)) (fun _ _ _ h => absurd h (by decide)) (fun _ _ _ h => absurd h (by decide)) (fun _ _ _ h => absurd h (by decide)) (fun _ _ _ h => absurd h (by decide)))
theorem hn8 {n pt tp a : Nat} {nd s u : Int} {q : List Wt} {I : M32} {L : M64} (hd : 5 ≤ d) (hM : MdlS M R T) (hT : TS M N g pk kp t z I0 L0 n pt tp a I L) (hA : PileV I M ((8, nd, s, u) :: q)) (h43 : I M 43 = cI (q.length + 1 : Nat)) (hl : q.length + 2 < 30000) (h : ∀ I1 L1, AL M N a t q I L I1 L1 → Call m_Model_readCase y_Model_readCase (d - 1 - 1) 0 0 [.ref M, .int (cI nd), .int (cI s), .int (cI u)] I1 L1 R T (rV fun I' L' R' T' => Hd d M R T Q I' L' ∧ R' = R ∧ T' = T)) : Hd d M R T Q I L :=
  have hT1 := hT.1
  hd_step hd hM h43 (by omega) hT1.2.2.2.2.1 (c_Model_readNext (d - 1) (by omega) hM hT1.1 hT1.2.1 hT1.2.2.1 hT1.2.2.2.1 hA h43 hl (by decide) (fun _ _ _ h => absurd h (by decide)) (fun _ _ _ h => absurd h (by decide)) (fun _ _ _ h => absurd h (by decide)) (fun _ _ _ h => absurd h (by decide)) (fun _ _ _ h => absurd h (by decide)) (fun I1 L1 h1 _ => h I1 L1 h1) (fun _ _ _ h => absurd h (by decide)) (fun _ _ _ h => absurd h (by decide)) (fun _ _ _ h => absurd h (by decide)) (fun _ _ _ h => absurd h (by decide)) (fun _ _ _ h => absurd h (by decide)))
theorem hn9 {n pt tp a : Nat} {nd s u : Int} {q : List Wt} {I : M32} {L : M64} (hd : 5 ≤ d) (hM : MdlS M R T) (hT : TS M N g pk kp t z I0 L0 n pt tp a I L) (hA : PileV I M ((9, nd, s, u) :: q)) (h43 : I M 43 = cI (q.length + 1 : Nat)) (hl : q.length + 2 < 30000) (h : ∀ I1 L1, AL M N a t q I L I1 L1 → Call m_Model_readTime y_Model_readTime (d - 1 - 1) 0 0 [.ref M, .int (cI nd)] I1 L1 R T (rV fun I' L' R' T' => Hd d M R T Q I' L' ∧ R' = R ∧ T' = T)) : Hd d M R T Q I L :=
  have hT1 := hT.1
  hd_step hd hM h43 (by omega) hT1.2.2.2.2.1 (c_Model_readNext (d - 1) (by omega) hM hT1.1 hT1.2.1 hT1.2.2.1 hT1.2.2.2.1 hA h43 hl (by decide) (fun _ _ _ h => absurd h (by decide)) (fun _ _ _ h => absurd h (by decide)) (fun _ _ _ h => absurd h (by decide)) (fun _ _ _ h => absurd h (by decide)) (fun _ _ _ h => absurd h (by decide)) (fun _ _ _ h => absurd h (by decide)) (fun I1 L1 h1 _ => h I1 L1 h1) (fun _ _ _ h => absurd h (by decide)) (fun _ _ _ h => absurd h (by decide)) (fun _ _ _ h => absurd h (by decide)) (fun _ _ _ h => absurd h (by decide)))
theorem hn10 {n pt tp a : Nat} {nd s u : Int} {q : List Wt} {I : M32} {L : M64} (hd : 5 ≤ d) (hM : MdlS M R T) (hT : TS M N g pk kp t z I0 L0 n pt tp a I L) (hA : PileV I M ((10, nd, s, u) :: q)) (h43 : I M 43 = cI (q.length + 1 : Nat)) (hl : q.length + 2 < 30000) (h : ∀ I1 L1, AL M N a t q I L I1 L1 → Call m_Model_readAction y_Model_readAction (d - 1 - 1) 0 0 [.ref M, .int (cI nd), .int (cI u)] I1 L1 R T (rV fun I' L' R' T' => Hd d M R T Q I' L' ∧ R' = R ∧ T' = T)) : Hd d M R T Q I L :=
  have hT1 := hT.1
  hd_step hd hM h43 (by omega) hT1.2.2.2.2.1 (c_Model_readNext (d - 1) (by omega) hM hT1.1 hT1.2.1 hT1.2.2.1 hT1.2.2.2.1 hA h43 hl (by decide) (fun _ _ _ h => absurd h (by decide)) (fun _ _ _ h => absurd h (by decide)) (fun _ _ _ h => absurd h (by decide)) (fun _ _ _ h => absurd h (by decide)) (fun _ _ _ h => absurd h (by decide)) (fun _ _ _ h => absurd h (by decide)) (fun _ _ _ h => absurd h (by decide)) (fun I1 L1 h1 _ => h I1 L1 h1) (fun _ _ _ h => absurd h (by decide)) (fun _ _ _ h => absurd h (by decide)) (fun _ _ _ h => absurd h (by decide)))
theorem hn12 {n pt tp a : Nat} {nd s u : Int} {q : List Wt} {I : M32} {L : M64} (hd : 5 ≤ d) (hM : MdlS M R T) (hT : TS M N g pk kp t z I0 L0 n pt tp a I L) (hA : PileV I M ((12, nd, s, u) :: q)) (h43 : I M 43 = cI (q.length + 1 : Nat)) (hl : q.length + 2 < 30000) (h : ∀ I1 L1, AL M N a t q I L I1 L1 → Call m_Model_readBound y_Model_readBound (d - 1 - 1) 0 0 [.ref M, .int (cI nd), .int (cI s)] I1 L1 R T (rV fun I' L' R' T' => Hd d M R T Q I' L' ∧ R' = R ∧ T' = T)) : Hd d M R T Q I L :=
  have hT1 := hT.1
  hd_step hd hM h43 (by omega) hT1.2.2.2.2.1 (c_Model_readNext (d - 1) (by omega) hM hT1.1 hT1.2.1 hT1.2.2.1 hT1.2.2.2.1 hA h43 hl (by decide) (fun _ _ _ h => absurd h (by decide)) (fun _ _ _ h => absurd h (by decide)) (fun _ _ _ h => absurd h (by decide)) (fun _ _ _ h => absurd h (by decide)) (fun _ _ _ h => absurd h (by decide)) (fun _ _ _ h => absurd h (by decide)) (fun _ _ _ h => absurd h (by decide)) (fun _ _ _ h => absurd h (by decide)) (fun I1 L1 h1 _ => h I1 L1 h1) (fun _ _ _ h => absurd h (by decide)) (fun _ _ _ h => absurd h (by decide)))
theorem hn13 {n pt tp a : Nat} {nd s u : Int} {q : List Wt} {I : M32} {L : M64} (hd : 5 ≤ d) (hM : MdlS M R T) (hT : TS M N g pk kp t z I0 L0 n pt tp a I L) (hA : PileV I M ((13, nd, s, u) :: q)) (h43 : I M 43 = cI (q.length + 1 : Nat)) (hl : q.length + 2 < 30000) (h : ∀ I1 L1, AL M N a t q I L I1 L1 → Call m_Model_readSecond y_Model_readSecond (d - 1 - 1) 0 0 [.ref M, .int (cI nd), .int (cI s)] I1 L1 R T (rV fun I' L' R' T' => Hd d M R T Q I' L' ∧ R' = R ∧ T' = T)) : Hd d M R T Q I L :=
  have hT1 := hT.1
  hd_step hd hM h43 (by omega) hT1.2.2.2.2.1 (c_Model_readNext (d - 1) (by omega) hM hT1.1 hT1.2.1 hT1.2.2.1 hT1.2.2.2.1 hA h43 hl (by decide) (fun _ _ _ h => absurd h (by decide)) (fun _ _ _ h => absurd h (by decide)) (fun _ _ _ h => absurd h (by decide)) (fun _ _ _ h => absurd h (by decide)) (fun _ _ _ h => absurd h (by decide)) (fun _ _ _ h => absurd h (by decide)) (fun _ _ _ h => absurd h (by decide)) (fun _ _ _ h => absurd h (by decide)) (fun _ _ _ h => absurd h (by decide)) (fun I1 L1 h1 _ => h I1 L1 h1) (fun _ _ _ h => absurd h (by decide)))
theorem hn0 {n pt tp a : Nat} {w nd s u : Int} {q : List Wt} {I : M32} {L : M64} (hd : 5 ≤ d) (hM : MdlS M R T) (hw : w = 5 ∨ w = 6 ∨ w = 7 ∨ w = 11) (hT : TS M N g pk kp t z I0 L0 n pt tp a I L) (hA : PileV I M ((w, nd, s, u) :: q)) (h43 : I M 43 = cI (q.length + 1 : Nat)) (hl : q.length + 2 < 30000) (h : ∀ I1 L1, AL M N a t q I L I1 L1 → Call m_Model_readSign y_Model_readSign (d - 1 - 1) 0 0 [.ref M, .int (cI w), .int (cI nd)] I1 L1 R T (rV fun I' L' R' T' => Hd d M R T Q I' L' ∧ R' = R ∧ T' = T)) : Hd d M R T Q I L :=
  have hT1 := hT.1
  hd_step hd hM h43 (by omega) hT1.2.2.2.2.1 (c_Model_readNext (d - 1) (by omega) hM hT1.1 hT1.2.1 hT1.2.2.1 hT1.2.2.2.1 hA h43 hl (by omega) (fun _ _ _ h => by omega) (fun _ _ _ h => by omega) (fun _ _ _ h => by omega) (fun _ _ _ h => by omega) (fun _ _ _ h => by omega) (fun _ _ _ h => by omega) (fun _ _ _ h => by omega) (fun _ _ _ h => by omega) (fun _ _ _ h => by omega) (fun _ _ _ h => by omega) (fun I1 L1 h1 _ => h I1 L1 h1))
theorem hno {n pt tp a : Nat} {w nd s u : Int} {q : List Wt} {I : M32} {L : M64} (hd : 5 ≤ d) (hM : MdlS M R T) (hw : w = 1 ∨ w = 2 ∨ w = 3) (hT : TS M N g pk kp t z I0 L0 n pt tp a I L) (hA : PileV I M ((w, nd, s, u) :: q)) (h43 : I M 43 = cI (q.length + 1 : Nat)) (hl : q.length + 2 < 30000) (hK : tk (tkP t N) a = 103) (h : ∀ I1 L1, AL M N a t q I L I1 L1 → ∀ I2, PileV I2 M ((w, nd, s, u) :: (5, -1, 0, 0) :: q) → I2 M 43 = cI (q.length + 2 : Nat) → I2 M 12 = cI (te (tkP t N) a) → Fx (fun x k => SPl M x k ∨ (x = M ∧ k = 12)) I1 I2 → Hd d M R T Q I2 L1) : Hd d M R T Q I L :=
  have hT1 := hT.1
  hd_step hd hM h43 (by omega) hT1.2.2.2.2.1 (c_Model_readNext (d - 1) (by omega) hM hT1.1 hT1.2.1 hT1.2.2.1 hT1.2.2.2.1 hA h43 hl (by omega) (fun I1 L1 h1 _ _ I2 => h I1 L1 h1 I2) (fun _ _ _ _ h2 => absurd hK h2) (fun _ _ _ _ h2 => absurd hK h2) (fun _ _ _ _ h2 => absurd hK h2) (fun _ _ _ h => by omega) (fun _ _ _ h => by omega) (fun _ _ _ h => by omega) (fun _ _ _ h => by omega) (fun _ _ _ h => by omega) (fun _ _ _ h => by omega) (fun _ _ _ h => by omega))
/-- what goes on behind an item that changes no array of ints -/
def KSt (d M N g pk kp : Nat) (t : Nat → Nat) (z : Int32) (I0 : M32) (L0 : M64) (R : MR) (T : SH) (Q : QT) (res : ER (Nat × Row × List Row × List Int)) (nd n a0 pt tp : Nat) (A : (Nat → Int) → Prop) (l : List Wt) (I : M32) (L : M64) : Prop :=
  (∀ a' row', res = .ok (a', row', [], []) → 0 ≤ tk (tkP t N) a' → a0 ≤ a' → row'.length = 11 → ∀ I' L', TS M N g pk kp t z I0 L0 n pt tp a' I' L' → PileV I' M l → I' M 43 = cI l.length → (∀ V, A V → RowM I' L' M tp pt V nd row') → (∀ nd' n' pt' tp', FA M nd' n' pt' tp' I I') → FF M GI I I' → FLn M nd n L L' → Hd d M R T Q I' L') ∧
  (∀ c b, res = .error (c, b) → EK d M N g pk kp t z I0 L0 R T Q c b)
theorem KIt.st {res : ER (Nat × Row × List Row × List Int)} {nd n m a0 pt tp : Nat} {A : (Nat → Int) → Prop} {l : List Wt} {I : M32} {L : M64} (h : KIt d M N g pk kp t z I0 L0 R T Q res nd n m a0 pt tp A l I L) : KSt d M N g pk kp t z I0 L0 R T Q res nd n a0 pt tp A l I L :=
  ⟨fun a' row' h1 h2 ha h3 I' L' h4 h5 h6 h7 h8 h9 h10 => h.1 a' row' [] [] h1 h2 ha h3 I' L' pt tp h4 ⟨Nat.le_refl _, Nat.le_refl _⟩ h5 h6 (fun V q _ => ⟨h7 V q, RowsM.nil⟩) (h8 _ _ _ _) h9 h10, h.2⟩
/-- a fault out of the token at hand -/
theorem EK.er {n1 pt1 tp1 a : Nat} {l' : List Wt} {I I1 I' : M32} {L L1 L' : M64} {c : Int} {b : Nat} (hE : EK d M N g pk kp t z I0 L0 R T Q c b) (hc : 0 < c ∧ c < 10) (hT : TS M N g pk kp t z I0 L0 n1 pt1 tp1 a I L) (hAL : AL M N a t l' I L I1 L1) (hE2 : erQ M c b I1 L1 I' L') : Hd d M R T Q I' L' := by
  obtain ⟨-, -, f1, f2, f3⟩ := id hT
  obtain ⟨-, -, x3, x4, x5, -⟩ := hT.al hAL
  obtain ⟨e1, e2, e3, e4⟩ := hE2
  exact hE.1 I' L' ⟨e1, e2, hc, (f1.tr (x3 _ _ _ _)).tr (FA.of e3 (fun x k e => by omega) (fun x k e => by omega) (fun x k e => by omega) (fun k e => by omega)), ((f2.mo (by decide)).tr (x4.mo (by decide))).tr (FF.of e3 fun k e => by rcases (show k = 17 ∨ k = 18 by omega) with rfl | rfl <;> decide), by rw [e4]; exact f3.tr (x5 _ _)⟩
/-- the token is used; int arrays are as they were: the state goes on -/
theorem TS.use {n pt tp a : Nat} {nd : Int} {q : List Wt} {I I1 I' : M32} {L L1 L' : M64} (hT : TS M N g pk kp t z I0 L0 n pt tp a I L) (hAL : AL M N a t q I L I1 L1) (h12 : I' = up2 I1 M 12 (cI (te (tkP t N) a))) (hL : FLn M nd n L1 L') (hnd : (g : Int) ≤ nd ∨ nd < 0) : TS M N g pk kp t z I0 L0 n pt tp (te (tkP t N) a) I' L' ∧ PileV I' M q ∧ I' M 43 = cI q.length ∧ (∀ nd' n' pt' tp', FA M nd' n' pt' tp' I I') ∧ FF M GI I I' ∧ FLn M nd n L L' ∧ (∀ x k, x ≠ M → I' x k = I x k) := by
  obtain ⟨⟨t1, t2, t3, t4, t5, t6, t7, t8, t9, t10⟩, ⟨b1, b2, b3, b4, b5, b6, b7⟩, f1, f2⟩ := id hT
  obtain ⟨x1, x2, x3, x4, x5, x6⟩ := hT.al hAL
  obtain ⟨j1, j2, j3, j4, j5⟩ := id hAL
  have hle := TokR.le j1.1
  have hI1 : ∀ nd' n' pt' tp', FA M nd' n' pt' tp' I1 I' := fun nd' n' pt' tp' => by rw [h12]; exact FA.of (Fx.up (S := fun x k => x = M ∧ k = 12) ⟨rfl, rfl⟩) (fun x k e => by omega) (fun x k e => by omega) (fun x k e => by omega) (fun k e => by omega)
  have hIf : FF M [12] I1 I' := by rw [h12]; exact FF.up (by decide)
  have hFa := fun nd' n' pt' tp' => (x3 nd' n' pt' tp').tr (hI1 nd' n' pt' tp')
  have hFf : FF M GI I I' := (x4.mo (by decide)).tr (hIf.mo (by decide))
  have hFl := (x5 nd n).tr hL
  refine ⟨hT.go (hFa (-1) n pt tp) (by omega) hFf (by decide) hFl hnd (by rw [h12, up2_s]) (by omega) (by rw [hIf _ (by decide), x1 _ (by decide) (by decide)]; exact t5) (by rw [hIf _ (by decide), x1 _ (by decide) (by decide)]; exact t7) (by rw [hIf _ (by decide), x1 _ (by decide) (by decide)]; exact t8) (by rw [hIf _ (by decide), x1 _ (by decide) (by decide)]; exact t9) (by rw [hIf _ (by decide), x1 _ (by decide) (by decide)]; exact t10) (by omega) (by omega) (by omega), ?_, ?_, hFa, hFf, hFl, fun x k e => ?_⟩
  · rw [h12]; exact j2.fx fun x k _ _ _ => up2_a _ _ _ (by omega)
  · rw [hIf _ (by decide)]; exact j3
  · rw [h12, up2_a _ _ _ e, x2 _ _ e]
/-- after a token is used: the next one is none, or it goes on -/
theorem KSt.use {res : ER (Nat × Row × List Row × List Int)} {nd n a0 pt tp e : Nat} {A : (Nat → Int) → Prop} {l : List Wt} {row : Row} {I I' : M32} {L L' : M64} (hd : 5 ≤ d) (hM : MdlS M R T) (hK : KSt d M N g pk kp t z I0 L0 R T Q res nd n a0 pt tp A l I L) (hae : a0 ≤ e)
    (he : res = bnd (if tk (tkP t N) e < 0 then .error (-(tk (tkP t N) e), tb (tkP t N) e) else .ok e) fun a' => .ok (a', row, [], [])) (hr : row.length = 11) (hT : TS M N g pk kp t z I0 L0 n pt tp e I' L') (hA : PileV I' M l) (h43 : I' M 43 = cI l.length) (hl : l.length < 29990) (hw : PW l) (hR : ∀ V, A V → RowM I' L' M tp pt V nd row) (hF : ∀ nd' n' pt' tp', FA M nd' n' pt' tp' I I') (hf : FF M GI I I') (hL : FLn M nd n L L') : Hd d M R T Q I' L' := by
  by_cases hk : tk (tkP t N) e < 0
  · rw [if_pos hk] at he
    exact (hK.2 _ _ he).bad hd hM hT hk rfl rfl hA h43 hl hw
  · rw [if_neg hk] at he
    exact hK.1 e row he (by omega) hae hr I' L' hT hA h43 hR hF hf hL
theorem sit_name {P : PT} {nd n m a pt tp dep s : Nat} {w4 : Int} {A : (Nat → Int) → Prop} {row : Row} {q : List Wt} {I : M32} {L : M64} (hd : 5 ≤ d) (hM : MdlS M R T) (hs : s = 1 ∨ s = 2 ∨ s = 3) (hr : row.length = 11) (hok : s = 1 → row.getD 0 0 ≠ 5) (hg : g ≤ nd) (hnd : nd < n) (hT : TS M N g pk kp t z I0 L0 n pt tp a I L) (hk : 0 ≤ tk (tkP t N) a) (hA : PileV I M ((4, (nd : Int), (s : Int), w4) :: q)) (h43 : I M 43 = cI (q.length + 1 : Nat)) (hw : PW q) (hl : q.length < 29000) (hR : ∀ V, A V → RowM I L M tp pt V nd row) (hK : KSt d M N g pk kp t z I0 L0 R T Q (itm0 (tkP t N) P dep 4 s row n m a) nd n a pt tp A q I L) : Hd d M R T Q I L := by
  obtain ⟨⟨t1, t2, t3, t4, t5, t6, t7, t8, t9, t10⟩, ⟨b1, b2, b3, b4, b5, b6, b7⟩, f1, f2⟩ := id hT
  refine hn4 hd hM hT hA h43 (by omega) fun I1 L1 hAL => ?_
  obtain ⟨x1, x2, x3, x4, x5, x6⟩ := hT.al hAL
  obtain ⟨j1, j2, j3, j4, j5⟩ := id hAL
  refine (c_Model_readName (d - 1 - 1) (s := (s : Int)) (by omega) hM j1 (by omega) (by omega) (by rw [x1 _ (by decide) (by decide)]; exact t5)).mono ?_
  rintro o I' L' R' T' ⟨h1, h2, h3⟩
  refine ⟨h1, ?_, h3⟩
  have hres : itm0 (tkP t N) P dep 4 s row n m a = bnd (wn (tkP t N) 101 a) fun a' => .ok (a', row.set (4 + s) (tx (tkP t N) a), [], []) := rfl
  rw [hres] at hK
  rcases h2 with ⟨z1, z2⟩ | ⟨z1, z2, z3⟩
  · rw [fcF_ok hk] at z2
    rw [wn_no z1] at hK
    exact (hK.2 _ _ rfl).er fc_in hT hAL z2
  · rw [wn_yes z1 (by decide)] at hK
    have hL1 : FLn M nd n L1 L' := by rw [z3, Int.toNat_natCast]; exact FLn.of (Fx.up (S := fun x k => x = M + 6 + s ∧ k = nd) ⟨rfl, rfl⟩) fun x k e => by omega
    obtain ⟨u1, u2, u3, u4, u5, u6, u7⟩ := hT.use hAL z2 hL1 (by omega)
    refine hK.use hd hM (by have := TokR.le j1.1; omega) rfl (by rw [List.length_set]; exact hr) u1 u2 u3 (by omega) hw (fun V h9 => ?_) u4 u5 u6
    exact (hR V h9).nm hr hs hok u7 (fun x k e => by rw [z3, Int.toNat_natCast]; exact ((Fx.up (S := fun x k => x = M + 6 + s ∧ k = nd) ⟨rfl, rfl⟩) x k (fun h => e (Or.inr h))).trans (j5 x k (fun h => e (Or.inl h.1)))) (by rw [z3, Int.toNat_natCast, up2_s])
/-- [ of cases or of bounds -/
theorem sit_row {P : PT} {nd n m a pt tp dep w : Nat} {nz w3 w4 : Int} {A : (Nat → Int) → Prop} {row : Row} {q : List Wt} {I : M32} {L : M64} (hd : 5 ≤ d) (hM : MdlS M R T) (hw7 : w = 7 ∨ w = 11) (hr : row.length = 11) (hT : TS M N g pk kp t z I0 L0 n pt tp a I L) (hk : 0 ≤ tk (tkP t N) a) (hA : PileV I M (((w : Int), nz, w3, w4) :: q)) (h43 : I M 43 = cI (q.length + 1 : Nat)) (hw : PW q) (hl : q.length < 29000) (hR : ∀ V, A V → RowM I L M tp pt V nd row) (hK : KSt d M N g pk kp t z I0 L0 R T Q (itm0 (tkP t N) P dep w 0 row n m a) nd n a pt tp A q I L) : Hd d M R T Q I L := by
  obtain ⟨⟨t1, t2, t3, t4, t5, t6, t7, t8, t9, t10⟩, ⟨b1, b2, b3, b4, b5, b6, b7⟩, f1, f2⟩ := id hT
  refine hn0 hd hM (by omega) hT hA h43 (by omega) fun I1 L1 hAL => ?_
  obtain ⟨x1, x2, x3, x4, x5, x6⟩ := hT.al hAL
  obtain ⟨j1, j2, j3, j4, j5⟩ := id hAL
  refine (c_Model_readSign (d - 1 - 1) (n := 0) (by omega) hM j1 (fun h => by omega) (by omega) (by omega) (by rw [x1 _ (by decide) (by decide)]; exact t5)).mono ?_
  rintro o I' L' R' T' ⟨h1, h2, h3⟩
  refine ⟨h1, ?_, h3⟩
  have hres : itm0 (tkP t N) P dep w 0 row n m a = bnd (wn (tkP t N) 105 a) fun a' => .ok (a', row, [], []) := by
    unfold itm0
    rw [if_neg (by omega), if_neg (by omega), if_neg (by omega), if_neg (by omega), if_neg (by omega)]
  rw [hres] at hK
  rw [if_neg (by omega), if_neg (by omega), if_neg (by omega), if_neg (by omega)] at h2
  rcases h2 with ⟨z1, z2⟩ | ⟨z1, z2, z3⟩
  · rw [fcF_ok hk] at z2
    rw [wn_no z1] at hK
    exact (hK.2 _ _ rfl).er fc_in hT hAL z2
  · rw [wn_yes z1 (by decide)] at hK
    rw [if_neg (by omega)] at z2
    obtain ⟨u1, u2, u3, u4, u5, u6, u7⟩ := hT.use (nd := -1) (L' := L') hAL z2 (by rw [z3]; exact FLn.rf) (by omega)
    exact hK.use hd hM (by have := TokR.le j1.1; omega) rfl hr u1 u2 u3 (by omega) hw (fun V h9 => (hR V h9).fx (fun x _ _ => u7 _ _ (by omega)) (fun x h1 h2 => by rw [z3]; exact j5 _ _ (by omega)) (fun k _ => u7 _ _ (by omega)) (fun k _ => ⟨u7 _ _ (by omega), u7 _ _ (by omega)⟩) (Nat.le_refl _) (Nat.le_refl _)) u4 u5 (u6.mo (Nat.le_refl _) (by omega))
/-- ) -/
theorem s_shut {n a pt tp : Nat} {nz w3 w4 : Int} {q : List Wt} {I : M32} {L : M64} (hd : 5 ≤ d) (hM : MdlS M R T) (hT : TS M N g pk kp t z I0 L0 n pt tp a I L) (hk : 0 ≤ tk (tkP t N) a) (hA : PileV I M ((5, nz, w3, w4) :: q)) (h43 : I M 43 = cI (q.length + 1 : Nat)) (hw : PW q) (hl : q.length < 29000)
    (hK : ∀ a', wn (tkP t N) 104 a = .ok a' → 0 ≤ tk (tkP t N) a' → a ≤ a' → ∀ I' L', TS M N g pk kp t z I0 L0 n pt tp a' I' L' → PileV I' M q → I' M 43 = cI q.length → (∀ nd' n' pt' tp', FA M nd' n' pt' tp' I I') → FF M GI I I' → (∀ x k, x ≠ M → I' x k = I x k) → Fx (fun x k => x = M ∧ k = 16) L L' → Hd d M R T Q I' L') (hE : ∀ c b, wn (tkP t N) 104 a = .error (c, b) → EK d M N g pk kp t z I0 L0 R T Q c b) : Hd d M R T Q I L := by
  obtain ⟨⟨t1, t2, t3, t4, t5, t6, t7, t8, t9, t10⟩, ⟨b1, b2, b3, b4, b5, b6, b7⟩, f1, f2⟩ := id hT
  refine hn0 hd hM (by omega) hT hA h43 (by omega) fun I1 L1 hAL => ?_
  obtain ⟨x1, x2, x3, x4, x5, x6⟩ := hT.al hAL
  obtain ⟨j1, j2, j3, j4, j5⟩ := id hAL
  refine (c_Model_readSign (d - 1 - 1) (n := 0) (by omega) hM j1 (fun h => by omega) (by omega) (by omega) (by rw [x1 _ (by decide) (by decide)]; exact t5)).mono ?_
  rintro o I' L' R' T' ⟨h1, h2, h3⟩
  refine ⟨h1, ?_, h3⟩
  rw [if_pos rfl, if_pos rfl] at h2
  rcases h2 with ⟨z1, z2⟩ | ⟨z1, z2, z3⟩
  · rw [fcF_ok hk] at z2
    exact (hE _ _ (wn_no z1)).er fc_in hT hAL z2
  · rw [if_neg (by omega)] at z2
    obtain ⟨u1, u2, u3, u4, u5, u6, u7⟩ := hT.use (nd := -1) (L' := L') hAL z2 (by rw [z3]; exact FLn.rf) (by omega)
    have hwn := wn_yes (due := 104) z1 (by decide)
    by_cases hb : tk (tkP t N) (te (tkP t N) a) < 0
    · rw [if_pos hb] at hwn
      exact (hE _ _ hwn).bad hd hM u1 hb rfl rfl u2 u3 (by omega) hw
    · rw [if_neg hb] at hwn
      exact hK _ hwn (by omega) (by have := TokR.le j1.1; omega) I' L' u1 u2 u3 u4 u5 u7 (by rw [z3]; exact j5)
end

