/-! ===== 66 TOKENS BY THE TOKEN FUNCTION ===== -/
/-- the component's token at hand: read from place a on -/
def CT (o N a : Nat) (t : Nat → Nat) (I : M32) (L : M64) : Prop := TkOk t N a ∧ 0 ≤ tk (tkP t N) a ∧ I o 1 = cI N ∧ I o 2 = cI (te (tkP t N) a) ∧ I o 3 = cI (tk (tkP t N) a) ∧ I o 4 = cI (tb (tkP t N) a) ∧ (0 ≤ tk (tkP t N) a ∧ tk (tkP t N) a < 100 ∨ tk (tkP t N) a = 101 ∨ tk (tkP t N) a = 102 → L o 5 = cL (tx (tkP t N) a)) ∧ (tk (tkP t N) a = 100 → BigV I (o + 2) (tv (tkP t N) a)) ∧ TxV I o N t
/-- the cells of the tokens that reading changes -/
abbrev STk (o a k : Nat) : Prop := (a = o ∧ k ≠ 1) ∨ a = o + 2 ∨ a = o + 3 ∨ a = o + 4
abbrev STl (o a k : Nat) : Prop := a = o ∧ k = 5
theorem FrK.x {o : Nat} {I I' : M32} (h : FrK o I I') : Fx (STk o) I I' := fun a k e => by
  by_cases e1 : a = o
  · subst e1
    obtain rfl : k = 1 := Decidable.byContradiction fun q => e (Or.inl ⟨rfl, q⟩)
    exact h.2
  · rw [h.1 a e1 (fun q => e (by omega)) (fun q => e (by omega)) (fun q => e (by omega))]
/-- what the reading of tokens comes to -/
def nxT (o N : Nat) (t : Nat → Nat) (v : Option Value) (r : ER Nat) (I : M32) (L : M64) (R : MR) (T : SH) : QT := fun oc I' L' R' T' => (match r with
  | .ok a1 => oc = .returned v ∧ CT o N a1 t I' L'
  | .error e => oc = .threw (o + 4) ∧ I' (o + 4) 0 = cI e.1 ∧ I' (o + 4) 1 = cI e.2) ∧ Fx (STk o) I I' ∧ Fx (STl o) L L' ∧ R' = R ∧ T' = T
theorem nxQ_T {o N a : Nat} {t : Nat → Nat} {I I' : M32} {L L' : M64} {R R' : MR} {T T' : SH} {oc : Outcome} (hV : TxV I o N t) (hN : I o 1 = cI N) (h : nxQ o t N a I L R T oc I' L' R' T') : nxT o N t none (if tk (tkP t N) a < 0 then .error (-(tk (tkP t N) a), tb (tkP t N) a) else .ok a) I L R T oc I' L' R' T' := by
  obtain ⟨b, e, kind, x, v, h1, h2⟩ := h
  obtain ⟨e1, e2, e3, e4, e5⟩ := tkP_ok h1
  have e1 : tb (tkP t N) a = b := e1
  have e2 : te (tkP t N) a = e := e2
  have e3 : tk (tkP t N) a = kind := e3
  have e4 : 0 ≤ kind ∧ kind < 100 ∨ kind = 101 ∨ kind = 102 → tx (tkP t N) a = x := e4
  have e5 : kind = 100 → tv (tkP t N) a = v := e5
  rw [e3, e1]
  rcases h2 with ⟨hk, h3, h4, h5, h6, h7, h8, h9, h10, h11, h12⟩ | ⟨hk, y, h3, h4⟩
  · rw [if_neg (by omega)]
    refine ⟨⟨h3, h1.ok, by rw [e3]; exact hk, by rw [h7.2]; exact hN, by rw [e2]; exact h4, by rw [e3]; exact h5, by rw [e1]; exact h6, fun q => ?_, fun q => ?_, ⟨hV.1, fun j hj => ?_⟩⟩, h7.x, fun a k q => h10 a k q, h11, h12⟩
    · rw [e3] at q; rw [e4 q]; exact h8 (by omega)
    · rw [e3] at q; rw [e5 q]; exact h9 q
    · rw [h7.1 _ (by omega) (by omega) (by omega) (by omega)]; exact hV.2 j hj
  · rw [if_pos hk]
    obtain ⟨rfl, g1, g2, g3, g4, g5, g6⟩ := h4
    exact ⟨⟨h3, g1, g2⟩, g3.x, fun a k q => g4 a k q, g5, g6⟩
section
variable (d : Nat) {o P w N a : Nat} {t : Nat → Nat} {I : M32} {L : M64} {R : MR} {T : SH}
theorem c_Tokens_nextT (hd : 3 ≤ d) (hS : TkS R T o P) (hP : T.1 P = 16 + 1) (hPw : R P 0 = some w) (hK : KwS R T w) (hKV : KwV L w) (hC : CT o N a t I L) : Call m_Tokens_next y_Tokens_next d 0 0 [.ref o] I L R T (nxT o N t none (nx (tkP t N) a) I L R T) := by
  obtain ⟨c1, c2, c3, c4, c5, c6, c7, c8, c9⟩ := hC
  have c1' : TokR t N a (tb (tkP t N) a) (te (tkP t N) a) (tk (tkP t N) a) (tx (tkP t N) a) (tv (tkP t N) a) := c1
  exact (c_Tokens_next d hd hS hP hPw hK hKV c9 c3 c4 c1'.le.2.2.1).mono fun _ _ _ _ _ h => nxQ_T c9 c3 h
theorem c_Tokens_wantT {due : Int} (hd : 4 ≤ d) (hS : TkS R T o P) (hP : T.1 P = 16 + 1) (hPw : R P 0 = some w) (hK : KwS R T w) (hKV : KwV L w) (hC : CT o N a t I L) (hdi : inI due) : Call m_Tokens_want y_Tokens_want d 0 0 [.ref o, .int (cI due)] I L R T (nxT o N t none (wn (tkP t N) due a) I L R T) := by
  obtain ⟨c1, c2, c3, c4, c5, c6, c7, c8, c9⟩ := hC
  have c1' : TokR t N a (tb (tkP t N) a) (te (tkP t N) a) (tk (tkP t N) a) (tx (tkP t N) a) (tv (tkP t N) a) := c1
  have hkd := c1'.kd
  refine (c_Tokens_want d hd hS hP hPw hK hKV c9 c3 c4 c1'.le.2.2.1 c5 (by omega) hdi c6).mono fun oc I' L' R' T' h => ?_
  have hbad : ∀ c : Int, badQ (o + 4) c (tb (tkP t N) a) I L R T oc I' L' R' T' → nxT o N t none (.error (c, tb (tkP t N) a)) I L R T oc I' L' R' T' := by
    rintro c ⟨g1, g2, g3, g4, g5⟩
    exact ⟨⟨g1, by rw [g2, up2_k _ _ _ (by decide), up2_s], by rw [g2, up2_s]⟩, by rw [g2]; exact (Fx.up (by omega)).tu (by omega), by rw [g3]; exact Fx.rf, g4, g5⟩
  unfold wn
  rcases h with ⟨h1, h2⟩ | ⟨h1, h2, h3⟩ | ⟨h1, h2, h3⟩
  · rw [if_pos h1]; exact hbad 3 h2
  · rw [if_neg h1, if_pos h2]; exact hbad 4 h3
  · rw [if_neg h1, if_neg (by omega)]; exact nxQ_T c9 c3 h3
theorem c_Tokens_wantNameT (hd : 5 ≤ d) (hS : TkS R T o P) (hP : T.1 P = 16 + 1) (hPw : R P 0 = some w) (hK : KwS R T w) (hKV : KwV L w) (hC : CT o N a t I L) : Call m_Tokens_wantName y_Tokens_wantName d 0 0 [.ref o] I L R T (nxT o N t (some (.long (cL (tx (tkP t N) a)))) (wn (tkP t N) 101 a) I L R T) := by
  obtain ⟨c1, c2, c3, c4, c5, c6, c7, c8, c9⟩ := hC
  have c1' : TokR t N a (tb (tkP t N) a) (te (tkP t N) a) (tk (tkP t N) a) (tx (tkP t N) a) (tv (tkP t N) a) := c1
  have hkd := c1'.kd
  refine (c_Tokens_wantName d hd hS hP hPw hK hKV c9 c3 c4 c1'.le.2.2.1 c5 (by omega) c6).mono fun oc I' L' R' T' h => ?_
  have hbad : ∀ (c : Int) (oc : Outcome), badQ (o + 4) c (tb (tkP t N) a) I L R T oc I' L' R' T' → nxT o N t (some (.long (cL (tx (tkP t N) a)))) (.error (c, tb (tkP t N) a)) I L R T oc I' L' R' T' := by
    rintro c oc ⟨g1, g2, g3, g4, g5⟩
    exact ⟨⟨g1, by rw [g2, up2_k _ _ _ (by decide), up2_s], by rw [g2, up2_s]⟩, by rw [g2]; exact (Fx.up (by omega)).tu (by omega), by rw [g3]; exact Fx.rf, g4, g5⟩
  unfold wn
  rcases h with ⟨h0, h⟩ | ⟨y, h0, h⟩
  · obtain ⟨-, -, -, hk⟩ := wnQ_v h
    rw [if_neg (by omega), if_neg (by omega)]
    rcases h with ⟨h1, h2, _⟩ | ⟨h1, h2, h3, _⟩ | ⟨h1, h2, h3⟩
    · cases h2
    · cases h3
    · have h4 := nxQ_T c9 c3 h3
      rw [h0, c7 (Or.inr (Or.inl hk))]
      unfold nx
      split at h4
      · exact absurd h4.1.1 (by intro q; cases q)
      · next q => rw [if_neg q]; exact ⟨⟨rfl, h4.1.2⟩, h4.2⟩
  · rw [h0]
    rcases h with ⟨h1, h2⟩ | ⟨h1, h2, h3⟩ | ⟨h1, h2, h3⟩
    · rw [if_pos h1]; exact hbad 3 _ h2
    · rw [if_neg h1, if_pos h2]; exact hbad 4 _ h3
    · rw [if_neg h1, if_neg (by omega)]
      have h4 := nxQ_T c9 c3 h3
      unfold nx
      split at h4
      · next q => rw [if_pos q]; exact h4
      · exact absurd h4.1.1 (by intro q; cases q)
end

