/-! ===== 86 THE COMPONENT'S READER: begin and end of a node ===== -/
/-- what is read behind a node's items -/
def FinC (τ : TkF) (k : Nat) : Nat × Row × List Row × List Int → CR (Nat × List Row × List Int) := fun x => bdC (lfC (shu τ k x.1)) fun a4 => okC (a4, x.2.1 :: x.2.2.1, x.2.2.2)
section
variable {τ : TkF} {g F f s dep n m a k a1 : Nat}
theorem psC_er1 {e : Int × Nat} (h : opn τ F a = .error e) : psC τ g F (f + 1) s dep n m a = (0, .error e) := by rw [psC, h]; rfl
theorem psC_er2 (h : opn τ F a = .ok (k, a1)) (hk : ¬ okS s (tk τ a1) = true) : psC τ g F (f + 1) s dep n m a = (0, .error (4, tb τ a1)) := by
  rw [psC, h]
  show adC 0 (if ¬ okS s (tk τ a1) then erC (4, tb τ a1) else _) = _
  rw [if_pos hk]; rfl
theorem psC_er3 (h : opn τ F a = .ok (k, a1)) (hk : okS s (tk τ a1) = true) (hn : 100 < dep ∨ n - g = 1000) : psC τ g F (f + 1) s dep n m a = (0, .error (7, tb τ a1)) := by
  rw [psC, h]
  show adC 0 (if ¬ okS s (tk τ a1) then _ else if 100 < dep ∨ n - g = 1000 then erC (7, tb τ a1) else _) = _
  rw [if_neg (fun q => q hk), if_pos hn]; rfl
theorem psC_go (h : opn τ F a = .ok (k, a1)) (hk : okS s (tk τ a1) = true) (hn : ¬ (100 < dep ∨ n - g = 1000)) : psC τ g F (f + 1) s dep n m a = adC (if tk τ a1 = 100 then 1 else 0) (bdC (lfC (nx τ a1)) fun a2 => bdC (itsC (itmC τ g (psC τ g F f) dep) (itC (tk τ a1)) [tk τ a1, -1, -1, -1, -1, if tk τ a1 = 102 then tx τ a1 else 0, 0, 0, if tk τ a1 = 100 then (m : Int) else -1, 0, dep] (n + 1) (if tk τ a1 = 100 then m + 1 else m) a2) fun q =>
    bdC (lfC (shu τ k q.1)) fun a4 => okC (a4, q.2.1 :: q.2.2.1, if tk τ a1 = 100 then tv τ a1 :: q.2.2.2 else q.2.2.2)) := by
  rw [psC, h]
  show adC 0 (if ¬ okS s (tk τ a1) then _ else if 100 < dep ∨ n - g = 1000 then erC (7, tb τ a1) else _) = _
  rw [if_neg (fun q => q hk), if_neg hn, adC_0]
/-- the numbers that the node itself makes -/
def ownN (τ : TkF) (a1 : Nat) : List Int := if tk τ a1 = 100 then [tv τ a1] else []
def ownR (τ : TkF) (a1 m dep : Nat) : Row := [tk τ a1, -1, -1, -1, -1, if tk τ a1 = 102 then tx τ a1 else 0, 0, 0, if tk τ a1 = 100 then (m : Int) else -1, 0, dep]
theorem psC_go2 {a2 : Nat} (h : opn τ F a = .ok (k, a1)) (hk : okS s (tk τ a1) = true) (hn : ¬ (100 < dep ∨ n - g = 1000)) (h2 : nx τ a1 = .ok a2) : RsC (psC τ g F (f + 1) s dep n m a) (itmC τ g (psC τ g F f) dep) (n + 1) m (FinC τ k) (itC (tk τ a1)) (ownR τ a1 m dep) [] (ownN τ a1) a2 := by
  unfold RsC ownN ownR
  rw [psC_go h hk hn, h2]
  by_cases q : tk τ a1 = 100
  · simp only [if_pos q, FinC, List.length_cons, List.length_nil, Nat.zero_add, Nat.add_zero, List.nil_append, List.singleton_append]
    show adC 1 (adC 0 _) = _
    rw [adC_0]
  · simp only [if_neg q, FinC, List.length_nil, Nat.add_zero, List.nil_append]
    show adC 0 (adC 0 _) = _
    rw [adC_0]
theorem psC_er4 {e : Int × Nat} (h : opn τ F a = .ok (k, a1)) (hk : okS s (tk τ a1) = true) (hn : ¬ (100 < dep ∨ n - g = 1000)) (h2 : nx τ a1 = .error e) : psC τ g F (f + 1) s dep n m a = ((ownN τ a1).length, .error e) := by
  rw [psC_go h hk hn, h2]
  unfold ownN
  by_cases q : tk τ a1 = 100
  · simp only [if_pos q]; rfl
  · simp only [if_neg q]; rfl
theorem psC_ge (h : opn τ F a = .ok (k, a1)) (hk : okS s (tk τ a1) = true) (hn : ¬ (100 < dep ∨ n - g = 1000)) : (ownN τ a1).length ≤ (psC τ g F (f + 1) s dep n m a).1 := by
  rw [psC_go h hk hn]
  unfold ownN
  by_cases q : tk τ a1 = 100
  · simp only [if_pos q]; exact Nat.le_add_right _ _
  · simp only [if_neg q]; exact Nat.zero_le _
end
section
variable {P w o D N Z g i n1 m0 sz0 a n m sz : Nat} {t : Nat → Nat} {V V0 : Nat → Int} {I0 I I' : M32} {L0 L L' : M64} {R0 R R' : MR} {T0 T T' : SH} {row : Row} {rs : List Row} {nums : List Int}
theorem CS.er {c : Nat} {e : Int × Nat} (h : CS P w o D N Z g t a n m sz V I L R T) (hI : Fx (STk o) I I') (hL : Fx (STl o) L L') (he : I' (o + 4) 0 = cI e.1 ∧ I' (o + 4) 1 = cI e.2) (hc : c = 0) : ErC P w o D Z g m sz c V e I' L' R T := by
  have := h.1.2.2.2.1.lt
  refine ⟨he, m, V, ?_, Nat.le_refl _, fun _ _ => rfl⟩
  rw [hc, show max sz (m + 0) = sz by omega]
  exact h.1.tk hI hL
theorem CS.ps_er {r : CR (Nat × List Row × List Int)} {e : Int × Nat} (h : CS P w o D N Z g t a n m sz V I L R T) (hF : RF D o Z n I0 L0 R0 T0 I L R T) (hr : r = (0, .error e)) (hI : Fx (STk o) I I') (hL : Fx (STl o) L L') (he : I' (o + 4) 0 = cI e.1 ∧ I' (o + 4) 1 = cI e.2) : PsQ P w o D N Z g t n m sz V r I0 L0 R0 T0 (.threw (o + 4)) I' L' R T := by
  subst hr
  exact ⟨⟨rfl, h.er hI hL he rfl⟩, hF.tr (RF.tk hI hL)⟩
/-- a node was made -/
theorem CS.nd (h : CS P w o D N Z g t a n m sz V I L R T) (h4 : I' D 10 = cI (n + 1 : Nat)) (hI : Fx (SRi D n) I I') (hL : Fx (SRl D n) L L') (hn : n < g + 1000) : CS P w o D N Z g t a (n + 1) m sz V I' L' R T ∧ RF D o Z n I L R T I' L' R T := by
  obtain ⟨⟨a1, a2, a3, a4, a5⟩, a6, a7, a8⟩ := h
  have hZ := a4.lt.1
  refine ⟨⟨⟨a1, fun k hk => by rw [hL.gt (by omega)]; exact a2 k hk, by rw [hI.gt (by omega)]; exact a3, a4.co (hI.gt (by omega)) (hI.gt (by omega)) (fun a k e => hI.gt (by omega)), a5⟩, a6.co (fun a k e1 e2 => hI.gt (by omega)) (hL.gt (by omega)), h4, by omega⟩, ?_⟩
  refine ⟨hI.mo fun a k e => ?_, hL.mo fun a k e => Or.inr (Or.inr ⟨e.2.1, e.2.2, by omega⟩), Fx.rf, TE.rf⟩
  rcases e with e | e
  · exact Or.inr (Or.inr (Or.inl ⟨e.1, Or.inl e.2⟩))
  · exact Or.inr (Or.inr (Or.inr (Or.inr ⟨e.2.1, e.2.2, by omega⟩)))
/-- a node is read to its end -/
theorem WK.fin {a4 : Nat} {r : CR (Nat × List Row × List Int)} (h : WK P w o D N Z g t n (n + 1) m sz V I0 L0 R0 T0 a row rs nums I L R T) (hI : Fx (STk o) I I') (hL : Fx (STl o) L L') (hC : CT o N a4 t I' L') (hr : r = (nums.length, .ok (a4, row :: rs, nums))) : PsQ P w o D N Z g t n m sz V r I0 L0 R0 T0 (.returned (some (.int (cI n)))) I' L' R T := by
  have h1 := h.tk hI hL hC
  subst hr
  refine ⟨⟨rfl, ?_, RowsC.cons h1.2.1.1 h1.2.2.1, rfl⟩, h1.2.2.2.2⟩
  have h2 := h1.1
  rw [show n + 1 + rs.length = n + (row :: rs).length by rw [List.length_cons]; omega] at h2
  exact h2
theorem WK.ps_er {r : CR (Nat × List Row × List Int)} {e : Int × Nat} (h : WK P w o D N Z g t n (n + 1) m sz V I0 L0 R0 T0 a row rs nums I L R T) (hI : Fx (STk o) I I') (hL : Fx (STl o) L L') (he : I' (o + 4) 0 = cI e.1 ∧ I' (o + 4) 1 = cI e.2) (hr : r = (nums.length, .error e)) : PsQ P w o D N Z g t n m sz V r I0 L0 R0 T0 (.threw (o + 4)) I' L' R T := by
  have h1 := h.er_tk hI hL he
  subst hr
  exact ⟨⟨rfl, h1.1⟩, h1.2⟩
theorem EQ9.of {r : CR (Nat × List Row × List Int)} {Q : QT} (hQ : ∀ oc I' L' R' T', PsQ P w o D N Z g t n m sz V r I0 L0 R0 T0 oc I' L' R' T' → Q oc I' L' R' T') : EQ9 P w o D Z g n m sz V r I0 L0 R0 T0 Q := fun e I' L' R' T' h1 h2 h3 => hQ _ _ _ _ _ (by
  unfold PsQ
  rw [h1]
  exact ⟨⟨rfl, h2⟩, h3⟩)
theorem FinC_ok {τ : TkF} {k a4 : Nat} (h : shu τ k a = .ok a4) : FinC τ k (a, row, rs, nums) = okC (a4, row :: rs, nums) := by unfold FinC; rw [h]; rfl
theorem FinC_er {τ : TkF} {k : Nat} {e : Int × Nat} (h : shu τ k a = .error e) : FinC τ k (a, row, rs, nums) = erC e := by unfold FinC; rw [h]; rfl
/-- the tokens' failure at the token at hand -/
theorem badQ_fx {f p : Int} {oc : Outcome} (h : badQ (o + 4) f p I L R T oc I' L' R' T') : oc = .threw (o + 4) ∧ Fx (STk o) I I' ∧ (I' (o + 4) 0 = cI f ∧ I' (o + 4) 1 = cI p) ∧ L' = L ∧ R' = R ∧ T' = T := by
  obtain ⟨rfl, rfl, rfl, rfl, rfl⟩ := h
  exact ⟨rfl, (Fx.up (Or.inr (Or.inr (Or.inr rfl)))).tu (Or.inr (Or.inr (Or.inr rfl))), ⟨by rw [up2_k _ _ _ (by decide), up2_s], up2_s _ _ _ _⟩, rfl, rfl, rfl⟩
end

