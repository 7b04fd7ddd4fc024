/-! ===== 84 THE COMPONENT'S READER: its state, what a step does to it ===== -/
theorem Fx.gt {α : Type} {S : Nat → Nat → Prop} {f g : Nat → Nat → α} (h : Fx S f g) {a k : Nat} (e : ¬ S a k) : g a k = f a k := h a k e
/-- numbers' values behind the first m -/
def extV (V : Nat → Int) (m : Nat) (l : List Int) : Nat → Int := fun k => if k < m then V k else l.getD (k - m) 0
theorem extV_lt {V : Nat → Int} {m k : Nat} {l : List Int} (h : k < m) : extV V m l k = V k := if_pos h
theorem extV_ext (V : Nat → Int) (m : Nat) (l l' : List Int) : extV (extV V m l) (m + l.length) l' = extV V m (l ++ l') := by
  funext k
  unfold extV
  by_cases h : k < m
  · rw [if_pos (by omega), if_pos h, if_pos h]
  · rw [if_neg h]
    by_cases h2 : k < m + l.length
    · rw [if_pos h2, if_neg h, gapp_l _ _ _ (by omega)]
    · rw [if_neg h2, gapp_r _ _ _ (by omega)]
      rw [show k - (m + l.length) = k - m - l.length by omega, if_neg h]
theorem KwS.te {R R' : MR} {T T' : SH} {w : Nat} (h : KwS R T w) (hR : R' w 0 = R w 0) (hT : TE T T') : KwS R' T' w := ⟨hT.tag h.1, by rw [hR]; exact h.2.1, hT.tag (k := 64) h.2.2.1, hT.len (k := 64) h.2.2.1 h.2.2.2⟩
theorem TkS.te {R R' : MR} {T T' : SH} {o P : Nat} (h : TkS R T o P) (hR : ∀ k, R' o k = R o k) (hR2 : R' (o + 2) 0 = R (o + 2) 0) (hT : TE T T') : TkS R' T' o P := by
  obtain ⟨h1, h2, h3, h4, h5, h6, h7, h8, h9⟩ := h
  exact ⟨hT.tag h1, by rw [hR]; exact h2, hT.tag (k := 65) h3, hT.len (k := 65) h3 h4, by rw [hR]; exact h5, h6.te hR2 hT, by rw [hR]; exact h7, hT.tag h8, by rw [hR]; exact h9⟩
/-- the reader at rest: its numbers -/
def CS0 (P w o D Z g m sz : Nat) (V : Nat → Int) (I : M32) (L : M64) (R : MR) (T : SH) : Prop := RdS R T P w o D ∧ KwV L w ∧ I D 13 = cI g ∧ NuH I R T D Z m sz V ∧ (P < w ∧ w + 1 < o ∧ o + 4 < D ∧ g ≤ 4000)
/-- the reader with the token from a on at hand, n nodes -/
def CS (P w o D N Z g : Nat) (t : Nat → Nat) (a n m sz : Nat) (V : Nat → Int) (I : M32) (L : M64) (R : MR) (T : SH) : Prop := CS0 P w o D Z g m sz V I L R T ∧ CT o N a t I L ∧ I D 10 = cI n ∧ (g ≤ n ∧ n ≤ g + 1000 ∧ N ≤ 16384)
/-- what the reader may change when its nodes from i on are open -/
abbrev RFi (D o Z i a k : Nat) : Prop := Z ≤ a ∨ STk o a k ∨ (a = D ∧ (k = 10 ∨ k = 12)) ∨ (a = D + 11 ∧ (k = 1 ∨ k = 2)) ∨ (D + 1 ≤ a ∧ a ≤ D + 7 ∧ i ≤ k)
abbrev RFl (D o Z i a k : Nat) : Prop := Z ≤ a ∨ STl o a k ∨ (D + 8 ≤ a ∧ a ≤ D + 10 ∧ i ≤ k)
abbrev RFr (D Z a k : Nat) : Prop := Z ≤ a ∨ (a = D + 11 ∧ k = 0)
def RF (D o Z i : Nat) (I : M32) (L : M64) (R : MR) (T : SH) (I' : M32) (L' : M64) (R' : MR) (T' : SH) : Prop := Fx (RFi D o Z i) I I' ∧ Fx (RFl D o Z i) L L' ∧ Fx (RFr D Z) R R' ∧ TE T T'
theorem RF.rf {D o Z i : Nat} {I : M32} {L : M64} {R : MR} {T : SH} : RF D o Z i I L R T I L R T := ⟨Fx.rf, Fx.rf, Fx.rf, TE.rf⟩
theorem RF.tr {D o Z i : Nat} {I I1 I2 : M32} {L L1 L2 : M64} {R R1 R2 : MR} {T T1 T2 : SH} (h : RF D o Z i I L R T I1 L1 R1 T1) (g : RF D o Z i I1 L1 R1 T1 I2 L2 R2 T2) : RF D o Z i I L R T I2 L2 R2 T2 := ⟨h.1.tr g.1, h.2.1.tr g.2.1, h.2.2.1.tr g.2.2.1, h.2.2.2.tr g.2.2.2⟩
theorem RF.mo {D o Z i j : Nat} {I I1 : M32} {L L1 : M64} {R R1 : MR} {T T1 : SH} (h : RF D o Z j I L R T I1 L1 R1 T1) (hij : i ≤ j) : RF D o Z i I L R T I1 L1 R1 T1 := by
  refine ⟨fun a k e => h.1 a k fun q => e ?_, fun a k e => h.2.1 a k fun q => e ?_, h.2.2⟩
  · rcases q with q | q | q | q | q
    · exact Or.inl q
    · exact Or.inr (Or.inl q)
    · exact Or.inr (Or.inr (Or.inl q))
    · exact Or.inr (Or.inr (Or.inr (Or.inl q)))
    · exact Or.inr (Or.inr (Or.inr (Or.inr ⟨q.1, q.2.1, by omega⟩)))
  · rcases q with q | q | q
    · exact Or.inl q
    · exact Or.inr (Or.inl q)
    · exact Or.inr (Or.inr ⟨q.1, q.2.1, by omega⟩)
theorem RF.tk {D o Z i : Nat} {I I1 : M32} {L L1 : M64} {R : MR} {T : SH} (h : Fx (STk o) I I1) (g : Fx (STl o) L L1) : RF D o Z i I L R T I1 L1 R T := ⟨h.mo fun _ _ e => Or.inr (Or.inl e), g.mo fun _ _ e => Or.inr (Or.inl e), Fx.rf, TE.rf⟩
theorem NuF.r {D o Z i : Nat} {I I1 : M32} {L L1 : M64} {R R1 : MR} {T T1 : SH} (h : NuF D Z I L R T I1 L1 R1 T1) : RF D o Z i I L R T I1 L1 R1 T1 := by
  refine ⟨h.1.mo fun a k e => ?_, h.2.1.mo fun a k e => Or.inl e, h.2.2.1, h.2.2.2⟩
  rcases e with e | e | e
  · exact Or.inl e
  · exact Or.inr (Or.inr (Or.inl ⟨e.1, Or.inr e.2⟩))
  · exact Or.inr (Or.inr (Or.inr (Or.inl e)))
theorem RowC.of {I I' : M32} {L L' : M64} {D i : Nat} {r : Row} (h : RowC I L D i r) (h1 : ∀ c, 1 ≤ c → c ≤ 7 → I' (D + c) i = I (D + c) i) (h2 : ∀ c, 8 ≤ c → c ≤ 10 → L' (D + c) i = L (D + c) i) : RowC I' L' D i r := by
  obtain ⟨a1, a2, a3, a4, a5, a6, a7, a8, a9, a10⟩ := h
  exact ⟨(h1 1 (by decide) (by decide)).trans a1, (h1 2 (by decide) (by decide)).trans a2, (h1 3 (by decide) (by decide)).trans a3, (h1 4 (by decide) (by decide)).trans a4, (h1 5 (by decide) (by decide)).trans a5, (h2 8 (by decide) (by decide)).trans a6, (h2 9 (by decide) (by decide)).trans a7, (h2 10 (by decide) (by decide)).trans a8, (h1 6 (by decide) (by decide)).trans a9, (h1 7 (by decide) (by decide)).trans a10⟩
theorem RowC.rf {D o Z i j : Nat} {I I' : M32} {L L' : M64} {R R' : MR} {T T' : SH} {r : Row} (h : RowC I L D i r) (hF : RF D o Z j I L R T I' L' R' T') (hij : i < j) (ho : o + 4 < D) (hZ : D + 11 < Z) : RowC I' L' D i r :=
  h.of (fun c _ _ => hF.1.gt (by omega)) (fun c _ _ => hF.2.1.gt (by omega))
/-- rows in a row -/
def RowsC (I : M32) (L : M64) (D n : Nat) (l : List Row) : Prop := ∀ k, k < l.length → RowC I L D (n + k) (l.getD k [])
theorem RowsC.nil {I : M32} {L : M64} {D n : Nat} : RowsC I L D n [] := fun k h => absurd h (Nat.not_lt_zero k)
theorem RowsC.app {I : M32} {L : M64} {D n : Nat} {l l' : List Row} (h : RowsC I L D n l) (h' : RowsC I L D (n + l.length) l') : RowsC I L D n (l ++ l') := fun k hk => by
  rw [List.length_append] at hk
  by_cases q : k < l.length
  · rw [gapp_l _ _ _ q]; exact h k q
  · rw [gapp_r _ _ _ (by omega)]
    have := h' (k - l.length) (by omega)
    rw [show n + l.length + (k - l.length) = n + k by omega] at this
    exact this
theorem RowsC.cons {I : M32} {L : M64} {D n : Nat} {r : Row} {l : List Row} (h : RowC I L D n r) (h' : RowsC I L D (n + 1) l) : RowsC I L D n (r :: l) := fun k hk => by
  cases k with
  | zero => exact h
  | succ k =>
    have := h' k (Nat.lt_of_succ_lt_succ hk)
    rw [show n + 1 + k = n + (k + 1) by omega] at this
    exact this
theorem RowsC.rf {D o Z n j : Nat} {I I' : M32} {L L' : M64} {R R' : MR} {T T' : SH} {l : List Row} (h : RowsC I L D n l) (hF : RF D o Z j I L R T I' L' R' T') (hij : n + l.length ≤ j) (ho : o + 4 < D) (hZ : D + 11 < Z) : RowsC I' L' D n l := fun k hk => (h k hk).rf hF (by omega) ho hZ
theorem RowsC.of {I I' : M32} {L L' : M64} {D n i : Nat} {l : List Row} (h : RowsC I L D n l) (hi : i < n) (h1 : ∀ a k, k ≠ i → I' a k = I a k) (h2 : ∀ a k, k ≠ i → L' a k = L a k) : RowsC I' L' D n l := fun k hk => (h k hk).of (fun c _ _ => h1 _ _ (by omega)) (fun c _ _ => h2 _ _ (by omega))
theorem CT.co {o N a : Nat} {t : Nat → Nat} {I I' : M32} {L L' : M64} (h : CT o N a t I L) (hI : ∀ a k, o ≤ a → a ≤ o + 4 → I' a k = I a k) (hL : L' o 5 = L o 5) : CT o N a t I' L' := by
  obtain ⟨c1, c2, c3, c4, c5, c6, c7, c8, c9⟩ := h
  refine ⟨c1, c2, ?_, ?_, ?_, ?_, fun q => by rw [hL]; exact c7 q, fun q => (c8 q).congr (funext fun k => hI _ _ (by omega) (by omega)) (funext fun k => hI _ _ (by omega) (by omega)), c9.1, fun j hj => ⟨(c9.2 j hj).1, by rw [hI _ _ (by omega) (by omega)]; exact (c9.2 j hj).2⟩⟩
  · rw [hI _ _ (by omega) (by omega)]; exact c3
  · rw [hI _ _ (by omega) (by omega)]; exact c4
  · rw [hI _ _ (by omega) (by omega)]; exact c5
  · rw [hI _ _ (by omega) (by omega)]; exact c6
theorem NuH.lt {I : M32} {R : MR} {T : SH} {D Z m sz : Nat} {V : Nat → Int} (h : NuH I R T D Z m sz V) : D + 11 < Z ∧ m ≤ sz ∧ sz ≤ 60000 ∧ Z ≤ T.2.2 := by
  obtain ⟨e, B, -, -, -, -, h5, -⟩ := h
  exact ⟨h5.2.2.1, h5.1, h5.2.1, h5.2.2.2⟩
theorem NuH.co {I I' : M32} {R : MR} {T : SH} {D Z m sz : Nat} {V : Nat → Int} (h : NuH I R T D Z m sz V) (h1 : I' D 12 = I D 12) (h2 : I' (D + 11) 1 = I (D + 11) 1) (h3 : ∀ a k, Z ≤ a → I' a k = I a k) : NuH I' R T D Z m sz V := by
  obtain ⟨e, B, n1, n2, n3, n4, n5, n6, n7, n8, n9⟩ := h
  exact ⟨e, B, n1, n2, h1.trans n3, h2.trans n4, n5, n6, n7, n8, fun k hk => (n9 k hk).congr (funext fun _ => h3 _ _ (by have := (n7 k (by omega)).2.2; omega)) (funext fun _ => h3 _ _ (by have := (n7 k (by omega)).2.2; omega))⟩
theorem NuH.nd {I : M32} {R : MR} {T : SH} {D Z m sz : Nat} {V : Nat → Int} (h : NuH I R T D Z m sz V) : R D 11 = some (D + 11) ∧ T.1 (D + 11) = 7 + 1 := by
  obtain ⟨e, B, n1, n2, -⟩ := h
  exact ⟨n2, n1.1⟩
theorem RdS.te {R R' : MR} {T T' : SH} {P w o D Z : Nat} (h : RdS R T P w o D) (hPw : P < w ∧ w + 1 < o ∧ o + 4 < D) (hZ : D + 11 < Z) (hR : Fx (RFr D Z) R R') (hT : TE T T') : RdS R' T' P w o D := by
  obtain ⟨h1, h2, h3, h4, h5, h6⟩ := h
  exact ⟨hT.tag h1, by rw [hR.gt (by omega)]; exact h2, by rw [hR.gt (by omega)]; exact h3, h4.te (hR.gt (by omega)) hT, h5.te (fun k => hR.gt (by omega)) (hR.gt (by omega)) hT, h6.te (fun k => hR.gt (by omega)) hT⟩
theorem CS0.tk {P w o D Z g m sz : Nat} {V : Nat → Int} {I I' : M32} {L L' : M64} {R : MR} {T : SH} (h : CS0 P w o D Z g m sz V I L R T) (hI : Fx (STk o) I I') (hL : Fx (STl o) L L') : CS0 P w o D Z g m sz V I' L' R T := by
  obtain ⟨h1, h2, h3, h4, h5⟩ := h
  have hZ := h4.lt.1
  exact ⟨h1, h2.fx hL (by omega), by rw [hI.gt (by omega)]; exact h3, h4.co (hI.gt (by omega)) (hI.gt (by omega)) (fun a k e => hI.gt (by omega)), h5⟩
theorem CS.tk {P w o D N Z g a a' n m sz : Nat} {t : Nat → Nat} {V : Nat → Int} {I I' : M32} {L L' : M64} {R : MR} {T : SH} (h : CS P w o D N Z g t a n m sz V I L R T) (hI : Fx (STk o) I I') (hL : Fx (STl o) L L') (hC : CT o N a' t I' L') : CS P w o D N Z g t a' n m sz V I' L' R T :=
  ⟨h.1.tk hI hL, hC, by have := h.1.2.2.2.2; rw [hI.gt (by omega)]; exact h.2.2.1, h.2.2.2⟩
theorem CS0.nu {P w o D Z g m sz m' sz' : Nat} {V V' : Nat → Int} {I I' : M32} {L L' : M64} {R R' : MR} {T T' : SH} (h : CS0 P w o D Z g m sz V I L R T) (hN : NuH I' R' T' D Z m' sz' V') (hF : NuF D Z I L R T I' L' R' T') : CS0 P w o D Z g m' sz' V' I' L' R' T' := by
  obtain ⟨h1, h2, h3, h4, h5⟩ := h
  have hZ := h4.lt.1
  exact ⟨h1.te (by omega) hZ hF.2.2.1 hF.2.2.2, fun k hk => by rw [hF.2.1.gt (by omega)]; exact h2 k hk, by rw [hF.1.gt (by omega)]; exact h3, hN, h5⟩
theorem CS.nu {P w o D N Z g a n m sz m' sz' : Nat} {t : Nat → Nat} {V V' : Nat → Int} {I I' : M32} {L L' : M64} {R R' : MR} {T T' : SH} (h : CS P w o D N Z g t a n m sz V I L R T) (hN : NuH I' R' T' D Z m' sz' V') (hF : NuF D Z I L R T I' L' R' T') : CS P w o D N Z g t a n m' sz' V' I' L' R' T' := by
  have hZ := h.1.2.2.2.1.lt.1
  have hl := h.1.2.2.2.2
  exact ⟨h.1.nu hN hF, h.2.1.co (fun a k e1 e2 => hF.1.gt (by omega)) (hF.2.1.gt (by omega)), by rw [hF.1.gt (by omega)]; exact h.2.2.1, h.2.2.2⟩
/-- a cell of a row of the nodes is written -/
theorem CS.up {P w o D N Z g a n m sz c i : Nat} {t : Nat → Nat} {V : Nat → Int} {I : M32} {L : M64} {R : MR} {T : SH} {x : Int32} (h : CS P w o D N Z g t a n m sz V I L R T) (h1 : 1 ≤ c) (h7 : c ≤ 7) : CS P w o D N Z g t a n m sz V (up2 I (D + c) i x) L R T := by
  obtain ⟨⟨a1, a2, a3, a4, a5⟩, a6, a7, a8⟩ := h
  have hZ := a4.lt.1
  refine ⟨⟨a1, a2, by rw [up2_a _ _ _ (by omega)]; exact a3, a4.co (up2_a _ _ _ (by omega)) (up2_a _ _ _ (by omega)) (fun a k e => up2_a _ _ _ (by omega)), a5⟩, a6.co (fun a k e1 e2 => up2_a _ _ _ (by omega)) rfl, by rw [up2_a _ _ _ (by omega)]; exact a7, a8⟩
theorem CS.upl {P w o D N Z g a n m sz c i : Nat} {t : Nat → Nat} {V : Nat → Int} {I : M32} {L : M64} {R : MR} {T : SH} {x : Int64} (h : CS P w o D N Z g t a n m sz V I L R T) (h1 : 8 ≤ c) (h7 : c ≤ 10) : CS P w o D N Z g t a n m sz V I (up2 L (D + c) i x) R T := by
  obtain ⟨⟨a1, a2, a3, a4, a5⟩, a6, a7, a8⟩ := h
  have hZ := a4.lt.1
  refine ⟨⟨a1, fun k hk => by rw [up2_a _ _ _ (by omega)]; exact a2 k hk, a3, a4, a5⟩, a6.co (fun a k e1 e2 => rfl) (up2_a _ _ _ (by omega)), a7, a8⟩
theorem RF.up {D o Z i c j : Nat} {I : M32} {L : M64} {R : MR} {T : SH} {x : Int32} (h1 : 1 ≤ c) (h7 : c ≤ 7) (hj : i ≤ j) : RF D o Z i I L R T (up2 I (D + c) j x) L R T := ⟨Fx.up (Or.inr (Or.inr (Or.inr (Or.inr ⟨by omega, by omega, hj⟩)))), Fx.rf, Fx.rf, TE.rf⟩
theorem RF.upl {D o Z i c j : Nat} {I : M32} {L : M64} {R : MR} {T : SH} {x : Int64} (h1 : 8 ≤ c) (h7 : c ≤ 10) (hj : i ≤ j) : RF D o Z i I L R T I (up2 L (D + c) j x) R T := ⟨Fx.rf, Fx.up (Or.inr (Or.inr ⟨by omega, by omega, hj⟩)), Fx.rf, TE.rf⟩
theorem gset_s {r : Row} {s : Nat} {v : Int} (h : s < r.length) : (r.set s v).getD s 0 = v := by simp [List.getD_eq_getElem?_getD, h]
theorem gset_n {r : Row} {s j : Nat} {v : Int} (h : j ≠ s) : (r.set s v).getD j 0 = r.getD j 0 := by simp [List.getD_eq_getElem?_getD, List.getElem?_set_ne (Ne.symm h)]
/-- which row holds a slot -/
abbrev slI (s c : Nat) : Prop := (s = 1 ∧ c = 2) ∨ (s = 2 ∧ c = 3) ∨ (s = 3 ∧ c = 4) ∨ (s = 4 ∧ c = 5) ∨ (s = 8 ∧ c = 6) ∨ (s = 9 ∧ c = 7)
theorem RowC.stI {I : M32} {L : M64} {D i s c : Nat} {r : Row} {v : Int} (h : RowC I L D i r) (hl : r.length = 11) (hs : slI s c) : RowC (up2 I (D + c) i (cI v)) L D i (r.set s v) := by
  obtain ⟨a1, a2, a3, a4, a5, a6, a7, a8, a9, a10⟩ := h
  rcases hs with ⟨rfl, rfl⟩ | ⟨rfl, rfl⟩ | ⟨rfl, rfl⟩ | ⟨rfl, rfl⟩ | ⟨rfl, rfl⟩ | ⟨rfl, rfl⟩
  · exact ⟨by rw [up2_a _ _ _ (by omega), gset_n (by decide)]; exact a1, by rw [up2_s, gset_s (by omega)], by rw [up2_a _ _ _ (by omega), gset_n (by decide)]; exact a3, by rw [up2_a _ _ _ (by omega), gset_n (by decide)]; exact a4, by rw [up2_a _ _ _ (by omega), gset_n (by decide)]; exact a5, by rw [gset_n (by decide)]; exact a6, by rw [gset_n (by decide)]; exact a7, by rw [gset_n (by decide)]; exact a8, by rw [up2_a _ _ _ (by omega), gset_n (by decide)]; exact a9, by rw [up2_a _ _ _ (by omega), gset_n (by decide)]; exact a10⟩
  · exact ⟨by rw [up2_a _ _ _ (by omega), gset_n (by decide)]; exact a1, by rw [up2_a _ _ _ (by omega), gset_n (by decide)]; exact a2, by rw [up2_s, gset_s (by omega)], by rw [up2_a _ _ _ (by omega), gset_n (by decide)]; exact a4, by rw [up2_a _ _ _ (by omega), gset_n (by decide)]; exact a5, by rw [gset_n (by decide)]; exact a6, by rw [gset_n (by decide)]; exact a7, by rw [gset_n (by decide)]; exact a8, by rw [up2_a _ _ _ (by omega), gset_n (by decide)]; exact a9, by rw [up2_a _ _ _ (by omega), gset_n (by decide)]; exact a10⟩
  · exact ⟨by rw [up2_a _ _ _ (by omega), gset_n (by decide)]; exact a1, by rw [up2_a _ _ _ (by omega), gset_n (by decide)]; exact a2, by rw [up2_a _ _ _ (by omega), gset_n (by decide)]; exact a3, by rw [up2_s, gset_s (by omega)], by rw [up2_a _ _ _ (by omega), gset_n (by decide)]; exact a5, by rw [gset_n (by decide)]; exact a6, by rw [gset_n (by decide)]; exact a7, by rw [gset_n (by decide)]; exact a8, by rw [up2_a _ _ _ (by omega), gset_n (by decide)]; exact a9, by rw [up2_a _ _ _ (by omega), gset_n (by decide)]; exact a10⟩
  · exact ⟨by rw [up2_a _ _ _ (by omega), gset_n (by decide)]; exact a1, by rw [up2_a _ _ _ (by omega), gset_n (by decide)]; exact a2, by rw [up2_a _ _ _ (by omega), gset_n (by decide)]; exact a3, by rw [up2_a _ _ _ (by omega), gset_n (by decide)]; exact a4, by rw [up2_s, gset_s (by omega)], by rw [gset_n (by decide)]; exact a6, by rw [gset_n (by decide)]; exact a7, by rw [gset_n (by decide)]; exact a8, by rw [up2_a _ _ _ (by omega), gset_n (by decide)]; exact a9, by rw [up2_a _ _ _ (by omega), gset_n (by decide)]; exact a10⟩
  · exact ⟨by rw [up2_a _ _ _ (by omega), gset_n (by decide)]; exact a1, by rw [up2_a _ _ _ (by omega), gset_n (by decide)]; exact a2, by rw [up2_a _ _ _ (by omega), gset_n (by decide)]; exact a3, by rw [up2_a _ _ _ (by omega), gset_n (by decide)]; exact a4, by rw [up2_a _ _ _ (by omega), gset_n (by decide)]; exact a5, by rw [gset_n (by decide)]; exact a6, by rw [gset_n (by decide)]; exact a7, by rw [gset_n (by decide)]; exact a8, by rw [up2_s, gset_s (by omega)], by rw [up2_a _ _ _ (by omega), gset_n (by decide)]; exact a10⟩
  · exact ⟨by rw [up2_a _ _ _ (by omega), gset_n (by decide)]; exact a1, by rw [up2_a _ _ _ (by omega), gset_n (by decide)]; exact a2, by rw [up2_a _ _ _ (by omega), gset_n (by decide)]; exact a3, by rw [up2_a _ _ _ (by omega), gset_n (by decide)]; exact a4, by rw [up2_a _ _ _ (by omega), gset_n (by decide)]; exact a5, by rw [gset_n (by decide)]; exact a6, by rw [gset_n (by decide)]; exact a7, by rw [gset_n (by decide)]; exact a8, by rw [up2_a _ _ _ (by omega), gset_n (by decide)]; exact a9, by rw [up2_s, gset_s (by omega)]⟩
theorem RowC.stL {I : M32} {L : M64} {D i s : Nat} {r : Row} {v : Int} (h : RowC I L D i r) (hl : r.length = 11) (hs : s = 1 ∨ s = 2 ∨ s = 3) : RowC I (up2 L (D + (7 + s)) i (cL v)) D i (r.set (4 + s) v) := by
  obtain ⟨a1, a2, a3, a4, a5, a6, a7, a8, a9, a10⟩ := h
  rcases hs with rfl | rfl | rfl
  · exact ⟨by rw [gset_n (by decide)]; exact a1, by rw [gset_n (by decide)]; exact a2, by rw [gset_n (by decide)]; exact a3, by rw [gset_n (by decide)]; exact a4, by rw [gset_n (by decide)]; exact a5, by rw [up2_s, gset_s (by omega)], by rw [up2_a _ _ _ (by omega), gset_n (by decide)]; exact a7, by rw [up2_a _ _ _ (by omega), gset_n (by decide)]; exact a8, by rw [gset_n (by decide)]; exact a9, by rw [gset_n (by decide)]; exact a10⟩
  · exact ⟨by rw [gset_n (by decide)]; exact a1, by rw [gset_n (by decide)]; exact a2, by rw [gset_n (by decide)]; exact a3, by rw [gset_n (by decide)]; exact a4, by rw [gset_n (by decide)]; exact a5, by rw [up2_a _ _ _ (by omega), gset_n (by decide)]; exact a6, by rw [up2_s, gset_s (by omega)], by rw [up2_a _ _ _ (by omega), gset_n (by decide)]; exact a8, by rw [gset_n (by decide)]; exact a9, by rw [gset_n (by decide)]; exact a10⟩
  · exact ⟨by rw [gset_n (by decide)]; exact a1, by rw [gset_n (by decide)]; exact a2, by rw [gset_n (by decide)]; exact a3, by rw [gset_n (by decide)]; exact a4, by rw [gset_n (by decide)]; exact a5, by rw [up2_a _ _ _ (by omega), gset_n (by decide)]; exact a6, by rw [up2_a _ _ _ (by omega), gset_n (by decide)]; exact a7, by rw [up2_s, gset_s (by omega)], by rw [gset_n (by decide)]; exact a9, by rw [gset_n (by decide)]; exact a10⟩

