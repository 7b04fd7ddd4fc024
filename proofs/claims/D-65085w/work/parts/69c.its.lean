/-! ===== 69c ITEMS IN A ROW ===== -/
section
variable {d M N g pk kp : Nat} {t : Nat → Nat} {z : Int32} {I0 : M32} {L0 : M64} {R : MR} {T : SH} {Q : QT}
/-- nodes are read as the spec says, with fuel f -/
def PsT (d M N g pk kp : Nat) (t : Nat → Nat) (z : Int32) (I0 : M32) (L0 : M64) (R : MR) (T : SH) (Q : QT) (F f : Nat) : Prop :=
  ∀ (s dep : Nat) (u sl : Int) (n m a pt tp : Nat) (l : List Wt) (I : M32) (L : M64), (s = 1 ∨ s = 2 ∨ s = 3) → (102 ≤ f + dep ∧ dep ≤ 101) → TS M N g pk kp t z I0 L0 n pt tp a I L → 0 ≤ tk (tkP t N) a → PileV I M (((s : Int), u, sl, (dep : Int)) :: l) → I M 43 = cI (l.length + 1 : Nat) → PW l → l.length + 32 * f + (N - a) ≤ 29000 → (-1 ≤ u ∧ u < n ∧ (u ≠ -1 → (g : Int) ≤ u)) → (0 ≤ sl ∧ sl ≤ 3) →
    KPs d M N g pk kp t z I0 L0 R T Q (ps (tkP t N) g F f s dep n m a) u sl n m a pt tp l I L → Hd d M R T Q I L
theorem it_child {F f : Nat} {nd n m a pt tp dep w s : Nat} {A : (Nat → Int) → Prop} {row : Row} {q : List Wt} {I : M32} {L : M64} (hP : PsT d M N g pk kp t z I0 L0 R T Q F f) (hfd : 102 ≤ f + (dep + 1) ∧ dep + 1 ≤ 101) (hw : w = 1 ∨ w = 2 ∨ w = 3) (hs : s = 1 ∨ s = 2 ∨ (s = 3 ∧ (row.getD 0 0 = 4 ∨ row.getD 0 0 = 22))) (hr : row.length = 11) (hg : g ≤ nd) (hnd : nd < n) (hT : TS M N g pk kp t z I0 L0 n pt tp a I L) (hk : 0 ≤ tk (tkP t N) a) (hA : PileV I M (((w : Int), (nd : Int), (s : Int), ((dep : Int) + 1)) :: q)) (h43 : I M 43 = cI (q.length + 1 : Nat)) (hpw : PW q) (hl : q.length + 32 * f + (N - a) ≤ 29000) (hR : ∀ V, A V → RowM I L M tp pt V nd row) (hK : KIt d M N g pk kp t z I0 L0 R T Q (itm0 (tkP t N) (ps (tkP t N) g F f) dep w s row n m a) nd n m a pt tp A q I L) : Hd d M R T Q I L := by
  have hs3 : 1 ≤ s ∧ s ≤ 3 := by omega
  have hres : itm0 (tkP t N) (ps (tkP t N) g F f) dep w s row n m a = bnd (ps (tkP t N) g F f w (dep + 1) n m a) fun q => .ok (q.1, row.set s n, q.2.1, q.2.2) := by
    unfold itm0
    rw [if_pos (by omega)]
  rw [hres] at hK
  refine hP w (dep + 1) nd s n m a pt tp q I L hw hfd hT hk hA h43 hpw hl ⟨by omega, by omega, fun _ => by omega⟩ ⟨by omega, by omega⟩ ⟨fun a' rows nums he h0 hae I' L' pt' tp' h1 h2 h3 h4 h5 h6 h7 h8 h9 h10 h11 => ?_, fun c b he => hK.2 c b (by rw [he]; rfl)⟩
  have hFf : FF M GI I I' := fun k e => by
    by_cases e38 : k = 38
    · subst e38; exact h9 (by omega)
    · exact h8 k fun q => by
        rcases (show k = 7 ∨ k = 8 ∨ k = 12 ∨ k = 13 ∨ k = 14 ∨ k = 15 ∨ k = 35 ∨ k = 37 ∨ k = 38 ∨ k = 43 by simpa [GF] using q) with rfl | rfl | rfl | rfl | rfl | rfl | rfl | rfl | rfl | rfl <;> first | exact e (by decide) | exact e38 rfl
  refine hK.1 a' (row.set s n) rows nums (by rw [he]; rfl) h0 hae (by rw [List.length_set]; exact hr) I' L' pt' tp' h1 h2 h3 h4 (fun V g1 g2 => ⟨?_, h6 V g2⟩) h7 hFf (h11.mo (Nat.le_refl _) (by omega))
  have hrw := h10 (by omega) (by omega) (by omega)
  have hrow : RowM I L' M tp pt V nd row := (hR V g1).fx (fun _ _ _ => rfl) (fun y y1 y2 => h11.2.2 y nd y1 y2 hnd (by omega)) (fun _ _ => rfl) (fun _ _ => ⟨rfl, rfl⟩) (Nat.le_refl _) (Nat.le_refl _)
  have hlk : I' (M + 9 + s) nd = cI n := by
    have h5' := h5.2 (by omega)
    rw [Int.toNat_natCast] at h5'
    rcases (show s = 1 ∨ s = 2 ∨ s = 3 by omega) with rfl | rfl | rfl
    · exact h5'.1 rfl
    · exact h5'.2.1 rfl
    · exact h5'.2.2 rfl
  rw [Int.toNat_natCast] at hrw
  exact ((hrow.ch hr hs (fun y y1 y2 y3 => hrw y y1 y2 (by omega)) (fun k hk => h7.2.2.2 k hk) (fun k hk => ⟨h7.2.2.1 _ _ (by omega) (by omega) hk, h7.2.2.1 _ _ (by omega) (by omega) hk⟩) hlk).fx (fun _ _ _ => rfl) (fun _ _ _ => rfl) (fun _ _ => rfl) (fun _ _ => ⟨rfl, rfl⟩) h2.2 h2.1)
/-- items one after the other -/
theorem KIt.cons {it : IT} {w : Nat × Nat} {ws : List (Nat × Nat)} {nd n m a pt tp : Nat} {A : (Nat → Int) → Prop} {row : Row} {q l : List Wt} {I : M32} {L : M64} (hnd : nd < n) (hK : KIt d M N g pk kp t z I0 L0 R T Q (its it (w :: ws) row n m a) nd n m a pt tp A l I L)
    (hrest : ∀ a' row' rows nums, it w.1 w.2 row n m a = .ok (a', row', rows, nums) → 0 ≤ tk (tkP t N) a' → a ≤ a' → row'.length = 11 → ∀ I' L' pt' tp', TS M N g pk kp t z I0 L0 (n + rows.length) pt' tp' a' I' L' → (pt ≤ pt' ∧ tp ≤ tp') → PileV I' M q → I' M 43 = cI q.length → (∀ V, (A V ∧ AgV V m nums) → RowM I' L' M tp' pt' V nd row') → FA M nd n pt tp I I' → KIt d M N g pk kp t z I0 L0 R T Q (its it ws row' (n + rows.length) (m + nums.length) a') nd (n + rows.length) (m + nums.length) a' pt' tp' (fun V => A V ∧ AgV V m nums) l I' L' → Hd d M R T Q I' L') :
    KIt d M N g pk kp t z I0 L0 R T Q (it w.1 w.2 row n m a) nd n m a pt tp A q I L := by
  have hres : its it (w :: ws) row n m a = bnd (it w.1 w.2 row n m a) fun q => bnd (its it ws q.2.1 (n + q.2.2.1.length) (m + q.2.2.2.length) q.1) fun r => .ok (r.1, r.2.1, q.2.2.1 ++ r.2.2.1, q.2.2.2 ++ r.2.2.2) := rfl
  rw [hres] at hK
  refine ⟨fun a' row' rows nums he h0 hae hr' I' L' pt' tp' h1 h2 h3 h4 h5 h6 h7 h8 => ?_, fun c b he => hK.2 c b (by rw [he]; rfl)⟩
  rw [he] at hK
  simp only [bnd_ok] at hK
  refine hrest a' row' rows nums he h0 hae hr' I' L' pt' tp' h1 h2 h3 h4 (fun V gv => (h5 V gv.1 gv.2).1) h6 ⟨fun a2 row2 rows2 nums2 he2 k0 kae kr I2 L2 pt2 tp2 k1 k2 k3 k4 k5 k6 k7 k8 => ?_, fun c b he2 => hK.2 c b (by rw [he2]; rfl)⟩
  refine hK.1 a2 row2 (rows ++ rows2) (nums ++ nums2) (by rw [he2]; rfl) k0 (Nat.le_trans hae kae) kr I2 L2 pt2 tp2 (by rw [List.length_append, ← Nat.add_assoc]; exact k1) ⟨by omega, by omega⟩ k3 k4 (fun V gA gN => ?_) (h6.tr (k6.mo (by omega) h2.1 h2.2 (Or.inl rfl))) (h7.tr k7) (h8.tr (k8.mo (by omega) (Or.inl rfl)))
  have ga := gN.app
  have r1 := k5 V ⟨gA, ga.1⟩ ga.2
  refine ⟨r1.1, RowsM.app ?_ r1.2⟩
  exact (h5 V gA ga.1).2.fx (fun y k y1 y2 y3 y4 => k6.2.1 y k y1 y2 (by omega) (by omega)) (fun y k y1 y2 y3 y4 => k8.2.2 y k y1 y2 (by omega) (by omega)) (fun k hk => k6.2.2.2 k hk) (fun k hk => ⟨k6.2.2.1 _ _ (by omega) (by omega) hk, k6.2.2.1 _ _ (by omega) (by omega) hk⟩) k2.2 k2.1
theorem KIt.nil {it : IT} {nd n m a pt tp : Nat} {A : (Nat → Int) → Prop} {row : Row} {l : List Wt} {I : M32} {L : M64} (hr : row.length = 11) (hT : TS M N g pk kp t z I0 L0 n pt tp a I L) (hk : 0 ≤ tk (tkP t N) a) (hA : PileV I M l) (h43 : I M 43 = cI l.length) (hR : ∀ V, A V → RowM I L M tp pt V nd row) (hK : KIt d M N g pk kp t z I0 L0 R T Q (its it [] row n m a) nd n m a pt tp A l I L) : Hd d M R T Q I L :=
  hK.1 a row [] [] rfl hk (Nat.le_refl _) hr I L pt tp hT ⟨Nat.le_refl _, Nat.le_refl _⟩ hA h43 (fun V h _ => ⟨hR V h, RowsM.nil⟩) FA.rf FF.rf FLn.rf
end
/-- the fields that an item writes -/
def fldW (w : Nat × Nat) : List Nat := if w.1 ≤ 3 then [w.2] else if w.1 = 4 then [4 + w.2] else if w.1 = 6 then [3] else if w.1 = 9 then [5, 8] else if w.1 = 12 then [8, 9] else if w.1 = 8 then [1] else []
/-- what an item needs of the row -/
def ndR (w : Nat × Nat) (r : Row) : Prop := if w.1 ≤ 3 then (w.1 = 1 ∨ w.1 = 2 ∨ w.1 = 3) ∧ (w.2 = 1 ∨ w.2 = 2 ∨ (w.2 = 3 ∧ (r.getD 0 0 = 4 ∨ r.getD 0 0 = 22))) else if w.1 = 4 then (w.2 = 1 ∨ w.2 = 2 ∨ w.2 = 3) ∧ (w.2 = 1 → r.getD 0 0 ≠ 5) else if w.1 = 6 then w.2 = 0 ∧ r.getD 0 0 = 1 ∧ r.getD 3 0 = -1 else if w.1 = 9 then w.2 = 0 ∧ r.getD 0 0 = 5 ∧ r.getD 8 0 = -1 ∧ r.getD 5 0 = 0 else if w.1 = 8 then w.2 = 0 ∧ r.getD 0 0 = 5 ∧ r.getD 1 0 = -1 else (w.1 = 7 ∨ w.1 = 11) ∧ w.2 = 0
def ndF (w : Nat × Nat) : List Nat := if w.1 = 6 then [0, 3] else if w.1 = 9 then [0, 5, 8] else if w.1 = 8 then [0, 1] else [0]
/-- what an item writes spoils no later one -/
def sepW : List (Nat × Nat) → Bool
  | [] => true
  | w :: ws => ws.all (fun v => (fldW w).all fun f => (ndF v).all fun h => f != h) && sepW ws
theorem ndR_eq {w : Nat × Nat} {r r' : Row} (h : ndR w r) (he : ∀ j ∈ ndF w, r'.getD j 0 = r.getD j 0) : ndR w r' := by
  unfold ndR ndF at *
  split at h
  · next h1 => rw [if_pos h1]; rw [if_neg (by omega), if_neg (by omega), if_neg (by omega)] at he; rw [he 0 (by decide)]; exact h
  · next h1 =>
    rw [if_neg h1]
    split at h
    · next h2 => rw [if_pos h2]; rw [if_neg (by omega), if_neg (by omega), if_neg (by omega)] at he; rw [he 0 (by decide)]; exact h
    · next h2 =>
      rw [if_neg h2]
      split at h
      · next h3 => rw [if_pos h3]; rw [if_pos h3] at he; rw [he 0 (by decide), he 3 (by decide)]; exact h
      · next h3 =>
        rw [if_neg h3]; rw [if_neg h3] at he
        split at h
        · next h4 => rw [if_pos h4]; rw [if_pos h4] at he; rw [he 0 (by decide), he 5 (by decide), he 8 (by decide)]; exact h
        · next h4 =>
          rw [if_neg h4]; rw [if_neg h4] at he
          split at h
          · next h5 => rw [if_pos h5]; rw [if_pos h5] at he; rw [he 0 (by decide), he 1 (by decide)]; exact h
          · next h5 => rw [if_neg h5]; exact h

