/-! ===== 85 THE COMPONENT'S READER: its steps ===== -/
/-- a reading that failed -/
def ErC (P w o D Z g m sz c : Nat) (V : Nat → Int) (e : Int × Nat) (I' : M32) (L' : M64) (R' : MR) (T' : SH) : Prop := (I' (o + 4) 0 = cI e.1 ∧ I' (o + 4) 1 = cI e.2) ∧ ∃ (m' : Nat) (V' : Nat → Int), CS0 P w o D Z g m' (max sz (m + c)) V' I' L' R' T' ∧ m ≤ m' ∧ ∀ k, k < m → V' k = V k
/-- what reading a contract, a value, an observation comes to -/
def PsQ (P w o D N Z g : Nat) (t : Nat → Nat) (n m sz : Nat) (V : Nat → Int) (r : CR (Nat × List Row × List Int)) (I : M32) (L : M64) (R : MR) (T : SH) : QT := fun oc I' L' R' T' => (match r.2 with
  | .ok q => oc = .returned (some (.int (cI n))) ∧ CS P w o D N Z g t q.1 (n + q.2.1.length) (m + q.2.2.length) (max sz (m + q.2.2.length)) (extV V m q.2.2) I' L' R' T' ∧ RowsC I' L' D n q.2.1 ∧ r.1 = q.2.2.length
  | .error e => oc = .threw (o + 4) ∧ ErC P w o D Z g m sz r.1 V e I' L' R' T') ∧ RF D o Z n I L R T I' L' R' T'
/-- what reading the items of node i comes to -/
def ItQ (P w o D N Z g : Nat) (t : Nat → Nat) (i n m sz : Nat) (V : Nat → Int) (r : CR (Nat × Row × List Row × List Int)) (I : M32) (L : M64) (R : MR) (T : SH) : QT := fun oc I' L' R' T' => (match r.2 with
  | .ok q => oc = .returned none ∧ CS P w o D N Z g t q.1 (n + q.2.2.1.length) (m + q.2.2.2.length) (max sz (m + q.2.2.2.length)) (extV V m q.2.2.2) I' L' R' T' ∧ (RowC I' L' D i q.2.1 ∧ q.2.1.length = 11) ∧ RowsC I' L' D n q.2.2.1 ∧ r.1 = q.2.2.2.length
  | .error e => oc = .threw (o + 4) ∧ ErC P w o D Z g m sz r.1 V e I' L' R' T') ∧ RF D o Z i I L R T I' L' R' T'
/-- amidst the items of node i, behind those that made the rows rs and the numbers nums -/
def WK (P w o D N Z g : Nat) (t : Nat → Nat) (i n1 m0 sz0 : Nat) (V0 : Nat → Int) (I0 : M32) (L0 : M64) (R0 : MR) (T0 : SH) (a : Nat) (row : Row) (rs : List Row) (nums : List Int) (I : M32) (L : M64) (R : MR) (T : SH) : Prop := CS P w o D N Z g t a (n1 + rs.length) (m0 + nums.length) (max sz0 (m0 + nums.length)) (extV V0 m0 nums) I L R T ∧ (RowC I L D i row ∧ row.length = 11) ∧ RowsC I L D n1 rs ∧ i < n1 ∧ RF D o Z i I0 L0 R0 T0 I L R T
/-- what is still to be read -/
def RsC {α : Type} (tot : CR α) (it : ITC) (n1 m0 : Nat) (F0 : Nat × Row × List Row × List Int → CR α) (ws : List (Nat × Nat)) (row : Row) (rs : List Row) (nums : List Int) (a : Nat) : Prop := tot = adC nums.length (bdC (itsC it ws row (n1 + rs.length) (m0 + nums.length) a) (fun q => F0 (q.1, q.2.1, rs ++ q.2.2.1, nums ++ q.2.2.2)))
section
variable {α : Type} {tot : CR α} {it : ITC} {n1 m0 : Nat} {F0 : Nat × Row × List Row × List Int → CR α} {ws : List (Nat × Nat)} {row : Row} {rs : List Row} {nums : List Int} {a : Nat}
theorem RsC.ok {w : Nat × Nat} {c a' : Nat} {row' : Row} {rs' : List Row} {nums' : List Int} (h : RsC tot it n1 m0 F0 (w :: ws) row rs nums a) (hi : it w.1 w.2 row (n1 + rs.length) (m0 + nums.length) a = (c, .ok (a', row', rs', nums'))) (hc : c = nums'.length) : RsC tot it n1 m0 F0 ws row' (rs ++ rs') (nums ++ nums') a' := by
  unfold RsC at h ⊢
  rw [h, itsC, hi, bdC_ok, bdC_adC, bdC_bdC, adC_adC, hc, List.length_append, List.length_append, ← Nat.add_assoc, ← Nat.add_assoc]
  congr 1
  simp only [bdC_ok, adC_0, List.append_assoc]
theorem RsC.er {w : Nat × Nat} {c : Nat} {e : Int × Nat} (h : RsC tot it n1 m0 F0 (w :: ws) row rs nums a) (hi : it w.1 w.2 row (n1 + rs.length) (m0 + nums.length) a = (c, .error e)) : tot = (nums.length + c, .error e) := by
  unfold RsC at h
  rw [h, itsC, hi]; rfl
theorem RsC.ge {w : Nat × Nat} (h : RsC tot it n1 m0 F0 (w :: ws) row rs nums a) : nums.length + (it w.1 w.2 row (n1 + rs.length) (m0 + nums.length) a).1 ≤ tot.1 := by
  unfold RsC at h
  rw [h, itsC, bdC_bdC]
  exact Nat.add_le_add_left (bdC_ge _ _) _
theorem RsC.nil (h : RsC tot it n1 m0 F0 [] row rs nums a) : tot = adC nums.length (F0 (a, row, rs, nums)) := by
  unfold RsC at h
  rw [h, itsC, bdC_ok, adC_0]
  simp only [List.append_nil]
end
section
variable {P w o D N Z g i n1 m0 sz0 a : Nat} {t : Nat → Nat} {V0 : Nat → Int} {I0 I I' : M32} {L0 L L' : M64} {R0 R R' : MR} {T0 T T' : SH} {row : Row} {rs : List Row} {nums : List Int}
theorem WK.er_tk {e : Int × Nat} (h : WK P w o D N Z g t i n1 m0 sz0 V0 I0 L0 R0 T0 a row rs nums I L R T) (hI : Fx (STk o) I I') (hL : Fx (STl o) L L') (he : I' (o + 4) 0 = cI e.1 ∧ I' (o + 4) 1 = cI e.2) : ErC P w o D Z g m0 sz0 nums.length V0 e I' L' R T ∧ RF D o Z i I0 L0 R0 T0 I' L' R T :=
  ⟨⟨he, _, _, h.1.1.tk hI hL, Nat.le_add_right _ _, fun k hk => extV_lt hk⟩, h.2.2.2.2.tr (RF.tk hI hL)⟩
theorem ErC.up {c : Nat} {e : Int × Nat} (h : ErC P w o D Z g (m0 + nums.length) (max sz0 (m0 + nums.length)) c (extV V0 m0 nums) e I' L' R' T') : ErC P w o D Z g m0 sz0 (nums.length + c) V0 e I' L' R' T' := by
  obtain ⟨h1, m', V', h2, h3, h4⟩ := h
  refine ⟨h1, m', V', ?_, by omega, fun k hk => (h4 k (by omega)).trans (extV_lt hk)⟩
  rw [show max (max sz0 (m0 + nums.length)) (m0 + nums.length + c) = max sz0 (m0 + (nums.length + c)) by omega] at h2
  exact h2
theorem WK.lay (h : WK P w o D N Z g t i n1 m0 sz0 V0 I0 L0 R0 T0 a row rs nums I L R T) : (P < w ∧ w + 1 < o ∧ o + 4 < D ∧ g ≤ 4000) ∧ D + 11 < Z ∧ i < 5000 ∧ i < n1 := by
  have h1 := h.1.1.2.2.2.2
  have h2 := h.1.1.2.2.2.1.lt.1
  have h3 := h.1.2.2.2
  have h4 := h.2.2.2.1
  exact ⟨h1, h2, by omega, h4⟩
theorem WK.tk {a' : Nat} (h : WK P w o D N Z g t i n1 m0 sz0 V0 I0 L0 R0 T0 a row rs nums I L R T) (hI : Fx (STk o) I I') (hL : Fx (STl o) L L') (hC : CT o N a' t I' L') : WK P w o D N Z g t i n1 m0 sz0 V0 I0 L0 R0 T0 a' row rs nums I' L' R T := by
  have hl := h.lay
  have hF : RF D o Z (n1 + rs.length) I L R T I' L' R T := RF.tk hI hL
  exact ⟨h.1.tk hI hL hC, ⟨h.2.1.1.rf hF (by omega) (by omega) (by omega), h.2.1.2⟩, h.2.2.1.rf hF (Nat.le_refl _) (by omega) (by omega), h.2.2.2.1, h.2.2.2.2.tr (RF.tk hI hL)⟩
theorem WK.stI {s c : Nat} {v : Int} (h : WK P w o D N Z g t i n1 m0 sz0 V0 I0 L0 R0 T0 a row rs nums I L R T) (hs : slI s c) : WK P w o D N Z g t i n1 m0 sz0 V0 I0 L0 R0 T0 a (row.set s v) rs nums (up2 I (D + c) i (cI v)) L R T := by
  have hl := h.lay
  have hc : 1 ≤ c ∧ c ≤ 7 := by omega
  exact ⟨h.1.up hc.1 hc.2, ⟨h.2.1.1.stI h.2.1.2 hs, by rw [List.length_set]; exact h.2.1.2⟩, h.2.2.1.of h.2.2.2.1 (fun a k e => up2_k _ _ _ e) (fun a k e => rfl), h.2.2.2.1, h.2.2.2.2.tr (RF.up hc.1 hc.2 (Nat.le_refl _))⟩
theorem WK.stL {s : Nat} {v : Int} (h : WK P w o D N Z g t i n1 m0 sz0 V0 I0 L0 R0 T0 a row rs nums I L R T) (hs : s = 1 ∨ s = 2 ∨ s = 3) : WK P w o D N Z g t i n1 m0 sz0 V0 I0 L0 R0 T0 a (row.set (4 + s) v) rs nums I (up2 L (D + (7 + s)) i (cL v)) R T := by
  have hl := h.lay
  exact ⟨h.1.upl (by omega) (by omega), ⟨h.2.1.1.stL h.2.1.2 hs, by rw [List.length_set]; exact h.2.1.2⟩, h.2.2.1.of h.2.2.2.1 (fun a k e => rfl) (fun a k e => up2_k _ _ _ e), h.2.2.2.1, h.2.2.2.2.tr (RF.upl (by omega) (by omega) (Nat.le_refl _))⟩
/-- behind a child that was read -/
theorem WK.ps {a' : Nat} {rs' : List Row} {nums' : List Int} (h : WK P w o D N Z g t i n1 m0 sz0 V0 I0 L0 R0 T0 a row rs nums I L R T) (hC : CS P w o D N Z g t a' (n1 + rs.length + rs'.length) (m0 + nums.length + nums'.length) (max (max sz0 (m0 + nums.length)) (m0 + nums.length + nums'.length)) (extV (extV V0 m0 nums) (m0 + nums.length) nums') I' L' R' T') (hr : RowsC I' L' D (n1 + rs.length) rs') (hF : RF D o Z (n1 + rs.length) I L R T I' L' R' T') : WK P w o D N Z g t i n1 m0 sz0 V0 I0 L0 R0 T0 a' row (rs ++ rs') (nums ++ nums') I' L' R' T' := by
  have hl := h.lay
  refine ⟨?_, ⟨h.2.1.1.rf hF (by omega) (by omega) (by omega), h.2.1.2⟩, (h.2.2.1.rf hF (Nat.le_refl _) (by omega) (by omega)).app hr, h.2.2.2.1, h.2.2.2.2.tr (hF.mo (by omega))⟩
  rw [extV_ext, show max (max sz0 (m0 + nums.length)) (m0 + nums.length + nums'.length) = max sz0 (m0 + nums.length + nums'.length) by omega] at hC
  rw [List.length_append, List.length_append, ← Nat.add_assoc, ← Nat.add_assoc]
  exact hC
end
section
variable {Y : MI} {d pc : Nat} {lv : List (Nat × Value)} {st : List Value} {Q : QT} {P w o D N Z g i n1 m0 sz0 a : Nat} {t : Nat → Nat} {V0 : Nat → Int} {I0 I : M32} {L0 L : M64} {R0 R : MR} {T0 T : SH} {row : Row} {rs : List Row} {nums : List Int}
variable {α : Type} {tot : CR α} {it : ITC} {F0 : Nat × Row × List Row × List Int → CR α} {ws : List (Nat × Nat)}
/-- what a failure within the items leaves -/
abbrev EQ9 (P w o D Z g i m0 sz0 : Nat) (V0 : Nat → Int) (tot : CR α) (I0 : M32) (L0 : M64) (R0 : MR) (T0 : SH) (Q : QT) : Prop := ∀ e I' L' R' T', tot.2 = .error e → ErC P w o D Z g m0 sz0 tot.1 V0 e I' L' R' T' → RF D o Z i I0 L0 R0 T0 I' L' R' T' → Q (.threw (o + 4)) I' L' R' T'
theorem thr_bad (hh : Y.2.2.2.2.2 = []) {rc rs' : Nat} {x : Nat} {I' : M32} {L' : M64} {R' : MR} {T' : SH} (hx : T'.1 x = 4 + 1) (hq : Q (.threw x) I' L' R' T') : Thr Y d rc rs' pc lv x I' L' R' T' Q := thr_out hx (by decide) (by rw [hh]; rfl) hq
theorem ErC.bad {m sz c : Nat} {V : Nat → Int} {e : Int × Nat} (h : ErC P w o D Z g m sz c V e I L R T) : T.1 (o + 4) = 4 + 1 := by
  obtain ⟨-, m', V', h2, -⟩ := h
  exact h2.1.2.2.2.2.1.2.2.2.2.2.2.2.1
theorem WK.bad (h : WK P w o D N Z g t i n1 m0 sz0 V0 I0 L0 R0 T0 a row rs nums I L R T) : T.1 (o + 4) = 4 + 1 := h.1.1.1.2.2.2.2.1.2.2.2.2.2.2.2.1
/-- a child: read, then its place goes into a slot -/
theorem q_child {idx sl s dep dd f F : Nat} {Zm : MI} {y : MethodName} (hW : WK P w o D N Z g t i n1 m0 sz0 V0 I0 L0 R0 T0 a row rs nums I L R T) (hR : RsC tot it n1 m0 F0 ((s, sl) :: ws) row rs nums a)
    (hit : ∀ row n m a, it s sl row n m a = bdC (psC (tkP t N) g F f s (dep + 1) n m a) fun q => okC (q.1, row.set sl n, q.2.1, q.2.2)) (hsl : sl = 1 ∨ sl = 2 ∨ sl = 3)
    (hd1 : decode Y.2.1 pc = .ok (.invokevirtual idx, 3)) (hd2 : decode Y.2.1 (pc + 3) = .ok (.iastore, 1)) (ml : MLk Y.1 idx y) (ok : OkV Zm y 1) (hk : kc[6]? = some (y.cls, F_Nodes, 15)) (hh : Y.2.2.2.2.2 = [])
    (hcall : Call Zm y dd (rmC (max sz0 (m0 + nums.length)) (m0 + nums.length + (psC (tkP t N) g F f s (dep + 1) (n1 + rs.length) (m0 + nums.length) a).1)) (rmS (max sz0 (m0 + nums.length)) (m0 + nums.length + (psC (tkP t N) g F f s (dep + 1) (n1 + rs.length) (m0 + nums.length) a).1)) [.ref D, .int (cI ((dep + 1 : Nat) : Int))] I L R T (PsQ P w o D N Z g t (n1 + rs.length) (m0 + nums.length) (max sz0 (m0 + nums.length)) (extV V0 m0 nums) (psC (tkP t N) g F f s (dep + 1) (n1 + rs.length) (m0 + nums.length) a) I L R T)) (hdd : dd + 1 ≤ d)
    (hst : (st.map fun v => v.category).sum ≤ 8) (hE : EQ9 P w o D Z g i m0 sz0 V0 tot I0 L0 R0 T0 Q)
    (kk : ∀ a1 rs1 nums1 I1 L1 R1 T1, WK P w o D N Z g t i n1 m0 sz0 V0 I0 L0 R0 T0 a1 (row.set sl ((n1 + rs.length : Nat) : Int)) (rs ++ rs1) (nums ++ nums1) I1 L1 R1 T1 → RsC tot it n1 m0 F0 ws (row.set sl ((n1 + rs.length : Nat) : Int)) (rs ++ rs1) (nums ++ nums1) a1 → Run Y d (rmC (max sz0 (m0 + (nums ++ nums1).length)) (m0 + tot.1)) (rmS (max sz0 (m0 + (nums ++ nums1).length)) (m0 + tot.1)) (pc + 4) lv st I1 L1 R1 T1 Q) :
    Run Y d (rmC (max sz0 (m0 + nums.length)) (m0 + tot.1)) (rmS (max sz0 (m0 + nums.length)) (m0 + tot.1)) pc lv (.int (cI ((dep + 1 : Nat) : Int)) :: .ref D :: .int (cI (i : Int)) :: .ref (D + (sl + 1)) :: st) I L R T Q := by
  generalize hr : psC (tkP t N) g F f s (dep + 1) (n1 + rs.length) (m0 + nums.length) a = r at hcall
  have hge := hR.ge
  rw [hit, hr] at hge
  have hge2 : nums.length + r.1 ≤ tot.1 := Nat.le_trans (Nat.add_le_add_left (bdC_ge _ _) _) hge
  have hl := hW.lay
  refine Run.more (rc := rmC (max (max sz0 (m0 + nums.length)) (m0 + nums.length + r.1)) (m0 + tot.1) + rmC (max sz0 (m0 + nums.length)) (m0 + nums.length + r.1)) (rs := rmS (max (max sz0 (m0 + nums.length)) (m0 + nums.length + r.1)) (m0 + tot.1) + rmS (max sz0 (m0 + nums.length)) (m0 + nums.length + r.1)) ?_ (rmC_split (by omega)) (rmS_split (by omega))
  refine q_callV (rest := .int (cI (i : Int)) :: .ref (D + (sl + 1)) :: st) hd1 ml ok hk hW.1.1.1.2.2.2.2.2.1 (by decide) hcall rfl rfl hdd ?_ ?_ ?_
  · show 1 + (1 + (st.map fun v => v.category).sum) ≤ 16
    omega
  · intro v I1 L1 R1 T1 h
    obtain ⟨h, hF⟩ := h
    obtain ⟨c, r⟩ := r
    cases r with
    | error e => cases h.1
    | ok q =>
      obtain ⟨a1, rs1, nums1⟩ := q
      obtain ⟨h1, h2, h3, h4⟩ := h
      have h4 : c = nums1.length := h4
      cases h1
      have hW1 := hW.ps h2 h3 hF
      have hN := hW1.1.1.1.2.2.2.2.2
      have ht : T1.1 (D + (sl + 1)) = 64 ∧ T1.2.1 (D + (sl + 1)) = 5000 := by
        rcases hsl with rfl | rfl | rfl
        · exact ⟨nT1 hN, nN1 hN⟩
        · exact ⟨nT2 hN, nN2 hN⟩
        · exact ⟨nT3 hN, nN3 hN⟩
      refine j_iast (j := i) hd2 ht.1 ht.2 rfl (by omega) (by decide) ?_
      have hs : slI sl (sl + 1) := by omega
      have hW2 := hW1.stI (v := ((n1 + rs.length : Nat) : Int)) hs
      have hR2 := hR.ok (c := c) (a' := a1) (row' := row.set sl ((n1 + rs.length : Nat) : Int)) (rs' := rs1) (nums' := nums1) (by rw [hit, hr]; rfl) h4
      have hk := kk a1 rs1 nums1 _ _ _ _ hW2 hR2
      rw [List.length_append, ← Nat.add_assoc] at hk
      show Run Y d (rmC (max (max sz0 (m0 + nums.length)) (m0 + nums.length + c)) _) (rmS (max (max sz0 (m0 + nums.length)) (m0 + nums.length + c)) _) _ _ _ _ _ _ _ _
      rw [h4, show max (max sz0 (m0 + nums.length)) (m0 + nums.length + nums1.length) = max sz0 (m0 + nums.length + nums1.length) by omega]
      exact hk
  · intro x I1 L1 R1 T1 h
    obtain ⟨h, hF⟩ := h
    obtain ⟨c, r⟩ := r
    cases r with
    | ok q => cases h.1
    | error e =>
      obtain ⟨h1, h2⟩ := h
      cases h1
      have ht := hR.er (c := c) (e := e) (by rw [hit, hr]; rfl)
      refine thr_bad hh h2.bad (hE e _ _ _ _ (by rw [ht]) ?_ (hW.2.2.2.2.tr (hF.mo (by omega))))
      rw [ht]
      exact h2.up
/-- a name: wanted, then it goes into a slot -/
theorem q_name {idx sl dd : Nat} {rc rr : Nat} (hW : WK P w o D N Z g t i n1 m0 sz0 V0 I0 L0 R0 T0 a row rs nums I L R T) (hR : RsC tot it n1 m0 F0 ((4, sl) :: ws) row rs nums a)
    (hit : ∀ row n m a, it 4 sl row n m a = bdC (lfC (wn (tkP t N) 101 a)) fun a' => okC (a', row.set (4 + sl) (tx (tkP t N) a), [], [])) (hsl : sl = 1 ∨ sl = 2 ∨ sl = 3)
    (hd1 : decode Y.2.1 pc = .ok (.invokevirtual idx, 3)) (hd2 : decode Y.2.1 (pc + 3) = .ok (.lastore, 1)) (ml : MLk Y.1 idx y_Tokens_wantName) (hh : Y.2.2.2.2.2 = []) (h5 : 5 ≤ dd) (hdd : dd + 1 ≤ d)
    (hst : (st.map fun v => v.category).sum ≤ 8) (hE : EQ9 P w o D Z g i m0 sz0 V0 tot I0 L0 R0 T0 Q)
    (kk : ∀ a1 I1 L1, WK P w o D N Z g t i n1 m0 sz0 V0 I0 L0 R0 T0 a1 (row.set (4 + sl) (tx (tkP t N) a)) rs nums I1 L1 R T → RsC tot it n1 m0 F0 ws (row.set (4 + sl) (tx (tkP t N) a)) rs nums a1 → Run Y d rc rr (pc + 4) lv st I1 L1 R T Q) :
    Run Y d rc rr pc lv (.ref o :: .int (cI (i : Int)) :: .ref (D + (7 + sl)) :: st) I L R T Q := by
  have hl := hW.lay
  obtain ⟨s1, s2, s3, s4, s5, s6⟩ := id hW.1.1.1
  refine q_callV (rc := rc) (rs := rr) (ci := 5) (rest := .int (cI (i : Int)) :: .ref (D + (7 + sl)) :: st) hd1 ml ok_Tokens_wantName rfl s5.1 (by decide) (c_Tokens_wantNameT (d := dd) h5 s5 s1 s2 s4 hW.1.1.2.1 hW.1.2.1) rfl rfl hdd ?_ ?_ ?_
  · show 1 + (1 + (st.map fun v => v.category).sum) ≤ 16
    omega
  · intro v I1 L1 R1 T1 h
    cases hr : wn (tkP t N) 101 a with
    | error e => rw [hr] at h; cases h.1.1
    | ok a1 =>
      have h' := nxT_ok h hr
      obtain ⟨-, f1, f2, rfl, rfl⟩ := h
      obtain ⟨h1, h2⟩ := h'
      cases h1
      have hW1 := hW.tk f1 f2 h2
      have ht : T1.1 (D + (7 + sl)) = 65 ∧ T1.2.1 (D + (7 + sl)) = 5000 := by
        rcases hsl with rfl | rfl | rfl
        · exact ⟨nT7 s6, nN7 s6⟩
        · exact ⟨nT8 s6, nN8 s6⟩
        · exact ⟨nT9 s6, nN9 s6⟩
      refine j_last (j := i) hd2 ht.1 ht.2 rfl (by omega) (by decide) ?_
      have hR2 := hR.ok (c := 0) (a' := a1) (row' := row.set (4 + sl) (tx (tkP t N) a)) (rs' := []) (nums' := []) (by rw [hit, hr]; rfl) rfl
      rw [List.append_nil, List.append_nil] at hR2
      exact kk a1 _ _ (hW1.stL hsl) hR2
  · intro x I1 L1 R1 T1 h
    cases hr : wn (tkP t N) 101 a with
    | ok a1 => rw [hr] at h; cases h.1.1
    | error e =>
      have h' := nxT_er h hr
      obtain ⟨-, f1, f2, rfl, rfl⟩ := h
      obtain ⟨h1, h2, h3⟩ := h'
      cases h1
      have ht := hR.er (c := 0) (e := e) (by rw [hit, hr]; rfl)
      have hw := hW.er_tk (e := e) f1 f2 ⟨h2, h3⟩
      refine thr_bad hh hW.bad (hE e _ _ _ _ (by rw [ht]) ?_ hw.2)
      rw [ht]; exact hw.1
end

