/-! ===== 86a THE COMPONENT'S READER: what its methods share ===== -/
/-- a reader of the component reads what its kind of text says -/
def RdOk (P w o D N Z g F : Nat) (t : Nat → Nat) (Zm : MI) (y : MethodName) (s f : Nat) : Prop := ∀ (dep n m sz a : Nat) (V : Nat → Int) (I : M32) (L : M64) (R : MR) (T : SH) (d : Nat), 3 * f + 8 ≤ d → 102 ≤ f + dep → dep ≤ 101 → CS P w o D N Z g t a n m sz V I L R T → m + (psC (tkP t N) g F f s dep n m a).1 ≤ 60000 → Call Zm y d (rmC sz (m + (psC (tkP t N) g F f s dep n m a).1)) (rmS sz (m + (psC (tkP t N) g F f s dep n m a).1)) [.ref D, .int (cI (dep : Int))] I L R T (PsQ P w o D N Z g t n m sz V (psC (tkP t N) g F f s dep n m a) I L R T)
theorem opn_le (τ : TkF) : ∀ F a k a1, opn τ F a = .ok (k, a1) → k ≤ F
  | 0, a, k, a1, h => by cases h; exact Nat.le_refl _
  | F + 1, a, k, a1, h => by
    have h : (if tk τ a = 103 then bnd (nx τ a) fun a1 => bnd (opn τ F a1) fun p => .ok (p.1 + 1, p.2) else if tk τ a = 107 then .error (3, tb τ a) else .ok (0, a)) = .ok (k, a1) := h
    split at h
    · cases h1 : nx τ a with
      | error e => rw [h1] at h; cases h
      | ok b =>
        rw [h1, bnd_ok] at h
        cases h2 : opn τ F b with
        | error e => rw [h2] at h; cases h
        | ok p =>
          rw [h2, bnd_ok] at h
          cases h
          have := opn_le τ F b p.1 p.2 h2
          omega
    · split at h
      · cases h
      · cases h; omega
theorem NuH.val {I : M32} {R : MR} {T : SH} {D Z m sz : Nat} {V V' : Nat → Int} (h : NuH I R T D Z m sz V) (hv : ∀ k, k < m → V' k = V k) : NuH I R T D Z m sz V' := by
  obtain ⟨e, B, n1, n2, n3, n4, n5, n6, n7, n8, n9⟩ := h
  exact ⟨e, B, n1, n2, n3, n4, n5, n6, n7, n8, fun k hk => by rw [hv k hk]; exact n9 k hk⟩
theorem CS.val {P w o D N Z g a n m sz : Nat} {t : Nat → Nat} {V V' : Nat → Int} {I : M32} {L : M64} {R : MR} {T : SH} (h : CS P w o D N Z g t a n m sz V I L R T) (hv : ∀ k, k < m → V' k = V k) : CS P w o D N Z g t a n m sz V' I L R T := ⟨⟨h.1.1, h.1.2.1, h.1.2.2.1, h.1.2.2.2.1.val hv, h.1.2.2.2.2⟩, h.2⟩
theorem WK.start {P w o D N Z g n m sz a : Nat} {t : Nat → Nat} {V : Nat → Int} {I0 I : M32} {L0 L : M64} {R0 R : MR} {T0 T : SH} {row : Row} (hC : CS P w o D N Z g t a (n + 1) m sz V I L R T) (hr : RowC I L D n row) (hl : row.length = 11) (hF : RF D o Z n I0 L0 R0 T0 I L R T) : WK P w o D N Z g t n (n + 1) m sz V I0 L0 R0 T0 a row [] [] I L R T := by
  have hm := hC.1.2.2.2.1.lt
  refine ⟨?_, ⟨hr, hl⟩, RowsC.nil, Nat.lt_succ_self _, hF⟩
  have e3 : max sz (m + ([] : List Int).length) = sz := by show max sz (m + 0) = sz; omega
  rw [e3]
  exact hC.val fun k hk => extV_lt hk
theorem WK.start1 {P w o D N Z g n m sz a : Nat} {v : Int} {t : Nat → Nat} {V : Nat → Int} {I0 I : M32} {L0 L : M64} {R0 R : MR} {T0 T : SH} {row : Row} (hC : CS P w o D N Z g t a (n + 1) (m + 1) (max sz (m + 1)) (fun k => if k = m then v else V k) I L R T) (hr : RowC I L D n row) (hl : row.length = 11) (hF : RF D o Z n I0 L0 R0 T0 I L R T) : WK P w o D N Z g t n (n + 1) m sz V I0 L0 R0 T0 a row [] [v] I L R T := by
  refine ⟨hC.val fun k hk => ?_, ⟨hr, hl⟩, RowsC.nil, Nat.lt_succ_self _, hF⟩
  show extV V m [v] k = if k = m then v else V k
  unfold extV
  by_cases q : k < m
  · rw [if_pos q, if_neg (by omega)]
  · have : k = m := Nat.le_antisymm (Nat.le_of_lt_succ hk) (Nat.not_lt.mp q)
    rw [if_neg q, if_pos this, this, Nat.sub_self]; rfl
section
variable {Y : MI} {d pc : Nat} {lv : List (Nat × Value)} {st : List Value} {Q : QT} {P w o D N Z g i n1 m0 sz0 a : Nat} {t : Nat → Nat} {V0 : Nat → Int} {I0 I : M32} {L0 L : M64} {R0 R : MR} {T0 T : SH} {row : Row} {rs : List Row} {nums : List Int}
variable {α : Type} {tot : CR α} {it : ITC} {F0 : Nat × Row × List Row × List Int → CR α} {ws : List (Nat × Nat)}
theorem WK.nd (h : WK P w o D N Z g t i n1 m0 sz0 V0 I0 L0 R0 T0 a row rs nums I L R T) : NdS R T D P := h.1.1.1.2.2.2.2.2
theorem WK.tks (h : WK P w o D N Z g t i n1 m0 sz0 V0 I0 L0 R0 T0 a row rs nums I L R T) : TkS R T o P := h.1.1.1.2.2.2.2.1
theorem WK.pt (h : WK P w o D N Z g t i n1 m0 sz0 V0 I0 L0 R0 T0 a row rs nums I L R T) : T.1 P = 16 + 1 := h.1.1.1.1
theorem WK.po (h : WK P w o D N Z g t i n1 m0 sz0 V0 I0 L0 R0 T0 a row rs nums I L R T) : R P 1 = some o := h.1.1.1.2.2.1
theorem WK_kd (h : WK P w o D N Z g t i n1 m0 sz0 V0 I0 L0 R0 T0 a row rs nums I L R T) : I o 3 = cI (tk (tkP t N) a) := h.1.2.1.2.2.2.2.1
theorem WK_kr (h : WK P w o D N Z g t i n1 m0 sz0 V0 I0 L0 R0 T0 a row rs nums I L R T) : 0 ≤ tk (tkP t N) a ∧ tk (tkP t N) a ≤ 107 := ⟨h.1.2.1.2.1, (TokR.kd h.1.2.1.1).2.1⟩
theorem q_ch {idx sl s dep f F : Nat} {Zm : MI} {y : MethodName} (hW : WK P w o D N Z g t i n1 m0 sz0 V0 I0 L0 R0 T0 a row rs nums I L R T) (hR : RsC tot it n1 m0 F0 ((s, sl) :: ws) row rs nums a) (ih : RdOk P w o D N Z g F t Zm y s f)
    (hit : ∀ row n m a, it s sl row n m a = bdC (psC (tkP t N) g F f s (dep + 1) n m a) fun q => okC (q.1, row.set sl n, q.2.1, q.2.2)) (hsl : sl = 1 ∨ sl = 2 ∨ sl = 3)
    (hd1 : decode Y.2.1 pc = .ok (.invokevirtual idx, 3)) (hd2 : decode Y.2.1 (pc + 3) = .ok (.iastore, 1)) (ml : MLk Y.1 idx y) (ok : OkV Zm y 1) (hk : kc[6]? = some (y.cls, F_Nodes, 15)) (hh : Y.2.2.2.2.2 = []) (hdd : 3 * f + 9 ≤ d) (h102 : 102 ≤ f + (dep + 1)) (h101 : dep + 1 ≤ 101) (hB : m0 + tot.1 ≤ 60000)
    (hst : (st.map fun v => v.category).sum ≤ 8) (hE : EQ9 P w o D Z g i m0 sz0 V0 tot I0 L0 R0 T0 Q)
    (kk : ∀ a1 row1 rs1 nums1 I1 L1 R1 T1, WK P w o D N Z g t i n1 m0 sz0 V0 I0 L0 R0 T0 a1 row1 rs1 nums1 I1 L1 R1 T1 → RsC tot it n1 m0 F0 ws row1 rs1 nums1 a1 → row1 = row.set sl ((n1 + rs.length : Nat) : Int) → Run Y d (rmC (max sz0 (m0 + nums1.length)) (m0 + tot.1)) (rmS (max sz0 (m0 + nums1.length)) (m0 + tot.1)) (pc + 4) lv st I1 L1 R1 T1 Q) :
    Run Y d (rmC (max sz0 (m0 + nums.length)) (m0 + tot.1)) (rmS (max sz0 (m0 + nums.length)) (m0 + tot.1)) pc lv (.int (cI ((dep : Int) + 1)) :: .ref D :: .int (cI (i : Int)) :: .ref (D + (sl + 1)) :: st) I L R T Q := by
  have hge := hR.ge
  rw [hit] at hge
  have hge2 := Nat.le_trans (Nat.add_le_add_left (bdC_ge _ _) _) hge
  exact q_child (dd := d - 1) hW hR hit hsl hd1 hd2 ml ok hk hh (ih _ _ _ _ _ _ _ _ _ _ (d - 1) (by omega) h102 h101 hW.1 (by omega)) (by omega) hst hE (fun a1 rs1 nums1 I1 L1 R1 T1 h1 h2 => kk a1 _ _ _ I1 L1 R1 T1 h1 h2 rfl)
theorem q_nm {idx sl dd : Nat} {rc rr : Nat} (hW : WK P w o D N Z g t i n1 m0 sz0 V0 I0 L0 R0 T0 a row rs nums I L R T) (hR : RsC tot it n1 m0 F0 ((4, sl) :: ws) row rs nums a)
    (hit : ∀ row n m a, it 4 sl row n m a = bdC (lfC (wn (tkP t N) 101 a)) fun a' => okC (a', row.set (4 + sl) (tx (tkP t N) a), [], [])) (hsl : sl = 1 ∨ sl = 2 ∨ sl = 3)
    (hd1 : decode Y.2.1 pc = .ok (.invokevirtual idx, 3)) (hd2 : decode Y.2.1 (pc + 3) = .ok (.lastore, 1)) (ml : MLk Y.1 idx y_Tokens_wantName) (hh : Y.2.2.2.2.2 = []) (h5 : 5 ≤ dd) (hdd : dd + 1 ≤ d)
    (hst : (st.map fun v => v.category).sum ≤ 8) (hE : EQ9 P w o D Z g i m0 sz0 V0 tot I0 L0 R0 T0 Q)
    (kk : ∀ a1 row1 I1 L1, WK P w o D N Z g t i n1 m0 sz0 V0 I0 L0 R0 T0 a1 row1 rs nums I1 L1 R T → RsC tot it n1 m0 F0 ws row1 rs nums a1 → row1 = row.set (4 + sl) (tx (tkP t N) a) → Run Y d rc rr (pc + 4) lv st I1 L1 R T Q) :
    Run Y d rc rr pc lv (.ref o :: .int (cI (i : Int)) :: .ref (D + (7 + sl)) :: st) I L R T Q :=
  q_name hW hR hit hsl hd1 hd2 ml hh h5 hdd hst hE (fun a1 I1 L1 h1 h2 => kk a1 _ I1 L1 h1 h2 rfl)
/-- a call that only moves on in the text -/
theorem q_tk {idx n dd : Nat} {rc rr : Nat} {r : ER Nat} {Zm : MI} {y : MethodName} {as : List Value} {stk : List Value} {F : u_T} {M : Nat} (hW : WK P w o D N Z g t i n1 m0 sz0 V0 I0 L0 R0 T0 a row rs nums I L R T)
    (hd1 : decode Y.2.1 pc = .ok (.invokevirtual idx, 3)) (ml : MLk Y.1 idx y) (ok : OkV Zm y n) (hk : kc[5]? = some (y.cls, F, M)) (hh : Y.2.2.2.2.2 = []) (hcall : Call Zm y dd 0 0 (.ref o :: as) I L R T (nxT o N t none r I L R T)) (hn : as.length = n) (hs : stk = as.reverse ++ .ref o :: st) (hdd : dd + 1 ≤ d)
    (hst : (st.map fun v => v.category).sum ≤ 8) (hE : EQ9 P w o D Z g i m0 sz0 V0 tot I0 L0 R0 T0 Q) (he : ∀ e, r = .error e → tot = (nums.length, .error e))
    (kk : ∀ a1 I1 L1, r = .ok a1 → WK P w o D N Z g t i n1 m0 sz0 V0 I0 L0 R0 T0 a1 row rs nums I1 L1 R T → Run Y d rc rr (pc + 3) lv st I1 L1 R T Q) : Run Y d rc rr pc lv stk I L R T Q := by
  refine q_callV (rc := rc) (rs := rr) (ci := 5) (rest := st) hd1 ml ok hk hW.tks.1 (by decide) hcall hn hs hdd (by omega) ?_ ?_
  · intro v I1 L1 R1 T1 h
    cases hr : r with
    | error e => rw [hr] at h; cases h.1.1
    | ok a1 =>
      have h' := nxT_ok h hr
      obtain ⟨-, f1, f2, rfl, rfl⟩ := h
      obtain ⟨h1, h2⟩ := h'
      cases h1
      exact kk a1 _ _ hr (hW.tk f1 f2 h2)
  · intro x I1 L1 R1 T1 h
    cases hr : r with
    | ok a1 => rw [hr] at h; cases h.1.1
    | error e =>
      have h' := nxT_er h hr
      obtain ⟨-, f1, f2, rfl, rfl⟩ := h
      obtain ⟨h1, h2, h3⟩ := h'
      cases h1
      have ht := he e hr
      have hw := hW.er_tk (e := e) f1 f2 ⟨h2, h3⟩
      refine thr_bad hh hW.bad (hE e _ _ _ _ (by rw [ht]) ?_ hw.2)
      rw [ht]; exact hw.1
end

