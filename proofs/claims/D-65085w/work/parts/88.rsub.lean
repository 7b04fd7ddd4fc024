/-! ===== 88 THE COMPONENT'S READER: numbers; items that a callee reads ===== -/
theorem extV_1 {W : Nat → Int} {M k : Nat} {v : Int} (hk : k < M + 1) : extV W M [v] k = if k = M then v else W k := by
  unfold extV
  by_cases q : k < M
  · rw [if_pos q, if_neg (by omega)]
  · have : k = M := Nat.le_antisymm (Nat.le_of_lt_succ hk) (Nat.not_lt.mp q)
    rw [if_neg q, if_pos this, this, Nat.sub_self]; rfl
theorem bdC_id {r : CR (Nat × Row × List Row × List Int)} : bdC r (fun q => okC (q.1, q.2.1, [] ++ q.2.2.1, [] ++ q.2.2.2)) = r := by
  obtain ⟨c, r⟩ := r
  cases r <;> rfl
/-- the numbers of the nodes: one of them -/
theorem NuH.at {I : M32} {R : MR} {T : SH} {D P Z m sz k : Nat} {V : Nat → Int} (h : NuH I R T D Z m sz V) (hN : NdS R T D P) (hk : k < m) : ∃ b, BigS R T b ∧ BigV I b (V k) ∧ Z ≤ b ∧ ∀ (d : Nat) (L : M64), 3 ≤ d → Call m_Nodes_numberAt y_Nodes_numberAt d 0 0 [.ref D, .int (cI k)] I L R T (rO fun r I' L' R' T' => r = some b ∧ I' = I ∧ L' = L ∧ R' = R ∧ T' = T) := by
  obtain ⟨e, B, n1, n2, n3, n4, ⟨n5, n6, n7, n8⟩, n9, n10, n11, n12⟩ := h
  obtain ⟨k1, k2, k3⟩ := capF_ok sz
  have bk := n10 k (by omega)
  have hls : LsS R T (D + 11) e (capF sz) := by
    rcases n1.2.2 with ⟨h, _⟩ | ⟨_, h⟩
    · omega
    · exact ⟨n1.1, n1.2.1, h⟩
  exact ⟨B k, bk.2.1, n12 k hk, bk.2.2, fun d L hd => c_Nodes_numberAt d hd hN n2 hls n4 (by omega) k1 (by omega) bk.1 bk.2.1.1⟩
section
variable {P w o D N Z g i n1 m0 sz0 a : Nat} {t : Nat → Nat} {V0 : Nat → Int} {I0 I I' : M32} {L0 L L' : M64} {R0 R R' : MR} {T0 T T' : SH} {row : Row} {rs : List Row} {nums : List Int}
theorem WK.stL1 {v : Int} (h : WK P w o D N Z g t i n1 m0 sz0 V0 I0 L0 R0 T0 a row rs nums I L R T) : WK P w o D N Z g t i n1 m0 sz0 V0 I0 L0 R0 T0 a (row.set 5 v) rs nums I (up2 L (D + 8) i (cL v)) R T := WK.stL (s := 1) h (Or.inl rfl)
theorem WK.fb (h : WK P w o D N Z g t i n1 m0 sz0 V0 I0 L0 R0 T0 a row rs nums I L R T) : I o 4 = cI (tb (tkP t N) a) := h.1.2.1.2.2.2.2.2.1
theorem WK_bg (h : WK P w o D N Z g t i n1 m0 sz0 V0 I0 L0 R0 T0 a row rs nums I L R T) (h1 : tk (tkP t N) a = 100) : BigV I (o + 2) (tv (tkP t N) a) := h.1.2.1.2.2.2.2.2.2.2.1 h1
theorem WK.num {v : Int} (h : WK P w o D N Z g t i n1 m0 sz0 V0 I0 L0 R0 T0 a row rs nums I L R T) (hN : NuH I' R' T' D Z (m0 + nums.length + 1) (max (max sz0 (m0 + nums.length)) (m0 + nums.length + 1)) (fun k => if k = m0 + nums.length then v else extV V0 m0 nums k)) (hF : NuF D Z I L R T I' L' R' T') : WK P w o D N Z g t i n1 m0 sz0 V0 I0 L0 R0 T0 a row rs (nums ++ [v]) I' L' R' T' := by
  have hl := h.lay
  have hR : RF D o Z (n1 + rs.length) I L R T I' L' R' T' := hF.r
  refine ⟨?_, ⟨h.2.1.1.rf hR (by omega) (by omega) (by omega), h.2.1.2⟩, h.2.2.1.rf hR (Nat.le_refl _) (by omega) (by omega), h.2.2.2.1, h.2.2.2.2.tr hF.r⟩
  have hC := h.1.nu hN hF
  rw [show max (max sz0 (m0 + nums.length)) (m0 + nums.length + 1) = max sz0 (m0 + nums.length + 1) by omega] at hC
  rw [List.length_append, List.length_singleton, ← Nat.add_assoc, ← extV_ext]
  exact hC.val fun k hk => extV_1 hk
theorem WK.start0 {n m sz : Nat} {V : Nat → Int} (hC : CS P w o D N Z g t a n m sz V I L R T) (hr : RowC I L D i row ∧ row.length = 11) (hi : i < n) : WK P w o D N Z g t i n m sz V I L R T a row [] [] I L R T := by
  have hm := hC.1.2.2.2.1.lt
  refine ⟨?_, hr, RowsC.nil, hi, RF.rf⟩
  have e3 : max sz (m + ([] : List Int).length) = sz := by show max sz (m + 0) = sz; omega
  rw [e3]
  exact hC.val fun k hk => extV_lt hk
theorem EQ9.it {n m sz : Nat} {V : Nat → Int} {r : CR (Nat × Row × List Row × List Int)} {Q : QT} (hQ : ∀ oc I' L' R' T', ItQ P w o D N Z g t i n m sz V r I0 L0 R0 T0 oc I' L' R' T' → Q oc I' L' R' T') : EQ9 P w o D Z g i m sz V r I0 L0 R0 T0 Q := fun e I' L' R' T' h1 h2 h3 => hQ _ _ _ _ _ (by
  unfold ItQ
  rw [h1]
  exact ⟨⟨rfl, h2⟩, h3⟩)
theorem RsC.init {it : ITC} {ws : List (Nat × Nat)} {n m : Nat} : RsC (itsC it ws row n m a) it n m okC ws row [] [] a := by
  unfold RsC
  show _ = adC 0 (bdC (itsC it ws row n m a) (fun q => okC (q.1, q.2.1, [] ++ q.2.2.1, [] ++ q.2.2.2)))
  rw [adC_0, bdC_id]
theorem ItQ.done {n m sz : Nat} {V : Nat → Int} {tot : CR (Nat × Row × List Row × List Int)} (hW : WK P w o D N Z g t i n m sz V I0 L0 R0 T0 a row rs nums I L R T) (h : tot = (nums.length, .ok (a, row, rs, nums))) : ItQ P w o D N Z g t i n m sz V tot I0 L0 R0 T0 (.returned none) I L R T := by
  subst h
  exact ⟨⟨rfl, hW.1, hW.2.1, hW.2.2.1, rfl⟩, hW.2.2.2.2⟩
theorem ItQ.fin {n m sz : Nat} {V : Nat → Int} {it : ITC} {tot : CR (Nat × Row × List Row × List Int)} (hW : WK P w o D N Z g t i n m sz V I0 L0 R0 T0 a row rs nums I L R T) (hR : RsC tot it n m okC [] row rs nums a) : ItQ P w o D N Z g t i n m sz V tot I0 L0 R0 T0 (.returned none) I L R T := ItQ.done hW (by rw [hR.nil]; rfl)
theorem EQ9.use {α : Type} {tot : CR α} {e : Int × Nat} {Q : QT} (hE : EQ9 P w o D Z g i m0 sz0 V0 tot I0 L0 R0 T0 Q) (hW : WK P w o D N Z g t i n1 m0 sz0 V0 I0 L0 R0 T0 a row rs nums I L R T) (ht : tot = (nums.length, .error e)) (f1 : Fx (STk o) I I') (f2 : Fx (STl o) L L') (he : I' (o + 4) 0 = cI e.1 ∧ I' (o + 4) 1 = cI e.2) : Q (.threw (o + 4)) I' L' R T := by
  have hw := hW.er_tk (e := e) f1 f2 he
  refine hE e _ _ _ _ (by rw [ht]) ?_ hw.2
  rw [ht]; exact hw.1
end
section
variable {Y : MI} {d pc : Nat} {lv : List (Nat × Value)} {st : List Value} {Q : QT} {P w o D N Z g i n1 m0 sz0 a : Nat} {t : Nat → Nat} {V0 : Nat → Int} {I0 I : M32} {L0 L : M64} {R0 R : MR} {T0 T : SH} {row : Row} {rs : List Row} {nums : List Int}
variable {α : Type} {tot : CR α}
/-- the token's number becomes a number of the nodes -/
theorem q_num {idx : Nat} (hW : WK P w o D N Z g t i n1 m0 sz0 V0 I0 L0 R0 T0 a row rs nums I L R T) (h1 : tk (tkP t N) a = 100)
    (hd1 : decode Y.2.1 pc = .ok (.invokevirtual idx, 3)) (ml : MLk Y.1 idx y_Nodes_number) (h8 : 8 ≤ d) (hB : m0 + tot.1 ≤ 60000) (hge : nums.length + 1 ≤ tot.1) (hst : (st.map fun v => v.category).sum ≤ 8)
    (kk : ∀ ns1 I1 L1 R1 T1, ns1 = nums ++ [tv (tkP t N) a] → WK P w o D N Z g t i n1 m0 sz0 V0 I0 L0 R0 T0 a row rs ns1 I1 L1 R1 T1 → Run Y d (rmC (max sz0 (m0 + ns1.length)) (m0 + tot.1)) (rmS (max sz0 (m0 + ns1.length)) (m0 + tot.1)) (pc + 3) lv (.int (cI ((m0 + nums.length : Nat) : Int)) :: st) I1 L1 R1 T1 Q) :
    Run Y d (rmC (max sz0 (m0 + nums.length)) (m0 + tot.1)) (rmS (max sz0 (m0 + nums.length)) (m0 + tot.1)) pc lv (.ref (o + 2) :: .ref D :: st) I L R T Q := by
  have hl := hW.lay
  refine Run.more (rc := rmC (max (max sz0 (m0 + nums.length)) (m0 + nums.length + 1)) (m0 + tot.1) + rmC (max sz0 (m0 + nums.length)) (m0 + nums.length + 1)) (rs := rmS (max (max sz0 (m0 + nums.length)) (m0 + nums.length + 1)) (m0 + tot.1) + rmS (max sz0 (m0 + nums.length)) (m0 + nums.length + 1)) ?_ (rmC_split (by omega)) (rmS_split (by omega))
  refine q_callV (ci := 6) (dd := d - 1) (rest := st) hd1 ml ok_Nodes_number rfl hW.nd.1 (by decide) (c_Nodes_number (d - 1) (by omega) hW.nd hW.1.1.2.2.2.1 (by omega) hW.tks.2.2.2.2.2.1 (by omega) (WK_bg hW h1)) rfl rfl (by omega) (by omega) (kr_I fun r I1 L1 R1 T1 h => ?_) kt_I
  obtain ⟨rfl, h2, h3⟩ := h
  have hk := kk _ _ _ _ _ rfl (hW.num h2 h3)
  rw [List.length_append, List.length_singleton, ← Nat.add_assoc] at hk
  rw [show max (max sz0 (m0 + nums.length)) (m0 + nums.length + 1) = max sz0 (m0 + nums.length + 1) by omega]
  exact hk
/-- a callee that reads items of the node -/
theorem q_sub {idx n dd : Nat} {Zm : MI} {y : MethodName} {as stk : List Value} {r : CR (Nat × Row × List Row × List Int)} (hW : WK P w o D N Z g t i n1 m0 sz0 V0 I0 L0 R0 T0 a row [] nums I L R T)
    (hd1 : decode Y.2.1 pc = .ok (.invokevirtual idx, 3)) (ml : MLk Y.1 idx y) (ok : OkV Zm y n) (hk : kc[6]? = some (y.cls, F_Nodes, 15)) (hh : Y.2.2.2.2.2 = [])
    (hcall : Call Zm y dd (rmC (max sz0 (m0 + nums.length)) (m0 + nums.length + r.1)) (rmS (max sz0 (m0 + nums.length)) (m0 + nums.length + r.1)) (.ref D :: as) I L R T (ItQ P w o D N Z g t i n1 (m0 + nums.length) (max sz0 (m0 + nums.length)) (extV V0 m0 nums) r I L R T)) (hn : as.length = n) (hs : stk = as.reverse ++ .ref D :: st) (hdd : dd + 1 ≤ d)
    (hst : (st.map fun v => v.category).sum ≤ 8) (hE : EQ9 P w o D Z g i m0 sz0 V0 tot I0 L0 R0 T0 Q) (hge : nums.length + r.1 ≤ tot.1) (her : ∀ c e, r = (c, .error e) → tot = (nums.length + c, .error e))
    (kk : ∀ a1 row1 rs1 ns0 ns1 I1 L1 R1 T1, ns1 = nums ++ ns0 → r = (ns0.length, .ok (a1, row1, rs1, ns0)) → WK P w o D N Z g t i n1 m0 sz0 V0 I0 L0 R0 T0 a1 row1 rs1 ns1 I1 L1 R1 T1 → Run Y d (rmC (max sz0 (m0 + ns1.length)) (m0 + tot.1)) (rmS (max sz0 (m0 + ns1.length)) (m0 + tot.1)) (pc + 3) lv st I1 L1 R1 T1 Q) :
    Run Y d (rmC (max sz0 (m0 + nums.length)) (m0 + tot.1)) (rmS (max sz0 (m0 + nums.length)) (m0 + tot.1)) pc lv stk I L R T Q := by
  have hl := hW.lay
  refine Run.more (rc := rmC (max (max sz0 (m0 + nums.length)) (m0 + nums.length + r.1)) (m0 + tot.1) + rmC (max sz0 (m0 + nums.length)) (m0 + nums.length + r.1)) (rs := rmS (max (max sz0 (m0 + nums.length)) (m0 + nums.length + r.1)) (m0 + tot.1) + rmS (max sz0 (m0 + nums.length)) (m0 + nums.length + r.1)) ?_ (rmC_split (by omega)) (rmS_split (by omega))
  refine q_callV (ci := 6) (rest := st) hd1 ml ok hk hW.nd.1 (by decide) hcall hn hs hdd (by omega) ?_ ?_
  · intro v I1 L1 R1 T1 h
    obtain ⟨h, hF⟩ := h
    obtain ⟨c, r⟩ := r
    cases r with
    | error e => cases h.1
    | ok q =>
      obtain ⟨a1, row1, rs1, ns0⟩ := q
      obtain ⟨h1, h2, h3, h4, h5⟩ := h
      have h5 : c = ns0.length := h5
      cases h1
      have hW1 : WK P w o D N Z g t i n1 m0 sz0 V0 I0 L0 R0 T0 a1 row1 rs1 (nums ++ ns0) I1 L1 R1 T1 := by
        refine ⟨?_, h3, h4, hW.2.2.2.1, hW.2.2.2.2.tr hF⟩
        have h2 : CS P w o D N Z g t a1 (n1 + rs1.length) (m0 + nums.length + ns0.length) (max (max sz0 (m0 + nums.length)) (m0 + nums.length + ns0.length)) (extV (extV V0 m0 nums) (m0 + nums.length) ns0) I1 L1 R1 T1 := h2
        rw [extV_ext, show max (max sz0 (m0 + nums.length)) (m0 + nums.length + ns0.length) = max sz0 (m0 + nums.length + ns0.length) by omega] at h2
        rw [List.length_append, ← Nat.add_assoc]
        exact h2
      have hk := kk a1 row1 rs1 ns0 _ _ _ _ _ rfl (by rw [h5]) hW1
      rw [List.length_append, ← Nat.add_assoc] at hk
      show Run Y d (rmC (max (max sz0 (m0 + nums.length)) (m0 + nums.length + c)) _) (rmS (max (max sz0 (m0 + nums.length)) (m0 + nums.length + c)) _) _ _ _ _ _ _ _ _
      rw [h5, show max (max sz0 (m0 + nums.length)) (m0 + nums.length + ns0.length) = max sz0 (m0 + nums.length + ns0.length) by omega]
      exact hk
  · intro x I1 L1 R1 T1 h
    obtain ⟨h, hF⟩ := h
    obtain ⟨c, r⟩ := r
    cases r with
    | ok q => cases h.1
    | error e =>
      obtain ⟨h1, h2⟩ := h
      cases h1
      have ht := her c e rfl
      refine thr_bad hh h2.bad (hE e _ _ _ _ (by rw [ht]) ?_ (hW.2.2.2.2.tr hF))
      rw [ht]
      exact h2.up
end

