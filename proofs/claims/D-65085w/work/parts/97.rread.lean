/-! ===== 97 THE COMPONENT'S READER: a whole text ===== -/
theorem d_Nodes_read_0 : decode m_Nodes_read.2.1 0 = .ok (.aload_n 0, 1) := by decide +kernel
theorem d_Nodes_read_1 : decode m_Nodes_read.2.1 1 = .ok (.aload_n 0, 1) := by decide +kernel
theorem d_Nodes_read_2 : decode m_Nodes_read.2.1 2 = .ok (.getfield 77, 3) := by decide +kernel
theorem d_Nodes_read_5 : decode m_Nodes_read.2.1 5 = .ok (.putfield 80, 3) := by decide +kernel
theorem d_Nodes_read_8 : decode m_Nodes_read.2.1 8 = .ok (.aload_n 0, 1) := by decide +kernel
theorem d_Nodes_read_9 : decode m_Nodes_read.2.1 9 = .ok (.getfield 54, 3) := by decide +kernel
theorem d_Nodes_read_12 : decode m_Nodes_read.2.1 12 = .ok (.istore_n 1, 1) := by decide +kernel
theorem d_Nodes_read_13 : decode m_Nodes_read.2.1 13 = .ok (.iconst 0, 1) := by decide +kernel
theorem d_Nodes_read_14 : decode m_Nodes_read.2.1 14 = .ok (.istore_n 2, 1) := by decide +kernel
theorem d_Nodes_read_15 : decode m_Nodes_read.2.1 15 = .ok (.aload_n 0, 1) := by decide +kernel
theorem d_Nodes_read_16 : decode m_Nodes_read.2.1 16 = .ok (.iconst 0, 1) := by decide +kernel
theorem d_Nodes_read_17 : decode m_Nodes_read.2.1 17 = .ok (.invokevirtual 93, 3) := by decide +kernel
theorem d_Nodes_read_20 : decode m_Nodes_read.2.1 20 = .ok (.istore_n 3, 1) := by decide +kernel
theorem d_Nodes_read_21 : decode m_Nodes_read.2.1 21 = .ok (.aload_n 0, 1) := by decide +kernel
theorem d_Nodes_read_22 : decode m_Nodes_read.2.1 22 = .ok (.getfield 3, 3) := by decide +kernel
theorem d_Nodes_read_25 : decode m_Nodes_read.2.1 25 = .ok (.getfield 83, 3) := by decide +kernel
theorem d_Nodes_read_28 : decode m_Nodes_read.2.1 28 = .ok (.invokevirtual 97, 3) := by decide +kernel
theorem d_Nodes_read_31 : decode m_Nodes_read.2.1 31 = .ok (.iconst 1, 1) := by decide +kernel
theorem d_Nodes_read_32 : decode m_Nodes_read.2.1 32 = .ok (.istore_n 2, 1) := by decide +kernel
theorem d_Nodes_read_33 : decode m_Nodes_read.2.1 33 = .ok (.iload_n 3, 1) := by decide +kernel
theorem d_Nodes_read_34 : decode m_Nodes_read.2.1 34 = .ok (.istore 4, 2) := by decide +kernel
theorem d_Nodes_read_36 : decode m_Nodes_read.2.1 36 = .ok (.iload_n 2, 1) := by decide +kernel
theorem d_Nodes_read_37 : decode m_Nodes_read.2.1 37 = .ok (.ifCond .ne 16, 3) := by decide +kernel
theorem d_Nodes_read_40 : decode m_Nodes_read.2.1 40 = .ok (.aload_n 0, 1) := by decide +kernel
theorem d_Nodes_read_41 : decode m_Nodes_read.2.1 41 = .ok (.aload_n 0, 1) := by decide +kernel
theorem d_Nodes_read_42 : decode m_Nodes_read.2.1 42 = .ok (.getfield 80, 3) := by decide +kernel
theorem d_Nodes_read_45 : decode m_Nodes_read.2.1 45 = .ok (.putfield 77, 3) := by decide +kernel
theorem d_Nodes_read_48 : decode m_Nodes_read.2.1 48 = .ok (.aload_n 0, 1) := by decide +kernel
theorem d_Nodes_read_49 : decode m_Nodes_read.2.1 49 = .ok (.iload_n 1, 1) := by decide +kernel
theorem d_Nodes_read_50 : decode m_Nodes_read.2.1 50 = .ok (.putfield 54, 3) := by decide +kernel
theorem d_Nodes_read_53 : decode m_Nodes_read.2.1 53 = .ok (.iload 4, 2) := by decide +kernel
theorem d_Nodes_read_55 : decode m_Nodes_read.2.1 55 = .ok (.ireturn, 1) := by decide +kernel
theorem d_Nodes_read_56 : decode m_Nodes_read.2.1 56 = .ok (.astore 5, 2) := by decide +kernel
theorem d_Nodes_read_58 : decode m_Nodes_read.2.1 58 = .ok (.iload_n 2, 1) := by decide +kernel
theorem d_Nodes_read_59 : decode m_Nodes_read.2.1 59 = .ok (.ifCond .ne 16, 3) := by decide +kernel
theorem d_Nodes_read_62 : decode m_Nodes_read.2.1 62 = .ok (.aload_n 0, 1) := by decide +kernel
theorem d_Nodes_read_63 : decode m_Nodes_read.2.1 63 = .ok (.aload_n 0, 1) := by decide +kernel
theorem d_Nodes_read_64 : decode m_Nodes_read.2.1 64 = .ok (.getfield 80, 3) := by decide +kernel
theorem d_Nodes_read_67 : decode m_Nodes_read.2.1 67 = .ok (.putfield 77, 3) := by decide +kernel
theorem d_Nodes_read_70 : decode m_Nodes_read.2.1 70 = .ok (.aload_n 0, 1) := by decide +kernel
theorem d_Nodes_read_71 : decode m_Nodes_read.2.1 71 = .ok (.iload_n 1, 1) := by decide +kernel
theorem d_Nodes_read_72 : decode m_Nodes_read.2.1 72 = .ok (.putfield 54, 3) := by decide +kernel
theorem d_Nodes_read_75 : decode m_Nodes_read.2.1 75 = .ok (.aload 5, 2) := by decide +kernel
theorem d_Nodes_read_77 : decode m_Nodes_read.2.1 77 = .ok (.athrow, 1) := by decide +kernel
theorem d_Nodes_cut_0 : decode m_Nodes_cut.2.1 0 = .ok (.aload_n 0, 1) := by decide +kernel
theorem d_Nodes_cut_1 : decode m_Nodes_cut.2.1 1 = .ok (.iload_n 1, 1) := by decide +kernel
theorem d_Nodes_cut_2 : decode m_Nodes_cut.2.1 2 = .ok (.putfield 77, 3) := by decide +kernel
theorem d_Nodes_cut_5 : decode m_Nodes_cut.2.1 5 = .ok (.aload_n 0, 1) := by decide +kernel
theorem d_Nodes_cut_6 : decode m_Nodes_cut.2.1 6 = .ok (.iload_n 2, 1) := by decide +kernel
theorem d_Nodes_cut_7 : decode m_Nodes_cut.2.1 7 = .ok (.putfield 54, 3) := by decide +kernel
theorem d_Nodes_cut_10 : decode m_Nodes_cut.2.1 10 = .ok (.return_, 1) := by decide +kernel
/-- a text of one contract, with the count -/
def rdC (τ : TkF) (g F m : Nat) : CR (List Row × List Int) := bdC (psC τ g F 102 1 0 g m 0) fun q => if tk τ q.1 ≠ 107 then erC (9, tb τ q.1) else okC q.2
theorem rdC_2 {τ : TkF} {g F m : Nat} (h : ¬ tk τ 0 < 0) : (rdC τ g F m).2 = rd τ g F m := by
  unfold rdC rd
  rw [if_neg h, bdC_2, psC_2]
  congr 1
  funext q
  split <;> rfl
abbrev RDi (D o Z i a k : Nat) : Prop := RFi D o Z i a k ∨ (a = D ∧ k = 13)
def RD (D o Z i : Nat) (I : M32) (L : M64) (R : MR) (T : SH) (I' : M32) (L' : M64) (R' : MR) (T' : SH) : Prop := Fx (RDi D o Z i) I I' ∧ Fx (RFl D o Z i) L L' ∧ Fx (RFr D Z) R R' ∧ TE T T'
/-- what reading a text comes to -/
def RdQ (P w o D Z n m sz : Nat) (V : Nat → Int) (r : CR (List Row × List Int)) (I : M32) (L : M64) (R : MR) (T : SH) : QT := fun oc I' L' R' T' => (match r.2 with
  | .ok q => oc = .returned (some (.int (cI n))) ∧ CS0 P w o D Z n (m + q.2.length) (max sz (m + q.2.length)) (extV V m q.2) I' L' R' T' ∧ (I' D 10 = cI (n + q.1.length : Nat) ∧ q.1.length ≤ 1000) ∧ RowsC I' L' D n q.1 ∧ r.1 = q.2.length
  | .error e => oc = .threw (o + 4) ∧ (I' (o + 4) 0 = cI e.1 ∧ I' (o + 4) 1 = cI e.2) ∧ CS0 P w o D Z n m (max sz (m + r.1)) V I' L' R' T' ∧ I' D 10 = cI n) ∧ RD D o Z n I L R T I' L' R' T'
theorem NuH.less {I I' : M32} {R : MR} {T : SH} {D Z m m' sz : Nat} {V V' : Nat → Int} (h : NuH I R T D Z m' sz V') (hm : m ≤ m') (hv : ∀ k, k < m → V' k = V k) (h1 : I' D 12 = cI m) (h2 : I' (D + 11) 1 = I (D + 11) 1) (h3 : ∀ a k, Z ≤ a → I' a k = I a k) : NuH I' R T D Z m sz V := by
  obtain ⟨e, B, n1, n2, n3, n4, n5, n6, n7, n8, n9⟩ := h
  exact ⟨e, B, n1, n2, h1, h2.trans n4, by omega, n6, n7, n8, fun k hk => by rw [← hv k hk]; exact (n9 k (by omega)).congr (funext fun _ => h3 _ _ (by have := (n7 k (by omega)).2.2; omega)) (funext fun _ => h3 _ _ (by have := (n7 k (by omega)).2.2; omega))⟩
theorem c_Nodes_read {P w o D N Z g0 n m sz : Nat} {t : Nat → Nat} {V : Nat → Int} {I : M32} {L : M64} {R : MR} {T : SH} (d : Nat) (hd : 330 ≤ d) (h0 : CS0 P w o D Z g0 m sz V I L R T) (hT : CT o N 0 t I L) (hn : I D 10 = cI n) (hn4 : n ≤ 4000) (hN : N ≤ 16384) (hB : m + (rdC (tkP t N) n (N + 1) m).1 ≤ 60000) :
    Call m_Nodes_read y_Nodes_read d (rmC sz (m + (rdC (tkP t N) n (N + 1) m).1)) (rmS sz (m + (rdC (tkP t N) n (N + 1) m).1)) [.ref D] I L R T (RdQ P w o D Z n m sz V (rdC (tkP t N) n (N + 1) m) I L R T) := by
  refine Call.ofRun (by decide) ⟨rfl, rfl⟩ (Nat.le_of_ble_eq_true rfl) ?_
  refine Run.gen fun Q hQ => ?_
  obtain ⟨s1, s2, s3, s4, s5, s6⟩ := id h0.1
  have hly := h0.2.2.2.2
  have hms := h0.2.2.2.1.lt
  have hnm : I D 12 = cI m := by obtain ⟨e, B, -, -, h, -⟩ := h0.2.2.2.1; exact h
  obtain ⟨f, hf⟩ : ∃ f : Nat, f = 102 := ⟨_, rfl⟩
  obtain ⟨tot, htot⟩ : ∃ tot, tot = psC (tkP t N) n (N + 1) f 1 0 n m 0 := ⟨_, rfl⟩
  obtain ⟨rr, hrr⟩ : ∃ rr, rr = rdC (tkP t N) n (N + 1) m := ⟨_, rfl⟩
  have hrd : rr = bdC tot fun q => if tk (tkP t N) q.1 ≠ 107 then erC (9, tb (tkP t N) q.1) else okC q.2 := by rw [hrr, htot, hf, rdC]
  rw [← hrr] at hB hQ ⊢
  have hge : tot.1 ≤ rr.1 := by rw [hrd]; exact bdC_ge _ _
  refine Run.more (rc := 0 + rmC sz (m + tot.1)) (rs := 0 + rmS sz (m + tot.1)) ?_ (by unfold rmC; have := phC_le (show max sz (m + tot.1) ≤ max sz (m + rr.1) by omega); omega) (by unfold rmS; have := phS_le (show max sz (m + tot.1) ≤ max sz (m + rr.1) by omega); omega)
  refine q_aload_n d_Nodes_read_0 rfl ?_
  refine q_aload_n d_Nodes_read_1 rfl ?_
  refine j_getI (v := (cI (n : Int))) d_Nodes_read_2 fl_Nodes_77 s6.1 ⟨rfl, by decide⟩ hn ?_
  refine q_putI d_Nodes_read_5 fl_Nodes_80 s6.1 ⟨rfl, by decide, rfl, rfl⟩ ?_
  generalize hI1 : (up2 I D 13 (cI (n : Int))) = I1
  have f1 : Fx (fun a k => a = D ∧ k = 13) I I1 := by rw [← hI1]; exact Fx.up ⟨rfl, rfl⟩
  have hC1 : CS P w o D N Z n t 0 n m sz V I1 L R T := by
    refine ⟨⟨h0.1, h0.2.1, by rw [← hI1, up2_s], h0.2.2.2.1.co (f1.gt (by omega)) (f1.gt (by omega)) (fun a k e => f1.gt (by omega)), by omega⟩, hT.co (fun a k e1 e2 => f1.gt (by omega)) rfl, by rw [f1.gt (by omega)]; exact hn, by omega⟩
  refine q_aload_n d_Nodes_read_8 rfl ?_
  refine j_getI (v := (cI (m : Int))) d_Nodes_read_9 fl_Nodes_54 s6.1 ⟨rfl, by decide⟩ ((f1.gt (by omega)).trans hnm) ?_
  refine q_istore_n (lv' := [(1, .int (cI (m : Int))), (0, .ref D)]) d_Nodes_read_12 (by decide) rfl ?_
  refine j_iconst d_Nodes_read_13 ?_
  refine q_istore_n (lv' := [(2, .int (cI 0)), (1, .int (cI (m : Int))), (0, .ref D)]) d_Nodes_read_14 (by decide) rfl ?_
  refine q_aload_n d_Nodes_read_15 rfl ?_
  refine j_iconst d_Nodes_read_16 ?_
  have h56 : ∀ (m' sz' : Nat) (V' : Nat → Int) (e : Int × Nat) (I6 : M32) (L6 : M64) (R6 : MR) (T6 : SH), CS0 P w o D Z n m' sz' V' I6 L6 R6 T6 → m ≤ m' → (∀ k, k < m → V' k = V k) → (I6 (o + 4) 0 = cI e.1 ∧ I6 (o + 4) 1 = cI e.2) → RF D o Z n I1 L R T I6 L6 R6 T6 → rr.2 = .error e → sz' = max sz (m + rr.1) → Run m_Nodes_read d 0 0 56 [(0, .ref D), (1, .int (cI (m : Int))), (2, .int (cI 0))] [.ref (o + 4)] I6 L6 R6 T6 Q := by
    intro m' sz' V' e I6 L6 R6 T6 hc hm hv he hF hr hsz
    obtain ⟨z1, z2, z3, z4, z5⟩ := id hc
    have hz := z4.lt
    refine q_astore (lv' := [(5, .ref (o + 4)), (0, .ref D), (1, .int (cI (m : Int))), (2, .int (cI 0))]) d_Nodes_read_56 (by decide) rfl ?_
    refine q_iload_n d_Nodes_read_58 rfl ?_
    refine j_if_ne (tgt := 75) d_Nodes_read_59 (by decide) (by omega) (fun hx => by exfalso; omega) (fun hx => ?_)
    refine q_aload_n d_Nodes_read_62 rfl ?_
    refine q_aload_n d_Nodes_read_63 rfl ?_
    refine j_getI (v := (cI (n : Int))) d_Nodes_read_64 fl_Nodes_80 z1.2.2.2.2.2.1 ⟨rfl, by decide⟩ z3 ?_
    refine q_putI d_Nodes_read_67 fl_Nodes_77 z1.2.2.2.2.2.1 ⟨rfl, by decide, rfl, rfl⟩ ?_
    refine q_aload_n d_Nodes_read_70 rfl ?_
    refine q_iload_n d_Nodes_read_71 rfl ?_
    refine q_putI d_Nodes_read_72 fl_Nodes_54 z1.2.2.2.2.2.1 ⟨rfl, by decide, rfl, rfl⟩ ?_
    refine q_aload d_Nodes_read_75 rfl ?_
    generalize hI8 : (up2 (up2 I6 D 10 (cI (n : Int))) D 12 (cI (m : Int))) = I8
    have f8 : Fx (fun a k => a = D ∧ (k = 10 ∨ k = 12)) I6 I8 := by
      rw [← hI8]; exact (Fx.up ⟨rfl, Or.inl rfl⟩).tu ⟨rfl, Or.inr rfl⟩
    have e12 : I8 D 12 = cI m := by rw [← hI8, up2_s]
    have e10 : I8 D 10 = cI n := by rw [← hI8, up2_k _ _ _ (by decide), up2_s]
    refine q_athrow d_Nodes_read_77 (thr_out (z1.2.2.2.2.1.2.2.2.2.2.2.2.1) (by decide) (Or.inl ⟨by decide, Or.inl ⟨by decide, rfl⟩⟩) (hQ _ _ _ _ _ ?_))
    unfold RdQ
    rw [hr]
    refine ⟨⟨rfl, ⟨by rw [f8.gt (by omega)]; exact he.1, by rw [f8.gt (by omega)]; exact he.2⟩, ⟨z1, z2, by rw [f8.gt (by omega)]; exact z3, ?_, z5⟩, e10⟩, ?_⟩
    · rw [← hsz]
      exact z4.less hm hv e12 (f8.gt (by omega)) (fun a k q => f8.gt (by omega))
    · refine ⟨((f1.mo fun a k q => Or.inr q).tr (hF.1.mo fun a k q => Or.inl q)).tr (f8.mo fun a k q => Or.inl (Or.inr (Or.inr (Or.inl q)))), hF.2⟩
  have hcall := (rdAll (g := n) (show N < N + 1 by omega) (by omega) f).2.2 0 n m sz 0 V I1 L R T (d - 1) (by omega) (by omega) (by omega) hC1 (by rw [← htot]; omega)
  rw [← htot, show ((0 : Nat) : Int) = 0 from rfl] at hcall
  refine q_callV (ci := 6) (rc := 0) (rs := 0) (rest := []) d_Nodes_read_17 ml_Nodes_93 ok_Nodes_contract rfl s6.1 (by decide) (hcall) rfl rfl (by omega) (Nat.le_of_ble_eq_true rfl) (fun v I2 L2 R2 T2 h => ?_) (fun y I2 L2 R2 T2 h => ?_)
  rotate_left
  · obtain ⟨h, hF⟩ := h
    obtain ⟨c, r⟩ := tot
    cases r with
    | ok q => cases h.1
    | error e =>
      obtain ⟨h1, h2, m', V', h3, h4, h5⟩ := h
      cases h1
      refine thr_in (ci := 4) (hp := 56) h3.1.2.2.2.2.1.2.2.2.2.2.2.2.1 (by decide) (Or.inr (Or.inl ⟨⟨by decide, by decide⟩, rfl, rfl⟩)) ?_
      have hr : rr = (c, .error e) := by rw [hrd]; rfl
      refine Run.lv (lv' := [(0, .ref D), (1, .int (cI (m : Int))), (2, .int (cI 0))]) (by intro q hq; simp only [List.mem_cons, List.not_mem_nil, or_false] at hq ⊢; rcases hq with rfl | rfl | rfl <;> simp) ?_
      exact h56 m' _ V' e _ _ _ _ h3 h4 h5 h2 hF (by rw [hr]) (by rw [hr])
  obtain ⟨h, hF⟩ := h
  obtain ⟨c, r⟩ := tot
  cases r with
  | error e => cases h.1
  | ok q =>
    obtain ⟨a2, rows, nums⟩ := q
    obtain ⟨h1, h2, h3, h4⟩ := h
    have h4 : c = nums.length := h4
    cases h1
    have h2 : CS P w o D N Z n t a2 (n + rows.length) (m + nums.length) (max sz (m + nums.length)) (extV V m nums) I2 L2 R2 T2 := h2
    have hrd : rr = adC c (if tk (tkP t N) a2 ≠ 107 then erC (9, tb (tkP t N) a2) else okC (rows, nums)) := by rw [hrd]; rfl
    have hk2 := TokR.kd h2.2.1.1
    obtain ⟨u1, u2, u3, u4, u5, u6⟩ := id h2.1.1
    refine q_istore_n (lv' := [(3, .int (cI (n : Int))), (2, .int (cI 0)), (1, .int (cI (m : Int))), (0, .ref D)]) d_Nodes_read_20 (by decide) rfl ?_
    refine q_aload_n d_Nodes_read_21 rfl ?_
    refine q_getR d_Nodes_read_22 fl_Nodes_3 u6.1 ⟨rfl, by decide⟩ u6.2.2 ?_
    refine q_getR d_Nodes_read_25 fl_Nodes_83 u1 ⟨rfl, by decide⟩ u3 ?_
    refine q_callV (ci := 5) (rc := 0) (rs := 0) (rest := []) d_Nodes_read_28 ml_Nodes_97 ok_Tokens_wantEnd rfl u5.1 (by decide) (c_Tokens_wantEnd (d - 1) (by omega) u5 h2.2.1.2.2.2.2.1 (by omega) h2.2.1.2.2.2.2.2.1) rfl rfl (by omega) (Nat.le_of_ble_eq_true rfl) (fun v I3 L3 R3 T3 h => ?_) (fun y I3 L3 R3 T3 h => ?_)
    rotate_left
    · rcases h with ⟨-, h, _⟩ | ⟨h5, h⟩
      · cases h
      · obtain ⟨g1, f3, g4, e1, e2, e3⟩ := badQ_fx h
        subst L3 R3 T3
        cases g1
        have hr : rr = (c, .error (9, tb (tkP t N) a2)) := by rw [hrd, if_pos h5]; rfl
        refine thr_in (ci := 4) (hp := 56) u5.tag (by decide) (Or.inr (Or.inl ⟨⟨by decide, by decide⟩, rfl, rfl⟩)) ?_
        refine Run.lv (lv' := [(0, .ref D), (1, .int (cI (m : Int))), (2, .int (cI 0))]) (by intro q hq; simp only [List.mem_cons, List.not_mem_nil, or_false] at hq ⊢; rcases hq with rfl | rfl | rfl <;> simp) ?_
        exact h56 (m + nums.length) _ (extV V m nums) (9, tb (tkP t N) a2) _ _ _ _ (h2.1.tk f3 Fx.rf) (by omega) (fun k hk => extV_lt hk) g4 (hF.tr (RF.tk f3 Fx.rf)) (by rw [hr]) (by rw [hr, h4])
    rcases h with ⟨h5, h, e0, e1, e2, e3⟩ | ⟨h5, h⟩
    rotate_left
    · cases h.1
    subst I3 L3 R3 T3
    cases h
    have hr : rr = (c, .ok (rows, nums)) := by rw [hrd, if_neg (fun q => q h5)]; rfl
    refine j_iconst d_Nodes_read_31 ?_
    refine q_istore_n (lv' := [(2, .int (cI 1)), (3, .int (cI (n : Int))), (1, .int (cI (m : Int))), (0, .ref D)]) d_Nodes_read_32 (by decide) rfl ?_
    refine q_iload_n d_Nodes_read_33 rfl ?_
    refine q_istore (lv' := [(4, .int (cI (n : Int))), (2, .int (cI 1)), (3, .int (cI (n : Int))), (1, .int (cI (m : Int))), (0, .ref D)]) d_Nodes_read_34 (by decide) rfl ?_
    refine q_iload_n d_Nodes_read_36 rfl ?_
    refine j_if_ne (tgt := 53) d_Nodes_read_37 (by decide) (by omega) (fun hx => ?_) (fun hx => by exfalso; omega)
    refine q_iload d_Nodes_read_53 rfl ?_
    refine q_ireturn d_Nodes_read_55 rfl rfl ?_
    refine hQ _ _ _ _ _ ?_
    unfold RdQ
    rw [hr]
    exact ⟨⟨rfl, h2.1, ⟨h2.2.2.1, by have := h2.2.2.2; show rows.length ≤ 1000; omega⟩, h3, h4⟩, (f1.mo fun a k q => Or.inr q).tr (hF.1.mo fun a k q => Or.inl q), hF.2⟩

