/-! ===== 81 THE LIST OF NUMBERS: grow, add ===== -/
/-- the list at q: its row at e of room cp, which may be the empty one -/
def LsX (R : MR) (T : SH) (q e cp : Nat) : Prop := T.1 q = 7 + 1 ∧ R q 0 = some e ∧ ((cp = 0 ∧ R 0 2 = some e ∧ T.1 e = 86 ∧ T.2.1 e = 0) ∨ (10 ≤ cp ∧ T.1 e = 68 ∧ T.2.1 e = cp))
def gN (cp : Nat) : Nat := if cp = 0 then 10 else cp + cp / 2
def growQ (q e cp : Nat) (I : M32) (L : M64) (R : MR) (T : SH) : Option Nat → M32 → M64 → MR → SH → Prop := fun r I' L' R' T' => r = some T.2.2 ∧ I' = fr2 I T.2.2 0 ∧ L' = fr2 L T.2.2 0 ∧ (R' q 0 = some T.2.2 ∧ (∀ a k, a ≠ T.2.2 → ¬ (a = q ∧ k = 0) → R' a k = R a k) ∧ ∀ k, k < cp → R' T.2.2 k = R e k) ∧ T' = shN T 68 (gN cp)
theorem Run.stq {Y : MI} {d rc rs pc : Nat} {lv : List (Nat × Value)} {st st' : List Value} {I : M32} {L : M64} {R : MR} {T : SH} {Q : QT} (h : st = st') (k : Run Y d rc rs pc lv st' I L R T Q) : Run Y d rc rs pc lv st I L R T Q := h ▸ k
theorem cI_shr1 {n : Nat} (h : n ≤ 200000) : cI n >>> (cI 1 &&& 31) = cI (n / 2 : Nat) := by
  have e1 : (cI 1 &&& 31 : Int32) = 1 := by decide
  rw [e1]
  apply Int32.toInt_inj.mp
  rw [t_cI (z := ((n / 2 : Nat) : Int)) (by omega)]
  have h2 : (cI n).toBitVec.toNat = n := by
    show (Int32.ofInt (n : Int)).toBitVec.toNat = n
    rw [Int32.toBitVec_ofInt, BitVec.toNat_ofInt]
    omega
  show ((cI n >>> (1 : Int32)).toBitVec).toInt = _
  rw [Int32.toBitVec_shiftRight]
  show ((cI n).toBitVec.sshiftRight 1).toInt = _
  rw [BitVec.toInt_sshiftRight]
  show (cI n).toInt >>> 1 = _
  rw [t_cI (by omega), Int.shiftRight_eq_div_pow]
  simp
theorem c_ArrayList_grow2 (d : Nat) {q e cp : Nat} {I : M32} {L : M64} {R : MR} {T : SH} (hd : 3 ≤ d) (hS : LsX R T q e cp) (hcp : cp ≤ 100000) (hb : ∀ i y, i < cp → R e i = some y → T.1 y = 0 + 1) :
    Call m_ArrayList_grow2 y_ArrayList_grow2 d 1 (gN cp) [.ref q, .int (cI (cp + 1 : Nat))] I L R T (rO (growQ q e cp I L R T)) := by
  refine Call.ofRun (by decide +kernel) ⟨rfl, rfl⟩ (Nat.le_of_ble_eq_true rfl) ?_
  refine Run.gen fun Q hQ => ?_
  obtain ⟨s1, s2, s3⟩ := id hS
  refine Run.fresh fun hF _ _ => ?_
  have hqz : q ≠ T.2.2 := by have := hF q (by omega); omega
  rcases s3 with ⟨rfl, r2, r3, r4⟩ | ⟨c10, r3, r4⟩
  · skip
    refine Run.more (rc := 0 + 1) (rs := 0 + 10) ?_ (Nat.le_refl _) (Nat.le_refl _)
    refine q_aload_n d_ArrayList_grow2_0 rfl ?_
    refine q_getR d_ArrayList_grow2_1 fl_ArrayList_9 s1 ⟨rfl, by decide⟩ s2 ?_
    refine j_alen (n := 0) d_ArrayList_grow2_4 r3 r4 ?_
    refine q_istore_n (lv' := [(2, .int (cI 0)), (0, .ref q), (1, .int (cI ((0 + 1 : Int))))]) d_ArrayList_grow2_5 (by decide) rfl ?_
    refine q_iload_n d_ArrayList_grow2_6 rfl ?_
    refine j_if_gt (tgt := 20) d_ArrayList_grow2_7 (by decide) (by omega) (fun hx => by exfalso; omega) (fun hx => ?_)
    refine q_aload_n d_ArrayList_grow2_10 rfl ?_
    refine q_getR d_ArrayList_grow2_11 fl_ArrayList_9 s1 ⟨rfl, by decide⟩ s2 ?_
    refine q_gets (k := 2) d_ArrayList_grow2_14 (inT2 53 rfl) (List.mem_of_getElem? (i := 2) rfl) ?_
    refine q_acmp_eq (rx := some e) (ry := R 0 2) (tgt := 45) d_ArrayList_grow2_17 (by decide) (fun _ => ?_) (fun h => absurd r2.symm h)
    refine Run.lv (lv' := [(0, .ref q), (1, .int (cI (0 + 1 : Int))), (2, .int (cI 0))]) (by intro q hq; simp only [List.mem_cons, List.not_mem_nil, or_false] at hq ⊢; rcases hq with rfl | rfl | rfl <;> simp) ?_
    refine q_aload_n d_ArrayList_grow2_45 rfl ?_
    refine j_bipush d_ArrayList_grow2_46 (by decide) ?_
    refine q_iload_n d_ArrayList_grow2_48 rfl ?_
    refine q_callS (rc := 0 + 1) (rs := 0 + 10) (rest := [.ref q]) d_ArrayList_grow2_49 ml_ArrayList_79 ok_Math_max (c_Math_max (d - 1) (x := 10) (y := (0 + 1 : Int)) (by decide) (by decide)) rfl rfl (by omega) (Nat.le_of_ble_eq_true rfl) (kp_I ?_) kt_I
    refine Run.top (v := .int (cI 10)) (by rfl) ?_
    refine nwO (t := 4) (N := 10) (rc := 0) (rs := 0) d_ArrayList_grow2_52 ⟨rfl, rfl⟩ (inT5 35 rfl) (fun _ hU => hU.2.2.1) (by omega) (by omega) ?_
    generalize hI1 : fr2 I T.2.2 0 = I1
    generalize hL1 : fr2 L T.2.2 0 = L1
    generalize hR1 : fr2 R T.2.2 none = R1
    generalize hT1 : shN T (4 + 64) 10 = T1
    have t1 : T1.1 q = 7 + 1 := by rw [← hT1]; exact (TE.sh hF).tag s1
    refine q_dup_x1 d_ArrayList_grow2_55 rfl rfl ?_
    refine q_putR d_ArrayList_grow2_56 fl_ArrayList_9 t1 ⟨rfl, by decide, rfl, rfl⟩ ?_
    refine q_areturn d_ArrayList_grow2_59 rfl rfl (Or.inr ⟨_, rfl⟩) ?_
    refine hQ _ _ _ _ _ ?_
    refine ⟨some T.2.2, rfl, rfl, by rw [← hI1], by rw [← hL1], ⟨up2_s _ _ _ _, fun a k e1 e2 => ?_, fun k hk => absurd hk (Nat.not_lt_zero k)⟩, by rw [← hT1]; rfl⟩
    rw [up2, if_neg e2, ← hR1]; exact fr2_n _ _ _ e1
  · skip
    have eg : gN cp = cp + cp / 2 := if_neg (by omega)
    rw [eg]
    refine Run.more (rc := 0 + 1) (rs := 0 + (cp + cp / 2)) ?_ (Nat.le_refl _) (by omega)
    refine q_aload_n d_ArrayList_grow2_0 rfl ?_
    refine q_getR d_ArrayList_grow2_1 fl_ArrayList_9 s1 ⟨rfl, by decide⟩ s2 ?_
    refine j_alen (n := cp) d_ArrayList_grow2_4 r3 r4 ?_
    refine q_istore_n (lv' := [(2, .int (cI (cp : Int))), (0, .ref q), (1, .int (cI (cp + 1 : Int)))]) d_ArrayList_grow2_5 (by decide) rfl ?_
    refine q_iload_n d_ArrayList_grow2_6 rfl ?_
    refine j_if_gt (tgt := 20) d_ArrayList_grow2_7 (by decide) (by omega) (fun hx => ?_) (fun hx => by exfalso; omega)
    refine q_iload_n d_ArrayList_grow2_20 rfl ?_
    refine q_iload_n d_ArrayList_grow2_21 rfl ?_
    refine q_iload_n d_ArrayList_grow2_22 rfl ?_
    refine j_isub d_ArrayList_grow2_23 ?_
    refine q_iload_n d_ArrayList_grow2_24 rfl ?_
    refine j_iconst d_ArrayList_grow2_25 ?_
    refine q_ishr d_ArrayList_grow2_26 ?_
    refine Run.top (v := .int (cI (((cp / 2 : Nat) : Int)))) (by rw [cI_shr1 (by omega)]) ?_
    refine Run.stq (st' := [.int (cI ((cp / 2 : Nat) : Int)), .int (cI 1), .int (cI (cp : Int))]) (by rw [show ((cp : Int) + 1 - cp) = 1 by omega]) ?_
    refine q_callS (rc := 0 + 1) (rs := 0 + (cp + cp / 2)) (rest := []) d_ArrayList_grow2_27 ml_ArrayList_73 ok_ArraysSupport_newLength (c_ArraysSupport_newLength (d - 1) (by omega) (by omega) hcp) rfl rfl (by omega) (Nat.le_of_ble_eq_true rfl) (kp_I ?_) kt_I
    refine q_istore_n (lv' := [(3, .int (cI (cp + cp / 2 : Int))), (2, .int (cI (cp : Int))), (0, .ref q), (1, .int (cI (cp + 1 : Int)))]) d_ArrayList_grow2_30 (by decide) rfl ?_
    refine q_aload_n d_ArrayList_grow2_31 rfl ?_
    refine q_aload_n d_ArrayList_grow2_32 rfl ?_
    refine q_getR d_ArrayList_grow2_33 fl_ArrayList_9 s1 ⟨rfl, by decide⟩ s2 ?_
    refine q_iload_n d_ArrayList_grow2_36 rfl ?_
    refine q_callS (rc := 0) (rs := 0) (rest := [.ref q]) d_ArrayList_grow2_37 ml_ArrayList_66 ok_Arrays_copyOf (c_Arrays_copyOf (d - 1) (by omega) r3 r4 (by omega) (by omega) hb) rfl rfl (by omega) (Nat.le_of_ble_eq_true rfl) (kr_O (fun r I1 L1 R1 T1 h => ?_)) kt_O
    obtain ⟨rfl, hI1, hL1, hR1, hT1⟩ := h
    have t1 : T1.1 q = 7 + 1 := by rw [hT1]; exact (TE.sh hF).tag s1
    have hez : e ≠ T.2.2 := by have := hF e (by omega); omega
    refine q_dup_x1 d_ArrayList_grow2_40 rfl rfl ?_
    refine q_putR d_ArrayList_grow2_41 fl_ArrayList_9 t1 ⟨rfl, by decide, rfl, rfl⟩ ?_
    refine q_areturn d_ArrayList_grow2_44 rfl rfl (Or.inr ⟨_, rfl⟩) ?_
    refine hQ _ _ _ _ _ ?_
    refine ⟨some T.2.2, rfl, rfl, by rw [hI1], by rw [hL1], ⟨up2_s _ _ _ _, fun a k e1 e2 => ?_, fun k hk => ?_⟩, by rw [hT1, eg]⟩
    · rw [up2, if_neg e2, hR1, cpR_n _ e1]; exact fr2_n _ _ _ e1
    · rw [up2_a _ _ _ (by omega), hR1, cpR_s]
      unfold va_cpy
      rw [if_pos (by omega)]
      simp only [Nat.zero_add, Nat.sub_zero]
      exact fr2_n _ _ _ hez
theorem c_ArrayList_grow (d : Nat) {q e cp : Nat} {I : M32} {L : M64} {R : MR} {T : SH} (hd : 4 ≤ d) (hS : LsX R T q e cp) (hn : I q 1 = cI cp) (hcp : cp ≤ 100000) (hb : ∀ i y, i < cp → R e i = some y → T.1 y = 0 + 1) :
    Call m_ArrayList_grow y_ArrayList_grow d 1 (gN cp) [.ref q] I L R T (rO (growQ q e cp I L R T)) := by
  refine Call.ofRun (by decide +kernel) ⟨rfl, rfl⟩ (Nat.le_of_ble_eq_true rfl) ?_
  refine Run.gen fun Q hQ => ?_
  refine Run.more (rc := 0 + 1) (rs := 0 + gN cp) ?_ (Nat.le_refl _) (by omega)
  refine q_aload_n d_ArrayList_grow_0 rfl ?_
  refine q_aload_n d_ArrayList_grow_1 rfl ?_
  refine j_getI (v := (cI (cp : Int))) d_ArrayList_grow_2 fl_ArrayList_48 hS.1 ⟨rfl, by decide⟩ hn ?_
  refine j_iconst d_ArrayList_grow_5 ?_
  refine j_iadd d_ArrayList_grow_6 ?_
  refine q_callV (ci := 7) (rc := 0) (rs := 0) (rest := []) d_ArrayList_grow_7 ml_ArrayList_69 ok_ArrayList_grow2 rfl hS.1 (by decide) (c_ArrayList_grow2 (d - 1) (by omega) hS hcp hb) rfl rfl (by omega) (Nat.le_of_ble_eq_true rfl) (kr_O (fun r I1 L1 R1 T1 h => ?_)) kt_O
  obtain ⟨rfl, h⟩ := h
  refine q_areturn d_ArrayList_grow_10 rfl rfl (Or.inr ⟨_, rfl⟩) ?_
  refine hQ _ _ _ _ _ ?_
  exact ⟨some T.2.2, rfl, rfl, h⟩
/-- what add leaves: the row e' of room c' -/
def addQ (q e cp s v : Nat) (I : M32) (L : M64) (R : MR) (T : SH) (I' : M32) (L' : M64) (R' : MR) (T' : SH) : Prop := ∃ e', (e' = e ∨ e' = T.2.2) ∧ T'.1 e' = 68 ∧ T'.2.1 e' = (if s = cp then gN cp else cp) ∧ R' q 0 = some e' ∧ (∀ k, k < s → R' e' k = R e k) ∧ R' e' s = some v ∧ (∀ a k, a < T.2.2 → ¬ (a = q ∧ k = 0) → a ≠ e' → R' a k = R a k) ∧ TE T T' ∧ I' q 1 = cI (s + 1 : Nat) ∧ (∀ a k, a < T.2.2 → ¬ (a = q ∧ (k = 1 ∨ k = 2)) → I' a k = I a k) ∧ (∀ a k, a < T.2.2 → L' a k = L a k)
theorem gN_gt (cp : Nat) (h : cp = 0 ∨ 10 ≤ cp) : cp < gN cp := by unfold gN; split <;> omega
theorem c_ArrayList_add2 (d : Nat) {q e cp s v : Nat} {I : M32} {L : M64} {R : MR} {T : SH} (hd : 5 ≤ d) (hS : LsX R T q e cp) (hn : I q 1 = cI s) (hs : s ≤ cp) (hcp : cp ≤ 100000) (hv : T.1 v = 0 + 1) (hb : s = cp → ∀ i y, i < cp → R e i = some y → T.1 y = 0 + 1) :
    Call m_ArrayList_add2 y_ArrayList_add2 d (if s = cp then 1 else 0) (if s = cp then gN cp else 0) [.ref q, .ref v, .ref e, .int (cI s)] I L R T (rV (addQ q e cp s v I L R T)) := by
  refine Call.ofRun (by decide +kernel) ⟨rfl, rfl⟩ (Nat.le_of_ble_eq_true rfl) ?_
  refine Run.gen fun Q hQ => ?_
  refine Run.fresh fun hF _ _ => ?_
  obtain ⟨s1, s2, s3⟩ := id hS
  have hqe : q ≠ e := fun h => by rw [h] at s1; rcases s3 with ⟨-, -, r3, -⟩ | ⟨-, r3, -⟩ <;> omega
  have hqz := hF q (by omega)
  have hez : e < T.2.2 := hF e (by rcases s3 with ⟨-, -, r3, -⟩ | ⟨-, r3, -⟩ <;> omega)
  have hvz := hF v (by omega)
  have te : ∃ t, T.1 e = t + 64 := by rcases s3 with ⟨-, -, r3, -⟩ | ⟨-, r3, -⟩; exact ⟨22, r3⟩; exact ⟨4, r3⟩
  obtain ⟨tt, te⟩ := te
  have tl : T.2.1 e = cp := by rcases s3 with ⟨h0, -, -, r4⟩ | ⟨-, -, r4⟩ <;> omega
  have h10 : cp = 0 ∨ 10 ≤ cp := by rcases s3 with ⟨h, _⟩ | ⟨h, _⟩; exact Or.inl h; exact Or.inr h
  have hgt := gN_gt cp h10
  by_cases hsc : s = cp
  · rw [if_pos hsc, if_pos hsc]
    subst hsc
    have hQ2 := hQ
    unfold addQ at hQ2
    rw [if_pos rfl] at hQ2
    refine Run.more (rc := 0 + 1) (rs := 0 + gN s) ?_ (Nat.le_refl _) (by omega)
    refine q_iload_n d_ArrayList_add2_0 rfl ?_
    refine q_aload_n d_ArrayList_add2_1 rfl ?_
    refine j_alen (n := s) d_ArrayList_add2_2 te tl ?_
    refine j_icmp_ne (tgt := 11) d_ArrayList_add2_3 (by decide) (by omega) (by omega) (fun hx => by exfalso; omega) (fun hx => ?_)
    refine q_aload_n d_ArrayList_add2_6 rfl ?_
    refine q_callV (ci := 7) (rc := 0) (rs := 0) (rest := []) d_ArrayList_add2_7 ml_ArrayList_129 ok_ArrayList_grow rfl s1 (by decide) (c_ArrayList_grow (d - 1) (by omega) hS hn hcp (hb rfl)) rfl rfl (by omega) (Nat.le_of_ble_eq_true rfl) (kr_O (fun r I1 L1 R1 T1 h => ?_)) kt_O
    obtain ⟨rfl, hI1, hL1, ⟨g1, g2, g3⟩, hT1⟩ := h
    have t1 : T1.1 T.2.2 = 68 := by rw [hT1]; exact shN_t _ _ _
    have t2 : T1.2.1 T.2.2 = gN s := by rw [hT1]; exact shN_l _ _ _
    have t3 : T1.1 v = 0 + 1 := by rw [hT1]; exact (TE.sh hF).tag hv
    have t4 : T1.1 q = 7 + 1 := by rw [hT1]; exact (TE.sh hF).tag s1
    have t5 : gN s ≤ 200000 := by unfold gN; split <;> omega
    refine q_astore_n (lv' := [(2, .ref T.2.2), (0, .ref q), (1, .ref v), (3, .int (cI (s : Int)))]) d_ArrayList_add2_10 (by decide) rfl ?_
    refine q_aload_n d_ArrayList_add2_11 rfl ?_
    refine q_iload_n d_ArrayList_add2_12 rfl ?_
    refine q_aload_n d_ArrayList_add2_13 rfl ?_
    refine j_aastO (j := s) d_ArrayList_add2_14 t1 t2 rfl (by omega) (by omega) t3 ?_
    generalize hR2 : up2 R1 T.2.2 s (some v) = R2
    refine q_aload_n d_ArrayList_add2_15 rfl ?_
    refine q_iload_n d_ArrayList_add2_16 rfl ?_
    refine j_iconst d_ArrayList_add2_17 ?_
    refine j_iadd d_ArrayList_add2_18 ?_
    refine q_putI d_ArrayList_add2_19 fl_ArrayList_48 t4 ⟨rfl, by decide, rfl, rfl⟩ ?_
    refine q_return d_ArrayList_add2_22 rfl ?_
    refine hQ2 _ _ _ _ _ ⟨rfl, T.2.2, Or.inr rfl, t1, t2, ?_, fun k hk => ?_, ?_, fun a k e1 e2 e3 => ?_, ?_, ?_, fun a k e1 e2 => ?_, fun a k e1 => ?_⟩
    · rw [← hR2, up2_a _ _ _ (by omega)]; exact g1
    · rw [← hR2, up2_k _ _ _ (by omega)]; exact g3 k hk
    · rw [← hR2, up2_s]
    · rw [← hR2, up2_a _ _ _ (by omega)]; exact g2 a k (by omega) e2
    · rw [hT1]; exact TE.sh hF
    · rw [up2_s]; rfl
    · rw [up2, if_neg (by omega), hI1, fr2_n _ _ _ (by omega)]
    · rw [hL1, fr2_n _ _ _ (by omega)]
  · rw [if_neg hsc, if_neg hsc]
    have hQ2 := hQ
    unfold addQ at hQ2
    rw [if_neg hsc] at hQ2
    have t1 : T.1 e = 68 := by rcases s3 with ⟨h0, _⟩ | ⟨-, r3, -⟩; omega; exact r3
    refine q_iload_n d_ArrayList_add2_0 rfl ?_
    refine q_aload_n d_ArrayList_add2_1 rfl ?_
    refine j_alen (n := cp) d_ArrayList_add2_2 te tl ?_
    refine j_icmp_ne (tgt := 11) d_ArrayList_add2_3 (by decide) (by omega) (by omega) (fun hx => ?_) (fun hx => by exfalso; omega)
    refine q_aload_n d_ArrayList_add2_11 rfl ?_
    refine q_iload_n d_ArrayList_add2_12 rfl ?_
    refine q_aload_n d_ArrayList_add2_13 rfl ?_
    refine j_aastO (j := s) d_ArrayList_add2_14 t1 tl rfl (by omega) (by omega) hv ?_
    generalize hR2 : up2 R e s (some v) = R2
    refine q_aload_n d_ArrayList_add2_15 rfl ?_
    refine q_iload_n d_ArrayList_add2_16 rfl ?_
    refine j_iconst d_ArrayList_add2_17 ?_
    refine j_iadd d_ArrayList_add2_18 ?_
    refine q_putI d_ArrayList_add2_19 fl_ArrayList_48 s1 ⟨rfl, by decide, rfl, rfl⟩ ?_
    refine q_return d_ArrayList_add2_22 rfl ?_
    refine hQ2 _ _ _ _ _ ⟨rfl, e, Or.inl rfl, t1, tl, ?_, fun k hk => ?_, ?_, fun a k e1 e2 e3 => ?_, TE.rf, ?_, fun a k e1 e2 => ?_, fun a k e1 => rfl⟩
    · rw [← hR2, up2_a _ _ _ (by omega)]; exact s2
    · rw [← hR2, up2_k _ _ _ (by omega)]
    · rw [← hR2, up2_s]
    · rw [← hR2, up2_a _ _ _ (by omega)]
    · rw [up2_s]; rfl
    · rw [up2, if_neg (by omega)]
theorem c_ArrayList_add (d : Nat) {q e cp s v : Nat} {I : M32} {L : M64} {R : MR} {T : SH} (hd : 6 ≤ d) (hS : LsX R T q e cp) (hn : I q 1 = cI s) (hs : s ≤ cp) (hcp : cp ≤ 100000) (hv : T.1 v = 0 + 1) (hb : s = cp → ∀ i y, i < cp → R e i = some y → T.1 y = 0 + 1) :
    Call m_ArrayList_add y_ArrayList_add d (if s = cp then 1 else 0) (if s = cp then gN cp else 0) [.ref q, .ref v] I L R T (rI fun r I' L' R' T' => addQ q e cp s v I L R T I' L' R' T') := by
  refine Call.ofRun (by decide +kernel) ⟨rfl, rfl⟩ (Nat.le_of_ble_eq_true rfl) ?_
  refine Run.gen fun Q hQ => ?_
  refine Run.more (rc := 0 + (if s = cp then 1 else 0)) (rs := 0 + (if s = cp then gN cp else 0)) ?_ (Nat.le_of_eq (Nat.zero_add _)) (Nat.le_of_eq (Nat.zero_add _))
  refine q_aload_n d_ArrayList_add_0 rfl ?_
  refine q_dup d_ArrayList_add_1 rfl ?_
  refine j_getI (v := (I q 2)) d_ArrayList_add_2 fl_ArrayList_63 hS.1 ⟨rfl, by decide⟩ rfl ?_
  refine j_iconst d_ArrayList_add_5 ?_
  refine q_iadd d_ArrayList_add_6 ?_
  refine q_putI d_ArrayList_add_7 fl_ArrayList_63 hS.1 ⟨rfl, by decide, rfl, rfl⟩ ?_
  refine q_aload_n d_ArrayList_add_10 rfl ?_
  refine q_aload_n d_ArrayList_add_11 rfl ?_
  refine q_aload_n d_ArrayList_add_12 rfl ?_
  refine q_getR d_ArrayList_add_13 fl_ArrayList_9 hS.1 ⟨rfl, by decide⟩ hS.2.1 ?_
  refine q_aload_n d_ArrayList_add_16 rfl ?_
  refine j_getI (v := (cI (s : Int))) d_ArrayList_add_17 fl_ArrayList_48 hS.1 ⟨rfl, by decide⟩ ((up2_k _ _ _ (by omega)).trans (hn)) ?_
  generalize hI0 : (up2 I q 2 ((I q 2) + (cI 1))) = I0
  have f0 : ∀ a k, ¬ (a = q ∧ k = 2) → I0 a k = I a k := fun a k h => by rw [← hI0, up2, if_neg h]
  refine q_callV (ci := 7) (rc := 0) (rs := 0) (rest := []) d_ArrayList_add_20 ml_ArrayList_131 ok_ArrayList_add2 rfl hS.1 (by decide) (c_ArrayList_add2 (d - 1) (by omega) hS (by rw [f0 _ _ (by omega)]; exact hn) hs hcp hv hb) rfl rfl (by omega) (Nat.le_of_ble_eq_true rfl) (kr_V (fun I1 L1 R1 T1 h => ?_)) kt_V
  refine j_iconst d_ArrayList_add_23 ?_
  refine q_ireturn d_ArrayList_add_24 rfl (narrow_z (Or.inr rfl)).1 ?_
  refine hQ _ _ _ _ _ ?_
  refine ⟨_, rfl, ?_⟩
  obtain ⟨e', h1, h2, h3, h4, h5, h6, h7, h8, h9, h10, h11⟩ := h
  exact ⟨e', h1, h2, h3, h4, h5, h6, h7, h8, h9, fun a k e1 e2 => by rw [h10 a k e1 e2]; exact f0 a k (by omega), h11⟩

