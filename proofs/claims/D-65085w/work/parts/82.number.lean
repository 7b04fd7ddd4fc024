/-! ===== 82 NODES: number ===== -/
theorem d_Nodes_number_0 : decode m_Nodes_number.2.1 0 = .ok (.aload_n 0, 1) := by decide +kernel
theorem d_Nodes_number_1 : decode m_Nodes_number.2.1 1 = .ok (.getfield 54, 3) := by decide +kernel
theorem d_Nodes_number_4 : decode m_Nodes_number.2.1 4 = .ok (.aload_n 0, 1) := by decide +kernel
theorem d_Nodes_number_5 : decode m_Nodes_number.2.1 5 = .ok (.getfield 50, 3) := by decide +kernel
theorem d_Nodes_number_8 : decode m_Nodes_number.2.1 8 = .ok (.invokevirtual 58, 3) := by decide +kernel
theorem d_Nodes_number_11 : decode m_Nodes_number.2.1 11 = .ok (.if_icmp .ne 18, 3) := by decide +kernel
theorem d_Nodes_number_14 : decode m_Nodes_number.2.1 14 = .ok (.aload_n 0, 1) := by decide +kernel
theorem d_Nodes_number_15 : decode m_Nodes_number.2.1 15 = .ok (.getfield 50, 3) := by decide +kernel
theorem d_Nodes_number_18 : decode m_Nodes_number.2.1 18 = .ok (.new 62, 3) := by decide +kernel
theorem d_Nodes_number_21 : decode m_Nodes_number.2.1 21 = .ok (.dup, 1) := by decide +kernel
theorem d_Nodes_number_22 : decode m_Nodes_number.2.1 22 = .ok (.invokespecial 64, 3) := by decide +kernel
theorem d_Nodes_number_25 : decode m_Nodes_number.2.1 25 = .ok (.invokevirtual 65, 3) := by decide +kernel
theorem d_Nodes_number_28 : decode m_Nodes_number.2.1 28 = .ok (.pop, 1) := by decide +kernel
theorem d_Nodes_number_29 : decode m_Nodes_number.2.1 29 = .ok (.aload_n 0, 1) := by decide +kernel
theorem d_Nodes_number_30 : decode m_Nodes_number.2.1 30 = .ok (.getfield 50, 3) := by decide +kernel
theorem d_Nodes_number_33 : decode m_Nodes_number.2.1 33 = .ok (.aload_n 0, 1) := by decide +kernel
theorem d_Nodes_number_34 : decode m_Nodes_number.2.1 34 = .ok (.getfield 54, 3) := by decide +kernel
theorem d_Nodes_number_37 : decode m_Nodes_number.2.1 37 = .ok (.invokevirtual 69, 3) := by decide +kernel
theorem d_Nodes_number_40 : decode m_Nodes_number.2.1 40 = .ok (.checkcast 62, 3) := by decide +kernel
theorem d_Nodes_number_43 : decode m_Nodes_number.2.1 43 = .ok (.aload_n 1, 1) := by decide +kernel
theorem d_Nodes_number_44 : decode m_Nodes_number.2.1 44 = .ok (.invokevirtual 73, 3) := by decide +kernel
theorem d_Nodes_number_47 : decode m_Nodes_number.2.1 47 = .ok (.aload_n 0, 1) := by decide +kernel
theorem d_Nodes_number_48 : decode m_Nodes_number.2.1 48 = .ok (.dup, 1) := by decide +kernel
theorem d_Nodes_number_49 : decode m_Nodes_number.2.1 49 = .ok (.getfield 54, 3) := by decide +kernel
theorem d_Nodes_number_52 : decode m_Nodes_number.2.1 52 = .ok (.dup_x1, 1) := by decide +kernel
theorem d_Nodes_number_53 : decode m_Nodes_number.2.1 53 = .ok (.iconst 1, 1) := by decide +kernel
theorem d_Nodes_number_54 : decode m_Nodes_number.2.1 54 = .ok (.iadd, 1) := by decide +kernel
theorem d_Nodes_number_55 : decode m_Nodes_number.2.1 55 = .ok (.putfield 54, 3) := by decide +kernel
theorem d_Nodes_number_58 : decode m_Nodes_number.2.1 58 = .ok (.ireturn, 1) := by decide +kernel
/-- the row's room when the list has s numbers -/
def capF : Nat → Nat
  | 0 => 0
  | s + 1 => if capF s = s then gN (capF s) else capF s
theorem capF_ok : ∀ s, s ≤ capF s ∧ (capF s = 0 ∨ 10 ≤ capF s) ∧ capF s ≤ 10 + s + s / 2
  | 0 => ⟨Nat.le_refl _, Or.inl rfl, by decide⟩
  | s + 1 => by
    have ih := capF_ok s
    show s + 1 ≤ (if capF s = s then gN (capF s) else capF s) ∧ ((if capF s = s then gN (capF s) else capF s) = 0 ∨ 10 ≤ (if capF s = s then gN (capF s) else capF s)) ∧ (if capF s = s then gN (capF s) else capF s) ≤ _
    split
    · rename_i h
      unfold gN
      split <;> omega
    · omega
def phC : Nat → Nat
  | 0 => 0
  | s + 1 => phC s + 2 + (if s = capF s then 1 else 0)
def phS : Nat → Nat
  | 0 => 0
  | s + 1 => phS s + 39 + (if s = capF s then gN (capF s) else 0)
theorem phC_le {a b : Nat} (h : a ≤ b) : phC a ≤ phC b := by
  induction h with
  | refl => exact Nat.le_refl _
  | step _ ih => exact Nat.le_trans ih (by show _ ≤ phC _ + 2 + _; omega)
theorem phS_le {a b : Nat} (h : a ≤ b) : phS a ≤ phS b := by
  induction h with
  | refl => exact Nat.le_refl _
  | step _ ih => exact Nat.le_trans ih (by show _ ≤ phS _ + 39 + _; omega)
/-- the room for the list to come from s to at least x numbers -/
def rmC (s x : Nat) : Nat := phC (max s x) - phC s
def rmS (s x : Nat) : Nat := phS (max s x) - phS s
theorem rmC_split {s x y : Nat} (h : x ≤ y) : rmC (max s x) y + rmC s x ≤ rmC s y := by
  unfold rmC
  have e : max (max s x) y = max s y := by omega
  have h1 := phC_le (show s ≤ max s x by omega)
  have h2 := phC_le (show max s x ≤ max s y by omega)
  rw [e]; omega
theorem rmS_split {s x y : Nat} (h : x ≤ y) : rmS (max s x) y + rmS s x ≤ rmS s y := by
  unfold rmS
  have e : max (max s x) y = max s y := by omega
  have h1 := phS_le (show s ≤ max s x by omega)
  have h2 := phS_le (show max s x ≤ max s y by omega)
  rw [e]; omega
theorem rmC_0 {s x : Nat} (h : x ≤ s) : rmC s x = 0 := by unfold rmC; rw [show max s x = s by omega, Nat.sub_self]
theorem rmS_0 {s x : Nat} (h : x ≤ s) : rmS s x = 0 := by unfold rmS; rw [show max s x = s by omega, Nat.sub_self]
theorem rmC_1 (s : Nat) : rmC s (s + 1) = 2 + (if s = capF s then 1 else 0) := by unfold rmC; rw [show max s (s + 1) = s + 1 by omega]; show phC s + 2 + _ - phC s = _; omega
theorem rmS_1 (s : Nat) : rmS s (s + 1) = 39 + (if s = capF s then gN (capF s) else 0) := by unfold rmS; rw [show max s (s + 1) = s + 1 by omega]; show phS s + 39 + _ - phS s = _; omega
/-- the numbers of the nodes at D: m of them are used, sz are there; they lie from Z on -/
def NuH (I : M32) (R : MR) (T : SH) (D Z m sz : Nat) (V : Nat → Int) : Prop := ∃ (e : Nat) (B : Nat → Nat), LsX R T (D + 11) e (capF sz) ∧ R D 11 = some (D + 11) ∧ I D 12 = cI m ∧ I (D + 11) 1 = cI sz ∧ (m ≤ sz ∧ sz ≤ 60000 ∧ D + 11 < Z ∧ Z ≤ T.2.2) ∧ (Z ≤ e ∨ T.1 e = 86) ∧ (∀ k, k < sz → R e k = some (B k) ∧ BigS R T (B k) ∧ Z ≤ B k) ∧ (∀ j k, j < sz → k < sz → B j = B k → j = k) ∧ ∀ k, k < m → BigV I (B k) (V k)
def NuF (D Z : Nat) (I : M32) (L : M64) (R : MR) (T : SH) (I' : M32) (L' : M64) (R' : MR) (T' : SH) : Prop := Fx (fun a k => Z ≤ a ∨ (a = D ∧ k = 12) ∨ (a = D + 11 ∧ (k = 1 ∨ k = 2))) I I' ∧ Fx (fun a _ => Z ≤ a) L L' ∧ Fx (fun a k => Z ≤ a ∨ (a = D + 11 ∧ k = 0)) R R' ∧ TE T T'
theorem NuF.rf {D Z : Nat} {I : M32} {L : M64} {R : MR} {T : SH} : NuF D Z I L R T I L R T := ⟨Fx.rf, Fx.rf, Fx.rf, TE.rf⟩
theorem NuF.tr {D Z : Nat} {I I1 I2 : M32} {L L1 L2 : M64} {R R1 R2 : MR} {T T1 T2 : SH} (h : NuF D Z I L R T I1 L1 R1 T1) (g : NuF D Z I1 L1 R1 T1 I2 L2 R2 T2) : NuF D Z I L R T I2 L2 R2 T2 := ⟨h.1.tr g.1, h.2.1.tr g.2.1, h.2.2.1.tr g.2.2.1, h.2.2.2.tr g.2.2.2⟩
theorem BigS.te {R R' : MR} {T T' : SH} {a : Nat} (h : BigS R T a) (hR : R' a 0 = R a 0) (hT : TE T T') : BigS R' T' a := ⟨hT.tag h.1, by rw [hR]; exact h.2.1, hT.tag (k := 63) h.2.2.1, hT.len (k := 63) h.2.2.1 h.2.2.2⟩
theorem NdS.te {R R' : MR} {T T' : SH} {D P : Nat} (h : NdS R T D P) (hR : ∀ k, R' D k = R D k) (hT : TE T T') : NdS R' T' D P := by
  refine ⟨hT.tag h.1, fun q hq => ?_, by rw [hR]; exact h.2.2⟩
  have w := h.2.1 q hq
  have ht : T'.1 (D + q.2.1) = T.1 (D + q.2.1) ∧ T'.2.1 (D + q.2.1) = T.2.1 (D + q.2.1) := hT.1 _ (by
    rw [w.2.1]
    exact (show ∀ q ∈ ndtab, q.2.2.1 ≠ 0 by decide) q hq)
  exact ⟨by rw [hR]; exact w.1, ht.1.trans w.2.1, ht.2.trans w.2.2⟩
theorem c_ArrayList_sizeX (d : Nat) {q n : Nat} {I : M32} {L : M64} {R : MR} {T : SH} (hS : T.1 q = 7 + 1) (hn : I q 1 = cI n) : Call m_ArrayList_size y_ArrayList_size d 0 0 [.ref q] I L R T (rI fun r I' L' R' T' => r = cI n ∧ I' = I ∧ L' = L ∧ R' = R ∧ T' = T) := by
  refine Call.ofRun (by decide +kernel) ⟨rfl, rfl⟩ (Nat.le_of_ble_eq_true rfl) ?_
  refine Run.gen fun Q hQ => ?_
  refine q_aload_n d_ArrayList_size_0 rfl ?_
  refine j_getI (v := (cI (n : Int))) d_ArrayList_size_1 fl_ArrayList_48 hS ⟨rfl, by decide⟩ hn ?_
  refine q_ireturn d_ArrayList_size_4 rfl rfl ?_
  refine hQ _ _ _ _ _ ?_
  exact ⟨_, rfl, rfl, rfl, rfl, rfl, rfl⟩
theorem c_Nodes_number (d : Nat) {D P Z m sz b : Nat} {V : Nat → Int} {v : Int} {I : M32} {L : M64} {R : MR} {T : SH} (hd : 7 ≤ d) (hN : NdS R T D P) (hH : NuH I R T D Z m sz V) (hm : m < 60000) (hB : BigS R T b) (hbZ : b + 1 < Z) (hv : BigV I b v) :
    Call m_Nodes_number y_Nodes_number d (rmC sz (m + 1)) (rmS sz (m + 1)) [.ref D, .ref b] I L R T (rI fun r I' L' R' T' => r = cI m ∧ NuH I' R' T' D Z (m + 1) (max sz (m + 1)) (fun k => if k = m then v else V k) ∧ NuF D Z I L R T I' L' R' T') := by
  refine Call.ofRun (by decide) ⟨rfl, rfl⟩ (Nat.le_of_ble_eq_true rfl) ?_
  refine Run.gen fun Q hQ => ?_
  refine Run.fresh fun hF _ _ => ?_
  obtain ⟨e, B, n1, n2, n3, n4, ⟨n5, n6, n7, n8⟩, n9, n10, n11, n12⟩ := id hH
  have tail : ∀ (I1 : M32) (L1 : M64) (R1 : MR) (T1 : SH) (e1 : Nat) (B1 : Nat → Nat), LsX R1 T1 (D + 11) e1 (capF (max sz (m + 1))) ∧ R1 D 11 = some (D + 11) ∧ I1 D 12 = cI m ∧ I1 (D + 11) 1 = cI (max sz (m + 1) : Nat) ∧ Z ≤ T1.2.2 ∧ (Z ≤ e1 ∨ T1.1 e1 = 86) → (∀ k, k < max sz (m + 1) → R1 e1 k = some (B1 k) ∧ BigS R1 T1 (B1 k) ∧ Z ≤ B1 k) → (∀ j k, j < max sz (m + 1) → k < max sz (m + 1) → B1 j = B1 k → j = k) → (∀ k, k < m → BigV I1 (B1 k) (V k)) → NdS R1 T1 D P → BigS R1 T1 b → BigV I1 b v → NuF D Z I L R T I1 L1 R1 T1 → Run m_Nodes_number d 0 0 29 [(0, .ref D), (1, .ref b)] [] I1 L1 R1 T1 Q := by
    intro I1 L1 R1 T1 e1 B1 ⟨a1, a2, a3, a4, a5, a6⟩ a7 a8 a9 a10 a11 a12 a13
    obtain ⟨k1, k2, k3⟩ := capF_ok (max sz (m + 1))
    refine Run.more (rc := 0) (rs := 0) ?_ (Nat.zero_le _) (Nat.zero_le _)
    refine q_aload_n d_Nodes_number_29 rfl ?_
    refine q_getR d_Nodes_number_30 fl_Nodes_50 a10.1 ⟨rfl, by decide⟩ a2 ?_
    refine q_aload_n d_Nodes_number_33 rfl ?_
    refine j_getI (v := (cI (m : Int))) d_Nodes_number_34 fl_Nodes_54 a10.1 ⟨rfl, by decide⟩ a3 ?_
    have am := a7 m (by omega)
    have als : LsS R1 T1 (D + 11) e1 (capF (max sz (m + 1))) := by
      rcases a1.2.2 with ⟨h, _⟩ | ⟨_, h⟩
      · omega
      · exact ⟨a1.1, a1.2.1, h⟩
    refine q_callV (ci := 7) (rc := 0) (rs := 0) (rest := []) d_Nodes_number_37 ml_Nodes_69 ok_ArrayList_get rfl a1.1 (by decide) (c_ArrayList_get (d - 1) (by omega) als a4 (k := m) (by omega) k1 (by omega) am.1) rfl rfl (by omega) (Nat.le_of_ble_eq_true rfl) (kp_O ?_) kt_O
    refine q_cast (ci := 0) d_Nodes_number_40 (inT4 208 rfl) rfl am.2.1.1 (by decide) ?_
    refine q_aload_n d_Nodes_number_43 rfl ?_
    refine q_callV (ci := 0) (rc := 0) (rs := 0) (rest := []) d_Nodes_number_44 ml_Nodes_73 ok_Big_set rfl am.2.1.1 (by decide) (c_Big_set (d - 1) am.2.1 a11 (by omega) a12) rfl rfl (by omega) (Nat.le_of_ble_eq_true rfl) (kv_V (fun I2 h2 => ?_)) kt_V
    refine q_aload_n d_Nodes_number_47 rfl ?_
    refine q_dup d_Nodes_number_48 rfl ?_
    refine j_getI (v := (cI (m : Int))) d_Nodes_number_49 fl_Nodes_54 a10.1 ⟨rfl, by decide⟩ (by rw [h2.2 D (by omega) (by omega)]; exact a3) ?_
    refine q_dup_x1 d_Nodes_number_52 rfl rfl ?_
    refine j_iconst d_Nodes_number_53 ?_
    refine j_iadd d_Nodes_number_54 ?_
    refine q_putI d_Nodes_number_55 fl_Nodes_54 a10.1 ⟨rfl, by decide, rfl, rfl⟩ ?_
    generalize hI3 : (up2 I2 D 12 (cI ((m : Int) + 1))) = I3
    have f3 : Fx (fun a k => a = D ∧ k = 12) I2 I3 := by rw [← hI3]; exact Fx.up ⟨rfl, rfl⟩
    refine q_ireturn d_Nodes_number_58 rfl rfl ?_
    refine hQ _ _ _ _ _ ?_
    refine ⟨_, rfl, rfl, ⟨e1, B1, a1, a2, by rw [← hI3, up2_s]; rfl, ?_, ⟨by omega, by omega, n7, a5⟩, a6, a7, a8, fun k hk => ?_⟩, a13.tr ⟨((h2.2.rg (s := Z) (n := B1 m + 2 - Z) (by omega) (by omega)).mo fun a k q => Or.inl q.1).tr (f3.mo fun a k q => Or.inr (Or.inl q)), Fx.rf, Fx.rf, TE.rf⟩⟩
    · rw [f3 _ _ (by omega), h2.2 _ (by omega) (by omega)]; exact a4
    · show BigV I3 (B1 k) (if k = m then v else V k)
      by_cases q : k = m
      · rw [if_pos q, q]
        exact h2.1.congr (f3.row fun k' => by omega) (f3.row fun k' => by omega)
      · rw [if_neg q]
        have ak := a7 k (by omega)
        have hne : B1 k ≠ B1 m := fun h => q (a8 k m (by omega) (by omega) h)
        have t1 := ak.2.1.1; have t2 := ak.2.1.2.2.1; have t3 := am.2.1.1; have t4 := am.2.1.2.2.1
        have hn2 : B1 k ≠ B1 m + 1 := fun h => by rw [h, t4] at t1; omega
        have hn3 : B1 k + 1 ≠ B1 m := fun h => by rw [h, t3] at t2; omega
        refine ((a9 k (by omega)).congr (h2.2 _ hne hn2) (h2.2 _ hn3 (by omega))).congr (f3.row fun k' => by omega) (f3.row fun k' => by omega)
  obtain ⟨k1, k2, k3⟩ := capF_ok sz
  by_cases hms : m = sz
  · subst hms
    rw [rmC_1, rmS_1]
    rw [show max m (m + 1) = m + 1 by omega] at tail
    refine Run.more (rc := 0 + (if m = capF m then 1 else 0) + 1 + 1) (rs := 0 + (if m = capF m then gN (capF m) else 0) + 36 + 3) ?_ (by omega) (by omega)
    refine q_aload_n d_Nodes_number_0 rfl ?_
    refine j_getI (v := (cI (m : Int))) d_Nodes_number_1 fl_Nodes_54 hN.1 ⟨rfl, by decide⟩ n3 ?_
    refine q_aload_n d_Nodes_number_4 rfl ?_
    refine q_getR d_Nodes_number_5 fl_Nodes_50 hN.1 ⟨rfl, by decide⟩ n2 ?_
    refine q_callV (ci := 7) (rc := 0 + (if m = capF m then 1 else 0) + 1 + 1) (rs := 0 + (if m = capF m then gN (capF m) else 0) + 36 + 3) (rest := [.int (cI (m : Int))]) d_Nodes_number_8 ml_Nodes_58 ok_ArrayList_size rfl n1.1 (by decide) (c_ArrayList_sizeX (d - 1) n1.1 n4) rfl rfl (by omega) (Nat.le_of_ble_eq_true rfl) (kp_I ?_) kt_I
    refine j_icmp_ne (tgt := 29) d_Nodes_number_11 (by decide) (by omega) (by omega) (fun hx => by exfalso; omega) (fun hx => ?_)
    refine q_aload_n d_Nodes_number_14 rfl ?_
    refine q_getR d_Nodes_number_15 fl_Nodes_50 hN.1 ⟨rfl, by decide⟩ n2 ?_
    refine nw_Big (rc := 0 + (if m = capF m then 1 else 0) + 1) (rs := 0 + (if m = capF m then gN (capF m) else 0) + 36) d_Nodes_number_18 (inT4 208 rfl) ?_
    generalize hI1 : fr2 I T.2.2 0 = I1
    generalize hL1 : fr2 L T.2.2 0 = L1
    generalize hR1 : fr2 R T.2.2 none = R1
    generalize hT1 : shN T (0 + 1) 0 = T1
    have hF1 : Fresh T1 := by
      rw [← hT1]; intro a ha
      by_cases q : a = T.2.2
      · rw [q]; exact Nat.lt_succ_self _
      · exact Nat.lt_succ_of_lt (hF a (by rw [show (shN T (0 + 1) 0).1 a = T.1 a from fr1_n _ q] at ha; exact ha))
    have z1 : T1.2.2 = T.2.2 + 1 := by rw [← hT1]; rfl
    have b1 : T1.1 T.2.2 = 0 + 1 := by rw [← hT1]; exact shN_t _ _ _
    have e1 : TE T T1 := by rw [← hT1]; exact TE.sh hF
    refine q_dup d_Nodes_number_21 rfl ?_
    refine q_callI (rc := (0 + (if m = capF m then 1 else 0))) (rs := (0 + (if m = capF m then gN (capF m) else 0))) (rest := [.ref T.2.2, .ref (D + 11)]) d_Nodes_number_22 ml_Nodes_64 ok_Big_init (c_Big_init (d - 1) (by omega) b1) rfl rfl (by omega) (Nat.le_of_ble_eq_true rfl) (kr_V (fun I2 L2 R2 T2 h2 => ?_)) kt_V
    obtain ⟨hI2, hL2, hR2, hT2⟩ := h2
    have e2 : TE T1 T2 := by rw [hT2]; exact TE.sh hF1
    have e12 := e1.tr e2
    have z2 : T2.2.2 = T.2.2 + 2 := by rw [hT2]; show T1.2.2 + 1 = _; omega
    have rr : ∀ a k, a < T.2.2 → R2 a k = R a k := fun a k h => by rw [hR2, up2_a _ _ _ (by omega), z1, fr2_n _ _ _ (by omega), ← hR1, fr2_n _ _ _ (by omega)]
    have ii : ∀ a k, a < T.2.2 → I2 a k = I a k := fun a k h => by rw [hI2, z1, fr2_n _ _ _ (by omega), ← hI1, fr2_n _ _ _ (by omega)]
    have ll : ∀ a k, a < T.2.2 → L2 a k = L a k := fun a k h => by rw [hL2, z1, fr2_n _ _ _ (by omega), ← hL1, fr2_n _ _ _ (by omega)]
    have nb : BigS R2 T2 T.2.2 := ⟨e2.tag b1, by rw [hR2, up2_s, z1], by rw [hT2, ← z1]; exact shN_t _ _ _, by rw [hT2, ← z1]; exact shN_l _ _ _⟩
    have he : e < T.2.2 := hF e (by rcases n1.2.2 with ⟨-, -, r, -⟩ | ⟨-, r, -⟩ <;> omega)
    have hz0 : 0 < T.2.2 := by omega
    have n1' : LsX R2 T2 (D + 11) e (capF m) := by
      refine ⟨e12.tag n1.1, by rw [rr _ _ (by omega)]; exact n1.2.1, ?_⟩
      rcases n1.2.2 with ⟨r1, r2, r3, r4⟩ | ⟨r1, r2, r3⟩
      · exact Or.inl ⟨r1, by rw [rr _ _ hz0]; exact r2, e12.tag (k := 85) r3, e12.len (k := 85) r3 r4⟩
      · exact Or.inr ⟨r1, e12.tag (k := 67) r2, e12.len (k := 67) r2 r3⟩
    refine q_callV (ci := 7) (rc := 0) (rs := 0) (rest := []) d_Nodes_number_25 ml_Nodes_65 ok_ArrayList_add rfl n1'.1 (by decide) (c_ArrayList_add (d - 1) (s := m) (by omega) n1' (by rw [ii _ _ (by omega)]; exact n4) k1 (by omega) nb.1 (fun _ i y hi hy => by have w := n10 i (by omega); rw [rr _ _ he, w.1] at hy; cases hy; exact e12.tag w.2.1.1)) rfl rfl (by omega) (Nat.le_of_ble_eq_true rfl) (kr_I (fun r I3 L3 R3 T3 h3 => ?_)) kt_I
    refine q_pop d_Nodes_number_28 rfl ?_
    have hb11 : b ≠ D + 11 := fun h => by have h1 := hB.1; have h2 := n1.1; rw [h] at h1; omega
    have hb12 : b + 1 ≠ D + 11 := fun h => by have h1 := hB.2.2.1; have h2 := n1.1; rw [h] at h1; omega
    obtain ⟨e', g1, g2, g3, g4, g5, g6, g7, g8, g9, g10, g11⟩ := h3
    have hBlt : ∀ k, k < m → B k < T.2.2 := fun k hk => hF _ (by rw [(n10 k hk).2.1.1]; decide)
    have hBlt2 : ∀ k, k < m → B k + 1 < T.2.2 := fun k hk => hF _ (by rw [(n10 k hk).2.1.2.2.1]; decide)
    have he' : Z ≤ e' := by
      rcases g1 with h | h
      · rcases n9 with q | q
        · omega
        · have := (e12.tr g8).tag (k := 85) q
          rw [h] at g2; omega
      · omega
    have e13 := e12.tr g8
    have hR3 : ∀ a k, a < T.2.2 → ¬ (a = D + 11 ∧ k = 0) → a ≠ e' → R3 a k = R a k := fun a k h h2 h3 => by rw [g7 a k (by omega) h2 h3]; exact rr a k h
    have hI3 : ∀ a k, a < T.2.2 → ¬ (a = D + 11 ∧ (k = 1 ∨ k = 2)) → I3 a k = I a k := fun a k h h2 => by rw [g10 a k (by omega) h2]; exact ii a k h
    have hBe : ∀ a, T.1 a = 0 + 1 → a ≠ e' := fun a h q => by rw [q] at h; have := e13.tag h; omega
    have hgc : (if m = capF m then gN (capF m) else capF m) = capF (m + 1) := by
      show _ = if capF m = m then gN (capF m) else capF m
      by_cases q : m = capF m
      · rw [if_pos q, if_pos q.symm]
      · rw [if_neg q, if_neg (Ne.symm q)]
    have hc1 := capF_ok (m + 1)
    have hDe : D ≠ e' := by omega
    have hbe : b ≠ e' := by omega
    have tz : T3.2.2 ≥ T.2.2 := e13.2
    refine tail I3 L3 R3 T3 e' (fun k => if k = m then T.2.2 else B k) ⟨⟨e13.tag n1.1, g4, Or.inr ⟨by omega, g2, by rw [g3, hgc]⟩⟩, by rw [hR3 _ _ (by omega) (by omega) hDe]; exact n2, by rw [hI3 _ _ (by omega) (by omega)]; exact n3, g9, by omega, Or.inl he'⟩ (fun k hk => ?_) (fun j k hj hk => ?_) (fun k hk => ?_) (hN.te (fun k => hR3 _ _ (by omega) (by omega) hDe) e13) (hB.te (hR3 _ _ (by omega) (by omega) hbe) e13) (hv.congr (funext fun k => hI3 _ _ (by omega) (by omega)) (funext fun k => hI3 _ _ (by omega) (by omega))) ⟨fun a k h => hI3 _ _ (by omega) (by omega), fun a k h => by rw [g11 _ _ (by omega)]; exact ll _ _ (by omega), fun a k h => hR3 _ _ (by omega) (by omega) (by omega), e13⟩
    · show R3 e' k = some (if k = m then T.2.2 else B k) ∧ BigS R3 T3 (if k = m then T.2.2 else B k) ∧ Z ≤ (if k = m then T.2.2 else B k)
      by_cases q : k = m
      · rw [if_pos q, q]
        have ne : T.2.2 ≠ e' := fun h => by have := g8.tag nb.1; rw [h] at this; omega
        exact ⟨g6, nb.te (g7 _ _ (by omega) (by omega) ne) g8, by omega⟩
      · rw [if_neg q]
        have w := n10 k (by omega)
        have hb' := hBlt k (by omega)
        exact ⟨by rw [g5 k (by omega), rr _ _ he]; exact w.1, w.2.1.te (hR3 _ _ hb' (by omega) (hBe _ w.2.1.1)) e13, w.2.2⟩
    · show (if j = m then T.2.2 else B j) = (if k = m then T.2.2 else B k) → j = k
      by_cases q : j = m
      · by_cases q2 : k = m
        · intro _; omega
        · rw [if_pos q, if_neg q2]; intro h; have := hBlt k (by omega); omega
      · by_cases q2 : k = m
        · rw [if_neg q, if_pos q2]; intro h; have := hBlt j (by omega); omega
        · rw [if_neg q, if_neg q2]; exact n11 j k (by omega) (by omega)
    · show BigV I3 (if k = m then T.2.2 else B k) (V k)
      rw [if_neg (by omega)]
      have hb1 := hBlt k hk; have hb2 := hBlt2 k hk
      have w := n10 k hk
      exact (n12 k hk).congr (funext fun k' => hI3 _ _ hb1 (by omega)) (funext fun k' => hI3 _ _ hb2 (by omega))
  · have hlt : m < sz := by omega
    rw [rmC_0 (by omega), rmS_0 (by omega)]
    have em : max sz (m + 1) = sz := by omega
    rw [em] at tail
    refine Run.more (rc := 0) (rs := 0) ?_ (Nat.le_refl _) (Nat.le_refl _)
    refine q_aload_n d_Nodes_number_0 rfl ?_
    refine j_getI (v := (cI (m : Int))) d_Nodes_number_1 fl_Nodes_54 hN.1 ⟨rfl, by decide⟩ n3 ?_
    refine q_aload_n d_Nodes_number_4 rfl ?_
    refine q_getR d_Nodes_number_5 fl_Nodes_50 hN.1 ⟨rfl, by decide⟩ n2 ?_
    refine q_callV (ci := 7) (rc := 0) (rs := 0) (rest := [.int (cI (m : Int))]) d_Nodes_number_8 ml_Nodes_58 ok_ArrayList_size rfl n1.1 (by decide) (c_ArrayList_sizeX (d - 1) n1.1 n4) rfl rfl (by omega) (Nat.le_of_ble_eq_true rfl) (kp_I ?_) kt_I
    refine j_icmp_ne (tgt := 29) d_Nodes_number_11 (by decide) (by omega) (by omega) (fun hx => ?_) (fun hx => by exfalso; omega)
    exact tail I L R T e B ⟨n1, n2, n3, n4, n8, n9⟩ n10 n11 n12 hN hB hv NuF.rf

