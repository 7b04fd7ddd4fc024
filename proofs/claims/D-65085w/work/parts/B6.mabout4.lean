/-! ===== B6 WHAT IS TOLD OF A CONTRACT: the reference ===== -/
theorem d_Model_may_0 : decode m_Model_may.2.1 0 = .ok (.aload_n 0, 1) := by decide +kernel
theorem d_Model_may_1 : decode m_Model_may.2.1 1 = .ok (.aload_n 0, 1) := by decide +kernel
theorem d_Model_may_2 : decode m_Model_may.2.1 2 = .ok (.getfield 391, 3) := by decide +kernel
theorem d_Model_may_5 : decode m_Model_may.2.1 5 = .ok (.ifCond .eq 7, 3) := by decide +kernel
theorem d_Model_may_8 : decode m_Model_may.2.1 8 = .ok (.iload_n 1, 1) := by decide +kernel
theorem d_Model_may_9 : decode m_Model_may.2.1 9 = .ok (.goto 29, 3) := by decide +kernel
theorem d_Model_may_12 : decode m_Model_may.2.1 12 = .ok (.iload_n 2, 1) := by decide +kernel
theorem d_Model_may_13 : decode m_Model_may.2.1 13 = .ok (.ifCond .ne 7, 3) := by decide +kernel
theorem d_Model_may_16 : decode m_Model_may.2.1 16 = .ok (.iconst 1, 1) := by decide +kernel
theorem d_Model_may_17 : decode m_Model_may.2.1 17 = .ok (.goto 21, 3) := by decide +kernel
theorem d_Model_may_20 : decode m_Model_may.2.1 20 = .ok (.iload_n 3, 1) := by decide +kernel
theorem d_Model_may_21 : decode m_Model_may.2.1 21 = .ok (.ifCond .ne 7, 3) := by decide +kernel
theorem d_Model_may_24 : decode m_Model_may.2.1 24 = .ok (.iconst 2, 1) := by decide +kernel
theorem d_Model_may_25 : decode m_Model_may.2.1 25 = .ok (.goto 13, 3) := by decide +kernel
theorem d_Model_may_28 : decode m_Model_may.2.1 28 = .ok (.iload 4, 2) := by decide +kernel
theorem d_Model_may_30 : decode m_Model_may.2.1 30 = .ok (.ifCond .ne 7, 3) := by decide +kernel
theorem d_Model_may_33 : decode m_Model_may.2.1 33 = .ok (.iconst 3, 1) := by decide +kernel
theorem d_Model_may_34 : decode m_Model_may.2.1 34 = .ok (.goto 4, 3) := by decide +kernel
theorem d_Model_may_37 : decode m_Model_may.2.1 37 = .ok (.iconst 0, 1) := by decide +kernel
theorem d_Model_may_38 : decode m_Model_may.2.1 38 = .ok (.putfield 388, 3) := by decide +kernel
theorem d_Model_may_41 : decode m_Model_may.2.1 41 = .ok (.aload_n 0, 1) := by decide +kernel
theorem d_Model_may_42 : decode m_Model_may.2.1 42 = .ok (.getfield 388, 3) := by decide +kernel
theorem d_Model_may_45 : decode m_Model_may.2.1 45 = .ok (.ifCond .ne 7, 3) := by decide +kernel
theorem d_Model_may_48 : decode m_Model_may.2.1 48 = .ok (.iconst 1, 1) := by decide +kernel
theorem d_Model_may_49 : decode m_Model_may.2.1 49 = .ok (.goto 4, 3) := by decide +kernel
theorem d_Model_may_52 : decode m_Model_may.2.1 52 = .ok (.iconst 0, 1) := by decide +kernel
theorem d_Model_may_53 : decode m_Model_may.2.1 53 = .ok (.ireturn, 1) := by decide +kernel
theorem d_Model_see_0 : decode m_Model_see.2.1 0 = .ok (.iconst 0, 1) := by decide +kernel
theorem d_Model_see_1 : decode m_Model_see.2.1 1 = .ok (.istore 5, 2) := by decide +kernel
theorem d_Model_see_3 : decode m_Model_see.2.1 3 = .ok (.iconst 0, 1) := by decide +kernel
theorem d_Model_see_4 : decode m_Model_see.2.1 4 = .ok (.istore 6, 2) := by decide +kernel
theorem d_Model_see_6 : decode m_Model_see.2.1 6 = .ok (.iload 6, 2) := by decide +kernel
theorem d_Model_see_8 : decode m_Model_see.2.1 8 = .ok (.aload_n 0, 1) := by decide +kernel
theorem d_Model_see_9 : decode m_Model_see.2.1 9 = .ok (.getfield 739, 3) := by decide +kernel
theorem d_Model_see_12 : decode m_Model_see.2.1 12 = .ok (.if_icmp .ge 45, 3) := by decide +kernel
theorem d_Model_see_15 : decode m_Model_see.2.1 15 = .ok (.iload 5, 2) := by decide +kernel
theorem d_Model_see_17 : decode m_Model_see.2.1 17 = .ok (.ifCond .ne 40, 3) := by decide +kernel
theorem d_Model_see_20 : decode m_Model_see.2.1 20 = .ok (.aload_n 0, 1) := by decide +kernel
theorem d_Model_see_21 : decode m_Model_see.2.1 21 = .ok (.getfield 115, 3) := by decide +kernel
theorem d_Model_see_24 : decode m_Model_see.2.1 24 = .ok (.iload 6, 2) := by decide +kernel
theorem d_Model_see_26 : decode m_Model_see.2.1 26 = .ok (.laload, 1) := by decide +kernel
theorem d_Model_see_27 : decode m_Model_see.2.1 27 = .ok (.lload_n 1, 1) := by decide +kernel
theorem d_Model_see_28 : decode m_Model_see.2.1 28 = .ok (.lcmp, 1) := by decide +kernel
theorem d_Model_see_29 : decode m_Model_see.2.1 29 = .ok (.ifCond .ne 19, 3) := by decide +kernel
theorem d_Model_see_32 : decode m_Model_see.2.1 32 = .ok (.aload_n 0, 1) := by decide +kernel
theorem d_Model_see_33 : decode m_Model_see.2.1 33 = .ok (.getfield 118, 3) := by decide +kernel
theorem d_Model_see_36 : decode m_Model_see.2.1 36 = .ok (.iload 6, 2) := by decide +kernel
theorem d_Model_see_38 : decode m_Model_see.2.1 38 = .ok (.laload, 1) := by decide +kernel
theorem d_Model_see_39 : decode m_Model_see.2.1 39 = .ok (.lload_n 3, 1) := by decide +kernel
theorem d_Model_see_40 : decode m_Model_see.2.1 40 = .ok (.lcmp, 1) := by decide +kernel
theorem d_Model_see_41 : decode m_Model_see.2.1 41 = .ok (.ifCond .ne 7, 3) := by decide +kernel
theorem d_Model_see_44 : decode m_Model_see.2.1 44 = .ok (.iconst 1, 1) := by decide +kernel
theorem d_Model_see_45 : decode m_Model_see.2.1 45 = .ok (.goto 4, 3) := by decide +kernel
theorem d_Model_see_48 : decode m_Model_see.2.1 48 = .ok (.iconst 0, 1) := by decide +kernel
theorem d_Model_see_49 : decode m_Model_see.2.1 49 = .ok (.istore 5, 2) := by decide +kernel
theorem d_Model_see_51 : decode m_Model_see.2.1 51 = .ok (.iinc 6 1, 3) := by decide +kernel
theorem d_Model_see_54 : decode m_Model_see.2.1 54 = .ok (.goto (-48), 3) := by decide +kernel
theorem d_Model_see_57 : decode m_Model_see.2.1 57 = .ok (.iload 5, 2) := by decide +kernel
theorem d_Model_see_59 : decode m_Model_see.2.1 59 = .ok (.ifCond .ne 33, 3) := by decide +kernel
theorem d_Model_see_62 : decode m_Model_see.2.1 62 = .ok (.aload_n 0, 1) := by decide +kernel
theorem d_Model_see_63 : decode m_Model_see.2.1 63 = .ok (.getfield 115, 3) := by decide +kernel
theorem d_Model_see_66 : decode m_Model_see.2.1 66 = .ok (.aload_n 0, 1) := by decide +kernel
theorem d_Model_see_67 : decode m_Model_see.2.1 67 = .ok (.getfield 739, 3) := by decide +kernel
theorem d_Model_see_70 : decode m_Model_see.2.1 70 = .ok (.lload_n 1, 1) := by decide +kernel
theorem d_Model_see_71 : decode m_Model_see.2.1 71 = .ok (.lastore, 1) := by decide +kernel
theorem d_Model_see_72 : decode m_Model_see.2.1 72 = .ok (.aload_n 0, 1) := by decide +kernel
theorem d_Model_see_73 : decode m_Model_see.2.1 73 = .ok (.getfield 118, 3) := by decide +kernel
theorem d_Model_see_76 : decode m_Model_see.2.1 76 = .ok (.aload_n 0, 1) := by decide +kernel
theorem d_Model_see_77 : decode m_Model_see.2.1 77 = .ok (.getfield 739, 3) := by decide +kernel
theorem d_Model_see_80 : decode m_Model_see.2.1 80 = .ok (.lload_n 3, 1) := by decide +kernel
theorem d_Model_see_81 : decode m_Model_see.2.1 81 = .ok (.lastore, 1) := by decide +kernel
theorem d_Model_see_82 : decode m_Model_see.2.1 82 = .ok (.aload_n 0, 1) := by decide +kernel
theorem d_Model_see_83 : decode m_Model_see.2.1 83 = .ok (.dup, 1) := by decide +kernel
theorem d_Model_see_84 : decode m_Model_see.2.1 84 = .ok (.getfield 739, 3) := by decide +kernel
theorem d_Model_see_87 : decode m_Model_see.2.1 87 = .ok (.iconst 1, 1) := by decide +kernel
theorem d_Model_see_88 : decode m_Model_see.2.1 88 = .ok (.iadd, 1) := by decide +kernel
theorem d_Model_see_89 : decode m_Model_see.2.1 89 = .ok (.putfield 739, 3) := by decide +kernel
theorem d_Model_see_92 : decode m_Model_see.2.1 92 = .ok (.return_, 1) := by decide +kernel
section
variable {M : Nat} {I : M32} {L : M64} {R : MR} {T : SH}
/-- the first thing that does not hold -/
def mayF (C : Prop) [Decidable C] (p : Nat) (a b c : Prop) [Decidable a] [Decidable b] [Decidable c] : Nat := if C then p else if ¬ a then 1 else if ¬ b then 2 else if ¬ c then 3 else 0
theorem c_Model_may (d : Nat) {p : Nat} {C a b c : Prop} [Decidable C] [Decidable a] [Decidable b] [Decidable c] (hM : MdlS M R T) (hp : 1 ≤ p ∧ p ≤ 3) (hC : I M 173 = cI (bI C)) :
    Call m_Model_may y_Model_may d 0 0 [.ref M, .int (cI (p : Int)), .int (cI (bI a)), .int (cI (bI b)), .int (cI (bI c))] I L R T (rI fun r I' L' R' T' => r = cI (bI (mayF C p a b c = 0)) ∧ I' = up2 I M 0 (cI (mayF C p a b c : Nat)) ∧ L' = L ∧ R' = R ∧ T' = T) := by
  refine Call.ofRun (by decide) ⟨rfl, rfl⟩ (Nat.le_of_ble_eq_true rfl) ?_
  refine Run.gen fun Q hQ => ?_
  refine q_aload_n d_Model_may_0 rfl ?_
  refine q_aload_n d_Model_may_1 rfl ?_
  refine j_getI (v := (cI (bI (C)))) d_Model_may_2 fl_Model_391 hM.1 ⟨rfl, by decide⟩ hC ?_
  have t38 : ∀ (w : Nat), w = mayF C p a b c → w ≤ 3 → Run m_Model_may d 0 0 38 [(0, .ref M), (1, .int (cI (p : Int))), (2, .int (cI (bI (a)))), (3, .int (cI (bI (b)))), (4, .int (cI (bI (c))))] [.int (cI (w : Int)), .ref M] I L R T Q := by
    intro w hw hw3
    refine q_putI d_Model_may_38 fl_Model_388 hM.1 ⟨rfl, by decide, rfl, rfl⟩ ?_
    refine q_aload_n d_Model_may_41 rfl ?_
    refine j_getI (v := (cI (w : Int))) d_Model_may_42 fl_Model_388 hM.1 ⟨rfl, by decide⟩ (up2_s _ _ _ _) ?_
    by_cases h0 : w = 0
    · refine j_if_ne (tgt := 52) d_Model_may_45 (by decide) (by omega) (fun hx => by exfalso; omega) (fun hx => ?_)
      refine j_iconst d_Model_may_48 ?_
      refine q_goto (tgt := 53) d_Model_may_49 (by decide) ?_
      refine q_ireturn d_Model_may_53 rfl (narrow_z (Or.inr rfl)).1 ?_
      refine hQ _ _ _ _ _ ?_
      exact ⟨_, rfl, by unfold bI; rw [← hw, if_pos h0], by rw [← hw], rfl, rfl, rfl⟩
    refine j_if_ne (tgt := 52) d_Model_may_45 (by decide) (by omega) (fun hx => ?_) (fun hx => by exfalso; omega)
    refine j_iconst d_Model_may_52 ?_
    refine q_ireturn d_Model_may_53 rfl (narrow_z (Or.inl rfl)).1 ?_
    refine hQ _ _ _ _ _ ?_
    exact ⟨_, rfl, by unfold bI; rw [← hw, if_neg h0], by rw [← hw], rfl, rfl, rfl⟩
  by_cases hc : C
  · refine j_ifb_eq (tgt := 12) d_Model_may_5 (by decide) (fun hx => absurd hc hx) (fun hx => ?_)
    refine q_iload_n d_Model_may_8 rfl ?_
    refine q_goto (tgt := 38) d_Model_may_9 (by decide) ?_
    exact t38 p (by unfold mayF; rw [if_pos hc]) (by omega)
  refine j_ifb_eq (tgt := 12) d_Model_may_5 (by decide) (fun hx => ?_) (fun hx => absurd hx hc)
  refine q_iload_n d_Model_may_12 rfl ?_
  by_cases ha : a
  rotate_left
  · refine j_ifb_ne (tgt := 20) d_Model_may_13 (by decide) (fun hx => absurd hx ha) (fun hx => ?_)
    refine j_iconst d_Model_may_16 ?_
    refine q_goto (tgt := 38) d_Model_may_17 (by decide) ?_
    exact t38 1 (by unfold mayF; rw [if_neg hc, if_pos ha]) (by omega)
  refine j_ifb_ne (tgt := 20) d_Model_may_13 (by decide) (fun hx => ?_) (fun hx => absurd ha hx)
  refine q_iload_n d_Model_may_20 rfl ?_
  by_cases hb : b
  rotate_left
  · refine j_ifb_ne (tgt := 28) d_Model_may_21 (by decide) (fun hx => absurd hx hb) (fun hx => ?_)
    refine j_iconst d_Model_may_24 ?_
    refine q_goto (tgt := 38) d_Model_may_25 (by decide) ?_
    exact t38 2 (by unfold mayF; rw [if_neg hc, if_neg (fun q => q ha), if_pos hb]) (by omega)
  refine j_ifb_ne (tgt := 28) d_Model_may_21 (by decide) (fun hx => ?_) (fun hx => absurd hb hx)
  refine q_iload d_Model_may_28 rfl ?_
  by_cases he : c
  rotate_left
  · refine j_ifb_ne (tgt := 37) d_Model_may_30 (by decide) (fun hx => absurd hx he) (fun hx => ?_)
    refine j_iconst d_Model_may_33 ?_
    refine q_goto (tgt := 38) d_Model_may_34 (by decide) ?_
    exact t38 3 (by unfold mayF; rw [if_neg hc, if_neg (fun q => q ha), if_neg (fun q => q hb), if_pos he]) (by omega)
  refine j_ifb_ne (tgt := 37) d_Model_may_30 (by decide) (fun hx => ?_) (fun hx => absurd he hx)
  refine j_iconst d_Model_may_37 ?_
  exact t38 0 (by unfold mayF; rw [if_neg hc, if_neg (fun q => q ha), if_neg (fun q => q hb), if_neg (fun q => q he)]) (by omega)
/-- what was seen -/
def SeenV (M : Nat) (sl : List (Int × Int)) (I : M32) (L : M64) : Prop := I M 58 = cI sl.length ∧ sl.length ≤ 1000 ∧ ∀ j, j < sl.length → (0 ≤ (sl.getD j (0, 0)).1 ∧ (sl.getD j (0, 0)).1 < 9223372036854775808) ∧ (0 ≤ (sl.getD j (0, 0)).2 ∧ (sl.getD j (0, 0)).2 < 9223372036854775808) ∧ L (M + 35) j = cL (sl.getD j (0, 0)).1 ∧ L (M + 36) j = cL (sl.getD j (0, 0)).2
def FrS (M : Nat) (I : M32) (L : M64) (I' : M32) (L' : M64) : Prop := (∀ a, a ≠ M → I' a = I a) ∧ (∀ k, k ≠ 58 → I' M k = I M k) ∧ ∀ a, a ≠ M + 35 → a ≠ M + 36 → L' a = L a
theorem FrS.rf {M : Nat} {I : M32} {L : M64} : FrS M I L I L := ⟨fun _ _ => rfl, fun _ _ => rfl, fun _ _ _ => rfl⟩
theorem FrS.tr {M : Nat} {I I1 I2 : M32} {L L1 L2 : M64} (h : FrS M I L I1 L1) (g : FrS M I1 L1 I2 L2) : FrS M I L I2 L2 := ⟨fun a e => (g.1 a e).trans (h.1 a e), fun k e => (g.2.1 k e).trans (h.2.1 k e), fun a e1 e2 => (g.2.2 a e1 e2).trans (h.2.2 a e1 e2)⟩
theorem c_Model_see (d : Nat) {x y : Int} {sl : List (Int × Int)} (hM : MdlS M R T) (hS : SeenV M sl I L) (hxx : 0 ≤ x ∧ x < 9223372036854775808) (hyy : 0 ≤ y ∧ y < 9223372036854775808) (hl : sl.length < 1000) :
    Call m_Model_see y_Model_see d 0 0 [.ref M, .long (cL x), .long (cL y)] I L R T (rV fun I' L' R' T' => (SeenV M (if (x, y) ∈ sl then sl else sl ++ [(x, y)]) I' L' ∧ FrS M I L I' L') ∧ R' = R ∧ T' = T) := by
  obtain ⟨s1, s2, s3⟩ := id hS
  obtain ⟨q, hq⟩ : ∃ q, q = sl.length := ⟨_, rfl⟩
  rw [← hq] at s1 s2 s3 hl
  refine Call.ofRun (by decide) ⟨rfl, rfl⟩ (Nat.le_of_ble_eq_true rfl) ?_
  refine Run.gen fun Q hQ => ?_
  have fin : ∀ (u : Int), (u = 1 ∧ (x, y) ∈ sl) ∨ (u = 0 ∧ ¬ (x, y) ∈ sl) → Run m_Model_see d 0 0 57 [(0, .ref M), (1, .long (cL x)), (3, .long (cL y)), (5, .int (cI u))] [] I L R T Q := by
    intro u hu
    refine q_iload d_Model_see_57 rfl ?_
    rcases hu with ⟨h1, h2⟩ | ⟨h1, h2⟩
    · refine j_if_ne (tgt := 92) d_Model_see_59 (by decide) (by omega) (fun hx => ?_) (fun hx => by exfalso; omega)
      refine q_return d_Model_see_92 rfl ?_
      refine hQ _ _ _ _ _ ?_
      refine ⟨rfl, ⟨?_, FrS.rf⟩, rfl, rfl⟩
      rw [if_pos h2]; exact hS
    refine j_if_ne (tgt := 92) d_Model_see_59 (by decide) (by omega) (fun hx => by exfalso; omega) (fun hx => ?_)
    refine q_aload_n d_Model_see_62 rfl ?_
    refine q_getR d_Model_see_63 fl_Model_115 hM.1 ⟨rfl, by decide⟩ (mR56 hM) ?_
    refine q_aload_n d_Model_see_66 rfl ?_
    refine j_getI (v := (cI (q : Int))) d_Model_see_67 fl_Model_739 hM.1 ⟨rfl, by decide⟩ s1 ?_
    refine q_lload_n d_Model_see_70 rfl ?_
    refine j_last (j := q) d_Model_see_71 (mT56 hM) (mN56 hM) (by omega) (by omega) (by omega) ?_
    refine q_aload_n d_Model_see_72 rfl ?_
    refine q_getR d_Model_see_73 fl_Model_118 hM.1 ⟨rfl, by decide⟩ (mR57 hM) ?_
    refine q_aload_n d_Model_see_76 rfl ?_
    refine j_getI (v := (cI (q : Int))) d_Model_see_77 fl_Model_739 hM.1 ⟨rfl, by decide⟩ s1 ?_
    refine q_lload_n d_Model_see_80 rfl ?_
    refine j_last (j := q) d_Model_see_81 (mT57 hM) (mN57 hM) (by omega) (by omega) (by omega) ?_
    refine q_aload_n d_Model_see_82 rfl ?_
    refine q_dup d_Model_see_83 rfl ?_
    refine j_getI (v := (cI (q : Int))) d_Model_see_84 fl_Model_739 hM.1 ⟨rfl, by decide⟩ s1 ?_
    refine j_iconst d_Model_see_87 ?_
    refine j_iadd d_Model_see_88 ?_
    refine q_putI d_Model_see_89 fl_Model_739 hM.1 ⟨rfl, by decide, rfl, rfl⟩ ?_
    generalize hI1 : (up2 I M 58 (cI ((q : Int) + 1))) = I1
    generalize hL1 : (up2 (up2 L (M + 35) q (cL x)) (M + 36) q (cL y)) = L1
    refine q_return d_Model_see_92 rfl ?_
    refine hQ _ _ _ _ _ ?_
    refine ⟨rfl, ⟨?_, ⟨fun a e => by rw [← hI1, up2_row _ _ e], fun k e => by rw [← hI1, up2_k _ _ _ e], fun a e1 e2 => by rw [← hL1, up2_row _ _ e2, up2_row _ _ e1]⟩⟩, rfl, rfl⟩
    rw [if_neg h2]
    have hlen : (sl ++ [(x, y)]).length = q + 1 := by rw [List.length_append, ← hq]; rfl
    refine ⟨by rw [← hI1, up2_s, hlen]; rfl, by omega, fun j hj => ?_⟩
    rw [hlen] at hj
    by_cases e : j = q
    · subst e
      rw [gapp_r _ _ _ (by omega), ← hq, Nat.sub_self]
      refine ⟨hxx, hyy, ?_, ?_⟩
      · rw [← hL1, up2_a _ _ _ (by omega), up2_s]; rfl
      · rw [← hL1, up2_s]; rfl
    · rw [gapp_l _ _ _ (by omega)]
      have := s3 j (by omega)
      refine ⟨this.1, this.2.1, ?_, ?_⟩
      · rw [← hL1, up2_a _ _ _ (by omega), up2_k _ _ _ (by omega)]; exact this.2.2.1
      · rw [← hL1, up2_k _ _ _ (by omega), up2_a _ _ _ (by omega)]; exact this.2.2.2
  refine j_iconst d_Model_see_0 ?_
  refine q_istore (lv' := [(5, .int (cI 0)), (0, .ref M), (1, .long (cL x)), (3, .long (cL y))]) d_Model_see_1 (by decide) rfl ?_
  refine j_iconst d_Model_see_3 ?_
  refine q_istore (lv' := [(6, .int (cI 0)), (5, .int (cI 0)), (0, .ref M), (1, .long (cL x)), (3, .long (cL y))]) d_Model_see_4 (by decide) rfl ?_
  have loop : ∀ (fl j : Nat) (u : Int), j + fl = q → ((u = 1 ∧ (x, y) ∈ sl) ∨ (u = 0 ∧ ∀ i, i < j → sl.getD i (0, 0) ≠ (x, y))) → Run m_Model_see d 0 0 6 [(0, .ref M), (1, .long (cL x)), (3, .long (cL y)), (5, .int (cI u)), (6, .int (cI (j : Int)))] [] I L R T Q := by
    intro fl
    induction fl with
    | zero =>
      intro j u hj hu
      refine q_iload d_Model_see_6 rfl ?_
      refine q_aload_n d_Model_see_8 rfl ?_
      refine j_getI (v := (cI (q : Int))) d_Model_see_9 fl_Model_739 hM.1 ⟨rfl, by decide⟩ s1 ?_
      refine j_icmp_ge (tgt := 57) d_Model_see_12 (by decide) (by omega) (by omega) (fun hx => ?_) (fun hx => by exfalso; omega)
      refine Run.lv (lv' := [(0, .ref M), (1, .long (cL x)), (3, .long (cL y)), (5, .int (cI u))]) (by intro q hq; simp only [List.mem_cons, List.not_mem_nil, or_false] at hq ⊢; rcases hq with rfl | rfl | rfl | rfl <;> simp) ?_
      exact fin u (by
        rcases hu with h | ⟨h1, h2⟩
        · exact Or.inl h
        · refine Or.inr ⟨h1, fun z => ?_⟩
          obtain ⟨i, hi, he⟩ := List.getElem_of_mem z
          exact h2 i (by omega) (by rw [List.getD_eq_getElem?_getD, List.getElem?_eq_getElem hi, he]; rfl))
    | succ fl ih =>
      intro j u hj hu
      refine q_iload d_Model_see_6 rfl ?_
      refine q_aload_n d_Model_see_8 rfl ?_
      refine j_getI (v := (cI (q : Int))) d_Model_see_9 fl_Model_739 hM.1 ⟨rfl, by decide⟩ s1 ?_
      refine j_icmp_ge (tgt := 57) d_Model_see_12 (by decide) (by omega) (by omega) (fun hx => by exfalso; omega) (fun hx => ?_)
      refine q_iload d_Model_see_15 rfl ?_
      rcases hu with ⟨h1, h2⟩ | ⟨h1, h2⟩
      · refine j_if_ne (tgt := 57) d_Model_see_17 (by decide) (by omega) (fun hx => ?_) (fun hx => by exfalso; omega)
        refine Run.lv (lv' := [(0, .ref M), (1, .long (cL x)), (3, .long (cL y)), (5, .int (cI u))]) (by intro q hq; simp only [List.mem_cons, List.not_mem_nil, or_false] at hq ⊢; rcases hq with rfl | rfl | rfl | rfl <;> simp) ?_
        exact fin u (Or.inl ⟨h1, h2⟩)
      obtain ⟨g1, g2, g3, g4⟩ := s3 j (by omega)
      obtain ⟨pa, hpa⟩ : ∃ p, p = (sl.getD j (0, 0)).1 := ⟨_, rfl⟩
      obtain ⟨pb, hpb⟩ : ∃ p, p = (sl.getD j (0, 0)).2 := ⟨_, rfl⟩
      rw [← hpa] at g1 g3
      rw [← hpb] at g2 g4
      have hmem : sl.getD j (0, 0) ∈ sl := by rw [List.getD_eq_getElem?_getD, List.getElem?_eq_getElem (by omega)]; exact List.getElem_mem _
      have t49 : ∀ (w : Int), (w = 1 ∧ (x, y) ∈ sl) ∨ (w = 0 ∧ sl.getD j (0, 0) ≠ (x, y)) → Run m_Model_see d 0 0 49 [(0, .ref M), (1, .long (cL x)), (3, .long (cL y)), (5, .int (cI u)), (6, .int (cI (j : Int)))] [.int (cI w)] I L R T Q := by
        intro w hw
        refine q_istore (lv' := [(5, .int (cI w)), (0, .ref M), (1, .long (cL x)), (3, .long (cL y)), (6, .int (cI (j : Int)))]) d_Model_see_49 (by decide) rfl ?_
        refine j_iinc (lv' := [(6, .int (cI ((j : Int) + 1))), (5, .int (cI w)), (0, .ref M), (1, .long (cL x)), (3, .long (cL y))]) d_Model_see_51 rfl (by decide) rfl ?_
        refine q_goto (tgt := 6) d_Model_see_54 (by decide) ?_
        rw [show (j : Int) + 1 = ((j + 1 : Nat) : Int) by omega]
        refine Run.lv (lv' := [(0, .ref M), (1, .long (cL x)), (3, .long (cL y)), (5, .int (cI w)), (6, .int (cI (((j + 1 : Nat) : Int))))]) (by intro q hq; simp only [List.mem_cons, List.not_mem_nil, or_false] at hq ⊢; rcases hq with rfl | rfl | rfl | rfl | rfl <;> simp) ?_
        refine ih (j + 1) w (by omega) ?_
        rcases hw with h | ⟨z1, z2⟩
        · exact Or.inl h
        · refine Or.inr ⟨z1, fun i hi => ?_⟩
          by_cases e : i = j
          · rw [e]; exact z2
          · exact h2 i (by omega)
      refine j_if_ne (tgt := 57) d_Model_see_17 (by decide) (by omega) (fun hx => by exfalso; omega) (fun hx => ?_)
      refine q_aload_n d_Model_see_20 rfl ?_
      refine q_getR d_Model_see_21 fl_Model_115 hM.1 ⟨rfl, by decide⟩ (mR56 hM) ?_
      refine q_iload d_Model_see_24 rfl ?_
      refine j_lald (j := j) (v := (cL pa)) d_Model_see_26 (mT56 hM) (mN56 hM) (by omega) (by omega) (by omega) g3 ?_
      refine q_lload_n d_Model_see_27 rfl ?_
      by_cases e1 : pa = x
      rotate_left
      · refine j_lcmp_ne (tgt := 48) d_Model_see_28 d_Model_see_29 (by decide) (by omega) (by omega) (fun hx => ?_) (fun hx => by exfalso; omega)
        refine j_iconst d_Model_see_48 ?_
        exact t49 0 (Or.inr ⟨rfl, fun z => e1 (by rw [hpa, z])⟩)
      refine j_lcmp_ne (tgt := 48) d_Model_see_28 d_Model_see_29 (by decide) (by omega) (by omega) (fun hx => by exfalso; omega) (fun hx => ?_)
      refine q_aload_n d_Model_see_32 rfl ?_
      refine q_getR d_Model_see_33 fl_Model_118 hM.1 ⟨rfl, by decide⟩ (mR57 hM) ?_
      refine q_iload d_Model_see_36 rfl ?_
      refine j_lald (j := j) (v := (cL pb)) d_Model_see_38 (mT57 hM) (mN57 hM) (by omega) (by omega) (by omega) g4 ?_
      refine q_lload_n d_Model_see_39 rfl ?_
      by_cases e2 : pb = y
      rotate_left
      · refine j_lcmp_ne (tgt := 48) d_Model_see_40 d_Model_see_41 (by decide) (by omega) (by omega) (fun hx => ?_) (fun hx => by exfalso; omega)
        refine j_iconst d_Model_see_48 ?_
        exact t49 0 (Or.inr ⟨rfl, fun z => e2 (by rw [hpb, z])⟩)
      refine j_lcmp_ne (tgt := 48) d_Model_see_40 d_Model_see_41 (by decide) (by omega) (by omega) (fun hx => by exfalso; omega) (fun hx => ?_)
      refine j_iconst d_Model_see_44 ?_
      refine q_goto (tgt := 49) d_Model_see_45 (by decide) ?_
      exact t49 1 (Or.inl ⟨rfl, by have : sl.getD j (0, 0) = (x, y) := Prod.ext (hpa.symm.trans e1) (hpb.symm.trans e2); rw [← this]; exact hmem⟩)
  refine Run.lv (lv' := [(0, .ref M), (1, .long (cL x)), (3, .long (cL y)), (5, .int (cI 0)), (6, .int (cI 0))]) (by intro q hq; simp only [List.mem_cons, List.not_mem_nil, or_false] at hq ⊢; rcases hq with rfl | rfl | rfl | rfl | rfl <;> simp) ?_
  exact loop q 0 0 (by omega) (Or.inr ⟨rfl, fun i hi => absurd hi (Nat.not_lt_zero i)⟩)
end

