/-! ===== 47 THE REFERENCE'S TOKENS: names ===== -/
theorem d_Model_nameOf_0 : decode m_Model_nameOf.2.1 0 = .ok (.iload_n 2, 1) := by decide +kernel
theorem d_Model_nameOf_1 : decode m_Model_nameOf.2.1 1 = .ok (.iload_n 1, 1) := by decide +kernel
theorem d_Model_nameOf_2 : decode m_Model_nameOf.2.1 2 = .ok (.isub, 1) := by decide +kernel
theorem d_Model_nameOf_3 : decode m_Model_nameOf.2.1 3 = .ok (.iconst 1, 1) := by decide +kernel
theorem d_Model_nameOf_4 : decode m_Model_nameOf.2.1 4 = .ok (.if_icmp .lt 30, 3) := by decide +kernel
theorem d_Model_nameOf_7 : decode m_Model_nameOf.2.1 7 = .ok (.iload_n 2, 1) := by decide +kernel
theorem d_Model_nameOf_8 : decode m_Model_nameOf.2.1 8 = .ok (.iload_n 1, 1) := by decide +kernel
theorem d_Model_nameOf_9 : decode m_Model_nameOf.2.1 9 = .ok (.isub, 1) := by decide +kernel
theorem d_Model_nameOf_10 : decode m_Model_nameOf.2.1 10 = .ok (.bipush 8, 2) := by decide +kernel
theorem d_Model_nameOf_12 : decode m_Model_nameOf.2.1 12 = .ok (.if_icmp .gt 22, 3) := by decide +kernel
theorem d_Model_nameOf_15 : decode m_Model_nameOf.2.1 15 = .ok (.aload_n 0, 1) := by decide +kernel
theorem d_Model_nameOf_16 : decode m_Model_nameOf.2.1 16 = .ok (.getfield 23, 3) := by decide +kernel
theorem d_Model_nameOf_19 : decode m_Model_nameOf.2.1 19 = .ok (.iload_n 1, 1) := by decide +kernel
theorem d_Model_nameOf_20 : decode m_Model_nameOf.2.1 20 = .ok (.iaload, 1) := by decide +kernel
theorem d_Model_nameOf_21 : decode m_Model_nameOf.2.1 21 = .ok (.i2l, 1) := by decide +kernel
theorem d_Model_nameOf_22 : decode m_Model_nameOf.2.1 22 = .ok (.ldc2_w 536, 3) := by decide +kernel
theorem d_Model_nameOf_25 : decode m_Model_nameOf.2.1 25 = .ok (.ldc2_w 538, 3) := by decide +kernel
theorem d_Model_nameOf_28 : decode m_Model_nameOf.2.1 28 = .ok (.invokestatic 407, 3) := by decide +kernel
theorem d_Model_nameOf_31 : decode m_Model_nameOf.2.1 31 = .ok (.ifCond .ne 5, 3) := by decide +kernel
theorem d_Model_nameOf_34 : decode m_Model_nameOf.2.1 34 = .ok (.lconst 0, 1) := by decide +kernel
theorem d_Model_nameOf_35 : decode m_Model_nameOf.2.1 35 = .ok (.lreturn, 1) := by decide +kernel
theorem d_Model_nameOf_36 : decode m_Model_nameOf.2.1 36 = .ok (.lconst 0, 1) := by decide +kernel
theorem d_Model_nameOf_37 : decode m_Model_nameOf.2.1 37 = .ok (.lstore_n 3, 1) := by decide +kernel
theorem d_Model_nameOf_38 : decode m_Model_nameOf.2.1 38 = .ok (.iload_n 1, 1) := by decide +kernel
theorem d_Model_nameOf_39 : decode m_Model_nameOf.2.1 39 = .ok (.istore 5, 2) := by decide +kernel
theorem d_Model_nameOf_41 : decode m_Model_nameOf.2.1 41 = .ok (.iload 5, 2) := by decide +kernel
theorem d_Model_nameOf_43 : decode m_Model_nameOf.2.1 43 = .ok (.iload_n 2, 1) := by decide +kernel
theorem d_Model_nameOf_44 : decode m_Model_nameOf.2.1 44 = .ok (.if_icmp .ge 65, 3) := by decide +kernel
theorem d_Model_nameOf_47 : decode m_Model_nameOf.2.1 47 = .ok (.aload_n 0, 1) := by decide +kernel
theorem d_Model_nameOf_48 : decode m_Model_nameOf.2.1 48 = .ok (.getfield 23, 3) := by decide +kernel
theorem d_Model_nameOf_51 : decode m_Model_nameOf.2.1 51 = .ok (.iload 5, 2) := by decide +kernel
theorem d_Model_nameOf_53 : decode m_Model_nameOf.2.1 53 = .ok (.iaload, 1) := by decide +kernel
theorem d_Model_nameOf_54 : decode m_Model_nameOf.2.1 54 = .ok (.i2l, 1) := by decide +kernel
theorem d_Model_nameOf_55 : decode m_Model_nameOf.2.1 55 = .ok (.ldc2_w 536, 3) := by decide +kernel
theorem d_Model_nameOf_58 : decode m_Model_nameOf.2.1 58 = .ok (.ldc2_w 538, 3) := by decide +kernel
theorem d_Model_nameOf_61 : decode m_Model_nameOf.2.1 61 = .ok (.invokestatic 407, 3) := by decide +kernel
theorem d_Model_nameOf_64 : decode m_Model_nameOf.2.1 64 = .ok (.ifCond .ne 25, 3) := by decide +kernel
theorem d_Model_nameOf_67 : decode m_Model_nameOf.2.1 67 = .ok (.aload_n 0, 1) := by decide +kernel
theorem d_Model_nameOf_68 : decode m_Model_nameOf.2.1 68 = .ok (.getfield 23, 3) := by decide +kernel
theorem d_Model_nameOf_71 : decode m_Model_nameOf.2.1 71 = .ok (.iload 5, 2) := by decide +kernel
theorem d_Model_nameOf_73 : decode m_Model_nameOf.2.1 73 = .ok (.iaload, 1) := by decide +kernel
theorem d_Model_nameOf_74 : decode m_Model_nameOf.2.1 74 = .ok (.i2l, 1) := by decide +kernel
theorem d_Model_nameOf_75 : decode m_Model_nameOf.2.1 75 = .ok (.ldc2_w 540, 3) := by decide +kernel
theorem d_Model_nameOf_78 : decode m_Model_nameOf.2.1 78 = .ok (.ldc2_w 542, 3) := by decide +kernel
theorem d_Model_nameOf_81 : decode m_Model_nameOf.2.1 81 = .ok (.invokestatic 407, 3) := by decide +kernel
theorem d_Model_nameOf_84 : decode m_Model_nameOf.2.1 84 = .ok (.ifCond .ne 5, 3) := by decide +kernel
theorem d_Model_nameOf_87 : decode m_Model_nameOf.2.1 87 = .ok (.lconst 0, 1) := by decide +kernel
theorem d_Model_nameOf_88 : decode m_Model_nameOf.2.1 88 = .ok (.lreturn, 1) := by decide +kernel
theorem d_Model_nameOf_89 : decode m_Model_nameOf.2.1 89 = .ok (.lload_n 3, 1) := by decide +kernel
theorem d_Model_nameOf_90 : decode m_Model_nameOf.2.1 90 = .ok (.bipush 8, 2) := by decide +kernel
theorem d_Model_nameOf_92 : decode m_Model_nameOf.2.1 92 = .ok (.lshl, 1) := by decide +kernel
theorem d_Model_nameOf_93 : decode m_Model_nameOf.2.1 93 = .ok (.aload_n 0, 1) := by decide +kernel
theorem d_Model_nameOf_94 : decode m_Model_nameOf.2.1 94 = .ok (.getfield 23, 3) := by decide +kernel
theorem d_Model_nameOf_97 : decode m_Model_nameOf.2.1 97 = .ok (.iload 5, 2) := by decide +kernel
theorem d_Model_nameOf_99 : decode m_Model_nameOf.2.1 99 = .ok (.iaload, 1) := by decide +kernel
theorem d_Model_nameOf_100 : decode m_Model_nameOf.2.1 100 = .ok (.i2l, 1) := by decide +kernel
theorem d_Model_nameOf_101 : decode m_Model_nameOf.2.1 101 = .ok (.lor, 1) := by decide +kernel
theorem d_Model_nameOf_102 : decode m_Model_nameOf.2.1 102 = .ok (.lstore_n 3, 1) := by decide +kernel
theorem d_Model_nameOf_103 : decode m_Model_nameOf.2.1 103 = .ok (.iinc 5 1, 3) := by decide +kernel
theorem d_Model_nameOf_106 : decode m_Model_nameOf.2.1 106 = .ok (.goto (-65), 3) := by decide +kernel
theorem d_Model_nameOf_109 : decode m_Model_nameOf.2.1 109 = .ok (.lload_n 3, 1) := by decide +kernel
theorem d_Model_nameOf_110 : decode m_Model_nameOf.2.1 110 = .ok (.lreturn, 1) := by decide +kernel
/-- the text at hand of the reference -/
def TxM (I : M32) (M N : Nat) (t : Nat → Nat) : Prop := N ≤ 16384 ∧ ∀ j, j < N → t j < 256 ∧ I (M + 5) j = cI (t j)
theorem c_Model_nameOf (d : Nat) {M N e g : Nat} {t : Nat → Nat} {I : M32} {L : M64} {R : MR} {T : SH} (hd : 1 ≤ d) (hM : MdlS M R T) (hV : TxM I M N t) (heN : e ≤ N) (hg : g ≤ e) :
    Call m_Model_nameOf y_Model_nameOf d 0 0 [.ref M, .int (cI g), .int (cI e)] I L R T (rL fun r I' L' R' T' => ((NamR t g e → r = cL (nvF t g (e - g))) ∧ (¬ NamR t g e → r = cL 0)) ∧ I' = I ∧ L' = L ∧ R' = R ∧ T' = T) := by
  refine Call.ofRun (by decide) ⟨rfl, rfl⟩ (Nat.le_of_ble_eq_true rfl) ?_
  refine Run.gen fun Q hQ => ?_
  have hN := hV.1
  have no : ∀ (h : ¬ NamR t g e), True → Run m_Model_nameOf d 0 0 34 [(0, .ref M), (1, .int (cI (g : Int))), (2, .int (cI (e : Int)))] [] I L R T Q := by
    intro h _
    refine j_lconst (z := 0) d_Model_nameOf_34 (by decide) ?_
    refine q_lreturn d_Model_nameOf_35 rfl ?_
    refine hQ _ _ _ _ _ ?_
    exact ⟨_, rfl, ⟨fun q => absurd q h, fun _ => rfl⟩, rfl, rfl, rfl, rfl⟩
  refine q_iload_n d_Model_nameOf_0 rfl ?_
  refine q_iload_n d_Model_nameOf_1 rfl ?_
  refine j_isub d_Model_nameOf_2 ?_
  refine j_iconst d_Model_nameOf_3 ?_
  refine j_icmp_lt (tgt := 34) d_Model_nameOf_4 (by decide) (by omega) (by omega) (fun h1 => ?_) (fun h1 => ?_)
  · skip
    exact no (fun q => by have := q.1; omega) trivial
  refine q_iload_n d_Model_nameOf_7 rfl ?_
  refine q_iload_n d_Model_nameOf_8 rfl ?_
  refine j_isub d_Model_nameOf_9 ?_
  refine j_bipush d_Model_nameOf_10 (by decide) ?_
  refine j_icmp_gt (tgt := 34) d_Model_nameOf_12 (by decide) (by omega) (by omega) (fun h2 => ?_) (fun h2 => ?_)
  · skip
    exact no (fun q => by have := q.2.1; omega) trivial
  have tg := (hV.2 g (by omega)).1
  refine q_aload_n d_Model_nameOf_15 rfl ?_
  refine q_getR d_Model_nameOf_16 fl_Model_23 hM.1 ⟨rfl, by decide⟩ (mR10 hM) ?_
  refine q_iload_n d_Model_nameOf_19 rfl ?_
  refine j_iald (j := g) (v := (cI (t g : Int))) d_Model_nameOf_20 (mT10 hM) (mN10 hM) (by omega) (by omega) (by omega) ((hV.2 g (by omega)).2) ?_
  refine j_i2l d_Model_nameOf_21 (by omega) ?_
  refine j_ldc2 (z := 97) d_Model_nameOf_22 (inT11 117 rfl) (by decide) ?_
  refine j_ldc2 (z := 122) d_Model_nameOf_25 (inT11 118 rfl) (by decide) ?_
  refine q_callS (rc := 0) (rs := 0) (rest := []) d_Model_nameOf_28 ml_Model_407 ok_Model_isIn (c_Model_isIn (d - 1) (by omega) (by omega) (by omega)) rfl rfl (by omega) (Nat.le_of_ble_eq_true rfl) (kp_I ?_) kt_I
  refine j_ifb_ne (tgt := 36) d_Model_nameOf_31 (by decide) (fun h3 => ?_) (fun h3 => ?_)
  rotate_left
  · skip
    exact no (fun q => by have := q.2.2.1; omega) trivial
  refine j_lconst (z := 0) d_Model_nameOf_36 (by decide) ?_
  refine q_lstore_n (lv' := [(3, .long (cL 0)), (0, .ref M), (1, .int (cI (g : Int))), (2, .int (cI (e : Int)))]) d_Model_nameOf_37 (by decide) rfl ?_
  refine q_iload_n d_Model_nameOf_38 rfl ?_
  refine q_istore (lv' := [(5, .int (cI (g : Int))), (3, .long (cL 0)), (0, .ref M), (1, .int (cI (g : Int))), (2, .int (cI (e : Int)))]) d_Model_nameOf_39 (by decide) rfl ?_
  have loop : ∀ (fu k w : Nat) (z y : Int), e - k < fu → z = k → y = w → g ≤ k → k ≤ e → w = nvF t g (k - g) → (∀ j, g ≤ j → j < k → (ltr (t j) ∨ dgt (t j))) → Run m_Model_nameOf d 0 0 41 [(0, .ref M), (1, .int (cI (g : Int))), (2, .int (cI (e : Int))), (3, .long (cL y)), (5, .int (cI z))] [] I L R T Q := by
    intro fu
    induction fu with
    | zero => intro k w z y h; omega
    | succ fu ih =>
    intro k w z y hfu hz hy hgk hk hw hall
    subst hz hy
    refine q_iload d_Model_nameOf_41 rfl ?_
    refine q_iload_n d_Model_nameOf_43 rfl ?_
    refine j_icmp_ge (tgt := 109) d_Model_nameOf_44 (by decide) (by omega) (by omega) (fun h4 => ?_) (fun h4 => ?_)
    · skip
      obtain rfl : k = e := by omega
      refine q_lload_n d_Model_nameOf_109 rfl ?_
      refine q_lreturn d_Model_nameOf_110 rfl ?_
      refine hQ _ _ _ _ _ ?_
      exact ⟨_, rfl, ⟨fun _ => by rw [hw], fun q => absurd ⟨by omega, by omega, by omega, hall⟩ q⟩, rfl, rfl, rfl, rfl⟩
    have tk := (hV.2 k (by omega)).1
    have hwl : w < 36028797018963968 := by
      rcases Nat.eq_zero_or_pos (k - g) with q | q
      · rw [hw, q]; show 0 < _; decide
      · have h5 := nvF_b (t := t) (g := g) (by omega) (k - g) q fun j hj => hall (g + j) (by omega) (by omega)
        rw [← hw] at h5
        have : 256 ^ (k - g - 1) ≤ 256 ^ 6 := Nat.pow_le_pow_right (by decide) (by omega)
        omega
    have app : ∀ (h : ltr (t k) ∨ dgt (t k)), True → Run m_Model_nameOf d 0 0 89 [(0, .ref M), (1, .int (cI (g : Int))), (2, .int (cI (e : Int))), (3, .long (cL (w : Int))), (5, .int (cI (k : Int)))] [] I L R T Q := by
      intro h _
      refine q_lload_n d_Model_nameOf_89 rfl ?_
      refine j_bipush d_Model_nameOf_90 (by decide) ?_
      refine q_lshl d_Model_nameOf_92 ?_
      refine q_aload_n d_Model_nameOf_93 rfl ?_
      refine q_getR d_Model_nameOf_94 fl_Model_23 hM.1 ⟨rfl, by decide⟩ (mR10 hM) ?_
      refine q_iload d_Model_nameOf_97 rfl ?_
      refine j_iald (j := k) (v := (cI (t k : Int))) d_Model_nameOf_99 (mT10 hM) (mN10 hM) (by omega) (by omega) (by omega) ((hV.2 k (by omega)).2) ?_
      refine j_i2l d_Model_nameOf_100 (by omega) ?_
      refine q_lor d_Model_nameOf_101 ?_
      refine Run.top (v := .long (cL (w * 256 + t k : Int))) (by rw [shl8 tk hwl]; simp) ?_
      refine q_lstore_n (lv' := [(3, .long (cL (w * 256 + t k : Int))), (0, .ref M), (1, .int (cI (g : Int))), (2, .int (cI (e : Int))), (5, .int (cI (k : Int)))]) d_Model_nameOf_102 (by decide) rfl ?_
      refine j_iinc (lv' := [(5, .int (cI ((k : Int) + 1))), (3, .long (cL (w * 256 + t k : Int))), (0, .ref M), (1, .int (cI (g : Int))), (2, .int (cI (e : Int)))]) d_Model_nameOf_103 rfl (by decide) rfl ?_
      refine q_goto (tgt := 41) d_Model_nameOf_106 (by decide) ?_
      refine Run.lv (lv' := [(0, .ref M), (1, .int (cI (g : Int))), (2, .int (cI (e : Int))), (3, .long (cL (w * 256 + t k : Int))), (5, .int (cI ((k : Int) + 1)))]) (by intro q hq; simp only [List.mem_cons, List.not_mem_nil, or_false] at hq ⊢; rcases hq with rfl | rfl | rfl | rfl | rfl <;> simp) ?_
      refine ih (k + 1) (w * 256 + t k) _ _ (by omega) (by omega) (by simp) (by omega) (by omega) ?_ (fun j h1 h2 => if q : j = k then (by subst q; exact h) else hall j h1 (by omega))
      rw [hw, show k + 1 - g = (k - g) + 1 by omega]
      show _ = nvF t g (k - g) * 256 + t (g + (k - g))
      rw [show g + (k - g) = k by omega]
    refine q_aload_n d_Model_nameOf_47 rfl ?_
    refine q_getR d_Model_nameOf_48 fl_Model_23 hM.1 ⟨rfl, by decide⟩ (mR10 hM) ?_
    refine q_iload d_Model_nameOf_51 rfl ?_
    refine j_iald (j := k) (v := (cI (t k : Int))) d_Model_nameOf_53 (mT10 hM) (mN10 hM) (by omega) (by omega) (by omega) ((hV.2 k (by omega)).2) ?_
    refine j_i2l d_Model_nameOf_54 (by omega) ?_
    refine j_ldc2 (z := 97) d_Model_nameOf_55 (inT11 117 rfl) (by decide) ?_
    refine j_ldc2 (z := 122) d_Model_nameOf_58 (inT11 118 rfl) (by decide) ?_
    refine q_callS (rc := 0) (rs := 0) (rest := []) d_Model_nameOf_61 ml_Model_407 ok_Model_isIn (c_Model_isIn (d - 1) (by omega) (by omega) (by omega)) rfl rfl (by omega) (Nat.le_of_ble_eq_true rfl) (kp_I ?_) kt_I
    refine j_ifb_ne (tgt := 89) d_Model_nameOf_64 (by decide) (fun h5 => ?_) (fun h5 => ?_)
    · skip
      exact app (Or.inl (by omega)) trivial
    · skip
      refine q_aload_n d_Model_nameOf_67 rfl ?_
      refine q_getR d_Model_nameOf_68 fl_Model_23 hM.1 ⟨rfl, by decide⟩ (mR10 hM) ?_
      refine q_iload d_Model_nameOf_71 rfl ?_
      refine j_iald (j := k) (v := (cI (t k : Int))) d_Model_nameOf_73 (mT10 hM) (mN10 hM) (by omega) (by omega) (by omega) ((hV.2 k (by omega)).2) ?_
      refine j_i2l d_Model_nameOf_74 (by omega) ?_
      refine j_ldc2 (z := 48) d_Model_nameOf_75 (inT11 111 rfl) (by decide) ?_
      refine j_ldc2 (z := 57) d_Model_nameOf_78 (inT11 112 rfl) (by decide) ?_
      refine q_callS (rc := 0) (rs := 0) (rest := []) d_Model_nameOf_81 ml_Model_407 ok_Model_isIn (c_Model_isIn (d - 1) (by omega) (by omega) (by omega)) rfl rfl (by omega) (Nat.le_of_ble_eq_true rfl) (kp_I ?_) kt_I
      refine j_ifb_ne (tgt := 89) d_Model_nameOf_84 (by decide) (fun h6 => ?_) (fun h6 => ?_)
      · skip
        exact app (Or.inr (by omega)) trivial
      · skip
        refine j_lconst (z := 0) d_Model_nameOf_87 (by decide) ?_
        refine q_lreturn d_Model_nameOf_88 rfl ?_
        refine hQ _ _ _ _ _ ?_
        exact ⟨_, rfl, ⟨fun q => absurd (q.2.2.2 k hgk (by omega)) (by omega), fun _ => rfl⟩, rfl, rfl, rfl, rfl⟩
  refine Run.lv (lv' := [(0, .ref M), (1, .int (cI (g : Int))), (2, .int (cI (e : Int))), (3, .long (cL 0)), (5, .int (cI (g : Int)))]) (by intro q hq; simp only [List.mem_cons, List.not_mem_nil, or_false] at hq ⊢; rcases hq with rfl | rfl | rfl | rfl | rfl <;> simp) ?_
  exact loop (e - g + 1) g 0 _ _ (by omega) rfl rfl (Nat.le_refl _) hg (by rw [Nat.sub_self]; rfl) (fun j a b => by omega)

