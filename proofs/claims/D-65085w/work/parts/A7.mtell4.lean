/-! ===== A7 THE REFERENCE PRINTS: a whole contract ===== -/
theorem d_Model_tellAll_0 : decode m_Model_tellAll.2.1 0 = .ok (.aload_n 0, 1) := by decide +kernel
theorem d_Model_tellAll_1 : decode m_Model_tellAll.2.1 1 = .ok (.iconst 0, 1) := by decide +kernel
theorem d_Model_tellAll_2 : decode m_Model_tellAll.2.1 2 = .ok (.putfield 402, 3) := by decide +kernel
theorem d_Model_tellAll_5 : decode m_Model_tellAll.2.1 5 = .ok (.aload_n 0, 1) := by decide +kernel
theorem d_Model_tellAll_6 : decode m_Model_tellAll.2.1 6 = .ok (.iconst 0, 1) := by decide +kernel
theorem d_Model_tellAll_7 : decode m_Model_tellAll.2.1 7 = .ok (.putfield 707, 3) := by decide +kernel
theorem d_Model_tellAll_10 : decode m_Model_tellAll.2.1 10 = .ok (.aload_n 0, 1) := by decide +kernel
theorem d_Model_tellAll_11 : decode m_Model_tellAll.2.1 11 = .ok (.iconst 0, 1) := by decide +kernel
theorem d_Model_tellAll_12 : decode m_Model_tellAll.2.1 12 = .ok (.iload_n 1, 1) := by decide +kernel
theorem d_Model_tellAll_13 : decode m_Model_tellAll.2.1 13 = .ok (.invokevirtual 713, 3) := by decide +kernel
theorem d_Model_tellAll_16 : decode m_Model_tellAll.2.1 16 = .ok (.aload_n 0, 1) := by decide +kernel
theorem d_Model_tellAll_17 : decode m_Model_tellAll.2.1 17 = .ok (.getfield 707, 3) := by decide +kernel
theorem d_Model_tellAll_20 : decode m_Model_tellAll.2.1 20 = .ok (.ifCond .le 116, 3) := by decide +kernel
theorem d_Model_tellAll_23 : decode m_Model_tellAll.2.1 23 = .ok (.aload_n 0, 1) := by decide +kernel
theorem d_Model_tellAll_24 : decode m_Model_tellAll.2.1 24 = .ok (.dup, 1) := by decide +kernel
theorem d_Model_tellAll_25 : decode m_Model_tellAll.2.1 25 = .ok (.getfield 707, 3) := by decide +kernel
theorem d_Model_tellAll_28 : decode m_Model_tellAll.2.1 28 = .ok (.iconst 1, 1) := by decide +kernel
theorem d_Model_tellAll_29 : decode m_Model_tellAll.2.1 29 = .ok (.isub, 1) := by decide +kernel
theorem d_Model_tellAll_30 : decode m_Model_tellAll.2.1 30 = .ok (.putfield 707, 3) := by decide +kernel
theorem d_Model_tellAll_33 : decode m_Model_tellAll.2.1 33 = .ok (.aload_n 0, 1) := by decide +kernel
theorem d_Model_tellAll_34 : decode m_Model_tellAll.2.1 34 = .ok (.getfield 112, 3) := by decide +kernel
theorem d_Model_tellAll_37 : decode m_Model_tellAll.2.1 37 = .ok (.aload_n 0, 1) := by decide +kernel
theorem d_Model_tellAll_38 : decode m_Model_tellAll.2.1 38 = .ok (.getfield 707, 3) := by decide +kernel
theorem d_Model_tellAll_41 : decode m_Model_tellAll.2.1 41 = .ok (.iaload, 1) := by decide +kernel
theorem d_Model_tellAll_42 : decode m_Model_tellAll.2.1 42 = .ok (.istore_n 2, 1) := by decide +kernel
theorem d_Model_tellAll_43 : decode m_Model_tellAll.2.1 43 = .ok (.aload_n 0, 1) := by decide +kernel
theorem d_Model_tellAll_44 : decode m_Model_tellAll.2.1 44 = .ok (.getfield 109, 3) := by decide +kernel
theorem d_Model_tellAll_47 : decode m_Model_tellAll.2.1 47 = .ok (.aload_n 0, 1) := by decide +kernel
theorem d_Model_tellAll_48 : decode m_Model_tellAll.2.1 48 = .ok (.getfield 707, 3) := by decide +kernel
theorem d_Model_tellAll_51 : decode m_Model_tellAll.2.1 51 = .ok (.iaload, 1) := by decide +kernel
theorem d_Model_tellAll_52 : decode m_Model_tellAll.2.1 52 = .ok (.istore_n 3, 1) := by decide +kernel
theorem d_Model_tellAll_53 : decode m_Model_tellAll.2.1 53 = .ok (.iload_n 2, 1) := by decide +kernel
theorem d_Model_tellAll_54 : decode m_Model_tellAll.2.1 54 = .ok (.ifCond .ne 11, 3) := by decide +kernel
theorem d_Model_tellAll_57 : decode m_Model_tellAll.2.1 57 = .ok (.aload_n 0, 1) := by decide +kernel
theorem d_Model_tellAll_58 : decode m_Model_tellAll.2.1 58 = .ok (.iload_n 3, 1) := by decide +kernel
theorem d_Model_tellAll_59 : decode m_Model_tellAll.2.1 59 = .ok (.invokevirtual 730, 3) := by decide +kernel
theorem d_Model_tellAll_62 : decode m_Model_tellAll.2.1 62 = .ok (.goto 71, 3) := by decide +kernel
theorem d_Model_tellAll_65 : decode m_Model_tellAll.2.1 65 = .ok (.iload_n 2, 1) := by decide +kernel
theorem d_Model_tellAll_66 : decode m_Model_tellAll.2.1 66 = .ok (.iconst 3, 1) := by decide +kernel
theorem d_Model_tellAll_67 : decode m_Model_tellAll.2.1 67 = .ok (.if_icmp .ge 28, 3) := by decide +kernel
theorem d_Model_tellAll_70 : decode m_Model_tellAll.2.1 70 = .ok (.aload_n 0, 1) := by decide +kernel
theorem d_Model_tellAll_71 : decode m_Model_tellAll.2.1 71 = .ok (.bipush 32, 2) := by decide +kernel
theorem d_Model_tellAll_73 : decode m_Model_tellAll.2.1 73 = .ok (.invokevirtual 411, 3) := by decide +kernel
theorem d_Model_tellAll_76 : decode m_Model_tellAll.2.1 76 = .ok (.aload_n 0, 1) := by decide +kernel
theorem d_Model_tellAll_77 : decode m_Model_tellAll.2.1 77 = .ok (.iload_n 2, 1) := by decide +kernel
theorem d_Model_tellAll_78 : decode m_Model_tellAll.2.1 78 = .ok (.iconst 1, 1) := by decide +kernel
theorem d_Model_tellAll_79 : decode m_Model_tellAll.2.1 79 = .ok (.if_icmp .ne 8, 3) := by decide +kernel
theorem d_Model_tellAll_82 : decode m_Model_tellAll.2.1 82 = .ok (.bipush 91, 2) := by decide +kernel
theorem d_Model_tellAll_84 : decode m_Model_tellAll.2.1 84 = .ok (.goto 5, 3) := by decide +kernel
theorem d_Model_tellAll_87 : decode m_Model_tellAll.2.1 87 = .ok (.bipush 93, 2) := by decide +kernel
theorem d_Model_tellAll_89 : decode m_Model_tellAll.2.1 89 = .ok (.invokevirtual 411, 3) := by decide +kernel
theorem d_Model_tellAll_92 : decode m_Model_tellAll.2.1 92 = .ok (.goto 41, 3) := by decide +kernel
theorem d_Model_tellAll_95 : decode m_Model_tellAll.2.1 95 = .ok (.aload_n 0, 1) := by decide +kernel
theorem d_Model_tellAll_96 : decode m_Model_tellAll.2.1 96 = .ok (.getfield 57, 3) := by decide +kernel
theorem d_Model_tellAll_99 : decode m_Model_tellAll.2.1 99 = .ok (.iload_n 3, 1) := by decide +kernel
theorem d_Model_tellAll_100 : decode m_Model_tellAll.2.1 100 = .ok (.baload, 1) := by decide +kernel
theorem d_Model_tellAll_101 : decode m_Model_tellAll.2.1 101 = .ok (.ifCond .eq 16, 3) := by decide +kernel
theorem d_Model_tellAll_104 : decode m_Model_tellAll.2.1 104 = .ok (.aload_n 0, 1) := by decide +kernel
theorem d_Model_tellAll_105 : decode m_Model_tellAll.2.1 105 = .ok (.aload_n 0, 1) := by decide +kernel
theorem d_Model_tellAll_106 : decode m_Model_tellAll.2.1 106 = .ok (.getfield 29, 3) := by decide +kernel
theorem d_Model_tellAll_109 : decode m_Model_tellAll.2.1 109 = .ok (.iload_n 3, 1) := by decide +kernel
theorem d_Model_tellAll_110 : decode m_Model_tellAll.2.1 110 = .ok (.laload, 1) := by decide +kernel
theorem d_Model_tellAll_111 : decode m_Model_tellAll.2.1 111 = .ok (.invokevirtual 724, 3) := by decide +kernel
theorem d_Model_tellAll_114 : decode m_Model_tellAll.2.1 114 = .ok (.goto 19, 3) := by decide +kernel
theorem d_Model_tellAll_117 : decode m_Model_tellAll.2.1 117 = .ok (.aload_n 0, 1) := by decide +kernel
theorem d_Model_tellAll_118 : decode m_Model_tellAll.2.1 118 = .ok (.bipush 32, 2) := by decide +kernel
theorem d_Model_tellAll_120 : decode m_Model_tellAll.2.1 120 = .ok (.invokevirtual 411, 3) := by decide +kernel
theorem d_Model_tellAll_123 : decode m_Model_tellAll.2.1 123 = .ok (.aload_n 0, 1) := by decide +kernel
theorem d_Model_tellAll_124 : decode m_Model_tellAll.2.1 124 = .ok (.aload_n 0, 1) := by decide +kernel
theorem d_Model_tellAll_125 : decode m_Model_tellAll.2.1 125 = .ok (.getfield 54, 3) := by decide +kernel
theorem d_Model_tellAll_128 : decode m_Model_tellAll.2.1 128 = .ok (.iload_n 3, 1) := by decide +kernel
theorem d_Model_tellAll_129 : decode m_Model_tellAll.2.1 129 = .ok (.laload, 1) := by decide +kernel
theorem d_Model_tellAll_130 : decode m_Model_tellAll.2.1 130 = .ok (.invokevirtual 733, 3) := by decide +kernel
theorem d_Model_tellAll_133 : decode m_Model_tellAll.2.1 133 = .ok (.goto (-117), 3) := by decide +kernel
theorem d_Model_tellAll_136 : decode m_Model_tellAll.2.1 136 = .ok (.aload_n 0, 1) := by decide +kernel
theorem d_Model_tellAll_137 : decode m_Model_tellAll.2.1 137 = .ok (.getfield 402, 3) := by decide +kernel
theorem d_Model_tellAll_140 : decode m_Model_tellAll.2.1 140 = .ok (.ireturn, 1) := by decide +kernel
/-- the head of the printing loop -/
def HT (d M : Nat) (L : M64) (R : MR) (T : SH) (Q : QT) (I : M32) : Prop := Run m_Model_tellAll d 0 0 16 [(0, .ref M)] [] I L R T Q
section
variable {M tp pt d : Nat} {ρ : Nat → Row} {V : Nat → Int} {I0 I : M32} {L : M64} {R : MR} {T : SH} {Q : QT} {l l' : List Nat} {pile pile' : List (Nat × Nat)}
theorem TlS.pop {w : Nat × Nat} {I1 : M32} (h : TlS M I0 l (w :: pile) I) (hI : I1 = up2 I M 55 (cI pile.length)) : TlS M I0 l pile I1 := by
  obtain ⟨h1, h2, h3, h4, h5⟩ := h
  subst hI
  refine ⟨⟨h1.1, by rw [up2_k _ _ _ (by decide)]; exact h1.2.1, fun j hj => by rw [up2_a _ _ _ (by omega)]; exact h1.2.2 j hj⟩, h2.2.fx fun k hk => ⟨by rw [up2_a _ _ _ (by omega)], by rw [up2_a _ _ _ (by omega)]⟩, up2_s _ _ _ _, ⟨fun a e1 e2 e3 e4 => by rw [up2_row _ _ e1]; exact h4.1 a e1 e2 e3 e4, fun k e1 e2 => by rw [up2_k _ _ _ e2]; exact h4.2 k e1 e2⟩, ?_⟩
  rw [List.length_cons] at h5; omega
/-- a node is told, then the loop goes on -/
theorem ht_node {n : Nat} (hM : MdlS M R T) (hS : TlS M I0 l ((0, n) :: pile) I) (hn : n < 5100) (hcall : ∀ I1, TlS M I0 l pile I1 → Call m_Model_tellNode y_Model_tellNode (d - 1) 0 0 [.ref M, .int (cI (n : Int))] I1 L R T (rV fun I' L' R' T' => TlS M I0 l' pile' I' ∧ L' = L ∧ R' = R ∧ T' = T)) (hd : 5 ≤ d) (kk : ∀ I', TlS M I0 l' pile' I' → HT d M L R T Q I') : HT d M L R T Q I := by
  obtain ⟨⟨h1, h2⟩, h3⟩ := id hS.2.1
  have h4 := hS.2.2.1
  have h5 := hS.2.2.2.2
  rw [List.length_cons] at h4 h5
  obtain ⟨q, hq⟩ : ∃ q, q = pile.length := ⟨_, rfl⟩
  rw [← hq] at h1 h2 h4 h5
  have h1 : I (M + 34) q = cI 0 := h1
  have h4 : I M 55 = cI ((q : Int) + 1) := h4
  unfold HT
  refine q_aload_n d_Model_tellAll_16 rfl ?_
  refine j_getI (v := (cI ((q : Int) + 1))) d_Model_tellAll_17 fl_Model_707 hM.1 ⟨rfl, by decide⟩ h4 ?_
  refine j_if_le (tgt := 136) d_Model_tellAll_20 (by decide) (by omega) (fun hx => by exfalso; omega) (fun hx => ?_)
  refine q_aload_n d_Model_tellAll_23 rfl ?_
  refine q_dup d_Model_tellAll_24 rfl ?_
  refine j_getI (v := (cI ((q : Int) + 1))) d_Model_tellAll_25 fl_Model_707 hM.1 ⟨rfl, by decide⟩ h4 ?_
  refine j_iconst d_Model_tellAll_28 ?_
  refine j_isub d_Model_tellAll_29 ?_
  refine q_putI d_Model_tellAll_30 fl_Model_707 hM.1 ⟨rfl, by decide, rfl, rfl⟩ ?_
  refine q_aload_n d_Model_tellAll_33 rfl ?_
  generalize hI1 : (up2 I M 55 (cI (((q : Int) + 1) - 1))) = I1
  rw [show (q : Int) + 1 - 1 = (q : Int) by omega] at hI1
  have s1 : TlS M I0 l pile I1 := hS.pop (by rw [← hI1, hq])
  refine q_getR d_Model_tellAll_34 fl_Model_112 hM.1 ⟨rfl, by decide⟩ (mR54 hM) ?_
  refine q_aload_n d_Model_tellAll_37 rfl ?_
  refine j_getI (v := (cI (q : Int))) d_Model_tellAll_38 fl_Model_707 hM.1 ⟨rfl, by decide⟩ (by rw [← hI1, up2_s]) ?_
  refine j_iald (j := q) (v := (cI 0)) d_Model_tellAll_41 (mT54 hM) (mN54 hM) (by omega) (by omega) (by omega) (by rw [← hI1, up2_a _ _ _ (by omega)]; exact h1) ?_
  refine q_istore_n (lv' := [(2, .int (cI 0)), (0, .ref M)]) d_Model_tellAll_42 (by decide) rfl ?_
  refine q_aload_n d_Model_tellAll_43 rfl ?_
  refine q_getR d_Model_tellAll_44 fl_Model_109 hM.1 ⟨rfl, by decide⟩ (mR53 hM) ?_
  refine q_aload_n d_Model_tellAll_47 rfl ?_
  refine j_getI (v := (cI (q : Int))) d_Model_tellAll_48 fl_Model_707 hM.1 ⟨rfl, by decide⟩ (by rw [← hI1, up2_s]) ?_
  refine j_iald (j := q) (v := (cI (n : Int))) d_Model_tellAll_51 (mT53 hM) (mN53 hM) (by omega) (by omega) (by omega) (by rw [← hI1, up2_a _ _ _ (by omega)]; exact h2) ?_
  refine q_istore_n (lv' := [(3, .int (cI (n : Int))), (2, .int (cI 0)), (0, .ref M)]) d_Model_tellAll_52 (by decide) rfl ?_
  refine q_iload_n d_Model_tellAll_53 rfl ?_
  refine j_if_ne (tgt := 65) d_Model_tellAll_54 (by decide) (by omega) (fun hx => by exfalso; omega) (fun hx => ?_)
  refine q_aload_n d_Model_tellAll_57 rfl ?_
  refine q_iload_n d_Model_tellAll_58 rfl ?_
  refine q_callV (ci := 17) (rc := 0) (rs := 0) (rest := []) d_Model_tellAll_59 ml_Model_730 ok_Model_tellNode rfl hM.1 (by decide) (hcall I1 s1) rfl rfl (by omega) (Nat.le_of_ble_eq_true rfl) (kv_V (fun J s2 => ?_)) kt_V
  refine q_goto (tgt := 133) d_Model_tellAll_62 (by decide) ?_
  refine q_goto (tgt := 16) d_Model_tellAll_133 (by decide) ?_
  have := kk _ s2
  unfold HT at this
  refine Run.lv (lv' := [(0, .ref M)]) (by intro q hq; simp only [List.mem_cons, List.not_mem_nil, or_false] at hq ⊢; subst hq; simp) ?_
  exact this
/-- a bracket -/
theorem ht_br {n b : Nat} (hM : MdlS M R T) (hS : TlS M I0 l ((b, n) :: pile) I) (hn : n < 5100) (hb : b = 1 ∨ b = 2) (hl : 0 < l.length) (hd : 5 ≤ d) (kk : ∀ I', TlS M I0 (wordL l [if b = 1 then 91 else 93]) pile I' → HT d M L R T Q I') : HT d M L R T Q I := by
  obtain ⟨⟨h1, h2⟩, h3⟩ := id hS.2.1
  have h4 := hS.2.2.1
  have h5 := hS.2.2.2.2
  rw [List.length_cons] at h4 h5
  obtain ⟨q, hq⟩ : ∃ q, q = pile.length := ⟨_, rfl⟩
  rw [← hq] at h1 h2 h4 h5
  have h4 : I M 55 = cI ((q : Int) + 1) := h4
  unfold HT
  refine q_aload_n d_Model_tellAll_16 rfl ?_
  refine j_getI (v := (cI ((q : Int) + 1))) d_Model_tellAll_17 fl_Model_707 hM.1 ⟨rfl, by decide⟩ h4 ?_
  refine j_if_le (tgt := 136) d_Model_tellAll_20 (by decide) (by omega) (fun hx => by exfalso; omega) (fun hx => ?_)
  refine q_aload_n d_Model_tellAll_23 rfl ?_
  refine q_dup d_Model_tellAll_24 rfl ?_
  refine j_getI (v := (cI ((q : Int) + 1))) d_Model_tellAll_25 fl_Model_707 hM.1 ⟨rfl, by decide⟩ h4 ?_
  refine j_iconst d_Model_tellAll_28 ?_
  refine j_isub d_Model_tellAll_29 ?_
  refine q_putI d_Model_tellAll_30 fl_Model_707 hM.1 ⟨rfl, by decide, rfl, rfl⟩ ?_
  refine q_aload_n d_Model_tellAll_33 rfl ?_
  generalize hI1 : (up2 I M 55 (cI (((q : Int) + 1) - 1))) = I1
  rw [show (q : Int) + 1 - 1 = (q : Int) by omega] at hI1
  have s1 : TlS M I0 l pile I1 := hS.pop (by rw [← hI1, hq])
  refine q_getR d_Model_tellAll_34 fl_Model_112 hM.1 ⟨rfl, by decide⟩ (mR54 hM) ?_
  refine q_aload_n d_Model_tellAll_37 rfl ?_
  refine j_getI (v := (cI (q : Int))) d_Model_tellAll_38 fl_Model_707 hM.1 ⟨rfl, by decide⟩ (by rw [← hI1, up2_s]) ?_
  refine j_iald (j := q) (v := (cI (b : Int))) d_Model_tellAll_41 (mT54 hM) (mN54 hM) (by omega) (by omega) (by omega) (by rw [← hI1, up2_a _ _ _ (by omega)]; exact h1) ?_
  refine q_istore_n (lv' := [(2, .int (cI (b : Int))), (0, .ref M)]) d_Model_tellAll_42 (by decide) rfl ?_
  refine q_aload_n d_Model_tellAll_43 rfl ?_
  refine q_getR d_Model_tellAll_44 fl_Model_109 hM.1 ⟨rfl, by decide⟩ (mR53 hM) ?_
  refine q_aload_n d_Model_tellAll_47 rfl ?_
  refine j_getI (v := (cI (q : Int))) d_Model_tellAll_48 fl_Model_707 hM.1 ⟨rfl, by decide⟩ (by rw [← hI1, up2_s]) ?_
  refine j_iald (j := q) (v := (cI (n : Int))) d_Model_tellAll_51 (mT53 hM) (mN53 hM) (by omega) (by omega) (by omega) (by rw [← hI1, up2_a _ _ _ (by omega)]; exact h2) ?_
  refine q_istore_n (lv' := [(3, .int (cI (n : Int))), (2, .int (cI (b : Int))), (0, .ref M)]) d_Model_tellAll_52 (by decide) rfl ?_
  refine q_iload_n d_Model_tellAll_53 rfl ?_
  refine j_if_ne (tgt := 65) d_Model_tellAll_54 (by decide) (by omega) (fun hx => ?_) (fun hx => by exfalso; omega)
  refine q_iload_n d_Model_tellAll_65 rfl ?_
  refine j_iconst d_Model_tellAll_66 ?_
  refine j_icmp_ge (tgt := 95) d_Model_tellAll_67 (by decide) (by omega) (by omega) (fun hx => by exfalso; omega) (fun hx => ?_)
  refine q_aload_n d_Model_tellAll_70 rfl ?_
  refine j_bipush d_Model_tellAll_71 (by decide) ?_
  refine q_callV (ci := 17) (rc := 0) (rs := 0) (rest := []) d_Model_tellAll_73 ml_Model_411 ok_Model_put rfl hM.1 (by decide) (c_Model_put (d - 1) (b := 32) hM s1.1) rfl rfl (by omega) (Nat.le_of_ble_eq_true rfl) (kv_V (fun J2 q2 => ?_)) kt_V
  have s2 := s1.out q2.1 q2.2
  refine q_aload_n d_Model_tellAll_76 rfl ?_
  refine q_iload_n d_Model_tellAll_77 rfl ?_
  refine j_iconst d_Model_tellAll_78 ?_
  suffices J : ∀ (u : Int), (((¬ (b : Int) = 1) ∧ u = 93) ∨ (((b : Int) = 1) ∧ u = 91)) → Run m_Model_tellAll d 0 0 89 [(0, .ref M), (2, .int (cI (b : Int))), (3, .int (cI (n : Int)))] [.int (cI u), .ref M] J2 L R T Q by
    refine j_icmp_ne (tgt := 87) d_Model_tellAll_79 (by decide) (by omega) (by omega) (fun hp1 => ?_) (fun hp1 => ?_)
    · refine j_bipush d_Model_tellAll_87 (by decide) ?_
      refine Run.lv (lv' := [(0, .ref M), (2, .int (cI (b : Int))), (3, .int (cI (n : Int)))]) (by intro q hq; simp only [List.mem_cons, List.not_mem_nil, or_false] at hq ⊢; rcases hq with rfl | rfl | rfl <;> simp) ?_
      exact J _ (Or.inl ⟨hp1, rfl⟩)
    · refine j_bipush d_Model_tellAll_82 (by decide) ?_
      refine q_goto (tgt := 89) d_Model_tellAll_84 (by decide) ?_
      refine Run.lv (lv' := [(0, .ref M), (2, .int (cI (b : Int))), (3, .int (cI (n : Int)))]) (by intro q hq; simp only [List.mem_cons, List.not_mem_nil, or_false] at hq ⊢; rcases hq with rfl | rfl | rfl <;> simp) ?_
      exact J _ (Or.inr ⟨hp1, rfl⟩)
  intro u hu
  obtain ⟨x, hx, hx2⟩ : ∃ x : Nat, u = (x : Int) ∧ x = if b = 1 then 91 else 93 := ⟨if b = 1 then 91 else 93, by split <;> omega, rfl⟩
  subst hx
  refine q_callV (ci := 17) (rc := 0) (rs := 0) (rest := []) d_Model_tellAll_89 ml_Model_411 ok_Model_put rfl hM.1 (by decide) (c_Model_put (d - 1) (b := x) hM s2.1) rfl rfl (by omega) (Nat.le_of_ble_eq_true rfl) (kv_V (fun J3 q3 => ?_)) kt_V
  have s3 := s2.out q3.1 q3.2
  refine q_goto (tgt := 133) d_Model_tellAll_92 (by decide) ?_
  refine q_goto (tgt := 16) d_Model_tellAll_133 (by decide) ?_
  have := kk _ (by rw [wordL_32 hl, ← hx2]; exact s3)
  unfold HT at this
  refine Run.lv (lv' := [(0, .ref M)]) (by intro q hq; simp only [List.mem_cons, List.not_mem_nil, or_false] at hq ⊢; subst hq; simp) ?_
  exact this
/-- the time of a when -/
theorem ht_tm {n : Nat} (hM : MdlS M R T) (hS : TlS M I0 l ((3, n) :: pile) I) (hr : RowM I0 L M tp pt V n (ρ n)) (hn : n < 5100) (hk : (ρ n).getD 0 0 = 5) (htm : (∃ x : Nat, (ρ n).getD 5 0 = (x : Int) ∧ nmO x ∧ (ρ n).getD 8 0 = -1) ∨ ((ρ n).getD 5 0 = 0 ∧ ∃ m : Nat, (ρ n).getD 8 0 = (m : Int))) (hl : 0 < l.length) (hd : 5 ≤ d) (kk : ∀ I', TlS M I0 (if (ρ n).getD 8 0 = -1 then wordL l (63 :: nmL ((ρ n).getD 5 0).toNat) else wordL l (nuL (V ((ρ n).getD 8 0).toNat))) pile I' → HT d M L R T Q I') : HT d M L R T Q I := by
  obtain ⟨⟨h1, h2⟩, h3⟩ := id hS.2.1
  have h4 := hS.2.2.1
  have h5 := hS.2.2.2.2
  rw [List.length_cons] at h4 h5
  obtain ⟨q, hq⟩ : ∃ q, q = pile.length := ⟨_, rfl⟩
  rw [← hq] at h1 h2 h4 h5
  have h1 : I (M + 34) q = cI 3 := h1
  have h4 : I M 55 = cI ((q : Int) + 1) := h4
  unfold HT
  refine q_aload_n d_Model_tellAll_16 rfl ?_
  refine j_getI (v := (cI ((q : Int) + 1))) d_Model_tellAll_17 fl_Model_707 hM.1 ⟨rfl, by decide⟩ h4 ?_
  refine j_if_le (tgt := 136) d_Model_tellAll_20 (by decide) (by omega) (fun hx => by exfalso; omega) (fun hx => ?_)
  refine q_aload_n d_Model_tellAll_23 rfl ?_
  refine q_dup d_Model_tellAll_24 rfl ?_
  refine j_getI (v := (cI ((q : Int) + 1))) d_Model_tellAll_25 fl_Model_707 hM.1 ⟨rfl, by decide⟩ h4 ?_
  refine j_iconst d_Model_tellAll_28 ?_
  refine j_isub d_Model_tellAll_29 ?_
  refine q_putI d_Model_tellAll_30 fl_Model_707 hM.1 ⟨rfl, by decide, rfl, rfl⟩ ?_
  refine q_aload_n d_Model_tellAll_33 rfl ?_
  generalize hI1 : (up2 I M 55 (cI (((q : Int) + 1) - 1))) = I1
  rw [show (q : Int) + 1 - 1 = (q : Int) by omega] at hI1
  have s1 : TlS M I0 l pile I1 := hS.pop (by rw [← hI1, hq])
  have hrI := hr.tl s1
  obtain ⟨w1, w2⟩ := hrI.2.2.1 hk
  rcases htm with ⟨x, e1, e2, e3⟩ | ⟨e1, m, e2⟩
  · rw [if_pos ⟨e3, by rw [e1]; have := e2.1; omega⟩] at w1
    refine q_getR d_Model_tellAll_34 fl_Model_112 hM.1 ⟨rfl, by decide⟩ (mR54 hM) ?_
    refine q_aload_n d_Model_tellAll_37 rfl ?_
    refine j_getI (v := (cI (q : Int))) d_Model_tellAll_38 fl_Model_707 hM.1 ⟨rfl, by decide⟩ (by rw [← hI1, up2_s]) ?_
    refine j_iald (j := q) (v := (cI 3)) d_Model_tellAll_41 (mT54 hM) (mN54 hM) (by omega) (by omega) (by omega) (by rw [← hI1, up2_a _ _ _ (by omega)]; exact h1) ?_
    refine q_istore_n (lv' := [(2, .int (cI 3)), (0, .ref M)]) d_Model_tellAll_42 (by decide) rfl ?_
    refine q_aload_n d_Model_tellAll_43 rfl ?_
    refine q_getR d_Model_tellAll_44 fl_Model_109 hM.1 ⟨rfl, by decide⟩ (mR53 hM) ?_
    refine q_aload_n d_Model_tellAll_47 rfl ?_
    refine j_getI (v := (cI (q : Int))) d_Model_tellAll_48 fl_Model_707 hM.1 ⟨rfl, by decide⟩ (by rw [← hI1, up2_s]) ?_
    refine j_iald (j := q) (v := (cI (n : Int))) d_Model_tellAll_51 (mT53 hM) (mN53 hM) (by omega) (by omega) (by omega) (by rw [← hI1, up2_a _ _ _ (by omega)]; exact h2) ?_
    refine q_istore_n (lv' := [(3, .int (cI (n : Int))), (2, .int (cI 3)), (0, .ref M)]) d_Model_tellAll_52 (by decide) rfl ?_
    refine q_iload_n d_Model_tellAll_53 rfl ?_
    refine j_if_ne (tgt := 65) d_Model_tellAll_54 (by decide) (by omega) (fun hx => ?_) (fun hx => by exfalso; omega)
    refine q_iload_n d_Model_tellAll_65 rfl ?_
    refine j_iconst d_Model_tellAll_66 ?_
    refine j_icmp_ge (tgt := 95) d_Model_tellAll_67 (by decide) (by omega) (by omega) (fun hx => ?_) (fun hx => by exfalso; omega)
    refine q_aload_n d_Model_tellAll_95 rfl ?_
    refine q_getR d_Model_tellAll_96 fl_Model_57 hM.1 ⟨rfl, by decide⟩ (mR29 hM) ?_
    refine q_iload_n d_Model_tellAll_99 rfl ?_
    refine j_zald (j := n) (v := (cI 1)) d_Model_tellAll_100 (mT29 hM) (mN29 hM) (by omega) (by omega) (by omega) w1 ?_
    refine j_if_eq (tgt := 117) d_Model_tellAll_101 (by decide) (by omega) (fun hx => by exfalso; omega) (fun hx => ?_)
    refine q_aload_n d_Model_tellAll_104 rfl ?_
    refine q_aload_n d_Model_tellAll_105 rfl ?_
    refine q_getR d_Model_tellAll_106 fl_Model_29 hM.1 ⟨rfl, by decide⟩ (mR20 hM) ?_
    refine q_iload_n d_Model_tellAll_109 rfl ?_
    refine j_lald (j := n) (v := (cL (x : Int))) d_Model_tellAll_110 (mT20 hM) (mN20 hM) (by omega) (by omega) (by omega) (hrI.1.2.2.2.2.2.1.trans (by rw [e1])) ?_
    refine q_callV (ci := 17) (rc := 0) (rs := 0) (rest := []) d_Model_tellAll_111 ml_Model_724 ok_Model_putAsked rfl hM.1 (by decide) (c_Model_putAsked (d - 1) (by omega) hM s1.1 e2) rfl rfl (by omega) (Nat.le_of_ble_eq_true rfl) (kv_V (fun J2 q2 => ?_)) kt_V
    have s2 := s1.out q2.1 q2.2
    refine q_goto (tgt := 133) d_Model_tellAll_114 (by decide) ?_
    refine q_goto (tgt := 16) d_Model_tellAll_133 (by decide) ?_
    have := kk _ (by rw [if_pos e3, e1, Int.toNat_natCast]; exact s2)
    unfold HT at this
    refine Run.lv (lv' := [(0, .ref M)]) (by intro q hq; simp only [List.mem_cons, List.not_mem_nil, or_false] at hq ⊢; subst hq; simp) ?_
    exact this
  · rw [if_neg (fun q => q.2 e1)] at w1
    have w3 := w2 (by omega)
    rw [e2, Int.toNat_natCast] at w3
    obtain ⟨v, hv, hv2⟩ : ∃ v : Nat, V m = (v : Int) ∧ v < 10 ^ 18 := ⟨(V m).toNat, by omega, by omega⟩
    rw [hv] at w3
    refine q_getR d_Model_tellAll_34 fl_Model_112 hM.1 ⟨rfl, by decide⟩ (mR54 hM) ?_
    refine q_aload_n d_Model_tellAll_37 rfl ?_
    refine j_getI (v := (cI (q : Int))) d_Model_tellAll_38 fl_Model_707 hM.1 ⟨rfl, by decide⟩ (by rw [← hI1, up2_s]) ?_
    refine j_iald (j := q) (v := (cI 3)) d_Model_tellAll_41 (mT54 hM) (mN54 hM) (by omega) (by omega) (by omega) (by rw [← hI1, up2_a _ _ _ (by omega)]; exact h1) ?_
    refine q_istore_n (lv' := [(2, .int (cI 3)), (0, .ref M)]) d_Model_tellAll_42 (by decide) rfl ?_
    refine q_aload_n d_Model_tellAll_43 rfl ?_
    refine q_getR d_Model_tellAll_44 fl_Model_109 hM.1 ⟨rfl, by decide⟩ (mR53 hM) ?_
    refine q_aload_n d_Model_tellAll_47 rfl ?_
    refine j_getI (v := (cI (q : Int))) d_Model_tellAll_48 fl_Model_707 hM.1 ⟨rfl, by decide⟩ (by rw [← hI1, up2_s]) ?_
    refine j_iald (j := q) (v := (cI (n : Int))) d_Model_tellAll_51 (mT53 hM) (mN53 hM) (by omega) (by omega) (by omega) (by rw [← hI1, up2_a _ _ _ (by omega)]; exact h2) ?_
    refine q_istore_n (lv' := [(3, .int (cI (n : Int))), (2, .int (cI 3)), (0, .ref M)]) d_Model_tellAll_52 (by decide) rfl ?_
    refine q_iload_n d_Model_tellAll_53 rfl ?_
    refine j_if_ne (tgt := 65) d_Model_tellAll_54 (by decide) (by omega) (fun hx => ?_) (fun hx => by exfalso; omega)
    refine q_iload_n d_Model_tellAll_65 rfl ?_
    refine j_iconst d_Model_tellAll_66 ?_
    refine j_icmp_ge (tgt := 95) d_Model_tellAll_67 (by decide) (by omega) (by omega) (fun hx => ?_) (fun hx => by exfalso; omega)
    refine q_aload_n d_Model_tellAll_95 rfl ?_
    refine q_getR d_Model_tellAll_96 fl_Model_57 hM.1 ⟨rfl, by decide⟩ (mR29 hM) ?_
    refine q_iload_n d_Model_tellAll_99 rfl ?_
    refine j_zald (j := n) (v := (cI 0)) d_Model_tellAll_100 (mT29 hM) (mN29 hM) (by omega) (by omega) (by omega) w1 ?_
    refine j_if_eq (tgt := 117) d_Model_tellAll_101 (by decide) (by omega) (fun hx => ?_) (fun hx => by exfalso; omega)
    refine q_aload_n d_Model_tellAll_117 rfl ?_
    refine j_bipush d_Model_tellAll_118 (by decide) ?_
    refine q_callV (ci := 17) (rc := 0) (rs := 0) (rest := []) d_Model_tellAll_120 ml_Model_411 ok_Model_put rfl hM.1 (by decide) (c_Model_put (d - 1) (b := 32) hM s1.1) rfl rfl (by omega) (Nat.le_of_ble_eq_true rfl) (kv_V (fun J2 q2 => ?_)) kt_V
    have s2 := s1.out q2.1 q2.2
    refine q_aload_n d_Model_tellAll_123 rfl ?_
    refine q_aload_n d_Model_tellAll_124 rfl ?_
    refine q_getR d_Model_tellAll_125 fl_Model_54 hM.1 ⟨rfl, by decide⟩ (mR28 hM) ?_
    refine q_iload_n d_Model_tellAll_128 rfl ?_
    refine j_lald (j := n) (v := (cL (v : Int))) d_Model_tellAll_129 (mT28 hM) (mN28 hM) (by omega) (by omega) (by omega) w3.1 ?_
    refine q_callV (ci := 17) (rc := 0) (rs := 0) (rest := []) d_Model_tellAll_130 ml_Model_733 ok_Model_putLong rfl hM.1 (by decide) (c_Model_putLong (d - 1) (by omega) hM s2.1 hv2) rfl rfl (by omega) (Nat.le_of_ble_eq_true rfl) (kv_V (fun J3 q3 => ?_)) kt_V
    obtain ⟨dn1, dd1, v2, f2⟩ := q3
    rw [nuL_eq (v := (v : Int)) (by rw [Int.natAbs_natCast]; exact dd1), ← wordL_32 hl] at v2
    have s3 := s2.out v2 f2
    refine q_goto (tgt := 16) d_Model_tellAll_133 (by decide) ?_
    have := kk _ (by rw [if_neg (by omega), e2, Int.toNat_natCast, hv]; exact s3)
    unfold HT at this
    refine Run.lv (lv' := [(0, .ref M)]) (by intro q hq; simp only [List.mem_cons, List.not_mem_nil, or_false] at hq ⊢; subst hq; simp) ?_
    exact this
/-- what the pile does with a node that may be there -/
theorem ht_ch {f lo hi mh : Nat} {c : Int} (ih : ∀ s n m n' m' l pile I, Wf ρ V f s n m n' m' → lo < n → n' ≤ hi → m' ≤ mh → pile.length + 5 * f ≤ 5000 → TlS M I0 l ((0, n) :: pile) I → (∀ I', TlS M I0 (prN ρ V f n l) pile I' → HT d M L R T Q I') → HT d M L R T Q I) (hc : c = -1 ∨ ChO ρ V f lo hi mh c) (hp : pile.length + 5 * f ≤ 5000) (hS : TlS M I0 l (layL 0 c pile) I) (kk : ∀ I', TlS M I0 (chP (prN ρ V f) c l) pile I' → HT d M L R T Q I') : HT d M L R T Q I := by
  by_cases h0 : c = -1
  · unfold layL at hS
    rw [if_pos h0] at hS
    refine kk I ?_
    unfold chP
    rw [if_pos h0]; exact hS
  · rcases hc with hc | ⟨k, s, m, n', m', e, h1, h2, h3, h4⟩
    · exact absurd hc h0
    · rw [e, layL_n] at hS
      refine ih s k m n' m' l pile I h4 h1 h2 h3 hp hS fun I' hI' => kk I' ?_
      unfold chP
      rw [if_neg h0, e, Int.toNat_natCast]; exact hI'
end

