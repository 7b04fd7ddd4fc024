/-! ===== 90 THE COMPONENT'S READER: pay ===== -/
theorem d_Nodes_pay_0 : decode m_Nodes_pay.2.1 0 = .ok (.aload_n 0, 1) := by decide +kernel
theorem d_Nodes_pay_1 : decode m_Nodes_pay.2.1 1 = .ok (.getfield 37, 3) := by decide +kernel
theorem d_Nodes_pay_4 : decode m_Nodes_pay.2.1 4 = .ok (.iload_n 1, 1) := by decide +kernel
theorem d_Nodes_pay_5 : decode m_Nodes_pay.2.1 5 = .ok (.aload_n 0, 1) := by decide +kernel
theorem d_Nodes_pay_6 : decode m_Nodes_pay.2.1 6 = .ok (.getfield 3, 3) := by decide +kernel
theorem d_Nodes_pay_9 : decode m_Nodes_pay.2.1 9 = .ok (.getfield 83, 3) := by decide +kernel
theorem d_Nodes_pay_12 : decode m_Nodes_pay.2.1 12 = .ok (.invokevirtual 125, 3) := by decide +kernel
theorem d_Nodes_pay_15 : decode m_Nodes_pay.2.1 15 = .ok (.lastore, 1) := by decide +kernel
theorem d_Nodes_pay_16 : decode m_Nodes_pay.2.1 16 = .ok (.aload_n 0, 1) := by decide +kernel
theorem d_Nodes_pay_17 : decode m_Nodes_pay.2.1 17 = .ok (.getfield 3, 3) := by decide +kernel
theorem d_Nodes_pay_20 : decode m_Nodes_pay.2.1 20 = .ok (.getfield 83, 3) := by decide +kernel
theorem d_Nodes_pay_23 : decode m_Nodes_pay.2.1 23 = .ok (.getfield 100, 3) := by decide +kernel
theorem d_Nodes_pay_26 : decode m_Nodes_pay.2.1 26 = .ok (.iconst 3, 1) := by decide +kernel
theorem d_Nodes_pay_27 : decode m_Nodes_pay.2.1 27 = .ok (.if_icmp .ne 7, 3) := by decide +kernel
theorem d_Nodes_pay_30 : decode m_Nodes_pay.2.1 30 = .ok (.iconst 1, 1) := by decide +kernel
theorem d_Nodes_pay_31 : decode m_Nodes_pay.2.1 31 = .ok (.goto 4, 3) := by decide +kernel
theorem d_Nodes_pay_34 : decode m_Nodes_pay.2.1 34 = .ok (.iconst 0, 1) := by decide +kernel
theorem d_Nodes_pay_35 : decode m_Nodes_pay.2.1 35 = .ok (.istore_n 3, 1) := by decide +kernel
theorem d_Nodes_pay_36 : decode m_Nodes_pay.2.1 36 = .ok (.aload_n 0, 1) := by decide +kernel
theorem d_Nodes_pay_37 : decode m_Nodes_pay.2.1 37 = .ok (.getfield 3, 3) := by decide +kernel
theorem d_Nodes_pay_40 : decode m_Nodes_pay.2.1 40 = .ok (.getfield 83, 3) := by decide +kernel
theorem d_Nodes_pay_43 : decode m_Nodes_pay.2.1 43 = .ok (.iload_n 3, 1) := by decide +kernel
theorem d_Nodes_pay_44 : decode m_Nodes_pay.2.1 44 = .ok (.ifCond .eq 7, 3) := by decide +kernel
theorem d_Nodes_pay_47 : decode m_Nodes_pay.2.1 47 = .ok (.iconst 3, 1) := by decide +kernel
theorem d_Nodes_pay_48 : decode m_Nodes_pay.2.1 48 = .ok (.goto 4, 3) := by decide +kernel
theorem d_Nodes_pay_51 : decode m_Nodes_pay.2.1 51 = .ok (.iconst 2, 1) := by decide +kernel
theorem d_Nodes_pay_52 : decode m_Nodes_pay.2.1 52 = .ok (.invokevirtual 105, 3) := by decide +kernel
theorem d_Nodes_pay_55 : decode m_Nodes_pay.2.1 55 = .ok (.aload_n 0, 1) := by decide +kernel
theorem d_Nodes_pay_56 : decode m_Nodes_pay.2.1 56 = .ok (.getfield 25, 3) := by decide +kernel
theorem d_Nodes_pay_59 : decode m_Nodes_pay.2.1 59 = .ok (.iload_n 1, 1) := by decide +kernel
theorem d_Nodes_pay_60 : decode m_Nodes_pay.2.1 60 = .ok (.iload_n 3, 1) := by decide +kernel
theorem d_Nodes_pay_61 : decode m_Nodes_pay.2.1 61 = .ok (.ifCond .eq 7, 3) := by decide +kernel
theorem d_Nodes_pay_64 : decode m_Nodes_pay.2.1 64 = .ok (.iconst 1, 1) := by decide +kernel
theorem d_Nodes_pay_65 : decode m_Nodes_pay.2.1 65 = .ok (.goto 4, 3) := by decide +kernel
theorem d_Nodes_pay_68 : decode m_Nodes_pay.2.1 68 = .ok (.iconst 0, 1) := by decide +kernel
theorem d_Nodes_pay_69 : decode m_Nodes_pay.2.1 69 = .ok (.iastore, 1) := by decide +kernel
theorem d_Nodes_pay_70 : decode m_Nodes_pay.2.1 70 = .ok (.aload_n 0, 1) := by decide +kernel
theorem d_Nodes_pay_71 : decode m_Nodes_pay.2.1 71 = .ok (.getfield 41, 3) := by decide +kernel
theorem d_Nodes_pay_74 : decode m_Nodes_pay.2.1 74 = .ok (.iload_n 1, 1) := by decide +kernel
theorem d_Nodes_pay_75 : decode m_Nodes_pay.2.1 75 = .ok (.aload_n 0, 1) := by decide +kernel
theorem d_Nodes_pay_76 : decode m_Nodes_pay.2.1 76 = .ok (.getfield 3, 3) := by decide +kernel
theorem d_Nodes_pay_79 : decode m_Nodes_pay.2.1 79 = .ok (.getfield 83, 3) := by decide +kernel
theorem d_Nodes_pay_82 : decode m_Nodes_pay.2.1 82 = .ok (.invokevirtual 125, 3) := by decide +kernel
theorem d_Nodes_pay_85 : decode m_Nodes_pay.2.1 85 = .ok (.lastore, 1) := by decide +kernel
theorem d_Nodes_pay_86 : decode m_Nodes_pay.2.1 86 = .ok (.aload_n 0, 1) := by decide +kernel
theorem d_Nodes_pay_87 : decode m_Nodes_pay.2.1 87 = .ok (.getfield 44, 3) := by decide +kernel
theorem d_Nodes_pay_90 : decode m_Nodes_pay.2.1 90 = .ok (.iload_n 1, 1) := by decide +kernel
theorem d_Nodes_pay_91 : decode m_Nodes_pay.2.1 91 = .ok (.aload_n 0, 1) := by decide +kernel
theorem d_Nodes_pay_92 : decode m_Nodes_pay.2.1 92 = .ok (.getfield 3, 3) := by decide +kernel
theorem d_Nodes_pay_95 : decode m_Nodes_pay.2.1 95 = .ok (.getfield 83, 3) := by decide +kernel
theorem d_Nodes_pay_98 : decode m_Nodes_pay.2.1 98 = .ok (.invokevirtual 125, 3) := by decide +kernel
theorem d_Nodes_pay_101 : decode m_Nodes_pay.2.1 101 = .ok (.lastore, 1) := by decide +kernel
theorem d_Nodes_pay_102 : decode m_Nodes_pay.2.1 102 = .ok (.aload_n 0, 1) := by decide +kernel
theorem d_Nodes_pay_103 : decode m_Nodes_pay.2.1 103 = .ok (.getfield 19, 3) := by decide +kernel
theorem d_Nodes_pay_106 : decode m_Nodes_pay.2.1 106 = .ok (.iload_n 1, 1) := by decide +kernel
theorem d_Nodes_pay_107 : decode m_Nodes_pay.2.1 107 = .ok (.aload_n 0, 1) := by decide +kernel
theorem d_Nodes_pay_108 : decode m_Nodes_pay.2.1 108 = .ok (.iload_n 2, 1) := by decide +kernel
theorem d_Nodes_pay_109 : decode m_Nodes_pay.2.1 109 = .ok (.iconst 1, 1) := by decide +kernel
theorem d_Nodes_pay_110 : decode m_Nodes_pay.2.1 110 = .ok (.iadd, 1) := by decide +kernel
theorem d_Nodes_pay_111 : decode m_Nodes_pay.2.1 111 = .ok (.invokevirtual 129, 3) := by decide +kernel
theorem d_Nodes_pay_114 : decode m_Nodes_pay.2.1 114 = .ok (.iastore, 1) := by decide +kernel
theorem d_Nodes_pay_115 : decode m_Nodes_pay.2.1 115 = .ok (.aload_n 0, 1) := by decide +kernel
theorem d_Nodes_pay_116 : decode m_Nodes_pay.2.1 116 = .ok (.getfield 22, 3) := by decide +kernel
theorem d_Nodes_pay_119 : decode m_Nodes_pay.2.1 119 = .ok (.iload_n 1, 1) := by decide +kernel
theorem d_Nodes_pay_120 : decode m_Nodes_pay.2.1 120 = .ok (.aload_n 0, 1) := by decide +kernel
theorem d_Nodes_pay_121 : decode m_Nodes_pay.2.1 121 = .ok (.iload_n 2, 1) := by decide +kernel
theorem d_Nodes_pay_122 : decode m_Nodes_pay.2.1 122 = .ok (.iconst 1, 1) := by decide +kernel
theorem d_Nodes_pay_123 : decode m_Nodes_pay.2.1 123 = .ok (.iadd, 1) := by decide +kernel
theorem d_Nodes_pay_124 : decode m_Nodes_pay.2.1 124 = .ok (.invokevirtual 93, 3) := by decide +kernel
theorem d_Nodes_pay_127 : decode m_Nodes_pay.2.1 127 = .ok (.iastore, 1) := by decide +kernel
theorem d_Nodes_pay_128 : decode m_Nodes_pay.2.1 128 = .ok (.return_, 1) := by decide +kernel
theorem c_Nodes_pay {P w o D N Z g F f dep i n m sz a : Nat} {t : Nat → Nat} {V : Nat → Int} {row : Row} {I : M32} {L : M64} {R : MR} {T : SH} (d : Nat) (ihV : RdOk P w o D N Z g F t m_Nodes_value y_Nodes_value 2 f) (ihC : RdOk P w o D N Z g F t m_Nodes_contract y_Nodes_contract 1 f) (hd : 3 * f + 10 ≤ d) (h102 : 102 ≤ f + (dep + 1)) (h101 : dep + 1 ≤ 101) (hC : CS P w o D N Z g t a n m sz V I L R T) (hr : RowC I L D i row ∧ row.length = 11) (hi : i < n) (hB : m + (itsC (itmC (tkP t N) g (psC (tkP t N) g F f) dep) (itC 1) row n m a).1 ≤ 60000) :
    Call m_Nodes_pay y_Nodes_pay d (rmC sz (m + (itsC (itmC (tkP t N) g (psC (tkP t N) g F f) dep) (itC 1) row n m a).1)) (rmS sz (m + (itsC (itmC (tkP t N) g (psC (tkP t N) g F f) dep) (itC 1) row n m a).1)) [.ref D, .int (cI (i : Int)), .int (cI (dep : Int))] I L R T (ItQ P w o D N Z g t i n m sz V (itsC (itmC (tkP t N) g (psC (tkP t N) g F f) dep) (itC 1) row n m a) I L R T) := by
  obtain ⟨tot, htot⟩ : ∃ tot, tot = itsC (itmC (tkP t N) g (psC (tkP t N) g F f) dep) (itC 1) row n m a := ⟨_, rfl⟩
  rw [← htot] at hB ⊢
  refine Call.ofRun (by decide) ⟨rfl, rfl⟩ (Nat.le_of_ble_eq_true rfl) ?_
  refine Run.gen fun Q hQ => ?_
  have hE := EQ9.it hQ
  have hW3 := WK.start0 hC hr hi
  have hly := hW3.lay
  have hms := hC.1.2.2.2.1.lt
  have hR3 : RsC tot (itmC (tkP t N) g (psC (tkP t N) g F f) dep) n m okC [(4, 1), (6, 0), (4, 2), (4, 3), (2, 1), (1, 2)] row [] [] a := by rw [htot]; exact RsC.init
  refine Run.more (rc := rmC (max sz (m + ([] : List Int).length)) (m + tot.1)) (rs := rmS (max sz (m + ([] : List Int).length)) (m + tot.1)) ?_ (by rw [show max sz (m + ([] : List Int).length) = sz from by show max sz (m + 0) = sz; omega]; exact Nat.le_refl _) (by rw [show max sz (m + ([] : List Int).length) = sz from by show max sz (m + 0) = sz; omega]; exact Nat.le_refl _)
  have hkr3 := WK_kr hW3
  refine q_aload_n d_Nodes_pay_0 rfl ?_
  refine q_getR d_Nodes_pay_1 fl_Nodes_37 hW3.nd.1 ⟨rfl, by decide⟩ (nR7 hW3.nd) ?_
  refine q_iload_n d_Nodes_pay_4 rfl ?_
  refine q_aload_n d_Nodes_pay_5 rfl ?_
  refine q_getR d_Nodes_pay_6 fl_Nodes_3 hW3.nd.1 ⟨rfl, by decide⟩ hW3.nd.2.2 ?_
  refine q_getR d_Nodes_pay_9 fl_Nodes_83 hW3.pt ⟨rfl, by decide⟩ hW3.po ?_
  refine q_nm (dd := d - 1) hW3 hR3 (fun _ _ _ _ => rfl) (Or.inl rfl) d_Nodes_pay_12 d_Nodes_pay_15 ml_Nodes_125 rfl (by omega) (by omega) (Nat.le_of_ble_eq_true rfl) hE (fun a4 row4 I4 L4 hW4 hR4 hro4 => ?_)
  have hkr4 := WK_kr hW4
  refine q_aload_n d_Nodes_pay_16 rfl ?_
  refine q_getR d_Nodes_pay_17 fl_Nodes_3 hW4.nd.1 ⟨rfl, by decide⟩ hW4.nd.2.2 ?_
  refine q_getR d_Nodes_pay_20 fl_Nodes_83 hW4.pt ⟨rfl, by decide⟩ hW4.po ?_
  refine j_getI (v := (cI (tk (tkP t N) a4))) d_Nodes_pay_23 fl_Nodes_100 hW4.tks.1 ⟨rfl, by decide⟩ (WK_kd hW4) ?_
  refine j_iconst d_Nodes_pay_26 ?_
  suffices J : ∀ (u : Int), (((¬ (tk (tkP t N) a4) = 3) ∧ u = 0) ∨ (((tk (tkP t N) a4) = 3) ∧ u = 1)) → Run m_Nodes_pay d (rmC (max sz (m + ([] : List Int).length)) (m + tot.1)) (rmS (max sz (m + ([] : List Int).length)) (m + tot.1)) 35 [(0, .ref D), (1, .int (cI (i : Int))), (2, .int (cI (dep : Int)))] [.int (cI u)] I4 L4 R T Q by
    refine j_icmp_ne (tgt := 34) d_Nodes_pay_27 (by decide) (by omega) (by omega) (fun hp1 => ?_) (fun hp1 => ?_)
    · refine j_iconst d_Nodes_pay_34 ?_
      exact J _ (Or.inl ⟨hp1, rfl⟩)
    · refine j_iconst d_Nodes_pay_30 ?_
      refine q_goto (tgt := 35) d_Nodes_pay_31 (by decide) ?_
      exact J _ (Or.inr ⟨hp1, rfl⟩)
  intro u hu
  have hu1 : u = if tk (tkP t N) a4 = 3 then 1 else 0 := by split <;> omega
  refine q_istore_n (lv' := [(3, .int (cI u)), (0, .ref D), (1, .int (cI (i : Int))), (2, .int (cI (dep : Int)))]) d_Nodes_pay_35 (by decide) rfl ?_
  refine q_aload_n d_Nodes_pay_36 rfl ?_
  refine q_getR d_Nodes_pay_37 fl_Nodes_3 hW4.nd.1 ⟨rfl, by decide⟩ hW4.nd.2.2 ?_
  refine q_getR d_Nodes_pay_40 fl_Nodes_83 hW4.pt ⟨rfl, by decide⟩ hW4.po ?_
  refine q_iload_n d_Nodes_pay_43 rfl ?_
  suffices J : ∀ (u2 : Int), (((u = 0) ∧ u2 = 2) ∨ ((¬ u = 0) ∧ u2 = 3)) → Run m_Nodes_pay d (rmC (max sz (m + ([] : List Int).length)) (m + tot.1)) (rmS (max sz (m + ([] : List Int).length)) (m + tot.1)) 52 [(0, .ref D), (1, .int (cI (i : Int))), (2, .int (cI (dep : Int))), (3, .int (cI u))] [.int (cI u2), .ref o] I4 L4 R T Q by
    refine j_if_eq (tgt := 51) d_Nodes_pay_44 (by decide) (by omega) (fun hp2 => ?_) (fun hp2 => ?_)
    · refine j_iconst d_Nodes_pay_51 ?_
      refine Run.lv (lv' := [(0, .ref D), (1, .int (cI (i : Int))), (2, .int (cI (dep : Int))), (3, .int (cI u))]) (by intro q hq; simp only [List.mem_cons, List.not_mem_nil, or_false] at hq ⊢; rcases hq with rfl | rfl | rfl | rfl <;> simp) ?_
      exact J _ (Or.inl ⟨hp2, rfl⟩)
    · refine j_iconst d_Nodes_pay_47 ?_
      refine q_goto (tgt := 52) d_Nodes_pay_48 (by decide) ?_
      refine Run.lv (lv' := [(0, .ref D), (1, .int (cI (i : Int))), (2, .int (cI (dep : Int))), (3, .int (cI u))]) (by intro q hq; simp only [List.mem_cons, List.not_mem_nil, or_false] at hq ⊢; rcases hq with rfl | rfl | rfl | rfl <;> simp) ?_
      exact J _ (Or.inr ⟨hp2, rfl⟩)
  intro u2 hu2
  have hu3 : u2 = if tk (tkP t N) a4 = 3 then 3 else 2 := by split <;> (split at hu1) <;> omega
  have hit6 : itmC (tkP t N) g (psC (tkP t N) g F f) dep 6 0 row4 (n + ([] : List Row).length) (m + ([] : List Int).length) a4 = bdC (lfC (wn (tkP t N) (if tk (tkP t N) a4 = 3 then 3 else 2) a4)) fun a' => okC (a', row4.set 3 (if tk (tkP t N) a4 = 3 then 1 else 0), [], []) := rfl
  rw [← hu1, ← hu3] at hit6
  refine q_tk (as := [.int (cI u2)]) (st := []) hW4 d_Nodes_pay_52 ml_Nodes_105 ok_Tokens_want rfl rfl (c_Tokens_wantT (d := d - 1) (due := u2) (by omega) hW4.tks hW4.pt hW4.1.1.1.2.1 hW4.1.1.1.2.2.2.1 hW4.1.1.2.1 hW4.1.2.1 (by omega)) rfl rfl (by omega) (Nat.le_of_ble_eq_true rfl) hE (fun e hr => hR4.er (c := 0) (by rw [hit6, hr]; rfl)) (fun a5 I5 L5 hr5 hW5 => ?_)
  have hkr5 := WK_kr hW5
  have hR5 := hR4.ok (c := 0) (a' := a5) (row' := row4.set 3 u) (rs' := []) (nums' := []) (by rw [hit6, hr5]; rfl) rfl
  rw [List.append_nil, List.append_nil] at hR5
  refine q_aload_n d_Nodes_pay_55 rfl ?_
  refine q_getR d_Nodes_pay_56 fl_Nodes_25 hW5.nd.1 ⟨rfl, by decide⟩ (nR3 hW5.nd) ?_
  refine q_iload_n d_Nodes_pay_59 rfl ?_
  refine q_iload_n d_Nodes_pay_60 rfl ?_
  suffices J : ∀ (u3 : Int), (((u = 0) ∧ u3 = 0) ∨ ((¬ u = 0) ∧ u3 = 1)) → Run m_Nodes_pay d (rmC (max sz (m + ([] : List Int).length)) (m + tot.1)) (rmS (max sz (m + ([] : List Int).length)) (m + tot.1)) 69 [(0, .ref D), (1, .int (cI (i : Int))), (2, .int (cI (dep : Int))), (3, .int (cI u))] [.int (cI u3), .int (cI (i : Int)), .ref (D + 4)] I5 L5 R T Q by
    refine j_if_eq (tgt := 68) d_Nodes_pay_61 (by decide) (by omega) (fun hp3 => ?_) (fun hp3 => ?_)
    · refine j_iconst d_Nodes_pay_68 ?_
      exact J _ (Or.inl ⟨hp3, rfl⟩)
    · refine j_iconst d_Nodes_pay_64 ?_
      refine q_goto (tgt := 69) d_Nodes_pay_65 (by decide) ?_
      exact J _ (Or.inr ⟨hp3, rfl⟩)
  intro u3 hu4
  obtain rfl : u3 = u := by omega
  refine j_iast (j := i) d_Nodes_pay_69 (nT3 hW5.nd) (nN3 hW5.nd) (by omega) (by omega) (by omega) ?_
  have hW6 := hW5.stI (s := 3) (c := 4) (v := u3) (by omega)
  generalize hI6 : (up2 I5 (D + 4) i (cI u3)) = I6 at hW6 ⊢
  have hkr6 := WK_kr hW6
  have hR6 := hR5
  refine q_aload_n d_Nodes_pay_70 rfl ?_
  refine q_getR d_Nodes_pay_71 fl_Nodes_41 hW6.nd.1 ⟨rfl, by decide⟩ (nR8 hW6.nd) ?_
  refine q_iload_n d_Nodes_pay_74 rfl ?_
  refine q_aload_n d_Nodes_pay_75 rfl ?_
  refine q_getR d_Nodes_pay_76 fl_Nodes_3 hW6.nd.1 ⟨rfl, by decide⟩ hW6.nd.2.2 ?_
  refine q_getR d_Nodes_pay_79 fl_Nodes_83 hW6.pt ⟨rfl, by decide⟩ hW6.po ?_
  refine q_nm (dd := d - 1) hW6 hR6 (fun _ _ _ _ => rfl) (Or.inr (Or.inl rfl)) d_Nodes_pay_82 d_Nodes_pay_85 ml_Nodes_125 rfl (by omega) (by omega) (Nat.le_of_ble_eq_true rfl) hE (fun a7 row7 I7 L7 hW7 hR7 hro7 => ?_)
  have hkr7 := WK_kr hW7
  refine q_aload_n d_Nodes_pay_86 rfl ?_
  refine q_getR d_Nodes_pay_87 fl_Nodes_44 hW7.nd.1 ⟨rfl, by decide⟩ (nR9 hW7.nd) ?_
  refine q_iload_n d_Nodes_pay_90 rfl ?_
  refine q_aload_n d_Nodes_pay_91 rfl ?_
  refine q_getR d_Nodes_pay_92 fl_Nodes_3 hW7.nd.1 ⟨rfl, by decide⟩ hW7.nd.2.2 ?_
  refine q_getR d_Nodes_pay_95 fl_Nodes_83 hW7.pt ⟨rfl, by decide⟩ hW7.po ?_
  refine q_nm (dd := d - 1) hW7 hR7 (fun _ _ _ _ => rfl) (Or.inr (Or.inr rfl)) d_Nodes_pay_98 d_Nodes_pay_101 ml_Nodes_125 rfl (by omega) (by omega) (Nat.le_of_ble_eq_true rfl) hE (fun a8 row8 I8 L8 hW8 hR8 hro8 => ?_)
  have hkr8 := WK_kr hW8
  refine q_aload_n d_Nodes_pay_102 rfl ?_
  refine q_getR d_Nodes_pay_103 fl_Nodes_19 hW8.nd.1 ⟨rfl, by decide⟩ (nR1 hW8.nd) ?_
  refine q_iload_n d_Nodes_pay_106 rfl ?_
  refine q_aload_n d_Nodes_pay_107 rfl ?_
  refine q_iload_n d_Nodes_pay_108 rfl ?_
  refine j_iconst d_Nodes_pay_109 ?_
  refine j_iadd d_Nodes_pay_110 ?_
  refine q_ch hW8 hR8 ihV (fun _ _ _ _ => rfl) (Or.inl rfl) d_Nodes_pay_111 d_Nodes_pay_114 ml_Nodes_129 ok_Nodes_value rfl rfl (by omega) (by omega) (by omega) hB (Nat.le_of_ble_eq_true rfl) hE (fun a9 row9 rs9 ns9 I9 L9 R9 T9 hW9 hR9 hro9 => ?_)
  have hkr9 := WK_kr hW9
  refine q_aload_n d_Nodes_pay_115 rfl ?_
  refine q_getR d_Nodes_pay_116 fl_Nodes_22 hW9.nd.1 ⟨rfl, by decide⟩ (nR2 hW9.nd) ?_
  refine q_iload_n d_Nodes_pay_119 rfl ?_
  refine q_aload_n d_Nodes_pay_120 rfl ?_
  refine q_iload_n d_Nodes_pay_121 rfl ?_
  refine j_iconst d_Nodes_pay_122 ?_
  refine j_iadd d_Nodes_pay_123 ?_
  refine q_ch hW9 hR9 ihC (fun _ _ _ _ => rfl) (Or.inr (Or.inl rfl)) d_Nodes_pay_124 d_Nodes_pay_127 ml_Nodes_93 ok_Nodes_contract rfl rfl (by omega) (by omega) (by omega) hB (Nat.le_of_ble_eq_true rfl) hE (fun a10 row10 rs10 ns10 I10 L10 R10 T10 hW10 hR10 hro10 => ?_)
  have hkr10 := WK_kr hW10
  refine q_return d_Nodes_pay_128 rfl ?_
  refine hQ _ _ _ _ _ ?_
  exact ItQ.fin hW10 hR10

