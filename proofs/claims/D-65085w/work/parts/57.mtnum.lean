/-! ===== 57 THE REFERENCE'S TOKENS: tokenNumber, endText ===== -/
theorem d_Model_tokenNumber_0 : decode m_Model_tokenNumber.2.1 0 = .ok (.aload_n 0, 1) := by decide +kernel
theorem d_Model_tokenNumber_1 : decode m_Model_tokenNumber.2.1 1 = .ok (.getfield 23, 3) := by decide +kernel
theorem d_Model_tokenNumber_4 : decode m_Model_tokenNumber.2.1 4 = .ok (.aload_n 0, 1) := by decide +kernel
theorem d_Model_tokenNumber_5 : decode m_Model_tokenNumber.2.1 5 = .ok (.getfield 544, 3) := by decide +kernel
theorem d_Model_tokenNumber_8 : decode m_Model_tokenNumber.2.1 8 = .ok (.iaload, 1) := by decide +kernel
theorem d_Model_tokenNumber_9 : decode m_Model_tokenNumber.2.1 9 = .ok (.bipush 45, 2) := by decide +kernel
theorem d_Model_tokenNumber_11 : decode m_Model_tokenNumber.2.1 11 = .ok (.if_icmp .ne 12, 3) := by decide +kernel
theorem d_Model_tokenNumber_14 : decode m_Model_tokenNumber.2.1 14 = .ok (.aload_n 0, 1) := by decide +kernel
theorem d_Model_tokenNumber_15 : decode m_Model_tokenNumber.2.1 15 = .ok (.getfield 544, 3) := by decide +kernel
theorem d_Model_tokenNumber_18 : decode m_Model_tokenNumber.2.1 18 = .ok (.iconst 1, 1) := by decide +kernel
theorem d_Model_tokenNumber_19 : decode m_Model_tokenNumber.2.1 19 = .ok (.iadd, 1) := by decide +kernel
theorem d_Model_tokenNumber_20 : decode m_Model_tokenNumber.2.1 20 = .ok (.goto 7, 3) := by decide +kernel
theorem d_Model_tokenNumber_23 : decode m_Model_tokenNumber.2.1 23 = .ok (.aload_n 0, 1) := by decide +kernel
theorem d_Model_tokenNumber_24 : decode m_Model_tokenNumber.2.1 24 = .ok (.getfield 544, 3) := by decide +kernel
theorem d_Model_tokenNumber_27 : decode m_Model_tokenNumber.2.1 27 = .ok (.istore_n 1, 1) := by decide +kernel
theorem d_Model_tokenNumber_28 : decode m_Model_tokenNumber.2.1 28 = .ok (.aload_n 0, 1) := by decide +kernel
theorem d_Model_tokenNumber_29 : decode m_Model_tokenNumber.2.1 29 = .ok (.getfield 428, 3) := by decide +kernel
theorem d_Model_tokenNumber_32 : decode m_Model_tokenNumber.2.1 32 = .ok (.istore_n 2, 1) := by decide +kernel
theorem d_Model_tokenNumber_33 : decode m_Model_tokenNumber.2.1 33 = .ok (.aload_n 0, 1) := by decide +kernel
theorem d_Model_tokenNumber_34 : decode m_Model_tokenNumber.2.1 34 = .ok (.getfield 547, 3) := by decide +kernel
theorem d_Model_tokenNumber_37 : decode m_Model_tokenNumber.2.1 37 = .ok (.iload_n 1, 1) := by decide +kernel
theorem d_Model_tokenNumber_38 : decode m_Model_tokenNumber.2.1 38 = .ok (.isub, 1) := by decide +kernel
theorem d_Model_tokenNumber_39 : decode m_Model_tokenNumber.2.1 39 = .ok (.istore_n 3, 1) := by decide +kernel
theorem d_Model_tokenNumber_40 : decode m_Model_tokenNumber.2.1 40 = .ok (.iload_n 3, 1) := by decide +kernel
theorem d_Model_tokenNumber_41 : decode m_Model_tokenNumber.2.1 41 = .ok (.ifCond .le 25, 3) := by decide +kernel
theorem d_Model_tokenNumber_44 : decode m_Model_tokenNumber.2.1 44 = .ok (.aload_n 0, 1) := by decide +kernel
theorem d_Model_tokenNumber_45 : decode m_Model_tokenNumber.2.1 45 = .ok (.getfield 23, 3) := by decide +kernel
theorem d_Model_tokenNumber_48 : decode m_Model_tokenNumber.2.1 48 = .ok (.aload_n 0, 1) := by decide +kernel
theorem d_Model_tokenNumber_49 : decode m_Model_tokenNumber.2.1 49 = .ok (.getfield 547, 3) := by decide +kernel
theorem d_Model_tokenNumber_52 : decode m_Model_tokenNumber.2.1 52 = .ok (.iload_n 3, 1) := by decide +kernel
theorem d_Model_tokenNumber_53 : decode m_Model_tokenNumber.2.1 53 = .ok (.isub, 1) := by decide +kernel
theorem d_Model_tokenNumber_54 : decode m_Model_tokenNumber.2.1 54 = .ok (.iaload, 1) := by decide +kernel
theorem d_Model_tokenNumber_55 : decode m_Model_tokenNumber.2.1 55 = .ok (.bipush 48, 2) := by decide +kernel
theorem d_Model_tokenNumber_57 : decode m_Model_tokenNumber.2.1 57 = .ok (.if_icmp .ne 9, 3) := by decide +kernel
theorem d_Model_tokenNumber_60 : decode m_Model_tokenNumber.2.1 60 = .ok (.iinc 3 (-1), 3) := by decide +kernel
theorem d_Model_tokenNumber_63 : decode m_Model_tokenNumber.2.1 63 = .ok (.goto (-23), 3) := by decide +kernel
theorem d_Model_tokenNumber_66 : decode m_Model_tokenNumber.2.1 66 = .ok (.iconst 0, 1) := by decide +kernel
theorem d_Model_tokenNumber_67 : decode m_Model_tokenNumber.2.1 67 = .ok (.istore 4, 2) := by decide +kernel
theorem d_Model_tokenNumber_69 : decode m_Model_tokenNumber.2.1 69 = .ok (.iload 4, 2) := by decide +kernel
theorem d_Model_tokenNumber_71 : decode m_Model_tokenNumber.2.1 71 = .ok (.iload_n 3, 1) := by decide +kernel
theorem d_Model_tokenNumber_72 : decode m_Model_tokenNumber.2.1 72 = .ok (.if_icmp .ge 37, 3) := by decide +kernel
theorem d_Model_tokenNumber_75 : decode m_Model_tokenNumber.2.1 75 = .ok (.aload_n 0, 1) := by decide +kernel
theorem d_Model_tokenNumber_76 : decode m_Model_tokenNumber.2.1 76 = .ok (.getfield 17, 3) := by decide +kernel
theorem d_Model_tokenNumber_79 : decode m_Model_tokenNumber.2.1 79 = .ok (.iload_n 2, 1) := by decide +kernel
theorem d_Model_tokenNumber_80 : decode m_Model_tokenNumber.2.1 80 = .ok (.iconst 2, 1) := by decide +kernel
theorem d_Model_tokenNumber_81 : decode m_Model_tokenNumber.2.1 81 = .ok (.iadd, 1) := by decide +kernel
theorem d_Model_tokenNumber_82 : decode m_Model_tokenNumber.2.1 82 = .ok (.iload 4, 2) := by decide +kernel
theorem d_Model_tokenNumber_84 : decode m_Model_tokenNumber.2.1 84 = .ok (.iadd, 1) := by decide +kernel
theorem d_Model_tokenNumber_85 : decode m_Model_tokenNumber.2.1 85 = .ok (.aload_n 0, 1) := by decide +kernel
theorem d_Model_tokenNumber_86 : decode m_Model_tokenNumber.2.1 86 = .ok (.getfield 23, 3) := by decide +kernel
theorem d_Model_tokenNumber_89 : decode m_Model_tokenNumber.2.1 89 = .ok (.aload_n 0, 1) := by decide +kernel
theorem d_Model_tokenNumber_90 : decode m_Model_tokenNumber.2.1 90 = .ok (.getfield 547, 3) := by decide +kernel
theorem d_Model_tokenNumber_93 : decode m_Model_tokenNumber.2.1 93 = .ok (.iconst 1, 1) := by decide +kernel
theorem d_Model_tokenNumber_94 : decode m_Model_tokenNumber.2.1 94 = .ok (.isub, 1) := by decide +kernel
theorem d_Model_tokenNumber_95 : decode m_Model_tokenNumber.2.1 95 = .ok (.iload 4, 2) := by decide +kernel
theorem d_Model_tokenNumber_97 : decode m_Model_tokenNumber.2.1 97 = .ok (.isub, 1) := by decide +kernel
theorem d_Model_tokenNumber_98 : decode m_Model_tokenNumber.2.1 98 = .ok (.iaload, 1) := by decide +kernel
theorem d_Model_tokenNumber_99 : decode m_Model_tokenNumber.2.1 99 = .ok (.bipush 48, 2) := by decide +kernel
theorem d_Model_tokenNumber_101 : decode m_Model_tokenNumber.2.1 101 = .ok (.isub, 1) := by decide +kernel
theorem d_Model_tokenNumber_102 : decode m_Model_tokenNumber.2.1 102 = .ok (.iastore, 1) := by decide +kernel
theorem d_Model_tokenNumber_103 : decode m_Model_tokenNumber.2.1 103 = .ok (.iinc 4 1, 3) := by decide +kernel
theorem d_Model_tokenNumber_106 : decode m_Model_tokenNumber.2.1 106 = .ok (.goto (-37), 3) := by decide +kernel
theorem d_Model_tokenNumber_109 : decode m_Model_tokenNumber.2.1 109 = .ok (.aload_n 0, 1) := by decide +kernel
theorem d_Model_tokenNumber_110 : decode m_Model_tokenNumber.2.1 110 = .ok (.iload_n 2, 1) := by decide +kernel
theorem d_Model_tokenNumber_111 : decode m_Model_tokenNumber.2.1 111 = .ok (.iload_n 3, 1) := by decide +kernel
theorem d_Model_tokenNumber_112 : decode m_Model_tokenNumber.2.1 112 = .ok (.iload_n 1, 1) := by decide +kernel
theorem d_Model_tokenNumber_113 : decode m_Model_tokenNumber.2.1 113 = .ok (.aload_n 0, 1) := by decide +kernel
theorem d_Model_tokenNumber_114 : decode m_Model_tokenNumber.2.1 114 = .ok (.getfield 544, 3) := by decide +kernel
theorem d_Model_tokenNumber_117 : decode m_Model_tokenNumber.2.1 117 = .ok (.if_icmp .ne 7, 3) := by decide +kernel
theorem d_Model_tokenNumber_120 : decode m_Model_tokenNumber.2.1 120 = .ok (.iconst 1, 1) := by decide +kernel
theorem d_Model_tokenNumber_121 : decode m_Model_tokenNumber.2.1 121 = .ok (.goto 4, 3) := by decide +kernel
theorem d_Model_tokenNumber_124 : decode m_Model_tokenNumber.2.1 124 = .ok (.iconst (-1), 1) := by decide +kernel
theorem d_Model_tokenNumber_125 : decode m_Model_tokenNumber.2.1 125 = .ok (.invokevirtual 434, 3) := by decide +kernel
theorem d_Model_tokenNumber_128 : decode m_Model_tokenNumber.2.1 128 = .ok (.ireturn, 1) := by decide +kernel
theorem d10_s0 (y c : Nat) (h : c < 10) : d10 (10 * y + c) 0 = c := by
  unfold d10
  rw [Nat.pow_zero, Nat.div_one]
  omega
theorem d10_ss (y c k : Nat) (h : c < 10) : d10 (10 * y + c) (k + 1) = d10 y k := by
  unfold d10
  rw [Nat.pow_succ, Nat.mul_comm (10 ^ k) 10, ← Nat.div_div_eq_div_mul, show (10 * y + c) / 10 = y by omega]
theorem dvF_d10 {t : Nat → Nat} {q : Nat} : ∀ n, (∀ j, j < n → dgt (t (q + j))) → ∀ k, k < n → d10 (dvF t q n) k = t (q + n - 1 - k) - 48
  | 0, _, k, h => absurd h (Nat.not_lt_zero k)
  | n + 1, hd, 0, _ => by
    have := hd n (Nat.lt_succ_self n)
    show d10 (10 * dvF t q n + (t (q + n) - 48)) 0 = _
    rw [d10_s0 _ _ (by omega), show q + (n + 1) - 1 - 0 = q + n by omega]
  | n + 1, hd, k + 1, hk => by
    have := hd n (Nat.lt_succ_self n)
    show d10 (10 * dvF t q n + (t (q + n) - 48)) (k + 1) = _
    rw [d10_ss _ _ _ (by omega), dvF_d10 n (fun j hj => hd j (by omega)) k (by omega), show q + (n + 1) - 1 - (k + 1) = q + n - 1 - k by omega]
theorem c_Model_tokenNumber (d : Nat) {M N b e f r : Nat} {t : Nat → Nat} {P : Prop} [Decidable P] {I : M32} {L : M64} {R : MR} {T : SH} (hd : 1 ≤ d) (hM : MdlS M R T) (hV : TxM I M N t) (hb : I M 14 = cI b) (he : I M 15 = cI e) (hbe : b < e) (heN : e ≤ N) (hf : f = if t b = 45 then b + 1 else b) (hfe : f < e) (hall : ∀ j, f ≤ j → j < e → dgt (t j)) (hx : dvF t f (e - f) < 10 ^ 300) (ht : I M 7 = cI r) (hr : r + 302 ≤ 1100000) (hP : I M 8 = cI (bI P)) :
    Call m_Model_tokenNumber y_Model_tokenNumber d 0 0 [.ref M] I L R T (rI fun r' I' L' R' T' => (r' = cI r ∧ ∃ m, m ≤ 300 ∧ PolV I' (M + 3) r m (if t b = 45 then -(dvF t f (e - f) : Int) else (dvF t f (e - f) : Int)) ∧ I' M 7 = cI (r + m + 2 : Nat) ∧ I' M 8 = cI (bI P) ∧ FrP M r I I') ∧ L' = L ∧ R' = R ∧ T' = T) := by
  refine Call.ofRun (by decide) ⟨rfl, rfl⟩ (Nat.le_of_ble_eq_true rfl) ?_
  refine Run.gen fun Q hQ => ?_
  have hN := hV.1
  have tb := (hV.2 b (by omega)).1
  have hfb : f = b ∨ f = b + 1 := by rw [hf]; split <;> omega
  refine q_aload_n d_Model_tokenNumber_0 rfl ?_
  refine q_getR d_Model_tokenNumber_1 fl_Model_23 hM.1 ⟨rfl, by decide⟩ (mR10 hM) ?_
  refine q_aload_n d_Model_tokenNumber_4 rfl ?_
  refine j_getI (v := (cI (b : Int))) d_Model_tokenNumber_5 fl_Model_544 hM.1 ⟨rfl, by decide⟩ hb ?_
  refine j_iald (j := b) (v := (cI (t b : Int))) d_Model_tokenNumber_8 (mT10 hM) (mN10 hM) (by omega) (by omega) (by omega) ((hV.2 b (by omega)).2) ?_
  refine j_bipush d_Model_tokenNumber_9 (by decide) ?_
  suffices J : ∀ (fz : Int), (((¬ (t b : Int) = 45) ∧ fz = (b : Int)) ∨ (((t b : Int) = 45) ∧ fz = ((b : Int) + 1))) → Run m_Model_tokenNumber d 0 0 27 [(0, .ref M)] [.int (cI fz)] I L R T Q by
    refine j_icmp_ne (tgt := 23) d_Model_tokenNumber_11 (by decide) (by omega) (by omega) (fun hp1 => ?_) (fun hp1 => ?_)
    · refine q_aload_n d_Model_tokenNumber_23 rfl ?_
      refine j_getI (v := (cI (b : Int))) d_Model_tokenNumber_24 fl_Model_544 hM.1 ⟨rfl, by decide⟩ hb ?_
      exact J _ (Or.inl ⟨hp1, rfl⟩)
    · refine q_aload_n d_Model_tokenNumber_14 rfl ?_
      refine j_getI (v := (cI (b : Int))) d_Model_tokenNumber_15 fl_Model_544 hM.1 ⟨rfl, by decide⟩ hb ?_
      refine j_iconst d_Model_tokenNumber_18 ?_
      refine j_iadd d_Model_tokenNumber_19 ?_
      refine q_goto (tgt := 27) d_Model_tokenNumber_20 (by decide) ?_
      exact J _ (Or.inr ⟨hp1, rfl⟩)
  intro fz hfz
  obtain rfl : fz = (f : Int) := by rw [hf]; split <;> omega
  refine q_istore_n (lv' := [(1, .int (cI (f : Int))), (0, .ref M)]) d_Model_tokenNumber_27 (by decide) rfl ?_
  refine q_aload_n d_Model_tokenNumber_28 rfl ?_
  refine j_getI (v := (cI (r : Int))) d_Model_tokenNumber_29 fl_Model_428 hM.1 ⟨rfl, by decide⟩ ht ?_
  refine q_istore_n (lv' := [(2, .int (cI (r : Int))), (1, .int (cI (f : Int))), (0, .ref M)]) d_Model_tokenNumber_32 (by decide) rfl ?_
  refine q_aload_n d_Model_tokenNumber_33 rfl ?_
  refine j_getI (v := (cI (e : Int))) d_Model_tokenNumber_34 fl_Model_547 hM.1 ⟨rfl, by decide⟩ he ?_
  refine q_iload_n d_Model_tokenNumber_37 rfl ?_
  refine j_isub d_Model_tokenNumber_38 ?_
  refine q_istore_n (lv' := [(3, .int (cI ((e : Int) - (f : Int)))), (2, .int (cI (r : Int))), (1, .int (cI (f : Int))), (0, .ref M)]) d_Model_tokenNumber_39 (by decide) rfl ?_
  have fill : ∀ (n : Nat) (z : Int), z = n → n ≤ e - f → (∀ j, f ≤ j → j < e - n → t j = 48) → (n = 0 ∨ t (e - n) ≠ 48) → Run m_Model_tokenNumber d 0 0 66 [(0, .ref M), (1, .int (cI (f : Int))), (2, .int (cI (r : Int))), (3, .int (cI z))] [] I L R T Q := by
    intro n z hz hn h48 hst
    subst hz
    obtain ⟨x, hxx⟩ : ∃ x, x = dvF t f (e - f) := ⟨_, rfl⟩
    have hxn : x = dvF t (e - n) n := by
      have hz0 : dvF t f (e - n - f) = 0 := dvF_zero _ fun j hj => h48 (f + j) (by omega) (by omega)
      have := dvF_add hz0 n
      rw [show e - n - f + n = e - f by omega, show f + (e - n - f) = e - n by omega] at this
      rw [hxx]; exact this
    have hdn : ∀ j, j < n → dgt (t (e - n + j)) := fun j hj => hall (e - n + j) (by omega) (by omega)
    have hxlt : x < 10 ^ n := by rw [hxn]; exact dvF_lt _ hdn
    have hn300 : n ≤ 300 := by
      refine Classical.byContradiction fun h => ?_
      have h49 : 49 ≤ t (e - n) := by have := hdn 0 (by omega); rw [Nat.add_zero] at this; omega
      have h1 := dvF_ge h49 (n - 1)
      rw [show n - 1 + 1 = n by omega, ← hxn] at h1
      have h2 : 10 ^ 300 ≤ 10 ^ (n - 1) := Nat.pow_le_pow_right (by decide) (by omega)
      rw [← hxx] at hx
      exact absurd (Nat.le_trans h2 h1) (Nat.not_le.mpr hx)
    have hdig : ∀ k, k < n → d10 x k = t (e - 1 - k) - 48 := fun k hk => by
      have := dvF_d10 n hdn k hk
      rw [← hxn, show e - n + n - 1 - k = e - 1 - k by omega] at this
      exact this
    refine j_iconst d_Model_tokenNumber_66 ?_
    refine q_istore (lv' := [(4, .int (cI 0)), (0, .ref M), (1, .int (cI (f : Int))), (2, .int (cI (r : Int))), (3, .int (cI (n : Int)))]) d_Model_tokenNumber_67 (by decide) rfl ?_
    have loop : ∀ (fu k : Nat) (z : Int) (J : M32), n - k < fu → z = k → k ≤ n → (∀ j, j < k → J (M + 3) (r + j + 2) = cI (d10 x j)) → (∀ q, q ≠ M + 3 → J q = I q) → (∀ j, j < r → J (M + 3) j = I (M + 3) j) → Run m_Model_tokenNumber d 0 0 69 [(0, .ref M), (1, .int (cI (f : Int))), (2, .int (cI (r : Int))), (3, .int (cI (n : Int))), (4, .int (cI z))] [] J L R T Q := by
      intro fu
      induction fu with
      | zero => intro k z J h; omega
      | succ fu ih =>
      intro k z J hfu hz hk hJ hJq hJr
      subst hz
      refine q_iload d_Model_tokenNumber_69 rfl ?_
      refine q_iload_n d_Model_tokenNumber_71 rfl ?_
      refine j_icmp_ge (tgt := 109) d_Model_tokenNumber_72 (by decide) (by omega) (by omega) (fun h1 => ?_) (fun h1 => ?_)
      · skip
        obtain rfl : n = k := by omega
        refine q_aload_n d_Model_tokenNumber_109 rfl ?_
        refine q_iload_n d_Model_tokenNumber_110 rfl ?_
        refine q_iload_n d_Model_tokenNumber_111 rfl ?_
        refine q_iload_n d_Model_tokenNumber_112 rfl ?_
        refine q_aload_n d_Model_tokenNumber_113 rfl ?_
        refine j_getI (v := (cI (b : Int))) d_Model_tokenNumber_114 fl_Model_544 hM.1 ⟨rfl, by decide⟩ (by rw [hJq _ (by omega)]; exact hb) ?_
        suffices J : ∀ (s : Int), (((¬ (f : Int) = (b : Int)) ∧ s = (-1)) ∨ (((f : Int) = (b : Int)) ∧ s = 1)) → Run m_Model_tokenNumber d 0 0 125 [(0, .ref M), (1, .int (cI (f : Int))), (2, .int (cI (r : Int))), (3, .int (cI (n : Int))), (4, .int (cI (n : Int)))] [.int (cI s), .int (cI (n : Int)), .int (cI (r : Int)), .ref M] J L R T Q by
          refine j_icmp_ne (tgt := 124) d_Model_tokenNumber_117 (by decide) (by omega) (by omega) (fun hp2 => ?_) (fun hp2 => ?_)
          · refine j_iconst d_Model_tokenNumber_124 ?_
            exact J _ (Or.inl ⟨hp2, rfl⟩)
          · refine j_iconst d_Model_tokenNumber_120 ?_
            refine q_goto (tgt := 125) d_Model_tokenNumber_121 (by decide) ?_
            exact J _ (Or.inr ⟨hp2, rfl⟩)
        intro s hs
        have hu : (if t b = 45 then -(x : Int) else (x : Int)).natAbs = x := by split <;> omega
        rw [← hxx] at hQ
        refine q_callV (ci := 17) (rc := 0) (rs := 0) (rest := []) d_Model_tokenNumber_125 ml_Model_434 ok_Model_close rfl hM.1 (by decide) (c_Model_closeV (d - 1) (u := if t b = 45 then -(x : Int) else (x : Int)) hM (fun j hj => by rw [hu]; exact hJ j hj) (by rw [hu]; exact hxlt) (by omega) (by rw [hJq _ (by omega)]; exact hP) (fun hne => by unfold cmpZ; (repeat' split) <;> omega)) rfl rfl (by omega) (Nat.le_of_ble_eq_true rfl) (kr_I (fun r' I2 L2 R2 T2 h => ?_)) kt_I
        obtain ⟨⟨h1, m, hm, h3, h4, h5, h6⟩, h7, h8, h9⟩ := h
        refine q_ireturn d_Model_tokenNumber_128 rfl rfl ?_
        refine hQ _ _ _ _ _ ?_
        exact ⟨_, rfl, ⟨h1, m, by omega, h3, h4, by rw [h5]; congr 1; exact bI_c ⟨fun q => q.resolve_right (by omega), Or.inl⟩, ⟨fun q e1 e2 => by rw [h6.1 q e1 e2, hJq q e2], fun q e1 e2 => by rw [h6.2.1 q e1 e2, hJq M (by omega)], fun q e1 => by rw [h6.2.2 q e1, hJr q e1]⟩⟩, h7, h8, h9⟩
      · skip
        have hdk := hdig k (by omega)
        have htk := hall (e - 1 - k) (by omega) (by omega)
        refine q_aload_n d_Model_tokenNumber_75 rfl ?_
        refine q_getR d_Model_tokenNumber_76 fl_Model_17 hM.1 ⟨rfl, by decide⟩ (mR5 hM) ?_
        refine q_iload_n d_Model_tokenNumber_79 rfl ?_
        refine j_iconst d_Model_tokenNumber_80 ?_
        refine j_iadd d_Model_tokenNumber_81 ?_
        refine q_iload d_Model_tokenNumber_82 rfl ?_
        refine j_iadd d_Model_tokenNumber_84 ?_
        refine q_aload_n d_Model_tokenNumber_85 rfl ?_
        refine q_getR d_Model_tokenNumber_86 fl_Model_23 hM.1 ⟨rfl, by decide⟩ (mR10 hM) ?_
        refine q_aload_n d_Model_tokenNumber_89 rfl ?_
        refine j_getI (v := (cI (e : Int))) d_Model_tokenNumber_90 fl_Model_547 hM.1 ⟨rfl, by decide⟩ (by rw [hJq _ (by omega)]; exact he) ?_
        refine j_iconst d_Model_tokenNumber_93 ?_
        refine j_isub d_Model_tokenNumber_94 ?_
        refine q_iload d_Model_tokenNumber_95 rfl ?_
        refine j_isub d_Model_tokenNumber_97 ?_
        refine j_iald (j := ((e - 1) - k)) (v := (cI ((t ((e - 1) - k) : Nat) : Int))) d_Model_tokenNumber_98 (mT10 hM) (mN10 hM) (by omega) (by omega) (by omega) (by rw [hJq _ (by omega)]; exact (hV.2 ((e - 1) - k) (by omega)).2) ?_
        refine j_bipush d_Model_tokenNumber_99 (by decide) ?_
        refine j_isub d_Model_tokenNumber_101 ?_
        refine j_iast (j := (r + k + 2)) d_Model_tokenNumber_102 (mT5 hM) (mN5 hM) (by omega) (by omega) (by omega) ?_
        refine j_iinc (lv' := [(4, .int (cI ((k : Int) + 1))), (0, .ref M), (1, .int (cI (f : Int))), (2, .int (cI (r : Int))), (3, .int (cI (n : Int)))]) d_Model_tokenNumber_103 rfl (by decide) rfl ?_
        refine q_goto (tgt := 69) d_Model_tokenNumber_106 (by decide) ?_
        refine Run.lv (lv' := [(0, .ref M), (1, .int (cI (f : Int))), (2, .int (cI (r : Int))), (3, .int (cI (n : Int))), (4, .int (cI ((k : Int) + 1)))]) (by intro q hq; simp only [List.mem_cons, List.not_mem_nil, or_false] at hq ⊢; rcases hq with rfl | rfl | rfl | rfl | rfl <;> simp) ?_
        refine ih (k + 1) _ _ (by omega) (by omega) (by omega) (fun j hj => ?_) (fun q e1 => by rw [up2_row _ _ e1]; exact hJq q e1) (fun j hj => by rw [up2_k _ _ _ (by omega)]; exact hJr j hj)
        by_cases e1 : j = k
        · subst e1; rw [up2_s, hdk]; congr 1; omega
        · rw [up2_k _ _ _ (by omega)]; exact hJ j (by omega)
    refine Run.lv (lv' := [(0, .ref M), (1, .int (cI (f : Int))), (2, .int (cI (r : Int))), (3, .int (cI (n : Int))), (4, .int (cI 0))]) (by intro q hq; simp only [List.mem_cons, List.not_mem_nil, or_false] at hq ⊢; rcases hq with rfl | rfl | rfl | rfl | rfl <;> simp) ?_
    exact loop (n + 1) 0 _ I (by omega) rfl (by omega) (fun j h => by omega) (fun _ _ => rfl) (fun _ _ => rfl)
  have strip : ∀ (fu n : Nat) (z : Int), n < fu → z = n → n ≤ e - f → (∀ j, f ≤ j → j < e - n → t j = 48) → Run m_Model_tokenNumber d 0 0 40 [(0, .ref M), (1, .int (cI (f : Int))), (2, .int (cI (r : Int))), (3, .int (cI z))] [] I L R T Q := by
    intro fu
    induction fu with
    | zero => intro n z h; omega
    | succ fu ih =>
    intro n z hfu hz hn h48
    subst hz
    refine q_iload_n d_Model_tokenNumber_40 rfl ?_
    refine j_if_le (tgt := 66) d_Model_tokenNumber_41 (by decide) (by omega) (fun h1 => ?_) (fun h1 => ?_)
    · skip
      exact fill n _ rfl hn h48 (Or.inl (by omega))
    · skip
      have htn := hall (e - n) (by omega) (by omega)
      refine q_aload_n d_Model_tokenNumber_44 rfl ?_
      refine q_getR d_Model_tokenNumber_45 fl_Model_23 hM.1 ⟨rfl, by decide⟩ (mR10 hM) ?_
      refine q_aload_n d_Model_tokenNumber_48 rfl ?_
      refine j_getI (v := (cI (e : Int))) d_Model_tokenNumber_49 fl_Model_547 hM.1 ⟨rfl, by decide⟩ he ?_
      refine q_iload_n d_Model_tokenNumber_52 rfl ?_
      refine j_isub d_Model_tokenNumber_53 ?_
      refine j_iald (j := (e - n)) (v := (cI ((t (e - n) : Nat) : Int))) d_Model_tokenNumber_54 (mT10 hM) (mN10 hM) (by omega) (by omega) (by omega) ((hV.2 (e - n) (by omega)).2) ?_
      refine j_bipush d_Model_tokenNumber_55 (by decide) ?_
      refine j_icmp_ne (tgt := 66) d_Model_tokenNumber_57 (by decide) (by omega) (by omega) (fun h2 => ?_) (fun h2 => ?_)
      · skip
        exact fill n _ rfl hn h48 (Or.inr (by omega))
      · skip
        refine j_iinc (lv' := [(3, .int (cI ((n : Int) + (-1)))), (0, .ref M), (1, .int (cI (f : Int))), (2, .int (cI (r : Int)))]) d_Model_tokenNumber_60 rfl (by decide) rfl ?_
        refine q_goto (tgt := 40) d_Model_tokenNumber_63 (by decide) ?_
        refine Run.lv (lv' := [(0, .ref M), (1, .int (cI (f : Int))), (2, .int (cI (r : Int))), (3, .int (cI ((n : Int) + (-1))))]) (by intro q hq; simp only [List.mem_cons, List.not_mem_nil, or_false] at hq ⊢; rcases hq with rfl | rfl | rfl | rfl <;> simp) ?_
        exact ih (n - 1) _ (by omega) (by omega) (by omega) (fun j a b => if q : j = e - n then (by subst q; omega) else h48 j a (by omega))
  refine Run.lv (lv' := [(0, .ref M), (1, .int (cI (f : Int))), (2, .int (cI (r : Int))), (3, .int (cI ((e : Int) - (f : Int))))]) (by intro q hq; simp only [List.mem_cons, List.not_mem_nil, or_false] at hq ⊢; rcases hq with rfl | rfl | rfl | rfl <;> simp) ?_
  exact strip (e - f + 1) (e - f) _ (by omega) (by omega) (by omega) (fun j a b => by omega)

