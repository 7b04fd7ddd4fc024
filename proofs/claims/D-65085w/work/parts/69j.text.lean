/-! ===== 69j THE REFERENCE READS A TEXT ===== -/
theorem tkc_0 {K : Int} : tkc K = 0 ↔ K = 107 := by unfold tkc; (repeat' split) <;> omega
theorem tkc_9 {K : Int} : tkc K = 9 ↔ K = -1 := by unfold tkc; (repeat' split) <;> omega
theorem tkc_10 {K : Int} : tkc K = 10 ↔ K = -2 := by unfold tkc; (repeat' split) <;> omega
abbrev SEn (M a k : Nat) : Prop := a = M ∧ ((12 ≤ k ∧ k ≤ 15) ∨ k = 17 ∨ k = 18)
theorem c_Model_endText (d : Nat) {M N a : Nat} {t : Nat → Nat} {I : M32} {L : M64} {R : MR} {T : SH} (hd : 4 ≤ d) (hM : MdlS M R T) (hV : TxM I M N t) (hN : I M 11 = cI N) (ha : I M 12 = cI a) (haN : a ≤ N) (hF : I M 17 = cI 0) :
    Call m_Model_endText y_Model_endText d 0 0 [.ref M] I L R T (rV fun I' L' R' T' => (TkOk t N a ∧ (tk (tkP t N) a = 107 → I' M 17 = cI 0 ∧ I' M 18 = I M 18) ∧ (tk (tkP t N) a ≠ 107 → I' M 17 = cI (if tk (tkP t N) a < 0 then -(tk (tkP t N) a) else 9) ∧ I' M 18 = cI (tb (tkP t N) a)) ∧ Fx (SEn M) I I' ∧ Fx (fun x k => x = M ∧ k = 16) L L') ∧ R' = R ∧ T' = T) := by
  refine Call.ofRun (by decide) ⟨rfl, rfl⟩ (Nat.le_of_ble_eq_true rfl) ?_
  refine Run.gen fun Q hQ => ?_
  refine q_aload_n d_Model_endText_0 rfl ?_
  refine q_callV (ci := 17) (rc := 0) (rs := 0) (rest := []) d_Model_endText_1 ml_Model_579 ok_Model_look rfl hM.1 (by decide) (c_Model_look (d - 1) (by omega) hM hV hN ha haN) rfl rfl (by omega) (Nat.le_of_ble_eq_true rfl) (kr_V (fun I1 L1 R1 T1 h => ?_)) kt_V
  obtain ⟨k1, k2, k3, rfl, rfl⟩ := h
  have k4 : Fx (fun x k => x = M ∧ (12 ≤ k ∧ k ≤ 15)) I I1 := fun x k e => by
    by_cases e1 : x = M
    · subst e1; exact k2.2 k (by omega) (by omega) (by omega) (by omega)
    · rw [k2.1 x e1]
  obtain ⟨hok0, j12, j13, j14, j15, j16⟩ := k1.th
  have hok : TokR t N a (tb (tkP t N) a) (te (tkP t N) a) (tk (tkP t N) a) (tx (tkP t N) a) (tv (tkP t N) a) := hok0
  have hkd := hok.kd
  have g17 : I1 M 17 = cI 0 := by rw [k4 _ _ (by omega)]; exact hF
  clear hok j16
  generalize tk (tkP t N) a = K at *
  generalize tb (tkP t N) a = b at *
  have h0 := tkc_0 (K := K)
  have h9 := tkc_9 (K := K)
  have h10 := tkc_10 (K := K)
  have hki : inI (tkc K) := tkc_i
  refine q_aload_n d_Model_endText_4 rfl ?_
  refine j_getI (v := (cI 0)) d_Model_endText_5 fl_Model_382 hM.1 ⟨rfl, by decide⟩ g17 ?_
  refine j_if_ne (tgt := 50) d_Model_endText_8 (by decide) (by omega) (fun hx => by exfalso; omega) (fun hx => ?_)
  refine q_aload_n d_Model_endText_11 rfl ?_
  refine j_getI (v := (cI (tkc K))) d_Model_endText_12 fl_Model_550 hM.1 ⟨rfl, by decide⟩ j13 ?_
  refine j_if_eq (tgt := 50) d_Model_endText_15 (by decide) (by omega) (fun p1 => ?_) (fun p1 => ?_)
  · skip
    refine q_return d_Model_endText_50 rfl ?_
    refine hQ _ _ _ _ _ ?_
    exact ⟨rfl, ⟨hok0, fun _ => ⟨g17, by rw [k4 _ _ (by omega)]⟩, fun q => absurd (h0.mp p1) q, k4.mo fun x k e => by omega, fun x k e => k3 x k e⟩, rfl, rfl⟩
  · skip
    refine q_aload_n d_Model_endText_18 rfl ?_
    refine q_aload_n d_Model_endText_19 rfl ?_
    refine j_getI (v := (cI (tkc K))) d_Model_endText_20 fl_Model_550 hM.1 ⟨rfl, by decide⟩ j13 ?_
    refine j_bipush d_Model_endText_23 (by decide) ?_
    suffices J : ∀ (w : Int), (((¬ (tkc K) = 9) ∧ (¬ (tkc K) = 10) ∧ w = 9) ∨ ((¬ (tkc K) = 9) ∧ ((tkc K) = 10) ∧ w = 2) ∨ (((tkc K) = 9) ∧ w = 1)) → Run m_Model_endText d 0 0 47 [(0, .ref M)] [.int (cI w), .ref M] I1 L1 R1 T1 Q by
      refine j_icmp_ne (tgt := 32) d_Model_endText_25 (by decide) (by omega) (by omega) (fun hp1 => ?_) (fun hp1 => ?_)
      · refine q_aload_n d_Model_endText_32 rfl ?_
        refine j_getI (v := (cI (tkc K))) d_Model_endText_33 fl_Model_550 hM.1 ⟨rfl, by decide⟩ j13 ?_
        refine j_bipush d_Model_endText_36 (by decide) ?_
        refine j_icmp_ne (tgt := 45) d_Model_endText_38 (by decide) (by omega) (by omega) (fun hp2 => ?_) (fun hp2 => ?_)
        · refine j_bipush d_Model_endText_45 (by decide) ?_
          exact J _ (Or.inl ⟨hp1, hp2, rfl⟩)
        · refine j_iconst d_Model_endText_41 ?_
          refine q_goto (tgt := 47) d_Model_endText_42 (by decide) ?_
          exact J _ (Or.inr (Or.inl ⟨hp1, hp2, rfl⟩))
      · refine j_iconst d_Model_endText_28 ?_
        refine q_goto (tgt := 47) d_Model_endText_29 (by decide) ?_
        exact J _ (Or.inr (Or.inr ⟨hp1, rfl⟩))
    intro w hw
    have hwe : w = if K < 0 then -K else 9 := by split <;> omega
    refine q_callV (ci := 17) (rc := 0) (rs := 0) (rest := []) d_Model_endText_47 ml_Model_573 ok_Model_fail rfl hM.1 (by decide) (c_Model_fail (d - 1) hM (F := 0) g17 (by decide)) rfl rfl (by omega) (Nat.le_of_ble_eq_true rfl) (kr_V (fun I2 L2 R2 T2 hh => ?_)) kt_V
    obtain ⟨e1, e2, e3, e4⟩ := hh
    rw [if_pos rfl] at e1
    refine q_return d_Model_endText_50 rfl ?_
    refine hQ _ _ _ _ _ ?_
    exact ⟨rfl, ⟨hok0, fun q => absurd (h0.mpr q) p1, fun _ => ⟨by rw [e1, up2_k _ _ _ (by decide), up2_s, hwe], by rw [e1, up2_s]; exact j14⟩, by rw [e1]; exact ((k4.mo fun x k e => by omega).tu ⟨rfl, by omega⟩).tu ⟨rfl, by omega⟩, by rw [e2]; exact fun x k e => k3 x k e⟩, e3, e4⟩
/-- the loop is done: the end of the text -/
theorem hd_end {d M N g pk kp n pt tp a : Nat} {t : Nat → Nat} {z : Int32} {I0 : M32} {L0 : M64} {I : M32} {L : M64} {R : MR} {T : SH} {Q : QT} (hd : 5 ≤ d) (hM : MdlS M R T) (hT : TS M N g pk kp t z I0 L0 n pt tp a I L) (h43 : I M 43 = cI 0) (h : ∀ I' L', TkOk t N a → (tk (tkP t N) a = 107 → I' M 17 = cI 0 ∧ I' M 18 = I M 18) → (tk (tkP t N) a ≠ 107 → I' M 17 = cI (if tk (tkP t N) a < 0 then -(tk (tkP t N) a) else 9) ∧ I' M 18 = cI (tb (tkP t N) a)) → Fx (SEn M) I I' → Fx (fun x k => x = M ∧ k = 16) L L' → Q (.returned none) I' L' R T) : Hd d M R T Q I L := by
  obtain ⟨⟨t1, t2, t3, t4, t5, t6, t7, t8, t9, t10⟩, -⟩ := id hT
  unfold Hd
  refine q_aload_n d_Model_readText_33 rfl ?_
  refine j_getI (v := (cI 0)) d_Model_readText_34 fl_Model_582 hM.1 ⟨rfl, by decide⟩ h43 ?_
  refine j_if_le (tgt := 54) d_Model_readText_37 (by decide) (by omega) (fun hx => ?_) (fun hx => by exfalso; omega)
  refine q_aload_n d_Model_readText_54 rfl ?_
  refine j_getI (v := (cI 0)) d_Model_readText_55 fl_Model_382 hM.1 ⟨rfl, by decide⟩ t5 ?_
  refine j_if_ne (tgt := 65) d_Model_readText_58 (by decide) (by omega) (fun hx => by exfalso; omega) (fun hx => ?_)
  refine q_aload_n d_Model_readText_61 rfl ?_
  refine q_callV (ci := 17) (rc := 0) (rs := 0) (rest := []) d_Model_readText_62 ml_Model_676 ok_Model_endText rfl hM.1 (by decide) (c_Model_endText (d - 1) (by omega) hM t1 t2 t3 t4 t5) rfl rfl (by omega) (Nat.le_of_ble_eq_true rfl) (kr_V (fun I1 L1 R1 T1 hh => ?_)) kt_V
  obtain ⟨⟨g1, g2, g3, g4, g5⟩, rfl, rfl⟩ := hh
  refine q_return d_Model_readText_65 rfl ?_
  exact h I1 L1 g1 g2 g3 g4 g5
/-- what the reading of a text comes to in the reference -/
def rtQ (M g pk kp m : Nat) (res : ER (List Row × List Int)) (I : M32) (L : M64) (I' : M32) (L' : M64) : Prop :=
  (match res with
  | .ok (rows, nums) => I' M 17 = cI 0 ∧ I' M 18 = cI (-1) ∧ I' M 37 = cI (g + rows.length : Nat) ∧ I' M 38 = cI g ∧ g + rows.length ≤ g + 1000 ∧ ∃ pt tp : Nat, I' M 35 = cI pt ∧ I' M 7 = cI tp ∧ pk ≤ pt ∧ kp ≤ tp ∧ ∀ V, AgV V m nums → RowsM I' L' M tp pt V g rows
  | .error (c, b) => (0 < c ∧ c < 10) ∧ I' M 17 = cI c ∧ I' M 18 = cI b) ∧ FA M (-1) g pk kp I I' ∧ FF M GE I I' ∧ FLn M (-1) g L L'
theorem c_Model_readText (d : Nat) {M N g pk kp : Nat} (m : Nat) {t : Nat → Nat} {B : Prop} [Decidable B] {I : M32} {L : M64} {R : MR} {T : SH} (hd : 5 ≤ d) (hM : MdlS M R T) (hV : TxM I M N t) (hN : I M 11 = cI N) (hg : I M 36 = cI g) (hg4 : g ≤ 4000) (hpk : I M 34 = cI pk) (hpk2 : 2 * pk ≤ 16384) (hkp : I M 6 = cI kp) (hkp2 : kp ≤ 49152) (hB : I M 8 = cI (bI B)) :
    Call m_Model_readText y_Model_readText d 0 0 [.ref M] I L R T (rV fun I' L' R' T' => rtQ M g pk kp m (rd (tkP t N) g (N + 1) m) I L I' L' ∧ R' = R ∧ T' = T) := by
  refine Call.ofRun (by decide) ⟨rfl, rfl⟩ (Nat.le_of_ble_eq_true rfl) ?_
  refine Run.gen fun Q hQ => ?_
  refine q_aload_n d_Model_readText_0 rfl ?_
  refine q_callV (ci := 17) (rc := 0) (rs := 0) (rest := []) d_Model_readText_1 ml_Model_667 ok_Model_beginText rfl hM.1 (by decide) (c_Model_beginText (d - 1) hM) rfl rfl (by omega) (Nat.le_of_ble_eq_true rfl) (kp_V ?_) kt_V
  refine q_aload_n d_Model_readText_4 rfl ?_
  refine q_aload_n d_Model_readText_5 rfl ?_
  refine j_getI (v := (cI (g : Int))) d_Model_readText_6 fl_Model_591 hM.1 ⟨rfl, by decide⟩ ((up2_k _ _ _ (by omega)).trans ((up2_k _ _ _ (by omega)).trans ((up2_k _ _ _ (by omega)).trans ((up2_k _ _ _ (by omega)).trans (hg))))) ?_
  refine q_putI d_Model_readText_9 fl_Model_588 hM.1 ⟨rfl, by decide, rfl, rfl⟩ ?_
  refine q_aload_n d_Model_readText_12 rfl ?_
  refine q_aload_n d_Model_readText_13 rfl ?_
  refine j_getI (v := (cI (pk : Int))) d_Model_readText_14 fl_Model_670 hM.1 ⟨rfl, by decide⟩ ((up2_k _ _ _ (by omega)).trans ((up2_k _ _ _ (by omega)).trans ((up2_k _ _ _ (by omega)).trans ((up2_k _ _ _ (by omega)).trans ((up2_k _ _ _ (by omega)).trans (hpk)))))) ?_
  refine q_putI d_Model_readText_17 fl_Model_624 hM.1 ⟨rfl, by decide, rfl, rfl⟩ ?_
  refine q_aload_n d_Model_readText_20 rfl ?_
  refine j_iconst d_Model_readText_21 ?_
  refine q_putI d_Model_readText_22 fl_Model_582 hM.1 ⟨rfl, by decide, rfl, rfl⟩ ?_
  generalize hI1 : (up2 (up2 (up2 (up2 (up2 (up2 (up2 I M 12 (cI 0)) M 17 (cI 0)) M 18 (cI (-1))) M 7 (I M 6)) M 37 (cI (g : Int))) M 35 (cI (pk : Int))) M 43 (cI 0)) = I1
  have hf1 : FF M [7, 12, 17, 18, 35, 37, 43] I I1 := by
    rw [← hI1]
    exact ((((((FF.up (by decide)).tr (FF.up (by decide))).tr (FF.up (by decide))).tr (FF.up (by decide))).tr (FF.up (by decide))).tr (FF.up (by decide))).tr (FF.up (by decide))
  have hx1 : ∀ x k, x ≠ M → I1 x k = I x k := fun x k e => by rw [← hI1, up2_a _ _ _ e, up2_a _ _ _ e, up2_a _ _ _ e, up2_a _ _ _ e, up2_a _ _ _ e, up2_a _ _ _ e, up2_a _ _ _ e]
  have g12 : I1 M 12 = cI 0 := by rw [← hI1]; simp only [up2_s, up2_k _ _ _ (show (12 : Nat) ≠ 43 by decide), up2_k _ _ _ (show (12 : Nat) ≠ 35 by decide), up2_k _ _ _ (show (12 : Nat) ≠ 37 by decide), up2_k _ _ _ (show (12 : Nat) ≠ 7 by decide), up2_k _ _ _ (show (12 : Nat) ≠ 18 by decide), up2_k _ _ _ (show (12 : Nat) ≠ 17 by decide)]
  have g17 : I1 M 17 = cI 0 := by rw [← hI1]; simp only [up2_s, up2_k _ _ _ (show (17 : Nat) ≠ 43 by decide), up2_k _ _ _ (show (17 : Nat) ≠ 35 by decide), up2_k _ _ _ (show (17 : Nat) ≠ 37 by decide), up2_k _ _ _ (show (17 : Nat) ≠ 7 by decide), up2_k _ _ _ (show (17 : Nat) ≠ 18 by decide)]
  have g18 : I1 M 18 = cI (-1) := by rw [← hI1]; simp only [up2_s, up2_k _ _ _ (show (18 : Nat) ≠ 43 by decide), up2_k _ _ _ (show (18 : Nat) ≠ 35 by decide), up2_k _ _ _ (show (18 : Nat) ≠ 37 by decide), up2_k _ _ _ (show (18 : Nat) ≠ 7 by decide)]
  have g7 : I1 M 7 = cI kp := by rw [← hI1]; simp only [up2_s, up2_k _ _ _ (show (7 : Nat) ≠ 43 by decide), up2_k _ _ _ (show (7 : Nat) ≠ 35 by decide), up2_k _ _ _ (show (7 : Nat) ≠ 37 by decide)]; exact hkp
  have g37 : I1 M 37 = cI g := by rw [← hI1]; simp only [up2_s, up2_k _ _ _ (show (37 : Nat) ≠ 43 by decide), up2_k _ _ _ (show (37 : Nat) ≠ 35 by decide)]
  have g35 : I1 M 35 = cI pk := by rw [← hI1]; simp only [up2_s, up2_k _ _ _ (show (35 : Nat) ≠ 43 by decide)]
  have g43 : I1 M 43 = cI 0 := by rw [← hI1]; simp only [up2_s]
  have hA : PA M I1 I1 [] := ⟨trivial, g43, Fx.rf⟩
  refine q_aload_n d_Model_readText_25 rfl ?_
  refine j_iconst d_Model_readText_26 ?_
  refine j_iconst d_Model_readText_27 ?_
  refine j_iconst d_Model_readText_28 ?_
  refine j_iconst d_Model_readText_29 ?_
  refine q_callV (ci := 17) (rc := 0) (rs := 0) (rest := []) d_Model_readText_30 ml_Model_611 ok_Model_push rfl hM.1 (by decide) (c_Model_push (d - 1) hM hA (by decide)) rfl rfl (by omega) (Nat.le_of_ble_eq_true rfl) (kv_V (fun I2 hA2 => ?_)) kt_V
  obtain ⟨p1, p2, p3⟩ := hA2
  have hN4 := hV.1
  have fI2 : ∀ k, k ≠ 43 → I2 M k = I1 M k := fun k e => p3 _ _ (by omega)
  have hFA : FA M (-1) g pk kp I I2 := ⟨fun x k e => by rw [p3 _ _ (by omega), hx1 _ _ (by omega)], fun x k e1 e2 _ _ => by rw [p3 _ _ (by omega), hx1 _ _ (by omega)], fun x k e1 e2 _ => by rw [p3 _ _ (by omega), hx1 _ _ (by omega)], fun k _ => by rw [p3 _ _ (by omega), hx1 _ _ (by omega)]⟩
  have hFF : FF M GE I I2 := (hf1.mo (by decide)).tr (FF.of p3 fun k e => by obtain rfl : k = 43 := (by omega); decide)
  have hTS : TS M N g pk kp t (cI (bI B)) I2 L g pk kp 0 I2 L := ⟨⟨⟨hV.1, fun j hj => by rw [p3 _ _ (by omega), hx1 _ _ (by omega)]; exact hV.2 j hj⟩, by rw [fI2 _ (by decide), hf1 _ (by decide)]; exact hN, by rw [fI2 _ (by decide)]; exact g12, Nat.zero_le _, by rw [fI2 _ (by decide)]; exact g17, by rw [fI2 _ (by decide), hf1 _ (by decide)]; exact hg, by rw [fI2 _ (by decide)]; exact g37, by rw [fI2 _ (by decide)]; exact g35, by rw [fI2 _ (by decide)]; exact g7, by rw [fI2 _ (by decide), hf1 _ (by decide)]; exact hB⟩, ⟨Nat.le_refl _, by omega, hg4, Nat.le_refl _, Nat.le_refl _, by omega, by omega⟩, FA.rf, FF.rf, FLn.rf⟩
  have hEK : ∀ c b, rd (tkP t N) g (N + 1) m = .error (c, b) → EK d M N g pk kp t (cI (bI B)) I2 L R T Q c b := fun c b he => by
    refine ⟨fun I' L' h => ?_, fun I' L' n pt tp a h1 h2 h3 h4 h5 => ?_⟩
    · obtain ⟨e1, e2, e3, e4, e5, e6⟩ := h
      refine hd_err hM e1 (by omega) (by omega) (hQ _ _ _ _ _ ⟨rfl, ?_, rfl, rfl⟩)
      rw [he]
      exact ⟨⟨e3, e1, e2⟩, hFA.tr e4, hFF.tr e5, e6⟩
    · refine hd_end hd hM h1 h5 fun I3 L3 k1 k2 k3 k4 k5 => hQ _ _ _ _ _ ⟨rfl, ?_, rfl, rfl⟩
      have hkd := TokR.kd k1
      obtain ⟨e1, e2⟩ := k3 (by omega)
      rw [if_pos h2] at e1
      rw [he, h3, h4]
      exact ⟨⟨by omega, e1, e2⟩, (hFA.tr h1.2.2.1).tr (FA.of k4 (fun x k e => by omega) (fun x k e => by omega) (fun x k e => by omega) (fun k e => by omega)), (hFF.tr (h1.2.2.2.1.mo (by decide))).tr (FF.of k4 fun k e => by rcases (show k = 12 ∨ k = 13 ∨ k = 14 ∨ k = 15 ∨ k = 17 ∨ k = 18 by omega) with rfl | rfl | rfl | rfl | rfl | rfl <;> decide), h1.2.2.2.2.tr (FLn.of k5 fun x k e => by omega)⟩
  show Hd d M R T Q I2 L
  have hrd : rd (tkP t N) g (N + 1) m = if tk (tkP t N) 0 < 0 then .error (-(tk (tkP t N) 0), tb (tkP t N) 0) else bnd (ps (tkP t N) g (N + 1) 102 1 0 g m 0) fun q => if tk (tkP t N) q.1 ≠ 107 then .error (9, tb (tkP t N) q.1) else .ok q.2 := rfl
  have hpw1 : PW [((1 : Int), (-1 : Int), (0 : Int), (0 : Int))] := fun w h => by
    rw [List.mem_singleton.mp h]; decide
  by_cases hb : tk (tkP t N) 0 < 0
  · rw [if_pos hb] at hrd
    exact (hEK _ _ hrd).bad hd hM hTS hb rfl rfl p1 p2 (by decide) hpw1
  rw [if_neg hb] at hrd
  refine tw_ps hd hM hN4 102 1 0 (-1) 0 g m 0 pk kp [] I2 L (Or.inl rfl) (by decide) hTS (by omega) p1 p2 (fun w h => by cases h) (by show 0 + 32 * 102 + (N - 0) ≤ 29000; omega) ⟨by decide, by omega, fun h => absurd rfl h⟩ ⟨by decide, by decide⟩ ⟨fun a' rows nums he h0 hae I' L' pt' tp' h1 h2 h3 h4 h5 h6 h7 h8 h9 h10 h11 => ?_, fun c b he => hEK c b (by rw [hrd, he]; rfl)⟩
  rw [he] at hrd
  simp only [bnd_ok] at hrd
  have h18 : I' M 18 = I' M 18 := rfl
  refine hd_end hd hM h1 h4 fun I3 L3 k1 k2 k3 k4 k5 => hQ _ _ _ _ _ ⟨rfl, ?_, rfl, rfl⟩
  have fA : FA M (-1) g pk kp I I3 := (hFA.tr h1.2.2.1).tr (FA.of k4 (fun x k e => by omega) (fun x k e => by omega) (fun x k e => by omega) (fun k e => by omega))
  have fF : FF M GE I I3 := (hFF.tr (h1.2.2.2.1.mo (by decide))).tr (FF.of k4 fun k e => by rcases (show k = 12 ∨ k = 13 ∨ k = 14 ∨ k = 15 ∨ k = 17 ∨ k = 18 by omega) with rfl | rfl | rfl | rfl | rfl | rfl <;> decide)
  have fL : FLn M (-1) g L L3 := h1.2.2.2.2.tr (FLn.of k5 fun x k e => by omega)
  by_cases h107 : tk (tkP t N) a' = 107
  · rw [if_neg (fun q => q h107)] at hrd
    rw [hrd]
    obtain ⟨⟨t1, t2, t3, t4, t5, t6, t7, t8, t9, t10⟩, ⟨b1, b2, b3, b4, b5, b6, b7⟩, -⟩ := id h1
    refine ⟨⟨(k2 h107).1, ?_, by rw [k4 _ _ (by omega)]; exact t7, by rw [k4 _ _ (by omega)]; exact h5.1 rfl, by omega, pt', tp', by rw [k4 _ _ (by omega)]; exact t8, by rw [k4 _ _ (by omega)]; exact t9, b4, b5, fun V hV => ?_⟩, fA, fF, fL⟩
    · rw [(k2 h107).2, h1.2.2.2.1 _ (by decide), fI2 _ (by decide)]; exact g18
    · exact (h6 V hV).fx (fun y k y1 y2 _ _ => k4 _ _ (by omega)) (fun y k y1 y2 _ _ => k5 _ _ (by omega)) (fun k _ => k4 _ _ (by omega)) (fun k _ => ⟨k4 _ _ (by omega), k4 _ _ (by omega)⟩) (Nat.le_refl _) (Nat.le_refl _)
  · rw [if_pos h107] at hrd
    rw [hrd]
    obtain ⟨e1, e2⟩ := k3 h107
    rw [if_neg (by omega)] at e1
    exact ⟨⟨by decide, e1, e2⟩, fA, fF, fL⟩

