/-! ===== 40 OUT: numbers, words ===== -/
/-- the digits of x from place k - 1 down -/
def dls (x : Nat) : Nat → List Nat
  | 0 => []
  | k + 1 => (48 + d10 x k) :: dls x k
def numL (v : Int) (n : Nat) : List Nat := (if v < 0 then [45] else []) ++ dls v.natAbs n
/-- only the out and its reckoner's digits may have changed -/
def FrO (o q : Nat) (I I' : M32) : Prop := ∀ a, a ≠ o → a ≠ o + 5 → a ≠ q + 3 → I' a = I a
theorem FrO.rf {o q : Nat} {I : M32} : FrO o q I I := fun _ _ _ _ => rfl
theorem FrO.tr {o q : Nat} {I J K : M32} (h : FrO o q I J) (g : FrO o q J K) : FrO o q I K := fun a x y z => (g a x y z).trans (h a x y z)
theorem FrQ.o {o q : Nat} {I J : M32} (h : FrQ o I J) : FrO o q I J := fun a x y _ => h a x y
theorem OutS.ne {R : MR} {T : SH} {o q : Nat} (h : OutS R T o q) : o ≠ q ∧ o ≠ q + 1 ∧ o ≠ q + 2 ∧ o ≠ q + 3 ∧ o + 5 ≠ q ∧ o + 5 ≠ q + 1 ∧ o + 5 ≠ q + 2 ∧ o + 5 ≠ q + 3 := by
  obtain ⟨a1, -, a3, a4, -, q1, -, -, -, q5, -, q7, -, q9, q10⟩ := h
  exact ⟨(fun e => by rw [e, q1] at a1; cases a1), (fun e => by rw [e, q5] at a1; cases a1), (fun e => by rw [e, q7] at a1; cases a1), (fun e => by rw [e, q9] at a1; cases a1), (fun e => by rw [e, q1] at a3; cases a3), (fun e => by rw [e, q5] at a3; cases a3), (fun e => by rw [e, q7] at a3; cases a3), (fun e => by rw [e, q10] at a4; cases a4)⟩
theorem OutS.nb {R : MR} {T : SH} {o q a : Nat} (h : OutS R T o q) (hA : BigS R T a) : a ≠ o ∧ a ≠ o + 5 ∧ a + 1 ≠ o ∧ a + 1 ≠ o + 5 := by
  obtain ⟨a1, -, a3, -⟩ := h
  obtain ⟨b1, -, b3, -⟩ := hA
  exact ⟨(fun e => by rw [e, a1] at b1; cases b1), (fun e => by rw [e, a3] at b1; cases b1), (fun e => by rw [e, a1] at b3; cases b3), (fun e => by rw [e, a3] at b3; cases b3)⟩
theorem OutV.congr {I J : M32} {o : Nat} {l : List Nat} (h : OutV I o l) (h1 : J o = I o) (h2 : J (o + 5) = I (o + 5)) : OutV J o l := ⟨h.1, by rw [h1]; exact h.2.1, fun j hj => by rw [h2]; exact h.2.2 j hj⟩
theorem c_Out_digits (d : Nat) {o q a : Nat} {v : Int} {l : List Nat} {I : M32} {L : M64} {R : MR} {T : SH} (hd : 1 ≤ d) (hS : OutS R T o q) (hA : BigS R T a) (hV : OutV I o l) (hN : BigV I a v) :
    Call m_Out_digits y_Out_digits d 0 0 [.ref o, .ref a] I L R T (rV fun I' L' R' T' => (∃ n, DN v.natAbs n ∧ OutV I' o (putsL l (numL v n)) ∧ FrO o q I I') ∧ L' = L ∧ R' = R ∧ T' = T) := by
  refine Call.ofRun (by decide) ⟨rfl, rfl⟩ (Nat.le_of_ble_eq_true rfl) ?_
  refine Run.gen fun Q hQ => ?_
  have hRk := hS.2.2.2.2.2
  obtain ⟨n0, n1, n2, n3, n4, n5, n6, n7⟩ := hS.ne
  obtain ⟨m0, m1, m2, m3⟩ := hS.nb hA
  obtain ⟨k0, k1, k2, k3, k4, k5, k6, k7⟩ := hA.rk hRk
  obtain ⟨na, hAW, hAn⟩ := id hN
  have rest : ∀ (J : M32) (l' : List Nat), l' = putsL l (if v < 0 then [45] else []) → OutV J o l' → FrO o q I J → BigV J a v → Run m_Out_digits d 0 0 13 [(0, .ref o), (1, .ref a)] [] J L R T Q := by
    intro J l' hl' hJ hF hJa
    refine q_aload_n d_Out_digits_13 rfl ?_
    refine q_getR d_Out_digits_14 fl_Out_15 hS.1 ⟨rfl, by decide⟩ hS.2.2.2.2.1 ?_
    refine q_aload_n d_Out_digits_17 rfl ?_
    refine q_callV (ci := 1) (rc := 0) (rs := 0) (rest := []) d_Out_digits_18 ml_Out_50 ok_Reckoner_digits rfl hRk.1 (by decide) (c_Reckoner_digits (d - 1) hRk hA hJa) rfl rfl (by omega) (Nat.le_of_ble_eq_true rfl) (kv_I (fun r K hK => ?_)) kt_I
    obtain ⟨n, rfl, hn, hDN, hdg, hKF⟩ := hK
    refine j_iconst d_Out_digits_21 ?_
    refine j_isub d_Out_digits_22 ?_
    refine q_istore_n (lv' := [(2, .int (cI ((n : Int) - 1))), (0, .ref o), (1, .ref a)]) d_Out_digits_23 (by decide) rfl ?_
    have loop : ∀ (f k : Nat) (z : Int) (G : M32) (l2 : List Nat), k < f → z = (k : Int) - 1 → k ≤ n → putsL l2 (dls v.natAbs k) = putsL l (numL v n) → OutV G o l2 → FrO o q I G → (∀ j, j < n → G (q + 3) j = cI (48 + (d10 v.natAbs j : Int))) → Run m_Out_digits d 0 0 24 [(0, .ref o), (1, .ref a), (2, .int (cI z))] [] G L R T Q := by
      intro f
      induction f with
      | zero => intro k z G l2 h; omega
      | succ f ih =>
      intro k z G l2 hf hz hk hp hG hFG hD
      refine q_iload_n d_Out_digits_24 rfl ?_
      refine j_if_lt (tgt := 47) d_Out_digits_25 (by decide) (by omega) (fun h1 => ?_) (fun h1 => ?_)
      · skip
        obtain rfl : k = 0 := by omega
        refine q_return d_Out_digits_47 rfl ?_
        refine hQ _ _ _ _ _ ?_
        exact ⟨rfl, ⟨n, hDN, by rw [← hp]; exact hG, hFG⟩, rfl, rfl, rfl⟩
      obtain ⟨j, rfl⟩ : ∃ j, k = j + 1 := ⟨k - 1, by omega⟩
      obtain rfl : z = (j : Int) := by omega
      have h10 := d10_lt v.natAbs j
      refine q_aload_n d_Out_digits_28 rfl ?_
      refine q_aload_n d_Out_digits_29 rfl ?_
      refine q_getR d_Out_digits_30 fl_Out_15 hS.1 ⟨rfl, by decide⟩ hS.2.2.2.2.1 ?_
      refine q_getR d_Out_digits_33 fl_Out_56 hRk.1 ⟨rfl, by decide⟩ hRk.2.2.2.1 ?_
      refine q_iload_n d_Out_digits_36 rfl ?_
      refine j_bald (j := j) (v := (cI (48 + (d10 v.natAbs j : Int)))) d_Out_digits_37 hRk.2.2.2.2.2.2.2.2.1 hRk.2.2.2.2.2.2.2.2.2 (by omega) (by omega) (by omega) (hD j (by omega)) ?_
      refine q_callV (ci := 2) (rc := 0) (rs := 0) (rest := []) d_Out_digits_38 ml_Out_23 ok_Out_put rfl hS.1 (by decide) (c_Out_put (d - 1) (b := 48 + d10 v.natAbs j) hS hG (by unfold b8; simp)) rfl rfl (by omega) (Nat.le_of_ble_eq_true rfl) (kv_V (fun G2 hG2 => ?_)) kt_V
      refine j_iinc (lv' := [(2, .int (cI ((j : Int) + (-1)))), (0, .ref o), (1, .ref a)]) d_Out_digits_41 rfl (by decide) rfl ?_
      refine q_goto (tgt := 24) d_Out_digits_44 (by decide) ?_
      refine Run.lv (lv' := [(0, .ref o), (1, .ref a), (2, .int (cI ((j : Int) + (-1))))]) (by intro q hq; simp only [List.mem_cons, List.not_mem_nil, or_false] at hq ⊢; rcases hq with rfl | rfl | rfl <;> simp) ?_
      refine ih j _ G2 _ (by omega) (by omega) (by omega) ?_ hG2.1 (hFG.tr hG2.2.o) (fun i hi => by rw [hG2.2 (q + 3) (by omega) (by omega)]; exact hD i hi)
      rw [← hp]; rfl
    refine Run.lv (lv' := [(0, .ref o), (1, .ref a), (2, .int (cI ((n : Int) - 1)))]) (by intro q hq; simp only [List.mem_cons, List.not_mem_nil, or_false] at hq ⊢; rcases hq with rfl | rfl | rfl <;> simp) ?_
    exact loop (n + 1) n _ K l' (by omega) rfl (Nat.le_refl _) (by rw [hl', ← putsL_app]; rfl) (hJ.congr (hKF o n3) (hKF _ n7)) (hF.tr fun a _ _ h => hKF a h) hdg
  refine q_aload_n d_Out_digits_0 rfl ?_
  refine j_getI (v := (cI (if decide (v < 0) then (1 : Int) else 0))) d_Out_digits_1 fl_Out_44 hA.1 ⟨rfl, by decide⟩ hAW.2.2.2.2 ?_
  refine j_if_eq (tgt := 13) d_Out_digits_4 (by decide) (by omega) (fun h1 => ?_) (fun h1 => ?_)
  · skip
    have hv : ¬ v < 0 := fun e => by simp [e] at h1
    exact rest I l (by rw [if_neg hv]; rfl) hV FrO.rf hN
  · skip
    have hv : v < 0 := by
      by_cases e : v < 0
      · exact e
      · simp [e] at h1
    refine q_aload_n d_Out_digits_7 rfl ?_
    refine j_bipush d_Out_digits_8 (by decide) ?_
    refine q_callV (ci := 2) (rc := 0) (rs := 0) (rest := []) d_Out_digits_10 ml_Out_23 ok_Out_put rfl hS.1 (by decide) (c_Out_put (d - 1) (b := 45) hS hV rfl) rfl rfl (by omega) (Nat.le_of_ble_eq_true rfl) (kv_V (fun J hJ => ?_)) kt_V
    exact rest J _ (by rw [if_pos hv]; rfl) hJ.1 hJ.2.o (hN.congr (hJ.2 a m0 m1) (hJ.2 _ m2 m3))
theorem c_Out_number (d : Nat) {o q a : Nat} {v : Int} {l : List Nat} {I : M32} {L : M64} {R : MR} {T : SH} (hd : 2 ≤ d) (hS : OutS R T o q) (hA : BigS R T a) (hV : OutV I o l) (hN : BigV I a v) :
    Call m_Out_number y_Out_number d 0 0 [.ref o, .ref a] I L R T (rV fun I' L' R' T' => (∃ n, DN v.natAbs n ∧ OutV I' o (wordL l (numL v n)) ∧ FrO o q I I') ∧ L' = L ∧ R' = R ∧ T' = T) := by
  refine Call.ofRun (by decide) ⟨rfl, rfl⟩ (Nat.le_of_ble_eq_true rfl) ?_
  refine Run.gen fun Q hQ => ?_
  obtain ⟨m0, m1, m2, m3⟩ := hS.nb hA
  refine q_aload_n d_Out_number_0 rfl ?_
  refine q_callV (ci := 2) (rc := 0) (rs := 0) (rest := []) d_Out_number_1 ml_Out_27 ok_Out_part rfl hS.1 (by decide) (c_Out_part (d - 1) (by omega) hS hV) rfl rfl (by omega) (Nat.le_of_ble_eq_true rfl) (kv_V (fun J hJ => ?_)) kt_V
  refine q_aload_n d_Out_number_4 rfl ?_
  refine q_aload_n d_Out_number_5 rfl ?_
  refine q_callV (ci := 2) (rc := 0) (rs := 0) (rest := []) d_Out_number_6 ml_Out_58 ok_Out_digits rfl hS.1 (by decide) (c_Out_digits (d - 1) (by omega) hS hA hJ.1 (hN.congr (hJ.2 a m0 m1) (hJ.2 _ m2 m3))) rfl rfl (by omega) (Nat.le_of_ble_eq_true rfl) (kv_V (fun K hK => ?_)) kt_V
  obtain ⟨n, h1, h2, h3⟩ := hK
  refine q_return d_Out_number_9 rfl ?_
  refine hQ _ _ _ _ _ ?_
  exact ⟨rfl, ⟨n, h1, h2, hJ.2.o.tr h3⟩, rfl, rfl, rfl⟩
/-- the bytes of a String constant from k on -/
def strL (f : Nat → Nat) (n : Nat) : Nat → List Nat
  | 0 => []
  | k + 1 => f (n - (k + 1)) :: strL f n k
theorem c_Out_word (d : Nat) {o q i a p n : Nat} {f : Nat → Nat} {l : List Nat} {I : M32} {L : M64} {R : MR} {T : SH} (hd : 4 ≤ d) (hS : OutS R T o q) (hV : OutV I o l) (hC : StrC I R T i a p n f) :
    Call m_Out_word y_Out_word d 0 0 [.ref o, .ref a] I L R T (rV fun I' L' R' T' => (OutV I' o (wordL l (strL f n n)) ∧ FrQ o I I') ∧ L' = L ∧ R' = R ∧ T' = T) := by
  refine Call.ofRun (by decide) ⟨rfl, rfl⟩ (Nat.le_of_ble_eq_true rfl) ?_
  refine Run.gen fun Q hQ => ?_
  obtain ⟨⟨r, hi⟩, ha, hp, ht, hn, hn9, hf⟩ := id hC
  have hpo : p ≠ o ∧ p ≠ o + 5 := ⟨fun e => (by rw [e, hS.1] at ht; cases ht), fun e => (by rw [e, hS.2.2.1] at ht; cases ht)⟩
  refine q_aload_n d_Out_word_0 rfl ?_
  refine q_callV (ci := 2) (rc := 0) (rs := 0) (rest := []) d_Out_word_1 ml_Out_27 ok_Out_part rfl hS.1 (by decide) (c_Out_part (d - 1) (by omega) hS hV) rfl rfl (by omega) (Nat.le_of_ble_eq_true rfl) (kv_V (fun J hJ => ?_)) kt_V
  refine j_iconst d_Out_word_4 ?_
  refine q_istore_n (lv' := [(2, .int (cI 0)), (0, .ref o), (1, .ref a)]) d_Out_word_5 (by decide) rfl ?_
  have loop : ∀ (g k : Nat) (z : Int) (G : M32) (l2 : List Nat), n - k < g → z = k → k ≤ n → putsL l2 (strL f n (n - k)) = wordL l (strL f n n) → OutV G o l2 → FrQ o I G → Run m_Out_word d 0 0 6 [(0, .ref o), (1, .ref a), (2, .int (cI z))] [] G L R T Q := by
    intro g
    induction g with
    | zero => intro k z G l2 h; omega
    | succ g ih =>
    intro k z G l2 hg hz hk hpp hG hFG
    subst hz
    have hCG : StrC G R T i a p n f := ⟨⟨r, hi⟩, ha, hp, ht, hn, hn9, fun j hj => by rw [hFG p hpo.1 hpo.2]; exact hf j hj⟩
    refine q_iload_n d_Out_word_6 rfl ?_
    refine q_aload_n d_Out_word_7 rfl ?_
    refine q_callVS (i := i) (rc := 0) (rs := 0) (rest := [.int (cI (k : Int))]) d_Out_word_8 ml_Out_30 ok_String_length rfl hi ha (c_String_length (d - 1) (by omega) hCG) rfl rfl (by omega) (Nat.le_of_ble_eq_true rfl) (kp_I ?_) kt_I
    refine j_icmp_ge (tgt := 29) d_Out_word_11 (by decide) (by omega) (by omega) (fun h1 => ?_) (fun h1 => ?_)
    · skip
      obtain rfl : k = n := by omega
      refine q_return d_Out_word_29 rfl ?_
      refine hQ _ _ _ _ _ ?_
      exact ⟨rfl, ⟨by rw [← hpp, Nat.sub_self]; exact hG, hFG⟩, rfl, rfl, rfl⟩
    refine q_aload_n d_Out_word_14 rfl ?_
    refine q_aload_n d_Out_word_15 rfl ?_
    refine q_iload_n d_Out_word_16 rfl ?_
    refine q_callVS (i := i) (rc := 0) (rs := 0) (rest := [.ref o]) d_Out_word_17 ml_Out_36 ok_String_charAt rfl hi ha (c_String_charAt (d - 1) (by omega) hCG (by omega)) rfl rfl (by omega) (Nat.le_of_ble_eq_true rfl) (kp_I ?_) kt_I
    refine q_callV (ci := 2) (rc := 0) (rs := 0) (rest := []) d_Out_word_20 ml_Out_23 ok_Out_put rfl hS.1 (by decide) (c_Out_put (d - 1) (b := f k) hS hG rfl) rfl rfl (by omega) (Nat.le_of_ble_eq_true rfl) (kv_V (fun G2 hG2 => ?_)) kt_V
    refine j_iinc (lv' := [(2, .int (cI ((k : Int) + 1))), (0, .ref o), (1, .ref a)]) d_Out_word_23 rfl (by decide) rfl ?_
    refine q_goto (tgt := 6) d_Out_word_26 (by decide) ?_
    refine Run.lv (lv' := [(0, .ref o), (1, .ref a), (2, .int (cI ((k : Int) + 1)))]) (by intro q hq; simp only [List.mem_cons, List.not_mem_nil, or_false] at hq ⊢; rcases hq with rfl | rfl | rfl <;> simp) ?_
    refine ih (k + 1) _ G2 (putL l2 (f k)) (by omega) (by omega) (by omega) ?_ hG2.1 (hFG.tr hG2.2)
    rw [← hpp, show n - k = (n - (k + 1)) + 1 by omega]
    show _ = putsL (putL l2 (f (n - (n - (k + 1) + 1)))) _
    rw [show n - (n - (k + 1) + 1) = k by omega]
  refine Run.lv (lv' := [(0, .ref o), (1, .ref a), (2, .int (cI 0))]) (by intro q hq; simp only [List.mem_cons, List.not_mem_nil, or_false] at hq ⊢; rcases hq with rfl | rfl | rfl <;> simp) ?_
  exact loop (n + 1) 0 0 J _ (by omega) rfl (by omega) rfl hJ.1 hJ.2

