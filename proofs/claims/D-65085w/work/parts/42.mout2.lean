/-! ===== 42 THE REFERENCE'S OUT: longs ===== -/
theorem c_Model_putLong (d : Nat) {M x : Nat} {l : List Nat} {I : M32} {L : M64} {R : MR} {T : SH} (hd : 1 ≤ d) (hM : MdlS M R T) (hV : MOut I M l) (hx : x < 10 ^ 18) :
    Call m_Model_putLong y_Model_putLong d 0 0 [.ref M, .long (cL x)] I L R T (rV fun I' L' R' T' => (∃ n', DN x n' ∧ MOut I' M (putsL l (numL x n')) ∧ FrU M I I') ∧ L' = L ∧ R' = R ∧ T' = T) := by
  refine Call.ofRun (by decide) ⟨rfl, rfl⟩ (Nat.le_of_ble_eq_true rfl) ?_
  refine Run.gen fun Q hQ => ?_
  have p17 : ∀ u, u ≤ 17 → 10 ^ u ≤ 10 ^ 17 := fun u hu => Nat.pow_le_pow_right (by decide) hu
  refine j_lconst (z := 1) d_Model_putLong_0 (by decide) ?_
  refine q_lstore_n (lv' := [(3, .long (cL 1)), (0, .ref M), (1, .long (cL (x : Int)))]) d_Model_putLong_1 (by decide) rfl ?_
  have prt : ∀ (f k n' : Nat) (z e : Int) (G : M32) (l2 : List Nat), k < f → DN x n' → k ≤ 18 → (0 < k → e = (10 ^ (k - 1) : Nat)) → (k = 0 → e = 0) → putsL l2 (dls x k) = putsL l (numL x n') → MOut G M l2 → FrU M I G → Run m_Model_putLong d 0 0 24 [(0, .ref M), (1, .long (cL (x : Int))), (3, .long (cL z)), (5, .long (cL e))] [] G L R T Q := by
    intro f
    induction f with
    | zero => intro k n' z e G l2 h; omega
    | succ f ih =>
    intro k n' z e G l2 hf hD hk he he0 hp hG hF
    rcases Nat.eq_zero_or_pos k with hk0 | hk0
    · obtain rfl : e = 0 := he0 hk0
      subst hk0
      refine q_lload d_Model_putLong_24 rfl ?_
      refine j_lconst (z := 0) d_Model_putLong_26 (by decide) ?_
      refine j_lcmp_le (tgt := 58) d_Model_putLong_27 d_Model_putLong_28 (by decide) (by omega) (by omega) (fun hx => ?_) (fun hx => by exfalso; omega)
      refine q_return d_Model_putLong_58 rfl ?_
      refine hQ _ _ _ _ _ ?_
      exact ⟨rfl, ⟨n', hD, by rw [← hp]; exact hG, hF⟩, rfl, rfl, rfl⟩
    obtain ⟨j, rfl⟩ : ∃ j, k = j + 1 := ⟨k - 1, by omega⟩
    have he := he (by omega)
    rw [Nat.add_sub_cancel] at he
    subst he
    obtain ⟨u, hu⟩ : ∃ u, u = 10 ^ j := ⟨_, rfl⟩
    have hu1 := p17 j (by omega)
    have hu0 := pow10_pos j
    rw [← hu] at hu1 hu0 ⊢
    have hdx : x / u ≤ x := Nat.div_le_self _ _
    have hdg : x / u % 10 = d10 x j := by rw [hu]; rfl
    obtain ⟨w, hw⟩ : ∃ w, w = x / u := ⟨_, rfl⟩
    have hwz : (x : Int) / (u : Int) = (w : Int) := by rw [hw]; simp
    rw [← hw] at hdx hdg
    refine q_lload d_Model_putLong_24 rfl ?_
    refine j_lconst (z := 0) d_Model_putLong_26 (by decide) ?_
    refine j_lcmp_le (tgt := 58) d_Model_putLong_27 d_Model_putLong_28 (by decide) (by omega) (by omega) (fun hx => by exfalso; omega) (fun hx => ?_)
    refine q_aload_n d_Model_putLong_31 rfl ?_
    refine j_bipush d_Model_putLong_32 (by decide) ?_
    refine q_lload_n d_Model_putLong_34 rfl ?_
    refine q_lload d_Model_putLong_35 rfl ?_
    refine j_ldiv d_Model_putLong_37 (by omega) (by omega) ?_
    refine Run.top (v := .long (cL (w : Int))) (by rw [hwz]) ?_
    refine j_ldc2 (z := 10) d_Model_putLong_38 (inT11 223 rfl) (by decide) ?_
    refine j_lrem d_Model_putLong_41 (by omega) (by omega) ?_
    refine j_l2i d_Model_putLong_42 ?_
    refine j_iadd d_Model_putLong_43 ?_
    refine Run.top (v := .int (cI (48 + d10 x j : Int))) (by congr 2; rw [← hdg]; omega) ?_
    refine q_callV (ci := 17) (rc := 0) (rs := 0) (rest := []) d_Model_putLong_44 ml_Model_411 ok_Model_put rfl hM.1 (by decide) (c_Model_put (d - 1) (b := 48 + d10 x j) hM hG) rfl rfl (by omega) (Nat.le_of_ble_eq_true rfl) (kv_V (fun G2 hG2 => ?_)) kt_V
    refine q_lload d_Model_putLong_47 rfl ?_
    refine j_ldc2 (z := 10) d_Model_putLong_49 (inT11 223 rfl) (by decide) ?_
    refine j_ldiv d_Model_putLong_52 (by omega) (by omega) ?_
    refine q_lstore (lv' := [(5, .long (cL ((u : Int) / 10))), (0, .ref M), (1, .long (cL (x : Int))), (3, .long (cL z))]) d_Model_putLong_53 (by decide) rfl ?_
    refine q_goto (tgt := 24) d_Model_putLong_55 (by decide) ?_
    refine Run.lv (lv' := [(0, .ref M), (1, .long (cL (x : Int))), (3, .long (cL z)), (5, .long (cL ((u : Int) / 10)))]) (by intro q hq; simp only [List.mem_cons, List.not_mem_nil, or_false] at hq ⊢; rcases hq with rfl | rfl | rfl | rfl <;> simp) ?_
    refine ih j n' _ _ G2 _ (by omega) hD (by omega) (fun h => ?_) (fun h => ?_) ?_ hG2.1 (hF.tr hG2.2)
    · rw [hu, show j = j - 1 + 1 by omega, Nat.pow_succ, Nat.add_sub_cancel]; omega
    · rw [hu, h]; rfl
    · rw [← hp]; rfl
  have unit : ∀ (f k : Nat) (z : Int), 18 - k < f → z = (10 ^ k : Nat) → k ≤ 17 → (k = 0 ∨ 10 ^ k ≤ x) → Run m_Model_putLong d 0 0 2 [(0, .ref M), (1, .long (cL (x : Int))), (3, .long (cL z))] [] I L R T Q := by
    intro f
    induction f with
    | zero => intro k z h; omega
    | succ f ih =>
    intro k z hf hz hk hlo
    subst hz
    obtain ⟨u, hu⟩ : ∃ u, u = 10 ^ k := ⟨_, rfl⟩
    have hu1 := p17 k hk
    have hu0 := pow10_pos k
    rw [← hu] at hu1 hu0 hlo ⊢
    obtain ⟨w, hw⟩ : ∃ w, w = x / u := ⟨_, rfl⟩
    have hdx : x / u ≤ x := Nat.div_le_self _ _
    have hwz : (x : Int) / (u : Int) = (w : Int) := by rw [hw]; simp
    refine q_lload_n d_Model_putLong_2 rfl ?_
    refine q_lload_n d_Model_putLong_3 rfl ?_
    refine j_ldiv d_Model_putLong_4 (by omega) (by omega) ?_
    refine Run.top (v := .long (cL (w : Int))) (by rw [hwz]) ?_
    refine j_ldc2 (z := 9) d_Model_putLong_5 (inT12 104 rfl) (by decide) ?_
    refine j_lcmp_le (tgt := 21) d_Model_putLong_8 d_Model_putLong_9 (by decide) (by omega) (by omega) (fun h1 => ?_) (fun h1 => ?_)
    · skip
      have hlt : x < 10 ^ (k + 1) := by
        rw [Nat.pow_succ, ← hu, Nat.mul_comm]
        have := (Nat.div_lt_iff_lt_mul hu0).mp (show x / u < 10 by omega)
        omega
      refine q_lload_n d_Model_putLong_21 rfl ?_
      refine q_lstore (lv' := [(5, .long (cL (u : Int))), (0, .ref M), (1, .long (cL (x : Int))), (3, .long (cL (u : Int)))]) d_Model_putLong_22 (by decide) rfl ?_
      refine Run.lv (lv' := [(0, .ref M), (1, .long (cL (x : Int))), (3, .long (cL (u : Int))), (5, .long (cL (u : Int)))]) (by intro q hq; simp only [List.mem_cons, List.not_mem_nil, or_false] at hq ⊢; rcases hq with rfl | rfl | rfl | rfl <;> simp) ?_
      refine prt (k + 2) (k + 1) (k + 1) _ _ I l (by omega) ?_ (by omega) (fun _ => by rw [Nat.add_sub_cancel, ← hu]) (fun h => by omega) (by unfold numL; rw [if_neg (by omega), Int.natAbs_natCast]; rfl) hV FrU.rf
      rcases Nat.eq_zero_or_pos x with g | g
      · left
        refine ⟨g, ?_⟩
        rcases hlo with h | h
        · omega
        · omega
      · right
        refine ⟨by omega, hlt, fun _ => ?_⟩
        rw [Nat.add_sub_cancel, ← hu]
        rcases hlo with h | h
        · subst h; rw [hu]; exact g
        · exact h
    · skip
      have hge : u * 10 ≤ x := by
        have := Nat.div_mul_le_self x u
        have h3 : 10 * u ≤ x / u * u := Nat.mul_le_mul_right _ (by omega)
        omega
      have hk17 : k < 17 := by
        rcases Nat.lt_or_ge k 17 with g | g
        · exact g
        · obtain rfl : k = 17 := by omega
          rw [hu] at hge
          omega
      refine q_lload_n d_Model_putLong_12 rfl ?_
      refine j_ldc2 (z := 10) d_Model_putLong_13 (inT11 223 rfl) (by decide) ?_
      refine j_lmul d_Model_putLong_16 ?_
      refine q_lstore_n (lv' := [(3, .long (cL ((u : Int) * 10))), (0, .ref M), (1, .long (cL (x : Int)))]) d_Model_putLong_17 (by decide) rfl ?_
      refine q_goto (tgt := 2) d_Model_putLong_18 (by decide) ?_
      refine Run.lv (lv' := [(0, .ref M), (1, .long (cL (x : Int))), (3, .long (cL ((u : Int) * 10)))]) (by intro q hq; simp only [List.mem_cons, List.not_mem_nil, or_false] at hq ⊢; rcases hq with rfl | rfl | rfl <;> simp) ?_
      exact ih (k + 1) _ (by omega) (by rw [Nat.pow_succ, ← hu]; simp) (by omega) (Or.inr (by rw [Nat.pow_succ, ← hu]; exact hge))
  refine Run.lv (lv' := [(0, .ref M), (1, .long (cL (x : Int))), (3, .long (cL 1))]) (by intro q hq; simp only [List.mem_cons, List.not_mem_nil, or_false] at hq ⊢; rcases hq with rfl | rfl | rfl <;> simp) ?_
  exact unit 19 0 _ (by omega) rfl (by omega) (Or.inl rfl)

