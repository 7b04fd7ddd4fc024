/-! ===== 39 OUT ===== -/
theorem d_Out_put_0 : decode m_Out_put.2.1 0 = .ok (.aload_n 0, 1) := by decide +kernel
theorem d_Out_put_1 : decode m_Out_put.2.1 1 = .ok (.getfield 19, 3) := by decide +kernel
theorem d_Out_put_4 : decode m_Out_put.2.1 4 = .ok (.sipush 16384, 3) := by decide +kernel
theorem d_Out_put_7 : decode m_Out_put.2.1 7 = .ok (.if_icmp .ge 21, 3) := by decide +kernel
theorem d_Out_put_10 : decode m_Out_put.2.1 10 = .ok (.aload_n 0, 1) := by decide +kernel
theorem d_Out_put_11 : decode m_Out_put.2.1 11 = .ok (.getfield 9, 3) := by decide +kernel
theorem d_Out_put_14 : decode m_Out_put.2.1 14 = .ok (.aload_n 0, 1) := by decide +kernel
theorem d_Out_put_15 : decode m_Out_put.2.1 15 = .ok (.dup, 1) := by decide +kernel
theorem d_Out_put_16 : decode m_Out_put.2.1 16 = .ok (.getfield 19, 3) := by decide +kernel
theorem d_Out_put_19 : decode m_Out_put.2.1 19 = .ok (.dup_x1, 1) := by decide +kernel
theorem d_Out_put_20 : decode m_Out_put.2.1 20 = .ok (.iconst 1, 1) := by decide +kernel
theorem d_Out_put_21 : decode m_Out_put.2.1 21 = .ok (.iadd, 1) := by decide +kernel
theorem d_Out_put_22 : decode m_Out_put.2.1 22 = .ok (.putfield 19, 3) := by decide +kernel
theorem d_Out_put_25 : decode m_Out_put.2.1 25 = .ok (.iload_n 1, 1) := by decide +kernel
theorem d_Out_put_26 : decode m_Out_put.2.1 26 = .ok (.i2b, 1) := by decide +kernel
theorem d_Out_put_27 : decode m_Out_put.2.1 27 = .ok (.bastore, 1) := by decide +kernel
theorem d_Out_put_28 : decode m_Out_put.2.1 28 = .ok (.return_, 1) := by decide +kernel
theorem d_Out_part_0 : decode m_Out_part.2.1 0 = .ok (.aload_n 0, 1) := by decide +kernel
theorem d_Out_part_1 : decode m_Out_part.2.1 1 = .ok (.getfield 19, 3) := by decide +kernel
theorem d_Out_part_4 : decode m_Out_part.2.1 4 = .ok (.ifCond .le 9, 3) := by decide +kernel
theorem d_Out_part_7 : decode m_Out_part.2.1 7 = .ok (.aload_n 0, 1) := by decide +kernel
theorem d_Out_part_8 : decode m_Out_part.2.1 8 = .ok (.bipush 32, 2) := by decide +kernel
theorem d_Out_part_10 : decode m_Out_part.2.1 10 = .ok (.invokevirtual 23, 3) := by decide +kernel
theorem d_Out_part_13 : decode m_Out_part.2.1 13 = .ok (.return_, 1) := by decide +kernel
theorem d_Out_spell_0 : decode m_Out_spell.2.1 0 = .ok (.bipush 7, 2) := by decide +kernel
theorem d_Out_spell_2 : decode m_Out_spell.2.1 2 = .ok (.istore_n 3, 1) := by decide +kernel
theorem d_Out_spell_3 : decode m_Out_spell.2.1 3 = .ok (.iload_n 3, 1) := by decide +kernel
theorem d_Out_spell_4 : decode m_Out_spell.2.1 4 = .ok (.ifCond .lt 33, 3) := by decide +kernel
theorem d_Out_spell_7 : decode m_Out_spell.2.1 7 = .ok (.lload_n 1, 1) := by decide +kernel
theorem d_Out_spell_8 : decode m_Out_spell.2.1 8 = .ok (.bipush 8, 2) := by decide +kernel
theorem d_Out_spell_10 : decode m_Out_spell.2.1 10 = .ok (.iload_n 3, 1) := by decide +kernel
theorem d_Out_spell_11 : decode m_Out_spell.2.1 11 = .ok (.imul, 1) := by decide +kernel
theorem d_Out_spell_12 : decode m_Out_spell.2.1 12 = .ok (.lshr, 1) := by decide +kernel
theorem d_Out_spell_13 : decode m_Out_spell.2.1 13 = .ok (.l2i, 1) := by decide +kernel
theorem d_Out_spell_14 : decode m_Out_spell.2.1 14 = .ok (.sipush 255, 3) := by decide +kernel
theorem d_Out_spell_17 : decode m_Out_spell.2.1 17 = .ok (.iand, 1) := by decide +kernel
theorem d_Out_spell_18 : decode m_Out_spell.2.1 18 = .ok (.istore 4, 2) := by decide +kernel
theorem d_Out_spell_20 : decode m_Out_spell.2.1 20 = .ok (.iload 4, 2) := by decide +kernel
theorem d_Out_spell_22 : decode m_Out_spell.2.1 22 = .ok (.ifCond .eq 9, 3) := by decide +kernel
theorem d_Out_spell_25 : decode m_Out_spell.2.1 25 = .ok (.aload_n 0, 1) := by decide +kernel
theorem d_Out_spell_26 : decode m_Out_spell.2.1 26 = .ok (.iload 4, 2) := by decide +kernel
theorem d_Out_spell_28 : decode m_Out_spell.2.1 28 = .ok (.invokevirtual 23, 3) := by decide +kernel
theorem d_Out_spell_31 : decode m_Out_spell.2.1 31 = .ok (.iinc 3 (-1), 3) := by decide +kernel
theorem d_Out_spell_34 : decode m_Out_spell.2.1 34 = .ok (.goto (-31), 3) := by decide +kernel
theorem d_Out_spell_37 : decode m_Out_spell.2.1 37 = .ok (.return_, 1) := by decide +kernel
theorem d_Out_name_0 : decode m_Out_name.2.1 0 = .ok (.aload_n 0, 1) := by decide +kernel
theorem d_Out_name_1 : decode m_Out_name.2.1 1 = .ok (.invokevirtual 27, 3) := by decide +kernel
theorem d_Out_name_4 : decode m_Out_name.2.1 4 = .ok (.aload_n 0, 1) := by decide +kernel
theorem d_Out_name_5 : decode m_Out_name.2.1 5 = .ok (.lload_n 1, 1) := by decide +kernel
theorem d_Out_name_6 : decode m_Out_name.2.1 6 = .ok (.invokevirtual 40, 3) := by decide +kernel
theorem d_Out_name_9 : decode m_Out_name.2.1 9 = .ok (.return_, 1) := by decide +kernel
theorem d_Out_digits_0 : decode m_Out_digits.2.1 0 = .ok (.aload_n 1, 1) := by decide +kernel
theorem d_Out_digits_1 : decode m_Out_digits.2.1 1 = .ok (.getfield 44, 3) := by decide +kernel
theorem d_Out_digits_4 : decode m_Out_digits.2.1 4 = .ok (.ifCond .eq 9, 3) := by decide +kernel
theorem d_Out_digits_7 : decode m_Out_digits.2.1 7 = .ok (.aload_n 0, 1) := by decide +kernel
theorem d_Out_digits_8 : decode m_Out_digits.2.1 8 = .ok (.bipush 45, 2) := by decide +kernel
theorem d_Out_digits_10 : decode m_Out_digits.2.1 10 = .ok (.invokevirtual 23, 3) := by decide +kernel
theorem d_Out_digits_13 : decode m_Out_digits.2.1 13 = .ok (.aload_n 0, 1) := by decide +kernel
theorem d_Out_digits_14 : decode m_Out_digits.2.1 14 = .ok (.getfield 15, 3) := by decide +kernel
theorem d_Out_digits_17 : decode m_Out_digits.2.1 17 = .ok (.aload_n 1, 1) := by decide +kernel
theorem d_Out_digits_18 : decode m_Out_digits.2.1 18 = .ok (.invokevirtual 50, 3) := by decide +kernel
theorem d_Out_digits_21 : decode m_Out_digits.2.1 21 = .ok (.iconst 1, 1) := by decide +kernel
theorem d_Out_digits_22 : decode m_Out_digits.2.1 22 = .ok (.isub, 1) := by decide +kernel
theorem d_Out_digits_23 : decode m_Out_digits.2.1 23 = .ok (.istore_n 2, 1) := by decide +kernel
theorem d_Out_digits_24 : decode m_Out_digits.2.1 24 = .ok (.iload_n 2, 1) := by decide +kernel
theorem d_Out_digits_25 : decode m_Out_digits.2.1 25 = .ok (.ifCond .lt 22, 3) := by decide +kernel
theorem d_Out_digits_28 : decode m_Out_digits.2.1 28 = .ok (.aload_n 0, 1) := by decide +kernel
theorem d_Out_digits_29 : decode m_Out_digits.2.1 29 = .ok (.aload_n 0, 1) := by decide +kernel
theorem d_Out_digits_30 : decode m_Out_digits.2.1 30 = .ok (.getfield 15, 3) := by decide +kernel
theorem d_Out_digits_33 : decode m_Out_digits.2.1 33 = .ok (.getfield 56, 3) := by decide +kernel
theorem d_Out_digits_36 : decode m_Out_digits.2.1 36 = .ok (.iload_n 2, 1) := by decide +kernel
theorem d_Out_digits_37 : decode m_Out_digits.2.1 37 = .ok (.baload, 1) := by decide +kernel
theorem d_Out_digits_38 : decode m_Out_digits.2.1 38 = .ok (.invokevirtual 23, 3) := by decide +kernel
theorem d_Out_digits_41 : decode m_Out_digits.2.1 41 = .ok (.iinc 2 (-1), 3) := by decide +kernel
theorem d_Out_digits_44 : decode m_Out_digits.2.1 44 = .ok (.goto (-20), 3) := by decide +kernel
theorem d_Out_digits_47 : decode m_Out_digits.2.1 47 = .ok (.return_, 1) := by decide +kernel
theorem d_Out_number_0 : decode m_Out_number.2.1 0 = .ok (.aload_n 0, 1) := by decide +kernel
theorem d_Out_number_1 : decode m_Out_number.2.1 1 = .ok (.invokevirtual 27, 3) := by decide +kernel
theorem d_Out_number_4 : decode m_Out_number.2.1 4 = .ok (.aload_n 0, 1) := by decide +kernel
theorem d_Out_number_5 : decode m_Out_number.2.1 5 = .ok (.aload_n 1, 1) := by decide +kernel
theorem d_Out_number_6 : decode m_Out_number.2.1 6 = .ok (.invokevirtual 58, 3) := by decide +kernel
theorem d_Out_number_9 : decode m_Out_number.2.1 9 = .ok (.return_, 1) := by decide +kernel
theorem d_Out_word_0 : decode m_Out_word.2.1 0 = .ok (.aload_n 0, 1) := by decide +kernel
theorem d_Out_word_1 : decode m_Out_word.2.1 1 = .ok (.invokevirtual 27, 3) := by decide +kernel
theorem d_Out_word_4 : decode m_Out_word.2.1 4 = .ok (.iconst 0, 1) := by decide +kernel
theorem d_Out_word_5 : decode m_Out_word.2.1 5 = .ok (.istore_n 2, 1) := by decide +kernel
theorem d_Out_word_6 : decode m_Out_word.2.1 6 = .ok (.iload_n 2, 1) := by decide +kernel
theorem d_Out_word_7 : decode m_Out_word.2.1 7 = .ok (.aload_n 1, 1) := by decide +kernel
theorem d_Out_word_8 : decode m_Out_word.2.1 8 = .ok (.invokevirtual 30, 3) := by decide +kernel
theorem d_Out_word_11 : decode m_Out_word.2.1 11 = .ok (.if_icmp .ge 18, 3) := by decide +kernel
theorem d_Out_word_14 : decode m_Out_word.2.1 14 = .ok (.aload_n 0, 1) := by decide +kernel
theorem d_Out_word_15 : decode m_Out_word.2.1 15 = .ok (.aload_n 1, 1) := by decide +kernel
theorem d_Out_word_16 : decode m_Out_word.2.1 16 = .ok (.iload_n 2, 1) := by decide +kernel
theorem d_Out_word_17 : decode m_Out_word.2.1 17 = .ok (.invokevirtual 36, 3) := by decide +kernel
theorem d_Out_word_20 : decode m_Out_word.2.1 20 = .ok (.invokevirtual 23, 3) := by decide +kernel
theorem d_Out_word_23 : decode m_Out_word.2.1 23 = .ok (.iinc 2 1, 3) := by decide +kernel
theorem d_Out_word_26 : decode m_Out_word.2.1 26 = .ok (.goto (-20), 3) := by decide +kernel
theorem d_Out_word_29 : decode m_Out_word.2.1 29 = .ok (.return_, 1) := by decide +kernel
/-- the out at o, its reckoner at q -/
def OutS (R : MR) (T : SH) (o q : Nat) : Prop := T.1 o = 2 + 1 ∧ R o 0 = some (o + 5) ∧ T.1 (o + 5) = 66 ∧ T.2.1 (o + 5) = 16384 ∧ R o 2 = some q ∧ RkS R T q
/-- a byte as a byte[] holds it -/
def b8 (n : Nat) : Int32 := (cI n).toInt8.toInt32
theorem b8_s {n : Nat} (h : n ≤ 127) : b8 n = cI n := toB (by omega)
theorem b8_b (n : Nat) : (b8 n).toInt8.toInt32 = b8 n := Value.int.inj (pk_nb (cI n))
def OutV (I : M32) (o : Nat) (l : List Nat) : Prop := l.length ≤ 16384 ∧ I o 1 = cI l.length ∧ ∀ j, j < l.length → I (o + 5) j = b8 (l.getD j 0)
/-- only the out may have changed -/
def FrQ (o : Nat) (I I' : M32) : Prop := ∀ q, q ≠ o → q ≠ o + 5 → I' q = I q
theorem FrQ.rf {o : Nat} {I : M32} : FrQ o I I := fun _ _ _ => rfl
theorem FrQ.tr {o : Nat} {I I1 I2 : M32} (h : FrQ o I I1) (h2 : FrQ o I1 I2) : FrQ o I I2 := fun q e1 e2 => (h2 q e1 e2).trans (h q e1 e2)
theorem FrQ.up {o k : Nat} {I : M32} {v : Int32} : FrQ o I (up2 I o k v) := fun q e1 _ => up2_row I v e1
theorem FrQ.upP {o k : Nat} {I : M32} {v : Int32} : FrQ o I (up2 I (o + 5) k v) := fun q _ e2 => up2_row I v e2
def putL (l : List Nat) (b : Nat) : List Nat := if l.length < 16384 then l ++ [b] else l
def putsL (l bs : List Nat) : List Nat := bs.foldl putL l
def partL (l : List Nat) : List Nat := if 0 < l.length then putL l 32 else l
theorem putsL_nil (l : List Nat) : putsL l [] = l := rfl
theorem putsL_app (l a b : List Nat) : putsL l (a ++ b) = putsL (putsL l a) b := List.foldl_append
theorem putsL_one (l : List Nat) (b : Nat) : putsL l [b] = putL l b := rfl
theorem c_Out_put (d : Nat) {o q b : Nat} {x : Int32} {l : List Nat} {I : M32} {L : M64} {R : MR} {T : SH} (hS : OutS R T o q) (hV : OutV I o l) (hx : x.toInt8.toInt32 = b8 b) :
    Call m_Out_put y_Out_put d 0 0 [.ref o, .int x] I L R T (rV fun I' L' R' T' => (OutV I' o (putL l b) ∧ FrQ o I I') ∧ L' = L ∧ R' = R ∧ T' = T) := by
  refine Call.ofRun (by decide) ⟨rfl, rfl⟩ (Nat.le_of_ble_eq_true rfl) ?_
  refine Run.gen fun Q hQ => ?_
  obtain ⟨h1, h2, h3⟩ := hV
  obtain ⟨n, hn⟩ : ∃ n, n = l.length := ⟨_, rfl⟩
  rw [← hn] at h1 h2 h3
  refine q_aload_n d_Out_put_0 rfl ?_
  refine j_getI (v := (cI (n : Int))) d_Out_put_1 fl_Out_19 hS.1 ⟨rfl, by decide⟩ h2 ?_
  refine j_sipush d_Out_put_4 (by decide) ?_
  refine j_icmp_ge (tgt := 28) d_Out_put_7 (by decide) (by omega) (by omega) (fun hc => ?_) (fun hc => ?_)
  · skip
    refine q_return d_Out_put_28 rfl ?_
    refine hQ _ _ _ _ _ ?_
    exact ⟨rfl, ⟨by unfold putL; rw [if_neg (by omega)]; exact ⟨by omega, by rw [← hn]; exact h2, by rw [← hn]; exact h3⟩, FrQ.rf⟩, rfl, rfl, rfl⟩
  · skip
    refine q_aload_n d_Out_put_10 rfl ?_
    refine q_getR d_Out_put_11 fl_Out_9 hS.1 ⟨rfl, by decide⟩ hS.2.1 ?_
    refine q_aload_n d_Out_put_14 rfl ?_
    refine q_dup d_Out_put_15 rfl ?_
    refine j_getI (v := (cI (n : Int))) d_Out_put_16 fl_Out_19 hS.1 ⟨rfl, by decide⟩ h2 ?_
    refine q_dup_x1 d_Out_put_19 rfl rfl ?_
    refine j_iconst d_Out_put_20 ?_
    refine j_iadd d_Out_put_21 ?_
    refine q_putI d_Out_put_22 fl_Out_19 hS.1 ⟨rfl, by decide, rfl, rfl⟩ ?_
    refine q_iload_n d_Out_put_25 rfl ?_
    refine q_i2b d_Out_put_26 ?_
    refine j_bast (j := n) d_Out_put_27 hS.2.2.1 hS.2.2.2.1 (by omega) (by omega) (by omega) ?_
    refine q_return d_Out_put_28 rfl ?_
    refine hQ _ _ _ _ _ ?_
    refine ⟨rfl, ⟨?_, (FrQ.up.tr FrQ.upP)⟩, rfl, rfl, rfl⟩
    unfold putL
    rw [if_pos (by omega)]
    refine ⟨by rw [List.length_append]; simp; omega, ?_, fun j hj => ?_⟩
    · rw [up2_a _ _ _ (by omega), up2_s, List.length_append, ← hn]; congr 1
    · rw [List.length_append, ← hn] at hj
      simp only [List.length_singleton] at hj
      by_cases e : j = n
      · subst e
        rw [up2_s, hn, List.getD_eq_getElem?_getD, List.getElem?_concat_length]
        show (x.toInt8.toInt32).toInt8.toInt32 = b8 b
        rw [hx, b8_b]
      · rw [up2_k _ _ _ e, up2_a _ _ _ (by omega), h3 j (by omega)]
        congr 1
        rw [List.getD_eq_getElem?_getD, List.getD_eq_getElem?_getD, List.getElem?_append_left (by omega)]
theorem c_Out_part (d : Nat) {o q : Nat} {l : List Nat} {I : M32} {L : M64} {R : MR} {T : SH} (hd : 1 ≤ d) (hS : OutS R T o q) (hV : OutV I o l) :
    Call m_Out_part y_Out_part d 0 0 [.ref o] I L R T (rV fun I' L' R' T' => (OutV I' o (partL l) ∧ FrQ o I I') ∧ L' = L ∧ R' = R ∧ T' = T) := by
  refine Call.ofRun (by decide) ⟨rfl, rfl⟩ (Nat.le_of_ble_eq_true rfl) ?_
  refine Run.gen fun Q hQ => ?_
  have h1 := hV.1
  refine q_aload_n d_Out_part_0 rfl ?_
  refine j_getI (v := (cI (l.length : Int))) d_Out_part_1 fl_Out_19 hS.1 ⟨rfl, by decide⟩ hV.2.1 ?_
  refine j_if_le (tgt := 13) d_Out_part_4 (by decide) (by omega) (fun hc => ?_) (fun hc => ?_)
  · skip
    refine q_return d_Out_part_13 rfl ?_
    refine hQ _ _ _ _ _ ?_
    exact ⟨rfl, ⟨by unfold partL; rw [if_neg (by omega)]; exact hV, FrQ.rf⟩, rfl, rfl, rfl⟩
  · skip
    refine q_aload_n d_Out_part_7 rfl ?_
    refine j_bipush d_Out_part_8 (by decide) ?_
    refine q_callV (ci := 2) (rc := 0) (rs := 0) (rest := []) d_Out_part_10 ml_Out_23 ok_Out_put rfl hS.1 (by decide) (c_Out_put (d - 1) (b := 32) hS hV rfl) rfl rfl (by omega) (Nat.le_of_ble_eq_true rfl) (kv_V (fun J hJ => ?_)) kt_V
    refine q_return d_Out_part_13 rfl ?_
    refine hQ _ _ _ _ _ ?_
    exact ⟨rfl, ⟨by unfold partL; rw [if_pos (by omega)]; exact hJ.1, hJ.2⟩, rfl, rfl, rfl⟩
/-! names: whole numbers of up to 8 bytes, none of them 0 -/
def NmN (x n : Nat) : Prop := x < 256 ^ n ∧ n ≤ 8 ∧ x < 9223372036854775808 ∧ ∀ k, k < n → x / 256 ^ k % 256 ≠ 0
/-- the bytes of a name from place k - 1 down -/
def spl (x : Nat) : Nat → List Nat
  | 0 => []
  | k + 1 => x / 256 ^ k % 256 :: spl x k
theorem shr_n {n k : Nat} (hn : n < 9223372036854775808) (hk : k ≤ 7) : lN n >>> ((cI (8 * (k : Int))).toInt64 &&& 63) = lN (n / 256 ^ k) := by
  have hs : (((cI (8 * (k : Int))).toInt64 &&& 63).toBitVec.smod 64).toNat = 8 * k := by
    rcases (by omega : k = 0 ∨ k = 1 ∨ k = 2 ∨ k = 3 ∨ k = 4 ∨ k = 5 ∨ k = 6 ∨ k = 7) with h | h | h | h | h | h | h | h <;> subst h <;> decide
  generalize (cI (8 * (k : Int))).toInt64 &&& 63 = D at hs ⊢
  apply Int64.toInt_inj.mp
  have e3 : (lN n).toInt = (n : Int) := pk_lT hn
  have e4 : (lN (n / 256 ^ k)).toInt = ((n / 256 ^ k : Nat) : Int) := pk_lT (Nat.lt_of_le_of_lt (Nat.div_le_self _ _) hn)
  have e5 : (lN n >>> D).toInt = (lN n).toInt >>> (8 * k) := by
    show ((lN n).toBitVec.sshiftRight' (D.toBitVec.smod 64)).toInt = _
    rw [BitVec.toInt_sshiftRight', hs]
    rfl
  rw [e4, e5, e3, Int.shiftRight_eq_div_pow, Nat.pow_mul]
  norm_cast
theorem cL_lN (n : Nat) : cL (n : Int) = lN n := by show Int64.ofInt n = Int64.ofNat n; rw [Int64.ofInt_eq_ofNat]
theorem cI_nI (n : Nat) : cI (n : Int) = nI n := by show Int32.ofInt n = Int32.ofNat n; rw [Int32.ofInt_eq_ofNat]
theorem byte_n {n k : Nat} (hn : n < 9223372036854775808) (hk : k ≤ 7) : (cL (n : Int) >>> ((cI (8 * (k : Int))).toInt64 &&& 63)).toInt32 &&& cI 255 = cI ((n / 256 ^ k % 256 : Nat) : Int) := by
  rw [cL_lN, shr_n hn hk, lN_i, pk_and _ (m := cI 255) 8 (by decide), cI_nI]
  congr 1
  show (Int32.ofNat (n / 256 ^ k)).toBitVec.toNat % 256 = _
  rw [Int32.toBitVec_ofNat', BitVec.toNat_ofNat, show (2 : Nat) ^ 32 = 256 * 16777216 from rfl, Nat.mod_mul_right_mod]
theorem c_Out_spell (d : Nat) {o q x n : Nat} {l : List Nat} {I : M32} {L : M64} {R : MR} {T : SH} (hd : 1 ≤ d) (hS : OutS R T o q) (hV : OutV I o l) (hN : NmN x n) :
    Call m_Out_spell y_Out_spell d 0 0 [.ref o, .long (cL x)] I L R T (rV fun I' L' R' T' => (OutV I' o (putsL l (spl x n)) ∧ FrQ o I I') ∧ L' = L ∧ R' = R ∧ T' = T) := by
  refine Call.ofRun (by decide) ⟨rfl, rfl⟩ (Nat.le_of_ble_eq_true rfl) ?_
  refine Run.gen fun Q hQ => ?_
  obtain ⟨hx, hn, hx63, hb⟩ := hN
  refine j_bipush d_Out_spell_0 (by decide) ?_
  refine q_istore_n (lv' := [(3, .int (cI 7)), (0, .ref o), (1, .long (cL (x : Int)))]) d_Out_spell_2 (by decide) rfl ?_
  have loop : ∀ (f k : Nat) (z : Int) (J : M32) (l' : List Nat), k < f → z = (k : Int) - 1 → k ≤ 8 → putsL l' (spl x (min k n)) = putsL l (spl x n) → OutV J o l' → FrQ o I J → Run m_Out_spell d 0 0 3 [(0, .ref o), (1, .long (cL (x : Int))), (3, .int (cI z))] [] J L R T Q := by
    intro f
    induction f with
    | zero => intro k z J l' h; omega
    | succ f ih =>
    intro k z J l' hf hz hk hp hJ hF
    refine q_iload_n d_Out_spell_3 rfl ?_
    refine j_if_lt (tgt := 37) d_Out_spell_4 (by decide) (by omega) (fun h1 => ?_) (fun h1 => ?_)
    · skip
      obtain rfl : k = 0 := by omega
      refine q_return d_Out_spell_37 rfl ?_
      refine hQ _ _ _ _ _ ?_
      exact ⟨rfl, ⟨by rw [← hp, Nat.zero_min]; exact hJ, hF⟩, rfl, rfl, rfl⟩
    obtain ⟨j, rfl⟩ : ∃ j, k = j + 1 := ⟨k - 1, by omega⟩
    obtain rfl : z = (j : Int) := by omega
    obtain ⟨b, hbb⟩ : ∃ b, b = x / 256 ^ j % 256 := ⟨_, rfl⟩
    have hb256 : b < 256 := by rw [hbb]; exact Nat.mod_lt _ (by decide)
    refine q_lload_n d_Out_spell_7 rfl ?_
    refine j_bipush d_Out_spell_8 (by decide) ?_
    refine q_iload_n d_Out_spell_10 rfl ?_
    refine j_imul d_Out_spell_11 ?_
    refine q_lshr d_Out_spell_12 ?_
    refine q_l2i d_Out_spell_13 ?_
    refine j_sipush d_Out_spell_14 (by decide) ?_
    refine q_iand d_Out_spell_17 ?_
    refine Run.top (v := .int (cI (b : Int))) (by congr 1; rw [byte_n hx63 (by omega), hbb]) ?_
    refine q_istore (lv' := [(4, .int (cI (b : Int))), (0, .ref o), (1, .long (cL (x : Int))), (3, .int (cI (j : Int)))]) d_Out_spell_18 (by decide) rfl ?_
    refine q_iload d_Out_spell_20 rfl ?_
    refine j_if_eq (tgt := 31) d_Out_spell_22 (by decide) (by omega) (fun h2 => ?_) (fun h2 => ?_)
    · skip
      have hjn : n ≤ j := by
        rcases Nat.lt_or_ge j n with g | g
        · exact absurd (by omega : x / 256 ^ j % 256 = 0) (hb j g)
        · exact g
      refine j_iinc (lv' := [(3, .int (cI ((j : Int) + (-1)))), (4, .int (cI (b : Int))), (0, .ref o), (1, .long (cL (x : Int)))]) d_Out_spell_31 rfl (by decide) rfl ?_
      refine q_goto (tgt := 3) d_Out_spell_34 (by decide) ?_
      refine Run.lv (lv' := [(0, .ref o), (1, .long (cL (x : Int))), (3, .int (cI ((j : Int) + (-1))))]) (by intro q hq; simp only [List.mem_cons, List.not_mem_nil, or_false] at hq ⊢; rcases hq with rfl | rfl | rfl <;> simp) ?_
      exact ih j _ J l' (by omega) (by omega) (by omega) (by rw [← hp]; congr 2; omega) hJ hF
    · skip
      have hjn : j < n := by
        rcases Nat.lt_or_ge j n with g | g
        · exact g
        · exfalso
          have : x / 256 ^ j = 0 := Nat.div_eq_of_lt (Nat.lt_of_lt_of_le hx (Nat.pow_le_pow_right (by decide) g))
          rw [this] at hbb; omega
      refine q_aload_n d_Out_spell_25 rfl ?_
      refine q_iload d_Out_spell_26 rfl ?_
      refine q_callV (ci := 2) (rc := 0) (rs := 0) (rest := []) d_Out_spell_28 ml_Out_23 ok_Out_put rfl hS.1 (by decide) (c_Out_put (d - 1) (b := b) hS hJ rfl) rfl rfl (by omega) (Nat.le_of_ble_eq_true rfl) (kv_V (fun K hK => ?_)) kt_V
      refine j_iinc (lv' := [(3, .int (cI ((j : Int) + (-1)))), (4, .int (cI (b : Int))), (0, .ref o), (1, .long (cL (x : Int)))]) d_Out_spell_31 rfl (by decide) rfl ?_
      refine q_goto (tgt := 3) d_Out_spell_34 (by decide) ?_
      refine Run.lv (lv' := [(0, .ref o), (1, .long (cL (x : Int))), (3, .int (cI ((j : Int) + (-1))))]) (by intro q hq; simp only [List.mem_cons, List.not_mem_nil, or_false] at hq ⊢; rcases hq with rfl | rfl | rfl <;> simp) ?_
      refine ih j _ K (putL l' b) (by omega) (by omega) (by omega) ?_ hK.1 (hF.tr hK.2)
      rw [← hp, show min j n = j by omega, show min (j + 1) n = j + 1 by omega, hbb]
      rfl
  refine Run.lv (lv' := [(0, .ref o), (1, .long (cL (x : Int))), (3, .int (cI 7))]) (by intro q hq; simp only [List.mem_cons, List.not_mem_nil, or_false] at hq ⊢; rcases hq with rfl | rfl | rfl <;> simp) ?_
  exact loop 9 8 _ I l (by omega) (by omega) (by omega) (by rw [show min 8 n = n by omega]) hV FrQ.rf
/-- a word: a blank before it, but at the beginning -/
def wordL (l bs : List Nat) : List Nat := putsL (partL l) bs
theorem c_Out_name (d : Nat) {o q x n : Nat} {l : List Nat} {I : M32} {L : M64} {R : MR} {T : SH} (hd : 2 ≤ d) (hS : OutS R T o q) (hV : OutV I o l) (hN : NmN x n) :
    Call m_Out_name y_Out_name d 0 0 [.ref o, .long (cL x)] I L R T (rV fun I' L' R' T' => (OutV I' o (wordL l (spl x n)) ∧ FrQ o I I') ∧ L' = L ∧ R' = R ∧ T' = T) := by
  refine Call.ofRun (by decide) ⟨rfl, rfl⟩ (Nat.le_of_ble_eq_true rfl) ?_
  refine Run.gen fun Q hQ => ?_
  refine q_aload_n d_Out_name_0 rfl ?_
  refine q_callV (ci := 2) (rc := 0) (rs := 0) (rest := []) d_Out_name_1 ml_Out_27 ok_Out_part rfl hS.1 (by decide) (c_Out_part (d - 1) (by omega) hS hV) rfl rfl (by omega) (Nat.le_of_ble_eq_true rfl) (kv_V (fun J hJ => ?_)) kt_V
  refine q_aload_n d_Out_name_4 rfl ?_
  refine q_lload_n d_Out_name_5 rfl ?_
  refine q_callV (ci := 2) (rc := 0) (rs := 0) (rest := []) d_Out_name_6 ml_Out_40 ok_Out_spell rfl hS.1 (by decide) (c_Out_spell (d - 1) (by omega) hS hJ.1 hN) rfl rfl (by omega) (Nat.le_of_ble_eq_true rfl) (kv_V (fun K hK => ?_)) kt_V
  refine q_return d_Out_name_9 rfl ?_
  refine hQ _ _ _ _ _ ?_
  exact ⟨rfl, ⟨hK.1, hJ.2.tr hK.2⟩, rfl, rfl, rfl⟩

