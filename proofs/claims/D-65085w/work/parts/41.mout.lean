/-! ===== 41 THE REFERENCE'S OUT ===== -/
theorem d_Model_put_0 : decode m_Model_put.2.1 0 = .ok (.aload_n 0, 1) := by decide +kernel
theorem d_Model_put_1 : decode m_Model_put.2.1 1 = .ok (.getfield 402, 3) := by decide +kernel
theorem d_Model_put_4 : decode m_Model_put.2.1 4 = .ok (.sipush 16384, 3) := by decide +kernel
theorem d_Model_put_7 : decode m_Model_put.2.1 7 = .ok (.if_icmp .ge 23, 3) := by decide +kernel
theorem d_Model_put_10 : decode m_Model_put.2.1 10 = .ok (.aload_n 0, 1) := by decide +kernel
theorem d_Model_put_11 : decode m_Model_put.2.1 11 = .ok (.getfield 13, 3) := by decide +kernel
theorem d_Model_put_14 : decode m_Model_put.2.1 14 = .ok (.aload_n 0, 1) := by decide +kernel
theorem d_Model_put_15 : decode m_Model_put.2.1 15 = .ok (.getfield 402, 3) := by decide +kernel
theorem d_Model_put_18 : decode m_Model_put.2.1 18 = .ok (.iload_n 1, 1) := by decide +kernel
theorem d_Model_put_19 : decode m_Model_put.2.1 19 = .ok (.iastore, 1) := by decide +kernel
theorem d_Model_put_20 : decode m_Model_put.2.1 20 = .ok (.aload_n 0, 1) := by decide +kernel
theorem d_Model_put_21 : decode m_Model_put.2.1 21 = .ok (.dup, 1) := by decide +kernel
theorem d_Model_put_22 : decode m_Model_put.2.1 22 = .ok (.getfield 402, 3) := by decide +kernel
theorem d_Model_put_25 : decode m_Model_put.2.1 25 = .ok (.iconst 1, 1) := by decide +kernel
theorem d_Model_put_26 : decode m_Model_put.2.1 26 = .ok (.iadd, 1) := by decide +kernel
theorem d_Model_put_27 : decode m_Model_put.2.1 27 = .ok (.putfield 402, 3) := by decide +kernel
theorem d_Model_put_30 : decode m_Model_put.2.1 30 = .ok (.return_, 1) := by decide +kernel
theorem d_Model_putBlank_0 : decode m_Model_putBlank.2.1 0 = .ok (.aload_n 0, 1) := by decide +kernel
theorem d_Model_putBlank_1 : decode m_Model_putBlank.2.1 1 = .ok (.getfield 402, 3) := by decide +kernel
theorem d_Model_putBlank_4 : decode m_Model_putBlank.2.1 4 = .ok (.ifCond .le 9, 3) := by decide +kernel
theorem d_Model_putBlank_7 : decode m_Model_putBlank.2.1 7 = .ok (.aload_n 0, 1) := by decide +kernel
theorem d_Model_putBlank_8 : decode m_Model_putBlank.2.1 8 = .ok (.bipush 32, 2) := by decide +kernel
theorem d_Model_putBlank_10 : decode m_Model_putBlank.2.1 10 = .ok (.invokevirtual 411, 3) := by decide +kernel
theorem d_Model_putBlank_13 : decode m_Model_putBlank.2.1 13 = .ok (.return_, 1) := by decide +kernel
theorem d_Model_putName_0 : decode m_Model_putName.2.1 0 = .ok (.bipush 56, 2) := by decide +kernel
theorem d_Model_putName_2 : decode m_Model_putName.2.1 2 = .ok (.istore_n 3, 1) := by decide +kernel
theorem d_Model_putName_3 : decode m_Model_putName.2.1 3 = .ok (.iload_n 3, 1) := by decide +kernel
theorem d_Model_putName_4 : decode m_Model_putName.2.1 4 = .ok (.ifCond .lt 29, 3) := by decide +kernel
theorem d_Model_putName_7 : decode m_Model_putName.2.1 7 = .ok (.lload_n 1, 1) := by decide +kernel
theorem d_Model_putName_8 : decode m_Model_putName.2.1 8 = .ok (.iload_n 3, 1) := by decide +kernel
theorem d_Model_putName_9 : decode m_Model_putName.2.1 9 = .ok (.lshr, 1) := by decide +kernel
theorem d_Model_putName_10 : decode m_Model_putName.2.1 10 = .ok (.lconst 0, 1) := by decide +kernel
theorem d_Model_putName_11 : decode m_Model_putName.2.1 11 = .ok (.lcmp, 1) := by decide +kernel
theorem d_Model_putName_12 : decode m_Model_putName.2.1 12 = .ok (.ifCond .le 15, 3) := by decide +kernel
theorem d_Model_putName_15 : decode m_Model_putName.2.1 15 = .ok (.aload_n 0, 1) := by decide +kernel
theorem d_Model_putName_16 : decode m_Model_putName.2.1 16 = .ok (.lload_n 1, 1) := by decide +kernel
theorem d_Model_putName_17 : decode m_Model_putName.2.1 17 = .ok (.iload_n 3, 1) := by decide +kernel
theorem d_Model_putName_18 : decode m_Model_putName.2.1 18 = .ok (.lshr, 1) := by decide +kernel
theorem d_Model_putName_19 : decode m_Model_putName.2.1 19 = .ok (.ldc2_w 415, 3) := by decide +kernel
theorem d_Model_putName_22 : decode m_Model_putName.2.1 22 = .ok (.land, 1) := by decide +kernel
theorem d_Model_putName_23 : decode m_Model_putName.2.1 23 = .ok (.l2i, 1) := by decide +kernel
theorem d_Model_putName_24 : decode m_Model_putName.2.1 24 = .ok (.invokevirtual 411, 3) := by decide +kernel
theorem d_Model_putName_27 : decode m_Model_putName.2.1 27 = .ok (.iinc 3 (-8), 3) := by decide +kernel
theorem d_Model_putName_30 : decode m_Model_putName.2.1 30 = .ok (.goto (-27), 3) := by decide +kernel
theorem d_Model_putName_33 : decode m_Model_putName.2.1 33 = .ok (.return_, 1) := by decide +kernel
theorem d_Model_putWord_0 : decode m_Model_putWord.2.1 0 = .ok (.aload_n 0, 1) := by decide +kernel
theorem d_Model_putWord_1 : decode m_Model_putWord.2.1 1 = .ok (.invokevirtual 417, 3) := by decide +kernel
theorem d_Model_putWord_4 : decode m_Model_putWord.2.1 4 = .ok (.aload_n 0, 1) := by decide +kernel
theorem d_Model_putWord_5 : decode m_Model_putWord.2.1 5 = .ok (.lload_n 1, 1) := by decide +kernel
theorem d_Model_putWord_6 : decode m_Model_putWord.2.1 6 = .ok (.invokevirtual 420, 3) := by decide +kernel
theorem d_Model_putWord_9 : decode m_Model_putWord.2.1 9 = .ok (.return_, 1) := by decide +kernel
theorem d_Model_putNumber_0 : decode m_Model_putNumber.2.1 0 = .ok (.aload_n 0, 1) := by decide +kernel
theorem d_Model_putNumber_1 : decode m_Model_putNumber.2.1 1 = .ok (.getfield 17, 3) := by decide +kernel
theorem d_Model_putNumber_4 : decode m_Model_putNumber.2.1 4 = .ok (.iload_n 1, 1) := by decide +kernel
theorem d_Model_putNumber_5 : decode m_Model_putNumber.2.1 5 = .ok (.iaload, 1) := by decide +kernel
theorem d_Model_putNumber_6 : decode m_Model_putNumber.2.1 6 = .ok (.ifCond .ge 9, 3) := by decide +kernel
theorem d_Model_putNumber_9 : decode m_Model_putNumber.2.1 9 = .ok (.aload_n 0, 1) := by decide +kernel
theorem d_Model_putNumber_10 : decode m_Model_putNumber.2.1 10 = .ok (.bipush 45, 2) := by decide +kernel
theorem d_Model_putNumber_12 : decode m_Model_putNumber.2.1 12 = .ok (.invokevirtual 411, 3) := by decide +kernel
theorem d_Model_putNumber_15 : decode m_Model_putNumber.2.1 15 = .ok (.aload_n 0, 1) := by decide +kernel
theorem d_Model_putNumber_16 : decode m_Model_putNumber.2.1 16 = .ok (.getfield 17, 3) := by decide +kernel
theorem d_Model_putNumber_19 : decode m_Model_putNumber.2.1 19 = .ok (.iload_n 1, 1) := by decide +kernel
theorem d_Model_putNumber_20 : decode m_Model_putNumber.2.1 20 = .ok (.iconst 1, 1) := by decide +kernel
theorem d_Model_putNumber_21 : decode m_Model_putNumber.2.1 21 = .ok (.iadd, 1) := by decide +kernel
theorem d_Model_putNumber_22 : decode m_Model_putNumber.2.1 22 = .ok (.iaload, 1) := by decide +kernel
theorem d_Model_putNumber_23 : decode m_Model_putNumber.2.1 23 = .ok (.ifCond .ne 9, 3) := by decide +kernel
theorem d_Model_putNumber_26 : decode m_Model_putNumber.2.1 26 = .ok (.aload_n 0, 1) := by decide +kernel
theorem d_Model_putNumber_27 : decode m_Model_putNumber.2.1 27 = .ok (.bipush 48, 2) := by decide +kernel
theorem d_Model_putNumber_29 : decode m_Model_putNumber.2.1 29 = .ok (.invokevirtual 411, 3) := by decide +kernel
theorem d_Model_putNumber_32 : decode m_Model_putNumber.2.1 32 = .ok (.aload_n 0, 1) := by decide +kernel
theorem d_Model_putNumber_33 : decode m_Model_putNumber.2.1 33 = .ok (.getfield 17, 3) := by decide +kernel
theorem d_Model_putNumber_36 : decode m_Model_putNumber.2.1 36 = .ok (.iload_n 1, 1) := by decide +kernel
theorem d_Model_putNumber_37 : decode m_Model_putNumber.2.1 37 = .ok (.iconst 1, 1) := by decide +kernel
theorem d_Model_putNumber_38 : decode m_Model_putNumber.2.1 38 = .ok (.iadd, 1) := by decide +kernel
theorem d_Model_putNumber_39 : decode m_Model_putNumber.2.1 39 = .ok (.iaload, 1) := by decide +kernel
theorem d_Model_putNumber_40 : decode m_Model_putNumber.2.1 40 = .ok (.iconst 1, 1) := by decide +kernel
theorem d_Model_putNumber_41 : decode m_Model_putNumber.2.1 41 = .ok (.isub, 1) := by decide +kernel
theorem d_Model_putNumber_42 : decode m_Model_putNumber.2.1 42 = .ok (.istore_n 2, 1) := by decide +kernel
theorem d_Model_putNumber_43 : decode m_Model_putNumber.2.1 43 = .ok (.iload_n 2, 1) := by decide +kernel
theorem d_Model_putNumber_44 : decode m_Model_putNumber.2.1 44 = .ok (.ifCond .lt 26, 3) := by decide +kernel
theorem d_Model_putNumber_47 : decode m_Model_putNumber.2.1 47 = .ok (.aload_n 0, 1) := by decide +kernel
theorem d_Model_putNumber_48 : decode m_Model_putNumber.2.1 48 = .ok (.bipush 48, 2) := by decide +kernel
theorem d_Model_putNumber_50 : decode m_Model_putNumber.2.1 50 = .ok (.aload_n 0, 1) := by decide +kernel
theorem d_Model_putNumber_51 : decode m_Model_putNumber.2.1 51 = .ok (.getfield 17, 3) := by decide +kernel
theorem d_Model_putNumber_54 : decode m_Model_putNumber.2.1 54 = .ok (.iload_n 1, 1) := by decide +kernel
theorem d_Model_putNumber_55 : decode m_Model_putNumber.2.1 55 = .ok (.iconst 2, 1) := by decide +kernel
theorem d_Model_putNumber_56 : decode m_Model_putNumber.2.1 56 = .ok (.iadd, 1) := by decide +kernel
theorem d_Model_putNumber_57 : decode m_Model_putNumber.2.1 57 = .ok (.iload_n 2, 1) := by decide +kernel
theorem d_Model_putNumber_58 : decode m_Model_putNumber.2.1 58 = .ok (.iadd, 1) := by decide +kernel
theorem d_Model_putNumber_59 : decode m_Model_putNumber.2.1 59 = .ok (.iaload, 1) := by decide +kernel
theorem d_Model_putNumber_60 : decode m_Model_putNumber.2.1 60 = .ok (.iadd, 1) := by decide +kernel
theorem d_Model_putNumber_61 : decode m_Model_putNumber.2.1 61 = .ok (.invokevirtual 411, 3) := by decide +kernel
theorem d_Model_putNumber_64 : decode m_Model_putNumber.2.1 64 = .ok (.iinc 2 (-1), 3) := by decide +kernel
theorem d_Model_putNumber_67 : decode m_Model_putNumber.2.1 67 = .ok (.goto (-24), 3) := by decide +kernel
theorem d_Model_putNumber_70 : decode m_Model_putNumber.2.1 70 = .ok (.return_, 1) := by decide +kernel
theorem d_Model_putLong_0 : decode m_Model_putLong.2.1 0 = .ok (.lconst 1, 1) := by decide +kernel
theorem d_Model_putLong_1 : decode m_Model_putLong.2.1 1 = .ok (.lstore_n 3, 1) := by decide +kernel
theorem d_Model_putLong_2 : decode m_Model_putLong.2.1 2 = .ok (.lload_n 1, 1) := by decide +kernel
theorem d_Model_putLong_3 : decode m_Model_putLong.2.1 3 = .ok (.lload_n 3, 1) := by decide +kernel
theorem d_Model_putLong_4 : decode m_Model_putLong.2.1 4 = .ok (.ldiv, 1) := by decide +kernel
theorem d_Model_putLong_5 : decode m_Model_putLong.2.1 5 = .ok (.ldc2_w 424, 3) := by decide +kernel
theorem d_Model_putLong_8 : decode m_Model_putLong.2.1 8 = .ok (.lcmp, 1) := by decide +kernel
theorem d_Model_putLong_9 : decode m_Model_putLong.2.1 9 = .ok (.ifCond .le 12, 3) := by decide +kernel
theorem d_Model_putLong_12 : decode m_Model_putLong.2.1 12 = .ok (.lload_n 3, 1) := by decide +kernel
theorem d_Model_putLong_13 : decode m_Model_putLong.2.1 13 = .ok (.ldc2_w 426, 3) := by decide +kernel
theorem d_Model_putLong_16 : decode m_Model_putLong.2.1 16 = .ok (.lmul, 1) := by decide +kernel
theorem d_Model_putLong_17 : decode m_Model_putLong.2.1 17 = .ok (.lstore_n 3, 1) := by decide +kernel
theorem d_Model_putLong_18 : decode m_Model_putLong.2.1 18 = .ok (.goto (-16), 3) := by decide +kernel
theorem d_Model_putLong_21 : decode m_Model_putLong.2.1 21 = .ok (.lload_n 3, 1) := by decide +kernel
theorem d_Model_putLong_22 : decode m_Model_putLong.2.1 22 = .ok (.lstore 5, 2) := by decide +kernel
theorem d_Model_putLong_24 : decode m_Model_putLong.2.1 24 = .ok (.lload 5, 2) := by decide +kernel
theorem d_Model_putLong_26 : decode m_Model_putLong.2.1 26 = .ok (.lconst 0, 1) := by decide +kernel
theorem d_Model_putLong_27 : decode m_Model_putLong.2.1 27 = .ok (.lcmp, 1) := by decide +kernel
theorem d_Model_putLong_28 : decode m_Model_putLong.2.1 28 = .ok (.ifCond .le 30, 3) := by decide +kernel
theorem d_Model_putLong_31 : decode m_Model_putLong.2.1 31 = .ok (.aload_n 0, 1) := by decide +kernel
theorem d_Model_putLong_32 : decode m_Model_putLong.2.1 32 = .ok (.bipush 48, 2) := by decide +kernel
theorem d_Model_putLong_34 : decode m_Model_putLong.2.1 34 = .ok (.lload_n 1, 1) := by decide +kernel
theorem d_Model_putLong_35 : decode m_Model_putLong.2.1 35 = .ok (.lload 5, 2) := by decide +kernel
theorem d_Model_putLong_37 : decode m_Model_putLong.2.1 37 = .ok (.ldiv, 1) := by decide +kernel
theorem d_Model_putLong_38 : decode m_Model_putLong.2.1 38 = .ok (.ldc2_w 426, 3) := by decide +kernel
theorem d_Model_putLong_41 : decode m_Model_putLong.2.1 41 = .ok (.lrem, 1) := by decide +kernel
theorem d_Model_putLong_42 : decode m_Model_putLong.2.1 42 = .ok (.l2i, 1) := by decide +kernel
theorem d_Model_putLong_43 : decode m_Model_putLong.2.1 43 = .ok (.iadd, 1) := by decide +kernel
theorem d_Model_putLong_44 : decode m_Model_putLong.2.1 44 = .ok (.invokevirtual 411, 3) := by decide +kernel
theorem d_Model_putLong_47 : decode m_Model_putLong.2.1 47 = .ok (.lload 5, 2) := by decide +kernel
theorem d_Model_putLong_49 : decode m_Model_putLong.2.1 49 = .ok (.ldc2_w 426, 3) := by decide +kernel
theorem d_Model_putLong_52 : decode m_Model_putLong.2.1 52 = .ok (.ldiv, 1) := by decide +kernel
theorem d_Model_putLong_53 : decode m_Model_putLong.2.1 53 = .ok (.lstore 5, 2) := by decide +kernel
theorem d_Model_putLong_55 : decode m_Model_putLong.2.1 55 = .ok (.goto (-31), 3) := by decide +kernel
theorem d_Model_putLong_58 : decode m_Model_putLong.2.1 58 = .ok (.return_, 1) := by decide +kernel
def MOut (I : M32) (M : Nat) (l : List Nat) : Prop := l.length ≤ 16384 ∧ I M 4 = cI l.length ∧ ∀ j, j < l.length → I (M + 2) j = cI (l.getD j 0)
/-- only the out of the reference may have changed -/
def FrU (M : Nat) (I I' : M32) : Prop := (∀ a, a ≠ M → a ≠ M + 2 → I' a = I a) ∧ ∀ k, k ≠ 4 → I' M k = I M k
theorem FrU.rf {M : Nat} {I : M32} : FrU M I I := ⟨fun _ _ _ => rfl, fun _ _ => rfl⟩
theorem FrU.tr {M : Nat} {I J K : M32} (h : FrU M I J) (g : FrU M J K) : FrU M I K := ⟨fun a x y => (g.1 a x y).trans (h.1 a x y), fun k x => (g.2 k x).trans (h.2 k x)⟩
theorem PolV.keepU {M r n : Nat} {v : Int} {I J : M32} (h : PolV I (M + 3) r n v) (hf : FrU M I J) : PolV J (M + 3) r n v := h.same (hf.1 _ (by omega) (by omega))
theorem DN.uq {x n m : Nat} (h : DN x n) (g : DN x m) : n = m := by
  rcases h with ⟨h1, h2⟩ | ⟨h1, h2⟩ <;> rcases g with ⟨g1, g2⟩ | ⟨g1, g2⟩
  · omega
  · exact absurd h1 g1
  · exact absurd g1 h1
  · exact h2.uq g2
theorem c_Model_put (d : Nat) {M b : Nat} {l : List Nat} {I : M32} {L : M64} {R : MR} {T : SH} (hM : MdlS M R T) (hV : MOut I M l) :
    Call m_Model_put y_Model_put d 0 0 [.ref M, .int (cI b)] I L R T (rV fun I' L' R' T' => (MOut I' M (putL l b) ∧ FrU M I I') ∧ L' = L ∧ R' = R ∧ T' = T) := by
  refine Call.ofRun (by decide) ⟨rfl, rfl⟩ (Nat.le_of_ble_eq_true rfl) ?_
  refine Run.gen fun Q hQ => ?_
  obtain ⟨h1, h2, h3⟩ := hV
  obtain ⟨n, hn⟩ : ∃ n, n = l.length := ⟨_, rfl⟩
  rw [← hn] at h1 h2 h3
  refine q_aload_n d_Model_put_0 rfl ?_
  refine j_getI (v := (cI (n : Int))) d_Model_put_1 fl_Model_402 hM.1 ⟨rfl, by decide⟩ h2 ?_
  refine j_sipush d_Model_put_4 (by decide) ?_
  refine j_icmp_ge (tgt := 30) d_Model_put_7 (by decide) (by omega) (by omega) (fun hc => ?_) (fun hc => ?_)
  · skip
    refine q_return d_Model_put_30 rfl ?_
    refine hQ _ _ _ _ _ ?_
    exact ⟨rfl, ⟨by unfold putL; rw [if_neg (by omega)]; exact ⟨by omega, by rw [← hn]; exact h2, by rw [← hn]; exact h3⟩, FrU.rf⟩, rfl, rfl, rfl⟩
  · skip
    refine q_aload_n d_Model_put_10 rfl ?_
    refine q_getR d_Model_put_11 fl_Model_13 hM.1 ⟨rfl, by decide⟩ (mR3 hM) ?_
    refine q_aload_n d_Model_put_14 rfl ?_
    refine j_getI (v := (cI (n : Int))) d_Model_put_15 fl_Model_402 hM.1 ⟨rfl, by decide⟩ h2 ?_
    refine q_iload_n d_Model_put_18 rfl ?_
    refine j_iast (j := n) d_Model_put_19 (mT3 hM) (mN3 hM) (by omega) (by omega) (by omega) ?_
    refine q_aload_n d_Model_put_20 rfl ?_
    refine q_dup d_Model_put_21 rfl ?_
    refine j_getI (v := (cI (n : Int))) d_Model_put_22 fl_Model_402 hM.1 ⟨rfl, by decide⟩ ((up2_a _ _ _ (by omega)).trans (h2)) ?_
    refine j_iconst d_Model_put_25 ?_
    refine j_iadd d_Model_put_26 ?_
    refine q_putI d_Model_put_27 fl_Model_402 hM.1 ⟨rfl, by decide, rfl, rfl⟩ ?_
    refine q_return d_Model_put_30 rfl ?_
    refine hQ _ _ _ _ _ ?_
    refine ⟨rfl, ⟨?_, fun a x y => by rw [up2_row _ _ x, up2_row _ _ y], fun k x => by rw [up2_k _ _ _ x, up2_a _ _ _ (by omega)]⟩, rfl, rfl, rfl⟩
    unfold putL
    rw [if_pos (by omega)]
    refine ⟨by rw [List.length_append]; simp; omega, ?_, fun j hj => ?_⟩
    · rw [up2_s, List.length_append, ← hn]; congr 1
    · rw [List.length_append, ← hn] at hj
      simp only [List.length_singleton] at hj
      by_cases e : j = n
      · subst e
        rw [up2_a _ _ _ (by omega), up2_s, hn, List.getD_eq_getElem?_getD, List.getElem?_concat_length]
        rfl
      · rw [up2_a _ _ _ (by omega), up2_k _ _ _ e, h3 j (by omega)]
        congr 2
        rw [List.getD_eq_getElem?_getD, List.getD_eq_getElem?_getD, List.getElem?_append_left (by omega)]
theorem c_Model_putBlank (d : Nat) {M : Nat} {l : List Nat} {I : M32} {L : M64} {R : MR} {T : SH} (hd : 1 ≤ d) (hM : MdlS M R T) (hV : MOut I M l) :
    Call m_Model_putBlank y_Model_putBlank d 0 0 [.ref M] I L R T (rV fun I' L' R' T' => (MOut I' M (partL l) ∧ FrU M I I') ∧ L' = L ∧ R' = R ∧ T' = T) := by
  refine Call.ofRun (by decide) ⟨rfl, rfl⟩ (Nat.le_of_ble_eq_true rfl) ?_
  refine Run.gen fun Q hQ => ?_
  have h1 := hV.1
  refine q_aload_n d_Model_putBlank_0 rfl ?_
  refine j_getI (v := (cI (l.length : Int))) d_Model_putBlank_1 fl_Model_402 hM.1 ⟨rfl, by decide⟩ hV.2.1 ?_
  refine j_if_le (tgt := 13) d_Model_putBlank_4 (by decide) (by omega) (fun hc => ?_) (fun hc => ?_)
  · skip
    refine q_return d_Model_putBlank_13 rfl ?_
    refine hQ _ _ _ _ _ ?_
    exact ⟨rfl, ⟨by unfold partL; rw [if_neg (by omega)]; exact hV, FrU.rf⟩, rfl, rfl, rfl⟩
  · skip
    refine q_aload_n d_Model_putBlank_7 rfl ?_
    refine j_bipush d_Model_putBlank_8 (by decide) ?_
    refine q_callV (ci := 17) (rc := 0) (rs := 0) (rest := []) d_Model_putBlank_10 ml_Model_411 ok_Model_put rfl hM.1 (by decide) (c_Model_put (d - 1) (b := 32) hM hV) rfl rfl (by omega) (Nat.le_of_ble_eq_true rfl) (kv_V (fun J hJ => ?_)) kt_V
    refine q_return d_Model_putBlank_13 rfl ?_
    refine hQ _ _ _ _ _ ?_
    exact ⟨rfl, ⟨by unfold partL; rw [if_pos (by omega)]; exact hJ.1, hJ.2⟩, rfl, rfl, rfl⟩
theorem and255L {y : Nat} : (cL (y : Int) &&& cL 255).toInt32 = cI ((y % 256 : Nat) : Int) := by
  have e : lN y &&& lN 255 = lN (y % 256) := by
    apply Int64.toBitVec_inj.mp
    show (Int64.ofNat y).toBitVec &&& (Int64.ofNat 255).toBitVec = (Int64.ofNat (y % 256)).toBitVec
    rw [Int64.toBitVec_ofNat', Int64.toBitVec_ofNat', Int64.toBitVec_ofNat', ← BitVec.ofNat_and, Nat.and_two_pow_sub_one_eq_mod y 8]
  rw [cL_lN, show cL 255 = lN 255 from rfl, e, lN_i, cI_nI]
theorem c_Model_putName (d : Nat) {M x n : Nat} {l : List Nat} {I : M32} {L : M64} {R : MR} {T : SH} (hd : 1 ≤ d) (hM : MdlS M R T) (hV : MOut I M l) (hN : NmN x n) :
    Call m_Model_putName y_Model_putName d 0 0 [.ref M, .long (cL x)] I L R T (rV fun I' L' R' T' => (MOut I' M (putsL l (spl x n)) ∧ FrU M I I') ∧ L' = L ∧ R' = R ∧ T' = T) := by
  refine Call.ofRun (by decide) ⟨rfl, rfl⟩ (Nat.le_of_ble_eq_true rfl) ?_
  refine Run.gen fun Q hQ => ?_
  obtain ⟨hx, hn, hx63, hb⟩ := hN
  refine j_bipush d_Model_putName_0 (by decide) ?_
  refine q_istore_n (lv' := [(3, .int (cI 56)), (0, .ref M), (1, .long (cL (x : Int)))]) d_Model_putName_2 (by decide) rfl ?_
  have loop : ∀ (f k : Nat) (z : Int) (J : M32) (l' : List Nat), k < f → z = 8 * (k : Int) - 8 → k ≤ 8 → putsL l' (spl x (min k n)) = putsL l (spl x n) → MOut J M l' → FrU M I J → Run m_Model_putName d 0 0 3 [(0, .ref M), (1, .long (cL (x : Int))), (3, .int (cI z))] [] J L R T Q := by
    intro f
    induction f with
    | zero => intro k z J l' h; omega
    | succ f ih =>
    intro k z J l' hf hz hk hp hJ hF
    refine q_iload_n d_Model_putName_3 rfl ?_
    refine j_if_lt (tgt := 33) d_Model_putName_4 (by decide) (by omega) (fun h1 => ?_) (fun h1 => ?_)
    · skip
      obtain rfl : k = 0 := by omega
      refine q_return d_Model_putName_33 rfl ?_
      refine hQ _ _ _ _ _ ?_
      exact ⟨rfl, ⟨by rw [← hp, Nat.zero_min]; exact hJ, hF⟩, rfl, rfl, rfl⟩
    obtain ⟨j, rfl⟩ : ∃ j, k = j + 1 := ⟨k - 1, by omega⟩
    obtain rfl : z = 8 * (j : Int) := by omega
    obtain ⟨y, hy⟩ : ∃ y, y = x / 256 ^ j := ⟨_, rfl⟩
    have hyx : y ≤ x := by rw [hy]; exact Nat.div_le_self _ _
    have hsh : cL (x : Int) >>> ((cI (8 * (j : Int))).toInt64 &&& 63) = cL (y : Int) := by rw [cL_lN, shr_n hx63 (by omega), hy, cL_lN]
    refine q_lload_n d_Model_putName_7 rfl ?_
    refine q_iload_n d_Model_putName_8 rfl ?_
    refine q_lshr d_Model_putName_9 ?_
    refine Run.top (v := .long (cL (y : Int))) (by rw [hsh]) ?_
    refine j_lconst (z := 0) d_Model_putName_10 (by decide) ?_
    refine j_lcmp_le (tgt := 27) d_Model_putName_11 d_Model_putName_12 (by decide) (by omega) (by omega) (fun h2 => ?_) (fun h2 => ?_)
    · skip
      have hjn : n ≤ j := by
        rcases Nat.lt_or_ge j n with g | g
        · exact absurd (by rw [← hy, show y = 0 by omega]) (hb j g)
        · exact g
      refine j_iinc (lv' := [(3, .int (cI ((8 * (j : Int)) + (-8)))), (0, .ref M), (1, .long (cL (x : Int)))]) d_Model_putName_27 rfl (by decide) rfl ?_
      refine q_goto (tgt := 3) d_Model_putName_30 (by decide) ?_
      refine Run.lv (lv' := [(0, .ref M), (1, .long (cL (x : Int))), (3, .int (cI ((8 * (j : Int)) + (-8))))]) (by intro q hq; simp only [List.mem_cons, List.not_mem_nil, or_false] at hq ⊢; rcases hq with rfl | rfl | rfl <;> simp) ?_
      exact ih j _ J l' (by omega) (by omega) (by omega) (by rw [← hp]; congr 2; omega) hJ hF
    · skip
      have hjn : j < n := by
        rcases Nat.lt_or_ge j n with g | g
        · exact g
        · exfalso
          rw [Nat.div_eq_of_lt (Nat.lt_of_lt_of_le hx (Nat.pow_le_pow_right (by decide) g))] at hy; omega
      refine q_aload_n d_Model_putName_15 rfl ?_
      refine q_lload_n d_Model_putName_16 rfl ?_
      refine q_iload_n d_Model_putName_17 rfl ?_
      refine q_lshr d_Model_putName_18 ?_
      refine Run.top (v := .long (cL (y : Int))) (by rw [hsh]) ?_
      refine j_ldc2 (z := 255) d_Model_putName_19 (inT12 26 rfl) (by decide) ?_
      refine q_land d_Model_putName_22 ?_
      refine q_l2i d_Model_putName_23 ?_
      refine Run.top (v := .int (cI (y % 256 : Int))) (by rw [and255L]; simp) ?_
      refine q_callV (ci := 17) (rc := 0) (rs := 0) (rest := []) d_Model_putName_24 ml_Model_411 ok_Model_put rfl hM.1 (by decide) (c_Model_put (d - 1) (b := y % 256) hM hJ) rfl rfl (by omega) (Nat.le_of_ble_eq_true rfl) (kv_V (fun K hK => ?_)) kt_V
      refine j_iinc (lv' := [(3, .int (cI ((8 * (j : Int)) + (-8)))), (0, .ref M), (1, .long (cL (x : Int)))]) d_Model_putName_27 rfl (by decide) rfl ?_
      refine q_goto (tgt := 3) d_Model_putName_30 (by decide) ?_
      refine Run.lv (lv' := [(0, .ref M), (1, .long (cL (x : Int))), (3, .int (cI ((8 * (j : Int)) + (-8))))]) (by intro q hq; simp only [List.mem_cons, List.not_mem_nil, or_false] at hq ⊢; rcases hq with rfl | rfl | rfl <;> simp) ?_
      refine ih j _ K (putL l' (y % 256)) (by omega) (by omega) (by omega) ?_ hK.1 (hF.tr hK.2)
      rw [← hp, show min j n = j by omega, show min (j + 1) n = j + 1 by omega, hy]
      rfl
  refine Run.lv (lv' := [(0, .ref M), (1, .long (cL (x : Int))), (3, .int (cI 56))]) (by intro q hq; simp only [List.mem_cons, List.not_mem_nil, or_false] at hq ⊢; rcases hq with rfl | rfl | rfl <;> simp) ?_
  exact loop 9 8 _ I l (by omega) (by omega) (by omega) (by rw [show min 8 n = n by omega]) hV FrU.rf
theorem c_Model_putWord (d : Nat) {M x n : Nat} {l : List Nat} {I : M32} {L : M64} {R : MR} {T : SH} (hd : 2 ≤ d) (hM : MdlS M R T) (hV : MOut I M l) (hN : NmN x n) :
    Call m_Model_putWord y_Model_putWord d 0 0 [.ref M, .long (cL x)] I L R T (rV fun I' L' R' T' => (MOut I' M (wordL l (spl x n)) ∧ FrU M I I') ∧ L' = L ∧ R' = R ∧ T' = T) := by
  refine Call.ofRun (by decide) ⟨rfl, rfl⟩ (Nat.le_of_ble_eq_true rfl) ?_
  refine Run.gen fun Q hQ => ?_
  refine q_aload_n d_Model_putWord_0 rfl ?_
  refine q_callV (ci := 17) (rc := 0) (rs := 0) (rest := []) d_Model_putWord_1 ml_Model_417 ok_Model_putBlank rfl hM.1 (by decide) (c_Model_putBlank (d - 1) (by omega) hM hV) rfl rfl (by omega) (Nat.le_of_ble_eq_true rfl) (kv_V (fun J hJ => ?_)) kt_V
  refine q_aload_n d_Model_putWord_4 rfl ?_
  refine q_lload_n d_Model_putWord_5 rfl ?_
  refine q_callV (ci := 17) (rc := 0) (rs := 0) (rest := []) d_Model_putWord_6 ml_Model_420 ok_Model_putName rfl hM.1 (by decide) (c_Model_putName (d - 1) (by omega) hM hJ.1 hN) rfl rfl (by omega) (Nat.le_of_ble_eq_true rfl) (kv_V (fun K hK => ?_)) kt_V
  refine q_return d_Model_putWord_9 rfl ?_
  refine hQ _ _ _ _ _ ?_
  exact ⟨rfl, ⟨hK.1, hJ.2.tr hK.2⟩, rfl, rfl, rfl⟩
theorem c_Model_putNumber (d : Nat) {M r n : Nat} {v : Int} {l : List Nat} {I : M32} {L : M64} {R : MR} {T : SH} (hd : 1 ≤ d) (hM : MdlS M R T) (hV : MOut I M l) (hN : PolV I (M + 3) r n v) (hr : r + n + 2 ≤ 1100000) :
    Call m_Model_putNumber y_Model_putNumber d 0 0 [.ref M, .int (cI r)] I L R T (rV fun I' L' R' T' => (∃ n', DN v.natAbs n' ∧ MOut I' M (putsL l (numL v n')) ∧ FrU M I I') ∧ L' = L ∧ R' = R ∧ T' = T) := by
  refine Call.ofRun (by decide) ⟨rfl, rfl⟩ (Nat.le_of_ble_eq_true rfl) ?_
  refine Run.gen fun Q hQ => ?_
  have hz := hN.1.zero
  have cv := cmpZ_cases v
  have fin : ∀ (J : M32) (l' : List Nat) (n' : Nat), DN v.natAbs n' → putsL l' (dls v.natAbs n) = putsL l (numL v n') → MOut J M l' → FrU M I J → Run m_Model_putNumber d 0 0 32 [(0, .ref M), (1, .int (cI (r : Int)))] [] J L R T Q := by
    intro J l' n' hD hp hJ hF
    have hNJ := hN.keepU hF
    refine q_aload_n d_Model_putNumber_32 rfl ?_
    refine q_getR d_Model_putNumber_33 fl_Model_17 hM.1 ⟨rfl, by decide⟩ (mR5 hM) ?_
    refine q_iload_n d_Model_putNumber_36 rfl ?_
    refine j_iconst d_Model_putNumber_37 ?_
    refine j_iadd d_Model_putNumber_38 ?_
    refine j_iald (j := (r + 1)) (v := (cI (n : Int))) d_Model_putNumber_39 (mT5 hM) (mN5 hM) (by omega) (by omega) (by omega) hNJ.2.2.1 ?_
    refine j_iconst d_Model_putNumber_40 ?_
    refine j_isub d_Model_putNumber_41 ?_
    refine q_istore_n (lv' := [(2, .int (cI ((n : Int) - 1))), (0, .ref M), (1, .int (cI (r : Int)))]) d_Model_putNumber_42 (by decide) rfl ?_
    have loop : ∀ (f k : Nat) (z : Int) (G : M32) (l2 : List Nat), k < f → z = (k : Int) - 1 → k ≤ n → putsL l2 (dls v.natAbs k) = putsL l (numL v n') → MOut G M l2 → FrU M I G → Run m_Model_putNumber d 0 0 43 [(0, .ref M), (1, .int (cI (r : Int))), (2, .int (cI z))] [] G L R T Q := by
      intro f
      induction f with
      | zero => intro k z G l2 h; omega
      | succ f ih =>
      intro k z G l2 hf hz hk hpp hG hFG
      refine q_iload_n d_Model_putNumber_43 rfl ?_
      refine j_if_lt (tgt := 70) d_Model_putNumber_44 (by decide) (by omega) (fun h1 => ?_) (fun h1 => ?_)
      · skip
        obtain rfl : k = 0 := by omega
        refine q_return d_Model_putNumber_70 rfl ?_
        refine hQ _ _ _ _ _ ?_
        exact ⟨rfl, ⟨n', hD, by rw [← hpp]; exact hG, hFG⟩, rfl, rfl, rfl⟩
      obtain ⟨j, rfl⟩ : ∃ j, k = j + 1 := ⟨k - 1, by omega⟩
      obtain rfl : z = (j : Int) := by omega
      have hNG := hN.keepU hFG
      refine q_aload_n d_Model_putNumber_47 rfl ?_
      refine j_bipush d_Model_putNumber_48 (by decide) ?_
      refine q_aload_n d_Model_putNumber_50 rfl ?_
      refine q_getR d_Model_putNumber_51 fl_Model_17 hM.1 ⟨rfl, by decide⟩ (mR5 hM) ?_
      refine q_iload_n d_Model_putNumber_54 rfl ?_
      refine j_iconst d_Model_putNumber_55 ?_
      refine j_iadd d_Model_putNumber_56 ?_
      refine q_iload_n d_Model_putNumber_57 rfl ?_
      refine j_iadd d_Model_putNumber_58 ?_
      refine j_iald (j := (r + j + 2)) (v := (cI (d10 v.natAbs j : Int))) d_Model_putNumber_59 (mT5 hM) (mN5 hM) (by omega) (by omega) (by omega) (hNG.2.2.2 j (by omega)) ?_
      refine j_iadd d_Model_putNumber_60 ?_
      refine Run.top (v := .int (cI (48 + d10 v.natAbs j : Int))) (by simp) ?_
      refine q_callV (ci := 17) (rc := 0) (rs := 0) (rest := []) d_Model_putNumber_61 ml_Model_411 ok_Model_put rfl hM.1 (by decide) (c_Model_put (d - 1) (b := 48 + d10 v.natAbs j) hM hG) rfl rfl (by omega) (Nat.le_of_ble_eq_true rfl) (kv_V (fun G2 hG2 => ?_)) kt_V
      refine j_iinc (lv' := [(2, .int (cI ((j : Int) + (-1)))), (0, .ref M), (1, .int (cI (r : Int)))]) d_Model_putNumber_64 rfl (by decide) rfl ?_
      refine q_goto (tgt := 43) d_Model_putNumber_67 (by decide) ?_
      refine Run.lv (lv' := [(0, .ref M), (1, .int (cI (r : Int))), (2, .int (cI ((j : Int) + (-1))))]) (by intro q hq; simp only [List.mem_cons, List.not_mem_nil, or_false] at hq ⊢; rcases hq with rfl | rfl | rfl <;> simp) ?_
      refine ih j _ G2 _ (by omega) (by omega) (by omega) ?_ hG2.1 (hFG.tr hG2.2)
      rw [← hpp]; rfl
    refine Run.lv (lv' := [(0, .ref M), (1, .int (cI (r : Int))), (2, .int (cI ((n : Int) - 1)))]) (by intro q hq; simp only [List.mem_cons, List.not_mem_nil, or_false] at hq ⊢; rcases hq with rfl | rfl | rfl <;> simp) ?_
    exact loop (n + 1) n _ J l' (by omega) rfl (Nat.le_refl _) hp hJ hF
  have mid : ∀ (J : M32) (l' : List Nat), l' = putsL l (if v < 0 then [45] else []) → MOut J M l' → FrU M I J → Run m_Model_putNumber d 0 0 15 [(0, .ref M), (1, .int (cI (r : Int)))] [] J L R T Q := by
    intro J l' hl' hJ hF
    have hNJ := hN.keepU hF
    refine q_aload_n d_Model_putNumber_15 rfl ?_
    refine q_getR d_Model_putNumber_16 fl_Model_17 hM.1 ⟨rfl, by decide⟩ (mR5 hM) ?_
    refine q_iload_n d_Model_putNumber_19 rfl ?_
    refine j_iconst d_Model_putNumber_20 ?_
    refine j_iadd d_Model_putNumber_21 ?_
    refine j_iald (j := (r + 1)) (v := (cI (n : Int))) d_Model_putNumber_22 (mT5 hM) (mN5 hM) (by omega) (by omega) (by omega) hNJ.2.2.1 ?_
    refine j_if_ne (tgt := 32) d_Model_putNumber_23 (by decide) (by omega) (fun h1 => ?_) (fun h1 => ?_)
    · skip
      exact fin J l' n (Or.inr ⟨by omega, hN.1⟩) (by rw [hl', ← putsL_app]; rfl) hJ hF
    · skip
      refine q_aload_n d_Model_putNumber_26 rfl ?_
      refine j_bipush d_Model_putNumber_27 (by decide) ?_
      refine q_callV (ci := 17) (rc := 0) (rs := 0) (rest := []) d_Model_putNumber_29 ml_Model_411 ok_Model_put rfl hM.1 (by decide) (c_Model_put (d - 1) (b := 48) hM hJ) rfl rfl (by omega) (Nat.le_of_ble_eq_true rfl) (kv_V (fun K hK => ?_)) kt_V
      exact fin K _ 1 (Or.inl ⟨by omega, rfl⟩) (by rw [show n = 0 by omega, hl']; show putL _ 48 = putsL l ((if v < 0 then [45] else []) ++ [48 + d10 v.natAbs 0]); rw [putsL_app, show v.natAbs = 0 by omega, d10_0]; rfl) hK.1 (hF.tr hK.2)
  refine q_aload_n d_Model_putNumber_0 rfl ?_
  refine q_getR d_Model_putNumber_1 fl_Model_17 hM.1 ⟨rfl, by decide⟩ (mR5 hM) ?_
  refine q_iload_n d_Model_putNumber_4 rfl ?_
  refine j_iald (j := r) (v := (cI (cmpZ v 0))) d_Model_putNumber_5 (mT5 hM) (mN5 hM) (by omega) (by omega) (by omega) hN.2.1 ?_
  refine j_if_ge (tgt := 15) d_Model_putNumber_6 (by decide) (by omega) (fun h1 => ?_) (fun h1 => ?_)
  · skip
    exact mid I l (by rw [if_neg (by omega)]; rfl) hV FrU.rf
  · skip
    refine q_aload_n d_Model_putNumber_9 rfl ?_
    refine j_bipush d_Model_putNumber_10 (by decide) ?_
    refine q_callV (ci := 17) (rc := 0) (rs := 0) (rest := []) d_Model_putNumber_12 ml_Model_411 ok_Model_put rfl hM.1 (by decide) (c_Model_put (d - 1) (b := 45) hM hV) rfl rfl (by omega) (Nat.le_of_ble_eq_true rfl) (kv_V (fun J hJ => ?_)) kt_V
    exact mid J _ (by rw [if_pos (by omega)]; rfl) hJ.1 hJ.2

