/-! ===== 32 THE REFERENCE'S NUMBERS: copies, order ===== -/
theorem d_Model_sizes_0 : decode m_Model_sizes.2.1 0 = .ok (.aload_n 0, 1) := by decide +kernel
theorem d_Model_sizes_1 : decode m_Model_sizes.2.1 1 = .ok (.getfield 17, 3) := by decide +kernel
theorem d_Model_sizes_4 : decode m_Model_sizes.2.1 4 = .ok (.iload_n 1, 1) := by decide +kernel
theorem d_Model_sizes_5 : decode m_Model_sizes.2.1 5 = .ok (.iconst 1, 1) := by decide +kernel
theorem d_Model_sizes_6 : decode m_Model_sizes.2.1 6 = .ok (.iadd, 1) := by decide +kernel
theorem d_Model_sizes_7 : decode m_Model_sizes.2.1 7 = .ok (.iaload, 1) := by decide +kernel
theorem d_Model_sizes_8 : decode m_Model_sizes.2.1 8 = .ok (.aload_n 0, 1) := by decide +kernel
theorem d_Model_sizes_9 : decode m_Model_sizes.2.1 9 = .ok (.getfield 17, 3) := by decide +kernel
theorem d_Model_sizes_12 : decode m_Model_sizes.2.1 12 = .ok (.iload_n 2, 1) := by decide +kernel
theorem d_Model_sizes_13 : decode m_Model_sizes.2.1 13 = .ok (.iconst 1, 1) := by decide +kernel
theorem d_Model_sizes_14 : decode m_Model_sizes.2.1 14 = .ok (.iadd, 1) := by decide +kernel
theorem d_Model_sizes_15 : decode m_Model_sizes.2.1 15 = .ok (.iaload, 1) := by decide +kernel
theorem d_Model_sizes_16 : decode m_Model_sizes.2.1 16 = .ok (.if_icmp .le 14, 3) := by decide +kernel
theorem d_Model_sizes_19 : decode m_Model_sizes.2.1 19 = .ok (.aload_n 0, 1) := by decide +kernel
theorem d_Model_sizes_20 : decode m_Model_sizes.2.1 20 = .ok (.getfield 17, 3) := by decide +kernel
theorem d_Model_sizes_23 : decode m_Model_sizes.2.1 23 = .ok (.iload_n 1, 1) := by decide +kernel
theorem d_Model_sizes_24 : decode m_Model_sizes.2.1 24 = .ok (.iconst 1, 1) := by decide +kernel
theorem d_Model_sizes_25 : decode m_Model_sizes.2.1 25 = .ok (.iadd, 1) := by decide +kernel
theorem d_Model_sizes_26 : decode m_Model_sizes.2.1 26 = .ok (.iaload, 1) := by decide +kernel
theorem d_Model_sizes_27 : decode m_Model_sizes.2.1 27 = .ok (.goto 11, 3) := by decide +kernel
theorem d_Model_sizes_30 : decode m_Model_sizes.2.1 30 = .ok (.aload_n 0, 1) := by decide +kernel
theorem d_Model_sizes_31 : decode m_Model_sizes.2.1 31 = .ok (.getfield 17, 3) := by decide +kernel
theorem d_Model_sizes_34 : decode m_Model_sizes.2.1 34 = .ok (.iload_n 2, 1) := by decide +kernel
theorem d_Model_sizes_35 : decode m_Model_sizes.2.1 35 = .ok (.iconst 1, 1) := by decide +kernel
theorem d_Model_sizes_36 : decode m_Model_sizes.2.1 36 = .ok (.iadd, 1) := by decide +kernel
theorem d_Model_sizes_37 : decode m_Model_sizes.2.1 37 = .ok (.iaload, 1) := by decide +kernel
theorem d_Model_sizes_38 : decode m_Model_sizes.2.1 38 = .ok (.istore_n 3, 1) := by decide +kernel
theorem d_Model_sizes_39 : decode m_Model_sizes.2.1 39 = .ok (.iload_n 3, 1) := by decide +kernel
theorem d_Model_sizes_40 : decode m_Model_sizes.2.1 40 = .ok (.iconst 1, 1) := by decide +kernel
theorem d_Model_sizes_41 : decode m_Model_sizes.2.1 41 = .ok (.isub, 1) := by decide +kernel
theorem d_Model_sizes_42 : decode m_Model_sizes.2.1 42 = .ok (.istore 4, 2) := by decide +kernel
theorem d_Model_sizes_44 : decode m_Model_sizes.2.1 44 = .ok (.iload 4, 2) := by decide +kernel
theorem d_Model_sizes_46 : decode m_Model_sizes.2.1 46 = .ok (.ifCond .lt 49, 3) := by decide +kernel
theorem d_Model_sizes_49 : decode m_Model_sizes.2.1 49 = .ok (.aload_n 0, 1) := by decide +kernel
theorem d_Model_sizes_50 : decode m_Model_sizes.2.1 50 = .ok (.iload_n 1, 1) := by decide +kernel
theorem d_Model_sizes_51 : decode m_Model_sizes.2.1 51 = .ok (.iload 4, 2) := by decide +kernel
theorem d_Model_sizes_53 : decode m_Model_sizes.2.1 53 = .ok (.invokevirtual 442, 3) := by decide +kernel
theorem d_Model_sizes_56 : decode m_Model_sizes.2.1 56 = .ok (.aload_n 0, 1) := by decide +kernel
theorem d_Model_sizes_57 : decode m_Model_sizes.2.1 57 = .ok (.iload_n 2, 1) := by decide +kernel
theorem d_Model_sizes_58 : decode m_Model_sizes.2.1 58 = .ok (.iload 4, 2) := by decide +kernel
theorem d_Model_sizes_60 : decode m_Model_sizes.2.1 60 = .ok (.invokevirtual 442, 3) := by decide +kernel
theorem d_Model_sizes_63 : decode m_Model_sizes.2.1 63 = .ok (.if_icmp .eq 26, 3) := by decide +kernel
theorem d_Model_sizes_66 : decode m_Model_sizes.2.1 66 = .ok (.aload_n 0, 1) := by decide +kernel
theorem d_Model_sizes_67 : decode m_Model_sizes.2.1 67 = .ok (.iload_n 1, 1) := by decide +kernel
theorem d_Model_sizes_68 : decode m_Model_sizes.2.1 68 = .ok (.iload 4, 2) := by decide +kernel
theorem d_Model_sizes_70 : decode m_Model_sizes.2.1 70 = .ok (.invokevirtual 442, 3) := by decide +kernel
theorem d_Model_sizes_73 : decode m_Model_sizes.2.1 73 = .ok (.aload_n 0, 1) := by decide +kernel
theorem d_Model_sizes_74 : decode m_Model_sizes.2.1 74 = .ok (.iload_n 2, 1) := by decide +kernel
theorem d_Model_sizes_75 : decode m_Model_sizes.2.1 75 = .ok (.iload 4, 2) := by decide +kernel
theorem d_Model_sizes_77 : decode m_Model_sizes.2.1 77 = .ok (.invokevirtual 442, 3) := by decide +kernel
theorem d_Model_sizes_80 : decode m_Model_sizes.2.1 80 = .ok (.if_icmp .ge 7, 3) := by decide +kernel
theorem d_Model_sizes_83 : decode m_Model_sizes.2.1 83 = .ok (.iconst (-1), 1) := by decide +kernel
theorem d_Model_sizes_84 : decode m_Model_sizes.2.1 84 = .ok (.goto 4, 3) := by decide +kernel
theorem d_Model_sizes_87 : decode m_Model_sizes.2.1 87 = .ok (.iconst 1, 1) := by decide +kernel
theorem d_Model_sizes_88 : decode m_Model_sizes.2.1 88 = .ok (.ireturn, 1) := by decide +kernel
theorem d_Model_sizes_89 : decode m_Model_sizes.2.1 89 = .ok (.iinc 4 (-1), 3) := by decide +kernel
theorem d_Model_sizes_92 : decode m_Model_sizes.2.1 92 = .ok (.goto (-48), 3) := by decide +kernel
theorem d_Model_sizes_95 : decode m_Model_sizes.2.1 95 = .ok (.iconst 0, 1) := by decide +kernel
theorem d_Model_sizes_96 : decode m_Model_sizes.2.1 96 = .ok (.ireturn, 1) := by decide +kernel
theorem d_Model_order_0 : decode m_Model_order.2.1 0 = .ok (.aload_n 0, 1) := by decide +kernel
theorem d_Model_order_1 : decode m_Model_order.2.1 1 = .ok (.getfield 17, 3) := by decide +kernel
theorem d_Model_order_4 : decode m_Model_order.2.1 4 = .ok (.iload_n 1, 1) := by decide +kernel
theorem d_Model_order_5 : decode m_Model_order.2.1 5 = .ok (.iaload, 1) := by decide +kernel
theorem d_Model_order_6 : decode m_Model_order.2.1 6 = .ok (.aload_n 0, 1) := by decide +kernel
theorem d_Model_order_7 : decode m_Model_order.2.1 7 = .ok (.getfield 17, 3) := by decide +kernel
theorem d_Model_order_10 : decode m_Model_order.2.1 10 = .ok (.iload_n 2, 1) := by decide +kernel
theorem d_Model_order_11 : decode m_Model_order.2.1 11 = .ok (.iaload, 1) := by decide +kernel
theorem d_Model_order_12 : decode m_Model_order.2.1 12 = .ok (.if_icmp .eq 24, 3) := by decide +kernel
theorem d_Model_order_15 : decode m_Model_order.2.1 15 = .ok (.aload_n 0, 1) := by decide +kernel
theorem d_Model_order_16 : decode m_Model_order.2.1 16 = .ok (.getfield 17, 3) := by decide +kernel
theorem d_Model_order_19 : decode m_Model_order.2.1 19 = .ok (.iload_n 1, 1) := by decide +kernel
theorem d_Model_order_20 : decode m_Model_order.2.1 20 = .ok (.iaload, 1) := by decide +kernel
theorem d_Model_order_21 : decode m_Model_order.2.1 21 = .ok (.aload_n 0, 1) := by decide +kernel
theorem d_Model_order_22 : decode m_Model_order.2.1 22 = .ok (.getfield 17, 3) := by decide +kernel
theorem d_Model_order_25 : decode m_Model_order.2.1 25 = .ok (.iload_n 2, 1) := by decide +kernel
theorem d_Model_order_26 : decode m_Model_order.2.1 26 = .ok (.iaload, 1) := by decide +kernel
theorem d_Model_order_27 : decode m_Model_order.2.1 27 = .ok (.if_icmp .ge 7, 3) := by decide +kernel
theorem d_Model_order_30 : decode m_Model_order.2.1 30 = .ok (.iconst (-1), 1) := by decide +kernel
theorem d_Model_order_31 : decode m_Model_order.2.1 31 = .ok (.goto 4, 3) := by decide +kernel
theorem d_Model_order_34 : decode m_Model_order.2.1 34 = .ok (.iconst 1, 1) := by decide +kernel
theorem d_Model_order_35 : decode m_Model_order.2.1 35 = .ok (.ireturn, 1) := by decide +kernel
theorem d_Model_order_36 : decode m_Model_order.2.1 36 = .ok (.aload_n 0, 1) := by decide +kernel
theorem d_Model_order_37 : decode m_Model_order.2.1 37 = .ok (.getfield 17, 3) := by decide +kernel
theorem d_Model_order_40 : decode m_Model_order.2.1 40 = .ok (.iload_n 1, 1) := by decide +kernel
theorem d_Model_order_41 : decode m_Model_order.2.1 41 = .ok (.iaload, 1) := by decide +kernel
theorem d_Model_order_42 : decode m_Model_order.2.1 42 = .ok (.ifCond .ge 12, 3) := by decide +kernel
theorem d_Model_order_45 : decode m_Model_order.2.1 45 = .ok (.aload_n 0, 1) := by decide +kernel
theorem d_Model_order_46 : decode m_Model_order.2.1 46 = .ok (.iload_n 2, 1) := by decide +kernel
theorem d_Model_order_47 : decode m_Model_order.2.1 47 = .ok (.iload_n 1, 1) := by decide +kernel
theorem d_Model_order_48 : decode m_Model_order.2.1 48 = .ok (.invokevirtual 446, 3) := by decide +kernel
theorem d_Model_order_51 : decode m_Model_order.2.1 51 = .ok (.goto 9, 3) := by decide +kernel
theorem d_Model_order_54 : decode m_Model_order.2.1 54 = .ok (.aload_n 0, 1) := by decide +kernel
theorem d_Model_order_55 : decode m_Model_order.2.1 55 = .ok (.iload_n 1, 1) := by decide +kernel
theorem d_Model_order_56 : decode m_Model_order.2.1 56 = .ok (.iload_n 2, 1) := by decide +kernel
theorem d_Model_order_57 : decode m_Model_order.2.1 57 = .ok (.invokevirtual 446, 3) := by decide +kernel
theorem d_Model_order_60 : decode m_Model_order.2.1 60 = .ok (.ireturn, 1) := by decide +kernel
theorem d_Model_minus_0 : decode m_Model_minus.2.1 0 = .ok (.aload_n 0, 1) := by decide +kernel
theorem d_Model_minus_1 : decode m_Model_minus.2.1 1 = .ok (.iload_n 1, 1) := by decide +kernel
theorem d_Model_minus_2 : decode m_Model_minus.2.1 2 = .ok (.invokevirtual 449, 3) := by decide +kernel
theorem d_Model_minus_5 : decode m_Model_minus.2.1 5 = .ok (.istore_n 2, 1) := by decide +kernel
theorem d_Model_minus_6 : decode m_Model_minus.2.1 6 = .ok (.aload_n 0, 1) := by decide +kernel
theorem d_Model_minus_7 : decode m_Model_minus.2.1 7 = .ok (.getfield 17, 3) := by decide +kernel
theorem d_Model_minus_10 : decode m_Model_minus.2.1 10 = .ok (.iload_n 2, 1) := by decide +kernel
theorem d_Model_minus_11 : decode m_Model_minus.2.1 11 = .ok (.aload_n 0, 1) := by decide +kernel
theorem d_Model_minus_12 : decode m_Model_minus.2.1 12 = .ok (.getfield 17, 3) := by decide +kernel
theorem d_Model_minus_15 : decode m_Model_minus.2.1 15 = .ok (.iload_n 2, 1) := by decide +kernel
theorem d_Model_minus_16 : decode m_Model_minus.2.1 16 = .ok (.iaload, 1) := by decide +kernel
theorem d_Model_minus_17 : decode m_Model_minus.2.1 17 = .ok (.ineg, 1) := by decide +kernel
theorem d_Model_minus_18 : decode m_Model_minus.2.1 18 = .ok (.iastore, 1) := by decide +kernel
theorem d_Model_minus_19 : decode m_Model_minus.2.1 19 = .ok (.iload_n 2, 1) := by decide +kernel
theorem d_Model_minus_20 : decode m_Model_minus.2.1 20 = .ok (.ireturn, 1) := by decide +kernel
/-- of the reference only the row of numbers from t on, its top and its flag may have changed -/
def FrP (M t : Nat) (I I' : M32) : Prop := (∀ q, q ≠ M → q ≠ M + 3 → I' q = I q) ∧ (∀ k, k ≠ 7 → k ≠ 8 → I' M k = I M k) ∧ ∀ k, k < t → I' (M + 3) k = I (M + 3) k
theorem FrP.rf {M t : Nat} {I : M32} : FrP M t I I := ⟨fun _ _ _ => rfl, fun _ _ _ => rfl, fun _ _ => rfl⟩
theorem FrP.tr {M t u : Nat} {I J K : M32} (h : FrP M t I J) (g : FrP M u J K) (htu : t ≤ u) : FrP M t I K :=
  ⟨fun q a b => (g.1 q a b).trans (h.1 q a b), fun k a b => (g.2.1 k a b).trans (h.2.1 k a b), fun k hk => (g.2.2 k (by omega)).trans (h.2.2 k hk)⟩
theorem FrP.wk {M t u : Nat} {I J : M32} (h : FrP M t I J) (htu : u ≤ t) : FrP M u I J := FrP.tr FrP.rf h htu
theorem FrP.p {M t k : Nat} {I J : M32} (h : FrP M t I J) (hk : t ≤ k) (v : Int32) : FrP M t I (up2 J (M + 3) k v) :=
  ⟨fun q a b => by rw [up2_row _ _ b]; exact h.1 q a b, fun j a b => by rw [up2_a _ _ _ (by omega)]; exact h.2.1 j a b, fun j hj => by rw [up2_k _ _ _ (by omega)]; exact h.2.2 j hj⟩
theorem FrP.f7 {M t : Nat} {I J : M32} (h : FrP M t I J) (v : Int32) : FrP M t I (up2 J M 7 v) :=
  ⟨fun q a b => by rw [up2_row _ _ a]; exact h.1 q a b, fun j a b => by rw [up2_k _ _ _ a]; exact h.2.1 j a b, fun j hj => by rw [up2_a _ _ _ (by omega)]; exact h.2.2 j hj⟩
theorem FrP.f8 {M t : Nat} {I J : M32} (h : FrP M t I J) (v : Int32) : FrP M t I (up2 J M 8 v) :=
  ⟨fun q a b => by rw [up2_row _ _ a]; exact h.1 q a b, fun j a b => by rw [up2_k _ _ _ b]; exact h.2.1 j a b, fun j hj => by rw [up2_a _ _ _ (by omega)]; exact h.2.2 j hj⟩
theorem PolV.keep {M t r n : Nat} {v : Int} {I J : M32} (h : PolV I (M + 3) r n v) (hf : FrP M t I J) (hr : r + n + 2 ≤ t) : PolV J (M + 3) r n v := h.congr fun k _ hk => hf.2.2 k (by omega)
theorem up2_lt {α : Type} {f : Nat → Nat → α} {a t k : Nat} {v : α} {g : Nat → α} (h : ∀ j, j < k → f a (t + j) = g j) (hv : v = g k) : ∀ j, j < k + 1 → up2 f a (t + k) v a (t + j) = g j := by
  intro j hj
  by_cases e : j = k
  · subst e; rw [up2_s]; exact hv
  · rw [up2_k _ _ _ (by omega)]; exact h j (by omega)
theorem c_Model_copyOf (d : Nat) {M r n t : Nat} {v : Int} {I : M32} {L : M64} {R : MR} {T : SH} (hM : MdlS M R T) (hV : PolV I (M + 3) r n v) (ht : I M 7 = cI t) (hr : r + n + 2 ≤ t) (hb : t + n + 2 ≤ 1100000) :
    Call m_Model_copyOf y_Model_copyOf d 0 0 [.ref M, .int (cI r)] I L R T (rI fun r' I' L' R' T' => (r' = cI t ∧ PolV I' (M + 3) t n v ∧ I' M 7 = cI (t + n + 2 : Nat) ∧ I' M 8 = I M 8 ∧ FrP M t I I') ∧ L' = L ∧ R' = R ∧ T' = T) := by
  refine Call.ofRun (by decide) ⟨rfl, rfl⟩ (Nat.le_of_ble_eq_true rfl) ?_
  refine Run.gen fun Q hQ => ?_
  refine q_aload_n d_Model_copyOf_0 rfl ?_
  refine q_getR d_Model_copyOf_1 fl_Model_17 hM.1 ⟨rfl, by decide⟩ (mR5 hM) ?_
  refine q_iload_n d_Model_copyOf_4 rfl ?_
  refine j_iconst d_Model_copyOf_5 ?_
  refine j_iadd d_Model_copyOf_6 ?_
  refine j_iald (j := (r + 1)) (v := (cI (n : Int))) d_Model_copyOf_7 (mT5 hM) (mN5 hM) (by omega) (by omega) (by omega) hV.2.2.1 ?_
  refine q_istore_n (lv' := [(2, .int (cI (n : Int))), (0, .ref M), (1, .int (cI (r : Int)))]) d_Model_copyOf_8 (by decide) rfl ?_
  refine q_aload_n d_Model_copyOf_9 rfl ?_
  refine j_getI (v := (cI (t : Int))) d_Model_copyOf_10 fl_Model_428 hM.1 ⟨rfl, by decide⟩ ht ?_
  refine q_istore_n (lv' := [(3, .int (cI (t : Int))), (2, .int (cI (n : Int))), (0, .ref M), (1, .int (cI (r : Int)))]) d_Model_copyOf_13 (by decide) rfl ?_
  refine j_iconst d_Model_copyOf_14 ?_
  refine q_istore (lv' := [(4, .int (cI 0)), (3, .int (cI (t : Int))), (2, .int (cI (n : Int))), (0, .ref M), (1, .int (cI (r : Int)))]) d_Model_copyOf_15 (by decide) rfl ?_
  have loop : ∀ (f k : Nat) (z : Int) (J : M32), n + 2 - k < f → z = k → k ≤ n + 2 → (∀ j, j < k → J (M + 3) (t + j) = I (M + 3) (r + j)) → J M = I M → FrP M t I J → Run m_Model_copyOf d 0 0 17 [(0, .ref M), (1, .int (cI (r : Int))), (2, .int (cI (n : Int))), (3, .int (cI (t : Int))), (4, .int (cI z))] [] J L R T Q := by
    intro f
    induction f with
    | zero => intro k z J h; omega
    | succ f ih =>
    intro k z J hf hz hk hc hJM hF
    refine q_iload d_Model_copyOf_17 rfl ?_
    refine q_iload_n d_Model_copyOf_19 rfl ?_
    refine j_iconst d_Model_copyOf_20 ?_
    refine j_iadd d_Model_copyOf_21 ?_
    refine j_icmp_ge (tgt := 49) d_Model_copyOf_22 (by decide) (by omega) (by omega) (fun h1 => ?_) (fun h1 => ?_)
    · skip
      refine q_aload_n d_Model_copyOf_49 rfl ?_
      refine q_iload_n d_Model_copyOf_50 rfl ?_
      refine q_iload_n d_Model_copyOf_51 rfl ?_
      refine j_iadd d_Model_copyOf_52 ?_
      refine j_iconst d_Model_copyOf_53 ?_
      refine j_iadd d_Model_copyOf_54 ?_
      refine q_putI d_Model_copyOf_55 fl_Model_428 hM.1 ⟨rfl, by decide, rfl, rfl⟩ ?_
      refine q_iload_n d_Model_copyOf_58 rfl ?_
      refine q_ireturn d_Model_copyOf_59 rfl rfl ?_
      refine hQ _ _ _ _ _ ?_
      refine ⟨_, rfl, ⟨rfl, ?_, ?_, ?_, hF.f7 _⟩, rfl, rfl, rfl⟩
      · have e : ∀ j, j < n + 2 → up2 J M 7 (cI ((t : Int) + n + 2)) (M + 3) (t + j) = I (M + 3) (r + j) := fun j hj => by rw [up2_a _ _ _ (by omega)]; exact hc j (by omega)
        refine ⟨hV.1, ?_, ?_, fun j hj => ?_⟩
        · exact (e 0 (by omega)).trans hV.2.1
        · exact (e 1 (by omega)).trans hV.2.2.1
        · exact (e (j + 2) (by omega)).trans (hV.2.2.2 j hj)
      · rw [up2_s]; congr 1
      · rw [up2_k _ _ _ (by omega), hJM]
    · skip
      refine q_aload_n d_Model_copyOf_25 rfl ?_
      refine q_getR d_Model_copyOf_26 fl_Model_17 hM.1 ⟨rfl, by decide⟩ (mR5 hM) ?_
      refine q_iload_n d_Model_copyOf_29 rfl ?_
      refine q_iload d_Model_copyOf_30 rfl ?_
      refine j_iadd d_Model_copyOf_32 ?_
      refine q_aload_n d_Model_copyOf_33 rfl ?_
      refine q_getR d_Model_copyOf_34 fl_Model_17 hM.1 ⟨rfl, by decide⟩ (mR5 hM) ?_
      refine q_iload_n d_Model_copyOf_37 rfl ?_
      refine q_iload d_Model_copyOf_38 rfl ?_
      refine j_iadd d_Model_copyOf_40 ?_
      refine j_iald (j := (r + k)) (v := (I (M + 3) (r + k))) d_Model_copyOf_41 (mT5 hM) (mN5 hM) (by omega) (by omega) (by omega) (hF.2.2 (r + k) (by omega)) ?_
      refine j_iast (j := (t + k)) d_Model_copyOf_42 (mT5 hM) (mN5 hM) (by omega) (by omega) (by omega) ?_
      refine j_iinc (lv' := [(4, .int (cI (z + 1))), (0, .ref M), (1, .int (cI (r : Int))), (2, .int (cI (n : Int))), (3, .int (cI (t : Int)))]) d_Model_copyOf_43 rfl (by decide) rfl ?_
      refine q_goto (tgt := 17) d_Model_copyOf_46 (by decide) ?_
      refine Run.lv (lv' := [(0, .ref M), (1, .int (cI (r : Int))), (2, .int (cI (n : Int))), (3, .int (cI (t : Int))), (4, .int (cI (z + 1)))]) (by intro q hq; simp only [List.mem_cons, List.not_mem_nil, or_false] at hq ⊢; rcases hq with rfl | rfl | rfl | rfl | rfl <;> simp) ?_
      exact ih (k + 1) _ _ (by omega) (by omega) (by omega) (up2_lt (g := fun j => I (M + 3) (r + j)) hc rfl) (by rw [up2_row _ _ (by omega)]; exact hJM) (hF.p (by omega) _)
  refine Run.lv (lv' := [(0, .ref M), (1, .int (cI (r : Int))), (2, .int (cI (n : Int))), (3, .int (cI (t : Int))), (4, .int (cI 0))]) (by intro q hq; simp only [List.mem_cons, List.not_mem_nil, or_false] at hq ⊢; rcases hq with rfl | rfl | rfl | rfl | rfl <;> simp) ?_
  exact loop (n + 3) 0 0 I (by omega) rfl (by omega) (fun j hj => by omega) rfl FrP.rf
theorem c_Model_sizes (d : Nat) {M a b n m : Nat} {v w : Int} {I : M32} {L : M64} {R : MR} {T : SH} (hd : 1 ≤ d) (hM : MdlS M R T) (hV : PolV I (M + 3) a n v) (hW : PolV I (M + 3) b m w) (ha : a + n + 2 ≤ 1100000) (hb : b + m + 2 ≤ 1100000) :
    Call m_Model_sizes y_Model_sizes d 0 0 [.ref M, .int (cI a), .int (cI b)] I L R T (rI fun r I' L' R' T' => r = cI (cmpZ v.natAbs w.natAbs) ∧ I' = I ∧ L' = L ∧ R' = R ∧ T' = T) := by
  refine Call.ofRun (by decide) ⟨rfl, rfl⟩ (Nat.le_of_ble_eq_true rfl) ?_
  refine Run.gen fun Q hQ => ?_
  suffices J : ∀ (u : Int), ((((n : Int) ≤ (m : Int)) ∧ u = (m : Int)) ∨ (((m : Int) < (n : Int)) ∧ u = (n : Int))) → Run m_Model_sizes d 0 0 38 [(0, .ref M), (1, .int (cI (a : Int))), (2, .int (cI (b : Int)))] [.int (cI u)] I L R T Q by
    refine q_aload_n d_Model_sizes_0 rfl ?_
    refine q_getR d_Model_sizes_1 fl_Model_17 hM.1 ⟨rfl, by decide⟩ (mR5 hM) ?_
    refine q_iload_n d_Model_sizes_4 rfl ?_
    refine j_iconst d_Model_sizes_5 ?_
    refine j_iadd d_Model_sizes_6 ?_
    refine j_iald (j := (a + 1)) (v := (cI (n : Int))) d_Model_sizes_7 (mT5 hM) (mN5 hM) (by omega) (by omega) (by omega) hV.2.2.1 ?_
    refine q_aload_n d_Model_sizes_8 rfl ?_
    refine q_getR d_Model_sizes_9 fl_Model_17 hM.1 ⟨rfl, by decide⟩ (mR5 hM) ?_
    refine q_iload_n d_Model_sizes_12 rfl ?_
    refine j_iconst d_Model_sizes_13 ?_
    refine j_iadd d_Model_sizes_14 ?_
    refine j_iald (j := (b + 1)) (v := (cI (m : Int))) d_Model_sizes_15 (mT5 hM) (mN5 hM) (by omega) (by omega) (by omega) hW.2.2.1 ?_
    refine j_icmp_le (tgt := 30) d_Model_sizes_16 (by decide) (by omega) (by omega) (fun hp1 => ?_) (fun hp1 => ?_)
    · refine q_aload_n d_Model_sizes_30 rfl ?_
      refine q_getR d_Model_sizes_31 fl_Model_17 hM.1 ⟨rfl, by decide⟩ (mR5 hM) ?_
      refine q_iload_n d_Model_sizes_34 rfl ?_
      refine j_iconst d_Model_sizes_35 ?_
      refine j_iadd d_Model_sizes_36 ?_
      refine j_iald (j := (b + 1)) (v := (cI (m : Int))) d_Model_sizes_37 (mT5 hM) (mN5 hM) (by omega) (by omega) (by omega) hW.2.2.1 ?_
      exact J _ (Or.inl ⟨hp1, rfl⟩)
    · refine q_aload_n d_Model_sizes_19 rfl ?_
      refine q_getR d_Model_sizes_20 fl_Model_17 hM.1 ⟨rfl, by decide⟩ (mR5 hM) ?_
      refine q_iload_n d_Model_sizes_23 rfl ?_
      refine j_iconst d_Model_sizes_24 ?_
      refine j_iadd d_Model_sizes_25 ?_
      refine j_iald (j := (a + 1)) (v := (cI (n : Int))) d_Model_sizes_26 (mT5 hM) (mN5 hM) (by omega) (by omega) (by omega) hV.2.2.1 ?_
      refine q_goto (tgt := 38) d_Model_sizes_27 (by decide) ?_
      exact J _ (Or.inr ⟨hp1, rfl⟩)
  intro u hu
  refine q_istore_n (lv' := [(3, .int (cI u)), (0, .ref M), (1, .int (cI (a : Int))), (2, .int (cI (b : Int)))]) d_Model_sizes_38 (by decide) rfl ?_
  refine q_iload_n d_Model_sizes_39 rfl ?_
  refine j_iconst d_Model_sizes_40 ?_
  refine j_isub d_Model_sizes_41 ?_
  refine q_istore (lv' := [(4, .int (cI (u - 1))), (3, .int (cI u)), (0, .ref M), (1, .int (cI (a : Int))), (2, .int (cI (b : Int)))]) d_Model_sizes_42 (by decide) rfl ?_
  obtain ⟨N, hN⟩ : ∃ N : Nat, u = N ∧ n ≤ N ∧ m ≤ N ∧ N ≤ 1100000 := ⟨u.toNat, by omega⟩
  have hx : v.natAbs < 10 ^ N := Nat.lt_of_lt_of_le hV.1.1 (Nat.pow_le_pow_right (by decide) hN.2.1)
  have hy : w.natAbs < 10 ^ N := Nat.lt_of_lt_of_le hW.1.1 (Nat.pow_le_pow_right (by decide) hN.2.2.1)
  have loop : ∀ (f k : Nat) (z : Int), k < f → z = (k : Int) - 1 → k ≤ N → v.natAbs / 10 ^ k = w.natAbs / 10 ^ k → Run m_Model_sizes d 0 0 44 [(0, .ref M), (1, .int (cI (a : Int))), (2, .int (cI (b : Int))), (3, .int (cI u)), (4, .int (cI z))] [] I L R T Q := by
    intro f
    induction f with
    | zero => intro k z h; omega
    | succ f ih =>
    intro k z hf hz hk he
    refine q_iload d_Model_sizes_44 rfl ?_
    refine j_if_lt (tgt := 95) d_Model_sizes_46 (by decide) (by omega) (fun h1 => ?_) (fun h1 => ?_)
    · skip
      refine j_iconst d_Model_sizes_95 ?_
      refine q_ireturn d_Model_sizes_96 rfl rfl ?_
      refine hQ _ _ _ _ _ ?_
      refine ⟨_, rfl, ?_, rfl, rfl, rfl, rfl⟩
      have : k = 0 := by omega
      subst this
      simp only [Nat.pow_zero, Nat.div_one] at he
      rw [he]; simp [cmpZ]
    · skip
      obtain ⟨j, rfl⟩ : ∃ j, k = j + 1 := ⟨k - 1, by omega⟩
      have hzj : z = (j : Int) := by omega
      subst hzj
      have g1 := d10_lt v.natAbs j
      have g2 := d10_lt w.natAbs j
      have cs := cmp_step10 he
      have cs2 := cmp_step10 he.symm
      refine q_aload_n d_Model_sizes_49 rfl ?_
      refine q_iload_n d_Model_sizes_50 rfl ?_
      refine q_iload d_Model_sizes_51 rfl ?_
      refine q_callV (ci := 17) (rc := 0) (rs := 0) (rest := []) d_Model_sizes_53 ml_Model_442 ok_Model_digit rfl hM.1 (by decide) (c_Model_digit (d - 1) (r := a) (n := n) (x := v.natAbs) (k := j) hM hV.2.2.1 hV.2.2.2 hV.1.1 ha (by omega)) rfl rfl (by omega) (Nat.le_of_ble_eq_true rfl) (kp_I ?_) kt_I
      refine q_aload_n d_Model_sizes_56 rfl ?_
      refine q_iload_n d_Model_sizes_57 rfl ?_
      refine q_iload d_Model_sizes_58 rfl ?_
      refine q_callV (ci := 17) (rc := 0) (rs := 0) (rest := [.int (cI (d10 v.natAbs j : Int))]) d_Model_sizes_60 ml_Model_442 ok_Model_digit rfl hM.1 (by decide) (c_Model_digit (d - 1) (r := b) (n := m) (x := w.natAbs) (k := j) hM hW.2.2.1 hW.2.2.2 hW.1.1 hb (by omega)) rfl rfl (by omega) (Nat.le_of_ble_eq_true rfl) (kp_I ?_) kt_I
      refine j_icmp_eq (tgt := 89) d_Model_sizes_63 (by decide) (by omega) (by omega) (fun h2 => ?_) (fun h2 => ?_)
      · skip
        refine j_iinc (lv' := [(4, .int (cI ((j : Int) + (-1)))), (0, .ref M), (1, .int (cI (a : Int))), (2, .int (cI (b : Int))), (3, .int (cI u))]) d_Model_sizes_89 rfl (by decide) rfl ?_
        refine q_goto (tgt := 44) d_Model_sizes_92 (by decide) ?_
        refine Run.lv (lv' := [(0, .ref M), (1, .int (cI (a : Int))), (2, .int (cI (b : Int))), (3, .int (cI u)), (4, .int (cI ((j : Int) + (-1))))]) (by intro q hq; simp only [List.mem_cons, List.not_mem_nil, or_false] at hq ⊢; rcases hq with rfl | rfl | rfl | rfl | rfl <;> simp) ?_
        exact ih j _ (by omega) (by omega) (by omega) (cs.2 (by omega))
      · skip
        refine q_aload_n d_Model_sizes_66 rfl ?_
        refine q_iload_n d_Model_sizes_67 rfl ?_
        refine q_iload d_Model_sizes_68 rfl ?_
        refine q_callV (ci := 17) (rc := 0) (rs := 0) (rest := []) d_Model_sizes_70 ml_Model_442 ok_Model_digit rfl hM.1 (by decide) (c_Model_digit (d - 1) (r := a) (n := n) (x := v.natAbs) (k := j) hM hV.2.2.1 hV.2.2.2 hV.1.1 ha (by omega)) rfl rfl (by omega) (Nat.le_of_ble_eq_true rfl) (kp_I ?_) kt_I
        refine q_aload_n d_Model_sizes_73 rfl ?_
        refine q_iload_n d_Model_sizes_74 rfl ?_
        refine q_iload d_Model_sizes_75 rfl ?_
        refine q_callV (ci := 17) (rc := 0) (rs := 0) (rest := [.int (cI (d10 v.natAbs j : Int))]) d_Model_sizes_77 ml_Model_442 ok_Model_digit rfl hM.1 (by decide) (c_Model_digit (d - 1) (r := b) (n := m) (x := w.natAbs) (k := j) hM hW.2.2.1 hW.2.2.2 hW.1.1 hb (by omega)) rfl rfl (by omega) (Nat.le_of_ble_eq_true rfl) (kp_I ?_) kt_I
        suffices J : ∀ (q : Int), ((((d10 w.natAbs j : Int) ≤ (d10 v.natAbs j : Int)) ∧ q = 1) ∨ (((d10 v.natAbs j : Int) < (d10 w.natAbs j : Int)) ∧ q = (-1))) → Run m_Model_sizes d 0 0 88 [(0, .ref M), (1, .int (cI (a : Int))), (2, .int (cI (b : Int))), (3, .int (cI u)), (4, .int (cI (j : Int)))] [.int (cI q)] I L R T Q by
          refine j_icmp_ge (tgt := 87) d_Model_sizes_80 (by decide) (by omega) (by omega) (fun hp2 => ?_) (fun hp2 => ?_)
          · refine j_iconst d_Model_sizes_87 ?_
            exact J _ (Or.inl ⟨hp2, rfl⟩)
          · refine j_iconst d_Model_sizes_83 ?_
            refine q_goto (tgt := 88) d_Model_sizes_84 (by decide) ?_
            exact J _ (Or.inr ⟨hp2, rfl⟩)
        intro q hq
        refine q_ireturn d_Model_sizes_88 rfl rfl ?_
        refine hQ _ _ _ _ _ ?_
        refine ⟨_, rfl, ?_, rfl, rfl, rfl, rfl⟩
        congr 1
        unfold cmpZ
        rcases hq with ⟨h3, e⟩ | ⟨h3, e⟩
        · have := cs2.1 (by omega)
          rw [if_neg (by omega), if_neg (by omega), e]
        · have := cs.1 (by omega)
          rw [if_pos (by omega), e]
  refine Run.lv (lv' := [(0, .ref M), (1, .int (cI (a : Int))), (2, .int (cI (b : Int))), (3, .int (cI u)), (4, .int (cI (u - 1)))]) (by intro q hq; simp only [List.mem_cons, List.not_mem_nil, or_false] at hq ⊢; rcases hq with rfl | rfl | rfl | rfl | rfl <;> simp) ?_
  exact loop (N + 1) N _ (by omega) (by rw [hN.1]) (Nat.le_refl _) (by rw [Nat.div_eq_of_lt hx, Nat.div_eq_of_lt hy])
theorem c_Model_order (d : Nat) {M a b n m : Nat} {v w : Int} {I : M32} {L : M64} {R : MR} {T : SH} (hd : 2 ≤ d) (hM : MdlS M R T) (hV : PolV I (M + 3) a n v) (hW : PolV I (M + 3) b m w) (ha : a + n + 2 ≤ 1100000) (hb : b + m + 2 ≤ 1100000) :
    Call m_Model_order y_Model_order d 0 0 [.ref M, .int (cI a), .int (cI b)] I L R T (rI fun r I' L' R' T' => r = cI (cmpZ v w) ∧ I' = I ∧ L' = L ∧ R' = R ∧ T' = T) := by
  refine Call.ofRun (by decide) ⟨rfl, rfl⟩ (Nat.le_of_ble_eq_true rfl) ?_
  refine Run.gen fun Q hQ => ?_
  have i1 := cmpZ_in v 0
  have i2 := cmpZ_in w 0
  refine q_aload_n d_Model_order_0 rfl ?_
  refine q_getR d_Model_order_1 fl_Model_17 hM.1 ⟨rfl, by decide⟩ (mR5 hM) ?_
  refine q_iload_n d_Model_order_4 rfl ?_
  refine j_iald (j := a) (v := (cI (cmpZ v 0))) d_Model_order_5 (mT5 hM) (mN5 hM) (by omega) (by omega) (by omega) hV.2.1 ?_
  refine q_aload_n d_Model_order_6 rfl ?_
  refine q_getR d_Model_order_7 fl_Model_17 hM.1 ⟨rfl, by decide⟩ (mR5 hM) ?_
  refine q_iload_n d_Model_order_10 rfl ?_
  refine j_iald (j := b) (v := (cI (cmpZ w 0))) d_Model_order_11 (mT5 hM) (mN5 hM) (by omega) (by omega) (by omega) hW.2.1 ?_
  refine j_icmp_eq (tgt := 36) d_Model_order_12 (by decide) (by omega) (by omega) (fun h1 => ?_) (fun h1 => ?_)
  · skip
    refine q_aload_n d_Model_order_36 rfl ?_
    refine q_getR d_Model_order_37 fl_Model_17 hM.1 ⟨rfl, by decide⟩ (mR5 hM) ?_
    refine q_iload_n d_Model_order_40 rfl ?_
    refine j_iald (j := a) (v := (cI (cmpZ v 0))) d_Model_order_41 (mT5 hM) (mN5 hM) (by omega) (by omega) (by omega) hV.2.1 ?_
    refine j_if_ge (tgt := 54) d_Model_order_42 (by decide) (by omega) (fun h2 => ?_) (fun h2 => ?_)
    · skip
      refine q_aload_n d_Model_order_54 rfl ?_
      refine q_iload_n d_Model_order_55 rfl ?_
      refine q_iload_n d_Model_order_56 rfl ?_
      refine q_callV (ci := 17) (rc := 0) (rs := 0) (rest := []) d_Model_order_57 ml_Model_446 ok_Model_sizes rfl hM.1 (by decide) (c_Model_sizes (d - 1) (by omega) hM hV hW ha hb) rfl rfl (by omega) (Nat.le_of_ble_eq_true rfl) (kp_I ?_) kt_I
      refine q_ireturn d_Model_order_60 rfl rfl ?_
      refine hQ _ _ _ _ _ ?_
      refine ⟨_, rfl, ?_, rfl, rfl, rfl, rfl⟩
      congr 1
      unfold cmpZ at h1 h2 ⊢
      split at h1 <;> split at h1 <;> (try split at h1) <;> (try split at h1) <;> (repeat' split) <;> omega
    · skip
      refine q_aload_n d_Model_order_45 rfl ?_
      refine q_iload_n d_Model_order_46 rfl ?_
      refine q_iload_n d_Model_order_47 rfl ?_
      refine q_callV (ci := 17) (rc := 0) (rs := 0) (rest := []) d_Model_order_48 ml_Model_446 ok_Model_sizes rfl hM.1 (by decide) (c_Model_sizes (d - 1) (by omega) hM hW hV hb ha) rfl rfl (by omega) (Nat.le_of_ble_eq_true rfl) (kp_I ?_) kt_I
      refine q_goto (tgt := 60) d_Model_order_51 (by decide) ?_
      refine q_ireturn d_Model_order_60 rfl rfl ?_
      refine hQ _ _ _ _ _ ?_
      refine ⟨_, rfl, ?_, rfl, rfl, rfl, rfl⟩
      congr 1
      unfold cmpZ at h1 h2 ⊢
      split at h1 <;> split at h1 <;> (try split at h1) <;> (try split at h1) <;> (repeat' split) <;> omega
  · skip
    refine q_aload_n d_Model_order_15 rfl ?_
    refine q_getR d_Model_order_16 fl_Model_17 hM.1 ⟨rfl, by decide⟩ (mR5 hM) ?_
    refine q_iload_n d_Model_order_19 rfl ?_
    refine j_iald (j := a) (v := (cI (cmpZ v 0))) d_Model_order_20 (mT5 hM) (mN5 hM) (by omega) (by omega) (by omega) hV.2.1 ?_
    refine q_aload_n d_Model_order_21 rfl ?_
    refine q_getR d_Model_order_22 fl_Model_17 hM.1 ⟨rfl, by decide⟩ (mR5 hM) ?_
    refine q_iload_n d_Model_order_25 rfl ?_
    refine j_iald (j := b) (v := (cI (cmpZ w 0))) d_Model_order_26 (mT5 hM) (mN5 hM) (by omega) (by omega) (by omega) hW.2.1 ?_
    suffices J : ∀ (q : Int), ((((cmpZ w 0) ≤ (cmpZ v 0)) ∧ q = 1) ∨ (((cmpZ v 0) < (cmpZ w 0)) ∧ q = (-1))) → Run m_Model_order d 0 0 35 [(0, .ref M), (1, .int (cI (a : Int))), (2, .int (cI (b : Int)))] [.int (cI q)] I L R T Q by
      refine j_icmp_ge (tgt := 34) d_Model_order_27 (by decide) (by omega) (by omega) (fun hp3 => ?_) (fun hp3 => ?_)
      · refine j_iconst d_Model_order_34 ?_
        exact J _ (Or.inl ⟨hp3, rfl⟩)
      · refine j_iconst d_Model_order_30 ?_
        refine q_goto (tgt := 35) d_Model_order_31 (by decide) ?_
        exact J _ (Or.inr ⟨hp3, rfl⟩)
    intro q hq
    refine q_ireturn d_Model_order_35 rfl rfl ?_
    refine hQ _ _ _ _ _ ?_
    refine ⟨_, rfl, ?_, rfl, rfl, rfl, rfl⟩
    congr 1
    unfold cmpZ at h1 hq ⊢
    (repeat' split at h1) <;> (repeat' split at hq) <;> (repeat' split) <;> omega
theorem c_Model_minus (d : Nat) {M r n t : Nat} {v : Int} {I : M32} {L : M64} {R : MR} {T : SH} (hd : 1 ≤ d) (hM : MdlS M R T) (hV : PolV I (M + 3) r n v) (ht : I M 7 = cI t) (hr : r + n + 2 ≤ t) (hb : t + n + 2 ≤ 1100000) :
    Call m_Model_minus y_Model_minus d 0 0 [.ref M, .int (cI r)] I L R T (rI fun r' I' L' R' T' => (r' = cI t ∧ PolV I' (M + 3) t n (-v) ∧ I' M 7 = cI (t + n + 2 : Nat) ∧ I' M 8 = I M 8 ∧ FrP M t I I') ∧ L' = L ∧ R' = R ∧ T' = T) := by
  refine Call.ofRun (by decide) ⟨rfl, rfl⟩ (Nat.le_of_ble_eq_true rfl) ?_
  refine Run.gen fun Q hQ => ?_
  refine q_aload_n d_Model_minus_0 rfl ?_
  refine q_iload_n d_Model_minus_1 rfl ?_
  refine q_callV (ci := 17) (rc := 0) (rs := 0) (rest := []) d_Model_minus_2 ml_Model_449 ok_Model_copyOf rfl hM.1 (by decide) (c_Model_copyOf (d - 1) hM hV ht hr hb) rfl rfl (by omega) (Nat.le_of_ble_eq_true rfl) (kv_I (fun q J hJ => ?_)) kt_I
  obtain ⟨rfl, hJV, hJ7, hJ8, hF⟩ := hJ
  refine q_istore_n (lv' := [(2, .int (cI (t : Int))), (0, .ref M), (1, .int (cI (r : Int)))]) d_Model_minus_5 (by decide) rfl ?_
  refine q_aload_n d_Model_minus_6 rfl ?_
  refine q_getR d_Model_minus_7 fl_Model_17 hM.1 ⟨rfl, by decide⟩ (mR5 hM) ?_
  refine q_iload_n d_Model_minus_10 rfl ?_
  refine q_aload_n d_Model_minus_11 rfl ?_
  refine q_getR d_Model_minus_12 fl_Model_17 hM.1 ⟨rfl, by decide⟩ (mR5 hM) ?_
  refine q_iload_n d_Model_minus_15 rfl ?_
  refine j_iald (j := t) (v := (cI (cmpZ v 0))) d_Model_minus_16 (mT5 hM) (mN5 hM) (by omega) (by omega) (by omega) hJV.2.1 ?_
  refine j_ineg d_Model_minus_17 ?_
  refine j_iast (j := t) d_Model_minus_18 (mT5 hM) (mN5 hM) (by omega) (by omega) (by omega) ?_
  refine q_iload_n d_Model_minus_19 rfl ?_
  refine q_ireturn d_Model_minus_20 rfl rfl ?_
  refine hQ _ _ _ _ _ ?_
  refine ⟨_, rfl, ⟨rfl, ⟨?_, ?_, ?_, fun k hk => ?_⟩, ?_, ?_, hF.p (by omega) _⟩, rfl, rfl, rfl⟩
  · rw [Int.natAbs_neg]; exact hJV.1
  · rw [up2_s]; congr 1; unfold cmpZ; (repeat' split) <;> omega
  · rw [up2_k _ _ _ (by omega)]; exact hJV.2.2.1
  · rw [up2_k _ _ _ (by omega), Int.natAbs_neg]; exact hJV.2.2.2 k hk
  · rw [up2_a _ _ _ (by omega)]; exact hJ7
  · rw [up2_a _ _ _ (by omega)]; exact hJ8

