/-! ===== 80 THE LIST OF NUMBERS: add ===== -/
theorem d_ArrayList_add_0 : decode m_ArrayList_add.2.1 0 = .ok (.aload_n 0, 1) := by decide +kernel
theorem d_ArrayList_add_1 : decode m_ArrayList_add.2.1 1 = .ok (.dup, 1) := by decide +kernel
theorem d_ArrayList_add_2 : decode m_ArrayList_add.2.1 2 = .ok (.getfield 63, 3) := by decide +kernel
theorem d_ArrayList_add_5 : decode m_ArrayList_add.2.1 5 = .ok (.iconst 1, 1) := by decide +kernel
theorem d_ArrayList_add_6 : decode m_ArrayList_add.2.1 6 = .ok (.iadd, 1) := by decide +kernel
theorem d_ArrayList_add_7 : decode m_ArrayList_add.2.1 7 = .ok (.putfield 63, 3) := by decide +kernel
theorem d_ArrayList_add_10 : decode m_ArrayList_add.2.1 10 = .ok (.aload_n 0, 1) := by decide +kernel
theorem d_ArrayList_add_11 : decode m_ArrayList_add.2.1 11 = .ok (.aload_n 1, 1) := by decide +kernel
theorem d_ArrayList_add_12 : decode m_ArrayList_add.2.1 12 = .ok (.aload_n 0, 1) := by decide +kernel
theorem d_ArrayList_add_13 : decode m_ArrayList_add.2.1 13 = .ok (.getfield 9, 3) := by decide +kernel
theorem d_ArrayList_add_16 : decode m_ArrayList_add.2.1 16 = .ok (.aload_n 0, 1) := by decide +kernel
theorem d_ArrayList_add_17 : decode m_ArrayList_add.2.1 17 = .ok (.getfield 48, 3) := by decide +kernel
theorem d_ArrayList_add_20 : decode m_ArrayList_add.2.1 20 = .ok (.invokevirtual 131, 3) := by decide +kernel
theorem d_ArrayList_add_23 : decode m_ArrayList_add.2.1 23 = .ok (.iconst 1, 1) := by decide +kernel
theorem d_ArrayList_add_24 : decode m_ArrayList_add.2.1 24 = .ok (.ireturn, 1) := by decide +kernel
theorem d_ArrayList_add2_0 : decode m_ArrayList_add2.2.1 0 = .ok (.iload_n 3, 1) := by decide +kernel
theorem d_ArrayList_add2_1 : decode m_ArrayList_add2.2.1 1 = .ok (.aload_n 2, 1) := by decide +kernel
theorem d_ArrayList_add2_2 : decode m_ArrayList_add2.2.1 2 = .ok (.arraylength, 1) := by decide +kernel
theorem d_ArrayList_add2_3 : decode m_ArrayList_add2.2.1 3 = .ok (.if_icmp .ne 8, 3) := by decide +kernel
theorem d_ArrayList_add2_6 : decode m_ArrayList_add2.2.1 6 = .ok (.aload_n 0, 1) := by decide +kernel
theorem d_ArrayList_add2_7 : decode m_ArrayList_add2.2.1 7 = .ok (.invokevirtual 129, 3) := by decide +kernel
theorem d_ArrayList_add2_10 : decode m_ArrayList_add2.2.1 10 = .ok (.astore_n 2, 1) := by decide +kernel
theorem d_ArrayList_add2_11 : decode m_ArrayList_add2.2.1 11 = .ok (.aload_n 2, 1) := by decide +kernel
theorem d_ArrayList_add2_12 : decode m_ArrayList_add2.2.1 12 = .ok (.iload_n 3, 1) := by decide +kernel
theorem d_ArrayList_add2_13 : decode m_ArrayList_add2.2.1 13 = .ok (.aload_n 1, 1) := by decide +kernel
theorem d_ArrayList_add2_14 : decode m_ArrayList_add2.2.1 14 = .ok (.aastore, 1) := by decide +kernel
theorem d_ArrayList_add2_15 : decode m_ArrayList_add2.2.1 15 = .ok (.aload_n 0, 1) := by decide +kernel
theorem d_ArrayList_add2_16 : decode m_ArrayList_add2.2.1 16 = .ok (.iload_n 3, 1) := by decide +kernel
theorem d_ArrayList_add2_17 : decode m_ArrayList_add2.2.1 17 = .ok (.iconst 1, 1) := by decide +kernel
theorem d_ArrayList_add2_18 : decode m_ArrayList_add2.2.1 18 = .ok (.iadd, 1) := by decide +kernel
theorem d_ArrayList_add2_19 : decode m_ArrayList_add2.2.1 19 = .ok (.putfield 48, 3) := by decide +kernel
theorem d_ArrayList_add2_22 : decode m_ArrayList_add2.2.1 22 = .ok (.return_, 1) := by decide +kernel
theorem d_ArrayList_grow_0 : decode m_ArrayList_grow.2.1 0 = .ok (.aload_n 0, 1) := by decide +kernel
theorem d_ArrayList_grow_1 : decode m_ArrayList_grow.2.1 1 = .ok (.aload_n 0, 1) := by decide +kernel
theorem d_ArrayList_grow_2 : decode m_ArrayList_grow.2.1 2 = .ok (.getfield 48, 3) := by decide +kernel
theorem d_ArrayList_grow_5 : decode m_ArrayList_grow.2.1 5 = .ok (.iconst 1, 1) := by decide +kernel
theorem d_ArrayList_grow_6 : decode m_ArrayList_grow.2.1 6 = .ok (.iadd, 1) := by decide +kernel
theorem d_ArrayList_grow_7 : decode m_ArrayList_grow.2.1 7 = .ok (.invokevirtual 69, 3) := by decide +kernel
theorem d_ArrayList_grow_10 : decode m_ArrayList_grow.2.1 10 = .ok (.areturn, 1) := by decide +kernel
theorem d_ArrayList_grow2_0 : decode m_ArrayList_grow2.2.1 0 = .ok (.aload_n 0, 1) := by decide +kernel
theorem d_ArrayList_grow2_1 : decode m_ArrayList_grow2.2.1 1 = .ok (.getfield 9, 3) := by decide +kernel
theorem d_ArrayList_grow2_4 : decode m_ArrayList_grow2.2.1 4 = .ok (.arraylength, 1) := by decide +kernel
theorem d_ArrayList_grow2_5 : decode m_ArrayList_grow2.2.1 5 = .ok (.istore_n 2, 1) := by decide +kernel
theorem d_ArrayList_grow2_6 : decode m_ArrayList_grow2.2.1 6 = .ok (.iload_n 2, 1) := by decide +kernel
theorem d_ArrayList_grow2_7 : decode m_ArrayList_grow2.2.1 7 = .ok (.ifCond .gt 13, 3) := by decide +kernel
theorem d_ArrayList_grow2_10 : decode m_ArrayList_grow2.2.1 10 = .ok (.aload_n 0, 1) := by decide +kernel
theorem d_ArrayList_grow2_11 : decode m_ArrayList_grow2.2.1 11 = .ok (.getfield 9, 3) := by decide +kernel
theorem d_ArrayList_grow2_14 : decode m_ArrayList_grow2.2.1 14 = .ok (.getstatic 39, 3) := by decide +kernel
theorem d_ArrayList_grow2_17 : decode m_ArrayList_grow2.2.1 17 = .ok (.if_acmp .eq 28, 3) := by decide +kernel
theorem d_ArrayList_grow2_20 : decode m_ArrayList_grow2.2.1 20 = .ok (.iload_n 2, 1) := by decide +kernel
theorem d_ArrayList_grow2_21 : decode m_ArrayList_grow2.2.1 21 = .ok (.iload_n 1, 1) := by decide +kernel
theorem d_ArrayList_grow2_22 : decode m_ArrayList_grow2.2.1 22 = .ok (.iload_n 2, 1) := by decide +kernel
theorem d_ArrayList_grow2_23 : decode m_ArrayList_grow2.2.1 23 = .ok (.isub, 1) := by decide +kernel
theorem d_ArrayList_grow2_24 : decode m_ArrayList_grow2.2.1 24 = .ok (.iload_n 2, 1) := by decide +kernel
theorem d_ArrayList_grow2_25 : decode m_ArrayList_grow2.2.1 25 = .ok (.iconst 1, 1) := by decide +kernel
theorem d_ArrayList_grow2_26 : decode m_ArrayList_grow2.2.1 26 = .ok (.ishr, 1) := by decide +kernel
theorem d_ArrayList_grow2_27 : decode m_ArrayList_grow2.2.1 27 = .ok (.invokestatic 73, 3) := by decide +kernel
theorem d_ArrayList_grow2_30 : decode m_ArrayList_grow2.2.1 30 = .ok (.istore_n 3, 1) := by decide +kernel
theorem d_ArrayList_grow2_31 : decode m_ArrayList_grow2.2.1 31 = .ok (.aload_n 0, 1) := by decide +kernel
theorem d_ArrayList_grow2_32 : decode m_ArrayList_grow2.2.1 32 = .ok (.aload_n 0, 1) := by decide +kernel
theorem d_ArrayList_grow2_33 : decode m_ArrayList_grow2.2.1 33 = .ok (.getfield 9, 3) := by decide +kernel
theorem d_ArrayList_grow2_36 : decode m_ArrayList_grow2.2.1 36 = .ok (.iload_n 3, 1) := by decide +kernel
theorem d_ArrayList_grow2_37 : decode m_ArrayList_grow2.2.1 37 = .ok (.invokestatic 66, 3) := by decide +kernel
theorem d_ArrayList_grow2_40 : decode m_ArrayList_grow2.2.1 40 = .ok (.dup_x1, 1) := by decide +kernel
theorem d_ArrayList_grow2_41 : decode m_ArrayList_grow2.2.1 41 = .ok (.putfield 9, 3) := by decide +kernel
theorem d_ArrayList_grow2_44 : decode m_ArrayList_grow2.2.1 44 = .ok (.areturn, 1) := by decide +kernel
theorem d_ArrayList_grow2_45 : decode m_ArrayList_grow2.2.1 45 = .ok (.aload_n 0, 1) := by decide +kernel
theorem d_ArrayList_grow2_46 : decode m_ArrayList_grow2.2.1 46 = .ok (.bipush 10, 2) := by decide +kernel
theorem d_ArrayList_grow2_48 : decode m_ArrayList_grow2.2.1 48 = .ok (.iload_n 1, 1) := by decide +kernel
theorem d_ArrayList_grow2_49 : decode m_ArrayList_grow2.2.1 49 = .ok (.invokestatic 79, 3) := by decide +kernel
theorem d_ArrayList_grow2_52 : decode m_ArrayList_grow2.2.1 52 = .ok (.anewarray 7, 3) := by decide +kernel
theorem d_ArrayList_grow2_55 : decode m_ArrayList_grow2.2.1 55 = .ok (.dup_x1, 1) := by decide +kernel
theorem d_ArrayList_grow2_56 : decode m_ArrayList_grow2.2.1 56 = .ok (.putfield 9, 3) := by decide +kernel
theorem d_ArrayList_grow2_59 : decode m_ArrayList_grow2.2.1 59 = .ok (.areturn, 1) := by decide +kernel
theorem d_ArraysSupport_newLength_0 : decode m_ArraysSupport_newLength.2.1 0 = .ok (.iload_n 0, 1) := by decide +kernel
theorem d_ArraysSupport_newLength_1 : decode m_ArraysSupport_newLength.2.1 1 = .ok (.iload_n 1, 1) := by decide +kernel
theorem d_ArraysSupport_newLength_2 : decode m_ArraysSupport_newLength.2.1 2 = .ok (.iload_n 2, 1) := by decide +kernel
theorem d_ArraysSupport_newLength_3 : decode m_ArraysSupport_newLength.2.1 3 = .ok (.invokestatic 194, 3) := by decide +kernel
theorem d_ArraysSupport_newLength_6 : decode m_ArraysSupport_newLength.2.1 6 = .ok (.iadd, 1) := by decide +kernel
theorem d_ArraysSupport_newLength_7 : decode m_ArraysSupport_newLength.2.1 7 = .ok (.istore_n 3, 1) := by decide +kernel
theorem d_ArraysSupport_newLength_8 : decode m_ArraysSupport_newLength.2.1 8 = .ok (.iconst 0, 1) := by decide +kernel
theorem d_ArraysSupport_newLength_9 : decode m_ArraysSupport_newLength.2.1 9 = .ok (.iload_n 3, 1) := by decide +kernel
theorem d_ArraysSupport_newLength_10 : decode m_ArraysSupport_newLength.2.1 10 = .ok (.if_icmp .ge 11, 3) := by decide +kernel
theorem d_ArraysSupport_newLength_13 : decode m_ArraysSupport_newLength.2.1 13 = .ok (.iload_n 3, 1) := by decide +kernel
theorem d_ArraysSupport_newLength_14 : decode m_ArraysSupport_newLength.2.1 14 = .ok (.ldc 200, 2) := by decide +kernel
theorem d_ArraysSupport_newLength_16 : decode m_ArraysSupport_newLength.2.1 16 = .ok (.if_icmp .gt 5, 3) := by decide +kernel
theorem d_ArraysSupport_newLength_19 : decode m_ArraysSupport_newLength.2.1 19 = .ok (.iload_n 3, 1) := by decide +kernel
theorem d_ArraysSupport_newLength_20 : decode m_ArraysSupport_newLength.2.1 20 = .ok (.ireturn, 1) := by decide +kernel
theorem d_ArraysSupport_newLength_21 : decode m_ArraysSupport_newLength.2.1 21 = .ok (.iload_n 0, 1) := by decide +kernel
theorem d_ArraysSupport_newLength_22 : decode m_ArraysSupport_newLength.2.1 22 = .ok (.iload_n 1, 1) := by decide +kernel
theorem d_ArraysSupport_newLength_23 : decode m_ArraysSupport_newLength.2.1 23 = .ok (.invokestatic 201, 3) := by decide +kernel
theorem d_ArraysSupport_newLength_26 : decode m_ArraysSupport_newLength.2.1 26 = .ok (.ireturn, 1) := by decide +kernel
theorem d_Arrays_copyOf_0 : decode m_Arrays_copyOf.2.1 0 = .ok (.aload_n 0, 1) := by decide +kernel
theorem d_Arrays_copyOf_1 : decode m_Arrays_copyOf.2.1 1 = .ok (.iload_n 1, 1) := by decide +kernel
theorem d_Arrays_copyOf_2 : decode m_Arrays_copyOf.2.1 2 = .ok (.aload_n 0, 1) := by decide +kernel
theorem d_Arrays_copyOf_3 : decode m_Arrays_copyOf.2.1 3 = .ok (.invokevirtual 86, 3) := by decide +kernel
theorem d_Arrays_copyOf_6 : decode m_Arrays_copyOf.2.1 6 = .ok (.invokestatic 300, 3) := by decide +kernel
theorem d_Arrays_copyOf_9 : decode m_Arrays_copyOf.2.1 9 = .ok (.areturn, 1) := by decide +kernel
theorem d_Arrays_copyOf2_0 : decode m_Arrays_copyOf2.2.1 0 = .ok (.aload_n 2, 1) := by decide +kernel
theorem d_Arrays_copyOf2_1 : decode m_Arrays_copyOf2.2.1 1 = .ok (.ldc 110, 2) := by decide +kernel
theorem d_Arrays_copyOf2_3 : decode m_Arrays_copyOf2.2.1 3 = .ok (.if_acmp .ne 10, 3) := by decide +kernel
theorem d_Arrays_copyOf2_6 : decode m_Arrays_copyOf2.2.1 6 = .ok (.iload_n 1, 1) := by decide +kernel
theorem d_Arrays_copyOf2_7 : decode m_Arrays_copyOf2.2.1 7 = .ok (.anewarray 2, 3) := by decide +kernel
theorem d_Arrays_copyOf2_10 : decode m_Arrays_copyOf2.2.1 10 = .ok (.goto 14, 3) := by decide +kernel
theorem d_Arrays_copyOf2_13 : decode m_Arrays_copyOf2.2.1 13 = .ok (.aload_n 2, 1) := by decide +kernel
theorem d_Arrays_copyOf2_14 : decode m_Arrays_copyOf2.2.1 14 = .ok (.invokevirtual 90, 3) := by decide +kernel
theorem d_Arrays_copyOf2_17 : decode m_Arrays_copyOf2.2.1 17 = .ok (.iload_n 1, 1) := by decide +kernel
theorem d_Arrays_copyOf2_18 : decode m_Arrays_copyOf2.2.1 18 = .ok (.invokestatic 95, 3) := by decide +kernel
theorem d_Arrays_copyOf2_21 : decode m_Arrays_copyOf2.2.1 21 = .ok (.checkcast 110, 3) := by decide +kernel
theorem d_Arrays_copyOf2_24 : decode m_Arrays_copyOf2.2.1 24 = .ok (.astore_n 3, 1) := by decide +kernel
theorem d_Arrays_copyOf2_25 : decode m_Arrays_copyOf2.2.1 25 = .ok (.aload_n 0, 1) := by decide +kernel
theorem d_Arrays_copyOf2_26 : decode m_Arrays_copyOf2.2.1 26 = .ok (.iconst 0, 1) := by decide +kernel
theorem d_Arrays_copyOf2_27 : decode m_Arrays_copyOf2.2.1 27 = .ok (.aload_n 3, 1) := by decide +kernel
theorem d_Arrays_copyOf2_28 : decode m_Arrays_copyOf2.2.1 28 = .ok (.iconst 0, 1) := by decide +kernel
theorem d_Arrays_copyOf2_29 : decode m_Arrays_copyOf2.2.1 29 = .ok (.aload_n 0, 1) := by decide +kernel
theorem d_Arrays_copyOf2_30 : decode m_Arrays_copyOf2.2.1 30 = .ok (.arraylength, 1) := by decide +kernel
theorem d_Arrays_copyOf2_31 : decode m_Arrays_copyOf2.2.1 31 = .ok (.iload_n 1, 1) := by decide +kernel
theorem d_Arrays_copyOf2_32 : decode m_Arrays_copyOf2.2.1 32 = .ok (.invokestatic 304, 3) := by decide +kernel
theorem d_Arrays_copyOf2_35 : decode m_Arrays_copyOf2.2.1 35 = .ok (.invokestatic 150, 3) := by decide +kernel
theorem d_Arrays_copyOf2_38 : decode m_Arrays_copyOf2.2.1 38 = .ok (.aload_n 3, 1) := by decide +kernel
theorem d_Arrays_copyOf2_39 : decode m_Arrays_copyOf2.2.1 39 = .ok (.areturn, 1) := by decide +kernel
section
variable {Y : MI} {d rc rs pc : Nat} {lv : List (Nat × Value)} {st : List Value} {I : M32} {L : M64} {R : MR} {T : SH} {Q : QT}
theorem j_aastO {a v j n : Nat} {z : Int} (hd : decode Y.2.1 pc = .ok (.aastore, 1)) (ht : T.1 a = 68) (hn : T.2.1 a = n) (hz : z = (j : Int)) (hj : j < n) (hn9 : n ≤ 2147483647) (hv : T.1 v = 0 + 1) (kk : Run Y d rc rs (pc + 1) lv st I L (up2 R a j (some v)) T Q) : Run Y d rc rs pc lv (.ref v :: .int (cI z) :: .ref a :: st) I L R T Q := by
  have h := cI_inB hz hj hn9
  refine q_aastO hd ht (by rw [hn]; exact h.1) hv (inT14 106 rfl) ?_
  rw [h.2]; exact kk
end
theorem c_ArraysSupport_newLength (d : Nat) {n : Nat} {I : M32} {L : M64} {R : MR} {T : SH} (hd : 1 ≤ d) (h1 : 2 ≤ n) (h2 : n ≤ 100000) : Call m_ArraysSupport_newLength y_ArraysSupport_newLength d 0 0 [.int (cI n), .int (cI 1), .int (cI (n / 2 : Nat))] I L R T (rI fun r I' L' R' T' => r = cI (n + n / 2 : Nat) ∧ I' = I ∧ L' = L ∧ R' = R ∧ T' = T) := by
  refine Call.ofRun (by decide +kernel) ⟨rfl, rfl⟩ (Nat.le_of_ble_eq_true rfl) ?_
  refine Run.gen fun Q hQ => ?_
  refine q_iload_n d_ArraysSupport_newLength_0 rfl ?_
  refine q_iload_n d_ArraysSupport_newLength_1 rfl ?_
  refine q_iload_n d_ArraysSupport_newLength_2 rfl ?_
  refine q_callS (rc := 0) (rs := 0) (rest := [.int (cI (n : Int))]) d_ArraysSupport_newLength_3 ml_ArraysSupport_194 ok_Math_max (c_Math_max (d - 1) (x := 1) (y := ((n / 2 : Nat) : Int)) (by decide) (by omega)) rfl rfl (by omega) (Nat.le_of_ble_eq_true rfl) (kp_I ?_) kt_I
  refine j_iadd d_ArraysSupport_newLength_6 ?_
  refine q_istore_n (lv' := [(3, .int (cI ((n : Int) + (max (1 : Int) ((n / 2 : Nat) : Int))))), (0, .int (cI (n : Int))), (1, .int (cI 1)), (2, .int (cI (n / 2 : Int)))]) d_ArraysSupport_newLength_7 (by decide) rfl ?_
  refine j_iconst d_ArraysSupport_newLength_8 ?_
  refine q_iload_n d_ArraysSupport_newLength_9 rfl ?_
  refine j_icmp_ge (tgt := 21) d_ArraysSupport_newLength_10 (by decide) (by omega) (by omega) (fun hx => by exfalso; omega) (fun hx => ?_)
  refine q_iload_n d_ArraysSupport_newLength_13 rfl ?_
  refine j_ldc (z := 2147483639) d_ArraysSupport_newLength_14 (inT4 232 rfl) (by decide) ?_
  refine j_icmp_gt (tgt := 21) d_ArraysSupport_newLength_16 (by decide) (by omega) (by omega) (fun hx => by exfalso; omega) (fun hx => ?_)
  refine q_iload_n d_ArraysSupport_newLength_19 rfl ?_
  refine q_ireturn d_ArraysSupport_newLength_20 rfl rfl ?_
  refine hQ _ _ _ _ _ ?_
  exact ⟨_, rfl, by congr 1; omega, rfl, rfl, rfl, rfl⟩
theorem Run.ob4 {Y : MI} {d rc rs pc : Nat} {lv : List (Nat × Value)} {st : List Value} {I : M32} {L : M64} {R : MR} {T : SH} {Q : QT} (h : ∀ mi, R 0 4 = some mi → Run Y d rc rs pc lv st I L R T Q) : Run Y d rc rs pc lv st I L R T Q := by
  intro p l e Rm s m args below meth c H locs cells slots X ls hC hR hL hl
  obtain ⟨mi, g1, g2⟩ := hR.2.2.2.2.2.2.2.2.2.1
  exact h mi g1 p l e Rm s m args below meth c H locs cells slots X ls hC hR hL hl
theorem c_Arrays_copyOf2 (d : Nat) {e cp N mi : Nat} {I : M32} {L : M64} {R : MR} {T : SH} (hd : 1 ≤ d) (hm : R 0 4 = some mi) (ht : T.1 e = 68) (hl : T.2.1 e = cp) (hcN : cp ≤ N) (hN : N ≤ 200000) (hb : ∀ i y, i < cp → R e i = some y → T.1 y = 0 + 1) :
    Call m_Arrays_copyOf2 y_Arrays_copyOf2 d 1 N [.ref e, .int (cI N), .ref mi] I L R T (rO fun r I' L' R' T' => r = some T.2.2 ∧ I' = fr2 I T.2.2 0 ∧ L' = fr2 L T.2.2 0 ∧ R' = cpR (fr2 R T.2.2 none) e T.2.2 0 0 cp ∧ T' = shN T 68 N) := by
  refine Call.ofRun (by decide +kernel) ⟨rfl, rfl⟩ (Nat.le_of_ble_eq_true rfl) ?_
  refine Run.gen fun Q hQ => ?_

  refine Run.more (rc := 0 + 1) (rs := 0 + N) ?_ (Nat.le_refl _) (by omega)
  refine Run.fresh fun hF _ _ => ?_
  refine q_aload_n d_Arrays_copyOf2_0 rfl ?_
  refine q_ldcM d_Arrays_copyOf2_1 (inT5 27 rfl) hm ?_
  refine q_acmp_ne (rx := some mi) (ry := some mi) (tgt := 13) d_Arrays_copyOf2_3 (by decide) (fun h => absurd rfl h) (fun _ => ?_)
  refine Run.more (rc := 0 + 1) (rs := 0 + N) ?_ (Nat.le_refl _) (Nat.le_refl _)
  refine q_iload_n d_Arrays_copyOf2_6 rfl ?_
  refine nwO (t := 4) (N := N) (rc := 0) (rs := 0) d_Arrays_copyOf2_7 ⟨rfl, rfl⟩ (inT5 29 rfl) (fun _ hU => hU.2.2.1) (by omega) (by omega) ?_
  generalize hI1 : fr2 I T.2.2 0 = I1
  generalize hL1 : fr2 L T.2.2 0 = L1
  generalize hR1 : fr2 R T.2.2 none = R1
  generalize hT1 : shN T (4 + 64) N = T1
  have hlt := hF e (by omega)
  have te : T1.1 e = 67 + 1 := by rw [← hT1]; exact (TE.sh hF).tag ht
  have tl : T1.2.1 e = cp := by rw [← hT1]; exact (TE.sh hF).len (k := 67) ht hl
  have tz : T1.1 T.2.2 = 68 := by rw [← hT1]; exact shN_t _ _ _
  have tn : T1.2.1 T.2.2 = N := by rw [← hT1]; exact shN_l _ _ _
  refine q_goto (tgt := 24) d_Arrays_copyOf2_10 (by decide) ?_
  refine q_astore_n (lv' := [(3, .ref T.2.2), (0, .ref e), (1, .int (cI (N : Int))), (2, .ref mi)]) d_Arrays_copyOf2_24 (by decide) rfl ?_
  refine q_aload_n d_Arrays_copyOf2_25 rfl ?_
  refine j_iconst d_Arrays_copyOf2_26 ?_
  refine q_aload_n d_Arrays_copyOf2_27 rfl ?_
  refine j_iconst d_Arrays_copyOf2_28 ?_
  refine q_aload_n d_Arrays_copyOf2_29 rfl ?_
  refine j_alen (n := cp) d_Arrays_copyOf2_30 te tl ?_
  refine q_iload_n d_Arrays_copyOf2_31 rfl ?_
  refine q_callS (rc := 0) (rs := 0) (rest := [.int (cI 0), .ref T.2.2, .int (cI 0), .ref e]) d_Arrays_copyOf2_32 ml_Arrays_304 ok_Math_min (c_Math_min (d - 1) (x := (cp : Int)) (y := (N : Int)) (by omega) (by omega)) rfl rfl (by omega) (Nat.le_of_ble_eq_true rfl) (kp_I ?_) kt_I
  refine Run.top (v := .int (cI (cp : Int))) (by congr 2; omega) ?_
  have hc := cI_ix (z := (cp : Int)) (j := cp) rfl (by omega)
  have h0 := cI_ix (z := (0 : Int)) (j := 0) rfl (by omega)
  refine q_copyO d_Arrays_copyOf2_35 (inT5 33 rfl) (inT4 87 rfl) (inT4 86 rfl) (inT1 34 rfl) (inT14 106 rfl) te tz h0.1 h0.1 hc.1 (by rw [hc.2, h0.2, tl]; omega) (by rw [hc.2, h0.2, tn]; omega) (fun i y hi hy => ?_) hd (Nat.le_of_ble_eq_true rfl) ?_
  · rw [h0.2, Nat.zero_add, ← hR1, fr2_n _ _ _ (by omega)] at hy
    rw [hc.2] at hi
    rw [← hT1]; exact (TE.sh hF).tag (k := 0) (hb i y hi hy)
  rw [hc.2, h0.2]
  generalize hR2 : cpR R1 e T.2.2 0 0 cp = R2
  refine Run.lv (lv' := [(0, .ref e), (1, .int (cI (N : Int))), (2, .ref mi), (3, .ref T.2.2)]) (by intro q hq; simp only [List.mem_cons, List.not_mem_nil, or_false] at hq ⊢; rcases hq with rfl | rfl | rfl | rfl <;> simp) ?_
  refine q_aload_n d_Arrays_copyOf2_38 rfl ?_
  refine q_areturn d_Arrays_copyOf2_39 rfl rfl (Or.inr ⟨_, rfl⟩) ?_
  refine hQ _ _ _ _ _ ?_
  exact ⟨some T.2.2, rfl, rfl, by rw [← hI1], by rw [← hL1], by rw [← hR2, ← hR1], by rw [← hT1]⟩
theorem c_Arrays_copyOf (d : Nat) {e cp N : Nat} {I : M32} {L : M64} {R : MR} {T : SH} (hd : 2 ≤ d) (ht : T.1 e = 68) (hl : T.2.1 e = cp) (hcN : cp ≤ N) (hN : N ≤ 200000) (hb : ∀ i y, i < cp → R e i = some y → T.1 y = 0 + 1) :
    Call m_Arrays_copyOf y_Arrays_copyOf d 1 N [.ref e, .int (cI N)] I L R T (rO fun r I' L' R' T' => r = some T.2.2 ∧ I' = fr2 I T.2.2 0 ∧ L' = fr2 L T.2.2 0 ∧ R' = cpR (fr2 R T.2.2 none) e T.2.2 0 0 cp ∧ T' = shN T 68 N) := by
  refine Call.ofRun (by decide +kernel) ⟨rfl, rfl⟩ (Nat.le_of_ble_eq_true rfl) ?_
  refine Run.gen fun Q hQ => ?_
  refine Run.more (rc := 0 + 1) (rs := 0 + N) ?_ (Nat.le_refl _) (by omega)
  refine Run.ob4 fun mi hm => ?_
  refine q_aload_n d_Arrays_copyOf_0 rfl ?_
  refine q_iload_n d_Arrays_copyOf_1 rfl ?_
  refine q_aload_n d_Arrays_copyOf_2 rfl ?_
  refine q_getC d_Arrays_copyOf_3 (inT4 239 rfl) (inT14 102 rfl) (inT14 101 rfl) (inT5 0 rfl) (inT5 23 rfl) ht hm (by omega) (Nat.le_of_ble_eq_true rfl) ?_
  refine q_callS (rc := 0) (rs := 0) (rest := []) d_Arrays_copyOf_6 ml_Arrays_300 ok_Arrays_copyOf2 (c_Arrays_copyOf2 (d - 1) (by omega) hm ht hl hcN hN hb) rfl rfl (by omega) (Nat.le_of_ble_eq_true rfl) (kr_O (fun r I1 L1 R1 T1 h => ?_)) kt_O
  obtain ⟨rfl, h⟩ := h
  refine q_areturn d_Arrays_copyOf_9 rfl rfl (Or.inr ⟨_, rfl⟩) ?_
  refine hQ _ _ _ _ _ ?_
  exact ⟨some T.2.2, rfl, rfl, h⟩

