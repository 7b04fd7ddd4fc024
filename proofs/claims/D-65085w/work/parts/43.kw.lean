/-! ===== 43 KEYWORDS ===== -/
theorem d_Platform_within_0 : decode m_Platform_within.2.1 0 = .ok (.lload_n 0, 1) := by decide +kernel
theorem d_Platform_within_1 : decode m_Platform_within.2.1 1 = .ok (.lload_n 2, 1) := by decide +kernel
theorem d_Platform_within_2 : decode m_Platform_within.2.1 2 = .ok (.lcmp, 1) := by decide +kernel
theorem d_Platform_within_3 : decode m_Platform_within.2.1 3 = .ok (.ifCond .lt 14, 3) := by decide +kernel
theorem d_Platform_within_6 : decode m_Platform_within.2.1 6 = .ok (.lload_n 0, 1) := by decide +kernel
theorem d_Platform_within_7 : decode m_Platform_within.2.1 7 = .ok (.lload 4, 2) := by decide +kernel
theorem d_Platform_within_9 : decode m_Platform_within.2.1 9 = .ok (.lcmp, 1) := by decide +kernel
theorem d_Platform_within_10 : decode m_Platform_within.2.1 10 = .ok (.ifCond .gt 7, 3) := by decide +kernel
theorem d_Platform_within_13 : decode m_Platform_within.2.1 13 = .ok (.iconst 1, 1) := by decide +kernel
theorem d_Platform_within_14 : decode m_Platform_within.2.1 14 = .ok (.goto 4, 3) := by decide +kernel
theorem d_Platform_within_17 : decode m_Platform_within.2.1 17 = .ok (.iconst 0, 1) := by decide +kernel
theorem d_Platform_within_18 : decode m_Platform_within.2.1 18 = .ok (.ireturn, 1) := by decide +kernel
theorem d_Keywords_find_0 : decode m_Keywords_find.2.1 0 = .ok (.iconst (-1), 1) := by decide +kernel
theorem d_Keywords_find_1 : decode m_Keywords_find.2.1 1 = .ok (.istore_n 3, 1) := by decide +kernel
theorem d_Keywords_find_2 : decode m_Keywords_find.2.1 2 = .ok (.iconst 0, 1) := by decide +kernel
theorem d_Keywords_find_3 : decode m_Keywords_find.2.1 3 = .ok (.istore 4, 2) := by decide +kernel
theorem d_Keywords_find_5 : decode m_Keywords_find.2.1 5 = .ok (.iload 4, 2) := by decide +kernel
theorem d_Keywords_find_7 : decode m_Keywords_find.2.1 7 = .ok (.bipush 34, 2) := by decide +kernel
theorem d_Keywords_find_9 : decode m_Keywords_find.2.1 9 = .ok (.if_icmp .ge 28, 3) := by decide +kernel
theorem d_Keywords_find_12 : decode m_Keywords_find.2.1 12 = .ok (.aload_n 0, 1) := by decide +kernel
theorem d_Keywords_find_13 : decode m_Keywords_find.2.1 13 = .ok (.getfield 9, 3) := by decide +kernel
theorem d_Keywords_find_16 : decode m_Keywords_find.2.1 16 = .ok (.iload 4, 2) := by decide +kernel
theorem d_Keywords_find_18 : decode m_Keywords_find.2.1 18 = .ok (.laload, 1) := by decide +kernel
theorem d_Keywords_find_19 : decode m_Keywords_find.2.1 19 = .ok (.lload_n 1, 1) := by decide +kernel
theorem d_Keywords_find_20 : decode m_Keywords_find.2.1 20 = .ok (.lcmp, 1) := by decide +kernel
theorem d_Keywords_find_21 : decode m_Keywords_find.2.1 21 = .ok (.ifCond .ne 8, 3) := by decide +kernel
theorem d_Keywords_find_24 : decode m_Keywords_find.2.1 24 = .ok (.iload 4, 2) := by decide +kernel
theorem d_Keywords_find_26 : decode m_Keywords_find.2.1 26 = .ok (.goto 4, 3) := by decide +kernel
theorem d_Keywords_find_29 : decode m_Keywords_find.2.1 29 = .ok (.iload_n 3, 1) := by decide +kernel
theorem d_Keywords_find_30 : decode m_Keywords_find.2.1 30 = .ok (.istore_n 3, 1) := by decide +kernel
theorem d_Keywords_find_31 : decode m_Keywords_find.2.1 31 = .ok (.iinc 4 1, 3) := by decide +kernel
theorem d_Keywords_find_34 : decode m_Keywords_find.2.1 34 = .ok (.goto (-29), 3) := by decide +kernel
theorem d_Keywords_find_37 : decode m_Keywords_find.2.1 37 = .ok (.iload_n 3, 1) := by decide +kernel
theorem d_Keywords_find_38 : decode m_Keywords_find.2.1 38 = .ok (.ireturn, 1) := by decide +kernel
theorem d_Keywords_print_0 : decode m_Keywords_print.2.1 0 = .ok (.aload_n 2, 1) := by decide +kernel
theorem d_Keywords_print_1 : decode m_Keywords_print.2.1 1 = .ok (.aload_n 0, 1) := by decide +kernel
theorem d_Keywords_print_2 : decode m_Keywords_print.2.1 2 = .ok (.getfield 9, 3) := by decide +kernel
theorem d_Keywords_print_5 : decode m_Keywords_print.2.1 5 = .ok (.iload_n 1, 1) := by decide +kernel
theorem d_Keywords_print_6 : decode m_Keywords_print.2.1 6 = .ok (.laload, 1) := by decide +kernel
theorem d_Keywords_print_7 : decode m_Keywords_print.2.1 7 = .ok (.invokevirtual 45, 3) := by decide +kernel
theorem d_Keywords_print_10 : decode m_Keywords_print.2.1 10 = .ok (.return_, 1) := by decide +kernel
theorem d_Keywords_isName_0 : decode m_Keywords_isName.2.1 0 = .ok (.iconst 0, 1) := by decide +kernel
theorem d_Keywords_isName_1 : decode m_Keywords_isName.2.1 1 = .ok (.istore_n 3, 1) := by decide +kernel
theorem d_Keywords_isName_2 : decode m_Keywords_isName.2.1 2 = .ok (.lload_n 1, 1) := by decide +kernel
theorem d_Keywords_isName_3 : decode m_Keywords_isName.2.1 3 = .ok (.lconst 0, 1) := by decide +kernel
theorem d_Keywords_isName_4 : decode m_Keywords_isName.2.1 4 = .ok (.lcmp, 1) := by decide +kernel
theorem d_Keywords_isName_5 : decode m_Keywords_isName.2.1 5 = .ok (.ifCond .le 7, 3) := by decide +kernel
theorem d_Keywords_isName_8 : decode m_Keywords_isName.2.1 8 = .ok (.iconst 1, 1) := by decide +kernel
theorem d_Keywords_isName_9 : decode m_Keywords_isName.2.1 9 = .ok (.goto 4, 3) := by decide +kernel
theorem d_Keywords_isName_12 : decode m_Keywords_isName.2.1 12 = .ok (.iconst 0, 1) := by decide +kernel
theorem d_Keywords_isName_13 : decode m_Keywords_isName.2.1 13 = .ok (.istore 4, 2) := by decide +kernel
theorem d_Keywords_isName_15 : decode m_Keywords_isName.2.1 15 = .ok (.lload_n 1, 1) := by decide +kernel
theorem d_Keywords_isName_16 : decode m_Keywords_isName.2.1 16 = .ok (.lstore 5, 2) := by decide +kernel
theorem d_Keywords_isName_18 : decode m_Keywords_isName.2.1 18 = .ok (.lload 5, 2) := by decide +kernel
theorem d_Keywords_isName_20 : decode m_Keywords_isName.2.1 20 = .ok (.lconst 0, 1) := by decide +kernel
theorem d_Keywords_isName_21 : decode m_Keywords_isName.2.1 21 = .ok (.lcmp, 1) := by decide +kernel
theorem d_Keywords_isName_22 : decode m_Keywords_isName.2.1 22 = .ok (.ifCond .le 77, 3) := by decide +kernel
theorem d_Keywords_isName_25 : decode m_Keywords_isName.2.1 25 = .ok (.iload 4, 2) := by decide +kernel
theorem d_Keywords_isName_27 : decode m_Keywords_isName.2.1 27 = .ok (.ifCond .eq 72, 3) := by decide +kernel
theorem d_Keywords_isName_30 : decode m_Keywords_isName.2.1 30 = .ok (.lload 5, 2) := by decide +kernel
theorem d_Keywords_isName_32 : decode m_Keywords_isName.2.1 32 = .ok (.ldc2_w 27, 3) := by decide +kernel
theorem d_Keywords_isName_35 : decode m_Keywords_isName.2.1 35 = .ok (.land, 1) := by decide +kernel
theorem d_Keywords_isName_36 : decode m_Keywords_isName.2.1 36 = .ok (.lstore 7, 2) := by decide +kernel
theorem d_Keywords_isName_38 : decode m_Keywords_isName.2.1 38 = .ok (.lload 7, 2) := by decide +kernel
theorem d_Keywords_isName_40 : decode m_Keywords_isName.2.1 40 = .ok (.ldc2_w 29, 3) := by decide +kernel
theorem d_Keywords_isName_43 : decode m_Keywords_isName.2.1 43 = .ok (.ldc2_w 31, 3) := by decide +kernel
theorem d_Keywords_isName_46 : decode m_Keywords_isName.2.1 46 = .ok (.invokestatic 33, 3) := by decide +kernel
theorem d_Keywords_isName_49 : decode m_Keywords_isName.2.1 49 = .ok (.istore 9, 2) := by decide +kernel
theorem d_Keywords_isName_51 : decode m_Keywords_isName.2.1 51 = .ok (.iload 9, 2) := by decide +kernel
theorem d_Keywords_isName_53 : decode m_Keywords_isName.2.1 53 = .ok (.ifCond .ne 26, 3) := by decide +kernel
theorem d_Keywords_isName_56 : decode m_Keywords_isName.2.1 56 = .ok (.lload 7, 2) := by decide +kernel
theorem d_Keywords_isName_58 : decode m_Keywords_isName.2.1 58 = .ok (.ldc2_w 37, 3) := by decide +kernel
theorem d_Keywords_isName_61 : decode m_Keywords_isName.2.1 61 = .ok (.ldc2_w 39, 3) := by decide +kernel
theorem d_Keywords_isName_64 : decode m_Keywords_isName.2.1 64 = .ok (.invokestatic 33, 3) := by decide +kernel
theorem d_Keywords_isName_67 : decode m_Keywords_isName.2.1 67 = .ok (.ifCond .eq 16, 3) := by decide +kernel
theorem d_Keywords_isName_70 : decode m_Keywords_isName.2.1 70 = .ok (.lload 5, 2) := by decide +kernel
theorem d_Keywords_isName_72 : decode m_Keywords_isName.2.1 72 = .ok (.ldc2_w 27, 3) := by decide +kernel
theorem d_Keywords_isName_75 : decode m_Keywords_isName.2.1 75 = .ok (.lcmp, 1) := by decide +kernel
theorem d_Keywords_isName_76 : decode m_Keywords_isName.2.1 76 = .ok (.ifCond .le 7, 3) := by decide +kernel
theorem d_Keywords_isName_79 : decode m_Keywords_isName.2.1 79 = .ok (.iconst 1, 1) := by decide +kernel
theorem d_Keywords_isName_80 : decode m_Keywords_isName.2.1 80 = .ok (.goto 4, 3) := by decide +kernel
theorem d_Keywords_isName_83 : decode m_Keywords_isName.2.1 83 = .ok (.iconst 0, 1) := by decide +kernel
theorem d_Keywords_isName_84 : decode m_Keywords_isName.2.1 84 = .ok (.istore 4, 2) := by decide +kernel
theorem d_Keywords_isName_86 : decode m_Keywords_isName.2.1 86 = .ok (.iinc 3 1, 3) := by decide +kernel
theorem d_Keywords_isName_89 : decode m_Keywords_isName.2.1 89 = .ok (.lload 5, 2) := by decide +kernel
theorem d_Keywords_isName_91 : decode m_Keywords_isName.2.1 91 = .ok (.bipush 8, 2) := by decide +kernel
theorem d_Keywords_isName_93 : decode m_Keywords_isName.2.1 93 = .ok (.lshr, 1) := by decide +kernel
theorem d_Keywords_isName_94 : decode m_Keywords_isName.2.1 94 = .ok (.lstore 5, 2) := by decide +kernel
theorem d_Keywords_isName_96 : decode m_Keywords_isName.2.1 96 = .ok (.goto (-78), 3) := by decide +kernel
theorem d_Keywords_isName_99 : decode m_Keywords_isName.2.1 99 = .ok (.iload 4, 2) := by decide +kernel
theorem d_Keywords_isName_101 : decode m_Keywords_isName.2.1 101 = .ok (.ifCond .eq 22, 3) := by decide +kernel
theorem d_Keywords_isName_104 : decode m_Keywords_isName.2.1 104 = .ok (.iload_n 3, 1) := by decide +kernel
theorem d_Keywords_isName_105 : decode m_Keywords_isName.2.1 105 = .ok (.bipush 8, 2) := by decide +kernel
theorem d_Keywords_isName_107 : decode m_Keywords_isName.2.1 107 = .ok (.if_icmp .gt 16, 3) := by decide +kernel
theorem d_Keywords_isName_110 : decode m_Keywords_isName.2.1 110 = .ok (.aload_n 0, 1) := by decide +kernel
theorem d_Keywords_isName_111 : decode m_Keywords_isName.2.1 111 = .ok (.lload_n 1, 1) := by decide +kernel
theorem d_Keywords_isName_112 : decode m_Keywords_isName.2.1 112 = .ok (.invokevirtual 41, 3) := by decide +kernel
theorem d_Keywords_isName_115 : decode m_Keywords_isName.2.1 115 = .ok (.iconst (-1), 1) := by decide +kernel
theorem d_Keywords_isName_116 : decode m_Keywords_isName.2.1 116 = .ok (.if_icmp .ne 7, 3) := by decide +kernel
theorem d_Keywords_isName_119 : decode m_Keywords_isName.2.1 119 = .ok (.iconst 1, 1) := by decide +kernel
theorem d_Keywords_isName_120 : decode m_Keywords_isName.2.1 120 = .ok (.goto 4, 3) := by decide +kernel
theorem d_Keywords_isName_123 : decode m_Keywords_isName.2.1 123 = .ok (.iconst 0, 1) := by decide +kernel
theorem d_Keywords_isName_124 : decode m_Keywords_isName.2.1 124 = .ok (.ireturn, 1) := by decide +kernel
theorem c_Platform_within (d : Nat) {v a b : Int} (h1 : inL v) (h2 : inL a) (h3 : inL b) {I : M32} {L : M64} {R : MR} {T : SH} : Call m_Platform_within y_Platform_within d 0 0 [.long (cL v), .long (cL a), .long (cL b)] I L R T (rI fun r I' L' R' T' => r = cI (bI (a ≤ v ∧ v ≤ b)) ∧ I' = I ∧ L' = L ∧ R' = R ∧ T' = T) := by
  refine Call.ofRun (by decide) ⟨rfl, rfl⟩ (Nat.le_of_ble_eq_true rfl) ?_
  refine Run.gen fun Q hQ => ?_
  suffices J : ∀ (w : Int), (((v < a) ∧ w = 0) ∨ ((a ≤ v) ∧ (b < v) ∧ w = 0) ∨ ((a ≤ v) ∧ (v ≤ b) ∧ w = 1)) → Run m_Platform_within d 0 0 18 [(0, .long (cL v)), (2, .long (cL a)), (4, .long (cL b))] [.int (cI w)] I L R T Q by
    refine q_lload_n d_Platform_within_0 rfl ?_
    refine q_lload_n d_Platform_within_1 rfl ?_
    refine j_lcmp_lt (tgt := 17) d_Platform_within_2 d_Platform_within_3 (by decide) (by omega) (by omega) (fun hp1 => ?_) (fun hp1 => ?_)
    · refine j_iconst d_Platform_within_17 ?_
      exact J _ (Or.inl ⟨hp1, rfl⟩)
    · refine q_lload_n d_Platform_within_6 rfl ?_
      refine q_lload d_Platform_within_7 rfl ?_
      refine j_lcmp_gt (tgt := 17) d_Platform_within_9 d_Platform_within_10 (by decide) (by omega) (by omega) (fun hp2 => ?_) (fun hp2 => ?_)
      · refine j_iconst d_Platform_within_17 ?_
        exact J _ (Or.inr (Or.inl ⟨hp1, hp2, rfl⟩))
      · refine j_iconst d_Platform_within_13 ?_
        refine q_goto (tgt := 18) d_Platform_within_14 (by decide) ?_
        exact J _ (Or.inr (Or.inr ⟨hp1, hp2, rfl⟩))
  intro w hv
  refine q_ireturn d_Platform_within_18 rfl (narrow_z (z01 (by omega))).1 ?_
  refine hQ _ _ _ _ _ ?_
  exact ⟨_, rfl, by rw [show w = bI (a ≤ v ∧ v ≤ b) by unfold bI; split <;> omega], rfl, rfl, rfl, rfl⟩
/-- the keywords as names, in the component's order -/
def KW : List Nat := [427021005669, 7364985, 29807, 1768846447, 26982, 2003330414, 1667330917, 28259031251642740, 109300196926309, 121424973489785, 7103860, 107148485161588, 1751477348, 7234919, 6382692, 7566690, 7173484, 6580598, 109300197582190, 495873782388, 6647396, 7697253, 1668247140, 6385252, 28530, 7237492, 426953896805, 26469, 26484, 27749, 27764, 25969, 1953658213, 439721161573]
/-- the number of bytes of each -/
def KWn : List Nat := [5, 3, 2, 4, 2, 4, 4, 7, 6, 6, 3, 6, 4, 3, 3, 3, 3, 3, 6, 5, 3, 3, 4, 3, 2, 3, 5, 2, 2, 2, 2, 2, 4, 5]
theorem KW_ok : ∀ k, k < 34 → NmN (KW.getD k 0) (KWn.getD k 0) := by
  have h : ∀ k, k < 34 → (KW.getD k 0 < 256 ^ KWn.getD k 0 ∧ KWn.getD k 0 ≤ 8 ∧ KW.getD k 0 < 9223372036854775808 ∧ ∀ j, j < KWn.getD k 0 → KW.getD k 0 / 256 ^ j % 256 ≠ 0) := by decide +kernel
  exact h
/-- which keyword among the first k a name is; -1 if it is none -/
def kwG (x : Nat) : Nat → Int
  | 0 => -1
  | k + 1 => if KW.getD k 0 = x then k else kwG x k
def kwF (x : Nat) : Int := kwG x 34
theorem kwG_in (x : Nat) : ∀ k, -1 ≤ kwG x k ∧ kwG x k < k
  | 0 => ⟨Int.le_refl _, by show (-1 : Int) < 0; decide⟩
  | k + 1 => by
    have := kwG_in x k
    unfold kwG
    split <;> omega
/-- the keywords at w -/
def KwS (R : MR) (T : SH) (w : Nat) : Prop := T.1 w = 3 + 1 ∧ R w 0 = some (w + 1) ∧ T.1 (w + 1) = 65 ∧ T.2.1 (w + 1) = 34
def KwV (L : M64) (w : Nat) : Prop := ∀ k, k < 34 → L (w + 1) k = cL (KW.getD k 0)
theorem c_Keywords_find (d : Nat) {w x : Nat} {I : M32} {L : M64} {R : MR} {T : SH} (hS : KwS R T w) (hV : KwV L w) (hx : x < 9223372036854775808) :
    Call m_Keywords_find y_Keywords_find d 0 0 [.ref w, .long (cL x)] I L R T (rI fun r I' L' R' T' => r = cI (kwF x) ∧ I' = I ∧ L' = L ∧ R' = R ∧ T' = T) := by
  refine Call.ofRun (by decide) ⟨rfl, rfl⟩ (Nat.le_of_ble_eq_true rfl) ?_
  refine Run.gen fun Q hQ => ?_
  refine j_iconst d_Keywords_find_0 ?_
  refine q_istore_n (lv' := [(3, .int (cI (-1))), (0, .ref w), (1, .long (cL (x : Int)))]) d_Keywords_find_1 (by decide) rfl ?_
  refine j_iconst d_Keywords_find_2 ?_
  refine q_istore (lv' := [(4, .int (cI 0)), (3, .int (cI (-1))), (0, .ref w), (1, .long (cL (x : Int)))]) d_Keywords_find_3 (by decide) rfl ?_
  have loop : ∀ (f k : Nat) (z e : Int), 34 - k < f → z = k → e = kwG x k → k ≤ 34 → Run m_Keywords_find d 0 0 5 [(0, .ref w), (1, .long (cL (x : Int))), (3, .int (cI e)), (4, .int (cI z))] [] I L R T Q := by
    intro f
    induction f with
    | zero => intro k z e h; omega
    | succ f ih =>
    intro k z e hf hz he hk
    subst hz
    have hg := kwG_in x k
    refine q_iload d_Keywords_find_5 rfl ?_
    refine j_bipush d_Keywords_find_7 (by decide) ?_
    refine j_icmp_ge (tgt := 37) d_Keywords_find_9 (by decide) (by omega) (by omega) (fun h1 => ?_) (fun h1 => ?_)
    · skip
      obtain rfl : k = 34 := by omega
      refine q_iload_n d_Keywords_find_37 rfl ?_
      refine q_ireturn d_Keywords_find_38 rfl rfl ?_
      refine hQ _ _ _ _ _ ?_
      exact ⟨_, rfl, by rw [he]; rfl, rfl, rfl, rfl, rfl⟩
    have hkw := (KW_ok k (by omega)).2.2.1
    refine q_aload_n d_Keywords_find_12 rfl ?_
    refine q_getR d_Keywords_find_13 fl_Keywords_9 hS.1 ⟨rfl, by decide⟩ hS.2.1 ?_
    refine q_iload d_Keywords_find_16 rfl ?_
    refine j_lald (j := k) (v := (cL (KW.getD k 0 : Int))) d_Keywords_find_18 hS.2.2.1 hS.2.2.2 (by omega) (by omega) (by omega) (hV k (by omega)) ?_
    refine q_lload_n d_Keywords_find_19 rfl ?_
    suffices J : ∀ (u : Int), (((¬ (KW.getD k 0 : Int) = (x : Int)) ∧ u = e) ∨ (((KW.getD k 0 : Int) = (x : Int)) ∧ u = (k : Int))) → Run m_Keywords_find d 0 0 30 [(0, .ref w), (1, .long (cL (x : Int))), (3, .int (cI e)), (4, .int (cI (k : Int)))] [.int (cI u)] I L R T Q by
      refine j_lcmp_ne (tgt := 29) d_Keywords_find_20 d_Keywords_find_21 (by decide) (by omega) (by omega) (fun hp3 => ?_) (fun hp3 => ?_)
      · refine q_iload_n d_Keywords_find_29 rfl ?_
        exact J _ (Or.inl ⟨hp3, rfl⟩)
      · refine q_iload d_Keywords_find_24 rfl ?_
        refine q_goto (tgt := 30) d_Keywords_find_26 (by decide) ?_
        exact J _ (Or.inr ⟨hp3, rfl⟩)
    intro u hu
    refine q_istore_n (lv' := [(3, .int (cI u)), (0, .ref w), (1, .long (cL (x : Int))), (4, .int (cI (k : Int)))]) d_Keywords_find_30 (by decide) rfl ?_
    refine j_iinc (lv' := [(4, .int (cI ((k : Int) + 1))), (3, .int (cI u)), (0, .ref w), (1, .long (cL (x : Int)))]) d_Keywords_find_31 rfl (by decide) rfl ?_
    refine q_goto (tgt := 5) d_Keywords_find_34 (by decide) ?_
    refine Run.lv (lv' := [(0, .ref w), (1, .long (cL (x : Int))), (3, .int (cI u)), (4, .int (cI ((k : Int) + 1)))]) (by intro q hq; simp only [List.mem_cons, List.not_mem_nil, or_false] at hq ⊢; rcases hq with rfl | rfl | rfl | rfl <;> simp) ?_
    exact ih (k + 1) _ _ (by omega) (by omega) (by unfold kwG; rcases hu with ⟨h3, e'⟩ | ⟨h3, e'⟩ <;> split <;> omega) (by omega)
  refine Run.lv (lv' := [(0, .ref w), (1, .long (cL (x : Int))), (3, .int (cI (-1))), (4, .int (cI 0))]) (by intro q hq; simp only [List.mem_cons, List.not_mem_nil, or_false] at hq ⊢; rcases hq with rfl | rfl | rfl | rfl <;> simp) ?_
  exact loop 35 0 _ _ (by omega) rfl rfl (by omega)
theorem c_Keywords_print (d : Nat) {w o q k : Nat} {l : List Nat} {I : M32} {L : M64} {R : MR} {T : SH} (hd : 3 ≤ d) (hS : KwS R T w) (hV : KwV L w) (hO : OutS R T o q) (hL : OutV I o l) (hk : k < 34) :
    Call m_Keywords_print y_Keywords_print d 0 0 [.ref w, .int (cI k), .ref o] I L R T (rV fun I' L' R' T' => (OutV I' o (wordL l (spl (KW.getD k 0) (KWn.getD k 0))) ∧ FrQ o I I') ∧ L' = L ∧ R' = R ∧ T' = T) := by
  refine Call.ofRun (by decide) ⟨rfl, rfl⟩ (Nat.le_of_ble_eq_true rfl) ?_
  refine Run.gen fun Q hQ => ?_
  refine q_aload_n d_Keywords_print_0 rfl ?_
  refine q_aload_n d_Keywords_print_1 rfl ?_
  refine q_getR d_Keywords_print_2 fl_Keywords_9 hS.1 ⟨rfl, by decide⟩ hS.2.1 ?_
  refine q_iload_n d_Keywords_print_5 rfl ?_
  refine j_lald (j := k) (v := (cL (KW.getD k 0 : Int))) d_Keywords_print_6 hS.2.2.1 hS.2.2.2 (by omega) (by omega) (by omega) (hV k (by omega)) ?_
  refine q_callV (ci := 2) (rc := 0) (rs := 0) (rest := []) d_Keywords_print_7 ml_Keywords_45 ok_Out_name rfl hO.1 (by decide) (c_Out_name (d - 1) (by omega) hO hL (KW_ok k hk)) rfl rfl (by omega) (Nat.le_of_ble_eq_true rfl) (kv_V (fun J hJ => ?_)) kt_V
  refine q_return d_Keywords_print_10 rfl ?_
  refine hQ _ _ _ _ _ ?_
  exact ⟨rfl, hJ, rfl, rfl, rfl⟩
/-- whether what is left of a long is letters and digits, the highest a letter -/
def nmB : Nat → Nat → Bool
  | 0, x => x == 0
  | f + 1, x => x == 0 || ((decide (97 ≤ x % 256 ∧ x % 256 ≤ 122) || (decide (48 ≤ x % 256 ∧ x % 256 ≤ 57) && decide (255 < x))) && nmB f (x / 256))
def isNm (z : Int) : Bool := decide (0 < z) && nmB 8 z.toNat && decide (kwF z.toNat = -1)
theorem and255 {y : Nat} : cL (y : Int) &&& cL 255 = cL ((y % 256 : Nat) : Int) := by
  have e : lN y &&& lN 255 = lN (y % 256) := by
    apply Int64.toBitVec_inj.mp
    show (Int64.ofNat y).toBitVec &&& (Int64.ofNat 255).toBitVec = (Int64.ofNat (y % 256)).toBitVec
    rw [Int64.toBitVec_ofNat', Int64.toBitVec_ofNat', Int64.toBitVec_ofNat', ← BitVec.ofNat_and, Nat.and_two_pow_sub_one_eq_mod y 8]
  rw [cL_lN, cL_lN, show cL 255 = lN 255 from rfl, e]
theorem shr8 {y : Nat} (h : y < 9223372036854775808) : cL (y : Int) >>> ((cI 8).toInt64 &&& 63) = cL ((y / 256 : Nat) : Int) := by
  rw [cL_lN, cL_lN]
  exact (shr_n (k := 1) h (by decide)).trans (by rw [Nat.pow_one])
theorem c_Keywords_isName (d : Nat) {w : Nat} {z : Int} {I : M32} {L : M64} {R : MR} {T : SH} (hd : 1 ≤ d) (hS : KwS R T w) (hV : KwV L w) (hz : inL z) :
    Call m_Keywords_isName y_Keywords_isName d 0 0 [.ref w, .long (cL z)] I L R T (rI fun r I' L' R' T' => r = cI (bI (isNm z = true)) ∧ I' = I ∧ L' = L ∧ R' = R ∧ T' = T) := by
  refine Call.ofRun (by decide) ⟨rfl, rfl⟩ (Nat.le_of_ble_eq_true rfl) ?_
  refine Run.gen fun Q hQ => ?_
  rcases Int.lt_or_le 0 z with hz0 | hz0
  rotate_left
  · have hno : isNm z = false := by unfold isNm; rw [decide_eq_false (by omega)]; rfl
    refine j_iconst d_Keywords_isName_0 ?_
    refine q_istore_n (lv' := [(3, .int (cI 0)), (0, .ref w), (1, .long (cL z))]) d_Keywords_isName_1 (by decide) rfl ?_
    refine q_lload_n d_Keywords_isName_2 rfl ?_
    refine j_lconst (z := 0) d_Keywords_isName_3 (by decide) ?_
    refine j_lcmp_le (tgt := 12) d_Keywords_isName_4 d_Keywords_isName_5 (by decide) (by omega) (by omega) (fun hx => ?_) (fun hx => by exfalso; omega)
    refine j_iconst d_Keywords_isName_12 ?_
    refine q_istore (lv' := [(4, .int (cI 0)), (3, .int (cI 0)), (0, .ref w), (1, .long (cL z))]) d_Keywords_isName_13 (by decide) rfl ?_
    refine q_lload_n d_Keywords_isName_15 rfl ?_
    refine q_lstore (lv' := [(5, .long (cL z)), (4, .int (cI 0)), (3, .int (cI 0)), (0, .ref w), (1, .long (cL z))]) d_Keywords_isName_16 (by decide) rfl ?_
    refine q_lload d_Keywords_isName_18 rfl ?_
    refine j_lconst (z := 0) d_Keywords_isName_20 (by decide) ?_
    refine j_lcmp_le (tgt := 99) d_Keywords_isName_21 d_Keywords_isName_22 (by decide) (by omega) (by omega) (fun hx => ?_) (fun hx => by exfalso; omega)
    refine q_iload d_Keywords_isName_99 rfl ?_
    refine j_if_eq (tgt := 123) d_Keywords_isName_101 (by decide) (by omega) (fun hx => ?_) (fun hx => by exfalso; omega)
    refine j_iconst d_Keywords_isName_123 ?_
    refine q_ireturn d_Keywords_isName_124 rfl (narrow_z (Or.inl rfl)).1 ?_
    refine hQ _ _ _ _ _ ?_
    exact ⟨_, rfl, by rw [bI_f (by rw [hno]; decide)], rfl, rfl, rfl, rfl⟩
  obtain ⟨x, rfl⟩ : ∃ x : Nat, z = x := ⟨z.toNat, by omega⟩
  have hx63 : x < 9223372036854775808 := by omega
  refine j_iconst d_Keywords_isName_0 ?_
  refine q_istore_n (lv' := [(3, .int (cI 0)), (0, .ref w), (1, .long (cL (x : Int)))]) d_Keywords_isName_1 (by decide) rfl ?_
  refine q_lload_n d_Keywords_isName_2 rfl ?_
  refine j_lconst (z := 0) d_Keywords_isName_3 (by decide) ?_
  refine j_lcmp_le (tgt := 12) d_Keywords_isName_4 d_Keywords_isName_5 (by decide) (by omega) (by omega) (fun hx => by exfalso; omega) (fun hx => ?_)
  refine j_iconst d_Keywords_isName_8 ?_
  refine q_goto (tgt := 13) d_Keywords_isName_9 (by decide) ?_
  refine q_istore (lv' := [(4, .int (cI 1)), (3, .int (cI 0)), (0, .ref w), (1, .long (cL (x : Int)))]) d_Keywords_isName_13 (by decide) rfl ?_
  refine q_lload_n d_Keywords_isName_15 rfl ?_
  refine q_lstore (lv' := [(5, .long (cL (x : Int))), (4, .int (cI 1)), (3, .int (cI 0)), (0, .ref w), (1, .long (cL (x : Int)))]) d_Keywords_isName_16 (by decide) rfl ?_
  have hkw := kwG_in x 34
  have fin : ∀ (c : Nat) (g : Bool) (e : Int), c ≤ 8 → g = nmB 8 x → Run m_Keywords_isName d 0 0 99 [(0, .ref w), (1, .long (cL (x : Int))), (3, .int (cI (c : Int))), (4, .int (cI (bI (g = true)))), (5, .long (cL e))] [] I L R T Q := by
    intro c g e hc hg
    refine q_iload d_Keywords_isName_99 rfl ?_
    refine j_ifb_eq (tgt := 123) d_Keywords_isName_101 (by decide) (fun h1 => ?_) (fun h1 => ?_)
    · skip
      refine j_iconst d_Keywords_isName_123 ?_
      refine q_ireturn d_Keywords_isName_124 rfl (narrow_z (Or.inl rfl)).1 ?_
      refine hQ _ _ _ _ _ ?_
      exact ⟨_, rfl, by rw [bI_f (by unfold isNm; rw [Int.toNat_natCast, ← hg]; simp [h1])], rfl, rfl, rfl, rfl⟩
    · skip
      refine q_iload_n d_Keywords_isName_104 rfl ?_
      refine j_bipush d_Keywords_isName_105 (by decide) ?_
      refine j_icmp_gt (tgt := 123) d_Keywords_isName_107 (by decide) (by omega) (by omega) (fun hx => by exfalso; omega) (fun hx => ?_)
      refine q_aload_n d_Keywords_isName_110 rfl ?_
      refine q_lload_n d_Keywords_isName_111 rfl ?_
      refine q_callV (ci := 3) (rc := 0) (rs := 0) (rest := []) d_Keywords_isName_112 ml_Keywords_41 ok_Keywords_find rfl hS.1 (by decide) (c_Keywords_find (d - 1) hS hV hx63) rfl rfl (by omega) (Nat.le_of_ble_eq_true rfl) (kp_I ?_) kt_I
      refine j_iconst d_Keywords_isName_115 ?_
      have hkw2 : inI (kwF x) := by unfold kwF; omega
      suffices J : ∀ (u : Int), (((¬ (kwF x) = (-1)) ∧ u = 0) ∨ (((kwF x) = (-1)) ∧ u = 1)) → Run m_Keywords_isName d 0 0 124 [(0, .ref w), (1, .long (cL (x : Int))), (3, .int (cI (c : Int))), (4, .int (cI (bI (g = true)))), (5, .long (cL e))] [.int (cI u)] I L R T Q by
        refine j_icmp_ne (tgt := 123) d_Keywords_isName_116 (by decide) (by omega) (by omega) (fun hp4 => ?_) (fun hp4 => ?_)
        · refine j_iconst d_Keywords_isName_123 ?_
          exact J _ (Or.inl ⟨hp4, rfl⟩)
        · refine j_iconst d_Keywords_isName_119 ?_
          refine q_goto (tgt := 124) d_Keywords_isName_120 (by decide) ?_
          exact J _ (Or.inr ⟨hp4, rfl⟩)
      intro u hu
      refine q_ireturn d_Keywords_isName_124 rfl (narrow_z (z01 (by omega))).1 ?_
      refine hQ _ _ _ _ _ ?_
      refine ⟨_, rfl, ?_, rfl, rfl, rfl, rfl⟩
      have e1 : isNm (x : Int) = decide (kwF x = -1) := by unfold isNm; rw [Int.toNat_natCast, ← hg, h1, decide_eq_true hz0]; rfl
      rw [e1]
      congr 1
      rcases hu with ⟨h3, e⟩ | ⟨h3, e⟩
      · rw [e, bI_f (by simpa using h3)]
      · rw [e, bI_t (by simpa using h3)]
  have loop : ∀ (f c y : Nat) (g : Bool), c + f = 8 → y < 256 ^ f → y ≤ x → (g && nmB f y) = nmB 8 x → Run m_Keywords_isName d 0 0 18 [(0, .ref w), (1, .long (cL (x : Int))), (3, .int (cI (c : Int))), (4, .int (cI (bI (g = true)))), (5, .long (cL (y : Int)))] [] I L R T Q := by
    intro f
    induction f with
    | zero =>
      intro c y g hc hy hyx hg
      obtain rfl : y = 0 := by simpa using hy
      refine q_lload d_Keywords_isName_18 rfl ?_
      refine j_lconst (z := 0) d_Keywords_isName_20 (by decide) ?_
      refine j_lcmp_le (tgt := 99) d_Keywords_isName_21 d_Keywords_isName_22 (by decide) (by omega) (by omega) (fun hx => ?_) (fun hx => by exfalso; omega)
      exact fin c g _ (by omega) (by rw [← hg]; cases g <;> rfl)
    | succ f ih =>
    intro c y g hc hy hyx hg
    refine q_lload d_Keywords_isName_18 rfl ?_
    refine j_lconst (z := 0) d_Keywords_isName_20 (by decide) ?_
    refine j_lcmp_le (tgt := 99) d_Keywords_isName_21 d_Keywords_isName_22 (by decide) (by omega) (by omega) (fun h1 => ?_) (fun h1 => ?_)
    · skip
      obtain rfl : y = 0 := by omega
      exact fin c g _ (by omega) (by rw [← hg]; cases g <;> rfl)
    refine q_iload d_Keywords_isName_25 rfl ?_
    refine j_ifb_eq (tgt := 99) d_Keywords_isName_27 (by decide) (fun h2 => ?_) (fun h2 => ?_)
    · skip
      exact fin c g _ (by omega) (by rw [← hg]; cases g <;> simp_all)
    obtain ⟨b, hb⟩ : ∃ b, b = y % 256 := ⟨_, rfl⟩
    refine q_lload d_Keywords_isName_30 rfl ?_
    refine j_ldc2 (z := 255) d_Keywords_isName_32 (inT6 20 rfl) (by decide) ?_
    refine q_land d_Keywords_isName_35 ?_
    refine Run.top (v := .long (cL (b : Int))) (by rw [and255, hb]) ?_
    refine q_lstore (lv' := [(7, .long (cL (b : Int))), (0, .ref w), (1, .long (cL (x : Int))), (3, .int (cI (c : Int))), (4, .int (cI (bI (g = true)))), (5, .long (cL (y : Int)))]) d_Keywords_isName_36 (by decide) rfl ?_
    refine q_lload d_Keywords_isName_38 rfl ?_
    refine j_ldc2 (z := 97) d_Keywords_isName_40 (inT6 21 rfl) (by decide) ?_
    refine j_ldc2 (z := 122) d_Keywords_isName_43 (inT6 22 rfl) (by decide) ?_
    refine q_callS (rc := 0) (rs := 0) (rest := []) d_Keywords_isName_46 ml_Keywords_33 ok_Platform_within (c_Platform_within (d - 1) (by omega) (by omega) (by omega)) rfl rfl (by omega) (Nat.le_of_ble_eq_true rfl) (kp_I ?_) kt_I
    refine q_istore (lv' := [(9, .int (cI (bI (97 ≤ (b : Int) ∧ (b : Int) ≤ 122)))), (7, .long (cL (b : Int))), (0, .ref w), (1, .long (cL (x : Int))), (3, .int (cI (c : Int))), (4, .int (cI (bI (g = true)))), (5, .long (cL (y : Int)))]) d_Keywords_isName_49 (by decide) rfl ?_
    refine q_iload d_Keywords_isName_51 rfl ?_
    suffices J : ∀ (u : Int), (((97 ≤ (b : Int) ∧ (b : Int) ≤ 122) ∧ u = 1) ∨ ((¬ (97 ≤ (b : Int) ∧ (b : Int) ≤ 122)) ∧ (¬ (48 ≤ (b : Int) ∧ (b : Int) ≤ 57)) ∧ u = 0) ∨ ((¬ (97 ≤ (b : Int) ∧ (b : Int) ≤ 122)) ∧ (48 ≤ (b : Int) ∧ (b : Int) ≤ 57) ∧ ((y : Int) ≤ 255) ∧ u = 0) ∨ ((¬ (97 ≤ (b : Int) ∧ (b : Int) ≤ 122)) ∧ (48 ≤ (b : Int) ∧ (b : Int) ≤ 57) ∧ (255 < (y : Int)) ∧ u = 1)) → Run m_Keywords_isName d 0 0 84 [(0, .ref w), (1, .long (cL (x : Int))), (3, .int (cI (c : Int))), (4, .int (cI (bI (g = true)))), (5, .long (cL (y : Int))), (7, .long (cL (b : Int))), (9, .int (cI (bI (97 ≤ (b : Int) ∧ (b : Int) ≤ 122))))] [.int (cI u)] I L R T Q by
      refine j_ifb_ne (tgt := 79) d_Keywords_isName_53 (by decide) (fun hp5 => ?_) (fun hp5 => ?_)
      · refine j_iconst d_Keywords_isName_79 ?_
        refine q_goto (tgt := 84) d_Keywords_isName_80 (by decide) ?_
        refine Run.lv (lv' := [(0, .ref w), (1, .long (cL (x : Int))), (3, .int (cI (c : Int))), (4, .int (cI (bI (g = true)))), (5, .long (cL (y : Int))), (7, .long (cL (b : Int))), (9, .int (cI (bI (97 ≤ (b : Int) ∧ (b : Int) ≤ 122))))]) (by intro q hq; simp only [List.mem_cons, List.not_mem_nil, or_false] at hq ⊢; rcases hq with rfl | rfl | rfl | rfl | rfl | rfl | rfl <;> simp) ?_
        exact J _ (Or.inl ⟨hp5, rfl⟩)
      · refine q_lload d_Keywords_isName_56 rfl ?_
        refine j_ldc2 (z := 48) d_Keywords_isName_58 (inT6 24 rfl) (by decide) ?_
        refine j_ldc2 (z := 57) d_Keywords_isName_61 (inT6 25 rfl) (by decide) ?_
        refine q_callS (rc := 0) (rs := 0) (rest := []) d_Keywords_isName_64 ml_Keywords_33 ok_Platform_within (c_Platform_within (d - 1) (by omega) (by omega) (by omega)) rfl rfl (by omega) (Nat.le_of_ble_eq_true rfl) (kp_I ?_) kt_I
        refine j_ifb_eq (tgt := 83) d_Keywords_isName_67 (by decide) (fun hp6 => ?_) (fun hp6 => ?_)
        · refine j_iconst d_Keywords_isName_83 ?_
          refine Run.lv (lv' := [(0, .ref w), (1, .long (cL (x : Int))), (3, .int (cI (c : Int))), (4, .int (cI (bI (g = true)))), (5, .long (cL (y : Int))), (7, .long (cL (b : Int))), (9, .int (cI (bI (97 ≤ (b : Int) ∧ (b : Int) ≤ 122))))]) (by intro q hq; simp only [List.mem_cons, List.not_mem_nil, or_false] at hq ⊢; rcases hq with rfl | rfl | rfl | rfl | rfl | rfl | rfl <;> simp) ?_
          exact J _ (Or.inr (Or.inl ⟨hp5, hp6, rfl⟩))
        · refine q_lload d_Keywords_isName_70 rfl ?_
          refine j_ldc2 (z := 255) d_Keywords_isName_72 (inT6 20 rfl) (by decide) ?_
          refine j_lcmp_le (tgt := 83) d_Keywords_isName_75 d_Keywords_isName_76 (by decide) (by omega) (by omega) (fun hp7 => ?_) (fun hp7 => ?_)
          · refine j_iconst d_Keywords_isName_83 ?_
            refine Run.lv (lv' := [(0, .ref w), (1, .long (cL (x : Int))), (3, .int (cI (c : Int))), (4, .int (cI (bI (g = true)))), (5, .long (cL (y : Int))), (7, .long (cL (b : Int))), (9, .int (cI (bI (97 ≤ (b : Int) ∧ (b : Int) ≤ 122))))]) (by intro q hq; simp only [List.mem_cons, List.not_mem_nil, or_false] at hq ⊢; rcases hq with rfl | rfl | rfl | rfl | rfl | rfl | rfl <;> simp) ?_
            exact J _ (Or.inr (Or.inr (Or.inl ⟨hp5, hp6, hp7, rfl⟩)))
          · refine j_iconst d_Keywords_isName_79 ?_
            refine q_goto (tgt := 84) d_Keywords_isName_80 (by decide) ?_
            refine Run.lv (lv' := [(0, .ref w), (1, .long (cL (x : Int))), (3, .int (cI (c : Int))), (4, .int (cI (bI (g = true)))), (5, .long (cL (y : Int))), (7, .long (cL (b : Int))), (9, .int (cI (bI (97 ≤ (b : Int) ∧ (b : Int) ≤ 122))))]) (by intro q hq; simp only [List.mem_cons, List.not_mem_nil, or_false] at hq ⊢; rcases hq with rfl | rfl | rfl | rfl | rfl | rfl | rfl <;> simp) ?_
            exact J _ (Or.inr (Or.inr (Or.inr ⟨hp5, hp6, hp7, rfl⟩)))
    intro u hu
    have hu2 : u = bI ((decide (97 ≤ y % 256 ∧ y % 256 ≤ 122) || (decide (48 ≤ y % 256 ∧ y % 256 ≤ 57) && decide (255 < y))) = true) := by
      rw [← hb]
      unfold bI
      split <;> rename_i hs <;> simp only [Bool.or_eq_true, Bool.and_eq_true, decide_eq_true_eq] at hs <;> omega
    refine Run.top (v := .int (cI (bI ((decide (97 ≤ y % 256 ∧ y % 256 ≤ 122) || (decide (48 ≤ y % 256 ∧ y % 256 ≤ 57) && decide (255 < y))) = true)))) (by rw [hu2]) ?_
    refine q_istore (lv' := [(4, .int (cI (bI ((decide (97 ≤ y % 256 ∧ y % 256 ≤ 122) || (decide (48 ≤ y % 256 ∧ y % 256 ≤ 57) && decide (255 < y))) = true)))), (0, .ref w), (1, .long (cL (x : Int))), (3, .int (cI (c : Int))), (5, .long (cL (y : Int))), (7, .long (cL (b : Int))), (9, .int (cI (bI (97 ≤ (b : Int) ∧ (b : Int) ≤ 122))))]) d_Keywords_isName_84 (by decide) rfl ?_
    refine j_iinc (lv' := [(3, .int (cI ((c : Int) + 1))), (4, .int (cI (bI ((decide (97 ≤ y % 256 ∧ y % 256 ≤ 122) || (decide (48 ≤ y % 256 ∧ y % 256 ≤ 57) && decide (255 < y))) = true)))), (0, .ref w), (1, .long (cL (x : Int))), (5, .long (cL (y : Int))), (7, .long (cL (b : Int))), (9, .int (cI (bI (97 ≤ (b : Int) ∧ (b : Int) ≤ 122))))]) d_Keywords_isName_86 rfl (by decide) rfl ?_
    refine q_lload d_Keywords_isName_89 rfl ?_
    refine j_bipush d_Keywords_isName_91 (by decide) ?_
    refine q_lshr d_Keywords_isName_93 ?_
    refine Run.top (v := .long (cL (y / 256 : Int))) (by rw [shr8 (by omega)]; simp) ?_
    refine q_lstore (lv' := [(5, .long (cL (y / 256 : Int))), (3, .int (cI ((c : Int) + 1))), (4, .int (cI (bI ((decide (97 ≤ y % 256 ∧ y % 256 ≤ 122) || (decide (48 ≤ y % 256 ∧ y % 256 ≤ 57) && decide (255 < y))) = true)))), (0, .ref w), (1, .long (cL (x : Int))), (7, .long (cL (b : Int))), (9, .int (cI (bI (97 ≤ (b : Int) ∧ (b : Int) ≤ 122))))]) d_Keywords_isName_94 (by decide) rfl ?_
    refine q_goto (tgt := 18) d_Keywords_isName_96 (by decide) ?_
    refine Run.lv (lv' := [(0, .ref w), (1, .long (cL (x : Int))), (3, .int (cI ((c + 1 : Nat) : Int))), (4, .int (cI (bI ((decide (97 ≤ y % 256 ∧ y % 256 ≤ 122) || (decide (48 ≤ y % 256 ∧ y % 256 ≤ 57) && decide (255 < y))) = true)))), (5, .long (cL ((y / 256 : Nat) : Int)))]) ?_ (ih (c + 1) (y / 256) _ (by omega) (by rw [Nat.pow_succ] at hy; omega) (by omega) ?_)
    · intro q hq; simp only [List.mem_cons, List.not_mem_nil, or_false] at hq ⊢; rcases hq with rfl | rfl | rfl | rfl | rfl <;> simp
    · rw [← hg, h2, Bool.true_and]
      show _ = (y == 0 || _)
      rw [show (y == 0) = false by simp; omega, Bool.false_or]
  refine Run.lv (lv' := [(0, .ref w), (1, .long (cL (x : Int))), (3, .int (cI ((0 : Nat) : Int))), (4, .int (cI (bI (true = true)))), (5, .long (cL (x : Int)))]) ?_ (loop 8 0 x true (by omega) (by omega) (Nat.le_refl _) (by simp))
  intro q hq; simp only [List.mem_cons, List.not_mem_nil, or_false] at hq ⊢; rcases hq with rfl | rfl | rfl | rfl | rfl <;> simp [bI]

