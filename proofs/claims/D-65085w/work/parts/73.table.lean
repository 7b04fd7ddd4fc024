/-! ===== 73 TABLES: what reads them ===== -/
theorem d_Table_find_0 : decode m_Table_find.2.1 0 = .ok (.iconst 0, 1) := by decide +kernel
theorem d_Table_find_1 : decode m_Table_find.2.1 1 = .ok (.istore 5, 2) := by decide +kernel
theorem d_Table_find_3 : decode m_Table_find.2.1 3 = .ok (.iload 5, 2) := by decide +kernel
theorem d_Table_find_5 : decode m_Table_find.2.1 5 = .ok (.aload_n 0, 1) := by decide +kernel
theorem d_Table_find_6 : decode m_Table_find.2.1 6 = .ok (.getfield 23, 3) := by decide +kernel
theorem d_Table_find_9 : decode m_Table_find.2.1 9 = .ok (.if_icmp .ge 45, 3) := by decide +kernel
theorem d_Table_find_12 : decode m_Table_find.2.1 12 = .ok (.aload_n 0, 1) := by decide +kernel
theorem d_Table_find_13 : decode m_Table_find.2.1 13 = .ok (.getfield 7, 3) := by decide +kernel
theorem d_Table_find_16 : decode m_Table_find.2.1 16 = .ok (.iload 5, 2) := by decide +kernel
theorem d_Table_find_18 : decode m_Table_find.2.1 18 = .ok (.laload, 1) := by decide +kernel
theorem d_Table_find_19 : decode m_Table_find.2.1 19 = .ok (.lload_n 1, 1) := by decide +kernel
theorem d_Table_find_20 : decode m_Table_find.2.1 20 = .ok (.lcmp, 1) := by decide +kernel
theorem d_Table_find_21 : decode m_Table_find.2.1 21 = .ok (.ifCond .lt 27, 3) := by decide +kernel
theorem d_Table_find_24 : decode m_Table_find.2.1 24 = .ok (.aload_n 0, 1) := by decide +kernel
theorem d_Table_find_25 : decode m_Table_find.2.1 25 = .ok (.getfield 7, 3) := by decide +kernel
theorem d_Table_find_28 : decode m_Table_find.2.1 28 = .ok (.iload 5, 2) := by decide +kernel
theorem d_Table_find_30 : decode m_Table_find.2.1 30 = .ok (.laload, 1) := by decide +kernel
theorem d_Table_find_31 : decode m_Table_find.2.1 31 = .ok (.lload_n 1, 1) := by decide +kernel
theorem d_Table_find_32 : decode m_Table_find.2.1 32 = .ok (.lcmp, 1) := by decide +kernel
theorem d_Table_find_33 : decode m_Table_find.2.1 33 = .ok (.ifCond .ne 21, 3) := by decide +kernel
theorem d_Table_find_36 : decode m_Table_find.2.1 36 = .ok (.aload_n 0, 1) := by decide +kernel
theorem d_Table_find_37 : decode m_Table_find.2.1 37 = .ok (.getfield 13, 3) := by decide +kernel
theorem d_Table_find_40 : decode m_Table_find.2.1 40 = .ok (.iload 5, 2) := by decide +kernel
theorem d_Table_find_42 : decode m_Table_find.2.1 42 = .ok (.laload, 1) := by decide +kernel
theorem d_Table_find_43 : decode m_Table_find.2.1 43 = .ok (.lload_n 3, 1) := by decide +kernel
theorem d_Table_find_44 : decode m_Table_find.2.1 44 = .ok (.lcmp, 1) := by decide +kernel
theorem d_Table_find_45 : decode m_Table_find.2.1 45 = .ok (.ifCond .ge 9, 3) := by decide +kernel
theorem d_Table_find_48 : decode m_Table_find.2.1 48 = .ok (.iinc 5 1, 3) := by decide +kernel
theorem d_Table_find_51 : decode m_Table_find.2.1 51 = .ok (.goto (-48), 3) := by decide +kernel
theorem d_Table_find_54 : decode m_Table_find.2.1 54 = .ok (.iload 5, 2) := by decide +kernel
theorem d_Table_find_56 : decode m_Table_find.2.1 56 = .ok (.aload_n 0, 1) := by decide +kernel
theorem d_Table_find_57 : decode m_Table_find.2.1 57 = .ok (.getfield 23, 3) := by decide +kernel
theorem d_Table_find_60 : decode m_Table_find.2.1 60 = .ok (.if_icmp .ge 32, 3) := by decide +kernel
theorem d_Table_find_63 : decode m_Table_find.2.1 63 = .ok (.aload_n 0, 1) := by decide +kernel
theorem d_Table_find_64 : decode m_Table_find.2.1 64 = .ok (.getfield 7, 3) := by decide +kernel
theorem d_Table_find_67 : decode m_Table_find.2.1 67 = .ok (.iload 5, 2) := by decide +kernel
theorem d_Table_find_69 : decode m_Table_find.2.1 69 = .ok (.laload, 1) := by decide +kernel
theorem d_Table_find_70 : decode m_Table_find.2.1 70 = .ok (.lload_n 1, 1) := by decide +kernel
theorem d_Table_find_71 : decode m_Table_find.2.1 71 = .ok (.lcmp, 1) := by decide +kernel
theorem d_Table_find_72 : decode m_Table_find.2.1 72 = .ok (.ifCond .ne 20, 3) := by decide +kernel
theorem d_Table_find_75 : decode m_Table_find.2.1 75 = .ok (.aload_n 0, 1) := by decide +kernel
theorem d_Table_find_76 : decode m_Table_find.2.1 76 = .ok (.getfield 13, 3) := by decide +kernel
theorem d_Table_find_79 : decode m_Table_find.2.1 79 = .ok (.iload 5, 2) := by decide +kernel
theorem d_Table_find_81 : decode m_Table_find.2.1 81 = .ok (.laload, 1) := by decide +kernel
theorem d_Table_find_82 : decode m_Table_find.2.1 82 = .ok (.lload_n 3, 1) := by decide +kernel
theorem d_Table_find_83 : decode m_Table_find.2.1 83 = .ok (.lcmp, 1) := by decide +kernel
theorem d_Table_find_84 : decode m_Table_find.2.1 84 = .ok (.ifCond .ne 8, 3) := by decide +kernel
theorem d_Table_find_87 : decode m_Table_find.2.1 87 = .ok (.iload 5, 2) := by decide +kernel
theorem d_Table_find_89 : decode m_Table_find.2.1 89 = .ok (.goto 7, 3) := by decide +kernel
theorem d_Table_find_92 : decode m_Table_find.2.1 92 = .ok (.iconst (-1), 1) := by decide +kernel
theorem d_Table_find_93 : decode m_Table_find.2.1 93 = .ok (.iload 5, 2) := by decide +kernel
theorem d_Table_find_95 : decode m_Table_find.2.1 95 = .ok (.isub, 1) := by decide +kernel
theorem d_Table_find_96 : decode m_Table_find.2.1 96 = .ok (.ireturn, 1) := by decide +kernel
theorem d_Table_get_0 : decode m_Table_get.2.1 0 = .ok (.aload_n 0, 1) := by decide +kernel
theorem d_Table_get_1 : decode m_Table_get.2.1 1 = .ok (.lload_n 1, 1) := by decide +kernel
theorem d_Table_get_2 : decode m_Table_get.2.1 2 = .ok (.lload_n 3, 1) := by decide +kernel
theorem d_Table_get_3 : decode m_Table_get.2.1 3 = .ok (.invokevirtual 31, 3) := by decide +kernel
theorem d_Table_get_6 : decode m_Table_get.2.1 6 = .ok (.istore 5, 2) := by decide +kernel
theorem d_Table_get_8 : decode m_Table_get.2.1 8 = .ok (.iload 5, 2) := by decide +kernel
theorem d_Table_get_10 : decode m_Table_get.2.1 10 = .ok (.ifCond .ge 7, 3) := by decide +kernel
theorem d_Table_get_13 : decode m_Table_get.2.1 13 = .ok (.aconst_null, 1) := by decide +kernel
theorem d_Table_get_14 : decode m_Table_get.2.1 14 = .ok (.goto 10, 3) := by decide +kernel
theorem d_Table_get_17 : decode m_Table_get.2.1 17 = .ok (.aload_n 0, 1) := by decide +kernel
theorem d_Table_get_18 : decode m_Table_get.2.1 18 = .ok (.getfield 18, 3) := by decide +kernel
theorem d_Table_get_21 : decode m_Table_get.2.1 21 = .ok (.iload 5, 2) := by decide +kernel
theorem d_Table_get_23 : decode m_Table_get.2.1 23 = .ok (.aaload, 1) := by decide +kernel
theorem d_Table_get_24 : decode m_Table_get.2.1 24 = .ok (.areturn, 1) := by decide +kernel
theorem d_Table_isFull_0 : decode m_Table_isFull.2.1 0 = .ok (.aload_n 0, 1) := by decide +kernel
theorem d_Table_isFull_1 : decode m_Table_isFull.2.1 1 = .ok (.getfield 23, 3) := by decide +kernel
theorem d_Table_isFull_4 : decode m_Table_isFull.2.1 4 = .ok (.aload_n 0, 1) := by decide +kernel
theorem d_Table_isFull_5 : decode m_Table_isFull.2.1 5 = .ok (.getfield 7, 3) := by decide +kernel
theorem d_Table_isFull_8 : decode m_Table_isFull.2.1 8 = .ok (.arraylength, 1) := by decide +kernel
theorem d_Table_isFull_9 : decode m_Table_isFull.2.1 9 = .ok (.if_icmp .ne 7, 3) := by decide +kernel
theorem d_Table_isFull_12 : decode m_Table_isFull.2.1 12 = .ok (.iconst 1, 1) := by decide +kernel
theorem d_Table_isFull_13 : decode m_Table_isFull.2.1 13 = .ok (.goto 4, 3) := by decide +kernel
theorem d_Table_isFull_16 : decode m_Table_isFull.2.1 16 = .ok (.iconst 0, 1) := by decide +kernel
theorem d_Table_isFull_17 : decode m_Table_isFull.2.1 17 = .ok (.ireturn, 1) := by decide +kernel
theorem d_Table_clear_0 : decode m_Table_clear.2.1 0 = .ok (.aload_n 0, 1) := by decide +kernel
theorem d_Table_clear_1 : decode m_Table_clear.2.1 1 = .ok (.iconst 0, 1) := by decide +kernel
theorem d_Table_clear_2 : decode m_Table_clear.2.1 2 = .ok (.putfield 23, 3) := by decide +kernel
theorem d_Table_clear_5 : decode m_Table_clear.2.1 5 = .ok (.return_, 1) := by decide +kernel
/-- a table at t of room r -/
def TbS (R : MR) (T : SH) (t r : Nat) : Prop := T.1 t = 9 + 1 ∧ (R t 0 = some (t + 1) ∧ T.1 (t + 1) = 65 ∧ T.2.1 (t + 1) = r) ∧ (R t 1 = some (t + 2) ∧ T.1 (t + 2) = 65 ∧ T.2.1 (t + 2) = r) ∧ (R t 2 = some (t + 3) ∧ T.1 (t + 3) = 70 ∧ T.2.1 (t + 3) = r) ∧ r ≤ 60 ∧ ∀ k, k < r → BigS R T (t + 4 + 2 * k)
/-- its numbers' places: a permutation -/
def TbP (R : MR) (t r : Nat) (σ : Nat → Nat) : Prop := (∀ k, k < r → R (t + 3) k = some (t + 4 + 2 * σ k) ∧ σ k < r) ∧ ∀ j k, j < r → k < r → σ j = σ k → j = k
abbrev Ent := Nat × Nat × Int
/-- it holds the entries l -/
def TbV (I : M32) (L : M64) (t r : Nat) (σ : Nat → Nat) (l : List Ent) : Prop := l.length ≤ r ∧ I t 3 = cI l.length ∧ ∀ k, k < l.length → L (t + 1) k = cL (l.getD k (0, 0, 0)).1 ∧ L (t + 2) k = cL (l.getD k (0, 0, 0)).2.1 ∧ (l.getD k (0, 0, 0)).1 < 9223372036854775808 ∧ (l.getD k (0, 0, 0)).2.1 < 9223372036854775808 ∧ BigV I (t + 4 + 2 * σ k) (l.getD k (0, 0, 0)).2.2
abbrev klt (a b x y : Nat) : Prop := a < x ∨ (a = x ∧ b < y)
/-- how many entries stand before (x, y) -/
def fdx (x y : Nat) : List Ent → Nat
  | [] => 0
  | p :: l => if klt p.1 p.2.1 x y then fdx x y l + 1 else 0
def hasK (l : List Ent) (x y : Nat) : Prop := fdx x y l < l.length ∧ (l.getD (fdx x y l) (0, 0, 0)).1 = x ∧ (l.getD (fdx x y l) (0, 0, 0)).2.1 = y
theorem fdx_le (x y : Nat) : ∀ l, fdx x y l ≤ l.length
  | [] => Nat.le_refl _
  | p :: l => by
    have := fdx_le x y l
    show (if klt p.1 p.2.1 x y then fdx x y l + 1 else 0) ≤ l.length + 1
    split <;> omega
theorem fdx_at {x y : Nat} : ∀ (l : List Ent) (k : Nat), k ≤ l.length → (∀ j, j < k → klt (l.getD j (0, 0, 0)).1 (l.getD j (0, 0, 0)).2.1 x y) → (k < l.length → ¬ klt (l.getD k (0, 0, 0)).1 (l.getD k (0, 0, 0)).2.1 x y) → fdx x y l = k
  | [], k, h, _, _ => by have : k = 0 := Nat.le_zero.mp h; rw [this]; rfl
  | p :: l, 0, _, _, h3 => by
    show (if klt p.1 p.2.1 x y then fdx x y l + 1 else 0) = 0
    exact if_neg (h3 (Nat.succ_pos _))
  | p :: l, k + 1, h, h2, h3 => by
    show (if klt p.1 p.2.1 x y then fdx x y l + 1 else 0) = k + 1
    have h0 : klt p.1 p.2.1 x y := h2 0 (Nat.succ_pos k)
    rw [if_pos h0, fdx_at l k (Nat.le_of_succ_le_succ h) (fun j hj => h2 (j + 1) (Nat.succ_lt_succ hj)) (fun hk => h3 (Nat.succ_lt_succ hk))]
theorem c_Table_find (d : Nat) {t r x y : Nat} {σ : Nat → Nat} {l : List Ent} {I : M32} {L : M64} {R : MR} {T : SH} (hS : TbS R T t r) (hV : TbV I L t r σ l) (hx : x < 9223372036854775808) (hy : y < 9223372036854775808) :
    Call m_Table_find y_Table_find d 0 0 [.ref t, .long (cL x), .long (cL y)] I L R T (rI fun q I' L' R' T' => ((hasK l x y → q = cI (fdx x y l)) ∧ (¬ hasK l x y → q = cI (-1 - (fdx x y l : Int)))) ∧ I' = I ∧ L' = L ∧ R' = R ∧ T' = T) := by
  refine Call.ofRun (by decide) ⟨rfl, rfl⟩ (Nat.le_of_ble_eq_true rfl) ?_
  refine Run.gen fun Q hQ => ?_
  obtain ⟨s1, ⟨s2, s3, s4⟩, ⟨s5, s6, s7⟩, -, s8, -⟩ := hS
  obtain ⟨v1, v2, v3⟩ := hV
  obtain ⟨n, hn⟩ : ∃ n, n = l.length := ⟨_, rfl⟩
  rw [← hn] at v1 v2 v3
  refine j_iconst d_Table_find_0 ?_
  refine q_istore (lv' := [(5, .int (cI 0)), (0, .ref t), (1, .long (cL (x : Int))), (3, .long (cL (y : Int)))]) d_Table_find_1 (by decide) rfl ?_
  have fin : ∀ (k : Nat) (z : Int), z = k → k ≤ n → fdx x y l = k → Run m_Table_find d 0 0 54 [(0, .ref t), (1, .long (cL (x : Int))), (3, .long (cL (y : Int))), (5, .int (cI z))] [] I L R T Q := by
    intro k z hz hk hfd
    subst hz
    have no : ¬ hasK l x y → Q (.returned (some (.int (cI (-1 - (k : Int)))))) I L R T := fun h => hQ _ _ _ _ _ ⟨_, rfl, ⟨fun q => absurd q h, fun _ => by rw [hfd]⟩, rfl, rfl, rfl, rfl⟩
    refine q_iload d_Table_find_54 rfl ?_
    refine q_aload_n d_Table_find_56 rfl ?_
    refine j_getI (v := (cI (n : Int))) d_Table_find_57 fl_Table_23 s1 ⟨rfl, by decide⟩ v2 ?_
    refine j_icmp_ge (tgt := 92) d_Table_find_60 (by decide) (by omega) (by omega) (fun h1 => ?_) (fun h1 => ?_)
    · skip
      refine j_iconst d_Table_find_92 ?_
      refine q_iload d_Table_find_93 rfl ?_
      refine j_isub d_Table_find_95 ?_
      refine q_ireturn d_Table_find_96 rfl rfl ?_
      exact no (fun q => by have := q.1; omega)
    · skip
      have vk := v3 k (by omega)
      refine q_aload_n d_Table_find_63 rfl ?_
      refine q_getR d_Table_find_64 fl_Table_7 s1 ⟨rfl, by decide⟩ s2 ?_
      refine q_iload d_Table_find_67 rfl ?_
      refine j_lald (j := k) (v := (cL ((l.getD k (0, 0, 0)).1 : Int))) d_Table_find_69 s3 s4 (by omega) (by omega) (by omega) ((v3 k (by omega)).1) ?_
      refine q_lload_n d_Table_find_70 rfl ?_
      refine j_lcmp_ne (tgt := 92) d_Table_find_71 d_Table_find_72 (by decide) (by omega) (by omega) (fun h2 => ?_) (fun h2 => ?_)
      · skip
        refine j_iconst d_Table_find_92 ?_
        refine q_iload d_Table_find_93 rfl ?_
        refine j_isub d_Table_find_95 ?_
        refine q_ireturn d_Table_find_96 rfl rfl ?_
        exact no (fun q => by have := q.2.1; rw [hfd] at this; omega)
      · skip
        refine q_aload_n d_Table_find_75 rfl ?_
        refine q_getR d_Table_find_76 fl_Table_13 s1 ⟨rfl, by decide⟩ s5 ?_
        refine q_iload d_Table_find_79 rfl ?_
        refine j_lald (j := k) (v := (cL ((l.getD k (0, 0, 0)).2.1 : Int))) d_Table_find_81 s6 s7 (by omega) (by omega) (by omega) ((v3 k (by omega)).2.1) ?_
        refine q_lload_n d_Table_find_82 rfl ?_
        refine j_lcmp_ne (tgt := 92) d_Table_find_83 d_Table_find_84 (by decide) (by omega) (by omega) (fun h3 => ?_) (fun h3 => ?_)
        · skip
          refine j_iconst d_Table_find_92 ?_
          refine q_iload d_Table_find_93 rfl ?_
          refine j_isub d_Table_find_95 ?_
          refine q_ireturn d_Table_find_96 rfl rfl ?_
          exact no (fun q => by have := q.2.2; rw [hfd] at this; omega)
        · skip
          refine q_iload d_Table_find_87 rfl ?_
          refine q_goto (tgt := 96) d_Table_find_89 (by decide) ?_
          refine q_ireturn d_Table_find_96 rfl rfl ?_
          refine hQ _ _ _ _ _ ?_
          exact ⟨_, rfl, ⟨fun _ => by rw [hfd], fun q => absurd ⟨by omega, by rw [hfd]; omega, by rw [hfd]; omega⟩ q⟩, rfl, rfl, rfl, rfl⟩
  have loop : ∀ (f k : Nat) (z : Int), n - k < f → z = k → k ≤ n → (∀ j, j < k → klt (l.getD j (0, 0, 0)).1 (l.getD j (0, 0, 0)).2.1 x y) → Run m_Table_find d 0 0 3 [(0, .ref t), (1, .long (cL (x : Int))), (3, .long (cL (y : Int))), (5, .int (cI z))] [] I L R T Q := by
    intro f
    induction f with
    | zero => intro k z h; omega
    | succ f ih =>
    intro k z hf hz hk hlt
    subst hz
    have more : ∀ (h : k < n) (h2 : klt (l.getD k (0, 0, 0)).1 (l.getD k (0, 0, 0)).2.1 x y), True → Run m_Table_find d 0 0 48 [(0, .ref t), (1, .long (cL (x : Int))), (3, .long (cL (y : Int))), (5, .int (cI (k : Int)))] [] I L R T Q := by
      intro h h2 _
      refine j_iinc (lv' := [(5, .int (cI ((k : Int) + 1))), (0, .ref t), (1, .long (cL (x : Int))), (3, .long (cL (y : Int)))]) d_Table_find_48 rfl (by decide) rfl ?_
      refine q_goto (tgt := 3) d_Table_find_51 (by decide) ?_
      refine Run.lv (lv' := [(0, .ref t), (1, .long (cL (x : Int))), (3, .long (cL (y : Int))), (5, .int (cI ((k : Int) + 1)))]) (by intro q hq; simp only [List.mem_cons, List.not_mem_nil, or_false] at hq ⊢; rcases hq with rfl | rfl | rfl | rfl <;> simp) ?_
      exact ih (k + 1) _ (by omega) (by omega) (by omega) (fun j hj => if e : j = k then (by subst e; exact h2) else hlt j (by omega))
    have stop : (k < n → ¬ klt (l.getD k (0, 0, 0)).1 (l.getD k (0, 0, 0)).2.1 x y) → fdx x y l = k := fun h => fdx_at l k (by omega) hlt (fun q => h (by omega))
    refine q_iload d_Table_find_3 rfl ?_
    refine q_aload_n d_Table_find_5 rfl ?_
    refine j_getI (v := (cI (n : Int))) d_Table_find_6 fl_Table_23 s1 ⟨rfl, by decide⟩ v2 ?_
    refine j_icmp_ge (tgt := 54) d_Table_find_9 (by decide) (by omega) (by omega) (fun h1 => ?_) (fun h1 => ?_)
    · skip
      exact fin k _ rfl hk (stop (fun h => by omega))
    · skip
      have vk := v3 k (by omega)
      refine q_aload_n d_Table_find_12 rfl ?_
      refine q_getR d_Table_find_13 fl_Table_7 s1 ⟨rfl, by decide⟩ s2 ?_
      refine q_iload d_Table_find_16 rfl ?_
      refine j_lald (j := k) (v := (cL ((l.getD k (0, 0, 0)).1 : Int))) d_Table_find_18 s3 s4 (by omega) (by omega) (by omega) ((v3 k (by omega)).1) ?_
      refine q_lload_n d_Table_find_19 rfl ?_
      refine j_lcmp_lt (tgt := 48) d_Table_find_20 d_Table_find_21 (by decide) (by omega) (by omega) (fun h2 => ?_) (fun h2 => ?_)
      · skip
        exact more (by omega) (Or.inl (by omega)) trivial
      · skip
        refine q_aload_n d_Table_find_24 rfl ?_
        refine q_getR d_Table_find_25 fl_Table_7 s1 ⟨rfl, by decide⟩ s2 ?_
        refine q_iload d_Table_find_28 rfl ?_
        refine j_lald (j := k) (v := (cL ((l.getD k (0, 0, 0)).1 : Int))) d_Table_find_30 s3 s4 (by omega) (by omega) (by omega) ((v3 k (by omega)).1) ?_
        refine q_lload_n d_Table_find_31 rfl ?_
        refine j_lcmp_ne (tgt := 54) d_Table_find_32 d_Table_find_33 (by decide) (by omega) (by omega) (fun h3 => ?_) (fun h3 => ?_)
        · skip
          exact fin k _ rfl hk (stop (fun _ q => by omega))
        · skip
          refine q_aload_n d_Table_find_36 rfl ?_
          refine q_getR d_Table_find_37 fl_Table_13 s1 ⟨rfl, by decide⟩ s5 ?_
          refine q_iload d_Table_find_40 rfl ?_
          refine j_lald (j := k) (v := (cL ((l.getD k (0, 0, 0)).2.1 : Int))) d_Table_find_42 s6 s7 (by omega) (by omega) (by omega) ((v3 k (by omega)).2.1) ?_
          refine q_lload_n d_Table_find_43 rfl ?_
          refine j_lcmp_ge (tgt := 54) d_Table_find_44 d_Table_find_45 (by decide) (by omega) (by omega) (fun h4 => ?_) (fun h4 => ?_)
          · skip
            exact fin k _ rfl hk (stop (fun _ q => by omega))
          · skip
            exact more (by omega) (Or.inr ⟨by omega, by omega⟩) trivial
  refine Run.lv (lv' := [(0, .ref t), (1, .long (cL (x : Int))), (3, .long (cL (y : Int))), (5, .int (cI 0))]) (by intro q hq; simp only [List.mem_cons, List.not_mem_nil, or_false] at hq ⊢; rcases hq with rfl | rfl | rfl | rfl <;> simp) ?_
  exact loop (n + 1) 0 _ (by omega) rfl (Nat.zero_le _) (fun j h => by omega)
theorem c_Table_findV (d : Nat) {t r x y : Nat} {v : Int} {σ : Nat → Nat} {l : List Ent} {I : M32} {L : M64} {R : MR} {T : SH} (hS : TbS R T t r) (hV : TbV I L t r σ l) (hx : x < 9223372036854775808) (hy : y < 9223372036854775808) (hv : (hasK l x y ∧ v = (fdx x y l : Int)) ∨ (¬ hasK l x y ∧ v = -1 - (fdx x y l : Int))) :
    Call m_Table_find y_Table_find d 0 0 [.ref t, .long (cL x), .long (cL y)] I L R T (rI fun q I' L' R' T' => q = cI v ∧ I' = I ∧ L' = L ∧ R' = R ∧ T' = T) :=
  (c_Table_find d hS hV hx hy).mono fun _ _ _ _ _ ⟨q, h, ⟨h1, h2⟩, h3⟩ => ⟨q, h, by rcases hv with ⟨a, rfl⟩ | ⟨a, rfl⟩; exact h1 a; exact h2 a, h3⟩
theorem c_Table_get (d : Nat) {t r x y : Nat} {σ : Nat → Nat} {l : List Ent} {I : M32} {L : M64} {R : MR} {T : SH} (hd : 1 ≤ d) (hS : TbS R T t r) (hP : TbP R t r σ) (hV : TbV I L t r σ l) (hx : x < 9223372036854775808) (hy : y < 9223372036854775808) :
    Call m_Table_get y_Table_get d 0 0 [.ref t, .long (cL x), .long (cL y)] I L R T (rO fun q I' L' R' T' => ((hasK l x y → q = some (t + 4 + 2 * σ (fdx x y l))) ∧ (¬ hasK l x y → q = none)) ∧ I' = I ∧ L' = L ∧ R' = R ∧ T' = T) := by
  refine Call.ofRun (by decide) ⟨rfl, rfl⟩ (Nat.le_of_ble_eq_true rfl) ?_
  refine Run.gen fun Q hQ => ?_
  have hle := fdx_le x y l
  have hlr := hV.1
  obtain ⟨s1, -, -, ⟨s5, s6, s7⟩, s8, -⟩ := id hS
  refine q_aload_n d_Table_get_0 rfl ?_
  refine q_lload_n d_Table_get_1 rfl ?_
  refine q_lload_n d_Table_get_2 rfl ?_
  by_cases hk : hasK l x y
  · have hlt := hk.1
    obtain ⟨k, hkk⟩ : ∃ k, k = fdx x y l := ⟨_, rfl⟩
    refine q_callV (ci := 9) (rc := 0) (rs := 0) (rest := []) d_Table_get_3 ml_Table_31 ok_Table_find rfl s1 (by decide) (c_Table_findV (d - 1) (v := (k : Int)) hS hV hx hy (Or.inl ⟨hk, by rw [hkk]⟩)) rfl rfl (by omega) (Nat.le_of_ble_eq_true rfl) (kp_I ?_) kt_I
    refine q_istore (lv' := [(5, .int (cI (k : Int))), (0, .ref t), (1, .long (cL (x : Int))), (3, .long (cL (y : Int)))]) d_Table_get_6 (by decide) rfl ?_
    refine q_iload d_Table_get_8 rfl ?_
    refine j_if_ge (tgt := 17) d_Table_get_10 (by decide) (by omega) (fun hx => ?_) (fun hx => by exfalso; omega)
    refine q_aload_n d_Table_get_17 rfl ?_
    refine q_getR d_Table_get_18 fl_Table_18 s1 ⟨rfl, by decide⟩ s5 ?_
    refine q_iload d_Table_get_21 rfl ?_
    refine j_aald (j := k) d_Table_get_23 s6 ⟨rfl, rfl⟩ s7 (by omega) (by omega) (by omega) (by rw [(hP.1 k (by omega)).1]; first | done | rfl) ?_
    refine q_areturn d_Table_get_24 rfl rfl (Or.inr ⟨_, rfl⟩) ?_
    refine hQ _ _ _ _ _ ?_
    exact ⟨some (t + 4 + 2 * σ k), rfl, ⟨fun _ => by rw [hkk], fun q => absurd hk q⟩, rfl, rfl, rfl, rfl⟩
  · obtain ⟨k, hkk⟩ : ∃ k, k = fdx x y l := ⟨_, rfl⟩
    refine q_callV (ci := 9) (rc := 0) (rs := 0) (rest := []) d_Table_get_3 ml_Table_31 ok_Table_find rfl s1 (by decide) (c_Table_findV (d - 1) (v := -1 - (k : Int)) hS hV hx hy (Or.inr ⟨hk, by rw [hkk]⟩)) rfl rfl (by omega) (Nat.le_of_ble_eq_true rfl) (kp_I ?_) kt_I
    refine q_istore (lv' := [(5, .int (cI (-1 - (k : Int)))), (0, .ref t), (1, .long (cL (x : Int))), (3, .long (cL (y : Int)))]) d_Table_get_6 (by decide) rfl ?_
    refine q_iload d_Table_get_8 rfl ?_
    refine j_if_ge (tgt := 17) d_Table_get_10 (by decide) (by omega) (fun hx => by exfalso; omega) (fun hx => ?_)
    refine q_null d_Table_get_13 ?_
    refine q_goto (tgt := 24) d_Table_get_14 (by decide) ?_
    refine q_areturn d_Table_get_24 rfl rfl (Or.inl rfl) ?_
    refine hQ _ _ _ _ _ ?_
    exact ⟨none, rfl, ⟨fun q => absurd q hk, fun _ => rfl⟩, rfl, rfl, rfl, rfl⟩
theorem c_Table_isFull (d : Nat) {t r : Nat} {σ : Nat → Nat} {l : List Ent} {I : M32} {L : M64} {R : MR} {T : SH} (hS : TbS R T t r) (hV : TbV I L t r σ l) : Call m_Table_isFull y_Table_isFull d 0 0 [.ref t] I L R T (rI fun q I' L' R' T' => q = cI (bI (l.length = r)) ∧ I' = I ∧ L' = L ∧ R' = R ∧ T' = T) := by
  refine Call.ofRun (by decide) ⟨rfl, rfl⟩ (Nat.le_of_ble_eq_true rfl) ?_
  refine Run.gen fun Q hQ => ?_
  obtain ⟨s1, ⟨s2, s3, s4⟩, -, -, s8, -⟩ := hS
  obtain ⟨v1, v2, -⟩ := hV
  obtain ⟨n, hn⟩ : ∃ n, n = l.length := ⟨_, rfl⟩
  rw [← hn] at v1 v2
  rw [← hn] at hQ
  refine q_aload_n d_Table_isFull_0 rfl ?_
  refine j_getI (v := (cI (n : Int))) d_Table_isFull_1 fl_Table_23 s1 ⟨rfl, by decide⟩ v2 ?_
  refine q_aload_n d_Table_isFull_4 rfl ?_
  refine q_getR d_Table_isFull_5 fl_Table_7 s1 ⟨rfl, by decide⟩ s2 ?_
  refine j_alen (n := r) d_Table_isFull_8 s3 s4 ?_
  refine j_icmp_ne (tgt := 16) d_Table_isFull_9 (by decide) (by omega) (by omega) (fun h => ?_) (fun h => ?_)
  · skip
    refine j_iconst d_Table_isFull_16 ?_
    refine q_ireturn d_Table_isFull_17 rfl (narrow_z (Or.inl rfl)).1 ?_
    refine hQ _ _ _ _ _ ?_
    exact ⟨_, rfl, by rw [bI_f (by omega)], rfl, rfl, rfl, rfl⟩
  · skip
    refine j_iconst d_Table_isFull_12 ?_
    refine q_goto (tgt := 17) d_Table_isFull_13 (by decide) ?_
    refine q_ireturn d_Table_isFull_17 rfl (narrow_z (Or.inr rfl)).1 ?_
    refine hQ _ _ _ _ _ ?_
    exact ⟨_, rfl, by rw [bI_t (by omega)], rfl, rfl, rfl, rfl⟩
theorem c_Table_clear (d : Nat) {t r : Nat} {I : M32} {L : M64} {R : MR} {T : SH} (hS : TbS R T t r) : Call m_Table_clear y_Table_clear d 0 0 [.ref t] I L R T (rV fun I' L' R' T' => I' = up2 I t 3 (cI 0) ∧ L' = L ∧ R' = R ∧ T' = T) := by
  refine Call.ofRun (by decide) ⟨rfl, rfl⟩ (Nat.le_of_ble_eq_true rfl) ?_
  refine Run.gen fun Q hQ => ?_
  refine q_aload_n d_Table_clear_0 rfl ?_
  refine j_iconst d_Table_clear_1 ?_
  refine q_putI d_Table_clear_2 fl_Table_23 hS.1 ⟨rfl, by decide, rfl, rfl⟩ ?_
  refine q_return d_Table_clear_5 rfl ?_
  refine hQ _ _ _ _ _ ?_
  exact ⟨rfl, rfl, rfl, rfl, rfl⟩

