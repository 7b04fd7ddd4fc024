/-! ===== 23 BIG, sums ===== -/
theorem d_Math_max_0 : decode m_Math_max.2.1 0 = .ok (.iload_n 0, 1) := by decide +kernel
theorem d_Math_max_1 : decode m_Math_max.2.1 1 = .ok (.iload_n 1, 1) := by decide +kernel
theorem d_Math_max_2 : decode m_Math_max.2.1 2 = .ok (.if_icmp .lt 7, 3) := by decide +kernel
theorem d_Math_max_5 : decode m_Math_max.2.1 5 = .ok (.iload_n 0, 1) := by decide +kernel
theorem d_Math_max_6 : decode m_Math_max.2.1 6 = .ok (.goto 4, 3) := by decide +kernel
theorem d_Math_max_9 : decode m_Math_max.2.1 9 = .ok (.iload_n 1, 1) := by decide +kernel
theorem d_Math_max_10 : decode m_Math_max.2.1 10 = .ok (.ireturn, 1) := by decide +kernel
theorem d_Big_addSizes_0 : decode m_Big_addSizes.2.1 0 = .ok (.aload_n 1, 1) := by decide +kernel
theorem d_Big_addSizes_1 : decode m_Big_addSizes.2.1 1 = .ok (.getfield 15, 3) := by decide +kernel
theorem d_Big_addSizes_4 : decode m_Big_addSizes.2.1 4 = .ok (.aload_n 2, 1) := by decide +kernel
theorem d_Big_addSizes_5 : decode m_Big_addSizes.2.1 5 = .ok (.getfield 15, 3) := by decide +kernel
theorem d_Big_addSizes_8 : decode m_Big_addSizes.2.1 8 = .ok (.invokestatic 48, 3) := by decide +kernel
theorem d_Big_addSizes_11 : decode m_Big_addSizes.2.1 11 = .ok (.istore_n 3, 1) := by decide +kernel
theorem d_Big_addSizes_12 : decode m_Big_addSizes.2.1 12 = .ok (.iconst 0, 1) := by decide +kernel
theorem d_Big_addSizes_13 : decode m_Big_addSizes.2.1 13 = .ok (.istore 4, 2) := by decide +kernel
theorem d_Big_addSizes_15 : decode m_Big_addSizes.2.1 15 = .ok (.iconst 0, 1) := by decide +kernel
theorem d_Big_addSizes_16 : decode m_Big_addSizes.2.1 16 = .ok (.istore 5, 2) := by decide +kernel
theorem d_Big_addSizes_18 : decode m_Big_addSizes.2.1 18 = .ok (.iload 5, 2) := by decide +kernel
theorem d_Big_addSizes_20 : decode m_Big_addSizes.2.1 20 = .ok (.iload_n 3, 1) := by decide +kernel
theorem d_Big_addSizes_21 : decode m_Big_addSizes.2.1 21 = .ok (.if_icmp .ge 91, 3) := by decide +kernel
theorem d_Big_addSizes_24 : decode m_Big_addSizes.2.1 24 = .ok (.iload 4, 2) := by decide +kernel
theorem d_Big_addSizes_26 : decode m_Big_addSizes.2.1 26 = .ok (.iload 5, 2) := by decide +kernel
theorem d_Big_addSizes_28 : decode m_Big_addSizes.2.1 28 = .ok (.aload_n 1, 1) := by decide +kernel
theorem d_Big_addSizes_29 : decode m_Big_addSizes.2.1 29 = .ok (.getfield 15, 3) := by decide +kernel
theorem d_Big_addSizes_32 : decode m_Big_addSizes.2.1 32 = .ok (.if_icmp .ge 13, 3) := by decide +kernel
theorem d_Big_addSizes_35 : decode m_Big_addSizes.2.1 35 = .ok (.aload_n 1, 1) := by decide +kernel
theorem d_Big_addSizes_36 : decode m_Big_addSizes.2.1 36 = .ok (.getfield 11, 3) := by decide +kernel
theorem d_Big_addSizes_39 : decode m_Big_addSizes.2.1 39 = .ok (.iload 5, 2) := by decide +kernel
theorem d_Big_addSizes_41 : decode m_Big_addSizes.2.1 41 = .ok (.iaload, 1) := by decide +kernel
theorem d_Big_addSizes_42 : decode m_Big_addSizes.2.1 42 = .ok (.goto 4, 3) := by decide +kernel
theorem d_Big_addSizes_45 : decode m_Big_addSizes.2.1 45 = .ok (.iconst 0, 1) := by decide +kernel
theorem d_Big_addSizes_46 : decode m_Big_addSizes.2.1 46 = .ok (.iadd, 1) := by decide +kernel
theorem d_Big_addSizes_47 : decode m_Big_addSizes.2.1 47 = .ok (.iload 5, 2) := by decide +kernel
theorem d_Big_addSizes_49 : decode m_Big_addSizes.2.1 49 = .ok (.aload_n 2, 1) := by decide +kernel
theorem d_Big_addSizes_50 : decode m_Big_addSizes.2.1 50 = .ok (.getfield 15, 3) := by decide +kernel
theorem d_Big_addSizes_53 : decode m_Big_addSizes.2.1 53 = .ok (.if_icmp .ge 13, 3) := by decide +kernel
theorem d_Big_addSizes_56 : decode m_Big_addSizes.2.1 56 = .ok (.aload_n 2, 1) := by decide +kernel
theorem d_Big_addSizes_57 : decode m_Big_addSizes.2.1 57 = .ok (.getfield 11, 3) := by decide +kernel
theorem d_Big_addSizes_60 : decode m_Big_addSizes.2.1 60 = .ok (.iload 5, 2) := by decide +kernel
theorem d_Big_addSizes_62 : decode m_Big_addSizes.2.1 62 = .ok (.iaload, 1) := by decide +kernel
theorem d_Big_addSizes_63 : decode m_Big_addSizes.2.1 63 = .ok (.goto 4, 3) := by decide +kernel
theorem d_Big_addSizes_66 : decode m_Big_addSizes.2.1 66 = .ok (.iconst 0, 1) := by decide +kernel
theorem d_Big_addSizes_67 : decode m_Big_addSizes.2.1 67 = .ok (.iadd, 1) := by decide +kernel
theorem d_Big_addSizes_68 : decode m_Big_addSizes.2.1 68 = .ok (.istore 6, 2) := by decide +kernel
theorem d_Big_addSizes_70 : decode m_Big_addSizes.2.1 70 = .ok (.iload 6, 2) := by decide +kernel
theorem d_Big_addSizes_72 : decode m_Big_addSizes.2.1 72 = .ok (.ldc 53, 2) := by decide +kernel
theorem d_Big_addSizes_74 : decode m_Big_addSizes.2.1 74 = .ok (.if_icmp .lt 7, 3) := by decide +kernel
theorem d_Big_addSizes_77 : decode m_Big_addSizes.2.1 77 = .ok (.iconst 1, 1) := by decide +kernel
theorem d_Big_addSizes_78 : decode m_Big_addSizes.2.1 78 = .ok (.goto 4, 3) := by decide +kernel
theorem d_Big_addSizes_81 : decode m_Big_addSizes.2.1 81 = .ok (.iconst 0, 1) := by decide +kernel
theorem d_Big_addSizes_82 : decode m_Big_addSizes.2.1 82 = .ok (.istore 4, 2) := by decide +kernel
theorem d_Big_addSizes_84 : decode m_Big_addSizes.2.1 84 = .ok (.aload_n 0, 1) := by decide +kernel
theorem d_Big_addSizes_85 : decode m_Big_addSizes.2.1 85 = .ok (.getfield 11, 3) := by decide +kernel
theorem d_Big_addSizes_88 : decode m_Big_addSizes.2.1 88 = .ok (.iload 5, 2) := by decide +kernel
theorem d_Big_addSizes_90 : decode m_Big_addSizes.2.1 90 = .ok (.iload 6, 2) := by decide +kernel
theorem d_Big_addSizes_92 : decode m_Big_addSizes.2.1 92 = .ok (.iload 4, 2) := by decide +kernel
theorem d_Big_addSizes_94 : decode m_Big_addSizes.2.1 94 = .ok (.iconst 1, 1) := by decide +kernel
theorem d_Big_addSizes_95 : decode m_Big_addSizes.2.1 95 = .ok (.if_icmp .ne 8, 3) := by decide +kernel
theorem d_Big_addSizes_98 : decode m_Big_addSizes.2.1 98 = .ok (.ldc 53, 2) := by decide +kernel
theorem d_Big_addSizes_100 : decode m_Big_addSizes.2.1 100 = .ok (.goto 4, 3) := by decide +kernel
theorem d_Big_addSizes_103 : decode m_Big_addSizes.2.1 103 = .ok (.iconst 0, 1) := by decide +kernel
theorem d_Big_addSizes_104 : decode m_Big_addSizes.2.1 104 = .ok (.isub, 1) := by decide +kernel
theorem d_Big_addSizes_105 : decode m_Big_addSizes.2.1 105 = .ok (.iastore, 1) := by decide +kernel
theorem d_Big_addSizes_106 : decode m_Big_addSizes.2.1 106 = .ok (.iinc 5 1, 3) := by decide +kernel
theorem d_Big_addSizes_109 : decode m_Big_addSizes.2.1 109 = .ok (.goto (-91), 3) := by decide +kernel
theorem d_Big_addSizes_112 : decode m_Big_addSizes.2.1 112 = .ok (.aload_n 0, 1) := by decide +kernel
theorem d_Big_addSizes_113 : decode m_Big_addSizes.2.1 113 = .ok (.iload_n 3, 1) := by decide +kernel
theorem d_Big_addSizes_114 : decode m_Big_addSizes.2.1 114 = .ok (.putfield 15, 3) := by decide +kernel
theorem d_Big_addSizes_117 : decode m_Big_addSizes.2.1 117 = .ok (.iload 4, 2) := by decide +kernel
theorem d_Big_addSizes_119 : decode m_Big_addSizes.2.1 119 = .ok (.iconst 1, 1) := by decide +kernel
theorem d_Big_addSizes_120 : decode m_Big_addSizes.2.1 120 = .ok (.if_icmp .ne 20, 3) := by decide +kernel
theorem d_Big_addSizes_123 : decode m_Big_addSizes.2.1 123 = .ok (.aload_n 0, 1) := by decide +kernel
theorem d_Big_addSizes_124 : decode m_Big_addSizes.2.1 124 = .ok (.getfield 11, 3) := by decide +kernel
theorem d_Big_addSizes_127 : decode m_Big_addSizes.2.1 127 = .ok (.aload_n 0, 1) := by decide +kernel
theorem d_Big_addSizes_128 : decode m_Big_addSizes.2.1 128 = .ok (.dup, 1) := by decide +kernel
theorem d_Big_addSizes_129 : decode m_Big_addSizes.2.1 129 = .ok (.getfield 15, 3) := by decide +kernel
theorem d_Big_addSizes_132 : decode m_Big_addSizes.2.1 132 = .ok (.dup_x1, 1) := by decide +kernel
theorem d_Big_addSizes_133 : decode m_Big_addSizes.2.1 133 = .ok (.iconst 1, 1) := by decide +kernel
theorem d_Big_addSizes_134 : decode m_Big_addSizes.2.1 134 = .ok (.iadd, 1) := by decide +kernel
theorem d_Big_addSizes_135 : decode m_Big_addSizes.2.1 135 = .ok (.putfield 15, 3) := by decide +kernel
theorem d_Big_addSizes_138 : decode m_Big_addSizes.2.1 138 = .ok (.iconst 1, 1) := by decide +kernel
theorem d_Big_addSizes_139 : decode m_Big_addSizes.2.1 139 = .ok (.iastore, 1) := by decide +kernel
theorem d_Big_addSizes_140 : decode m_Big_addSizes.2.1 140 = .ok (.return_, 1) := by decide +kernel
theorem c_Math_max (d : Nat) {x y : Int} (hx : inI x) (hy : inI y) {I : M32} {L : M64} {R : MR} {T : SH} : Call m_Math_max y_Math_max d 0 0 [.int (cI x), .int (cI y)] I L R T (rI fun r I' L' R' T' => r = cI (max x y) ∧ I' = I ∧ L' = L ∧ R' = R ∧ T' = T) := by
  refine Call.ofRun (by decide +kernel) ⟨rfl, rfl⟩ (Nat.le_of_ble_eq_true rfl) ?_
  show Run m_Math_max d 0 0 0 [(0, .int (cI x)), (1, .int (cI y))] [] I L R T _
  refine q_iload_n d_Math_max_0 rfl ?_
  refine q_iload_n d_Math_max_1 rfl ?_
  refine j_icmp_lt (tgt := 9) d_Math_max_2 (by decide) (by omega) (by omega) (fun h => ?_) (fun h => ?_)
  · skip
    refine q_iload_n d_Math_max_9 rfl ?_
    refine q_ireturn d_Math_max_10 rfl rfl ?_
    exact ⟨_, rfl, by rw [show max x y = y by omega], rfl, rfl, rfl, rfl⟩
  · skip
    refine q_iload_n d_Math_max_5 rfl ?_
    refine q_goto (tgt := 10) d_Math_max_6 (by decide) ?_
    refine q_ireturn d_Math_max_10 rfl rfl ?_
    exact ⟨_, rfl, by rw [show max x y = x by omega], rfl, rfl, rfl, rfl⟩
/-- n places hold m (no word of the sign) -/
def BigN (I : M32) (a n m : Nat) : Prop := m < B9 ^ n ∧ n ≤ 36 ∧ I a 1 = cI n ∧ (∀ k, k < n → I (a + 1) k = cI (dg m k))
theorem BigW.N {I : M32} {a n m : Nat} {s : Bool} (h : BigW I a n m s) : BigN I a n m := ⟨h.1, h.2.1, h.2.2.1, h.2.2.2.1⟩
theorem BigN.W {I : M32} {a n m : Nat} {s : Bool} (h : BigN I a n m) (h2 : I a 2 = cI (if s then 1 else 0)) : BigW I a n m s := ⟨h.1, h.2.1, h.2.2.1, h.2.2.2, h2⟩
theorem BigS.ne {R : MR} {T : SH} {a b : Nat} (ha : BigS R T a) (hb : BigS R T b) : a ≠ b + 1 := fun e => by
  have h1 := hb.2.2.1; rw [← e, ha.1] at h1; exact absurd h1 (by decide)
/-- while the places of t are written from below: what is at k and above is as it was -/
def Wr (t k : Nat) (I J : M32) : Prop := (∀ q, q ≠ t + 1 → J q = I q) ∧ ∀ j, k ≤ j → J (t + 1) j = I (t + 1) j
theorem Wr.at {t k : Nat} {I J : M32} (h : Wr t k I J) (q : Nat) : J q k = I q k := by
  by_cases e : q = t + 1
  · subst e; exact h.2 k (Nat.le_refl k)
  · rw [h.1 q e]
theorem Wr.up {t k : Nat} {I J : M32} (h : Wr t k I J) (v : Int32) : Wr t (k + 1) I (up2 J (t + 1) k v) :=
  ⟨fun q e => by rw [up2_row _ _ e]; exact h.1 q e, fun j hj => by rw [up2_k _ _ _ (by omega)]; exact h.2 j (by omega)⟩
theorem Wr.FrB {t k : Nat} {I J : M32} (h : Wr t k I J) : FrB t I J := fun q _ e => h.1 q e
/-- one step of an addition: carry c, digits u, v at place k -/
theorem add_step {x y s k c : Nat} (h : s + c * B9 ^ k = lo x k + lo y k) (hs : s < B9 ^ k) (hc : c ≤ 1) :
    ∃ c' r, c + dg x k + dg y k = r + c' * 1000000000 ∧ r < 1000000000 ∧ c' ≤ 1 ∧ (s + r * B9 ^ k) + c' * B9 ^ (k + 1) = lo x (k + 1) + lo y (k + 1) := by
  have h1 := dg_lt x k
  have h2 := dg_lt y k
  refine ⟨(c + dg x k + dg y k) / 1000000000, (c + dg x k + dg y k) % 1000000000, by omega, by omega, by omega, ?_⟩
  generalize hr : (c + dg x k + dg y k) % 1000000000 = r
  generalize hq : (c + dg x k + dg y k) / 1000000000 = q
  have h3 : c + dg x k + dg y k = r + q * 1000000000 := by omega
  rw [lo_s, lo_s, Nat.pow_succ]
  have e1 : q * (B9 ^ k * B9) = (q * 1000000000) * B9 ^ k := by show q * (B9 ^ k * 1000000000) = _; ac_rfl
  have e2 : (c + dg x k + dg y k) * B9 ^ k = (r + q * 1000000000) * B9 ^ k := by rw [h3]
  simp only [Nat.add_mul] at e2
  rw [e1]
  omega
theorem c_Big_addSizes (d : Nat) {t a b n m x y : Nat} {I : M32} {L : M64} {R : MR} {T : SH} (hd : 1 ≤ d) (hT : BigS R T t) (hA : BigS R T a) (hB : BigS R T b) (hV : BigN I a n x) (hU : BigN I b m y) (hn : n ≤ 35) (hm : m ≤ 35) :
    Call m_Big_addSizes y_Big_addSizes d 0 0 [.ref t, .ref a, .ref b] I L R T (rV fun I' L' R' T' => ((∃ N, BigN I' t N (x + y)) ∧ I' t 2 = I t 2 ∧ FrB t I I') ∧ L' = L ∧ R' = R ∧ T' = T) := by
  refine Call.ofRun (by decide) ⟨rfl, rfl⟩ (Nat.le_of_ble_eq_true rfl) ?_
  show Run m_Big_addSizes d 0 0 0 [(0, .ref t), (1, .ref a), (2, .ref b)] [] I L R T _
  generalize hQ : (rV fun I' L' R' T' => ((∃ N, BigN I' t N (x + y)) ∧ I' t 2 = I t 2 ∧ FrB t I I') ∧ L' = L ∧ R' = R ∧ T' = T) = Q
  obtain ⟨p, hp⟩ : ∃ p : Nat, p = max n m := ⟨_, rfl⟩
  have hx : x < B9 ^ p := Nat.lt_of_lt_of_le hV.1 (Nat.pow_le_pow_right (by decide) (by omega))
  have hy : y < B9 ^ p := Nat.lt_of_lt_of_le hU.1 (Nat.pow_le_pow_right (by decide) (by omega))
  have loop : ∀ (f k c s : Nat) (z e w : Int) (J : M32), p - k < f → z = k → e = c → w = p → k ≤ p → c ≤ 1 → s < B9 ^ k → s + c * B9 ^ k = lo x k + lo y k → Wr t k I J → (∀ j, j < k → J (t + 1) j = cI (dg s j)) →
      Run m_Big_addSizes d 0 0 18 [(5, .int (cI z)), (4, .int (cI e)), (3, .int (cI w)), (0, .ref t), (1, .ref a), (2, .ref b)] [] J L R T Q := by
    intro f
    induction f with
    | zero => intro k c s z e w J h; omega
    | succ f ih =>
      intro k c s z e w J hf hz he hw hk hc hs h1 hJ h2
      have ea : J a 1 = cI n := by rw [hJ.1 a (hA.ne hT)]; exact hV.2.2.1
      have eb : J b 1 = cI m := by rw [hJ.1 b (hB.ne hT)]; exact hU.2.2.1
      have d1 := dg_lt x k
      have d2 := dg_lt y k
      refine q_iload d_Big_addSizes_18 rfl ?_
      refine q_iload_n d_Big_addSizes_20 rfl ?_
      refine j_icmp_ge (tgt := 112) d_Big_addSizes_21 (by decide) (by omega) (by omega) (fun h => ?_) (fun h => ?_)
      · skip
        have hkp : k = p := by omega
        subst hkp
        rw [lo_all hx, lo_all hy] at h1
        refine q_aload_n d_Big_addSizes_112 rfl ?_
        refine q_iload_n d_Big_addSizes_113 rfl ?_
        refine q_putI d_Big_addSizes_114 fl_Big_15 hT.1 ⟨rfl, by decide, rfl, rfl⟩ ?_
        refine q_iload d_Big_addSizes_117 rfl ?_
        refine j_iconst d_Big_addSizes_119 ?_
        refine j_icmp_ne (tgt := 140) d_Big_addSizes_120 (by decide) (by omega) (by omega) (fun h3 => ?_) (fun h3 => ?_)
        · skip
          refine q_return d_Big_addSizes_140 rfl ?_
          have hc0 : c = 0 := by omega
          subst hc0
          subst hQ
          rw [Nat.zero_mul, Nat.add_zero] at h1
          refine ⟨rfl, ⟨⟨k, by rw [← h1]; exact hs, by omega, ?_, fun j hj => ?_⟩, ?_, FrB.tr hJ.FrB FrB.up⟩, rfl, rfl, rfl⟩
          · rw [up2_s, hw]
          · rw [up2_a _ _ _ (by omega), ← h1]; exact h2 j hj
          · rw [up2_k _ _ _ (by decide), hJ.1 t (hT.ne hT)]
        · skip
          refine q_aload_n d_Big_addSizes_123 rfl ?_
          refine q_getR d_Big_addSizes_124 fl_Big_11 hT.1 ⟨rfl, by decide⟩ hT.2.1 ?_
          refine q_aload_n d_Big_addSizes_127 rfl ?_
          refine q_dup d_Big_addSizes_128 rfl ?_
          refine j_getI (v := (cI w)) d_Big_addSizes_129 fl_Big_15 hT.1 ⟨rfl, by decide⟩ (up2_s _ _ _ _) ?_
          refine q_dup_x1 d_Big_addSizes_132 rfl rfl ?_
          refine j_iconst d_Big_addSizes_133 ?_
          refine j_iadd d_Big_addSizes_134 ?_
          refine q_putI d_Big_addSizes_135 fl_Big_15 hT.1 ⟨rfl, by decide, rfl, rfl⟩ ?_
          refine j_iconst d_Big_addSizes_138 ?_
          refine j_iast (j := k) d_Big_addSizes_139 hT.2.2.1 hT.2.2.2 (by omega) (by omega) (by omega) ?_
          refine q_return d_Big_addSizes_140 rfl ?_
          have hc1 : c = 1 := by omega
          subst hc1
          subst hQ
          have hlt := add_lt9 (r := 1) hs (by decide)
          refine ⟨rfl, ⟨⟨k + 1, by rw [← h1]; exact hlt, by omega, ?_, fun j hj => ?_⟩, ?_, FrB.tr hJ.FrB (FrB.tr FrB.up (FrB.tr FrB.up FrB.upP))⟩, rfl, rfl, rfl⟩
          · rw [up2_a _ _ _ (by omega), up2_s, hw]; rfl
          · rw [← h1]
            by_cases ej : j = k
            · subst ej; rw [up2_s, dg_add_hi hs (by decide)]; rfl
            · rw [up2_k _ _ _ ej, up2_a _ _ _ (by omega), up2_a _ _ _ (by omega), dg_add_lo hs (by omega)]; exact h2 j (by omega)
          · rw [up2_a _ _ _ (by omega), up2_k _ _ _ (by decide), up2_k _ _ _ (by decide), hJ.1 t (hT.ne hT)]
      · skip
        obtain ⟨c', r, g1, g2, g3, g4⟩ := add_step h1 hs hc
        -- behind the digits: the value stands in local 6
        have J70 : Run m_Big_addSizes d 0 0 70 [(6, .int (cI ((c : Int) + (dg x k : Int) + (dg y k : Int)))), (5, .int (cI z)), (4, .int (cI e)), (3, .int (cI w)), (0, .ref t), (1, .ref a), (2, .ref b)] [] J L R T Q := by
          have J106 : Run m_Big_addSizes d 0 0 84 [(4, .int (cI (c' : Int))), (6, .int (cI ((c : Int) + (dg x k : Int) + (dg y k : Int)))), (5, .int (cI z)), (3, .int (cI w)), (0, .ref t), (1, .ref a), (2, .ref b)] [] J L R T Q := by
            have J104 : Run m_Big_addSizes d 0 0 105 [(4, .int (cI (c' : Int))), (6, .int (cI ((c : Int) + (dg x k : Int) + (dg y k : Int)))), (5, .int (cI z)), (3, .int (cI w)), (0, .ref t), (1, .ref a), (2, .ref b)] [.int (cI (r : Int)), .int (cI z), .ref (t + 1)] J L R T Q := by
              refine j_iast (j := k) d_Big_addSizes_105 hT.2.2.1 hT.2.2.2 (by omega) (by omega) (by omega) ?_
              refine j_iinc (lv' := [(5, .int (cI (z + 1))), (4, .int (cI (c' : Int))), (6, .int (cI ((c : Int) + (dg x k : Int) + (dg y k : Int)))), (3, .int (cI w)), (0, .ref t), (1, .ref a), (2, .ref b)]) d_Big_addSizes_106 rfl (by decide) rfl ?_
              refine q_goto (tgt := 18) d_Big_addSizes_109 (by decide) ?_
              refine Run.lv (by simp) (ih (k + 1) c' (s + r * B9 ^ k) (z + 1) c' w _ (by omega) (by omega) rfl hw (by omega) g3 (add_lt9 hs g2) g4 (hJ.up _) (fun j hj => ?_))
              by_cases ej : j = k
              · subst ej; rw [up2_s, dg_add_hi hs g2]
              · rw [up2_k _ _ _ ej, dg_add_lo hs (by omega)]; exact h2 j (by omega)
            refine q_aload_n d_Big_addSizes_84 rfl ?_
            refine q_getR d_Big_addSizes_85 fl_Big_11 hT.1 ⟨rfl, by decide⟩ hT.2.1 ?_
            refine q_iload d_Big_addSizes_88 rfl ?_
            refine q_iload d_Big_addSizes_90 rfl ?_
            refine q_iload d_Big_addSizes_92 rfl ?_
            refine j_iconst d_Big_addSizes_94 ?_
            refine j_icmp_ne (tgt := 103) d_Big_addSizes_95 (by decide) (by omega) (by omega) (fun h4 => ?_) (fun h4 => ?_)
            · skip
              refine j_iconst d_Big_addSizes_103 ?_
              refine j_isub d_Big_addSizes_104 ?_
              refine Run.top (v := .int (cI (r : Int))) (by rw [show (c : Int) + (dg x k : Int) + (dg y k : Int) - 0 = (r : Int) by omega]) ?_
              exact J104
            · skip
              refine j_ldc (z := 1000000000) d_Big_addSizes_98 (inT6 52 rfl) (by decide) ?_
              refine q_goto (tgt := 104) d_Big_addSizes_100 (by decide) ?_
              refine j_isub d_Big_addSizes_104 ?_
              refine Run.top (v := .int (cI (r : Int))) (by rw [show (c : Int) + (dg x k : Int) + (dg y k : Int) - 1000000000 = (r : Int) by omega]) ?_
              exact J104
          refine q_iload d_Big_addSizes_70 rfl ?_
          refine j_ldc (z := 1000000000) d_Big_addSizes_72 (inT6 52 rfl) (by decide) ?_
          refine j_icmp_lt (tgt := 81) d_Big_addSizes_74 (by decide) (by omega) (by omega) (fun h5 => ?_) (fun h5 => ?_)
          · skip
            refine j_iconst d_Big_addSizes_81 ?_
            refine Run.top (v := .int (cI (c' : Int))) (by rw [show (0 : Int) = (c' : Int) by omega]) ?_
            refine q_istore (lv' := [(4, .int (cI (c' : Int))), (6, .int (cI ((c : Int) + (dg x k : Int) + (dg y k : Int)))), (5, .int (cI z)), (3, .int (cI w)), (0, .ref t), (1, .ref a), (2, .ref b)]) d_Big_addSizes_82 (by decide) rfl ?_
            exact J106
          · skip
            refine j_iconst d_Big_addSizes_77 ?_
            refine q_goto (tgt := 82) d_Big_addSizes_78 (by decide) ?_
            refine Run.top (v := .int (cI (c' : Int))) (by rw [show (1 : Int) = (c' : Int) by omega]) ?_
            refine q_istore (lv' := [(4, .int (cI (c' : Int))), (6, .int (cI ((c : Int) + (dg x k : Int) + (dg y k : Int)))), (5, .int (cI z)), (3, .int (cI w)), (0, .ref t), (1, .ref a), (2, .ref b)]) d_Big_addSizes_82 (by decide) rfl ?_
            exact J106
        have J67 : Run m_Big_addSizes d 0 0 67 [(5, .int (cI z)), (4, .int (cI e)), (3, .int (cI w)), (0, .ref t), (1, .ref a), (2, .ref b)] [.int (cI (dg y k : Int)), .int (cI (e + (dg x k : Int)))] J L R T Q := by
          refine j_iadd d_Big_addSizes_67 ?_
          refine Run.top (v := .int (cI ((c : Int) + (dg x k : Int) + (dg y k : Int)))) (by rw [he]) ?_
          refine q_istore (lv' := [(6, .int (cI ((c : Int) + (dg x k : Int) + (dg y k : Int)))), (5, .int (cI z)), (4, .int (cI e)), (3, .int (cI w)), (0, .ref t), (1, .ref a), (2, .ref b)]) d_Big_addSizes_68 (by decide) rfl ?_
          exact J70
        have J46 : Run m_Big_addSizes d 0 0 46 [(5, .int (cI z)), (4, .int (cI e)), (3, .int (cI w)), (0, .ref t), (1, .ref a), (2, .ref b)] [.int (cI (dg x k : Int)), .int (cI e)] J L R T Q := by
          refine j_iadd d_Big_addSizes_46 ?_
          refine q_iload d_Big_addSizes_47 rfl ?_
          refine q_aload_n d_Big_addSizes_49 rfl ?_
          refine j_getI (v := (cI (m : Int))) d_Big_addSizes_50 fl_Big_15 hB.1 ⟨rfl, by decide⟩ eb ?_
          refine j_icmp_ge (tgt := 66) d_Big_addSizes_53 (by decide) (by omega) (by omega) (fun h7 => ?_) (fun h7 => ?_)
          · skip
            refine j_iconst d_Big_addSizes_66 ?_
            refine Run.top (v := .int (cI (dg y k : Int))) (by rw [show (0 : Int) = (dg y k : Int) by rw [dg_big hU.1 (by omega)]; rfl]) ?_
            exact J67
          · skip
            refine q_aload_n d_Big_addSizes_56 rfl ?_
            refine q_getR d_Big_addSizes_57 fl_Big_11 hB.1 ⟨rfl, by decide⟩ hB.2.1 ?_
            refine q_iload d_Big_addSizes_60 rfl ?_
            refine j_iald (j := k) (v := (cI (dg y k : Int))) d_Big_addSizes_62 hB.2.2.1 hB.2.2.2 (by omega) (by omega) (by omega) (by rw [hJ.at]; exact hU.2.2.2 k (by omega)) ?_
            refine q_goto (tgt := 67) d_Big_addSizes_63 (by decide) ?_
            exact J67
        refine q_iload d_Big_addSizes_24 rfl ?_
        refine q_iload d_Big_addSizes_26 rfl ?_
        refine q_aload_n d_Big_addSizes_28 rfl ?_
        refine j_getI (v := (cI (n : Int))) d_Big_addSizes_29 fl_Big_15 hA.1 ⟨rfl, by decide⟩ ea ?_
        refine j_icmp_ge (tgt := 45) d_Big_addSizes_32 (by decide) (by omega) (by omega) (fun h8 => ?_) (fun h8 => ?_)
        · skip
          refine j_iconst d_Big_addSizes_45 ?_
          refine Run.top (v := .int (cI (dg x k : Int))) (by rw [show (0 : Int) = (dg x k : Int) by rw [dg_big hV.1 (by omega)]; rfl]) ?_
          exact J46
        · skip
          refine q_aload_n d_Big_addSizes_35 rfl ?_
          refine q_getR d_Big_addSizes_36 fl_Big_11 hA.1 ⟨rfl, by decide⟩ hA.2.1 ?_
          refine q_iload d_Big_addSizes_39 rfl ?_
          refine j_iald (j := k) (v := (cI (dg x k : Int))) d_Big_addSizes_41 hA.2.2.1 hA.2.2.2 (by omega) (by omega) (by omega) (by rw [hJ.at]; exact hV.2.2.2 k (by omega)) ?_
          refine q_goto (tgt := 46) d_Big_addSizes_42 (by decide) ?_
          exact J46
  refine q_aload_n d_Big_addSizes_0 rfl ?_
  refine j_getI (v := (cI (n : Int))) d_Big_addSizes_1 fl_Big_15 hA.1 ⟨rfl, by decide⟩ hV.2.2.1 ?_
  refine q_aload_n d_Big_addSizes_4 rfl ?_
  refine j_getI (v := (cI (m : Int))) d_Big_addSizes_5 fl_Big_15 hB.1 ⟨rfl, by decide⟩ hU.2.2.1 ?_
  refine q_callS (rc := 0) (rs := 0) (rest := []) d_Big_addSizes_8 ml_Big_48 ok_Math_max (c_Math_max (d - 1) (x := (n : Int)) (y := (m : Int)) (by omega) (by omega)) rfl rfl (by omega) (Nat.le_of_ble_eq_true rfl) (kp_I ?_) kt_I
  refine q_istore_n (lv' := [(3, .int (cI (max (n : Int) (m : Int)))), (0, .ref t), (1, .ref a), (2, .ref b)]) d_Big_addSizes_11 (by decide) rfl ?_
  refine j_iconst d_Big_addSizes_12 ?_
  refine q_istore (lv' := [(4, .int (cI 0)), (3, .int (cI (max (n : Int) (m : Int)))), (0, .ref t), (1, .ref a), (2, .ref b)]) d_Big_addSizes_13 (by decide) rfl ?_
  refine j_iconst d_Big_addSizes_15 ?_
  refine q_istore (lv' := [(5, .int (cI 0)), (4, .int (cI 0)), (3, .int (cI (max (n : Int) (m : Int)))), (0, .ref t), (1, .ref a), (2, .ref b)]) d_Big_addSizes_16 (by decide) rfl ?_
  exact loop (p + 1) 0 0 0 _ _ _ I (by omega) rfl rfl (by omega) (by omega) (by omega) (by simp) (by simp [lo_0]) ⟨fun _ _ => rfl, fun _ _ => rfl⟩ (fun j hj => by omega)

