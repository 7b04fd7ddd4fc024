/-! ===== 37 RECKONER: digits ===== -/
theorem d_Reckoner_digits_0 : decode m_Reckoner_digits.2.1 0 = .ok (.iconst 0, 1) := by decide +kernel
theorem d_Reckoner_digits_1 : decode m_Reckoner_digits.2.1 1 = .ok (.istore_n 2, 1) := by decide +kernel
theorem d_Reckoner_digits_2 : decode m_Reckoner_digits.2.1 2 = .ok (.iconst 0, 1) := by decide +kernel
theorem d_Reckoner_digits_3 : decode m_Reckoner_digits.2.1 3 = .ok (.istore_n 3, 1) := by decide +kernel
theorem d_Reckoner_digits_4 : decode m_Reckoner_digits.2.1 4 = .ok (.iload_n 3, 1) := by decide +kernel
theorem d_Reckoner_digits_5 : decode m_Reckoner_digits.2.1 5 = .ok (.aload_n 1, 1) := by decide +kernel
theorem d_Reckoner_digits_6 : decode m_Reckoner_digits.2.1 6 = .ok (.getfield 23, 3) := by decide +kernel
theorem d_Reckoner_digits_9 : decode m_Reckoner_digits.2.1 9 = .ok (.if_icmp .ge 73, 3) := by decide +kernel
theorem d_Reckoner_digits_12 : decode m_Reckoner_digits.2.1 12 = .ok (.aload_n 1, 1) := by decide +kernel
theorem d_Reckoner_digits_13 : decode m_Reckoner_digits.2.1 13 = .ok (.getfield 30, 3) := by decide +kernel
theorem d_Reckoner_digits_16 : decode m_Reckoner_digits.2.1 16 = .ok (.iload_n 3, 1) := by decide +kernel
theorem d_Reckoner_digits_17 : decode m_Reckoner_digits.2.1 17 = .ok (.iaload, 1) := by decide +kernel
theorem d_Reckoner_digits_18 : decode m_Reckoner_digits.2.1 18 = .ok (.istore 4, 2) := by decide +kernel
theorem d_Reckoner_digits_20 : decode m_Reckoner_digits.2.1 20 = .ok (.iconst 0, 1) := by decide +kernel
theorem d_Reckoner_digits_21 : decode m_Reckoner_digits.2.1 21 = .ok (.istore 5, 2) := by decide +kernel
theorem d_Reckoner_digits_23 : decode m_Reckoner_digits.2.1 23 = .ok (.iload 5, 2) := by decide +kernel
theorem d_Reckoner_digits_25 : decode m_Reckoner_digits.2.1 25 = .ok (.bipush 9, 2) := by decide +kernel
theorem d_Reckoner_digits_27 : decode m_Reckoner_digits.2.1 27 = .ok (.if_icmp .ge 49, 3) := by decide +kernel
theorem d_Reckoner_digits_30 : decode m_Reckoner_digits.2.1 30 = .ok (.iload 4, 2) := by decide +kernel
theorem d_Reckoner_digits_32 : decode m_Reckoner_digits.2.1 32 = .ok (.ifCond .gt 13, 3) := by decide +kernel
theorem d_Reckoner_digits_35 : decode m_Reckoner_digits.2.1 35 = .ok (.iload_n 3, 1) := by decide +kernel
theorem d_Reckoner_digits_36 : decode m_Reckoner_digits.2.1 36 = .ok (.iconst 1, 1) := by decide +kernel
theorem d_Reckoner_digits_37 : decode m_Reckoner_digits.2.1 37 = .ok (.iadd, 1) := by decide +kernel
theorem d_Reckoner_digits_38 : decode m_Reckoner_digits.2.1 38 = .ok (.aload_n 1, 1) := by decide +kernel
theorem d_Reckoner_digits_39 : decode m_Reckoner_digits.2.1 39 = .ok (.getfield 23, 3) := by decide +kernel
theorem d_Reckoner_digits_42 : decode m_Reckoner_digits.2.1 42 = .ok (.if_icmp .ge 34, 3) := by decide +kernel
theorem d_Reckoner_digits_45 : decode m_Reckoner_digits.2.1 45 = .ok (.aload_n 0, 1) := by decide +kernel
theorem d_Reckoner_digits_46 : decode m_Reckoner_digits.2.1 46 = .ok (.getfield 19, 3) := by decide +kernel
theorem d_Reckoner_digits_49 : decode m_Reckoner_digits.2.1 49 = .ok (.iload_n 2, 1) := by decide +kernel
theorem d_Reckoner_digits_50 : decode m_Reckoner_digits.2.1 50 = .ok (.iinc 2 1, 3) := by decide +kernel
theorem d_Reckoner_digits_53 : decode m_Reckoner_digits.2.1 53 = .ok (.bipush 48, 2) := by decide +kernel
theorem d_Reckoner_digits_55 : decode m_Reckoner_digits.2.1 55 = .ok (.iload 4, 2) := by decide +kernel
theorem d_Reckoner_digits_57 : decode m_Reckoner_digits.2.1 57 = .ok (.bipush 10, 2) := by decide +kernel
theorem d_Reckoner_digits_59 : decode m_Reckoner_digits.2.1 59 = .ok (.irem, 1) := by decide +kernel
theorem d_Reckoner_digits_60 : decode m_Reckoner_digits.2.1 60 = .ok (.iadd, 1) := by decide +kernel
theorem d_Reckoner_digits_61 : decode m_Reckoner_digits.2.1 61 = .ok (.i2b, 1) := by decide +kernel
theorem d_Reckoner_digits_62 : decode m_Reckoner_digits.2.1 62 = .ok (.bastore, 1) := by decide +kernel
theorem d_Reckoner_digits_63 : decode m_Reckoner_digits.2.1 63 = .ok (.iload 4, 2) := by decide +kernel
theorem d_Reckoner_digits_65 : decode m_Reckoner_digits.2.1 65 = .ok (.bipush 10, 2) := by decide +kernel
theorem d_Reckoner_digits_67 : decode m_Reckoner_digits.2.1 67 = .ok (.idiv, 1) := by decide +kernel
theorem d_Reckoner_digits_68 : decode m_Reckoner_digits.2.1 68 = .ok (.istore 4, 2) := by decide +kernel
theorem d_Reckoner_digits_70 : decode m_Reckoner_digits.2.1 70 = .ok (.iinc 5 1, 3) := by decide +kernel
theorem d_Reckoner_digits_73 : decode m_Reckoner_digits.2.1 73 = .ok (.goto (-50), 3) := by decide +kernel
theorem d_Reckoner_digits_76 : decode m_Reckoner_digits.2.1 76 = .ok (.iinc 3 1, 3) := by decide +kernel
theorem d_Reckoner_digits_79 : decode m_Reckoner_digits.2.1 79 = .ok (.goto (-75), 3) := by decide +kernel
theorem d_Reckoner_digits_82 : decode m_Reckoner_digits.2.1 82 = .ok (.iload_n 2, 1) := by decide +kernel
theorem d_Reckoner_digits_83 : decode m_Reckoner_digits.2.1 83 = .ok (.ifCond .ne 14, 3) := by decide +kernel
theorem d_Reckoner_digits_86 : decode m_Reckoner_digits.2.1 86 = .ok (.aload_n 0, 1) := by decide +kernel
theorem d_Reckoner_digits_87 : decode m_Reckoner_digits.2.1 87 = .ok (.getfield 19, 3) := by decide +kernel
theorem d_Reckoner_digits_90 : decode m_Reckoner_digits.2.1 90 = .ok (.iload_n 2, 1) := by decide +kernel
theorem d_Reckoner_digits_91 : decode m_Reckoner_digits.2.1 91 = .ok (.iinc 2 1, 3) := by decide +kernel
theorem d_Reckoner_digits_94 : decode m_Reckoner_digits.2.1 94 = .ok (.bipush 48, 2) := by decide +kernel
theorem d_Reckoner_digits_96 : decode m_Reckoner_digits.2.1 96 = .ok (.bastore, 1) := by decide +kernel
theorem d_Reckoner_digits_97 : decode m_Reckoner_digits.2.1 97 = .ok (.iload_n 2, 1) := by decide +kernel
theorem d_Reckoner_digits_98 : decode m_Reckoner_digits.2.1 98 = .ok (.ireturn, 1) := by decide +kernel
theorem toB {z : Int} (h : -128 ≤ z ∧ z ≤ 127) : (cI z).toInt8.toInt32 = cI z := by
  apply Int32.toInt_inj.mp
  have e : (cI z).toInt = z := t_cI (by omega)
  rw [Int8.toInt_toInt32, Int32.toInt_toInt8, e, Int.bmod_eq_of_le (by omega) (by omega)]
theorem d10_dg (x k : Nat) {i : Nat} (hi : i < 9) : d10 (dg x k) i = d10 x (9 * k + i) := by
  have e1 : B9 ^ k = 10 ^ (9 * k) := by show 1000000000 ^ k = _; rw [Nat.pow_mul]
  unfold d10 dg
  rw [e1, Nat.pow_add, ← Nat.div_div_eq_div_mul]
  generalize x / 10 ^ (9 * k) = X
  have e2 : B9 = 10 ^ i * 10 ^ (9 - i) := by rw [← Nat.pow_add, show i + (9 - i) = 9 by omega]
  rw [e2, Nat.mod_mul_right_div_self]
  exact Nat.mod_mod_of_dvd _ ⟨10 ^ (8 - i), by rw [show 9 - i = (8 - i) + 1 by omega, Nat.pow_succ, Nat.mul_comm]⟩
/-- how many digits a number has when it is told -/
def DN (x n : Nat) : Prop := (x = 0 ∧ n = 1) ∨ (x ≠ 0 ∧ ND x n)
theorem c_Reckoner_digits (d : Nat) {q a : Nat} {v : Int} {I : M32} {L : M64} {R : MR} {T : SH} (hQ0 : RkS R T q) (hA : BigS R T a) (hV : BigV I a v) :
    Call m_Reckoner_digits y_Reckoner_digits d 0 0 [.ref q, .ref a] I L R T (rI fun r I' L' R' T' => (∃ n : Nat, r = cI n ∧ n ≤ 324 ∧ DN v.natAbs n ∧ (∀ j, j < n → I' (q + 3) j = cI (48 + (d10 v.natAbs j : Int))) ∧ ∀ q', q' ≠ q + 3 → I' q' = I q') ∧ L' = L ∧ R' = R ∧ T' = T) := by
  refine Call.ofRun (by decide) ⟨rfl, rfl⟩ (Nat.le_of_ble_eq_true rfl) ?_
  refine Run.gen fun Q hQ => ?_
  obtain ⟨a0, a1, a2, a3, a4, a5, a6, a7⟩ := hA.rk hQ0
  obtain ⟨m, hAW, hAm⟩ := hV
  obtain ⟨x, hx⟩ : ∃ x, x = v.natAbs := ⟨_, rfl⟩
  rw [← hx] at hAW hAm hQ
  have hm := hAW.2.1
  have hB9 : ∀ k, B9 ^ k = 10 ^ (9 * k) := fun k => by show 1000000000 ^ k = _; rw [Nat.pow_mul]
  refine j_iconst d_Reckoner_digits_0 ?_
  refine q_istore_n (lv' := [(2, .int (cI 0)), (0, .ref q), (1, .ref a)]) d_Reckoner_digits_1 (by decide) rfl ?_
  refine j_iconst d_Reckoner_digits_2 ?_
  refine q_istore_n (lv' := [(3, .int (cI 0)), (2, .int (cI 0)), (0, .ref q), (1, .ref a)]) d_Reckoner_digits_3 (by decide) rfl ?_
  have out : ∀ (f k n : Nat) (z e : Int) (J : M32), m - k < f → z = k → e = n → k ≤ m → (k < m ∧ n = 9 * k ∨ k = m ∧ n ≤ 9 * m ∧ (m = 0 → n = 0) ∧ (0 < m → ND x n)) → (∀ j, j < n → J (q + 3) j = cI (48 + (d10 x j : Int))) → (∀ q', q' ≠ q + 3 → J q' = I q') → Run m_Reckoner_digits d 0 0 4 [(0, .ref q), (1, .ref a), (2, .int (cI e)), (3, .int (cI z))] [] J L R T Q := by
    intro f
    induction f with
    | zero => intro k n z e J h; omega
    | succ f ihf =>
    intro k n z e J hf hz he hk hc hD hF
    subst hz he
    have hAJ := hAW.congr (J := J) (hF a a3) (hF _ a7)
    refine q_iload_n d_Reckoner_digits_4 rfl ?_
    refine q_aload_n d_Reckoner_digits_5 rfl ?_
    refine j_getI (v := (cI (m : Int))) d_Reckoner_digits_6 fl_Reckoner_23 hA.1 ⟨rfl, by decide⟩ hAJ.2.2.1 ?_
    refine j_icmp_ge (tgt := 82) d_Reckoner_digits_9 (by decide) (by omega) (by omega) (fun h1 => ?_) (fun h1 => ?_)
    · skip
      obtain ⟨hkm, hn9, hn0, hnD⟩ : k = m ∧ n ≤ 9 * m ∧ (m = 0 → n = 0) ∧ (0 < m → ND x n) := by
        rcases hc with hc | hc
        · omega
        · exact hc
      refine q_iload_n d_Reckoner_digits_82 rfl ?_
      refine j_if_ne (tgt := 97) d_Reckoner_digits_83 (by decide) (by omega) (fun h2 => ?_) (fun h2 => ?_)
      · skip
        refine q_iload_n d_Reckoner_digits_97 rfl ?_
        refine q_ireturn d_Reckoner_digits_98 rfl rfl ?_
        refine hQ _ _ _ _ _ ?_
        refine ⟨_, rfl, ⟨n, rfl, by omega, Or.inr ⟨?_, hnD (by omega)⟩, hD, hF⟩, rfl, rfl, rfl⟩
        intro e
        exact h2 (by have := (hnD (by omega)).zero; omega)
      · skip
        obtain rfl : n = 0 := by omega
        have hm0 : m = 0 := by
          rcases Nat.eq_zero_or_pos m with g | g
          · exact g
          · have h3 := (hnD g).zero
            have := hAm g
            have := pow9_pos (m - 1)
            omega
        have hx0 : x = 0 := by have := hAW.1; rw [hm0] at this; simpa using this
        refine q_aload_n d_Reckoner_digits_86 rfl ?_
        refine q_getR d_Reckoner_digits_87 fl_Reckoner_19 hQ0.1 ⟨rfl, by decide⟩ hQ0.2.2.2.1 ?_
        refine q_iload_n d_Reckoner_digits_90 rfl ?_
        refine j_iinc (lv' := [(2, .int (cI (0 + 1))), (0, .ref q), (1, .ref a), (3, .int (cI (k : Int)))]) d_Reckoner_digits_91 rfl (by decide) rfl ?_
        refine j_bipush d_Reckoner_digits_94 (by decide) ?_
        refine j_bast (j := 0) d_Reckoner_digits_96 hQ0.2.2.2.2.2.2.2.2.1 hQ0.2.2.2.2.2.2.2.2.2 (by omega) (by omega) (by omega) ?_
        refine q_iload_n d_Reckoner_digits_97 rfl ?_
        refine q_ireturn d_Reckoner_digits_98 rfl rfl ?_
        refine hQ _ _ _ _ _ ?_
        refine ⟨_, rfl, ⟨1, rfl, by omega, Or.inl ⟨hx0, rfl⟩, fun j hj => ?_, fun q' g => ?_⟩, rfl, rfl, rfl⟩
        · obtain rfl : j = 0 := by omega
          rw [up2_s, hx0]; rfl
        · rw [up2_row _ _ g]; exact hF q' g
    obtain ⟨hkm, hn9⟩ : k < m ∧ n = 9 * k := by omega
    have g1 := dg_lt x k
    refine q_aload_n d_Reckoner_digits_12 rfl ?_
    refine q_getR d_Reckoner_digits_13 fl_Reckoner_30 hA.1 ⟨rfl, by decide⟩ hA.2.1 ?_
    refine q_iload_n d_Reckoner_digits_16 rfl ?_
    refine j_iald (j := k) (v := (cI (dg x k : Int))) d_Reckoner_digits_17 hA.2.2.1 hA.2.2.2 (by omega) (by omega) (by omega) (hAJ.2.2.2.1 k (by omega)) ?_
    refine q_istore (lv' := [(4, .int (cI (dg x k : Int))), (0, .ref q), (1, .ref a), (2, .int (cI (n : Int))), (3, .int (cI (k : Int)))]) d_Reckoner_digits_18 (by decide) rfl ?_
    refine j_iconst d_Reckoner_digits_20 ?_
    refine q_istore (lv' := [(5, .int (cI 0)), (4, .int (cI (dg x k : Int))), (0, .ref q), (1, .ref a), (2, .int (cI (n : Int))), (3, .int (cI (k : Int)))]) d_Reckoner_digits_21 (by decide) rfl ?_
    have inn : ∀ (f2 i n2 : Nat) (y g u : Int) (K : M32), 10 - i < f2 → y = i → g = (dg x k / 10 ^ i : Nat) → u = n2 → n2 = 9 * k + i → i ≤ 9 → (k + 1 = m → i = 0 ∨ 10 ^ (n2 - 1) ≤ x) → (∀ j, j < n2 → K (q + 3) j = cI (48 + (d10 x j : Int))) → (∀ q', q' ≠ q + 3 → K q' = I q') → Run m_Reckoner_digits d 0 0 23 [(0, .ref q), (1, .ref a), (2, .int (cI u)), (3, .int (cI (k : Int))), (4, .int (cI g)), (5, .int (cI y))] [] K L R T Q := by
      intro f2
      induction f2 with
      | zero => intro i n2 y g u K h; omega
      | succ f2 ih =>
      intro i n2 y g u K hf2 hy hg hu hn2 hi hlow hDK hFK
      subst hy hu
      have hAK := hAW.congr (J := K) (hFK a a3) (hFK _ a7)
      obtain ⟨p, hp⟩ : ∃ p, p = dg x k / 10 ^ i := ⟨_, rfl⟩
      have hple : p ≤ dg x k := by rw [hp]; exact Nat.div_le_self _ _
      rw [← hp] at hg
      subst hg
      have nxt : (i = 9 ∨ p = 0 ∧ k + 1 = m) → (k + 1 < m ∧ n2 = 9 * (k + 1) ∨ k + 1 = m ∧ n2 ≤ 9 * m ∧ (m = 0 → n2 = 0) ∧ (0 < m → ND x n2)) := by
        intro h
        rcases Nat.lt_or_ge (k + 1) m with hl | hl
        · left; omega
        · right
          have hkm1 : k + 1 = m := by omega
          refine ⟨hkm1, by omega, by omega, fun _ => ?_⟩
          have htop : x / B9 ^ k = dg x k := by
            unfold dg; rw [Nat.mod_eq_of_lt]
            rw [Nat.div_lt_iff_lt_mul (pow9_pos k), Nat.mul_comm, ← Nat.pow_succ, Nat.succ_eq_add_one, hkm1]; exact hAW.1
          have hxp : x / 10 ^ n2 = p := by rw [hn2, Nat.pow_add, ← Nat.div_div_eq_div_mul, ← hB9, htop, hp]
          have hlt : x < 10 ^ n2 := by
            rcases h with h | h
            · rw [hn2, h, show 9 * k + 9 = 9 * m by omega, ← hB9]; exact hAW.1
            · have := Nat.div_eq_zero_iff.mp (hxp.trans h.1)
              have := pow10_pos n2
              omega
          refine ⟨hlt, fun h0 => ?_⟩
          rcases hlow hkm1 with h2 | h2
          · exfalso
            subst h2
            have hmm := hAm (by omega)
            rw [show m - 1 = k by omega] at hmm
            rw [show n2 = 9 * k by omega, ← hB9] at hlt
            omega
          · exact h2
      refine q_iload d_Reckoner_digits_23 rfl ?_
      refine j_bipush d_Reckoner_digits_25 (by decide) ?_
      refine j_icmp_ge (tgt := 76) d_Reckoner_digits_27 (by decide) (by omega) (by omega) (fun h2 => ?_) (fun h2 => ?_)
      · skip
        refine j_iinc (lv' := [(3, .int (cI ((k : Int) + 1))), (0, .ref q), (1, .ref a), (2, .int (cI (n2 : Int))), (4, .int (cI (p : Int))), (5, .int (cI (i : Int)))]) d_Reckoner_digits_76 rfl (by decide) rfl ?_
        refine q_goto (tgt := 4) d_Reckoner_digits_79 (by decide) ?_
        refine Run.lv (lv' := [(0, .ref q), (1, .ref a), (2, .int (cI (n2 : Int))), (3, .int (cI ((k : Int) + 1)))]) (by intro q hq; simp only [List.mem_cons, List.not_mem_nil, or_false] at hq ⊢; rcases hq with rfl | rfl | rfl | rfl <;> simp) ?_
        exact ihf (k + 1) n2 _ _ K (by omega) (by omega) rfl (by omega) (nxt (Or.inl (by omega))) hDK hFK
      have body : ∀ (hgo : 0 < p ∨ k + 1 < m), True → Run m_Reckoner_digits d 0 0 45 [(0, .ref q), (1, .ref a), (2, .int (cI (n2 : Int))), (3, .int (cI (k : Int))), (4, .int (cI (p : Int))), (5, .int (cI (i : Int)))] [] K L R T Q := by
        intro hgo _
        refine q_aload_n d_Reckoner_digits_45 rfl ?_
        refine q_getR d_Reckoner_digits_46 fl_Reckoner_19 hQ0.1 ⟨rfl, by decide⟩ hQ0.2.2.2.1 ?_
        refine q_iload_n d_Reckoner_digits_49 rfl ?_
        refine j_iinc (lv' := [(2, .int (cI ((n2 : Int) + 1))), (0, .ref q), (1, .ref a), (3, .int (cI (k : Int))), (4, .int (cI (p : Int))), (5, .int (cI (i : Int)))]) d_Reckoner_digits_50 rfl (by decide) rfl ?_
        refine j_bipush d_Reckoner_digits_53 (by decide) ?_
        refine q_iload d_Reckoner_digits_55 rfl ?_
        refine j_bipush d_Reckoner_digits_57 (by decide) ?_
        refine j_irem d_Reckoner_digits_59 (by omega) (by omega) ?_
        refine j_iadd d_Reckoner_digits_60 ?_
        refine q_i2b d_Reckoner_digits_61 ?_
        refine Run.top (v := .int (cI (48 + (d10 x n2 : Int)))) (by congr 1; rw [toB (by omega), hn2, ← d10_dg x k (by omega), d10, ← hp]; congr 1) ?_
        refine j_bast (j := n2) d_Reckoner_digits_62 hQ0.2.2.2.2.2.2.2.2.1 hQ0.2.2.2.2.2.2.2.2.2 (by omega) (by omega) (by omega) ?_
        refine q_iload d_Reckoner_digits_63 rfl ?_
        refine j_bipush d_Reckoner_digits_65 (by decide) ?_
        refine j_idiv d_Reckoner_digits_67 (by omega) (by omega) ?_
        refine q_istore (lv' := [(4, .int (cI ((p : Int) / 10))), (2, .int (cI ((n2 : Int) + 1))), (0, .ref q), (1, .ref a), (3, .int (cI (k : Int))), (5, .int (cI (i : Int)))]) d_Reckoner_digits_68 (by decide) rfl ?_
        refine j_iinc (lv' := [(5, .int (cI ((i : Int) + 1))), (4, .int (cI ((p : Int) / 10))), (2, .int (cI ((n2 : Int) + 1))), (0, .ref q), (1, .ref a), (3, .int (cI (k : Int)))]) d_Reckoner_digits_70 rfl (by decide) rfl ?_
        refine q_goto (tgt := 23) d_Reckoner_digits_73 (by decide) ?_
        refine Run.lv (lv' := [(0, .ref q), (1, .ref a), (2, .int (cI ((n2 : Int) + 1))), (3, .int (cI (k : Int))), (4, .int (cI ((p : Int) / 10))), (5, .int (cI ((i : Int) + 1)))]) (by intro q hq; simp only [List.mem_cons, List.not_mem_nil, or_false] at hq ⊢; rcases hq with rfl | rfl | rfl | rfl | rfl | rfl <;> simp) ?_
        refine ih (i + 1) (n2 + 1) _ _ _ _ (by omega) (by omega) (by rw [Nat.pow_succ, ← Nat.div_div_eq_div_mul, ← hp]; omega) (by omega) (by omega) (by omega) (fun hk1 => Or.inr ?_) (fun j hj => ?_) (fun q' g => by rw [up2_row _ _ g]; exact hFK q' g)
        · rw [Nat.add_sub_cancel]
          have hp0 : 0 < p := by omega
          have h5 : 10 ^ i ≤ dg x k := by
            rcases Nat.lt_or_ge (dg x k) (10 ^ i) with g | g
            · rw [hp, Nat.div_eq_of_lt g] at hp0; omega
            · exact g
          have h6 : dg x k ≤ x / B9 ^ k := Nat.mod_le _ _
          rw [hn2, Nat.pow_add, ← hB9]
          calc B9 ^ k * 10 ^ i ≤ B9 ^ k * (x / B9 ^ k) := Nat.mul_le_mul_left _ (Nat.le_trans h5 h6)
            _ ≤ x := Nat.mul_div_le _ _
        · have h10 := d10_lt x n2
          by_cases e : j = n2
          · subst e; rw [up2_s, toB (by omega)]
          · rw [up2_k _ _ _ (by omega)]; exact hDK j (by omega)
      refine q_iload d_Reckoner_digits_30 rfl ?_
      refine j_if_gt (tgt := 45) d_Reckoner_digits_32 (by decide) (by omega) (fun h3 => ?_) (fun h3 => ?_)
      · skip
        exact body (Or.inl (by omega)) trivial
      · skip
        refine q_iload_n d_Reckoner_digits_35 rfl ?_
        refine j_iconst d_Reckoner_digits_36 ?_
        refine j_iadd d_Reckoner_digits_37 ?_
        refine q_aload_n d_Reckoner_digits_38 rfl ?_
        refine j_getI (v := (cI (m : Int))) d_Reckoner_digits_39 fl_Reckoner_23 hA.1 ⟨rfl, by decide⟩ hAK.2.2.1 ?_
        refine j_icmp_ge (tgt := 76) d_Reckoner_digits_42 (by decide) (by omega) (by omega) (fun h4 => ?_) (fun h4 => ?_)
        · skip
          refine j_iinc (lv' := [(3, .int (cI ((k : Int) + 1))), (0, .ref q), (1, .ref a), (2, .int (cI (n2 : Int))), (4, .int (cI (p : Int))), (5, .int (cI (i : Int)))]) d_Reckoner_digits_76 rfl (by decide) rfl ?_
          refine q_goto (tgt := 4) d_Reckoner_digits_79 (by decide) ?_
          refine Run.lv (lv' := [(0, .ref q), (1, .ref a), (2, .int (cI (n2 : Int))), (3, .int (cI ((k : Int) + 1)))]) (by intro q hq; simp only [List.mem_cons, List.not_mem_nil, or_false] at hq ⊢; rcases hq with rfl | rfl | rfl | rfl <;> simp) ?_
          exact ihf (k + 1) n2 _ _ K (by omega) (by omega) rfl (by omega) (nxt (Or.inr ⟨by omega, by omega⟩)) hDK hFK
        · skip
          exact body (Or.inr (by omega)) trivial
    refine Run.lv (lv' := [(0, .ref q), (1, .ref a), (2, .int (cI (n : Int))), (3, .int (cI (k : Int))), (4, .int (cI (dg x k : Int))), (5, .int (cI 0))]) (by intro q hq; simp only [List.mem_cons, List.not_mem_nil, or_false] at hq ⊢; rcases hq with rfl | rfl | rfl | rfl | rfl | rfl <;> simp) ?_
    exact inn 11 0 n _ _ _ J (by omega) rfl (by simp) rfl (by omega) (by omega) (fun _ => Or.inl rfl) hD hF
  refine Run.lv (lv' := [(0, .ref q), (1, .ref a), (2, .int (cI 0)), (3, .int (cI 0))]) (by intro q hq; simp only [List.mem_cons, List.not_mem_nil, or_false] at hq ⊢; rcases hq with rfl | rfl | rfl | rfl <;> simp) ?_
  exact out (m + 1) 0 0 0 0 I (by omega) rfl rfl (by omega) (by rcases Nat.eq_zero_or_pos m with g | g <;> omega) (fun j hj => by omega) (fun _ _ => rfl)

