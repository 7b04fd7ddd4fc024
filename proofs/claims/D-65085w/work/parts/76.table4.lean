/-! ===== 76 TABLES: open ===== -/
theorem d_Table_open_0 : decode m_Table_open.2.1 0 = .ok (.iconst (-1), 1) := by decide +kernel
theorem d_Table_open_1 : decode m_Table_open.2.1 1 = .ok (.aload_n 0, 1) := by decide +kernel
theorem d_Table_open_2 : decode m_Table_open.2.1 2 = .ok (.lload_n 1, 1) := by decide +kernel
theorem d_Table_open_3 : decode m_Table_open.2.1 3 = .ok (.lload_n 3, 1) := by decide +kernel
theorem d_Table_open_4 : decode m_Table_open.2.1 4 = .ok (.invokevirtual 31, 3) := by decide +kernel
theorem d_Table_open_7 : decode m_Table_open.2.1 7 = .ok (.isub, 1) := by decide +kernel
theorem d_Table_open_8 : decode m_Table_open.2.1 8 = .ok (.istore 5, 2) := by decide +kernel
theorem d_Table_open_10 : decode m_Table_open.2.1 10 = .ok (.aload_n 0, 1) := by decide +kernel
theorem d_Table_open_11 : decode m_Table_open.2.1 11 = .ok (.getfield 18, 3) := by decide +kernel
theorem d_Table_open_14 : decode m_Table_open.2.1 14 = .ok (.aload_n 0, 1) := by decide +kernel
theorem d_Table_open_15 : decode m_Table_open.2.1 15 = .ok (.getfield 23, 3) := by decide +kernel
theorem d_Table_open_18 : decode m_Table_open.2.1 18 = .ok (.aaload, 1) := by decide +kernel
theorem d_Table_open_19 : decode m_Table_open.2.1 19 = .ok (.astore 6, 2) := by decide +kernel
theorem d_Table_open_21 : decode m_Table_open.2.1 21 = .ok (.aload_n 0, 1) := by decide +kernel
theorem d_Table_open_22 : decode m_Table_open.2.1 22 = .ok (.getfield 23, 3) := by decide +kernel
theorem d_Table_open_25 : decode m_Table_open.2.1 25 = .ok (.istore 7, 2) := by decide +kernel
theorem d_Table_open_27 : decode m_Table_open.2.1 27 = .ok (.iload 7, 2) := by decide +kernel
theorem d_Table_open_29 : decode m_Table_open.2.1 29 = .ok (.iload 5, 2) := by decide +kernel
theorem d_Table_open_31 : decode m_Table_open.2.1 31 = .ok (.if_icmp .le 57, 3) := by decide +kernel
theorem d_Table_open_34 : decode m_Table_open.2.1 34 = .ok (.aload_n 0, 1) := by decide +kernel
theorem d_Table_open_35 : decode m_Table_open.2.1 35 = .ok (.getfield 7, 3) := by decide +kernel
theorem d_Table_open_38 : decode m_Table_open.2.1 38 = .ok (.iload 7, 2) := by decide +kernel
theorem d_Table_open_40 : decode m_Table_open.2.1 40 = .ok (.aload_n 0, 1) := by decide +kernel
theorem d_Table_open_41 : decode m_Table_open.2.1 41 = .ok (.getfield 7, 3) := by decide +kernel
theorem d_Table_open_44 : decode m_Table_open.2.1 44 = .ok (.iload 7, 2) := by decide +kernel
theorem d_Table_open_46 : decode m_Table_open.2.1 46 = .ok (.iconst 1, 1) := by decide +kernel
theorem d_Table_open_47 : decode m_Table_open.2.1 47 = .ok (.isub, 1) := by decide +kernel
theorem d_Table_open_48 : decode m_Table_open.2.1 48 = .ok (.laload, 1) := by decide +kernel
theorem d_Table_open_49 : decode m_Table_open.2.1 49 = .ok (.lastore, 1) := by decide +kernel
theorem d_Table_open_50 : decode m_Table_open.2.1 50 = .ok (.aload_n 0, 1) := by decide +kernel
theorem d_Table_open_51 : decode m_Table_open.2.1 51 = .ok (.getfield 13, 3) := by decide +kernel
theorem d_Table_open_54 : decode m_Table_open.2.1 54 = .ok (.iload 7, 2) := by decide +kernel
theorem d_Table_open_56 : decode m_Table_open.2.1 56 = .ok (.aload_n 0, 1) := by decide +kernel
theorem d_Table_open_57 : decode m_Table_open.2.1 57 = .ok (.getfield 13, 3) := by decide +kernel
theorem d_Table_open_60 : decode m_Table_open.2.1 60 = .ok (.iload 7, 2) := by decide +kernel
theorem d_Table_open_62 : decode m_Table_open.2.1 62 = .ok (.iconst 1, 1) := by decide +kernel
theorem d_Table_open_63 : decode m_Table_open.2.1 63 = .ok (.isub, 1) := by decide +kernel
theorem d_Table_open_64 : decode m_Table_open.2.1 64 = .ok (.laload, 1) := by decide +kernel
theorem d_Table_open_65 : decode m_Table_open.2.1 65 = .ok (.lastore, 1) := by decide +kernel
theorem d_Table_open_66 : decode m_Table_open.2.1 66 = .ok (.aload_n 0, 1) := by decide +kernel
theorem d_Table_open_67 : decode m_Table_open.2.1 67 = .ok (.getfield 18, 3) := by decide +kernel
theorem d_Table_open_70 : decode m_Table_open.2.1 70 = .ok (.iload 7, 2) := by decide +kernel
theorem d_Table_open_72 : decode m_Table_open.2.1 72 = .ok (.aload_n 0, 1) := by decide +kernel
theorem d_Table_open_73 : decode m_Table_open.2.1 73 = .ok (.getfield 18, 3) := by decide +kernel
theorem d_Table_open_76 : decode m_Table_open.2.1 76 = .ok (.iload 7, 2) := by decide +kernel
theorem d_Table_open_78 : decode m_Table_open.2.1 78 = .ok (.iconst 1, 1) := by decide +kernel
theorem d_Table_open_79 : decode m_Table_open.2.1 79 = .ok (.isub, 1) := by decide +kernel
theorem d_Table_open_80 : decode m_Table_open.2.1 80 = .ok (.aaload, 1) := by decide +kernel
theorem d_Table_open_81 : decode m_Table_open.2.1 81 = .ok (.aastore, 1) := by decide +kernel
theorem d_Table_open_82 : decode m_Table_open.2.1 82 = .ok (.iinc 7 (-1), 3) := by decide +kernel
theorem d_Table_open_85 : decode m_Table_open.2.1 85 = .ok (.goto (-58), 3) := by decide +kernel
theorem d_Table_open_88 : decode m_Table_open.2.1 88 = .ok (.aload_n 0, 1) := by decide +kernel
theorem d_Table_open_89 : decode m_Table_open.2.1 89 = .ok (.getfield 7, 3) := by decide +kernel
theorem d_Table_open_92 : decode m_Table_open.2.1 92 = .ok (.iload 5, 2) := by decide +kernel
theorem d_Table_open_94 : decode m_Table_open.2.1 94 = .ok (.lload_n 1, 1) := by decide +kernel
theorem d_Table_open_95 : decode m_Table_open.2.1 95 = .ok (.lastore, 1) := by decide +kernel
theorem d_Table_open_96 : decode m_Table_open.2.1 96 = .ok (.aload_n 0, 1) := by decide +kernel
theorem d_Table_open_97 : decode m_Table_open.2.1 97 = .ok (.getfield 13, 3) := by decide +kernel
theorem d_Table_open_100 : decode m_Table_open.2.1 100 = .ok (.iload 5, 2) := by decide +kernel
theorem d_Table_open_102 : decode m_Table_open.2.1 102 = .ok (.lload_n 3, 1) := by decide +kernel
theorem d_Table_open_103 : decode m_Table_open.2.1 103 = .ok (.lastore, 1) := by decide +kernel
theorem d_Table_open_104 : decode m_Table_open.2.1 104 = .ok (.aload_n 0, 1) := by decide +kernel
theorem d_Table_open_105 : decode m_Table_open.2.1 105 = .ok (.getfield 18, 3) := by decide +kernel
theorem d_Table_open_108 : decode m_Table_open.2.1 108 = .ok (.iload 5, 2) := by decide +kernel
theorem d_Table_open_110 : decode m_Table_open.2.1 110 = .ok (.aload 6, 2) := by decide +kernel
theorem d_Table_open_112 : decode m_Table_open.2.1 112 = .ok (.aastore, 1) := by decide +kernel
theorem d_Table_open_113 : decode m_Table_open.2.1 113 = .ok (.aload 6, 2) := by decide +kernel
theorem d_Table_open_115 : decode m_Table_open.2.1 115 = .ok (.invokevirtual 35, 3) := by decide +kernel
theorem d_Table_open_118 : decode m_Table_open.2.1 118 = .ok (.aload_n 0, 1) := by decide +kernel
theorem d_Table_open_119 : decode m_Table_open.2.1 119 = .ok (.dup, 1) := by decide +kernel
theorem d_Table_open_120 : decode m_Table_open.2.1 120 = .ok (.getfield 23, 3) := by decide +kernel
theorem d_Table_open_123 : decode m_Table_open.2.1 123 = .ok (.iconst 1, 1) := by decide +kernel
theorem d_Table_open_124 : decode m_Table_open.2.1 124 = .ok (.iadd, 1) := by decide +kernel
theorem d_Table_open_125 : decode m_Table_open.2.1 125 = .ok (.putfield 23, 3) := by decide +kernel
theorem d_Table_open_128 : decode m_Table_open.2.1 128 = .ok (.aload 6, 2) := by decide +kernel
theorem d_Table_open_130 : decode m_Table_open.2.1 130 = .ok (.areturn, 1) := by decide +kernel
def insL (l : List Ent) (p : Nat) (e : Ent) : List Ent := l.take p ++ e :: l.drop p
theorem insL_len {l : List Ent} {p : Nat} {e : Ent} (hp : p ≤ l.length) : (insL l p e).length = l.length + 1 := by
  unfold insL
  rw [List.length_append, List.length_take, List.length_cons, List.length_drop]; omega
theorem insL_get {l : List Ent} {p j : Nat} {e : Ent} (hp : p ≤ l.length) : (insL l p e).getD j (0, 0, 0) = if j < p then l.getD j (0, 0, 0) else if j = p then e else l.getD (j - 1) (0, 0, 0) := by
  have ht : (l.take p).length = p := by rw [List.length_take]; omega
  unfold insL
  by_cases h : j < p
  · rw [if_pos h, gapp_l _ _ _ (by omega)]
    simp only [List.getD_eq_getElem?_getD, List.getElem?_take, if_pos h]
  · rw [if_neg h, gapp_r _ _ _ (by omega), ht]
    by_cases h2 : j = p
    · rw [if_pos h2, h2, Nat.sub_self]; rfl
    · rw [if_neg h2, show j - p = (j - p - 1) + 1 by omega]
      show (l.drop p).getD (j - p - 1) (0, 0, 0) = _
      simp only [List.getD_eq_getElem?_getD, List.getElem?_drop]
      rw [show p + (j - p - 1) = j - 1 by omega]
/-- the places behind the opening of entry p among n -/
def opP (σ : Nat → Nat) (p n : Nat) : Nat → Nat := fun j => if j = p then σ n else if p < j ∧ j ≤ n then σ (j - 1) else σ j
theorem TbP.op {R R' : MR} {t r p n : Nat} {σ : Nat → Nat} (h : TbP R t r σ) (hp : p ≤ n) (hn : n < r) (hR : ∀ j, j < r → R' (t + 3) j = if j = p then R (t + 3) n else if p < j ∧ j ≤ n then R (t + 3) (j - 1) else R (t + 3) j) : TbP R' t r (opP σ p n) := by
  refine ⟨fun k hk => ?_, fun j k hj hk he => ?_⟩
  · rw [hR k hk]
    unfold opP
    split
    · exact h.1 n hn
    · split
      · exact h.1 (k - 1) (by omega)
      · exact h.1 k hk
  · have e1 : ∀ i, opP σ p n i = σ (if i = p then n else if p < i ∧ i ≤ n then i - 1 else i) := fun i => by
      unfold opP
      split
      · rfl
      · split <;> rfl
    rw [e1, e1] at he
    have h2 := h.2 _ _ (by (repeat' split) <;> omega) (by (repeat' split) <;> omega) he
    clear he e1 hR h
    by_cases c1 : j = p
    · rw [if_pos c1] at h2; (repeat' split at h2) <;> omega
    · rw [if_neg c1] at h2
      by_cases c2 : p < j ∧ j ≤ n
      · rw [if_pos c2] at h2; (repeat' split at h2) <;> omega
      · rw [if_neg c2] at h2; (repeat' split at h2) <;> omega
theorem BigV.zero {I : M32} {a : Nat} (h1 : I a 1 = cI 0) (h2 : I a 2 = cI 0) : BigV I a 0 := ⟨0, ⟨by decide, by decide, h1, fun k hk => absurd hk (Nat.not_lt_zero k), h2⟩, fun h => absurd h (Nat.lt_irrefl 0)⟩
theorem c_Table_open (d : Nat) {t r x y : Nat} {σ : Nat → Nat} {l : List Ent} {I : M32} {L : M64} {R : MR} {T : SH} (hd : 1 ≤ d) (hS : TbS R T t r) (hP : TbP R t r σ) (hV : TbV I L t r σ l) (hx : x < 9223372036854775808) (hy : y < 9223372036854775808) (hno : ¬ hasK l x y) (hrm : l.length < r) :
    Call m_Table_open y_Table_open d 0 0 [.ref t, .long (cL x), .long (cL y)] I L R T (rO fun q I' L' R' T' => q = some (t + 4 + 2 * σ l.length) ∧ TbP R' t r (opP σ (fdx x y l) l.length) ∧ TbV I' L' t r (opP σ (fdx x y l) l.length) (insL l (fdx x y l) (x, y, 0)) ∧ Fx (fun a k => (a = t ∧ k = 3) ∨ a = t + 4 + 2 * σ l.length) I I' ∧ Fx (STn t) L L' ∧ (∀ a k, a ≠ t + 3 → R' a k = R a k) ∧ T' = T) := by
  refine Call.ofRun (by decide) ⟨rfl, rfl⟩ (Nat.le_of_ble_eq_true rfl) ?_
  refine Run.gen fun Q hQ => ?_
  have hle := fdx_le x y l
  obtain ⟨s1, ⟨s2, s3, s4⟩, ⟨s5, s6, s7⟩, ⟨s8, s9, s10⟩, s11, s12⟩ := id hS
  obtain ⟨v1, v2, v3⟩ := id hV
  obtain ⟨n, hn⟩ : ∃ n, n = l.length := ⟨_, rfl⟩
  obtain ⟨p, hpp⟩ : ∃ p, p = fdx x y l := ⟨_, rfl⟩
  have hlen := insL_len (e := (x, y, 0)) hle
  have hget := fun j => insL_get (j := j) (e := (x, y, 0)) hle
  rw [← hpp] at hle hQ hlen hget
  rw [← hn] at v1 v2 v3 hrm hle hQ hlen
  have pn := hP.1 n (by omega)
  have hBn := s12 (σ n) pn.2
  refine j_iconst d_Table_open_0 ?_
  refine q_aload_n d_Table_open_1 rfl ?_
  refine q_lload_n d_Table_open_2 rfl ?_
  refine q_lload_n d_Table_open_3 rfl ?_
  refine q_callV (ci := 9) (rc := 0) (rs := 0) (rest := [.int (cI (-1))]) d_Table_open_4 ml_Table_31 ok_Table_find rfl s1 (by decide) (c_Table_findV (d - 1) (v := -1 - (p : Int)) hS hV hx hy (Or.inr ⟨hno, by rw [hpp]⟩)) rfl rfl (by omega) (Nat.le_of_ble_eq_true rfl) (kp_I ?_) kt_I
  refine j_isub d_Table_open_7 ?_
  refine Run.top (v := .int (cI (p : Int))) (by congr 2; omega) ?_
  refine q_istore (lv' := [(5, .int (cI (p : Int))), (0, .ref t), (1, .long (cL (x : Int))), (3, .long (cL (y : Int)))]) d_Table_open_8 (by decide) rfl ?_
  refine q_aload_n d_Table_open_10 rfl ?_
  refine q_getR d_Table_open_11 fl_Table_18 s1 ⟨rfl, by decide⟩ s8 ?_
  refine q_aload_n d_Table_open_14 rfl ?_
  refine j_getI (v := (cI (n : Int))) d_Table_open_15 fl_Table_23 s1 ⟨rfl, by decide⟩ v2 ?_
  refine j_aald (j := n) d_Table_open_18 s9 ⟨rfl, rfl⟩ s10 (by omega) (by omega) (by omega) (by rw [pn.1]; first | done | rfl) ?_
  refine q_astore (lv' := [(6, .ref (t + 4 + 2 * σ n)), (5, .int (cI (p : Int))), (0, .ref t), (1, .long (cL (x : Int))), (3, .long (cL (y : Int)))]) d_Table_open_19 (by decide) rfl ?_
  refine q_aload_n d_Table_open_21 rfl ?_
  refine j_getI (v := (cI (n : Int))) d_Table_open_22 fl_Table_23 s1 ⟨rfl, by decide⟩ v2 ?_
  refine q_istore (lv' := [(7, .int (cI (n : Int))), (6, .ref (t + 4 + 2 * σ n)), (5, .int (cI (p : Int))), (0, .ref t), (1, .long (cL (x : Int))), (3, .long (cL (y : Int)))]) d_Table_open_25 (by decide) rfl ?_
  have loop : ∀ (f k : Nat) (z : Int) (K : M64) (G : MR), k - p < f → z = k → p ≤ k → k ≤ n → (∀ j, K (t + 1) j = if k < j ∧ j ≤ n then L (t + 1) (j - 1) else L (t + 1) j) → (∀ j, K (t + 2) j = if k < j ∧ j ≤ n then L (t + 2) (j - 1) else L (t + 2) j) → (∀ j, G (t + 3) j = if k < j ∧ j ≤ n then R (t + 3) (j - 1) else R (t + 3) j) → Fx (STn t) L K → (∀ a k', a ≠ t + 3 → G a k' = R a k') → Run m_Table_open d 0 0 27 [(0, .ref t), (1, .long (cL (x : Int))), (3, .long (cL (y : Int))), (5, .int (cI (p : Int))), (6, .ref (t + 4 + 2 * σ n)), (7, .int (cI z))] [] I K G T Q := by
    intro f
    induction f with
    | zero => intro k z K G h; omega
    | succ f ih =>
    intro k z K G hf hz hpk hk h1 h2 h3 hFL hG
    subst hz
    refine q_iload d_Table_open_27 rfl ?_
    refine q_iload d_Table_open_29 rfl ?_
    refine j_icmp_le (tgt := 88) d_Table_open_31 (by decide) (by omega) (by omega) (fun q1 => ?_) (fun q1 => ?_)
    · skip
      obtain rfl : p = k := by omega
      refine q_aload_n d_Table_open_88 rfl ?_
      refine q_getR d_Table_open_89 fl_Table_7 s1 ⟨rfl, by decide⟩ (by rw [hG _ _ (by omega)]; exact s2) ?_
      refine q_iload d_Table_open_92 rfl ?_
      refine q_lload_n d_Table_open_94 rfl ?_
      refine j_last (j := p) d_Table_open_95 s3 s4 (by omega) (by omega) (by omega) ?_
      refine q_aload_n d_Table_open_96 rfl ?_
      refine q_getR d_Table_open_97 fl_Table_13 s1 ⟨rfl, by decide⟩ (by rw [hG _ _ (by omega)]; exact s5) ?_
      refine q_iload d_Table_open_100 rfl ?_
      refine q_lload_n d_Table_open_102 rfl ?_
      refine j_last (j := p) d_Table_open_103 s6 s7 (by omega) (by omega) (by omega) ?_
      refine q_aload_n d_Table_open_104 rfl ?_
      refine q_getR d_Table_open_105 fl_Table_18 s1 ⟨rfl, by decide⟩ (by rw [hG _ _ (by omega)]; exact s8) ?_
      refine q_iload d_Table_open_108 rfl ?_
      refine q_aload d_Table_open_110 rfl ?_
      refine j_aastB (j := p) d_Table_open_112 s9 s10 (by omega) (by omega) (by omega) hBn.1 ?_
      refine q_aload d_Table_open_113 rfl ?_
      generalize hK2 : (up2 (up2 K (t + 1) p (cL (x : Int))) (t + 2) p (cL (y : Int))) = K2
      generalize hG2 : (up2 G (t + 3) p (some (t + 4 + 2 * σ n))) = G2
      have hBn2 : BigS G2 T (t + 4 + 2 * σ n) := ⟨hBn.1, by rw [← hG2, up2_row _ _ (by omega), hG _ _ (by omega)]; exact hBn.2.1, hBn.2.2⟩
      refine q_callV (ci := 0) (rc := 0) (rs := 0) (rest := []) d_Table_open_115 ml_Table_35 ok_Big_clear rfl hBn.1 (by decide) (c_Big_clear (d - 1) hBn2) rfl rfl (by omega) (Nat.le_of_ble_eq_true rfl) (kp_V ?_) kt_V
      refine q_aload_n d_Table_open_118 rfl ?_
      refine q_dup d_Table_open_119 rfl ?_
      refine j_getI (v := (cI (n : Int))) d_Table_open_120 fl_Table_23 s1 ⟨rfl, by decide⟩ (by rw [up2_row _ _ (by omega), up2_row _ _ (by omega)]; exact v2) ?_
      refine j_iconst d_Table_open_123 ?_
      refine j_iadd d_Table_open_124 ?_
      refine q_putI d_Table_open_125 fl_Table_23 s1 ⟨rfl, by decide, rfl, rfl⟩ ?_
      refine q_aload d_Table_open_128 rfl ?_
      generalize hI2 : (up2 (up2 (up2 I (t + 4 + 2 * σ n) 1 (cI 0)) (t + 4 + 2 * σ n) 2 (cI 0)) t 3 (cI ((n : Int) + 1))) = I2
      have fI : Fx (fun a k' => (a = t ∧ k' = 3) ∨ a = t + 4 + 2 * σ n) I I2 := by rw [← hI2]; exact ((Fx.up (Or.inr rfl)).tu (Or.inr rfl)).tu (Or.inl ⟨rfl, rfl⟩)
      have hR' : ∀ j, j < r → G2 (t + 3) j = if j = p then R (t + 3) n else if p < j ∧ j ≤ n then R (t + 3) (j - 1) else R (t + 3) j := fun j hj => by
        rw [← hG2]
        by_cases e : j = p
        · rw [e, up2_s, if_pos rfl, pn.1]
        · rw [up2_k _ _ _ e, if_neg e, h3]
      refine q_areturn d_Table_open_130 rfl rfl (Or.inr ⟨_, rfl⟩) ?_
      refine hQ _ _ _ _ _ ?_
      refine ⟨some (t + 4 + 2 * σ n), rfl, rfl, hP.op hle hrm hR', ⟨by omega, by rw [← hI2, up2_s, hlen]; congr 1, fun j hj => ?_⟩, fI, by rw [← hK2]; exact (hFL.tu (Or.inl rfl)).tu (Or.inr rfl), fun a k' e => by rw [← hG2, up2_row _ _ e]; exact hG a k' e, rfl⟩
      rw [hlen] at hj
      have hBk : ∀ i v, i < r → σ i ≠ σ n → BigV I (t + 4 + 2 * σ i) v → BigV I2 (t + 4 + 2 * σ i) v := fun i v hi hne h => h.congr (fI.row fun k' => by omega) (fI.row fun k' => by omega)
      have inj := hP.2
      rw [hget j, ← hK2]
      unfold opP
      by_cases e1 : j < p
      · rw [if_pos e1, if_neg (by omega), if_neg (by omega), up2_a _ _ _ (by omega), up2_k _ _ _ (by omega), up2_k _ _ _ (by omega), up2_a _ _ _ (by omega), h1, h2, if_neg (by omega), if_neg (by omega)]
        have w := v3 j (by omega)
        exact ⟨w.1, w.2.1, w.2.2.1, w.2.2.2.1, hBk j _ (by omega) (fun q => by have := inj j n (by omega) hrm q; omega) w.2.2.2.2⟩
      · rw [if_neg e1]
        by_cases e2 : j = p
        · rw [if_pos e2, if_pos e2, e2, up2_a _ _ _ (by omega), up2_s, up2_s]
          exact ⟨rfl, rfl, hx, hy, BigV.zero (by rw [← hI2, up2_row _ _ (by omega), up2_k _ _ _ (by decide), up2_s]) (by rw [← hI2, up2_row _ _ (by omega), up2_s])⟩
        · rw [if_neg e2, if_neg e2, if_pos (by omega), up2_a _ _ _ (by omega), up2_k _ _ _ e2, up2_k _ _ _ e2, up2_a _ _ _ (by omega), h1, h2, if_pos (by omega), if_pos (by omega)]
          have w := v3 (j - 1) (by omega)
          exact ⟨w.1, w.2.1, w.2.2.1, w.2.2.2.1, hBk (j - 1) _ (by omega) (fun q => by have := inj (j - 1) n (by omega) hrm q; omega) w.2.2.2.2⟩
    · skip
      have w := v3 (k - 1) (by omega)
      have pk := hP.1 (k - 1) (by omega)
      have hBk := s12 (σ (k - 1)) pk.2
      have hGk : G (t + 3) (k - 1) = some (t + 4 + 2 * σ (k - 1)) := by rw [h3, if_neg (by omega)]; exact pk.1
      refine q_aload_n d_Table_open_34 rfl ?_
      refine q_getR d_Table_open_35 fl_Table_7 s1 ⟨rfl, by decide⟩ (by rw [hG _ _ (by omega)]; exact s2) ?_
      refine q_iload d_Table_open_38 rfl ?_
      refine q_aload_n d_Table_open_40 rfl ?_
      refine q_getR d_Table_open_41 fl_Table_7 s1 ⟨rfl, by decide⟩ (by rw [hG _ _ (by omega)]; exact s2) ?_
      refine q_iload d_Table_open_44 rfl ?_
      refine j_iconst d_Table_open_46 ?_
      refine j_isub d_Table_open_47 ?_
      refine j_lald (j := (k - 1)) (v := (cL (((l.getD (k - 1) (0, 0, 0)).1 : Nat) : Int))) d_Table_open_48 s3 s4 (by omega) (by omega) (by omega) (by rw [h1, if_neg (by omega)]; exact w.1) ?_
      refine j_last (j := k) d_Table_open_49 s3 s4 (by omega) (by omega) (by omega) ?_
      refine q_aload_n d_Table_open_50 rfl ?_
      refine q_getR d_Table_open_51 fl_Table_13 s1 ⟨rfl, by decide⟩ (by rw [hG _ _ (by omega)]; exact s5) ?_
      refine q_iload d_Table_open_54 rfl ?_
      refine q_aload_n d_Table_open_56 rfl ?_
      refine q_getR d_Table_open_57 fl_Table_13 s1 ⟨rfl, by decide⟩ (by rw [hG _ _ (by omega)]; exact s5) ?_
      refine q_iload d_Table_open_60 rfl ?_
      refine j_iconst d_Table_open_62 ?_
      refine j_isub d_Table_open_63 ?_
      refine j_lald (j := (k - 1)) (v := (cL (((l.getD (k - 1) (0, 0, 0)).2.1 : Nat) : Int))) d_Table_open_64 s6 s7 (by omega) (by omega) (by omega) ((up2_a _ _ _ (by omega)).trans ((by rw [h2, if_neg (by omega)]; exact w.2.1))) ?_
      refine j_last (j := k) d_Table_open_65 s6 s7 (by omega) (by omega) (by omega) ?_
      refine q_aload_n d_Table_open_66 rfl ?_
      refine q_getR d_Table_open_67 fl_Table_18 s1 ⟨rfl, by decide⟩ (by rw [hG _ _ (by omega)]; exact s8) ?_
      refine q_iload d_Table_open_70 rfl ?_
      refine q_aload_n d_Table_open_72 rfl ?_
      refine q_getR d_Table_open_73 fl_Table_18 s1 ⟨rfl, by decide⟩ (by rw [hG _ _ (by omega)]; exact s8) ?_
      refine q_iload d_Table_open_76 rfl ?_
      refine j_iconst d_Table_open_78 ?_
      refine j_isub d_Table_open_79 ?_
      refine j_aald (j := (k - 1)) d_Table_open_80 s9 ⟨rfl, rfl⟩ s10 (by omega) (by omega) (by omega) (by rw [hGk]; first | done | rfl) ?_
      refine j_aastB (j := k) d_Table_open_81 s9 s10 (by omega) (by omega) (by omega) hBk.1 ?_
      refine j_iinc (lv' := [(7, .int (cI ((k : Int) + (-1)))), (0, .ref t), (1, .long (cL (x : Int))), (3, .long (cL (y : Int))), (5, .int (cI (p : Int))), (6, .ref (t + 4 + 2 * σ n))]) d_Table_open_82 rfl (by decide) rfl ?_
      refine q_goto (tgt := 27) d_Table_open_85 (by decide) ?_
      generalize hK2 : (up2 (up2 K (t + 1) k (cL (((l.getD (k - 1) (0, 0, 0)).1 : Nat) : Int))) (t + 2) k (cL (((l.getD (k - 1) (0, 0, 0)).2.1 : Nat) : Int))) = K2
      generalize hG2 : (up2 G (t + 3) k (some (t + 4 + 2 * σ (k - 1)))) = G2
      refine Run.lv (lv' := [(0, .ref t), (1, .long (cL (x : Int))), (3, .long (cL (y : Int))), (5, .int (cI (p : Int))), (6, .ref (t + 4 + 2 * σ n)), (7, .int (cI ((k : Int) + (-1))))]) (by intro q hq; simp only [List.mem_cons, List.not_mem_nil, or_false] at hq ⊢; rcases hq with rfl | rfl | rfl | rfl | rfl | rfl <;> simp) ?_
      refine ih (k - 1) _ K2 G2 (by omega) (by omega) (by omega) (by omega) (fun j => ?_) (fun j => ?_) (fun j => ?_) (by rw [← hK2]; exact (hFL.tu (Or.inl rfl)).tu (Or.inr rfl)) (fun a k' e => by rw [← hG2, up2_row _ _ e]; exact hG a k' e)
      · rw [← hK2, up2_a _ _ _ (by omega)]
        by_cases e : j = k
        · rw [e, up2_s, if_pos (by omega)]; exact w.1.symm
        · rw [up2_k _ _ _ e, h1]; by_cases e2 : k < j ∧ j ≤ n
          · rw [if_pos e2, if_pos (by omega)]
          · rw [if_neg e2, if_neg (by omega)]
      · rw [← hK2]
        by_cases e : j = k
        · rw [e, up2_s, if_pos (by omega)]; exact w.2.1.symm
        · rw [up2_k _ _ _ e, up2_a _ _ _ (by omega), h2]; by_cases e2 : k < j ∧ j ≤ n
          · rw [if_pos e2, if_pos (by omega)]
          · rw [if_neg e2, if_neg (by omega)]
      · rw [← hG2]
        by_cases e : j = k
        · rw [e, up2_s, if_pos (by omega)]; exact pk.1.symm
        · rw [up2_k _ _ _ e, h3]; by_cases e2 : k < j ∧ j ≤ n
          · rw [if_pos e2, if_pos (by omega)]
          · rw [if_neg e2, if_neg (by omega)]
  refine Run.lv (lv' := [(0, .ref t), (1, .long (cL (x : Int))), (3, .long (cL (y : Int))), (5, .int (cI (p : Int))), (6, .ref (t + 4 + 2 * σ n)), (7, .int (cI (n : Int)))]) (by intro q hq; simp only [List.mem_cons, List.not_mem_nil, or_false] at hq ⊢; rcases hq with rfl | rfl | rfl | rfl | rfl | rfl <;> simp) ?_
  exact loop (n + 1) n _ L R (by omega) rfl hle (Nat.le_refl _) (fun j => by rw [if_neg (by omega)]) (fun j => by rw [if_neg (by omega)]) (fun j => by rw [if_neg (by omega)]) Fx.rf (fun _ _ _ => rfl)

