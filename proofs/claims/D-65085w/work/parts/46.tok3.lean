/-! ===== 46 TOKENS: names ===== -/
theorem d_Tokens_readName_0 : decode m_Tokens_readName.2.1 0 = .ok (.aload_n 0, 1) := by decide +kernel
theorem d_Tokens_readName_1 : decode m_Tokens_readName.2.1 1 = .ok (.lconst 0, 1) := by decide +kernel
theorem d_Tokens_readName_2 : decode m_Tokens_readName.2.1 2 = .ok (.putfield 86, 3) := by decide +kernel
theorem d_Tokens_readName_5 : decode m_Tokens_readName.2.1 5 = .ok (.aload_n 0, 1) := by decide +kernel
theorem d_Tokens_readName_6 : decode m_Tokens_readName.2.1 6 = .ok (.getfield 37, 3) := by decide +kernel
theorem d_Tokens_readName_9 : decode m_Tokens_readName.2.1 9 = .ok (.iload_n 1, 1) := by decide +kernel
theorem d_Tokens_readName_10 : decode m_Tokens_readName.2.1 10 = .ok (.isub, 1) := by decide +kernel
theorem d_Tokens_readName_11 : decode m_Tokens_readName.2.1 11 = .ok (.i2l, 1) := by decide +kernel
theorem d_Tokens_readName_12 : decode m_Tokens_readName.2.1 12 = .ok (.lconst 1, 1) := by decide +kernel
theorem d_Tokens_readName_13 : decode m_Tokens_readName.2.1 13 = .ok (.ldc2_w 107, 3) := by decide +kernel
theorem d_Tokens_readName_16 : decode m_Tokens_readName.2.1 16 = .ok (.invokestatic 71, 3) := by decide +kernel
theorem d_Tokens_readName_19 : decode m_Tokens_readName.2.1 19 = .ok (.ifCond .eq 25, 3) := by decide +kernel
theorem d_Tokens_readName_22 : decode m_Tokens_readName.2.1 22 = .ok (.aload_n 0, 1) := by decide +kernel
theorem d_Tokens_readName_23 : decode m_Tokens_readName.2.1 23 = .ok (.iload_n 1, 1) := by decide +kernel
theorem d_Tokens_readName_24 : decode m_Tokens_readName.2.1 24 = .ok (.invokevirtual 56, 3) := by decide +kernel
theorem d_Tokens_readName_27 : decode m_Tokens_readName.2.1 27 = .ok (.i2l, 1) := by decide +kernel
theorem d_Tokens_readName_28 : decode m_Tokens_readName.2.1 28 = .ok (.ldc2_w 109, 3) := by decide +kernel
theorem d_Tokens_readName_31 : decode m_Tokens_readName.2.1 31 = .ok (.ldc2_w 111, 3) := by decide +kernel
theorem d_Tokens_readName_34 : decode m_Tokens_readName.2.1 34 = .ok (.invokestatic 71, 3) := by decide +kernel
theorem d_Tokens_readName_37 : decode m_Tokens_readName.2.1 37 = .ok (.ifCond .eq 7, 3) := by decide +kernel
theorem d_Tokens_readName_40 : decode m_Tokens_readName.2.1 40 = .ok (.iconst 1, 1) := by decide +kernel
theorem d_Tokens_readName_41 : decode m_Tokens_readName.2.1 41 = .ok (.goto 4, 3) := by decide +kernel
theorem d_Tokens_readName_44 : decode m_Tokens_readName.2.1 44 = .ok (.iconst 0, 1) := by decide +kernel
theorem d_Tokens_readName_45 : decode m_Tokens_readName.2.1 45 = .ok (.istore_n 2, 1) := by decide +kernel
theorem d_Tokens_readName_46 : decode m_Tokens_readName.2.1 46 = .ok (.iload_n 1, 1) := by decide +kernel
theorem d_Tokens_readName_47 : decode m_Tokens_readName.2.1 47 = .ok (.istore_n 3, 1) := by decide +kernel
theorem d_Tokens_readName_48 : decode m_Tokens_readName.2.1 48 = .ok (.iload_n 3, 1) := by decide +kernel
theorem d_Tokens_readName_49 : decode m_Tokens_readName.2.1 49 = .ok (.aload_n 0, 1) := by decide +kernel
theorem d_Tokens_readName_50 : decode m_Tokens_readName.2.1 50 = .ok (.getfield 37, 3) := by decide +kernel
theorem d_Tokens_readName_53 : decode m_Tokens_readName.2.1 53 = .ok (.if_icmp .ge 73, 3) := by decide +kernel
theorem d_Tokens_readName_56 : decode m_Tokens_readName.2.1 56 = .ok (.iload_n 2, 1) := by decide +kernel
theorem d_Tokens_readName_57 : decode m_Tokens_readName.2.1 57 = .ok (.ifCond .eq 69, 3) := by decide +kernel
theorem d_Tokens_readName_60 : decode m_Tokens_readName.2.1 60 = .ok (.aload_n 0, 1) := by decide +kernel
theorem d_Tokens_readName_61 : decode m_Tokens_readName.2.1 61 = .ok (.iload_n 3, 1) := by decide +kernel
theorem d_Tokens_readName_62 : decode m_Tokens_readName.2.1 62 = .ok (.invokevirtual 56, 3) := by decide +kernel
theorem d_Tokens_readName_65 : decode m_Tokens_readName.2.1 65 = .ok (.i2l, 1) := by decide +kernel
theorem d_Tokens_readName_66 : decode m_Tokens_readName.2.1 66 = .ok (.ldc2_w 109, 3) := by decide +kernel
theorem d_Tokens_readName_69 : decode m_Tokens_readName.2.1 69 = .ok (.ldc2_w 111, 3) := by decide +kernel
theorem d_Tokens_readName_72 : decode m_Tokens_readName.2.1 72 = .ok (.invokestatic 71, 3) := by decide +kernel
theorem d_Tokens_readName_75 : decode m_Tokens_readName.2.1 75 = .ok (.ifCond .ne 21, 3) := by decide +kernel
theorem d_Tokens_readName_78 : decode m_Tokens_readName.2.1 78 = .ok (.aload_n 0, 1) := by decide +kernel
theorem d_Tokens_readName_79 : decode m_Tokens_readName.2.1 79 = .ok (.iload_n 3, 1) := by decide +kernel
theorem d_Tokens_readName_80 : decode m_Tokens_readName.2.1 80 = .ok (.invokevirtual 56, 3) := by decide +kernel
theorem d_Tokens_readName_83 : decode m_Tokens_readName.2.1 83 = .ok (.i2l, 1) := by decide +kernel
theorem d_Tokens_readName_84 : decode m_Tokens_readName.2.1 84 = .ok (.ldc2_w 67, 3) := by decide +kernel
theorem d_Tokens_readName_87 : decode m_Tokens_readName.2.1 87 = .ok (.ldc2_w 69, 3) := by decide +kernel
theorem d_Tokens_readName_90 : decode m_Tokens_readName.2.1 90 = .ok (.invokestatic 71, 3) := by decide +kernel
theorem d_Tokens_readName_93 : decode m_Tokens_readName.2.1 93 = .ok (.ifCond .eq 7, 3) := by decide +kernel
theorem d_Tokens_readName_96 : decode m_Tokens_readName.2.1 96 = .ok (.iconst 1, 1) := by decide +kernel
theorem d_Tokens_readName_97 : decode m_Tokens_readName.2.1 97 = .ok (.goto 4, 3) := by decide +kernel
theorem d_Tokens_readName_100 : decode m_Tokens_readName.2.1 100 = .ok (.iconst 0, 1) := by decide +kernel
theorem d_Tokens_readName_101 : decode m_Tokens_readName.2.1 101 = .ok (.istore_n 2, 1) := by decide +kernel
theorem d_Tokens_readName_102 : decode m_Tokens_readName.2.1 102 = .ok (.aload_n 0, 1) := by decide +kernel
theorem d_Tokens_readName_103 : decode m_Tokens_readName.2.1 103 = .ok (.aload_n 0, 1) := by decide +kernel
theorem d_Tokens_readName_104 : decode m_Tokens_readName.2.1 104 = .ok (.getfield 86, 3) := by decide +kernel
theorem d_Tokens_readName_107 : decode m_Tokens_readName.2.1 107 = .ok (.bipush 8, 2) := by decide +kernel
theorem d_Tokens_readName_109 : decode m_Tokens_readName.2.1 109 = .ok (.lshl, 1) := by decide +kernel
theorem d_Tokens_readName_110 : decode m_Tokens_readName.2.1 110 = .ok (.aload_n 0, 1) := by decide +kernel
theorem d_Tokens_readName_111 : decode m_Tokens_readName.2.1 111 = .ok (.iload_n 3, 1) := by decide +kernel
theorem d_Tokens_readName_112 : decode m_Tokens_readName.2.1 112 = .ok (.invokevirtual 56, 3) := by decide +kernel
theorem d_Tokens_readName_115 : decode m_Tokens_readName.2.1 115 = .ok (.i2l, 1) := by decide +kernel
theorem d_Tokens_readName_116 : decode m_Tokens_readName.2.1 116 = .ok (.lor, 1) := by decide +kernel
theorem d_Tokens_readName_117 : decode m_Tokens_readName.2.1 117 = .ok (.putfield 86, 3) := by decide +kernel
theorem d_Tokens_readName_120 : decode m_Tokens_readName.2.1 120 = .ok (.iinc 3 1, 3) := by decide +kernel
theorem d_Tokens_readName_123 : decode m_Tokens_readName.2.1 123 = .ok (.goto (-75), 3) := by decide +kernel
theorem d_Tokens_readName_126 : decode m_Tokens_readName.2.1 126 = .ok (.iload_n 2, 1) := by decide +kernel
theorem d_Tokens_readName_127 : decode m_Tokens_readName.2.1 127 = .ok (.ifCond .ne 8, 3) := by decide +kernel
theorem d_Tokens_readName_130 : decode m_Tokens_readName.2.1 130 = .ok (.aload_n 0, 1) := by decide +kernel
theorem d_Tokens_readName_131 : decode m_Tokens_readName.2.1 131 = .ok (.iconst 1, 1) := by decide +kernel
theorem d_Tokens_readName_132 : decode m_Tokens_readName.2.1 132 = .ok (.invokevirtual 96, 3) := by decide +kernel
theorem d_Tokens_readName_135 : decode m_Tokens_readName.2.1 135 = .ok (.return_, 1) := by decide +kernel
/-- the name that k bytes from g on are -/
def nvF (t : Nat → Nat) (g : Nat) : Nat → Nat
  | 0 => 0
  | k + 1 => nvF t g k * 256 + t (g + k)
theorem nvF_lt {t : Nat → Nat} {g : Nat} : ∀ k, (∀ j, j < k → t (g + j) < 256) → nvF t g k < 256 ^ k
  | 0, _ => Nat.zero_lt_one
  | k + 1, h => by
    have ih := nvF_lt k fun j hj => h j (by omega)
    have hk := h k (by omega)
    rw [Nat.pow_succ]
    show nvF t g k * 256 + t (g + k) < _
    omega
/-- whether the bytes from g to e are a name (or a keyword) -/
def NamR (t : Nat → Nat) (g e : Nat) : Prop := g < e ∧ e - g ≤ 8 ∧ ltr (t g) ∧ ∀ j, g ≤ j → j < e → (ltr (t j) ∨ dgt (t j))
theorem nvF_b {t : Nat → Nat} {g : Nat} (h3 : ltr (t g)) : ∀ k, 0 < k → (∀ j, j < k → (ltr (t (g + j)) ∨ dgt (t (g + j)))) → nvF t g k < 128 * 256 ^ (k - 1)
  | 0, h, _ => absurd h (by decide)
  | k + 1, _, h4 => by
    have hk4 := h4 k (by omega)
    rw [Nat.add_sub_cancel]
    show nvF t g k * 256 + t (g + k) < _
    rcases Nat.eq_zero_or_pos k with z | z
    · subst z
      show 0 * 256 + t (g + 0) < 128 * 256 ^ 0
      rw [Nat.pow_zero]; omega
    · have q := nvF_b h3 k z fun j hj => h4 j (by omega)
      obtain ⟨j, rfl⟩ : ∃ j, k = j + 1 := ⟨k - 1, by omega⟩
      rw [Nat.add_sub_cancel] at q
      rw [Nat.pow_succ]
      omega
theorem up2_uu {α : Type} (f : Nat → Nat → α) (a k : Nat) (v w : α) : up2 (up2 f a k v) a k w = up2 f a k w := by
  funext q j
  by_cases h : q = a ∧ j = k
  · rw [h.1, h.2, up2_s, up2_s]
  · unfold up2; rw [if_neg h, if_neg h, if_neg h]
theorem nvF_63 {t : Nat → Nat} {g e : Nat} (h : NamR t g e) : nvF t g (e - g) < 9223372036854775808 := by
  obtain ⟨h1, h2, h3, h4⟩ := h
  have hb : ∀ k, k ≤ e - g → nvF t g k < 128 * 256 ^ (k - 1) ∨ k = 0 := by
    intro k
    induction k with
    | zero => intro _; exact Or.inr rfl
    | succ k ih =>
      intro hk
      left
      have hk4 := h4 (g + k) (by omega) (by omega)
      rw [Nat.add_sub_cancel]
      show nvF t g k * 256 + t (g + k) < _
      rcases Nat.eq_zero_or_pos k with z | z
      · subst z
        show 0 * 256 + t (g + 0) < 128 * 256 ^ 0
        rw [Nat.pow_zero]; omega
      · have q := (ih (by omega)).resolve_right (by omega)
        obtain ⟨j, rfl⟩ : ∃ j, k = j + 1 := ⟨k - 1, by omega⟩
        rw [Nat.add_sub_cancel] at q
        rw [Nat.pow_succ]
        omega
  rcases hb (e - g) (Nat.le_refl _) with q | q
  · have : 256 ^ (e - g - 1) ≤ 256 ^ 7 := Nat.pow_le_pow_right (by decide) (by omega)
    omega
  · omega
theorem shl8 {x b : Nat} (hb : b < 256) (hx : x < 36028797018963968) : cL (x : Int) <<< ((cI 8).toInt64 &&& 63) ||| cL (b : Int) = cL ((x * 256 + b : Nat) : Int) := by
  have e1 : ((cI 8).toInt64 &&& 63) = (8 : Int64) := by decide
  rw [e1, cL_lN, cL_lN, cL_lN]
  apply Int64.toBitVec_inj.mp
  show ((Int64.ofNat x).toBitVec <<< ((8 : Int64).toBitVec.smod 64)) ||| (Int64.ofNat b).toBitVec = (Int64.ofNat (x * 256 + b)).toBitVec
  rw [Int64.toBitVec_ofNat', Int64.toBitVec_ofNat', Int64.toBitVec_ofNat']
  apply BitVec.eq_of_toNat_eq
  rw [BitVec.toNat_or, show ((8 : Int64).toBitVec.smod 64) = (8#64) by decide]
  simp only [BitVec.shiftLeft_eq', BitVec.toNat_shiftLeft, BitVec.toNat_ofNat]
  rw [Nat.mod_eq_of_lt (show x < 2 ^ 64 by omega), Nat.mod_eq_of_lt (show b < 2 ^ 64 by omega), Nat.mod_eq_of_lt (show x * 256 + b < 2 ^ 64 by omega)]
  rw [show (8 : Nat) % 2 ^ 64 = 8 from rfl, Nat.shiftLeft_eq, Nat.mod_eq_of_lt (by omega), show x * 2 ^ 8 = 2 ^ 8 * x from Nat.mul_comm _ _, ← Nat.two_pow_add_eq_or_of_lt (by omega)]
/-- readName: what it comes to; L is changed at the name alone -/
def rmQ (o b : Nat) (t : Nat → Nat) (g e : Nat) (I : M32) (L : M64) (R : MR) (T : SH) : QT := fun oc I' L' R' T' =>
  (NamR t g e ∧ oc = .returned none ∧ I' = I ∧ L' o 5 = cL (nvF t g (e - g)) ∧ (∀ a k, ¬ (a = o ∧ k = 5) → L' a k = L a k) ∧ R' = R ∧ T' = T) ∨ (¬ NamR t g e ∧ ∃ x, oc = .threw x ∧ badE o 1 b I L R T x I' L' R' T')
theorem c_Tokens_readName (d : Nat) {o P N b e g : Nat} {t : Nat → Nat} {I : M32} {L : M64} {R : MR} {T : SH} (hd : 2 ≤ d) (hS : TkS R T o P) (hV : TxV I o N t) (hb : I o 4 = cI b) (he : I o 2 = cI e) (hbe : b < e) (heN : e ≤ N) (hg : g = b ∨ g = b + 1) :
    Call m_Tokens_readName y_Tokens_readName d 0 0 [.ref o, .int (cI g)] I L R T (rmQ o b t g e I L R T) := by
  refine Call.ofRun (by decide) ⟨rfl, rfl⟩ (Nat.le_of_ble_eq_true rfl) ?_
  refine Run.gen fun Q hQ => ?_
  have hN := hV.1
  have fin : ∀ (w : Nat) (u : Bool) (k : Nat) (z : Int) (L1 : M64), (u = true ↔ NamR t g e) → (u = true → w = nvF t g (e - g)) → L1 = up2 L o 5 (cL w) → Run m_Tokens_readName d 0 0 126 [(0, .ref o), (1, .int (cI (g : Int))), (2, .int (cI (bI (u = true)))), (3, .int (cI z))] [] I L1 R T Q := by
    intro w u k z L1 hu hw hL1
    refine q_iload_n d_Tokens_readName_126 rfl ?_
    refine j_ifb_ne (tgt := 135) d_Tokens_readName_127 (by decide) (fun h1 => ?_) (fun h1 => ?_)
    rotate_left
    · skip
      refine q_aload_n d_Tokens_readName_130 rfl ?_
      refine j_iconst d_Tokens_readName_131 ?_
      refine q_callV (ci := 5) (rc := 0) (rs := 0) (rest := []) d_Tokens_readName_132 ml_Tokens_96 ok_Tokens_fail rfl hS.1 (by decide) (c_Tokens_fail (d - 1) (by omega) hS hb) rfl rfl (by omega) (Nat.le_of_ble_eq_true rfl) (fun v I' L' R' T' h => by cases h.1) (fun x I' L' R' T' h => ?_)
      obtain ⟨h0, rfl, rfl, rfl, rfl⟩ := h
      cases h0
      skip
      refine thr_out hS.tag (by decide) (by unfold Seek; rfl) (hQ _ _ _ _ _ (Or.inr ⟨fun h => h1 (hu.mpr h), _, rfl, rfl, by rw [up2_k _ _ _ (by omega), up2_s], by rw [up2_s], bad_fr FrK.rf, fun a k h => ?_, rfl, rfl⟩))
      by_cases e1 : a = o
      · rw [hL1, e1, up2_k _ _ _ (fun h2 => h ⟨e1, h2⟩)]
      · rw [hL1, up2_a _ _ _ e1]
    refine q_return d_Tokens_readName_135 rfl ?_
    refine hQ _ _ _ _ _ ?_
    refine Or.inl ⟨hu.mp h1, rfl, rfl, by rw [hL1, up2_s, hw h1], fun a k h => ?_, rfl, rfl⟩
    by_cases e1 : a = o
    · rw [hL1, e1, up2_k _ _ _ (fun h2 => h ⟨e1, h2⟩)]
    · rw [hL1, up2_a _ _ _ e1]
  have loop : ∀ (fu k w : Nat) (u : Bool) (z : Int) (L1 : M64), e - k < fu → z = k → g ≤ k → k ≤ e → (u = true → w = nvF t g (k - g) ∧ g < e ∧ e - g ≤ 8 ∧ ltr (t g) ∧ ∀ j, g ≤ j → j < k → (ltr (t j) ∨ dgt (t j))) → (u = false → ¬ NamR t g e) → L1 = up2 L o 5 (cL w) → Run m_Tokens_readName d 0 0 48 [(0, .ref o), (1, .int (cI (g : Int))), (2, .int (cI (bI (u = true)))), (3, .int (cI z))] [] I L1 R T Q := by
    intro fu
    induction fu with
    | zero => intro k w u z L1 h; omega
    | succ fu ih =>
    intro k w u z L1 hfu hz hgk hk hT hFa hL1
    subst hz
    refine q_iload_n d_Tokens_readName_48 rfl ?_
    refine q_aload_n d_Tokens_readName_49 rfl ?_
    refine j_getI (v := (cI (e : Int))) d_Tokens_readName_50 fl_Tokens_37 hS.1 ⟨rfl, by decide⟩ he ?_
    refine j_icmp_ge (tgt := 126) d_Tokens_readName_53 (by decide) (by omega) (by omega) (fun h2 => ?_) (fun h2 => ?_)
    · skip
      obtain rfl : k = e := by omega
      exact fin w u k _ L1 ⟨fun h => by have := hT h; exact ⟨this.2.1, this.2.2.1, this.2.2.2.1, this.2.2.2.2⟩, fun h => by cases u with | true => rfl | false => exact absurd h (hFa rfl)⟩ (fun h => (hT h).1) hL1
    refine q_iload_n d_Tokens_readName_56 rfl ?_
    refine j_ifb_eq (tgt := 126) d_Tokens_readName_57 (by decide) (fun h3 => ?_) (fun h3 => ?_)
    · skip
      have hu : u = false := by cases u with | true => exact absurd rfl h3 | false => rfl
      exact fin w u k _ L1 ⟨fun h => absurd h h3, fun h => absurd h (hFa hu)⟩ (fun h => absurd h h3) hL1
    obtain ⟨hw, hge, hl8, hl, hall⟩ := hT h3
    have tk := hV.2 k (by omega)
    refine q_aload_n d_Tokens_readName_60 rfl ?_
    refine q_iload_n d_Tokens_readName_61 rfl ?_
    refine q_callV (ci := 5) (rc := 0) (rs := 0) (rest := []) d_Tokens_readName_62 ml_Tokens_56 ok_Tokens_byteAt rfl hS.1 (by decide) (c_Tokens_byteAt (d - 1) hS hV (by omega)) rfl rfl (by omega) (Nat.le_of_ble_eq_true rfl) (kp_I ?_) kt_I
    refine j_i2l d_Tokens_readName_65 (by omega) ?_
    refine j_ldc2 (z := 97) d_Tokens_readName_66 (inT4 153 rfl) (by decide) ?_
    refine j_ldc2 (z := 122) d_Tokens_readName_69 (inT4 154 rfl) (by decide) ?_
    refine q_callS (rc := 0) (rs := 0) (rest := []) d_Tokens_readName_72 ml_Tokens_71 ok_Platform_within (c_Platform_within (d - 1) (by omega) (by omega) (by omega)) rfl rfl (by omega) (Nat.le_of_ble_eq_true rfl) (kp_I ?_) kt_I
    have app : ∀ (u2 : Bool), (u2 = true ↔ (ltr (t k) ∨ dgt (t k))) → Run m_Tokens_readName d 0 0 101 [(0, .ref o), (1, .int (cI (g : Int))), (3, .int (cI (k : Int)))] [.int (cI (bI (u2 = true)))] I L1 R T Q := by
      intro u2 hu2
      refine q_istore_n (lv' := [(2, .int (cI (bI (u2 = true)))), (0, .ref o), (1, .int (cI (g : Int))), (3, .int (cI (k : Int)))]) d_Tokens_readName_101 (by decide) rfl ?_
      refine q_aload_n d_Tokens_readName_102 rfl ?_
      refine q_aload_n d_Tokens_readName_103 rfl ?_
      refine j_getL (v := (cL (w : Int))) d_Tokens_readName_104 fl_Tokens_86 hS.1 ⟨rfl, by decide⟩ (by rw [hL1, up2_s]) ?_
      refine j_bipush d_Tokens_readName_107 (by decide) ?_
      refine q_lshl d_Tokens_readName_109 ?_
      refine q_aload_n d_Tokens_readName_110 rfl ?_
      refine q_iload_n d_Tokens_readName_111 rfl ?_
      refine q_callV (ci := 5) (rc := 0) (rs := 0) (rest := [.long ((cL (w : Int)) <<< ((cI 8).toInt64 &&& 63)), .ref o]) d_Tokens_readName_112 ml_Tokens_56 ok_Tokens_byteAt rfl hS.1 (by decide) (c_Tokens_byteAt (d - 1) hS hV (by omega)) rfl rfl (by omega) (Nat.le_of_ble_eq_true rfl) (kp_I ?_) kt_I
      have hwl : w < 36028797018963968 := by
        rcases Nat.eq_zero_or_pos (k - g) with q | q
        · rw [hw, q]; show 0 < _; decide
        · have h5 := nvF_b hl (k - g) q fun j hj => hall (g + j) (by omega) (by omega)
          rw [← hw] at h5
          have : 256 ^ (k - g - 1) ≤ 256 ^ 6 := Nat.pow_le_pow_right (by decide) (by omega)
          omega
      refine j_i2l d_Tokens_readName_115 (by omega) ?_
      refine q_lor d_Tokens_readName_116 ?_
      refine Run.top (v := .long (cL (w * 256 + t k : Int))) (by rw [shl8 tk.1 hwl]; simp) ?_
      refine q_putL d_Tokens_readName_117 fl_Tokens_86 hS.1 ⟨rfl, by decide, rfl, rfl⟩ ?_
      refine j_iinc (lv' := [(3, .int (cI ((k : Int) + 1))), (2, .int (cI (bI (u2 = true)))), (0, .ref o), (1, .int (cI (g : Int)))]) d_Tokens_readName_120 rfl (by decide) rfl ?_
      refine q_goto (tgt := 48) d_Tokens_readName_123 (by decide) ?_
      refine Run.lv (lv' := [(0, .ref o), (1, .int (cI (g : Int))), (2, .int (cI (bI (u2 = true)))), (3, .int (cI ((k : Int) + 1)))]) (by intro q hq; simp only [List.mem_cons, List.not_mem_nil, or_false] at hq ⊢; rcases hq with rfl | rfl | rfl | rfl <;> simp) ?_
      refine ih (k + 1) (w * 256 + t k) u2 _ _ (by omega) (by omega) (by omega) (by omega) (fun h => ⟨?_, hge, hl8, hl, fun j h1 h2 => if q : j = k then (by subst q; exact hu2.mp h) else hall j h1 (by omega)⟩) (fun h hN => by have := hu2.mpr (hN.2.2.2 k hgk (by omega)); rw [h] at this; cases this) (by rw [hL1, up2_uu]; simp)
      rw [hw, show k + 1 - g = (k - g) + 1 by omega]
      show _ = nvF t g (k - g) * 256 + t (g + (k - g))
      rw [show g + (k - g) = k by omega]
    refine j_ifb_ne (tgt := 96) d_Tokens_readName_75 (by decide) (fun h4 => ?_) (fun h4 => ?_)
    · skip
      refine j_iconst d_Tokens_readName_96 ?_
      refine q_goto (tgt := 101) d_Tokens_readName_97 (by decide) ?_
      refine Run.top (v := .int (cI (bI (true = true)))) (by simp [bI]) ?_
      refine Run.lv (lv' := [(0, .ref o), (1, .int (cI (g : Int))), (3, .int (cI (k : Int)))]) (by intro q hq; simp only [List.mem_cons, List.not_mem_nil, or_false] at hq ⊢; rcases hq with rfl | rfl | rfl <;> simp) ?_
      exact app true ⟨fun _ => Or.inl (by omega), fun _ => rfl⟩
    · skip
      refine q_aload_n d_Tokens_readName_78 rfl ?_
      refine q_iload_n d_Tokens_readName_79 rfl ?_
      refine q_callV (ci := 5) (rc := 0) (rs := 0) (rest := []) d_Tokens_readName_80 ml_Tokens_56 ok_Tokens_byteAt rfl hS.1 (by decide) (c_Tokens_byteAt (d - 1) hS hV (by omega)) rfl rfl (by omega) (Nat.le_of_ble_eq_true rfl) (kp_I ?_) kt_I
      refine j_i2l d_Tokens_readName_83 (by omega) ?_
      refine j_ldc2 (z := 48) d_Tokens_readName_84 (inT4 119 rfl) (by decide) ?_
      refine j_ldc2 (z := 57) d_Tokens_readName_87 (inT4 120 rfl) (by decide) ?_
      refine q_callS (rc := 0) (rs := 0) (rest := []) d_Tokens_readName_90 ml_Tokens_71 ok_Platform_within (c_Platform_within (d - 1) (by omega) (by omega) (by omega)) rfl rfl (by omega) (Nat.le_of_ble_eq_true rfl) (kp_I ?_) kt_I
      refine j_ifb_eq (tgt := 100) d_Tokens_readName_93 (by decide) (fun h5 => ?_) (fun h5 => ?_)
      · skip
        refine j_iconst d_Tokens_readName_100 ?_
        refine Run.top (v := .int (cI (bI (false = true)))) (by simp [bI]) ?_
        refine Run.lv (lv' := [(0, .ref o), (1, .int (cI (g : Int))), (3, .int (cI (k : Int)))]) (by intro q hq; simp only [List.mem_cons, List.not_mem_nil, or_false] at hq ⊢; rcases hq with rfl | rfl | rfl <;> simp) ?_
        exact app false ⟨fun h => (by cases h), fun h => (by omega)⟩
      · skip
        refine j_iconst d_Tokens_readName_96 ?_
        refine q_goto (tgt := 101) d_Tokens_readName_97 (by decide) ?_
        refine Run.top (v := .int (cI (bI (true = true)))) (by simp [bI]) ?_
        refine Run.lv (lv' := [(0, .ref o), (1, .int (cI (g : Int))), (3, .int (cI (k : Int)))]) (by intro q hq; simp only [List.mem_cons, List.not_mem_nil, or_false] at hq ⊢; rcases hq with rfl | rfl | rfl <;> simp) ?_
        exact app true ⟨fun _ => Or.inr (by omega), fun _ => rfl⟩
  have beg : ∀ (u : Bool), (u = true → g < e ∧ e - g ≤ 8 ∧ ltr (t g)) → (u = false → ¬ NamR t g e) → Run m_Tokens_readName d 0 0 45 [(0, .ref o), (1, .int (cI (g : Int)))] [.int (cI (bI (u = true)))] I (up2 L o 5 (cL 0)) R T Q := by
    intro u h1 h2
    refine q_istore_n (lv' := [(2, .int (cI (bI (u = true)))), (0, .ref o), (1, .int (cI (g : Int)))]) d_Tokens_readName_45 (by decide) rfl ?_
    refine q_iload_n d_Tokens_readName_46 rfl ?_
    refine q_istore_n (lv' := [(3, .int (cI (g : Int))), (2, .int (cI (bI (u = true)))), (0, .ref o), (1, .int (cI (g : Int)))]) d_Tokens_readName_47 (by decide) rfl ?_
    refine Run.lv (lv' := [(0, .ref o), (1, .int (cI (g : Int))), (2, .int (cI (bI (u = true)))), (3, .int (cI (g : Int)))]) (by intro q hq; simp only [List.mem_cons, List.not_mem_nil, or_false] at hq ⊢; rcases hq with rfl | rfl | rfl | rfl <;> simp) ?_
    exact loop (e - g + 1) g 0 u _ _ (by omega) rfl (Nat.le_refl _) (by omega) (fun h => ⟨by rw [Nat.sub_self]; rfl, (h1 h).1, (h1 h).2.1, (h1 h).2.2, fun j a b => by omega⟩) h2 rfl
  refine q_aload_n d_Tokens_readName_0 rfl ?_
  refine j_lconst (z := 0) d_Tokens_readName_1 (by decide) ?_
  refine q_putL d_Tokens_readName_2 fl_Tokens_86 hS.1 ⟨rfl, by decide, rfl, rfl⟩ ?_
  refine q_aload_n d_Tokens_readName_5 rfl ?_
  refine j_getI (v := (cI (e : Int))) d_Tokens_readName_6 fl_Tokens_37 hS.1 ⟨rfl, by decide⟩ he ?_
  refine q_iload_n d_Tokens_readName_9 rfl ?_
  refine j_isub d_Tokens_readName_10 ?_
  refine j_i2l d_Tokens_readName_11 (by omega) ?_
  refine j_lconst (z := 1) d_Tokens_readName_12 (by decide) ?_
  refine j_ldc2 (z := 8) d_Tokens_readName_13 (inT4 152 rfl) (by decide) ?_
  refine q_callS (rc := 0) (rs := 0) (rest := []) d_Tokens_readName_16 ml_Tokens_71 ok_Platform_within (c_Platform_within (d - 1) (by omega) (by omega) (by omega)) rfl rfl (by omega) (Nat.le_of_ble_eq_true rfl) (kp_I ?_) kt_I
  refine j_ifb_eq (tgt := 44) d_Tokens_readName_19 (by decide) (fun h6 => ?_) (fun h6 => ?_)
  · skip
    refine j_iconst d_Tokens_readName_44 ?_
    refine Run.top (v := .int (cI (bI (false = true)))) (by simp [bI]) ?_
    exact beg false (fun h => by cases h) (fun _ h => by have := h.1; have := h.2.1; omega)
  · skip
    have tg := hV.2 g (by omega)
    refine q_aload_n d_Tokens_readName_22 rfl ?_
    refine q_iload_n d_Tokens_readName_23 rfl ?_
    refine q_callV (ci := 5) (rc := 0) (rs := 0) (rest := []) d_Tokens_readName_24 ml_Tokens_56 ok_Tokens_byteAt rfl hS.1 (by decide) (c_Tokens_byteAt (d - 1) hS hV (by omega)) rfl rfl (by omega) (Nat.le_of_ble_eq_true rfl) (kp_I ?_) kt_I
    refine j_i2l d_Tokens_readName_27 (by omega) ?_
    refine j_ldc2 (z := 97) d_Tokens_readName_28 (inT4 153 rfl) (by decide) ?_
    refine j_ldc2 (z := 122) d_Tokens_readName_31 (inT4 154 rfl) (by decide) ?_
    refine q_callS (rc := 0) (rs := 0) (rest := []) d_Tokens_readName_34 ml_Tokens_71 ok_Platform_within (c_Platform_within (d - 1) (by omega) (by omega) (by omega)) rfl rfl (by omega) (Nat.le_of_ble_eq_true rfl) (kp_I ?_) kt_I
    refine j_ifb_eq (tgt := 44) d_Tokens_readName_37 (by decide) (fun h7 => ?_) (fun h7 => ?_)
    · skip
      refine j_iconst d_Tokens_readName_44 ?_
      refine Run.top (v := .int (cI (bI (false = true)))) (by simp [bI]) ?_
      exact beg false (fun h => by cases h) (fun _ h => by have := h.2.2.1; omega)
    · skip
      refine j_iconst d_Tokens_readName_40 ?_
      refine q_goto (tgt := 45) d_Tokens_readName_41 (by decide) ?_
      refine Run.top (v := .int (cI (bI (true = true)))) (by simp [bI]) ?_
      exact beg true (fun _ => ⟨by omega, by omega, by omega⟩) (fun h => by cases h)

