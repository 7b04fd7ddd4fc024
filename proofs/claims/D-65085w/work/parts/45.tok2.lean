/-! ===== 45 TOKENS: numbers ===== -/
theorem d_Tokens_readNumber_0 : decode m_Tokens_readNumber.2.1 0 = .ok (.aload_n 0, 1) := by decide +kernel
theorem d_Tokens_readNumber_1 : decode m_Tokens_readNumber.2.1 1 = .ok (.aload_n 0, 1) := by decide +kernel
theorem d_Tokens_readNumber_2 : decode m_Tokens_readNumber.2.1 2 = .ok (.getfield 49, 3) := by decide +kernel
theorem d_Tokens_readNumber_5 : decode m_Tokens_readNumber.2.1 5 = .ok (.invokevirtual 56, 3) := by decide +kernel
theorem d_Tokens_readNumber_8 : decode m_Tokens_readNumber.2.1 8 = .ok (.bipush 45, 2) := by decide +kernel
theorem d_Tokens_readNumber_10 : decode m_Tokens_readNumber.2.1 10 = .ok (.if_icmp .ne 12, 3) := by decide +kernel
theorem d_Tokens_readNumber_13 : decode m_Tokens_readNumber.2.1 13 = .ok (.aload_n 0, 1) := by decide +kernel
theorem d_Tokens_readNumber_14 : decode m_Tokens_readNumber.2.1 14 = .ok (.getfield 49, 3) := by decide +kernel
theorem d_Tokens_readNumber_17 : decode m_Tokens_readNumber.2.1 17 = .ok (.iconst 1, 1) := by decide +kernel
theorem d_Tokens_readNumber_18 : decode m_Tokens_readNumber.2.1 18 = .ok (.iadd, 1) := by decide +kernel
theorem d_Tokens_readNumber_19 : decode m_Tokens_readNumber.2.1 19 = .ok (.goto 7, 3) := by decide +kernel
theorem d_Tokens_readNumber_22 : decode m_Tokens_readNumber.2.1 22 = .ok (.aload_n 0, 1) := by decide +kernel
theorem d_Tokens_readNumber_23 : decode m_Tokens_readNumber.2.1 23 = .ok (.getfield 49, 3) := by decide +kernel
theorem d_Tokens_readNumber_26 : decode m_Tokens_readNumber.2.1 26 = .ok (.istore_n 1, 1) := by decide +kernel
theorem d_Tokens_readNumber_27 : decode m_Tokens_readNumber.2.1 27 = .ok (.iload_n 1, 1) := by decide +kernel
theorem d_Tokens_readNumber_28 : decode m_Tokens_readNumber.2.1 28 = .ok (.aload_n 0, 1) := by decide +kernel
theorem d_Tokens_readNumber_29 : decode m_Tokens_readNumber.2.1 29 = .ok (.getfield 37, 3) := by decide +kernel
theorem d_Tokens_readNumber_32 : decode m_Tokens_readNumber.2.1 32 = .ok (.if_icmp .ne 8, 3) := by decide +kernel
theorem d_Tokens_readNumber_35 : decode m_Tokens_readNumber.2.1 35 = .ok (.aload_n 0, 1) := by decide +kernel
theorem d_Tokens_readNumber_36 : decode m_Tokens_readNumber.2.1 36 = .ok (.iconst 1, 1) := by decide +kernel
theorem d_Tokens_readNumber_37 : decode m_Tokens_readNumber.2.1 37 = .ok (.invokevirtual 96, 3) := by decide +kernel
theorem d_Tokens_readNumber_40 : decode m_Tokens_readNumber.2.1 40 = .ok (.iload_n 1, 1) := by decide +kernel
theorem d_Tokens_readNumber_41 : decode m_Tokens_readNumber.2.1 41 = .ok (.istore_n 2, 1) := by decide +kernel
theorem d_Tokens_readNumber_42 : decode m_Tokens_readNumber.2.1 42 = .ok (.iload_n 2, 1) := by decide +kernel
theorem d_Tokens_readNumber_43 : decode m_Tokens_readNumber.2.1 43 = .ok (.aload_n 0, 1) := by decide +kernel
theorem d_Tokens_readNumber_44 : decode m_Tokens_readNumber.2.1 44 = .ok (.getfield 37, 3) := by decide +kernel
theorem d_Tokens_readNumber_47 : decode m_Tokens_readNumber.2.1 47 = .ok (.if_icmp .ge 32, 3) := by decide +kernel
theorem d_Tokens_readNumber_50 : decode m_Tokens_readNumber.2.1 50 = .ok (.aload_n 0, 1) := by decide +kernel
theorem d_Tokens_readNumber_51 : decode m_Tokens_readNumber.2.1 51 = .ok (.iload_n 2, 1) := by decide +kernel
theorem d_Tokens_readNumber_52 : decode m_Tokens_readNumber.2.1 52 = .ok (.invokevirtual 56, 3) := by decide +kernel
theorem d_Tokens_readNumber_55 : decode m_Tokens_readNumber.2.1 55 = .ok (.i2l, 1) := by decide +kernel
theorem d_Tokens_readNumber_56 : decode m_Tokens_readNumber.2.1 56 = .ok (.ldc2_w 67, 3) := by decide +kernel
theorem d_Tokens_readNumber_59 : decode m_Tokens_readNumber.2.1 59 = .ok (.ldc2_w 69, 3) := by decide +kernel
theorem d_Tokens_readNumber_62 : decode m_Tokens_readNumber.2.1 62 = .ok (.invokestatic 71, 3) := by decide +kernel
theorem d_Tokens_readNumber_65 : decode m_Tokens_readNumber.2.1 65 = .ok (.ifCond .ne 8, 3) := by decide +kernel
theorem d_Tokens_readNumber_68 : decode m_Tokens_readNumber.2.1 68 = .ok (.aload_n 0, 1) := by decide +kernel
theorem d_Tokens_readNumber_69 : decode m_Tokens_readNumber.2.1 69 = .ok (.iconst 1, 1) := by decide +kernel
theorem d_Tokens_readNumber_70 : decode m_Tokens_readNumber.2.1 70 = .ok (.invokevirtual 96, 3) := by decide +kernel
theorem d_Tokens_readNumber_73 : decode m_Tokens_readNumber.2.1 73 = .ok (.iinc 2 1, 3) := by decide +kernel
theorem d_Tokens_readNumber_76 : decode m_Tokens_readNumber.2.1 76 = .ok (.goto (-34), 3) := by decide +kernel
theorem d_Tokens_readNumber_79 : decode m_Tokens_readNumber.2.1 79 = .ok (.iload_n 1, 1) := by decide +kernel
theorem d_Tokens_readNumber_80 : decode m_Tokens_readNumber.2.1 80 = .ok (.aload_n 0, 1) := by decide +kernel
theorem d_Tokens_readNumber_81 : decode m_Tokens_readNumber.2.1 81 = .ok (.getfield 37, 3) := by decide +kernel
theorem d_Tokens_readNumber_84 : decode m_Tokens_readNumber.2.1 84 = .ok (.iconst 1, 1) := by decide +kernel
theorem d_Tokens_readNumber_85 : decode m_Tokens_readNumber.2.1 85 = .ok (.isub, 1) := by decide +kernel
theorem d_Tokens_readNumber_86 : decode m_Tokens_readNumber.2.1 86 = .ok (.if_icmp .ge 19, 3) := by decide +kernel
theorem d_Tokens_readNumber_89 : decode m_Tokens_readNumber.2.1 89 = .ok (.aload_n 0, 1) := by decide +kernel
theorem d_Tokens_readNumber_90 : decode m_Tokens_readNumber.2.1 90 = .ok (.iload_n 1, 1) := by decide +kernel
theorem d_Tokens_readNumber_91 : decode m_Tokens_readNumber.2.1 91 = .ok (.invokevirtual 56, 3) := by decide +kernel
theorem d_Tokens_readNumber_94 : decode m_Tokens_readNumber.2.1 94 = .ok (.bipush 48, 2) := by decide +kernel
theorem d_Tokens_readNumber_96 : decode m_Tokens_readNumber.2.1 96 = .ok (.if_icmp .ne 9, 3) := by decide +kernel
theorem d_Tokens_readNumber_99 : decode m_Tokens_readNumber.2.1 99 = .ok (.iinc 1 1, 3) := by decide +kernel
theorem d_Tokens_readNumber_102 : decode m_Tokens_readNumber.2.1 102 = .ok (.goto (-23), 3) := by decide +kernel
theorem d_Tokens_readNumber_105 : decode m_Tokens_readNumber.2.1 105 = .ok (.aload_n 0, 1) := by decide +kernel
theorem d_Tokens_readNumber_106 : decode m_Tokens_readNumber.2.1 106 = .ok (.getfield 37, 3) := by decide +kernel
theorem d_Tokens_readNumber_109 : decode m_Tokens_readNumber.2.1 109 = .ok (.iload_n 1, 1) := by decide +kernel
theorem d_Tokens_readNumber_110 : decode m_Tokens_readNumber.2.1 110 = .ok (.isub, 1) := by decide +kernel
theorem d_Tokens_readNumber_111 : decode m_Tokens_readNumber.2.1 111 = .ok (.sipush 300, 3) := by decide +kernel
theorem d_Tokens_readNumber_114 : decode m_Tokens_readNumber.2.1 114 = .ok (.if_icmp .le 8, 3) := by decide +kernel
theorem d_Tokens_readNumber_117 : decode m_Tokens_readNumber.2.1 117 = .ok (.aload_n 0, 1) := by decide +kernel
theorem d_Tokens_readNumber_118 : decode m_Tokens_readNumber.2.1 118 = .ok (.iconst 2, 1) := by decide +kernel
theorem d_Tokens_readNumber_119 : decode m_Tokens_readNumber.2.1 119 = .ok (.invokevirtual 96, 3) := by decide +kernel
theorem d_Tokens_readNumber_122 : decode m_Tokens_readNumber.2.1 122 = .ok (.aload_n 0, 1) := by decide +kernel
theorem d_Tokens_readNumber_123 : decode m_Tokens_readNumber.2.1 123 = .ok (.getfield 22, 3) := by decide +kernel
theorem d_Tokens_readNumber_126 : decode m_Tokens_readNumber.2.1 126 = .ok (.invokevirtual 98, 3) := by decide +kernel
theorem d_Tokens_readNumber_129 : decode m_Tokens_readNumber.2.1 129 = .ok (.iload_n 1, 1) := by decide +kernel
theorem d_Tokens_readNumber_130 : decode m_Tokens_readNumber.2.1 130 = .ok (.istore_n 2, 1) := by decide +kernel
theorem d_Tokens_readNumber_131 : decode m_Tokens_readNumber.2.1 131 = .ok (.iload_n 2, 1) := by decide +kernel
theorem d_Tokens_readNumber_132 : decode m_Tokens_readNumber.2.1 132 = .ok (.aload_n 0, 1) := by decide +kernel
theorem d_Tokens_readNumber_133 : decode m_Tokens_readNumber.2.1 133 = .ok (.getfield 37, 3) := by decide +kernel
theorem d_Tokens_readNumber_136 : decode m_Tokens_readNumber.2.1 136 = .ok (.if_icmp .ge 24, 3) := by decide +kernel
theorem d_Tokens_readNumber_139 : decode m_Tokens_readNumber.2.1 139 = .ok (.aload_n 0, 1) := by decide +kernel
theorem d_Tokens_readNumber_140 : decode m_Tokens_readNumber.2.1 140 = .ok (.getfield 22, 3) := by decide +kernel
theorem d_Tokens_readNumber_143 : decode m_Tokens_readNumber.2.1 143 = .ok (.aload_n 0, 1) := by decide +kernel
theorem d_Tokens_readNumber_144 : decode m_Tokens_readNumber.2.1 144 = .ok (.iload_n 2, 1) := by decide +kernel
theorem d_Tokens_readNumber_145 : decode m_Tokens_readNumber.2.1 145 = .ok (.invokevirtual 56, 3) := by decide +kernel
theorem d_Tokens_readNumber_148 : decode m_Tokens_readNumber.2.1 148 = .ok (.bipush 48, 2) := by decide +kernel
theorem d_Tokens_readNumber_150 : decode m_Tokens_readNumber.2.1 150 = .ok (.isub, 1) := by decide +kernel
theorem d_Tokens_readNumber_151 : decode m_Tokens_readNumber.2.1 151 = .ok (.invokevirtual 101, 3) := by decide +kernel
theorem d_Tokens_readNumber_154 : decode m_Tokens_readNumber.2.1 154 = .ok (.iinc 2 1, 3) := by decide +kernel
theorem d_Tokens_readNumber_157 : decode m_Tokens_readNumber.2.1 157 = .ok (.goto (-26), 3) := by decide +kernel
theorem d_Tokens_readNumber_160 : decode m_Tokens_readNumber.2.1 160 = .ok (.aload_n 0, 1) := by decide +kernel
theorem d_Tokens_readNumber_161 : decode m_Tokens_readNumber.2.1 161 = .ok (.aload_n 0, 1) := by decide +kernel
theorem d_Tokens_readNumber_162 : decode m_Tokens_readNumber.2.1 162 = .ok (.getfield 49, 3) := by decide +kernel
theorem d_Tokens_readNumber_165 : decode m_Tokens_readNumber.2.1 165 = .ok (.invokevirtual 56, 3) := by decide +kernel
theorem d_Tokens_readNumber_168 : decode m_Tokens_readNumber.2.1 168 = .ok (.bipush 45, 2) := by decide +kernel
theorem d_Tokens_readNumber_170 : decode m_Tokens_readNumber.2.1 170 = .ok (.if_icmp .ne 10, 3) := by decide +kernel
theorem d_Tokens_readNumber_173 : decode m_Tokens_readNumber.2.1 173 = .ok (.aload_n 0, 1) := by decide +kernel
theorem d_Tokens_readNumber_174 : decode m_Tokens_readNumber.2.1 174 = .ok (.getfield 22, 3) := by decide +kernel
theorem d_Tokens_readNumber_177 : decode m_Tokens_readNumber.2.1 177 = .ok (.invokevirtual 104, 3) := by decide +kernel
theorem d_Tokens_readNumber_180 : decode m_Tokens_readNumber.2.1 180 = .ok (.aload_n 0, 1) := by decide +kernel
theorem d_Tokens_readNumber_181 : decode m_Tokens_readNumber.2.1 181 = .ok (.bipush 100, 2) := by decide +kernel
theorem d_Tokens_readNumber_183 : decode m_Tokens_readNumber.2.1 183 = .ok (.putfield 60, 3) := by decide +kernel
theorem d_Tokens_readNumber_186 : decode m_Tokens_readNumber.2.1 186 = .ok (.return_, 1) := by decide +kernel
abbrev dgt (b : Nat) : Prop := 48 ≤ b ∧ b ≤ 57
abbrev ltr (b : Nat) : Prop := 97 ≤ b ∧ b ≤ 122
/-- the number that k digits from f on are -/
def dvF (t : Nat → Nat) (f : Nat) : Nat → Nat
  | 0 => 0
  | k + 1 => 10 * dvF t f k + (t (f + k) - 48)
theorem dvF_lt {t : Nat → Nat} {f : Nat} : ∀ k, (∀ j, j < k → dgt (t (f + j))) → dvF t f k < 10 ^ k
  | 0, _ => Nat.zero_lt_one
  | k + 1, h => by
    have ih := dvF_lt k fun j hj => h j (by omega)
    have hk := h k (by omega)
    rw [Nat.pow_succ]
    show 10 * dvF t f k + (t (f + k) - 48) < _
    omega
theorem dvF_zero {t : Nat → Nat} {f : Nat} : ∀ k, (∀ j, j < k → t (f + j) = 48) → dvF t f k = 0
  | 0, _ => rfl
  | k + 1, h => by
    show 10 * dvF t f k + (t (f + k) - 48) = 0
    rw [dvF_zero k fun j hj => h j (by omega), h k (by omega)]
theorem dvF_add {t : Nat → Nat} {f m : Nat} (h0 : dvF t f m = 0) : ∀ k, dvF t f (m + k) = dvF t (f + m) k
  | 0 => h0
  | k + 1 => by
    show 10 * dvF t f (m + k) + (t (f + (m + k)) - 48) = 10 * dvF t (f + m) k + (t (f + m + k) - 48)
    rw [dvF_add h0 k, Nat.add_assoc]
theorem dvF_mono {t : Nat → Nat} {f a : Nat} : ∀ c, dvF t f a ≤ dvF t f (a + c)
  | 0 => Nat.le_refl _
  | c + 1 => by
    have := dvF_mono (t := t) (f := f) (a := a) c
    show _ ≤ 10 * dvF t f (a + c) + _
    omega
theorem dvF_ge {t : Nat → Nat} {f : Nat} (h : 49 ≤ t f) : ∀ k, 10 ^ k ≤ dvF t f (k + 1)
  | 0 => by show 1 ≤ 10 * 0 + (t (f + 0) - 48); rw [Nat.add_zero]; omega
  | k + 1 => by
    have ih := dvF_ge h k
    show 10 ^ (k + 1) ≤ 10 * dvF t f (k + 1) + _
    rw [Nat.pow_succ]; omega
/-- of the ints only the tokens' own rows may have changed -/
def FrK (o : Nat) (I I' : M32) : Prop := (∀ a, a ≠ o → a ≠ o + 2 → a ≠ o + 3 → a ≠ o + 4 → I' a = I a) ∧ I' o 1 = I o 1
theorem FrK.rf {o : Nat} {I : M32} : FrK o I I := ⟨fun _ _ _ _ _ => rfl, rfl⟩
theorem FrK.tr {o : Nat} {I J K : M32} (h : FrK o I J) (g : FrK o J K) : FrK o I K := ⟨fun a x y z w => (g.1 a x y z w).trans (h.1 a x y z w), g.2.trans h.2⟩
theorem FrB.k {o : Nat} {I J : M32} (h : FrB (o + 2) I J) : FrK o I J := ⟨fun a _ y z _ => h a y z, by rw [h o (by omega) (by omega)]⟩
theorem FrK.up {o k : Nat} {I : M32} {v : Int32} (hk : k ≠ 1) : FrK o I (up2 I o k v) := ⟨fun a x _ _ _ => up2_row _ _ x, up2_k _ _ _ (Ne.symm hk)⟩
/-- BadText was thrown: fault f at place p -/
def badE (o : Nat) (f p : Int) (I : M32) (L : M64) (R : MR) (T : SH) : Nat → M32 → M64 → MR → SH → Prop := fun x I' L' R' T' => x = o + 4 ∧ I' (o + 4) 0 = cI f ∧ I' (o + 4) 1 = cI p ∧ FrK o I I' ∧ (∀ a k, ¬ (a = o ∧ k = 5) → L' a k = L a k) ∧ R' = R ∧ T' = T
theorem c_Tokens_fail (d : Nat) {o P : Nat} {f p : Int} {I : M32} {L : M64} {R : MR} {T : SH} (hd : 1 ≤ d) (hS : TkS R T o P) (hp : I o 4 = cI p) : Call m_Tokens_fail y_Tokens_fail d 0 0 [.ref o, .int (cI f)] I L R T (badQ (o + 4) f p I L R T) := by
  refine Call.ofRun (by decide) ⟨rfl, rfl⟩ (Nat.le_of_ble_eq_true rfl) ?_
  refine Run.gen fun Q hQ => ?_
  refine q_aload_n d_Tokens_fail_0 rfl ?_
  refine q_iload_n d_Tokens_fail_1 rfl ?_
  refine q_aload_n d_Tokens_fail_2 rfl ?_
  refine j_getI (v := (cI p)) d_Tokens_fail_3 fl_Tokens_49 hS.1 ⟨rfl, by decide⟩ hp ?_
  refine q_callV (ci := 5) (rc := 0) (rs := 0) (rest := []) d_Tokens_fail_6 ml_Tokens_52 ok_Tokens_fail2 rfl hS.1 (by decide) (c_Tokens_fail2 (d - 1) hS) rfl rfl (by omega) (Nat.le_of_ble_eq_true rfl) (fun v I' L' R' T' h => by cases h.1) (fun x I' L' R' T' h => ?_)
  obtain ⟨h0, rfl, rfl, rfl, rfl⟩ := h
  cases h0
  exact thr_out hS.2.2.2.2.2.2.2.1 (by decide) (by unfold Seek; rfl) (hQ _ _ _ _ _ ⟨rfl, rfl, rfl, rfl, rfl⟩)
theorem bad_fr {o : Nat} {f p : Int} {I J : M32} (h : FrK o I J) : FrK o I (up2 (up2 J (o + 4) 0 (cI f)) (o + 4) 1 (cI p)) :=
  h.tr ⟨fun a _ _ _ w => by rw [up2_row _ _ w, up2_row _ _ w], by rw [up2_a _ _ _ (by omega), up2_a _ _ _ (by omega)]⟩
theorem TkS.tag {R : MR} {T : SH} {o P : Nat} (h : TkS R T o P) : T.1 (o + 4) = 4 + 1 := h.2.2.2.2.2.2.2.1
/-- readNumber: what it comes to -/
def rnQ (o b : Nat) (v : Int) (bad : Int) (I : M32) (L : M64) (R : MR) (T : SH) : QT := fun oc I' L' R' T' =>
  (bad = 0 ∧ oc = .returned none ∧ I' o 3 = cI 100 ∧ I' o 2 = I o 2 ∧ I' o 4 = I o 4 ∧ BigV I' (o + 2) v ∧ FrK o I I' ∧ L' = L ∧ R' = R ∧ T' = T) ∨ (bad ≠ 0 ∧ ∃ x, oc = .threw x ∧ badE o bad b I L R T x I' L' R' T')
def RnR (t : Nat → Nat) (f e : Nat) (bad : Int) : Prop := (bad = 1 ∧ (f = e ∨ ∃ j, f ≤ j ∧ j < e ∧ ¬ dgt (t j))) ∨ (f < e ∧ (∀ j, f ≤ j → j < e → dgt (t j)) ∧ (bad = 2 ∧ 10 ^ 300 ≤ dvF t f (e - f) ∨ bad = 0 ∧ dvF t f (e - f) < 10 ^ 300))
theorem c_Tokens_readNumber (d : Nat) {o P N b e f : Nat} {t : Nat → Nat} {I : M32} {L : M64} {R : MR} {T : SH} (hd : 2 ≤ d) (hS : TkS R T o P) (hV : TxV I o N t) (hb : I o 4 = cI b) (he : I o 2 = cI e) (hbe : b < e) (heN : e ≤ N) (hf : f = if t b = 45 then b + 1 else b) :
    Call m_Tokens_readNumber y_Tokens_readNumber d 0 0 [.ref o] I L R T (fun oc I' L' R' T' => ∃ bad, RnR t f e bad ∧ rnQ o b (if t b = 45 then -(dvF t f (e - f) : Int) else (dvF t f (e - f) : Int)) bad I L R T oc I' L' R' T') := by
  refine Call.ofRun (by decide) ⟨rfl, rfl⟩ (Nat.le_of_ble_eq_true rfl) ?_
  refine Run.gen fun Q hQ => ?_
  have hBn := hS.2.2.2.2.2.1
  have hN := hV.1
  have hfail : ∀ (J : M32) (pc : Nat) (lv : List (Nat × Value)) (bad : Int), RnR t f e bad → bad ≠ 0 → FrK o I J → Thr m_Tokens_readNumber d 0 0 pc lv (o + 4) (up2 (up2 J (o + 4) 0 (cI bad)) (o + 4) 1 (cI b)) L R T Q := by
    intro J pc lv bad h1 h2 h3
    exact thr_out hS.tag (by decide) (by unfold Seek; rfl) (hQ _ _ _ _ _ ⟨bad, h1, Or.inr ⟨h2, _, rfl, rfl, by rw [up2_k _ _ _ (by omega), up2_s], by rw [up2_s], bad_fr h3, fun _ _ _ => rfl, rfl, rfl⟩⟩)
  have t0 := hV.2 b (by omega)
  refine q_aload_n d_Tokens_readNumber_0 rfl ?_
  refine q_aload_n d_Tokens_readNumber_1 rfl ?_
  refine j_getI (v := (cI (b : Int))) d_Tokens_readNumber_2 fl_Tokens_49 hS.1 ⟨rfl, by decide⟩ hb ?_
  refine q_callV (ci := 5) (rc := 0) (rs := 0) (rest := []) d_Tokens_readNumber_5 ml_Tokens_56 ok_Tokens_byteAt rfl hS.1 (by decide) (c_Tokens_byteAt (d - 1) hS hV (by omega)) rfl rfl (by omega) (Nat.le_of_ble_eq_true rfl) (kp_I ?_) kt_I
  suffices J : ∀ (k0 : Int), (((¬ (t b : Int) = 45) ∧ k0 = (b : Int)) ∨ (((t b : Int) = 45) ∧ k0 = ((b : Int) + 1))) → Run m_Tokens_readNumber d 0 0 26 [(0, .ref o)] [.int (cI k0)] I L R T Q by
    refine j_bipush d_Tokens_readNumber_8 (by decide) ?_
    refine j_icmp_ne (tgt := 22) d_Tokens_readNumber_10 (by decide) (by omega) (by omega) (fun hp1 => ?_) (fun hp1 => ?_)
    · refine q_aload_n d_Tokens_readNumber_22 rfl ?_
      refine j_getI (v := (cI (b : Int))) d_Tokens_readNumber_23 fl_Tokens_49 hS.1 ⟨rfl, by decide⟩ hb ?_
      exact J _ (Or.inl ⟨hp1, rfl⟩)
    · refine q_aload_n d_Tokens_readNumber_13 rfl ?_
      refine j_getI (v := (cI (b : Int))) d_Tokens_readNumber_14 fl_Tokens_49 hS.1 ⟨rfl, by decide⟩ hb ?_
      refine j_iconst d_Tokens_readNumber_17 ?_
      refine j_iadd d_Tokens_readNumber_18 ?_
      refine q_goto (tgt := 26) d_Tokens_readNumber_19 (by decide) ?_
      exact J _ (Or.inr ⟨hp1, rfl⟩)
  intro k0 hk0
  obtain rfl : k0 = (f : Int) := by rw [hf]; split <;> omega
  have hfb : f = b ∨ f = b + 1 := by rw [hf]; split <;> omega
  refine q_istore_n (lv' := [(1, .int (cI (f : Int))), (0, .ref o)]) d_Tokens_readNumber_26 (by decide) rfl ?_
  refine q_iload_n d_Tokens_readNumber_27 rfl ?_
  refine q_aload_n d_Tokens_readNumber_28 rfl ?_
  refine j_getI (v := (cI (e : Int))) d_Tokens_readNumber_29 fl_Tokens_37 hS.1 ⟨rfl, by decide⟩ he ?_
  refine j_icmp_ne (tgt := 40) d_Tokens_readNumber_32 (by decide) (by omega) (by omega) (fun h1 => ?_) (fun h1 => ?_)
  rotate_left
  · skip
    refine q_aload_n d_Tokens_readNumber_35 rfl ?_
    refine j_iconst d_Tokens_readNumber_36 ?_
    refine q_callV (ci := 5) (rc := 0) (rs := 0) (rest := []) d_Tokens_readNumber_37 ml_Tokens_96 ok_Tokens_fail rfl hS.1 (by decide) (c_Tokens_fail (d - 1) (by omega) hS hb) rfl rfl (by omega) (Nat.le_of_ble_eq_true rfl) (fun v I' L' R' T' h => by cases h.1) (fun x I' L' R' T' h => ?_)
    obtain ⟨h0, rfl, rfl, rfl, rfl⟩ := h
    cases h0
    exact hfail _ _ _ 1 (Or.inl ⟨rfl, Or.inl (by omega)⟩) (by decide) FrK.rf
  have hfe : f < e := by omega
  refine q_iload_n d_Tokens_readNumber_40 rfl ?_
  refine q_istore_n (lv' := [(2, .int (cI (f : Int))), (1, .int (cI (f : Int))), (0, .ref o)]) d_Tokens_readNumber_41 (by decide) rfl ?_
  have neg : ∀ (J : M32) (i : Int) (k : Nat), (∀ j, f ≤ j → j < e → dgt (t j)) → dvF t f (e - f) < 10 ^ 300 → BigV J (o + 2) (dvF t f (e - f) : Int) → FrK o I J → J o = I o → Run m_Tokens_readNumber d 0 0 160 [(0, .ref o), (1, .int (cI (k : Int))), (2, .int (cI i))] [] J L R T Q := by
    intro J i k hall hx hJ hF hJo
    have hVJ : TxV J o N t := ⟨hN, fun j hj => by rw [hF.1 _ (by omega) (by omega) (by omega) (by omega)]; exact hV.2 j hj⟩
    refine q_aload_n d_Tokens_readNumber_160 rfl ?_
    refine q_aload_n d_Tokens_readNumber_161 rfl ?_
    refine j_getI (v := (cI (b : Int))) d_Tokens_readNumber_162 fl_Tokens_49 hS.1 ⟨rfl, by decide⟩ (by rw [hJo]; exact hb) ?_
    refine q_callV (ci := 5) (rc := 0) (rs := 0) (rest := []) d_Tokens_readNumber_165 ml_Tokens_56 ok_Tokens_byteAt rfl hS.1 (by decide) (c_Tokens_byteAt (d - 1) hS hVJ (by omega)) rfl rfl (by omega) (Nat.le_of_ble_eq_true rfl) (kp_I ?_) kt_I
    refine j_bipush d_Tokens_readNumber_168 (by decide) ?_
    refine j_icmp_ne (tgt := 180) d_Tokens_readNumber_170 (by decide) (by omega) (by omega) (fun h3 => ?_) (fun h3 => ?_)
    · skip
      refine q_aload_n d_Tokens_readNumber_180 rfl ?_
      refine j_bipush d_Tokens_readNumber_181 (by decide) ?_
      refine q_putI d_Tokens_readNumber_183 fl_Tokens_60 hS.1 ⟨rfl, by decide, rfl, rfl⟩ ?_
      refine q_return d_Tokens_readNumber_186 rfl ?_
      refine hQ _ _ _ _ _ ?_
      exact ⟨0, Or.inr ⟨hfe, hall, Or.inr ⟨rfl, hx⟩⟩, Or.inl ⟨rfl, rfl, by rw [up2_s], by rw [up2_k _ _ _ (by omega), hJo], by rw [up2_k _ _ _ (by omega), hJo], by rw [if_neg (by omega)]; exact hJ.congr (by rw [up2_row _ _ (by omega)]) (by rw [up2_row _ _ (by omega)]), hF.tr (FrK.up (by decide)), rfl, rfl, rfl⟩⟩
    · skip
      refine q_aload_n d_Tokens_readNumber_173 rfl ?_
      refine q_getR d_Tokens_readNumber_174 fl_Tokens_22 hS.1 ⟨rfl, by decide⟩ hS.2.2.2.2.1 ?_
      refine q_callV (ci := 0) (rc := 0) (rs := 0) (rest := []) d_Tokens_readNumber_177 ml_Tokens_104 ok_Big_negate rfl hBn.1 (by decide) (c_Big_negate (d - 1) hBn hJ) rfl rfl (by omega) (Nat.le_of_ble_eq_true rfl) (kv_V (fun K hK => ?_)) kt_V
      have hKo : K o = I o := by rw [hK.2 o (by omega) (by omega), hJo]
      refine q_aload_n d_Tokens_readNumber_180 rfl ?_
      refine j_bipush d_Tokens_readNumber_181 (by decide) ?_
      refine q_putI d_Tokens_readNumber_183 fl_Tokens_60 hS.1 ⟨rfl, by decide, rfl, rfl⟩ ?_
      refine q_return d_Tokens_readNumber_186 rfl ?_
      refine hQ _ _ _ _ _ ?_
      exact ⟨0, Or.inr ⟨hfe, hall, Or.inr ⟨rfl, hx⟩⟩, Or.inl ⟨rfl, rfl, by rw [up2_s], by rw [up2_k _ _ _ (by omega), hKo], by rw [up2_k _ _ _ (by omega), hKo], by rw [if_pos (by omega)]; exact hK.1.congr (by rw [up2_row _ _ (by omega)]) (by rw [up2_row _ _ (by omega)]), (hF.tr hK.2.k).tr (FrK.up (by decide)), rfl, rfl, rfl⟩⟩
  have push : ∀ (g k : Nat) (z : Int) (J : M32) (s : Nat), e - k < g → z = k → f ≤ k → k ≤ e → (∀ j, f ≤ j → j < e → dgt (t j)) → dvF t f (e - f) < 10 ^ 300 → dvF t f (k - f) < 10 ^ 300 → BigV J (o + 2) (dvF t f (k - f) : Int) → FrK o I J → J o = I o → Run m_Tokens_readNumber d 0 0 131 [(0, .ref o), (1, .int (cI (s : Int))), (2, .int (cI z))] [] J L R T Q := by
    intro g
    induction g with
    | zero => intro k z J s h; omega
    | succ g ih =>
    intro k z J s hg hz hfk hk hall hx hxk hJ hF hJo
    subst hz
    have hVJ : TxV J o N t := ⟨hN, fun j hj => by rw [hF.1 _ (by omega) (by omega) (by omega) (by omega)]; exact hV.2 j hj⟩
    refine q_iload_n d_Tokens_readNumber_131 rfl ?_
    refine q_aload_n d_Tokens_readNumber_132 rfl ?_
    refine j_getI (v := (cI (e : Int))) d_Tokens_readNumber_133 fl_Tokens_37 hS.1 ⟨rfl, by decide⟩ (by rw [hJo]; exact he) ?_
    refine j_icmp_ge (tgt := 160) d_Tokens_readNumber_136 (by decide) (by omega) (by omega) (fun h2 => ?_) (fun h2 => ?_)
    · skip
      obtain rfl : k = e := by omega
      exact neg J _ s hall hx hJ hF hJo
    have tk := hall k hfk (by omega)
    have hst : dvF t f (k + 1 - f) = 10 * dvF t f (k - f) + (t k - 48) := by
      rw [show k + 1 - f = (k - f) + 1 by omega]
      show 10 * dvF t f (k - f) + (t (f + (k - f)) - 48) = _
      rw [show f + (k - f) = k by omega]
    have hle : dvF t f (k + 1 - f) ≤ dvF t f (e - f) := by
      have := dvF_mono (t := t) (f := f) (a := k + 1 - f) (e - (k + 1))
      rwa [show k + 1 - f + (e - (k + 1)) = e - f by omega] at this
    have hB : (10 : Nat) ^ 300 < B9 ^ 36 := by decide
    refine q_aload_n d_Tokens_readNumber_139 rfl ?_
    refine q_getR d_Tokens_readNumber_140 fl_Tokens_22 hS.1 ⟨rfl, by decide⟩ hS.2.2.2.2.1 ?_
    refine q_aload_n d_Tokens_readNumber_143 rfl ?_
    refine q_iload_n d_Tokens_readNumber_144 rfl ?_
    refine q_callV (ci := 5) (rc := 0) (rs := 0) (rest := [.ref (o + 2)]) d_Tokens_readNumber_145 ml_Tokens_56 ok_Tokens_byteAt rfl hS.1 (by decide) (c_Tokens_byteAt (d - 1) hS hVJ (by omega)) rfl rfl (by omega) (Nat.le_of_ble_eq_true rfl) (kp_I ?_) kt_I
    refine j_bipush d_Tokens_readNumber_148 (by decide) ?_
    refine j_isub d_Tokens_readNumber_150 ?_
    refine Run.top (v := .int (cI ((t k - 48 : Nat) : Int))) (by congr 2; omega) ?_
    refine q_callV (ci := 0) (rc := 0) (rs := 0) (rest := []) d_Tokens_readNumber_151 ml_Tokens_101 ok_Big_push rfl hBn.1 (by decide) (c_Big_push (d - 1) (x := dvF t f (k - f)) (dd := t k - 48) hBn hJ (by omega) (by rw [← hst]; omega)) rfl rfl (by omega) (Nat.le_of_ble_eq_true rfl) (kv_V (fun K hK => ?_)) kt_V
    refine j_iinc (lv' := [(2, .int (cI ((k : Int) + 1))), (0, .ref o), (1, .int (cI (s : Int)))]) d_Tokens_readNumber_154 rfl (by decide) rfl ?_
    refine q_goto (tgt := 131) d_Tokens_readNumber_157 (by decide) ?_
    refine Run.lv (lv' := [(0, .ref o), (1, .int (cI (s : Int))), (2, .int (cI ((k : Int) + 1)))]) (by intro q hq; simp only [List.mem_cons, List.not_mem_nil, or_false] at hq ⊢; rcases hq with rfl | rfl | rfl <;> simp) ?_
    exact ih (k + 1) _ K s (by omega) (by omega) (by omega) (by omega) hall hx (by omega) (by rw [hst]; exact hK.1) (hF.tr hK.2.k) (by rw [hK.2 o (by omega) (by omega)]; exact hJo)
  have zsk : ∀ (g k : Nat) (z q : Int), e - k < g → z = k → f ≤ k → k < e → (∀ j, f ≤ j → j < e → dgt (t j)) → dvF t f (k - f) = 0 → Run m_Tokens_readNumber d 0 0 79 [(0, .ref o), (1, .int (cI z)), (2, .int (cI q))] [] I L R T Q := by
    intro g
    induction g with
    | zero => intro k z q h; omega
    | succ g ih =>
    intro k z q hg hz hfk hk hall h0
    subst hz
    have hadd : dvF t f (e - f) = dvF t k (e - k) := by
      have := dvF_add h0 (e - k)
      rwa [show k - f + (e - k) = e - f by omega, show f + (k - f) = k by omega] at this
    have hlt : dvF t k (e - k) < 10 ^ (e - k) := dvF_lt _ fun j hj => hall (k + j) (by omega) (by omega)
    have tk := hall k hfk hk
    have cnt : ∀ (hz : k + 1 = e ∨ t k ≠ 48), True → Run m_Tokens_readNumber d 0 0 105 [(0, .ref o), (1, .int (cI (k : Int))), (2, .int (cI q))] [] I L R T Q := by
      intro hz _
      refine q_aload_n d_Tokens_readNumber_105 rfl ?_
      refine j_getI (v := (cI (e : Int))) d_Tokens_readNumber_106 fl_Tokens_37 hS.1 ⟨rfl, by decide⟩ he ?_
      refine q_iload_n d_Tokens_readNumber_109 rfl ?_
      refine j_isub d_Tokens_readNumber_110 ?_
      refine j_sipush d_Tokens_readNumber_111 (by decide) ?_
      refine j_icmp_le (tgt := 122) d_Tokens_readNumber_114 (by decide) (by omega) (by omega) (fun h4 => ?_) (fun h4 => ?_)
      rotate_left
      · skip
        have hge := dvF_ge (t := t) (f := k) (by omega) (e - k - 1)
        rw [show e - k - 1 + 1 = e - k by omega] at hge
        have h300 : (10 : Nat) ^ 300 ≤ 10 ^ (e - k - 1) := Nat.pow_le_pow_right (by decide) (by omega)
        refine q_aload_n d_Tokens_readNumber_117 rfl ?_
        refine j_iconst d_Tokens_readNumber_118 ?_
        refine q_callV (ci := 5) (rc := 0) (rs := 0) (rest := []) d_Tokens_readNumber_119 ml_Tokens_96 ok_Tokens_fail rfl hS.1 (by decide) (c_Tokens_fail (d - 1) (by omega) hS hb) rfl rfl (by omega) (Nat.le_of_ble_eq_true rfl) (fun v I' L' R' T' h => by cases h.1) (fun x I' L' R' T' h => ?_)
        obtain ⟨h0, rfl, rfl, rfl, rfl⟩ := h
        cases h0
        exact hfail _ _ _ 2 (Or.inr ⟨hfe, hall, Or.inl ⟨rfl, by rw [hadd]; omega⟩⟩) (by decide) FrK.rf
      have h300 : (10 : Nat) ^ (e - k) ≤ 10 ^ 300 := Nat.pow_le_pow_right (by decide) (by omega)
      refine q_aload_n d_Tokens_readNumber_122 rfl ?_
      refine q_getR d_Tokens_readNumber_123 fl_Tokens_22 hS.1 ⟨rfl, by decide⟩ hS.2.2.2.2.1 ?_
      refine q_callV (ci := 0) (rc := 0) (rs := 0) (rest := []) d_Tokens_readNumber_126 ml_Tokens_98 ok_Big_clear rfl hBn.1 (by decide) (c_Big_clear (d - 1) hBn) rfl rfl (by omega) (Nat.le_of_ble_eq_true rfl) (kv_V (fun K hK => ?_)) kt_V
      have hF : FrB (o + 2) I K := by rw [hK]; exact FrB.up.tr FrB.up
      refine q_iload_n d_Tokens_readNumber_129 rfl ?_
      refine q_istore_n (lv' := [(2, .int (cI (k : Int))), (0, .ref o), (1, .int (cI (k : Int)))]) d_Tokens_readNumber_130 (by decide) rfl ?_
      refine Run.lv (lv' := [(0, .ref o), (1, .int (cI (k : Int))), (2, .int (cI (k : Int)))]) (by intro q hq; simp only [List.mem_cons, List.not_mem_nil, or_false] at hq ⊢; rcases hq with rfl | rfl | rfl <;> simp) ?_
      exact push (e - k + 1) k _ K k (by omega) rfl hfk (by omega) hall (by rw [hadd]; omega) (by rw [h0]; decide) (by rw [h0, hK]; exact bigV_0 (by rw [up2_k _ _ _ (by omega), up2_s]) (by rw [up2_s])) hF.k (by rw [hF o (by omega) (by omega)])
    refine q_iload_n d_Tokens_readNumber_79 rfl ?_
    refine q_aload_n d_Tokens_readNumber_80 rfl ?_
    refine j_getI (v := (cI (e : Int))) d_Tokens_readNumber_81 fl_Tokens_37 hS.1 ⟨rfl, by decide⟩ he ?_
    refine j_iconst d_Tokens_readNumber_84 ?_
    refine j_isub d_Tokens_readNumber_85 ?_
    refine j_icmp_ge (tgt := 105) d_Tokens_readNumber_86 (by decide) (by omega) (by omega) (fun h2 => ?_) (fun h2 => ?_)
    · skip
      exact cnt (Or.inl (by omega)) trivial
    refine q_aload_n d_Tokens_readNumber_89 rfl ?_
    refine q_iload_n d_Tokens_readNumber_90 rfl ?_
    refine q_callV (ci := 5) (rc := 0) (rs := 0) (rest := []) d_Tokens_readNumber_91 ml_Tokens_56 ok_Tokens_byteAt rfl hS.1 (by decide) (c_Tokens_byteAt (d - 1) hS hV (by omega)) rfl rfl (by omega) (Nat.le_of_ble_eq_true rfl) (kp_I ?_) kt_I
    refine j_bipush d_Tokens_readNumber_94 (by decide) ?_
    refine j_icmp_ne (tgt := 105) d_Tokens_readNumber_96 (by decide) (by omega) (by omega) (fun h3 => ?_) (fun h3 => ?_)
    · skip
      exact cnt (Or.inr (by omega)) trivial
    refine j_iinc (lv' := [(1, .int (cI ((k : Int) + 1))), (0, .ref o), (2, .int (cI q))]) d_Tokens_readNumber_99 rfl (by decide) rfl ?_
    refine q_goto (tgt := 79) d_Tokens_readNumber_102 (by decide) ?_
    refine Run.lv (lv' := [(0, .ref o), (1, .int (cI ((k : Int) + 1))), (2, .int (cI q))]) (by intro q hq; simp only [List.mem_cons, List.not_mem_nil, or_false] at hq ⊢; rcases hq with rfl | rfl | rfl <;> simp) ?_
    exact ih (k + 1) _ q (by omega) (by omega) (by omega) (by omega) hall (by rw [show k + 1 - f = (k - f) + 1 by omega]; show 10 * dvF t f (k - f) + (t (f + (k - f)) - 48) = 0; rw [h0, show f + (k - f) = k by omega]; omega)
  have chk : ∀ (g k : Nat) (z : Int), e - k < g → z = k → f ≤ k → k ≤ e → (∀ j, f ≤ j → j < k → dgt (t j)) → Run m_Tokens_readNumber d 0 0 42 [(0, .ref o), (1, .int (cI (f : Int))), (2, .int (cI z))] [] I L R T Q := by
    intro g
    induction g with
    | zero => intro k z h; omega
    | succ g ih =>
    intro k z hg hz hfk hk hall
    subst hz
    refine q_iload_n d_Tokens_readNumber_42 rfl ?_
    refine q_aload_n d_Tokens_readNumber_43 rfl ?_
    refine j_getI (v := (cI (e : Int))) d_Tokens_readNumber_44 fl_Tokens_37 hS.1 ⟨rfl, by decide⟩ he ?_
    refine j_icmp_ge (tgt := 79) d_Tokens_readNumber_47 (by decide) (by omega) (by omega) (fun h2 => ?_) (fun h2 => ?_)
    · skip
      obtain rfl : k = e := by omega
      exact zsk (k - f + 1) f _ _ (by omega) rfl (Nat.le_refl _) hfe hall (by rw [Nat.sub_self]; rfl)
    have tk := hV.2 k (by omega)
    refine q_aload_n d_Tokens_readNumber_50 rfl ?_
    refine q_iload_n d_Tokens_readNumber_51 rfl ?_
    refine q_callV (ci := 5) (rc := 0) (rs := 0) (rest := []) d_Tokens_readNumber_52 ml_Tokens_56 ok_Tokens_byteAt rfl hS.1 (by decide) (c_Tokens_byteAt (d - 1) hS hV (by omega)) rfl rfl (by omega) (Nat.le_of_ble_eq_true rfl) (kp_I ?_) kt_I
    refine j_i2l d_Tokens_readNumber_55 (by omega) ?_
    refine j_ldc2 (z := 48) d_Tokens_readNumber_56 (inT4 119 rfl) (by decide) ?_
    refine j_ldc2 (z := 57) d_Tokens_readNumber_59 (inT4 120 rfl) (by decide) ?_
    refine q_callS (rc := 0) (rs := 0) (rest := []) d_Tokens_readNumber_62 ml_Tokens_71 ok_Platform_within (c_Platform_within (d - 1) (by omega) (by omega) (by omega)) rfl rfl (by omega) (Nat.le_of_ble_eq_true rfl) (kp_I ?_) kt_I
    refine j_ifb_ne (tgt := 73) d_Tokens_readNumber_65 (by decide) (fun h3 => ?_) (fun h3 => ?_)
    rotate_left
    · skip
      refine q_aload_n d_Tokens_readNumber_68 rfl ?_
      refine j_iconst d_Tokens_readNumber_69 ?_
      refine q_callV (ci := 5) (rc := 0) (rs := 0) (rest := []) d_Tokens_readNumber_70 ml_Tokens_96 ok_Tokens_fail rfl hS.1 (by decide) (c_Tokens_fail (d - 1) (by omega) hS hb) rfl rfl (by omega) (Nat.le_of_ble_eq_true rfl) (fun v I' L' R' T' h => by cases h.1) (fun x I' L' R' T' h => ?_)
      obtain ⟨h0, rfl, rfl, rfl, rfl⟩ := h
      cases h0
      exact hfail _ _ _ 1 (Or.inl ⟨rfl, Or.inr ⟨k, hfk, by omega, by omega⟩⟩) (by decide) FrK.rf
    refine j_iinc (lv' := [(2, .int (cI ((k : Int) + 1))), (0, .ref o), (1, .int (cI (f : Int)))]) d_Tokens_readNumber_73 rfl (by decide) rfl ?_
    refine q_goto (tgt := 42) d_Tokens_readNumber_76 (by decide) ?_
    refine Run.lv (lv' := [(0, .ref o), (1, .int (cI (f : Int))), (2, .int (cI ((k : Int) + 1)))]) (by intro q hq; simp only [List.mem_cons, List.not_mem_nil, or_false] at hq ⊢; rcases hq with rfl | rfl | rfl <;> simp) ?_
    exact ih (k + 1) _ (by omega) (by omega) (by omega) (by omega) (fun j hj1 hj2 => if q : j = k then (by subst q; omega) else hall j hj1 (by omega))
  refine Run.lv (lv' := [(0, .ref o), (1, .int (cI (f : Int))), (2, .int (cI (f : Int)))]) (by intro q hq; simp only [List.mem_cons, List.not_mem_nil, or_false] at hq ⊢; rcases hq with rfl | rfl | rfl <;> simp) ?_
  exact chk (e - f + 1) f _ (by omega) rfl (Nat.le_refl _) (by omega) (fun j h1 h2 => by omega)

