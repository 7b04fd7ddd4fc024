/-! ===== 67 THE REFERENCE's READING: the loop's head, states, rows ===== -/
theorem d_Model_readText_0 : decode m_Model_readText.2.1 0 = .ok (.aload_n 0, 1) := by decide +kernel
theorem d_Model_readText_1 : decode m_Model_readText.2.1 1 = .ok (.invokevirtual 667, 3) := by decide +kernel
theorem d_Model_readText_4 : decode m_Model_readText.2.1 4 = .ok (.aload_n 0, 1) := by decide +kernel
theorem d_Model_readText_5 : decode m_Model_readText.2.1 5 = .ok (.aload_n 0, 1) := by decide +kernel
theorem d_Model_readText_6 : decode m_Model_readText.2.1 6 = .ok (.getfield 591, 3) := by decide +kernel
theorem d_Model_readText_9 : decode m_Model_readText.2.1 9 = .ok (.putfield 588, 3) := by decide +kernel
theorem d_Model_readText_12 : decode m_Model_readText.2.1 12 = .ok (.aload_n 0, 1) := by decide +kernel
theorem d_Model_readText_13 : decode m_Model_readText.2.1 13 = .ok (.aload_n 0, 1) := by decide +kernel
theorem d_Model_readText_14 : decode m_Model_readText.2.1 14 = .ok (.getfield 670, 3) := by decide +kernel
theorem d_Model_readText_17 : decode m_Model_readText.2.1 17 = .ok (.putfield 624, 3) := by decide +kernel
theorem d_Model_readText_20 : decode m_Model_readText.2.1 20 = .ok (.aload_n 0, 1) := by decide +kernel
theorem d_Model_readText_21 : decode m_Model_readText.2.1 21 = .ok (.iconst 0, 1) := by decide +kernel
theorem d_Model_readText_22 : decode m_Model_readText.2.1 22 = .ok (.putfield 582, 3) := by decide +kernel
theorem d_Model_readText_25 : decode m_Model_readText.2.1 25 = .ok (.aload_n 0, 1) := by decide +kernel
theorem d_Model_readText_26 : decode m_Model_readText.2.1 26 = .ok (.iconst 1, 1) := by decide +kernel
theorem d_Model_readText_27 : decode m_Model_readText.2.1 27 = .ok (.iconst (-1), 1) := by decide +kernel
theorem d_Model_readText_28 : decode m_Model_readText.2.1 28 = .ok (.iconst 0, 1) := by decide +kernel
theorem d_Model_readText_29 : decode m_Model_readText.2.1 29 = .ok (.iconst 0, 1) := by decide +kernel
theorem d_Model_readText_30 : decode m_Model_readText.2.1 30 = .ok (.invokevirtual 611, 3) := by decide +kernel
theorem d_Model_readText_33 : decode m_Model_readText.2.1 33 = .ok (.aload_n 0, 1) := by decide +kernel
theorem d_Model_readText_34 : decode m_Model_readText.2.1 34 = .ok (.getfield 582, 3) := by decide +kernel
theorem d_Model_readText_37 : decode m_Model_readText.2.1 37 = .ok (.ifCond .le 17, 3) := by decide +kernel
theorem d_Model_readText_40 : decode m_Model_readText.2.1 40 = .ok (.aload_n 0, 1) := by decide +kernel
theorem d_Model_readText_41 : decode m_Model_readText.2.1 41 = .ok (.getfield 382, 3) := by decide +kernel
theorem d_Model_readText_44 : decode m_Model_readText.2.1 44 = .ok (.ifCond .ne 10, 3) := by decide +kernel
theorem d_Model_readText_47 : decode m_Model_readText.2.1 47 = .ok (.aload_n 0, 1) := by decide +kernel
theorem d_Model_readText_48 : decode m_Model_readText.2.1 48 = .ok (.invokevirtual 673, 3) := by decide +kernel
theorem d_Model_readText_51 : decode m_Model_readText.2.1 51 = .ok (.goto (-18), 3) := by decide +kernel
theorem d_Model_readText_54 : decode m_Model_readText.2.1 54 = .ok (.aload_n 0, 1) := by decide +kernel
theorem d_Model_readText_55 : decode m_Model_readText.2.1 55 = .ok (.getfield 382, 3) := by decide +kernel
theorem d_Model_readText_58 : decode m_Model_readText.2.1 58 = .ok (.ifCond .ne 7, 3) := by decide +kernel
theorem d_Model_readText_61 : decode m_Model_readText.2.1 61 = .ok (.aload_n 0, 1) := by decide +kernel
theorem d_Model_readText_62 : decode m_Model_readText.2.1 62 = .ok (.invokevirtual 676, 3) := by decide +kernel
theorem d_Model_readText_65 : decode m_Model_readText.2.1 65 = .ok (.return_, 1) := by decide +kernel
/-- at the head of the loop of readText -/
def Hd (d M : Nat) (R : MR) (T : SH) (Q : QT) (I : M32) (L : M64) : Prop := Run m_Model_readText d 0 0 33 [(0, .ref M)] [] I L R T Q
theorem hd_step {d M n : Nat} {I : M32} {L : M64} {R : MR} {T : SH} {Q : QT} (hd : 5 ≤ d) (hM : MdlS M R T) (h43 : I M 43 = cI (n + 1 : Nat)) (hn : n < 30000) (h17 : I M 17 = cI 0) (hc : Call m_Model_readNext y_Model_readNext (d - 1) 0 0 [.ref M] I L R T (rV fun I' L' R' T' => Hd d M R T Q I' L' ∧ R' = R ∧ T' = T)) : Hd d M R T Q I L := by
  unfold Hd
  refine q_aload_n d_Model_readText_33 rfl ?_
  refine j_getI (v := (cI ((n : Int) + 1))) d_Model_readText_34 fl_Model_582 hM.1 ⟨rfl, by decide⟩ (by rw [h43]; simp) ?_
  refine j_if_le (tgt := 54) d_Model_readText_37 (by decide) (by omega) (fun hx => by exfalso; omega) (fun hx => ?_)
  refine q_aload_n d_Model_readText_40 rfl ?_
  refine j_getI (v := (cI 0)) d_Model_readText_41 fl_Model_382 hM.1 ⟨rfl, by decide⟩ h17 ?_
  refine j_if_ne (tgt := 54) d_Model_readText_44 (by decide) (by omega) (fun hx => by exfalso; omega) (fun hx => ?_)
  refine q_aload_n d_Model_readText_47 rfl ?_
  refine q_callV (ci := 17) (rc := 0) (rs := 0) (rest := []) d_Model_readText_48 ml_Model_673 ok_Model_readNext rfl hM.1 (by decide) (hc) rfl rfl (by omega) (Nat.le_of_ble_eq_true rfl) (kr_V (fun I1 L1 R1 T1 h => ?_)) kt_V
  obtain ⟨h, rfl, rfl⟩ := h
  refine q_goto (tgt := 33) d_Model_readText_51 (by decide) ?_
  exact h
theorem hd_err {d M : Nat} {c : Int} {I : M32} {L : M64} {R : MR} {T : SH} {Q : QT} (hM : MdlS M R T) (h17 : I M 17 = cI c) (hc0 : c ≠ 0) (hci : inI c) (hq : Q (.returned none) I L R T) : Hd d M R T Q I L := by
  unfold Hd
  refine q_aload_n d_Model_readText_33 rfl ?_
  refine j_getI (v := (I M 43)) d_Model_readText_34 fl_Model_582 hM.1 ⟨rfl, by decide⟩ rfl ?_
  refine q_if_le (tgt := 54) d_Model_readText_37 (by decide) (fun h => ?_) (fun h => ?_)
  · skip
    refine q_aload_n d_Model_readText_54 rfl ?_
    refine j_getI (v := (cI c)) d_Model_readText_55 fl_Model_382 hM.1 ⟨rfl, by decide⟩ h17 ?_
    refine j_if_ne (tgt := 65) d_Model_readText_58 (by decide) (by omega) (fun hx => ?_) (fun hx => by exfalso; omega)
    refine q_return d_Model_readText_65 rfl ?_
    exact hq
  · skip
    refine q_aload_n d_Model_readText_40 rfl ?_
    refine j_getI (v := (cI c)) d_Model_readText_41 fl_Model_382 hM.1 ⟨rfl, by decide⟩ h17 ?_
    refine j_if_ne (tgt := 54) d_Model_readText_44 (by decide) (by omega) (fun hx => ?_) (fun hx => by exfalso; omega)
    refine q_aload_n d_Model_readText_54 rfl ?_
    refine j_getI (v := (cI c)) d_Model_readText_55 fl_Model_382 hM.1 ⟨rfl, by decide⟩ h17 ?_
    refine j_if_ne (tgt := 65) d_Model_readText_58 (by decide) (by omega) (fun hx => ?_) (fun hx => by exfalso; omega)
    refine q_return d_Model_readText_65 rfl ?_
    exact hq
/-- the fields of the reference that reading changes -/
abbrev GF : List Nat := [7, 8, 12, 13, 14, 15, 35, 37, 38, 43]
abbrev GI : List Nat := [7, 8, 12, 13, 14, 15, 35, 37, 43]
abbrev GE : List Nat := [7, 8, 12, 13, 14, 15, 17, 18, 35, 37, 38, 43]
/-- the state of the reference between two tokens: nodes' top n, pairs' top pt, numbers' top tp, place a -/
def TS (M N g pk kp : Nat) (t : Nat → Nat) (z : Int32) (I0 : M32) (L0 : M64) (n pt tp a : Nat) (I : M32) (L : M64) : Prop :=
  (TxM I M N t ∧ I M 11 = cI N ∧ I M 12 = cI a ∧ a ≤ N ∧ I M 17 = cI 0 ∧ I M 36 = cI g ∧ I M 37 = cI n ∧ I M 35 = cI pt ∧ I M 7 = cI tp ∧ I M 8 = z) ∧ (g ≤ n ∧ n ≤ g + 1000 ∧ g ≤ 4000 ∧ pk ≤ pt ∧ kp ≤ tp ∧ 2 * pt ≤ 16384 + a ∧ tp ≤ 49152 + 3 * a) ∧ FA M (-1) g pk kp I0 I ∧ FF M GF I0 I ∧ FLn M (-1) g L0 L
theorem TS.go {M N g pk kp : Nat} {t : Nat → Nat} {z : Int32} {I0 : M32} {L0 : M64} {n pt tp a n' pt' tp' a' : Nat} {I I' : M32} {L L' : M64} {nd nd' : Int} {l : List Nat} (h : TS M N g pk kp t z I0 L0 n pt tp a I L) (hF : FA M nd n pt tp I I') (hnd : (g : Int) ≤ nd ∨ nd < 0) (hf : FF M l I I') (hl : ∀ k ∈ l, k ∈ GF) (hL : FLn M nd' n L L') (hnd' : (g : Int) ≤ nd' ∨ nd' < 0)
    (h12 : I' M 12 = cI a') (ha : a ≤ a' ∧ a' ≤ N) (h17 : I' M 17 = cI 0) (h37 : I' M 37 = cI n') (h35 : I' M 35 = cI pt') (h7 : I' M 7 = cI tp') (h8 : I' M 8 = z) (hn : n ≤ n' ∧ n' ≤ g + 1000) (hp : pt ≤ pt' ∧ 2 * pt' ≤ 16384 + a') (ht : tp ≤ tp' ∧ tp' ≤ 49152 + 3 * a') : TS M N g pk kp t z I0 L0 n' pt' tp' a' I' L' := by
  obtain ⟨⟨t1, t2, t3, t4, t5, t6, t7, t8, t9, t10⟩, ⟨b1, b2, b3, b4, b5, b6, b7⟩, f1, f2, f3⟩ := h
  have hf' := hf.mo hl
  exact ⟨⟨⟨t1.1, fun j hj => by rw [hF.1 _ _ (by omega)]; exact t1.2 j hj⟩, by rw [hf' _ (by decide)]; exact t2, h12, ha.2, h17, by rw [hf' _ (by decide)]; exact t6, h37, h35, h7, h8⟩, ⟨by omega, by omega, b3, by omega, by omega, hp.2, ht.2⟩, f1.tr (hF.mo (by omega) (by omega) (by omega) (by omega)), f2.tr hf', f3.tr (hL.mo (by omega) (by omega))⟩
theorem gapp_l {α : Type} (a b : List α) (d : α) {j : Nat} (h : j < a.length) : (a ++ b).getD j d = a.getD j d := by simp only [List.getD_eq_getElem?_getD, List.getElem?_append_left h]
theorem gapp_r {α : Type} (a b : List α) (d : α) {j : Nat} (h : a.length ≤ j) : (a ++ b).getD j d = b.getD (j - a.length) d := by simp only [List.getD_eq_getElem?_getD, List.getElem?_append_right h]
/-- the values that rows refer to -/
def AgV (V : Nat → Int) (m : Nat) (nums : List Int) : Prop := ∀ j, j < nums.length → V (m + j) = nums.getD j 0
/-- a number of the pool below tp -/
def PnV (I : M32) (M tp p : Nat) (v : Int) : Prop := ∃ m, m ≤ 300 ∧ p + m + 2 ≤ tp ∧ PolV I (M + 3) p m v
/-- a row as the reference has it -/
def RowM (I : M32) (L : M64) (M tp pt : Nat) (V : Nat → Int) (i : Nat) (r : Row) : Prop :=
  (I (M + 6) i = cI (kdM (r.getD 0 0) (r.getD 3 0)) ∧ I (M + 10) i = cI (r.getD 1 0) ∧ I (M + 11) i = cI (r.getD 2 0) ∧ (r.getD 0 0 ≠ 5 → I (M + 12) i = cI (if r.getD 0 0 = 4 ∨ r.getD 0 0 = 22 then r.getD 3 0 else -1)) ∧ I (M + 13) i = cI (r.getD 4 0) ∧ L (M + 7) i = cL (r.getD 5 0) ∧ L (M + 8) i = cL (r.getD 6 0) ∧ L (M + 9) i = cL (r.getD 7 0) ∧ I (M + 18) i = cI (r.getD 9 0)) ∧
  (r.getD 0 0 = 100 → ∃ p : Nat, I (M + 14) i = cI p ∧ PnV I M tp p (V (r.getD 8 0).toNat)) ∧
  (r.getD 0 0 = 5 → I (M + 16) i = cI (if r.getD 8 0 = -1 ∧ r.getD 5 0 ≠ 0 then 1 else 0) ∧ (r.getD 8 0 ≠ -1 → L (M + 15) i = cL (V (r.getD 8 0).toNat) ∧ 0 ≤ V (r.getD 8 0).toNat ∧ V (r.getD 8 0).toNat ≤ 1000000000000000)) ∧
  (r.getD 0 0 = 6 → r.getD 3 0 = 8 → 0 < r.getD 9 0 → ∃ q : Nat, I (M + 17) i = cI q ∧ q + (r.getD 9 0).toNat ≤ pt ∧ ∀ j, j < (r.getD 9 0).toNat → (∃ p : Nat, I (M + 19) (q + j) = cI p ∧ PnV I M tp p (V ((r.getD 8 0).toNat + 2 * j))) ∧ (∃ p : Nat, I (M + 20) (q + j) = cI p ∧ PnV I M tp p (V ((r.getD 8 0).toNat + 2 * j + 1))))
theorem PnV.fx {I J : M32} {M tp tp' p : Nat} {v : Int} (h : PnV I M tp p v) (hf : ∀ k, k < tp → J (M + 3) k = I (M + 3) k) (ht : tp ≤ tp') : PnV J M tp' p v := by
  obtain ⟨m, h1, h2, h3⟩ := h
  exact ⟨m, h1, by omega, h3.congr fun k _ hk => hf k (by omega)⟩
theorem RowM.fx {I J : M32} {L L' : M64} {M tp pt tp' pt' i : Nat} {V : Nat → Int} {r : Row} (h : RowM I L M tp pt V i r) (hI : ∀ a, M + 6 ≤ a → a ≤ M + 18 → J a i = I a i) (hL : ∀ a, M + 6 ≤ a → a ≤ M + 18 → L' a i = L a i) (h3 : ∀ k, k < tp → J (M + 3) k = I (M + 3) k) (h19 : ∀ k, k < pt → J (M + 19) k = I (M + 19) k ∧ J (M + 20) k = I (M + 20) k) (ht : tp ≤ tp') (hp : pt ≤ pt') : RowM J L' M tp' pt' V i r := by
  obtain ⟨⟨a1, a2, a3, a4, a5, a6, a7, a8, a9⟩, b, c, e⟩ := h
  refine ⟨⟨?_, ?_, ?_, fun q => ?_, ?_, ?_, ?_, ?_, ?_⟩, fun q => ?_, fun q => ⟨?_, fun q2 => ?_⟩, fun q1 q2 q3 => ?_⟩
  · rw [hI _ (by omega) (by omega)]; exact a1
  · rw [hI _ (by omega) (by omega)]; exact a2
  · rw [hI _ (by omega) (by omega)]; exact a3
  · rw [hI _ (by omega) (by omega)]; exact a4 q
  · rw [hI _ (by omega) (by omega)]; exact a5
  · rw [hL _ (by omega) (by omega)]; exact a6
  · rw [hL _ (by omega) (by omega)]; exact a7
  · rw [hL _ (by omega) (by omega)]; exact a8
  · rw [hI _ (by omega) (by omega)]; exact a9
  · obtain ⟨p, z1, z2⟩ := b q
    exact ⟨p, by rw [hI _ (by omega) (by omega)]; exact z1, z2.fx h3 ht⟩
  · rw [hI _ (by omega) (by omega)]; exact (c q).1
  · rw [hL _ (by omega) (by omega)]; exact (c q).2 q2
  · obtain ⟨w, z1, z2, z3⟩ := e q1 q2 q3
    refine ⟨w, by rw [hI _ (by omega) (by omega)]; exact z1, by omega, fun j hj => ?_⟩
    obtain ⟨⟨p, y1, y2⟩, p', y3, y4⟩ := z3 j hj
    have h5 := h19 (w + j) (by omega)
    exact ⟨⟨p, by rw [h5.1]; exact y1, y2.fx h3 ht⟩, p', by rw [h5.2]; exact y3, y4.fx h3 ht⟩
def RowsM (I : M32) (L : M64) (M tp pt : Nat) (V : Nat → Int) (n : Nat) (rs : List Row) : Prop := ∀ k, k < rs.length → RowM I L M tp pt V (n + k) (rs.getD k [])
theorem RowsM.fx {I J : M32} {L L' : M64} {M tp pt tp' pt' n : Nat} {V : Nat → Int} {rs : List Row} (h : RowsM I L M tp pt V n rs) (hI : ∀ a k, M + 6 ≤ a → a ≤ M + 18 → n ≤ k → k < n + rs.length → J a k = I a k) (hL : ∀ a k, M + 6 ≤ a → a ≤ M + 18 → n ≤ k → k < n + rs.length → L' a k = L a k) (h3 : ∀ k, k < tp → J (M + 3) k = I (M + 3) k) (h19 : ∀ k, k < pt → J (M + 19) k = I (M + 19) k ∧ J (M + 20) k = I (M + 20) k) (ht : tp ≤ tp') (hp : pt ≤ pt') : RowsM J L' M tp' pt' V n rs := fun k hk => (h k hk).fx (fun a h1 h2 => hI a _ h1 h2 (by omega) (by omega)) (fun a h1 h2 => hL a _ h1 h2 (by omega) (by omega)) h3 h19 ht hp
theorem RowsM.nil {I : M32} {L : M64} {M tp pt n : Nat} {V : Nat → Int} : RowsM I L M tp pt V n [] := fun k hk => absurd hk (Nat.not_lt_zero k)
theorem RowsM.cons {I : M32} {L : M64} {M tp pt n : Nat} {V : Nat → Int} {r : Row} {rs : List Row} (h : RowM I L M tp pt V n r) (g : RowsM I L M tp pt V (n + 1) rs) : RowsM I L M tp pt V n (r :: rs) := fun k hk => by
  cases k with
  | zero => exact h
  | succ k =>
    have := g k (by simpa using hk)
    rw [show n + 1 + k = n + (k + 1) by omega] at this
    exact this
theorem RowsM.app {I : M32} {L : M64} {M tp pt n : Nat} {V : Nat → Int} {r s : List Row} (h : RowsM I L M tp pt V n r) (g : RowsM I L M tp pt V (n + r.length) s) : RowsM I L M tp pt V n (r ++ s) := fun k hk => by
  by_cases e : k < r.length
  · have := h k e
    rw [gapp_l _ _ _ e]
    exact this
  · have := g (k - r.length) (by rw [List.length_append] at hk; omega)
    rw [show n + r.length + (k - r.length) = n + k by omega] at this
    rw [gapp_r _ _ _ (by omega)]
    exact this
theorem AgV.app {V : Nat → Int} {m : Nat} {a b : List Int} (h : AgV V m (a ++ b)) : AgV V m a ∧ AgV V (m + a.length) b := ⟨fun j hj => by
    have := h j (by rw [List.length_append]; omega)
    rw [gapp_l _ _ _ hj] at this
    exact this, fun j hj => by
    have := h (a.length + j) (by rw [List.length_append]; omega)
    rw [gapp_r _ _ _ (by omega), show a.length + j - a.length = j by omega, show m + (a.length + j) = m + a.length + j by omega] at this
    exact this⟩

