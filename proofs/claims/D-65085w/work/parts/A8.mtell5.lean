/-! ===== A8 THE REFERENCE PRINTS: the tree ===== -/
section
variable {M tp pt d LO HI : Nat} {ρ : Nat → Row} {V : Nat → Int} {I0 I : M32} {L : M64} {R : MR} {T : SH} {Q : QT} {l l' : List Nat} {pile pile' : List (Nat × Nat)}
/-- the loop tells a node of fuel f that lies on the pile -/
def TlOk (M d LO HI : Nat) (ρ : Nat → Row) (V : Nat → Int) (I0 : M32) (L : M64) (R : MR) (T : SH) (Q : QT) (f : Nat) : Prop := ∀ s n m n' m' l pile I, Wf ρ V f s n m n' m' → LO ≤ n → n' ≤ HI → pile.length + 5 * f ≤ 5000 → TlS M I0 l ((0, n) :: pile) I → (∀ I', TlS M I0 (prN ρ V f n l) pile I' → HT d M L R T Q I') → HT d M L R T Q I
theorem TlOk.ch {f n n' m' : Nat} {c : Int} (ih : TlOk M d LO HI ρ V I0 L R T Q f) (hlo : LO ≤ n) (hhi : n' ≤ HI) (hc : c = -1 ∨ ChO ρ V f n n' m' c) (hp : pile.length + 5 * f ≤ 5000) (hS : TlS M I0 l (layL 0 c pile) I) (kk : ∀ I', TlS M I0 (chP (prN ρ V f) c l) pile I' → HT d M L R T Q I') : HT d M L R T Q I :=
  ht_ch (lo := n) (hi := n') (mh := m') (fun s k m n1 m1 l pile I hw h1 h2 _ hp hS kk => ih s k m n1 m1 l pile I hw (by omega) (by omega) hp hS kk) hc hp hS kk
theorem ChO.i {f lo hi mh : Nat} {c : Int} (h : c = -1 ∨ ChO ρ V f lo hi mh c) (hh : hi ≤ 5100) : -1 ≤ c ∧ c < 5100 := by
  rcases h with h | ⟨k, s, m, n', m', e, h1, h2, h3, h4⟩
  · omega
  · have := Wf_le _ _ _ _ _ _ h4; omega
/-- cases in a row -/
theorem tl_cases {f n2 m2 : Nat} (hM : MdlS M R T) (hr : ∀ i, LO ≤ i → i < HI → RowM I0 L M tp pt V i (ρ i)) (hHI : HI ≤ 5100) (htp : tp ≤ 1100000) (hpt : pt ≤ 20400) (hd : 5 ≤ d) (ih : TlOk M d LO HI ρ V I0 L R T Q f) (hn2 : n2 ≤ HI) : ∀ (k n3 m3 : Nat) (c : Int) (l : List Nat) (pile : List (Nat × Nat)) (I : M32), LO ≤ n3 → c = (if n2 = n3 then -1 else (n3 : Int)) → WfC ρ (WfS V (fun _ _ _ _ _ _ => False) (Wf ρ V f)) k n3 m3 n2 m2 → pile.length + 2 + 5 * f ≤ 5000 → TlS M I0 l (layL 0 c pile) I → (∀ I', TlS M I0 (prCs ρ V (prN ρ V f) k c l) pile I' → HT d M L R T Q I') → HT d M L R T Q I
  | 0, n3, m3, c, l, pile, I, hl, hc, hC, hp, hS, kk => by
    rw [if_pos hC.1] at hc
    subst hc
    exact kk I hS
  | k + 1, n3, m3, c, l, pile, I, hl, hc, hC, hp, hS, kk => by
    have hSle : ∀ (w sl : Nat) (r : Row) (n m : Nat) (r' : Row) (n' m' : Nat), WfS V (fun _ _ _ _ _ _ => False) (Wf ρ V f) w sl r n m r' n' m' → n ≤ n' ∧ m ≤ m' := fun w sl r n m r' n' m' => WfS_le (V := V) (C := fun _ _ _ _ _ _ => False) (w := w) (sl := sl) (r := r) (n := n) (m := m) (r' := r') (n' := n') (m' := m') (Wf_le (ρ := ρ) (V := V) f) (fun _ _ _ _ _ _ h => absurd h (fun h => h))
    rcases hC with ⟨e1, e2⟩ | ⟨κ, dep, r, n4, m4, k1, k2, k3, k4, k5⟩
    · rw [if_pos e1] at hc
      subst hc
      exact kk I hS
    have b1 := WfL_le hSle _ _ _ _ _ _ _ k2
    have b2 := WfC_le hSle _ _ _ _ _ k5
    rw [if_neg (by omega)] at hc
    have hca : CaF ρ V f n3 n4 m4 (ρ n3) := by rw [k3]; exact (WfL.caf k1 k2).o
    have hcn : CaN (ρ n3) := by rw [k3]; exact (WfL.can k1 k2).o
    have hr11 : r.length = 11 := (WfL.caf k1 k2).1.1
    have hnx : (ρ n3).getD 4 0 = (if n2 = n4 then -1 else (n4 : Int)) := by rw [k3, gset_s (by omega)]
    have h1c : (ρ n3).getD 1 0 = -1 ∨ ChO ρ V f n3 n4 m4 ((ρ n3).getD 1 0) := hca.1.2.2.2.1
    have h2c : (ρ n3).getD 2 0 = -1 ∨ ChO ρ V f n3 n4 m4 ((ρ n3).getD 2 0) := Or.inr hca.2.1
    have h1i := ChO.i h1c (by omega)
    have h2i := ChO.i h2c (by omega)
    have h4i : -1 ≤ (ρ n3).getD 4 0 ∧ (ρ n3).getD 4 0 < 5100 := by rw [hnx]; split <;> omega
    have hpk : prK ρ V (prN ρ V f) n3 l = chP (prN ρ V f) ((ρ n3).getD 2 0) (chP (prN ρ V f) ((ρ n3).getD 1 0) (kaL V (ρ n3) l)) := by
      rw [prK_ka]
      obtain ⟨k', s', m', nn', mm', e', -⟩ := hca.2.1
      have c2 : ∀ l0, chP (prN ρ V f) ((ρ n3).getD 2 0) l0 = prN ρ V f ((ρ n3).getD 2 0).toNat l0 := fun l0 => by unfold chP; rw [if_neg (by omega)]
      rw [c2]
      congr 1
      unfold chP
      rcases hca.2.2 with ⟨h7, kq, s', m', nn', mm', e1, -⟩ | ⟨h8, -⟩
      · rw [if_neg (by omega), if_neg (by omega)]
      · rcases hcn with h | h | h
        · omega
        · rw [if_pos h8, if_pos h.2.2.2.2]
        · omega
    have hstep : prCs ρ V (prN ρ V f) (k + 1) c l = prCs ρ V (prN ρ V f) k ((ρ n3).getD 4 0) (prK ρ V (prN ρ V f) n3 l) := by
      show (if c = -1 then l else prCs ρ V (prN ρ V f) k ((ρ c.toNat).getD 4 0) (prK ρ V (prN ρ V f) c.toNat l)) = _
      rw [if_neg (show ¬ c = -1 by omega), hc, Int.toNat_natCast]
    rw [hc, layL_n] at hS
    have g1 := layL_le 0 ((ρ n3).getD 4 0) pile
    have g2 := layL_le 0 ((ρ n3).getD 2 0) (layL 0 ((ρ n3).getD 4 0) pile)
    refine ht_node hM hS (by omega) (fun I1 s1 => c_Model_tellNodeC (d - 1) (by omega) hM s1 (by omega) (hr n3 hl (by omega)) (by omega) htp hpt hca.1.2.1 hcn (fun h8 => ?_) h1i h2i h4i) hd fun I' s' => ?_
    · rcases hca.2.2 with ⟨h7, -⟩ | ⟨-, k', p', z1, z2, z3, -⟩
      · omega
      · exact ⟨k', p', z1, z2, z3⟩
    refine ih.ch hl (by omega) h1c (by omega) s' fun I2 s2 => ?_
    refine ih.ch hl (by omega) h2c (by omega) s2 fun I3 s3 => ?_
    rw [← hpk] at s3
    refine tl_cases hM hr hHI htp hpt hd ih hn2 k n4 m4 _ _ pile I3 (by omega) hnx k5 hp s3 fun I4 s4 => kk I4 ?_
    rw [hstep]; exact s4
theorem TlOk.step {f : Nat} (hM : MdlS M R T) (hr : ∀ i, LO ≤ i → i < HI → RowM I0 L M tp pt V i (ρ i)) (hHI : HI ≤ 5100) (htp : tp ≤ 1100000) (hpt : pt ≤ 20400) (hd : 5 ≤ d) (ih : TlOk M d LO HI ρ V I0 L R T Q f) : TlOk M d LO HI ρ V I0 L R T Q (f + 1) := by
  intro s n m n' m' l pile I hw hlo hhi hp hS kk
  have hb := Wf_le _ _ _ _ _ _ hw
  have hrn := hr n hlo (by omega)
  by_cases h5 : (ρ n).getD 0 0 = 5
  · obtain ⟨n2, m2, g1, g2, g3, g4, g5, g6⟩ := hw.whn h5
    have h2i := ChO.i (Or.inr g5) (by omega)
    have h1i : -1 ≤ (ρ n).getD 1 0 ∧ (ρ n).getD 1 0 < 5100 := by rw [g1]; split <;> omega
    have q1 := layL_le 0 ((ρ n).getD 2 0) pile
    refine ht_node hM hS (by omega) (fun I1 s1 => c_Model_tellNodeH (d - 1) (by omega) hM s1 (by omega) hrn (by omega) h5 h1i h2i) hd fun I1 s1 => ?_
    refine ht_br hM s1 (by omega) (Or.inl rfl) (wordL_pos (by decide)) hd fun I2 s2 => ?_
    refine tl_cases hM hr hHI htp hpt hd ih (by omega) 8 (n + 1) m _ _ _ I2 (by omega) g1 g2 (by rw [List.length_cons, List.length_cons]; omega) s2 fun I3 s3 => ?_
    have p3 : 0 < (prCs ρ V (prN ρ V f) 8 ((ρ n).getD 1 0) (wordL (wordL l (kwL 5)) [91])).length := Nat.lt_of_lt_of_le (wordL_pos (by decide)) (prCs_len (prN_len ρ V f) _ _ _)
    refine ht_br hM s3 (by omega) (Or.inr rfl) p3 hd fun I4 s4 => ?_
    refine ht_tm hM s4 hrn (by omega) h5 ?_ (wordL_pos (by decide)) hd fun I5 s5 => ?_
    · rcases g4 with h | ⟨h1, h2, -⟩
      · exact Or.inl h
      · exact Or.inr ⟨h1, m2, h2⟩
    refine ih.ch hlo hhi (Or.inr g5) (by omega) s5 fun I6 s6 => kk I6 ?_
    unfold prN
    dsimp only
    rw [h5, if_neg (by decide), if_neg (by decide), if_pos rfl]
    obtain ⟨k', s', m'', nn', mm', e', -⟩ := g5
    have c2 : ∀ l0, chP (prN ρ V f) ((ρ n).getD 2 0) l0 = prN ρ V f ((ρ n).getD 2 0).toNat l0 := fun l0 => by unfold chP; rw [if_neg (by omega)]
    rw [c2] at s6
    exact s6
  obtain ⟨hok, hI⟩ := hw.inv h5
  by_cases h100 : (ρ n).getD 0 0 = 100
  · refine ht_node hM hS (by omega) (fun I1 s1 => c_Model_tellNodeV (d - 1) (by omega) hM s1 hrn (by omega) htp h100) hd fun I1 s1 => kk I1 ?_
    unfold prN
    dsimp only
    rw [if_pos h100]; exact s1
  by_cases h102 : (ρ n).getD 0 0 = 102
  · obtain ⟨x, w1, w2⟩ := hw.par h102
    refine ht_node hM hS (by omega) (fun I1 s1 => c_Model_tellNodeP (d - 1) (by omega) hM s1 hrn (by omega) h102 w1 w2) hd fun I1 s1 => kk I1 ?_
    unfold prN
    dsimp only
    rw [if_neg h100, if_pos h102, w1, Int.toNat_natCast]; exact s1
  obtain ⟨k, hk, hk34, hkn⟩ : ∃ k : Nat, (ρ n).getD 0 0 = (k : Int) ∧ k < 34 ∧ (k ≠ 2 ∧ k ≠ 3 ∧ k ≠ 5 ∧ k ≠ 6 ∧ k ≠ 7 ∧ k ≠ 8 ∧ k ≠ 9) := by
    obtain ⟨κ, hκ⟩ : ∃ κ, κ = (ρ n).getD 0 0 := ⟨_, rfl⟩
    rw [← hκ] at hok h5 h100 h102 ⊢
    have hx : 0 ≤ κ ∧ κ < 34 ∧ (κ ≠ 2 ∧ κ ≠ 3 ∧ κ ≠ 6 ∧ κ ≠ 7 ∧ κ ≠ 8 ∧ κ ≠ 9) := by
      unfold okS at hok
      (repeat' split at hok) <;> rw [decide_eq_true_eq] at hok <;> omega
    exact ⟨κ.toNat, by omega, by omega, by omega⟩
  obtain ⟨c3, hc3⟩ : ∃ c3, c3 = if (ρ n).getD 0 0 = 4 ∨ (ρ n).getD 0 0 = 22 then (ρ n).getD 3 0 else -1 := ⟨_, rfl⟩
  have h3c : c3 = -1 ∨ ChO ρ V f n n' m' c3 := by
    rw [hc3]
    by_cases e : (ρ n).getD 0 0 = 4 ∨ (ρ n).getD 0 0 = 22
    · rw [if_pos e]; exact Or.inr (hw.thr e)
    · rw [if_neg e]; exact Or.inl rfl
  have h1c := hI.2.2.2.1
  have h2c := hI.2.2.2.2
  have h1i := ChO.i h1c (by omega)
  have h2i := ChO.i h2c (by omega)
  have h3i := ChO.i h3c (by omega)
  have q1 := layL_le 0 c3 pile
  have q2 := layL_le 0 ((ρ n).getD 2 0) (layL 0 c3 pile)
  refine ht_node hM hS (by omega) (fun I1 s1 => c_Model_tellNodeW (d - 1) (by omega) hM s1 (by omega) hrn (by omega) hk hk34 hkn hI.2.2.1.1 hI.2.2.1.2.1 hI.2.2.1.2.2 h1i h2i hc3 h3i) hd fun I1 s1 => ?_
  refine ih.ch hlo hhi h1c (by omega) s1 fun I2 s2 => ?_
  refine ih.ch hlo hhi h2c (by omega) s2 fun I3 s3 => ?_
  refine ih.ch hlo hhi h3c (by omega) s3 fun I4 s4 => kk I4 ?_
  unfold prN
  dsimp only
  rw [if_neg h100, if_neg h102, if_neg h5]
  unfold pwN at s4
  dsimp only at s4
  by_cases e : (ρ n).getD 0 0 = 4 ∨ (ρ n).getD 0 0 = 22
  · rw [if_pos e]
    rw [if_pos e] at hc3
    obtain ⟨k', s', m'', nn', mm', e', -⟩ := hw.thr e
    have c2 : ∀ l0, chP (prN ρ V f) c3 l0 = prN ρ V f ((ρ n).getD 3 0).toNat l0 := fun l0 => by unfold chP; rw [if_neg (by omega), hc3]
    rw [c2] at s4
    exact s4
  · rw [if_neg e]
    rw [if_neg e] at hc3
    have c2 : ∀ l0, chP (prN ρ V f) c3 l0 = l0 := fun l0 => by unfold chP; rw [if_pos hc3]
    rw [c2] at s4
    exact s4
theorem tlAll (hM : MdlS M R T) (hr : ∀ i, LO ≤ i → i < HI → RowM I0 L M tp pt V i (ρ i)) (hHI : HI ≤ 5100) (htp : tp ≤ 1100000) (hpt : pt ≤ 20400) (hd : 5 ≤ d) : ∀ f, TlOk M d LO HI ρ V I0 L R T Q f
  | 0 => fun s n m n' m' l pile I hw => absurd hw (fun h => h)
  | f + 1 => (tlAll hM hr hHI htp hpt hd f).step hM hr hHI htp hpt hd
/-- the reference prints a contract -/
theorem c_Model_tellAll {f s n m n' m' : Nat} (d : Nat) (hd : 6 ≤ d) (hM : MdlS M R T) (hr : ∀ i, LO ≤ i → i < HI → RowM I L M tp pt V i (ρ i)) (hHI : HI ≤ 5100) (htp : tp ≤ 1100000) (hpt : pt ≤ 20400) (hw : Wf ρ V f s n m n' m') (hlo : LO ≤ n) (hhi : n' ≤ HI) (hf : f ≤ 200) :
    Call m_Model_tellAll y_Model_tellAll d 0 0 [.ref M, .int (cI (n : Int))] I L R T (rI fun r I' L' R' T' => r = cI ((prN ρ V f n []).length : Nat) ∧ MOut I' M (prN ρ V f n []) ∧ FrT' M I I' ∧ L' = L ∧ R' = R ∧ T' = T) := by
  have hb := Wf_le _ _ _ _ _ _ hw
  refine Call.ofRun (by decide) ⟨rfl, rfl⟩ (Nat.le_of_ble_eq_true rfl) ?_
  refine Run.gen fun Q hQ => ?_
  refine q_aload_n d_Model_tellAll_0 rfl ?_
  refine j_iconst d_Model_tellAll_1 ?_
  refine q_putI d_Model_tellAll_2 fl_Model_402 hM.1 ⟨rfl, by decide, rfl, rfl⟩ ?_
  refine q_aload_n d_Model_tellAll_5 rfl ?_
  refine j_iconst d_Model_tellAll_6 ?_
  refine q_putI d_Model_tellAll_7 fl_Model_707 hM.1 ⟨rfl, by decide, rfl, rfl⟩ ?_
  refine q_aload_n d_Model_tellAll_10 rfl ?_
  refine j_iconst d_Model_tellAll_11 ?_
  refine q_iload_n d_Model_tellAll_12 rfl ?_
  generalize hI1 : (up2 (up2 I M 4 (cI 0)) M 55 (cI 0)) = I1
  have s1 : TlS M I [] [] I1 := by
    rw [← hI1]
    refine ⟨⟨Nat.zero_le _, ?_, fun j hj => absurd hj (Nat.not_lt_zero j)⟩, trivial, ?_, ⟨fun a e1 e2 e3 e4 => ?_, fun k e1 e2 => ?_⟩, Nat.zero_le _⟩
    · rw [up2_k _ _ _ (by decide), up2_s]; rfl
    · rw [up2_s]; rfl
    · rw [up2_row _ _ e1, up2_row _ _ e1]
    · rw [up2_k _ _ _ e2, up2_k _ _ _ e1]
  refine q_callV (ci := 17) (rc := 0) (rs := 0) (rest := []) d_Model_tellAll_13 ml_Model_713 ok_Model_lay rfl hM.1 (by decide) (c_Model_lay (d - 1) (w := 0) hM s1 (by decide) (by omega)) rfl rfl (by omega) (Nat.le_of_ble_eq_true rfl) (kv_V (fun J2 s2 => ?_)) kt_V
  rw [layL_n] at s2
  have hH : HT d M L R T Q J2 := by
    refine tlAll (Q := Q) (d := d) hM hr hHI htp hpt (by omega) f s n m n' m' [] [] J2 hw hlo hhi (by show 0 + 5 * f ≤ 5000; omega) s2 fun I' s' => ?_
    unfold HT
    have h55 : I' M 55 = cI 0 := s'.2.2.1
    refine q_aload_n d_Model_tellAll_16 rfl ?_
    refine j_getI (v := (cI 0)) d_Model_tellAll_17 fl_Model_707 hM.1 ⟨rfl, by decide⟩ h55 ?_
    refine j_if_le (tgt := 136) d_Model_tellAll_20 (by decide) (by omega) (fun hx => ?_) (fun hx => by exfalso; omega)
    refine q_aload_n d_Model_tellAll_136 rfl ?_
    refine j_getI (v := (cI ((((prN ρ V f n []).length : Nat) : Int)))) d_Model_tellAll_137 fl_Model_402 hM.1 ⟨rfl, by decide⟩ s'.1.2.1 ?_
    refine q_ireturn d_Model_tellAll_140 rfl rfl ?_
    refine hQ _ _ _ _ _ ?_
    exact ⟨_, rfl, rfl, s'.1, s'.2.2.2.1, rfl, rfl, rfl⟩
  unfold HT at hH
  exact Run.lv (lv' := [(0, .ref M)]) (by intro q hq; rw [List.mem_singleton] at hq; subst hq; exact List.Mem.head _) hH
end

