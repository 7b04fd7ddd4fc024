/-! ===== 78 TOLD take; STATE ===== -/
theorem c_Told_take (d : Nat) {t o : Nat} {l : List Ten} {I : M32} {L : M64} {R : MR} {T : SH} (hd : 1 ≤ d) (hS : TdS R T t) (hSo : TdS R T o) (hVo : TdV I L o l) (hne : t + 126 ≤ o ∨ o + 126 ≤ t) :
    Call m_Told_take y_Told_take d 0 0 [.ref t, .ref o] I L R T (rV fun I' L' R' T' => (TdV I' L' t l ∧ Fx (Rg t 126) I I' ∧ Fx (Rg t 126) L L') ∧ R' = R ∧ T' = T) := by
  refine Call.ofRun (by decide) ⟨rfl, rfl⟩ (Nat.le_of_ble_eq_true rfl) ?_
  refine Run.gen fun Q hQ => ?_
  obtain ⟨s1, ⟨s2, s3, s4⟩, ⟨s5, s6, s7⟩, ⟨s8, s9, s10⟩, ⟨s11, s12, s13⟩, ⟨s14, s15, s16⟩, s17⟩ := id hS
  obtain ⟨u1, ⟨u2, u3, u4⟩, ⟨u5, u6, u7⟩, ⟨u8, u9, u10⟩, ⟨u11, u12, u13⟩, ⟨u14, u15, u16⟩, u17⟩ := id hSo
  obtain ⟨v1, v2, v3⟩ := id hVo
  obtain ⟨n, hn⟩ : ∃ n, n = l.length := ⟨_, rfl⟩
  rw [← hn] at v1 v2 v3
  refine q_aload_n d_Told_take_0 rfl ?_
  refine q_aload_n d_Told_take_1 rfl ?_
  refine j_getI (v := (cI (n : Int))) d_Told_take_2 fl_Told_32 u1 ⟨rfl, by decide⟩ v2 ?_
  refine q_putI d_Told_take_5 fl_Told_32 s1 ⟨rfl, by decide, rfl, rfl⟩ ?_
  refine j_iconst d_Told_take_8 ?_
  refine q_istore_n (lv' := [(2, .int (cI 0)), (0, .ref t), (1, .ref o)]) d_Told_take_9 (by decide) rfl ?_
  generalize hI1 : (up2 I t 5 (cI (n : Int))) = I1
  have f1 : Fx (Rg t 126) I I1 := by rw [← hI1]; exact Fx.up ⟨Nat.le_refl _, by omega⟩
  have g3 : I1 t 5 = cI n := by rw [← hI1, up2_s]
  have loop : ∀ (f k : Nat) (z : Int) (J : M32) (K : M64), n - k < f → z = k → k ≤ n → J t 5 = cI n → (∀ j, j < k → TenV J K t j (t5 l j)) → Fx (Rg t 126) I J → Fx (Rg t 126) L K → Run m_Told_take d 0 0 10 [(0, .ref t), (1, .ref o), (2, .int (cI z))] [] J K R T Q := by
    intro f
    induction f with
    | zero => intro k z J K h; omega
    | succ f ih =>
    intro k z J K hf hz hk hJ3 hall hFI hFL
    subst hz
    refine q_iload_n d_Told_take_10 rfl ?_
    refine q_aload_n d_Told_take_11 rfl ?_
    refine j_getI (v := (cI (n : Int))) d_Told_take_12 fl_Told_32 s1 ⟨rfl, by decide⟩ hJ3 ?_
    refine j_icmp_ge (tgt := 87) d_Told_take_15 (by decide) (by omega) (by omega) (fun h1 => ?_) (fun h1 => ?_)
    · skip
      obtain rfl : n = k := by omega
      refine q_return d_Told_take_87 rfl ?_
      refine hQ _ _ _ _ _ ?_
      exact ⟨rfl, ⟨⟨by omega, by rw [hJ3, hn], fun j hj => hall j (by omega)⟩, hFI, hFL⟩, rfl, rfl⟩
    · skip
      obtain ⟨w1, w2, w3, w4, w5, w6⟩ := v3 k (by omega)
      have pk := s17 k (by omega)
      have qk := u17 k (by omega)
      refine q_aload_n d_Told_take_18 rfl ?_
      refine q_getR d_Told_take_19 fl_Told_9 s1 ⟨rfl, by decide⟩ s2 ?_
      refine q_iload_n d_Told_take_22 rfl ?_
      refine q_aload_n d_Told_take_23 rfl ?_
      refine q_getR d_Told_take_24 fl_Told_9 u1 ⟨rfl, by decide⟩ u2 ?_
      refine q_iload_n d_Told_take_27 rfl ?_
      refine j_iald (j := k) (v := (cI ((t5 l k).1 : Int))) d_Told_take_28 u3 u4 (by omega) (by omega) (by omega) (by rw [hFI _ _ (by omega)]; exact w1) ?_
      refine j_iast (j := k) d_Told_take_29 s3 s4 (by omega) (by omega) (by omega) ?_
      refine q_aload_n d_Told_take_30 rfl ?_
      refine q_getR d_Told_take_31 fl_Told_15 s1 ⟨rfl, by decide⟩ s5 ?_
      refine q_iload_n d_Told_take_34 rfl ?_
      refine q_aload_n d_Told_take_35 rfl ?_
      refine q_getR d_Told_take_36 fl_Told_15 u1 ⟨rfl, by decide⟩ u5 ?_
      refine q_iload_n d_Told_take_39 rfl ?_
      refine j_lald (j := k) (v := (cL ((t5 l k).2.1 : Int))) d_Told_take_40 u6 u7 (by omega) (by omega) (by omega) (by rw [hFL _ _ (by omega)]; exact w2) ?_
      refine j_last (j := k) d_Told_take_41 s6 s7 (by omega) (by omega) (by omega) ?_
      refine q_aload_n d_Told_take_42 rfl ?_
      refine q_getR d_Told_take_43 fl_Told_19 s1 ⟨rfl, by decide⟩ s8 ?_
      refine q_iload_n d_Told_take_46 rfl ?_
      refine q_aload_n d_Told_take_47 rfl ?_
      refine q_getR d_Told_take_48 fl_Told_19 u1 ⟨rfl, by decide⟩ u8 ?_
      refine q_iload_n d_Told_take_51 rfl ?_
      refine j_lald (j := k) (v := (cL ((t5 l k).2.2.1 : Int))) d_Told_take_52 u9 u10 (by omega) (by omega) (by omega) ((up2_a _ _ _ (by omega)).trans ((by rw [hFL _ _ (by omega)]; exact w3))) ?_
      refine j_last (j := k) d_Told_take_53 s9 s10 (by omega) (by omega) (by omega) ?_
      refine q_aload_n d_Told_take_54 rfl ?_
      refine q_getR d_Told_take_55 fl_Told_22 s1 ⟨rfl, by decide⟩ s11 ?_
      refine q_iload_n d_Told_take_58 rfl ?_
      refine q_aload_n d_Told_take_59 rfl ?_
      refine q_getR d_Told_take_60 fl_Told_22 u1 ⟨rfl, by decide⟩ u11 ?_
      refine q_iload_n d_Told_take_63 rfl ?_
      refine j_lald (j := k) (v := (cL ((t5 l k).2.2.2.1 : Int))) d_Told_take_64 u12 u13 (by omega) (by omega) (by omega) ((up2_a _ _ _ (by omega)).trans ((up2_a _ _ _ (by omega)).trans ((by rw [hFL _ _ (by omega)]; exact w4)))) ?_
      refine j_last (j := k) d_Told_take_65 s12 s13 (by omega) (by omega) (by omega) ?_
      refine q_aload_n d_Told_take_66 rfl ?_
      refine q_getR d_Told_take_67 fl_Told_27 s1 ⟨rfl, by decide⟩ s14 ?_
      refine q_iload_n d_Told_take_70 rfl ?_
      refine j_aald (j := k) d_Told_take_71 s15 ⟨rfl, rfl⟩ s16 (by omega) (by omega) (by omega) (by rw [pk.1]; first | done | rfl) ?_
      refine q_aload_n d_Told_take_72 rfl ?_
      refine q_getR d_Told_take_73 fl_Told_27 u1 ⟨rfl, by decide⟩ u14 ?_
      refine q_iload_n d_Told_take_76 rfl ?_
      refine j_aald (j := k) d_Told_take_77 u15 ⟨rfl, rfl⟩ u16 (by omega) (by omega) (by omega) (by rw [qk.1]; first | done | rfl) ?_
      generalize hJ1 : (up2 J (t + 1) k (cI ((t5 l k).1 : Int))) = J1
      generalize hK2 : (up2 (up2 (up2 K (t + 2) k (cL ((t5 l k).2.1 : Int))) (t + 3) k (cL ((t5 l k).2.2.1 : Int))) (t + 4) k (cL ((t5 l k).2.2.2.1 : Int))) = K2
      have fJ : Fx (fun a k' => a = t + 1 ∧ k' = k) J J1 := by rw [← hJ1]; exact Fx.up ⟨rfl, rfl⟩
      have fK : Fx (fun a k' => (a = t + 2 ∨ a = t + 3 ∨ a = t + 4) ∧ k' = k) K K2 := by rw [← hK2]; exact ((Fx.up ⟨Or.inl rfl, rfl⟩).tu ⟨Or.inr (Or.inl rfl), rfl⟩).tu ⟨Or.inr (Or.inr rfl), rfl⟩
      have hVk : BigV J1 (o + 6 + 2 * k) (t5 l k).2.2.2.2 := (w5.congr (hFI.row fun k' => by omega) (hFI.row fun k' => by omega)).congr (fJ.row fun k' => by omega) (fJ.row fun k' => by omega)
      refine q_callV (ci := 0) (rc := 0) (rs := 0) (rest := []) d_Told_take_78 ml_Told_39 ok_Big_set rfl pk.2.1 (by decide) (c_Big_set (d - 1) pk.2 qk.2 (by omega) hVk) rfl rfl (by omega) (Nat.le_of_ble_eq_true rfl) (kv_V (fun J2 hJ2 => ?_)) kt_V
      refine j_iinc (lv' := [(2, .int (cI ((k : Int) + 1))), (0, .ref t), (1, .ref o)]) d_Told_take_81 rfl (by decide) rfl ?_
      refine q_goto (tgt := 10) d_Told_take_84 (by decide) ?_
      have hrow : ∀ a, a ≠ t + 6 + 2 * k → a ≠ t + 6 + 2 * k + 1 → J2 a = J1 a := fun a e2 e3 => hJ2.2 a e2 e3
      refine Run.lv (lv' := [(0, .ref t), (1, .ref o), (2, .int (cI ((k : Int) + 1)))]) (by intro q hq; simp only [List.mem_cons, List.not_mem_nil, or_false] at hq ⊢; rcases hq with rfl | rfl | rfl <;> simp) ?_
      refine ih (k + 1) _ J2 K2 (by omega) (by omega) (by omega) (by rw [hrow t (by omega) (by omega), fJ t 5 (by omega)]; exact hJ3) (fun j hj => ?_) ((hFI.tr (fJ.mo fun a k' e => by omega)).tr (hJ2.2.rg (by omega) (by omega))) (hFL.tr (fK.mo fun a k' e => by omega))
      by_cases e : j = k
      · subst e
        refine ⟨?_, ?_, ?_, ?_, hJ2.1, w6⟩
        · rw [hrow _ (by omega) (by omega), ← hJ1, up2_s]
        · rw [← hK2, up2_a _ _ _ (by omega), up2_a _ _ _ (by omega), up2_s]
        · rw [← hK2, up2_a _ _ _ (by omega), up2_s]
        · rw [← hK2, up2_s]
      · have h2 := hall j (by omega)
        refine h2.congr ?_ (fK _ _ (by omega)) (fK _ _ (by omega)) (fK _ _ (by omega)) ?_ ?_
        · rw [hrow _ (by omega) (by omega)]; exact fJ _ _ (by omega)
        · rw [hrow _ (by omega) (by omega)]; exact fJ.row fun k' => by omega
        · rw [hrow _ (by omega) (by omega)]; exact fJ.row fun k' => by omega
  refine Run.lv (lv' := [(0, .ref t), (1, .ref o), (2, .int (cI 0))]) (by intro q hq; simp only [List.mem_cons, List.not_mem_nil, or_false] at hq ⊢; rcases hq with rfl | rfl | rfl <;> simp) ?_
  exact loop (n + 1) 0 _ I1 L (by omega) rfl (Nat.zero_le _) g3 (fun j h => by omega) f1 Fx.rf
/-- a table with its numbers in some places -/
def TbO (R : MR) (t r : Nat) : Prop := ∃ σ, TbP R t r σ
def TbH (I : M32) (L : M64) (R : MR) (t r : Nat) (l : List Ent) : Prop := ∃ σ, TbP R t r σ ∧ TbV I L t r σ l
theorem TbH.o {I : M32} {L : M64} {R : MR} {t r : Nat} {l : List Ent} (h : TbH I L R t r l) : TbO R t r := ⟨h.choose, h.choose_spec.1⟩
theorem TbP.congr {R R' : MR} {t r : Nat} {σ : Nat → Nat} (h : TbP R t r σ) (e : ∀ k, R' (t + 3) k = R (t + 3) k) : TbP R' t r σ := ⟨fun k hk => by rw [e]; exact h.1 k hk, h.2⟩
theorem TbO.congr {R R' : MR} {t r : Nat} (h : TbO R t r) (e : ∀ k, R' (t + 3) k = R (t + 3) k) : TbO R' t r := ⟨h.choose, h.choose_spec.congr e⟩
theorem TbV.congr {I J : M32} {L K : M64} {t r : Nat} {σ : Nat → Nat} {l : List Ent} (h : TbV I L t r σ l) (hσ : ∀ k, k < r → σ k < r) (h1 : ∀ a k, t ≤ a → a < t + 4 + 2 * r → J a k = I a k) (h2 : ∀ a k, t ≤ a → a < t + 4 → K a k = L a k) : TbV J K t r σ l := by
  refine ⟨h.1, by rw [h1 _ _ (by omega) (by omega)]; exact h.2.1, fun k hk => ?_⟩
  have w := h.2.2 k hk
  have hs := hσ k (by have := h.1; omega)
  exact ⟨by rw [h2 _ _ (by omega) (by omega)]; exact w.1, by rw [h2 _ _ (by omega) (by omega)]; exact w.2.1, w.2.2.1, w.2.2.2.1, w.2.2.2.2.congr (funext fun k' => h1 _ _ (by omega) (by omega)) (funext fun k' => h1 _ _ (by omega) (by omega))⟩
theorem TbH.congr {I J : M32} {L K : M64} {R G : MR} {t r : Nat} {l : List Ent} (h : TbH I L R t r l) (h1 : ∀ a k, t ≤ a → a < t + 4 + 2 * r → J a k = I a k) (h2 : ∀ a k, t ≤ a → a < t + 4 → K a k = L a k) (h3 : ∀ k, G (t + 3) k = R (t + 3) k) : TbH J K G t r l := by
  obtain ⟨σ, hP, hV⟩ := h
  exact ⟨σ, hP.congr h3, hV.congr (fun k hk => (hP.1 k hk).2) h1 h2⟩
theorem TbV.clear {I : M32} {L : M64} {t r : Nat} {σ : Nat → Nat} (h : I t 3 = cI 0) : TbV I L t r σ [] := ⟨Nat.zero_le _, h, fun k hk => absurd hk (Nat.not_lt_zero k)⟩
/-- a state: its three tables, its time, its node -/
abbrev PSt := List Ent × List Ent × List Ent × Nat × Nat
def StS (R : MR) (T : SH) (s : Nat) : Prop := T.1 s = 10 + 1 ∧ (R s 0 = some (s + 1) ∧ TbS R T (s + 1) 40) ∧ (R s 1 = some (s + 85) ∧ TbS R T (s + 85) 40) ∧ (R s 2 = some (s + 169) ∧ TbS R T (s + 169) 40)
def StO (R : MR) (s : Nat) : Prop := TbO R (s + 1) 40 ∧ TbO R (s + 85) 40 ∧ TbO R (s + 169) 40
def StV (I : M32) (L : M64) (R : MR) (s : Nat) (p : PSt) : Prop := TbH I L R (s + 1) 40 p.1 ∧ TbH I L R (s + 85) 40 p.2.1 ∧ TbH I L R (s + 169) 40 p.2.2.1 ∧ L s 3 = cL p.2.2.2.1 ∧ I s 4 = cI p.2.2.2.2
theorem StV.o {I : M32} {L : M64} {R : MR} {s : Nat} {p : PSt} (h : StV I L R s p) : StO R s := ⟨h.1.o, h.2.1.o, h.2.2.1.o⟩
theorem StV.congr {I J : M32} {L K : M64} {R G : MR} {s : Nat} {p : PSt} (h : StV I L R s p) (h1 : ∀ a k, s ≤ a → a < s + 253 → J a k = I a k) (h2 : ∀ a k, s ≤ a → a < s + 253 → K a k = L a k) (h3 : ∀ a k, s ≤ a → a < s + 253 → G a k = R a k) : StV J K G s p := by
  obtain ⟨a1, a2, a3, a4, a5⟩ := h
  exact ⟨a1.congr (fun a k _ _ => h1 a k (by omega) (by omega)) (fun a k _ _ => h2 a k (by omega) (by omega)) (fun k => h3 _ k (by omega) (by omega)), a2.congr (fun a k _ _ => h1 a k (by omega) (by omega)) (fun a k _ _ => h2 a k (by omega) (by omega)) (fun k => h3 _ k (by omega) (by omega)), a3.congr (fun a k _ _ => h1 a k (by omega) (by omega)) (fun a k _ _ => h2 a k (by omega) (by omega)) (fun k => h3 _ k (by omega) (by omega)), by rw [h2 _ _ (by omega) (by omega)]; exact a4, by rw [h1 _ _ (by omega) (by omega)]; exact a5⟩
theorem Fx.tbr {t r s n : Nat} {I J : M32} (h : Fx (STb t r) I J) (h1 : s ≤ t) (h2 : t + 4 + 2 * r ≤ s + n) : Fx (Rg s n) I J := h.mo fun a k e => by rcases e with ⟨e, _⟩ | e <;> omega
theorem Fx.tnr {t s n : Nat} {I J : M64} (h : Fx (STn t) I J) (h1 : s ≤ t) (h2 : t + 2 < s + n) : Fx (Rg s n) I J := h.mo fun a k e => by rcases e with e | e <;> omega
theorem c_State_take (d : Nat) {s o : Nat} {p : PSt} {I : M32} {L : M64} {R : MR} {T : SH} (hd : 2 ≤ d) (hS : StS R T s) (hP : StO R s) (hSo : StS R T o) (hVo : StV I L R o p) (hne : s + 253 ≤ o ∨ o + 253 ≤ s) :
    Call m_State_take y_State_take d 0 0 [.ref s, .ref o] I L R T (rV fun I' L' R' T' => (StV I' L' R s p ∧ Fx (Rg s 253) I I' ∧ Fx (Rg s 253) L L') ∧ R' = R ∧ T' = T) := by
  refine Call.ofRun (by decide) ⟨rfl, rfl⟩ (Nat.le_of_ble_eq_true rfl) ?_
  refine Run.gen fun Q hQ => ?_
  obtain ⟨s1, ⟨s2, s3⟩, ⟨s4, s5⟩, ⟨s6, s7⟩⟩ := id hS
  obtain ⟨u1, ⟨u2, u3⟩, ⟨u4, u5⟩, ⟨u6, u7⟩⟩ := id hSo
  obtain ⟨⟨σ1, p1⟩, ⟨σ2, p2⟩, ⟨σ3, p3⟩⟩ := hP
  obtain ⟨⟨ρ1, q1, w1⟩, ⟨ρ2, q2, w2⟩, ⟨ρ3, q3, w3⟩, w4, w5⟩ := hVo
  refine q_aload_n d_State_take_0 rfl ?_
  refine q_getR d_State_take_1 fl_State_14 s1 ⟨rfl, by decide⟩ s2 ?_
  refine q_aload_n d_State_take_4 rfl ?_
  refine q_getR d_State_take_5 fl_State_14 u1 ⟨rfl, by decide⟩ u2 ?_
  refine q_callV (ci := 9) (rc := 0) (rs := 0) (rest := []) d_State_take_8 ml_State_26 ok_Table_take rfl s3.1 (by decide) (c_Table_take (d - 1) (by omega) s3 p1 u3 q1 w1 w1.1 (by omega)) rfl rfl (by omega) (Nat.le_of_ble_eq_true rfl) (kr_V (fun I1 L1 R1 T1 h1 => ?_)) kt_V
  obtain ⟨⟨a1, b1, c1⟩, rfl, rfl⟩ := h1
  refine q_aload_n d_State_take_11 rfl ?_
  refine q_getR d_State_take_12 fl_State_20 s1 ⟨rfl, by decide⟩ s4 ?_
  refine q_aload_n d_State_take_15 rfl ?_
  refine q_getR d_State_take_16 fl_State_20 u1 ⟨rfl, by decide⟩ u4 ?_
  refine q_callV (ci := 9) (rc := 0) (rs := 0) (rest := []) d_State_take_19 ml_State_26 ok_Table_take rfl s5.1 (by decide) (c_Table_take (d - 1) (by omega) s5 p2 u5 q2 (w2.congr (fun k hk => (q2.1 k hk).2) (fun a k e e' => b1 _ _ (by omega)) (fun a k e e' => c1 _ _ (by omega))) w2.1 (by omega)) rfl rfl (by omega) (Nat.le_of_ble_eq_true rfl) (kr_V (fun I2 L2 R2 T2 h2 => ?_)) kt_V
  obtain ⟨⟨a2, b2, c2⟩, rfl, rfl⟩ := h2
  refine q_aload_n d_State_take_22 rfl ?_
  refine q_getR d_State_take_23 fl_State_23 s1 ⟨rfl, by decide⟩ s6 ?_
  refine q_aload_n d_State_take_26 rfl ?_
  refine q_getR d_State_take_27 fl_State_23 u1 ⟨rfl, by decide⟩ u6 ?_
  refine q_callV (ci := 9) (rc := 0) (rs := 0) (rest := []) d_State_take_30 ml_State_26 ok_Table_take rfl s7.1 (by decide) (c_Table_take (d - 1) (by omega) s7 p3 u7 q3 ((w3.congr (fun k hk => (q3.1 k hk).2) (fun a k e e' => b1 _ _ (by omega)) (fun a k e e' => c1 _ _ (by omega))).congr (fun k hk => (q3.1 k hk).2) (fun a k e e' => b2 _ _ (by omega)) (fun a k e e' => c2 _ _ (by omega))) w3.1 (by omega)) rfl rfl (by omega) (Nat.le_of_ble_eq_true rfl) (kr_V (fun I3 L3 R3 T3 h3 => ?_)) kt_V
  obtain ⟨⟨a3, b3, c3⟩, rfl, rfl⟩ := h3
  have bb := ((b1.tbr (s := s) (n := 253) (by omega) (by omega)).tr (b2.tbr (by omega) (by omega))).tr (b3.tbr (by omega) (by omega))
  have cc := ((c1.tnr (s := s) (n := 253) (by omega) (by omega)).tr (c2.tnr (by omega) (by omega))).tr (c3.tnr (by omega) (by omega))
  refine q_aload_n d_State_take_33 rfl ?_
  refine q_aload_n d_State_take_34 rfl ?_
  refine j_getL (v := (cL (p.2.2.2.1 : Int))) d_State_take_35 fl_State_30 u1 ⟨rfl, by decide⟩ ((cc _ _ (by omega)).trans w4) ?_
  refine q_putL d_State_take_38 fl_State_30 s1 ⟨rfl, by decide, rfl, rfl⟩ ?_
  refine q_aload_n d_State_take_41 rfl ?_
  refine q_aload_n d_State_take_42 rfl ?_
  refine j_getI (v := (cI (p.2.2.2.2 : Int))) d_State_take_43 fl_State_34 u1 ⟨rfl, by decide⟩ ((bb _ _ (by omega)).trans w5) ?_
  refine q_putI d_State_take_46 fl_State_34 s1 ⟨rfl, by decide, rfl, rfl⟩ ?_
  generalize hI4 : (up2 I3 s 4 (cI (p.2.2.2.2 : Int))) = I4
  generalize hL4 : (up2 L3 s 3 (cL (p.2.2.2.1 : Int))) = L4
  have f4 : Fx (fun a k => a = s ∧ k = 4) I3 I4 := by rw [← hI4]; exact Fx.up ⟨rfl, rfl⟩
  have g4 : Fx (fun a k => a = s ∧ k = 3) L3 L4 := by rw [← hL4]; exact Fx.up ⟨rfl, rfl⟩
  refine q_return d_State_take_49 rfl ?_
  refine hQ _ _ _ _ _ ?_
  refine ⟨rfl, ⟨⟨⟨σ1, p1, ?_⟩, ⟨σ2, p2, ?_⟩, ⟨σ3, p3, ?_⟩, by rw [← hL4, up2_s], by rw [← hI4, up2_s]⟩, bb.tr (f4.mo fun a k e => by omega), cc.tr (g4.mo fun a k e => by omega)⟩, rfl, rfl⟩
  · exact a1.congr (fun k hk => (p1.1 k hk).2) (fun a k e e' => (f4 _ _ (by omega)).trans ((b3 _ _ (by omega)).trans (b2 _ _ (by omega)))) (fun a k e e' => (g4 _ _ (by omega)).trans ((c3 _ _ (by omega)).trans (c2 _ _ (by omega))))
  · exact a2.congr (fun k hk => (p2.1 k hk).2) (fun a k e e' => by rw [f4 _ _ (by omega), b3 _ _ (by omega)]) (fun a k e e' => by rw [g4 _ _ (by omega), c3 _ _ (by omega)])
  · exact a3.congr (fun k hk => (p3.1 k hk).2) (fun a k e e' => by rw [f4 _ _ (by omega)]) (fun a k e e' => by rw [g4 _ _ (by omega)])
theorem c_State_clear (d : Nat) {s : Nat} {I : M32} {L : M64} {R : MR} {T : SH} (hd : 1 ≤ d) (hS : StS R T s) :
    Call m_State_clear y_State_clear d 0 0 [.ref s] I L R T (rV fun I' L' R' T' => I' = up2 (up2 (up2 I (s + 1) 3 (cI 0)) (s + 85) 3 (cI 0)) (s + 169) 3 (cI 0) ∧ L' = L ∧ R' = R ∧ T' = T) := by
  refine Call.ofRun (by decide) ⟨rfl, rfl⟩ (Nat.le_of_ble_eq_true rfl) ?_
  refine Run.gen fun Q hQ => ?_
  obtain ⟨s1, ⟨s2, s3⟩, ⟨s4, s5⟩, ⟨s6, s7⟩⟩ := id hS
  refine q_aload_n d_State_clear_0 rfl ?_
  refine q_getR d_State_clear_1 fl_State_14 s1 ⟨rfl, by decide⟩ s2 ?_
  refine q_callV (ci := 9) (rc := 0) (rs := 0) (rest := []) d_State_clear_4 ml_State_38 ok_Table_clear rfl s3.1 (by decide) (c_Table_clear (d - 1) s3) rfl rfl (by omega) (Nat.le_of_ble_eq_true rfl) (kp_V ?_) kt_V
  refine q_aload_n d_State_clear_7 rfl ?_
  refine q_getR d_State_clear_8 fl_State_20 s1 ⟨rfl, by decide⟩ s4 ?_
  refine q_callV (ci := 9) (rc := 0) (rs := 0) (rest := []) d_State_clear_11 ml_State_38 ok_Table_clear rfl s5.1 (by decide) (c_Table_clear (d - 1) s5) rfl rfl (by omega) (Nat.le_of_ble_eq_true rfl) (kp_V ?_) kt_V
  refine q_aload_n d_State_clear_14 rfl ?_
  refine q_getR d_State_clear_15 fl_State_23 s1 ⟨rfl, by decide⟩ s6 ?_
  refine q_callV (ci := 9) (rc := 0) (rs := 0) (rest := []) d_State_clear_18 ml_State_38 ok_Table_clear rfl s7.1 (by decide) (c_Table_clear (d - 1) s7) rfl rfl (by omega) (Nat.le_of_ble_eq_true rfl) (kp_V ?_) kt_V
  refine q_return d_State_clear_21 rfl ?_
  refine hQ _ _ _ _ _ ?_
  exact ⟨rfl, rfl, rfl, rfl, rfl⟩

