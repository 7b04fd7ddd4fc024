/-! ===== 74 TABLES: take ===== -/
theorem d_Table_take_0 : decode m_Table_take.2.1 0 = .ok (.aload_n 0, 1) := by decide +kernel
theorem d_Table_take_1 : decode m_Table_take.2.1 1 = .ok (.aload_n 1, 1) := by decide +kernel
theorem d_Table_take_2 : decode m_Table_take.2.1 2 = .ok (.getfield 23, 3) := by decide +kernel
theorem d_Table_take_5 : decode m_Table_take.2.1 5 = .ok (.putfield 23, 3) := by decide +kernel
theorem d_Table_take_8 : decode m_Table_take.2.1 8 = .ok (.iconst 0, 1) := by decide +kernel
theorem d_Table_take_9 : decode m_Table_take.2.1 9 = .ok (.istore_n 2, 1) := by decide +kernel
theorem d_Table_take_10 : decode m_Table_take.2.1 10 = .ok (.iload_n 2, 1) := by decide +kernel
theorem d_Table_take_11 : decode m_Table_take.2.1 11 = .ok (.aload_n 0, 1) := by decide +kernel
theorem d_Table_take_12 : decode m_Table_take.2.1 12 = .ok (.getfield 23, 3) := by decide +kernel
theorem d_Table_take_15 : decode m_Table_take.2.1 15 = .ok (.if_icmp .ge 48, 3) := by decide +kernel
theorem d_Table_take_18 : decode m_Table_take.2.1 18 = .ok (.aload_n 0, 1) := by decide +kernel
theorem d_Table_take_19 : decode m_Table_take.2.1 19 = .ok (.getfield 7, 3) := by decide +kernel
theorem d_Table_take_22 : decode m_Table_take.2.1 22 = .ok (.iload_n 2, 1) := by decide +kernel
theorem d_Table_take_23 : decode m_Table_take.2.1 23 = .ok (.aload_n 1, 1) := by decide +kernel
theorem d_Table_take_24 : decode m_Table_take.2.1 24 = .ok (.getfield 7, 3) := by decide +kernel
theorem d_Table_take_27 : decode m_Table_take.2.1 27 = .ok (.iload_n 2, 1) := by decide +kernel
theorem d_Table_take_28 : decode m_Table_take.2.1 28 = .ok (.laload, 1) := by decide +kernel
theorem d_Table_take_29 : decode m_Table_take.2.1 29 = .ok (.lastore, 1) := by decide +kernel
theorem d_Table_take_30 : decode m_Table_take.2.1 30 = .ok (.aload_n 0, 1) := by decide +kernel
theorem d_Table_take_31 : decode m_Table_take.2.1 31 = .ok (.getfield 13, 3) := by decide +kernel
theorem d_Table_take_34 : decode m_Table_take.2.1 34 = .ok (.iload_n 2, 1) := by decide +kernel
theorem d_Table_take_35 : decode m_Table_take.2.1 35 = .ok (.aload_n 1, 1) := by decide +kernel
theorem d_Table_take_36 : decode m_Table_take.2.1 36 = .ok (.getfield 13, 3) := by decide +kernel
theorem d_Table_take_39 : decode m_Table_take.2.1 39 = .ok (.iload_n 2, 1) := by decide +kernel
theorem d_Table_take_40 : decode m_Table_take.2.1 40 = .ok (.laload, 1) := by decide +kernel
theorem d_Table_take_41 : decode m_Table_take.2.1 41 = .ok (.lastore, 1) := by decide +kernel
theorem d_Table_take_42 : decode m_Table_take.2.1 42 = .ok (.aload_n 0, 1) := by decide +kernel
theorem d_Table_take_43 : decode m_Table_take.2.1 43 = .ok (.getfield 18, 3) := by decide +kernel
theorem d_Table_take_46 : decode m_Table_take.2.1 46 = .ok (.iload_n 2, 1) := by decide +kernel
theorem d_Table_take_47 : decode m_Table_take.2.1 47 = .ok (.aaload, 1) := by decide +kernel
theorem d_Table_take_48 : decode m_Table_take.2.1 48 = .ok (.aload_n 1, 1) := by decide +kernel
theorem d_Table_take_49 : decode m_Table_take.2.1 49 = .ok (.getfield 18, 3) := by decide +kernel
theorem d_Table_take_52 : decode m_Table_take.2.1 52 = .ok (.iload_n 2, 1) := by decide +kernel
theorem d_Table_take_53 : decode m_Table_take.2.1 53 = .ok (.aaload, 1) := by decide +kernel
theorem d_Table_take_54 : decode m_Table_take.2.1 54 = .ok (.invokevirtual 27, 3) := by decide +kernel
theorem d_Table_take_57 : decode m_Table_take.2.1 57 = .ok (.iinc 2 1, 3) := by decide +kernel
theorem d_Table_take_60 : decode m_Table_take.2.1 60 = .ok (.goto (-50), 3) := by decide +kernel
theorem d_Table_take_63 : decode m_Table_take.2.1 63 = .ok (.return_, 1) := by decide +kernel
theorem Fx.row {α : Type} {S : Nat → Nat → Prop} {f g : Nat → Nat → α} (h : Fx S f g) {a : Nat} (ha : ∀ k, ¬ S a k) : g a = f a := funext fun k => h a k (ha k)
/-- the cells of a table's count and numbers -/
abbrev STb (t r a k : Nat) : Prop := (a = t ∧ k = 3) ∨ (t + 4 ≤ a ∧ a < t + 4 + 2 * r)
abbrev STn (t a : Nat) (_ : Nat) : Prop := a = t + 1 ∨ a = t + 2
theorem FrB.tb {t r b : Nat} {I J : M32} (h : FrB b I J) (h1 : t + 4 ≤ b) (h2 : b + 1 < t + 4 + 2 * r) : Fx (STb t r) I J := fun a k e => by rw [h a (by omega) (by omega)]
theorem c_Table_take (d : Nat) {t o r r' : Nat} {σ ρ : Nat → Nat} {l : List Ent} {I : M32} {L : M64} {R : MR} {T : SH} (hd : 1 ≤ d) (hS : TbS R T t r) (hP : TbP R t r σ) (hSo : TbS R T o r') (hPo : TbP R o r' ρ) (hVo : TbV I L o r' ρ l) (hlr : l.length ≤ r) (hne : t + 4 + 2 * r ≤ o ∨ o + 4 + 2 * r' ≤ t) :
    Call m_Table_take y_Table_take d 0 0 [.ref t, .ref o] I L R T (rV fun I' L' R' T' => (TbV I' L' t r σ l ∧ Fx (STb t r) I I' ∧ Fx (STn t) L L') ∧ R' = R ∧ T' = T) := by
  refine Call.ofRun (by decide) ⟨rfl, rfl⟩ (Nat.le_of_ble_eq_true rfl) ?_
  refine Run.gen fun Q hQ => ?_
  obtain ⟨s1, ⟨s2, s3, s4⟩, ⟨s5, s6, s7⟩, ⟨s8, s9, s10⟩, s11, s12⟩ := id hS
  obtain ⟨u1, ⟨u2, u3, u4⟩, ⟨u5, u6, u7⟩, ⟨u8, u9, u10⟩, u11, u12⟩ := id hSo
  obtain ⟨v1, v2, v3⟩ := id hVo
  obtain ⟨n, hn⟩ : ∃ n, n = l.length := ⟨_, rfl⟩
  rw [← hn] at v1 v2 v3 hlr
  refine q_aload_n d_Table_take_0 rfl ?_
  refine q_aload_n d_Table_take_1 rfl ?_
  refine j_getI (v := (cI (n : Int))) d_Table_take_2 fl_Table_23 u1 ⟨rfl, by decide⟩ v2 ?_
  refine q_putI d_Table_take_5 fl_Table_23 s1 ⟨rfl, by decide, rfl, rfl⟩ ?_
  refine j_iconst d_Table_take_8 ?_
  refine q_istore_n (lv' := [(2, .int (cI 0)), (0, .ref t), (1, .ref o)]) d_Table_take_9 (by decide) rfl ?_
  generalize hI1 : (up2 I t 3 (cI (n : Int))) = I1
  have f1 : Fx (STb t r) I I1 := by rw [← hI1]; exact Fx.up (Or.inl ⟨rfl, rfl⟩)
  have g3 : I1 t 3 = cI n := by rw [← hI1, up2_s]
  have loop : ∀ (f k : Nat) (z : Int) (J : M32) (K : M64), n - k < f → z = k → k ≤ n → J t 3 = cI n → (∀ j, j < k → K (t + 1) j = cL (l.getD j (0, 0, 0)).1 ∧ K (t + 2) j = cL (l.getD j (0, 0, 0)).2.1 ∧ BigV J (t + 4 + 2 * σ j) (l.getD j (0, 0, 0)).2.2) → Fx (STb t r) I J → Fx (STn t) L K → Run m_Table_take d 0 0 10 [(0, .ref t), (1, .ref o), (2, .int (cI z))] [] J K R T Q := by
    intro f
    induction f with
    | zero => intro k z J K h; omega
    | succ f ih =>
    intro k z J K hf hz hk hJ3 hall hFI hFL
    subst hz
    refine q_iload_n d_Table_take_10 rfl ?_
    refine q_aload_n d_Table_take_11 rfl ?_
    refine j_getI (v := (cI (n : Int))) d_Table_take_12 fl_Table_23 s1 ⟨rfl, by decide⟩ hJ3 ?_
    refine j_icmp_ge (tgt := 63) d_Table_take_15 (by decide) (by omega) (by omega) (fun h1 => ?_) (fun h1 => ?_)
    · skip
      obtain rfl : n = k := by omega
      refine q_return d_Table_take_63 rfl ?_
      refine hQ _ _ _ _ _ ?_
      refine ⟨rfl, ⟨⟨by omega, by rw [hJ3, hn], fun j hj => ?_⟩, hFI, hFL⟩, rfl, rfl⟩
      have h2 := hall j (by omega)
      have h3 := v3 j (by omega)
      exact ⟨h2.1, h2.2.1, h3.2.2.1, h3.2.2.2.1, h2.2.2⟩
    · skip
      have vk := v3 k (by omega)
      have pk := hP.1 k (by omega)
      have qk := hPo.1 k (by omega)
      have hBt := s12 (σ k) pk.2
      have hBo := u12 (ρ k) qk.2
      refine q_aload_n d_Table_take_18 rfl ?_
      refine q_getR d_Table_take_19 fl_Table_7 s1 ⟨rfl, by decide⟩ s2 ?_
      refine q_iload_n d_Table_take_22 rfl ?_
      refine q_aload_n d_Table_take_23 rfl ?_
      refine q_getR d_Table_take_24 fl_Table_7 u1 ⟨rfl, by decide⟩ u2 ?_
      refine q_iload_n d_Table_take_27 rfl ?_
      refine j_lald (j := k) (v := (cL ((l.getD k (0, 0, 0)).1 : Int))) d_Table_take_28 u3 u4 (by omega) (by omega) (by omega) (by rw [hFL _ _ (by omega)]; exact vk.1) ?_
      refine j_last (j := k) d_Table_take_29 s3 s4 (by omega) (by omega) (by omega) ?_
      refine q_aload_n d_Table_take_30 rfl ?_
      refine q_getR d_Table_take_31 fl_Table_13 s1 ⟨rfl, by decide⟩ s5 ?_
      refine q_iload_n d_Table_take_34 rfl ?_
      refine q_aload_n d_Table_take_35 rfl ?_
      refine q_getR d_Table_take_36 fl_Table_13 u1 ⟨rfl, by decide⟩ u5 ?_
      refine q_iload_n d_Table_take_39 rfl ?_
      refine j_lald (j := k) (v := (cL ((l.getD k (0, 0, 0)).2.1 : Int))) d_Table_take_40 u6 u7 (by omega) (by omega) (by omega) ((up2_a _ _ _ (by omega)).trans ((by rw [hFL _ _ (by omega)]; exact vk.2.1))) ?_
      refine j_last (j := k) d_Table_take_41 s6 s7 (by omega) (by omega) (by omega) ?_
      refine q_aload_n d_Table_take_42 rfl ?_
      refine q_getR d_Table_take_43 fl_Table_18 s1 ⟨rfl, by decide⟩ s8 ?_
      refine q_iload_n d_Table_take_46 rfl ?_
      refine j_aald (j := k) d_Table_take_47 s9 ⟨rfl, rfl⟩ s10 (by omega) (by omega) (by omega) (by rw [pk.1]; first | done | rfl) ?_
      refine q_aload_n d_Table_take_48 rfl ?_
      refine q_getR d_Table_take_49 fl_Table_18 u1 ⟨rfl, by decide⟩ u8 ?_
      refine q_iload_n d_Table_take_52 rfl ?_
      refine j_aald (j := k) d_Table_take_53 u9 ⟨rfl, rfl⟩ u10 (by omega) (by omega) (by omega) (by rw [qk.1]; first | done | rfl) ?_
      have hVk : BigV J (o + 4 + 2 * ρ k) (l.getD k (0, 0, 0)).2.2 := vk.2.2.2.2.congr (hFI.row fun k' => by omega) (hFI.row fun k' => by omega)
      refine q_callV (ci := 0) (rc := 0) (rs := 0) (rest := []) d_Table_take_54 ml_Table_27 ok_Big_set rfl hBt.1 (by decide) (c_Big_set (d - 1) hBt hBo (by omega) hVk) rfl rfl (by omega) (Nat.le_of_ble_eq_true rfl) (kv_V (fun J2 hJ2 => ?_)) kt_V
      generalize hK2 : (up2 (up2 K (t + 1) k (cL ((l.getD k (0, 0, 0)).1 : Int))) (t + 2) k (cL ((l.getD k (0, 0, 0)).2.1 : Int))) = K2
      have fK : Fx (fun a k' => (a = t + 1 ∨ a = t + 2) ∧ k' = k) K K2 := by rw [← hK2]; exact (Fx.up ⟨Or.inl rfl, rfl⟩).tu ⟨Or.inr rfl, rfl⟩
      have k1 : K2 (t + 1) k = cL (l.getD k (0, 0, 0)).1 := by rw [← hK2, up2_a _ _ _ (by omega), up2_s]
      have k2 : K2 (t + 2) k = cL (l.getD k (0, 0, 0)).2.1 := by rw [← hK2, up2_s]
      refine j_iinc (lv' := [(2, .int (cI ((k : Int) + 1))), (0, .ref t), (1, .ref o)]) d_Table_take_57 rfl (by decide) rfl ?_
      refine q_goto (tgt := 10) d_Table_take_60 (by decide) ?_
      refine Run.lv (lv' := [(0, .ref t), (1, .ref o), (2, .int (cI ((k : Int) + 1)))]) (by intro q hq; simp only [List.mem_cons, List.not_mem_nil, or_false] at hq ⊢; rcases hq with rfl | rfl | rfl <;> simp) ?_
      refine ih (k + 1) _ J2 K2 (by omega) (by omega) (by omega) (by rw [hJ2.2 t (by omega) (by omega)]; exact hJ3) (fun j hj => ?_) (hFI.tr (hJ2.2.tb (by omega) (by omega))) (hFL.tr (fK.mo fun a k' e => e.1))
      by_cases e : j = k
      · subst e; exact ⟨k1, k2, hJ2.1⟩
      · have h2 := hall j (by omega)
        have pj := hP.2 j k (by omega) (by omega)
        have hσ : σ j ≠ σ k := fun q => e (pj q)
        exact ⟨by rw [fK _ _ (by omega)]; exact h2.1, by rw [fK _ _ (by omega)]; exact h2.2.1, h2.2.2.congr (hJ2.2 _ (by omega) (by omega)) (hJ2.2 _ (by omega) (by omega))⟩
  refine Run.lv (lv' := [(0, .ref t), (1, .ref o), (2, .int (cI 0))]) (by intro q hq; simp only [List.mem_cons, List.not_mem_nil, or_false] at hq ⊢; rcases hq with rfl | rfl | rfl <;> simp) ?_
  exact loop (n + 1) 0 _ I1 L (by omega) rfl (Nat.zero_le _) g3 (fun j h => by omega) f1 Fx.rf

