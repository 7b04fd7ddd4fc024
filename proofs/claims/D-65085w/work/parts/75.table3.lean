/-! ===== 75 TABLES: remove ===== -/
theorem d_Table_remove_0 : decode m_Table_remove.2.1 0 = .ok (.aload_n 0, 1) := by decide +kernel
theorem d_Table_remove_1 : decode m_Table_remove.2.1 1 = .ok (.getfield 18, 3) := by decide +kernel
theorem d_Table_remove_4 : decode m_Table_remove.2.1 4 = .ok (.iload_n 1, 1) := by decide +kernel
theorem d_Table_remove_5 : decode m_Table_remove.2.1 5 = .ok (.aaload, 1) := by decide +kernel
theorem d_Table_remove_6 : decode m_Table_remove.2.1 6 = .ok (.astore_n 2, 1) := by decide +kernel
theorem d_Table_remove_7 : decode m_Table_remove.2.1 7 = .ok (.aload_n 0, 1) := by decide +kernel
theorem d_Table_remove_8 : decode m_Table_remove.2.1 8 = .ok (.dup, 1) := by decide +kernel
theorem d_Table_remove_9 : decode m_Table_remove.2.1 9 = .ok (.getfield 23, 3) := by decide +kernel
theorem d_Table_remove_12 : decode m_Table_remove.2.1 12 = .ok (.iconst 1, 1) := by decide +kernel
theorem d_Table_remove_13 : decode m_Table_remove.2.1 13 = .ok (.isub, 1) := by decide +kernel
theorem d_Table_remove_14 : decode m_Table_remove.2.1 14 = .ok (.putfield 23, 3) := by decide +kernel
theorem d_Table_remove_17 : decode m_Table_remove.2.1 17 = .ok (.iload_n 1, 1) := by decide +kernel
theorem d_Table_remove_18 : decode m_Table_remove.2.1 18 = .ok (.istore_n 3, 1) := by decide +kernel
theorem d_Table_remove_19 : decode m_Table_remove.2.1 19 = .ok (.iload_n 3, 1) := by decide +kernel
theorem d_Table_remove_20 : decode m_Table_remove.2.1 20 = .ok (.aload_n 0, 1) := by decide +kernel
theorem d_Table_remove_21 : decode m_Table_remove.2.1 21 = .ok (.getfield 23, 3) := by decide +kernel
theorem d_Table_remove_24 : decode m_Table_remove.2.1 24 = .ok (.if_icmp .ge 51, 3) := by decide +kernel
theorem d_Table_remove_27 : decode m_Table_remove.2.1 27 = .ok (.aload_n 0, 1) := by decide +kernel
theorem d_Table_remove_28 : decode m_Table_remove.2.1 28 = .ok (.getfield 7, 3) := by decide +kernel
theorem d_Table_remove_31 : decode m_Table_remove.2.1 31 = .ok (.iload_n 3, 1) := by decide +kernel
theorem d_Table_remove_32 : decode m_Table_remove.2.1 32 = .ok (.aload_n 0, 1) := by decide +kernel
theorem d_Table_remove_33 : decode m_Table_remove.2.1 33 = .ok (.getfield 7, 3) := by decide +kernel
theorem d_Table_remove_36 : decode m_Table_remove.2.1 36 = .ok (.iload_n 3, 1) := by decide +kernel
theorem d_Table_remove_37 : decode m_Table_remove.2.1 37 = .ok (.iconst 1, 1) := by decide +kernel
theorem d_Table_remove_38 : decode m_Table_remove.2.1 38 = .ok (.iadd, 1) := by decide +kernel
theorem d_Table_remove_39 : decode m_Table_remove.2.1 39 = .ok (.laload, 1) := by decide +kernel
theorem d_Table_remove_40 : decode m_Table_remove.2.1 40 = .ok (.lastore, 1) := by decide +kernel
theorem d_Table_remove_41 : decode m_Table_remove.2.1 41 = .ok (.aload_n 0, 1) := by decide +kernel
theorem d_Table_remove_42 : decode m_Table_remove.2.1 42 = .ok (.getfield 13, 3) := by decide +kernel
theorem d_Table_remove_45 : decode m_Table_remove.2.1 45 = .ok (.iload_n 3, 1) := by decide +kernel
theorem d_Table_remove_46 : decode m_Table_remove.2.1 46 = .ok (.aload_n 0, 1) := by decide +kernel
theorem d_Table_remove_47 : decode m_Table_remove.2.1 47 = .ok (.getfield 13, 3) := by decide +kernel
theorem d_Table_remove_50 : decode m_Table_remove.2.1 50 = .ok (.iload_n 3, 1) := by decide +kernel
theorem d_Table_remove_51 : decode m_Table_remove.2.1 51 = .ok (.iconst 1, 1) := by decide +kernel
theorem d_Table_remove_52 : decode m_Table_remove.2.1 52 = .ok (.iadd, 1) := by decide +kernel
theorem d_Table_remove_53 : decode m_Table_remove.2.1 53 = .ok (.laload, 1) := by decide +kernel
theorem d_Table_remove_54 : decode m_Table_remove.2.1 54 = .ok (.lastore, 1) := by decide +kernel
theorem d_Table_remove_55 : decode m_Table_remove.2.1 55 = .ok (.aload_n 0, 1) := by decide +kernel
theorem d_Table_remove_56 : decode m_Table_remove.2.1 56 = .ok (.getfield 18, 3) := by decide +kernel
theorem d_Table_remove_59 : decode m_Table_remove.2.1 59 = .ok (.iload_n 3, 1) := by decide +kernel
theorem d_Table_remove_60 : decode m_Table_remove.2.1 60 = .ok (.aload_n 0, 1) := by decide +kernel
theorem d_Table_remove_61 : decode m_Table_remove.2.1 61 = .ok (.getfield 18, 3) := by decide +kernel
theorem d_Table_remove_64 : decode m_Table_remove.2.1 64 = .ok (.iload_n 3, 1) := by decide +kernel
theorem d_Table_remove_65 : decode m_Table_remove.2.1 65 = .ok (.iconst 1, 1) := by decide +kernel
theorem d_Table_remove_66 : decode m_Table_remove.2.1 66 = .ok (.iadd, 1) := by decide +kernel
theorem d_Table_remove_67 : decode m_Table_remove.2.1 67 = .ok (.aaload, 1) := by decide +kernel
theorem d_Table_remove_68 : decode m_Table_remove.2.1 68 = .ok (.aastore, 1) := by decide +kernel
theorem d_Table_remove_69 : decode m_Table_remove.2.1 69 = .ok (.iinc 3 1, 3) := by decide +kernel
theorem d_Table_remove_72 : decode m_Table_remove.2.1 72 = .ok (.goto (-53), 3) := by decide +kernel
theorem d_Table_remove_75 : decode m_Table_remove.2.1 75 = .ok (.aload_n 0, 1) := by decide +kernel
theorem d_Table_remove_76 : decode m_Table_remove.2.1 76 = .ok (.getfield 18, 3) := by decide +kernel
theorem d_Table_remove_79 : decode m_Table_remove.2.1 79 = .ok (.aload_n 0, 1) := by decide +kernel
theorem d_Table_remove_80 : decode m_Table_remove.2.1 80 = .ok (.getfield 23, 3) := by decide +kernel
theorem d_Table_remove_83 : decode m_Table_remove.2.1 83 = .ok (.aload_n 2, 1) := by decide +kernel
theorem d_Table_remove_84 : decode m_Table_remove.2.1 84 = .ok (.aastore, 1) := by decide +kernel
theorem d_Table_remove_85 : decode m_Table_remove.2.1 85 = .ok (.return_, 1) := by decide +kernel
section
variable {Y : MI} {d rc rs pc : Nat} {lv : List (Nat × Value)} {st : List Value} {I : M32} {L : M64} {R : MR} {T : SH} {Q : QT}
theorem j_aastB {a v j n : Nat} {z : Int} (hd : decode Y.2.1 pc = .ok (.aastore, 1)) (ht : T.1 a = 70) (hn : T.2.1 a = n) (hz : z = (j : Int)) (hj : j < n) (hn9 : n ≤ 2147483647) (hv : T.1 v = 0 + 1) (kk : Run Y d rc rs (pc + 1) lv st I L (up2 R a j (some v)) T Q) : Run Y d rc rs pc lv (.ref v :: .int (cI z) :: .ref a :: st) I L R T Q := by
  have h := cI_inB hz hj hn9
  refine q_aast (t := 6) hd ht ⟨rfl, rfl⟩ (by rw [hn]; exact h.1) hv (by decide) rfl ?_
  rw [h.2]; exact kk
end
/-- the places behind the removal of entry p of n -/
def rmP (σ : Nat → Nat) (p n : Nat) : Nat → Nat := fun j => if p ≤ j ∧ j < n - 1 then σ (j + 1) else if j = n - 1 then σ p else σ j
theorem TbP.rm {R R' : MR} {t r p n : Nat} {σ : Nat → Nat} (h : TbP R t r σ) (hp : p < n) (hn : n ≤ r) (hR : ∀ j, j < r → R' (t + 3) j = if p ≤ j ∧ j < n - 1 then R (t + 3) (j + 1) else if j = n - 1 then R (t + 3) p else R (t + 3) j) : TbP R' t r (rmP σ p n) := by
  refine ⟨fun k hk => ?_, fun j k hj hk he => ?_⟩
  · rw [hR k hk]
    unfold rmP
    split
    · exact h.1 (k + 1) (by omega)
    · split
      · exact h.1 p (by omega)
      · exact h.1 k hk
  · have e1 : ∀ i, rmP σ p n i = σ (if p ≤ i ∧ i < n - 1 then i + 1 else if i = n - 1 then p else i) := fun i => by
      unfold rmP
      split
      · rfl
      · split <;> rfl
    rw [e1, e1] at he
    have h2 := h.2 _ _ (by (repeat' split) <;> omega) (by (repeat' split) <;> omega) he
    clear he e1 hR h
    by_cases c1 : p ≤ j ∧ j < n - 1
    · rw [if_pos c1] at h2; (repeat' split at h2) <;> omega
    · rw [if_neg c1] at h2
      by_cases c2 : j = n - 1
      · rw [if_pos c2] at h2; (repeat' split at h2) <;> omega
      · rw [if_neg c2] at h2; (repeat' split at h2) <;> omega
theorem TbS.fr {R R' : MR} {T : SH} {t r : Nat} (h : TbS R T t r) (hR : ∀ a k, a ≠ t + 3 → R' a k = R a k) : TbS R' T t r := by
  obtain ⟨s1, ⟨s2, s3, s4⟩, ⟨s5, s6, s7⟩, ⟨s8, s9, s10⟩, s11, s12⟩ := h
  exact ⟨s1, ⟨by rw [hR _ _ (by omega)]; exact s2, s3, s4⟩, ⟨by rw [hR _ _ (by omega)]; exact s5, s6, s7⟩, ⟨by rw [hR _ _ (by omega)]; exact s8, s9, s10⟩, s11, fun k hk => ⟨(s12 k hk).1, by rw [hR _ _ (by omega)]; exact (s12 k hk).2.1, (s12 k hk).2.2⟩⟩
theorem geras {l : List Ent} {p j : Nat} (hj : j < l.length - 1) (hp : p < l.length) : (l.eraseIdx p).getD j (0, 0, 0) = if j < p then l.getD j (0, 0, 0) else l.getD (j + 1) (0, 0, 0) := by
  simp only [List.getD_eq_getElem?_getD, List.getElem?_eraseIdx]
  split <;> rfl
theorem c_Table_remove (d : Nat) {t r p : Nat} {σ : Nat → Nat} {l : List Ent} {I : M32} {L : M64} {R : MR} {T : SH} (hS : TbS R T t r) (hP : TbP R t r σ) (hV : TbV I L t r σ l) (hp : p < l.length) :
    Call m_Table_remove y_Table_remove d 0 0 [.ref t, .int (cI p)] I L R T (rV fun I' L' R' T' => TbP R' t r (rmP σ p l.length) ∧ TbV I' L' t r (rmP σ p l.length) (l.eraseIdx p) ∧ I' = up2 I t 3 (cI (l.length - 1 : Nat)) ∧ Fx (STn t) L L' ∧ (∀ a k, a ≠ t + 3 → R' a k = R a k) ∧ T' = T) := by
  refine Call.ofRun (by decide) ⟨rfl, rfl⟩ (Nat.le_of_ble_eq_true rfl) ?_
  refine Run.gen fun Q hQ => ?_
  obtain ⟨s1, ⟨s2, s3, s4⟩, ⟨s5, s6, s7⟩, ⟨s8, s9, s10⟩, s11, s12⟩ := id hS
  obtain ⟨v1, v2, v3⟩ := id hV
  obtain ⟨n, hn⟩ : ∃ n, n = l.length := ⟨_, rfl⟩
  rw [← hn] at v1 v2 v3 hp
  rw [← hn] at hQ
  have pp := hP.1 p (by omega)
  have hBp := s12 (σ p) pp.2
  refine q_aload_n d_Table_remove_0 rfl ?_
  refine q_getR d_Table_remove_1 fl_Table_18 s1 ⟨rfl, by decide⟩ s8 ?_
  refine q_iload_n d_Table_remove_4 rfl ?_
  refine j_aald (j := p) d_Table_remove_5 s9 ⟨rfl, rfl⟩ s10 (by omega) (by omega) (by omega) (by rw [pp.1]; first | done | rfl) ?_
  refine q_astore_n (lv' := [(2, .ref (t + 4 + 2 * σ p)), (0, .ref t), (1, .int (cI (p : Int)))]) d_Table_remove_6 (by decide) rfl ?_
  refine q_aload_n d_Table_remove_7 rfl ?_
  refine q_dup d_Table_remove_8 rfl ?_
  refine j_getI (v := (cI (n : Int))) d_Table_remove_9 fl_Table_23 s1 ⟨rfl, by decide⟩ v2 ?_
  refine j_iconst d_Table_remove_12 ?_
  refine j_isub d_Table_remove_13 ?_
  refine q_putI d_Table_remove_14 fl_Table_23 s1 ⟨rfl, by decide, rfl, rfl⟩ ?_
  refine q_iload_n d_Table_remove_17 rfl ?_
  refine q_istore_n (lv' := [(3, .int (cI (p : Int))), (2, .ref (t + 4 + 2 * σ p)), (0, .ref t), (1, .int (cI (p : Int)))]) d_Table_remove_18 (by decide) rfl ?_
  generalize hI1 : (up2 I t 3 (cI ((n : Int) - 1))) = I1
  have hI1' : I1 = up2 I t 3 (cI ((n - 1 : Nat) : Int)) := by rw [← hI1, show ((n : Int) - 1) = ((n - 1 : Nat) : Int) by omega]
  have g3 : I1 t 3 = cI ((n - 1 : Nat) : Int) := by rw [hI1', up2_s]
  have hB1 : ∀ b v, b ≠ t → b + 1 ≠ t → BigV I b v → BigV I1 b v := fun b v e1 e2 h => h.congr (by rw [hI1', up2_row _ _ e1]) (by rw [hI1', up2_row _ _ e2])
  have loop : ∀ (f k : Nat) (z : Int) (K : M64) (G : MR), n - k < f → z = k → p ≤ k → k ≤ n - 1 → (∀ j, K (t + 1) j = if p ≤ j ∧ j < k then L (t + 1) (j + 1) else L (t + 1) j) → (∀ j, K (t + 2) j = if p ≤ j ∧ j < k then L (t + 2) (j + 1) else L (t + 2) j) → (∀ j, G (t + 3) j = if p ≤ j ∧ j < k then R (t + 3) (j + 1) else R (t + 3) j) → Fx (STn t) L K → (∀ a k', a ≠ t + 3 → G a k' = R a k') → Run m_Table_remove d 0 0 19 [(0, .ref t), (1, .int (cI (p : Int))), (2, .ref (t + 4 + 2 * σ p)), (3, .int (cI z))] [] I1 K G T Q := by
    intro f
    induction f with
    | zero => intro k z K G h; omega
    | succ f ih =>
    intro k z K G hf hz hpk hk h1 h2 h3 hFL hG
    subst hz
    refine q_iload_n d_Table_remove_19 rfl ?_
    refine q_aload_n d_Table_remove_20 rfl ?_
    refine j_getI (v := (cI ((n - 1 : Nat) : Int))) d_Table_remove_21 fl_Table_23 s1 ⟨rfl, by decide⟩ g3 ?_
    refine j_icmp_ge (tgt := 75) d_Table_remove_24 (by decide) (by omega) (by omega) (fun q1 => ?_) (fun q1 => ?_)
    · skip
      obtain rfl : k = n - 1 := by omega
      refine q_aload_n d_Table_remove_75 rfl ?_
      refine q_getR d_Table_remove_76 fl_Table_18 s1 ⟨rfl, by decide⟩ (by rw [hG _ _ (by omega)]; exact s8) ?_
      refine q_aload_n d_Table_remove_79 rfl ?_
      refine j_getI (v := (cI ((n - 1 : Nat) : Int))) d_Table_remove_80 fl_Table_23 s1 ⟨rfl, by decide⟩ g3 ?_
      refine q_aload_n d_Table_remove_83 rfl ?_
      refine j_aastB (j := (n - 1)) d_Table_remove_84 s9 s10 (by omega) (by omega) (by omega) hBp.1 ?_
      refine q_return d_Table_remove_85 rfl ?_
      refine hQ _ _ _ _ _ ?_
      refine ⟨rfl, ?_⟩
      have hR' : ∀ j, j < r → up2 G (t + 3) (n - 1) (some (t + 4 + 2 * σ p)) (t + 3) j = if p ≤ j ∧ j < n - 1 then R (t + 3) (j + 1) else if j = n - 1 then R (t + 3) p else R (t + 3) j := fun j hj => by
        by_cases e : j = n - 1
        · subst e; rw [up2_s, if_neg (by omega), if_pos rfl, pp.1]
        · rw [up2_k _ _ _ e, h3]
          by_cases e2 : p ≤ j ∧ j < n - 1
          · rw [if_pos e2, if_pos e2]
          · rw [if_neg e2, if_neg e2, if_neg e]
      refine ⟨hP.rm hp v1 hR', ⟨by rw [List.length_eraseIdx, ← hn]; split <;> omega, by rw [g3, List.length_eraseIdx, ← hn, if_pos hp], fun j hj => ?_⟩, hI1', hFL, fun a k' e => by rw [up2_row _ _ e]; exact hG a k' e, rfl⟩
      have hj2 : j < n - 1 := by rw [List.length_eraseIdx, ← hn, if_pos hp] at hj; exact hj
      rw [geras (by omega) (by omega), h1 j, h2 j]
      unfold rmP
      by_cases e : j < p
      · rw [if_pos e, if_neg (by omega), if_neg (by omega), if_neg (by omega), if_neg (by omega)]
        have w := v3 j (by omega)
        exact ⟨w.1, w.2.1, w.2.2.1, w.2.2.2.1, hB1 _ _ (by omega) (by omega) w.2.2.2.2⟩
      · rw [if_neg e, if_pos (by omega), if_pos (by omega), if_pos (by omega)]
        have w := v3 (j + 1) (by omega)
        exact ⟨w.1, w.2.1, w.2.2.1, w.2.2.2.1, hB1 _ _ (by omega) (by omega) w.2.2.2.2⟩
    · skip
      have w := v3 (k + 1) (by omega)
      have pk := hP.1 (k + 1) (by omega)
      have hBk := s12 (σ (k + 1)) pk.2
      have hGk : G (t + 3) (k + 1) = some (t + 4 + 2 * σ (k + 1)) := by rw [h3, if_neg (by omega)]; exact pk.1
      refine q_aload_n d_Table_remove_27 rfl ?_
      refine q_getR d_Table_remove_28 fl_Table_7 s1 ⟨rfl, by decide⟩ (by rw [hG _ _ (by omega)]; exact s2) ?_
      refine q_iload_n d_Table_remove_31 rfl ?_
      refine q_aload_n d_Table_remove_32 rfl ?_
      refine q_getR d_Table_remove_33 fl_Table_7 s1 ⟨rfl, by decide⟩ (by rw [hG _ _ (by omega)]; exact s2) ?_
      refine q_iload_n d_Table_remove_36 rfl ?_
      refine j_iconst d_Table_remove_37 ?_
      refine j_iadd d_Table_remove_38 ?_
      refine j_lald (j := (k + 1)) (v := (cL ((l.getD (k + 1) (0, 0, 0)).1 : Int))) d_Table_remove_39 s3 s4 (by omega) (by omega) (by omega) (by rw [h1, if_neg (by omega)]; exact w.1) ?_
      refine j_last (j := k) d_Table_remove_40 s3 s4 (by omega) (by omega) (by omega) ?_
      refine q_aload_n d_Table_remove_41 rfl ?_
      refine q_getR d_Table_remove_42 fl_Table_13 s1 ⟨rfl, by decide⟩ (by rw [hG _ _ (by omega)]; exact s5) ?_
      refine q_iload_n d_Table_remove_45 rfl ?_
      refine q_aload_n d_Table_remove_46 rfl ?_
      refine q_getR d_Table_remove_47 fl_Table_13 s1 ⟨rfl, by decide⟩ (by rw [hG _ _ (by omega)]; exact s5) ?_
      refine q_iload_n d_Table_remove_50 rfl ?_
      refine j_iconst d_Table_remove_51 ?_
      refine j_iadd d_Table_remove_52 ?_
      refine j_lald (j := (k + 1)) (v := (cL ((l.getD (k + 1) (0, 0, 0)).2.1 : Int))) d_Table_remove_53 s6 s7 (by omega) (by omega) (by omega) ((up2_a _ _ _ (by omega)).trans ((by rw [h2, if_neg (by omega)]; exact w.2.1))) ?_
      refine j_last (j := k) d_Table_remove_54 s6 s7 (by omega) (by omega) (by omega) ?_
      refine q_aload_n d_Table_remove_55 rfl ?_
      refine q_getR d_Table_remove_56 fl_Table_18 s1 ⟨rfl, by decide⟩ (by rw [hG _ _ (by omega)]; exact s8) ?_
      refine q_iload_n d_Table_remove_59 rfl ?_
      refine q_aload_n d_Table_remove_60 rfl ?_
      refine q_getR d_Table_remove_61 fl_Table_18 s1 ⟨rfl, by decide⟩ (by rw [hG _ _ (by omega)]; exact s8) ?_
      refine q_iload_n d_Table_remove_64 rfl ?_
      refine j_iconst d_Table_remove_65 ?_
      refine j_iadd d_Table_remove_66 ?_
      refine j_aald (j := (k + 1)) d_Table_remove_67 s9 ⟨rfl, rfl⟩ s10 (by omega) (by omega) (by omega) (by rw [hGk]; first | done | rfl) ?_
      refine j_aastB (j := k) d_Table_remove_68 s9 s10 (by omega) (by omega) (by omega) hBk.1 ?_
      refine j_iinc (lv' := [(3, .int (cI ((k : Int) + 1))), (0, .ref t), (1, .int (cI (p : Int))), (2, .ref (t + 4 + 2 * σ p))]) d_Table_remove_69 rfl (by decide) rfl ?_
      refine q_goto (tgt := 19) d_Table_remove_72 (by decide) ?_
      generalize hK2 : (up2 (up2 K (t + 1) k (cL ((l.getD (k + 1) (0, 0, 0)).1 : Int))) (t + 2) k (cL ((l.getD (k + 1) (0, 0, 0)).2.1 : Int))) = K2
      generalize hG2 : (up2 G (t + 3) k (some (t + 4 + 2 * σ (k + 1)))) = G2
      refine Run.lv (lv' := [(0, .ref t), (1, .int (cI (p : Int))), (2, .ref (t + 4 + 2 * σ p)), (3, .int (cI ((k : Int) + 1)))]) (by intro q hq; simp only [List.mem_cons, List.not_mem_nil, or_false] at hq ⊢; rcases hq with rfl | rfl | rfl | rfl <;> simp) ?_
      refine ih (k + 1) _ K2 G2 (by omega) (by omega) (by omega) (by omega) (fun j => ?_) (fun j => ?_) (fun j => ?_) (by rw [← hK2]; exact (hFL.tu (Or.inl rfl)).tu (Or.inr rfl)) (fun a k' e => by rw [← hG2, up2_row _ _ e]; exact hG a k' e)
      · rw [← hK2, up2_a _ _ _ (by omega)]
        by_cases e : j = k
        · subst e; rw [up2_s, if_pos (by omega)]; exact w.1.symm
        · rw [up2_k _ _ _ e, h1]; by_cases e2 : p ≤ j ∧ j < k
          · rw [if_pos e2, if_pos (by omega)]
          · rw [if_neg e2, if_neg (by omega)]
      · rw [← hK2]
        by_cases e : j = k
        · subst e; rw [up2_s, if_pos (by omega)]; exact w.2.1.symm
        · rw [up2_k _ _ _ e, up2_a _ _ _ (by omega), h2]; by_cases e2 : p ≤ j ∧ j < k
          · rw [if_pos e2, if_pos (by omega)]
          · rw [if_neg e2, if_neg (by omega)]
      · rw [← hG2]
        by_cases e : j = k
        · subst e; rw [up2_s, if_pos (by omega)]; exact pk.1.symm
        · rw [up2_k _ _ _ e, h3]; by_cases e2 : p ≤ j ∧ j < k
          · rw [if_pos e2, if_pos (by omega)]
          · rw [if_neg e2, if_neg (by omega)]
  refine Run.lv (lv' := [(0, .ref t), (1, .int (cI (p : Int))), (2, .ref (t + 4 + 2 * σ p)), (3, .int (cI (p : Int)))]) (by intro q hq; simp only [List.mem_cons, List.not_mem_nil, or_false] at hq ⊢; rcases hq with rfl | rfl | rfl | rfl <;> simp) ?_
  exact loop (n + 1) p _ L R (by omega) rfl (Nat.le_refl _) (by omega) (fun j => by rw [if_neg (by omega)]) (fun j => by rw [if_neg (by omega)]) (fun j => by rw [if_neg (by omega)]) Fx.rf (fun _ _ _ => rfl)

