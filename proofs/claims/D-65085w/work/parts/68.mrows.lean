/-! ===== 68 ROWS OF THE REFERENCE CHANGE; what goes on after an item ===== -/
theorem gset_ne {i j : Nat} {r : Row} {v : Int} (h : i ≠ j) : (r.set i v).getD j 0 = r.getD j 0 := by
  simp only [List.getD_eq_getElem?_getD, List.getElem?_set_ne h]
theorem gset_eq {i : Nat} {r : Row} {v : Int} (h : i < r.length) : (r.set i v).getD i 0 = v := by
  simp only [List.getD_eq_getElem?_getD, List.getElem?_set_self h, Option.getD_some]
/-- a name is set -/
theorem RowM.nm {I J : M32} {L L' : M64} {M tp pt i s x : Nat} {V : Nat → Int} {r : Row} (h : RowM I L M tp pt V i r) (hr : r.length = 11) (hs : s = 1 ∨ s = 2 ∨ s = 3) (h5 : s = 1 → r.getD 0 0 ≠ 5) (hJ : ∀ a k, a ≠ M → J a k = I a k) (hL : Fx (fun a k => a = M ∨ (a = M + 6 + s ∧ k = i)) L L') (hx : L' (M + 6 + s) i = cL x) : RowM J L' M tp pt V i (r.set (4 + s) (x : Int)) := by
  have h' : RowM J L M tp pt V i r := h.fx (fun a h1 h2 => hJ _ _ (by omega)) (fun _ _ _ => rfl) (fun k _ => hJ _ _ (by omega)) (fun k _ => ⟨hJ _ _ (by omega), hJ _ _ (by omega)⟩) (Nat.le_refl _) (Nat.le_refl _)
  obtain ⟨⟨a1, a2, a3, a4, a5, a6, a7, a8, a9⟩, b, c, e⟩ := h'
  rcases hs with rfl | rfl | rfl
  · refine ⟨⟨?_, ?_, ?_, ?_, ?_, ?_, ?_, ?_, ?_⟩, ?_, fun q => ?_, ?_⟩
    · rw [gset_ne (by decide), gset_ne (by decide)]; exact a1
    · rw [gset_ne (by decide)]; exact a2
    · rw [gset_ne (by decide)]; exact a3
    · rw [gset_ne (by decide), gset_ne (by decide)]; exact a4
    · rw [gset_ne (by decide)]; exact a5
    · rw [gset_eq (by omega)]; exact hx
    · rw [gset_ne (by decide), hL _ _ (by omega)]; exact a7
    · rw [gset_ne (by decide), hL _ _ (by omega)]; exact a8
    · rw [gset_ne (by decide)]; exact a9
    · rw [gset_ne (by decide), gset_ne (by decide)]; exact b
    · rw [gset_ne (by decide)] at q; exact absurd q (h5 rfl)
    · rw [gset_ne (by decide), gset_ne (by decide), gset_ne (by decide), gset_ne (by decide)]; exact e
  · refine ⟨⟨?_, ?_, ?_, ?_, ?_, ?_, ?_, ?_, ?_⟩, ?_, ?_, ?_⟩
    · rw [gset_ne (by decide), gset_ne (by decide)]; exact a1
    · rw [gset_ne (by decide)]; exact a2
    · rw [gset_ne (by decide)]; exact a3
    · rw [gset_ne (by decide), gset_ne (by decide)]; exact a4
    · rw [gset_ne (by decide)]; exact a5
    · rw [gset_ne (by decide), hL _ _ (by omega)]; exact a6
    · rw [gset_eq (by omega)]; exact hx
    · rw [gset_ne (by decide), hL _ _ (by omega)]; exact a8
    · rw [gset_ne (by decide)]; exact a9
    · rw [gset_ne (by decide), gset_ne (by decide)]; exact b
    · rw [gset_ne (by decide), gset_ne (by decide), gset_ne (by decide), hL _ _ (by omega)]; exact c
    · rw [gset_ne (by decide), gset_ne (by decide), gset_ne (by decide), gset_ne (by decide)]; exact e
  · refine ⟨⟨?_, ?_, ?_, ?_, ?_, ?_, ?_, ?_, ?_⟩, ?_, ?_, ?_⟩
    · rw [gset_ne (by decide), gset_ne (by decide)]; exact a1
    · rw [gset_ne (by decide)]; exact a2
    · rw [gset_ne (by decide)]; exact a3
    · rw [gset_ne (by decide), gset_ne (by decide)]; exact a4
    · rw [gset_ne (by decide)]; exact a5
    · rw [gset_ne (by decide), hL _ _ (by omega)]; exact a6
    · rw [gset_ne (by decide), hL _ _ (by omega)]; exact a7
    · rw [gset_eq (by omega)]; exact hx
    · rw [gset_ne (by decide)]; exact a9
    · rw [gset_ne (by decide), gset_ne (by decide)]; exact b
    · rw [gset_ne (by decide), gset_ne (by decide), gset_ne (by decide), hL _ _ (by omega)]; exact c
    · rw [gset_ne (by decide), gset_ne (by decide), gset_ne (by decide), gset_ne (by decide)]; exact e
/-- a child is linked -/
theorem RowM.ch {I J : M32} {L : M64} {M tp pt i s : Nat} {v : Int} {V : Nat → Int} {r : Row} (h : RowM I L M tp pt V i r) (hr : r.length = 11) (hs : s = 1 ∨ s = 2 ∨ (s = 3 ∧ (r.getD 0 0 = 4 ∨ r.getD 0 0 = 22))) (hJ : ∀ a, M + 6 ≤ a → a ≤ M + 18 → a ≠ M + 9 + s → J a i = I a i) (h3 : ∀ k, k < tp → J (M + 3) k = I (M + 3) k) (h19 : ∀ k, k < pt → J (M + 19) k = I (M + 19) k ∧ J (M + 20) k = I (M + 20) k) (hx : J (M + 9 + s) i = cI v) : RowM J L M tp pt V i (r.set s v) := by
  have hs3 : 1 ≤ s ∧ s ≤ 3 := by omega
  have j14 := hJ (M + 14) (by omega) (by omega) (by omega)
  have j16 := hJ (M + 16) (by omega) (by omega) (by omega)
  have j17 := hJ (M + 17) (by omega) (by omega) (by omega)
  obtain ⟨⟨a1, a2, a3, a4, a5, a6, a7, a8, a9⟩, b, c, e⟩ := h
  have b' : r.getD 0 0 = 100 → ∃ p : Nat, J (M + 14) i = cI p ∧ PnV J M tp p (V (r.getD 8 0).toNat) := fun q => by
    obtain ⟨p, z1, z2⟩ := b q
    exact ⟨p, by rw [j14]; exact z1, z2.fx h3 (Nat.le_refl _)⟩
  have c' : r.getD 0 0 = 5 → J (M + 16) i = cI (if r.getD 8 0 = -1 ∧ r.getD 5 0 ≠ 0 then 1 else 0) ∧ (r.getD 8 0 ≠ -1 → L (M + 15) i = cL (V (r.getD 8 0).toNat) ∧ 0 ≤ V (r.getD 8 0).toNat ∧ V (r.getD 8 0).toNat ≤ 1000000000000000) := fun q => ⟨by rw [j16]; exact (c q).1, (c q).2⟩
  have e' : r.getD 0 0 = 6 → r.getD 3 0 = 8 → 0 < r.getD 9 0 → ∃ q : Nat, J (M + 17) i = cI q ∧ q + (r.getD 9 0).toNat ≤ pt ∧ ∀ j, j < (r.getD 9 0).toNat → (∃ p : Nat, J (M + 19) (q + j) = cI p ∧ PnV J M tp p (V ((r.getD 8 0).toNat + 2 * j))) ∧ (∃ p : Nat, J (M + 20) (q + j) = cI p ∧ PnV J M tp p (V ((r.getD 8 0).toNat + 2 * j + 1))) := fun q1 q2 q3 => by
    obtain ⟨w, z1, z2, z3⟩ := e q1 q2 q3
    refine ⟨w, by rw [j17]; exact z1, z2, fun j hj => ?_⟩
    obtain ⟨⟨p, y1, y2⟩, p', y3, y4⟩ := z3 j hj
    have h5 := h19 (w + j) (by omega)
    exact ⟨⟨p, by rw [h5.1]; exact y1, y2.fx h3 (Nat.le_refl _)⟩, p', by rw [h5.2]; exact y3, y4.fx h3 (Nat.le_refl _)⟩
  rcases hs with rfl | rfl | ⟨rfl, h4⟩
  · refine ⟨⟨?_, ?_, ?_, ?_, ?_, ?_, ?_, ?_, ?_⟩, ?_, ?_, ?_⟩
    · rw [gset_ne (by decide), gset_ne (by decide), hJ _ (by omega) (by omega) (by omega)]; exact a1
    · rw [gset_eq (by omega)]; exact hx
    · rw [gset_ne (by decide), hJ _ (by omega) (by omega) (by omega)]; exact a3
    · rw [gset_ne (by decide), gset_ne (by decide), hJ _ (by omega) (by omega) (by omega)]; exact a4
    · rw [gset_ne (by decide), hJ _ (by omega) (by omega) (by omega)]; exact a5
    · rw [gset_ne (by decide)]; exact a6
    · rw [gset_ne (by decide)]; exact a7
    · rw [gset_ne (by decide)]; exact a8
    · rw [gset_ne (by decide), hJ _ (by omega) (by omega) (by omega)]; exact a9
    · rw [gset_ne (by decide), gset_ne (by decide)]; exact b'
    · rw [gset_ne (by decide), gset_ne (by decide), gset_ne (by decide)]; exact c'
    · rw [gset_ne (by decide), gset_ne (by decide), gset_ne (by decide), gset_ne (by decide)]; exact e'
  · refine ⟨⟨?_, ?_, ?_, ?_, ?_, ?_, ?_, ?_, ?_⟩, ?_, ?_, ?_⟩
    · rw [gset_ne (by decide), gset_ne (by decide), hJ _ (by omega) (by omega) (by omega)]; exact a1
    · rw [gset_ne (by decide), hJ _ (by omega) (by omega) (by omega)]; exact a2
    · rw [gset_eq (by omega)]; exact hx
    · rw [gset_ne (by decide), gset_ne (by decide), hJ _ (by omega) (by omega) (by omega)]; exact a4
    · rw [gset_ne (by decide), hJ _ (by omega) (by omega) (by omega)]; exact a5
    · rw [gset_ne (by decide)]; exact a6
    · rw [gset_ne (by decide)]; exact a7
    · rw [gset_ne (by decide)]; exact a8
    · rw [gset_ne (by decide), hJ _ (by omega) (by omega) (by omega)]; exact a9
    · rw [gset_ne (by decide), gset_ne (by decide)]; exact b'
    · rw [gset_ne (by decide), gset_ne (by decide), gset_ne (by decide)]; exact c'
    · rw [gset_ne (by decide), gset_ne (by decide), gset_ne (by decide), gset_ne (by decide)]; exact e'
  · refine ⟨⟨?_, ?_, ?_, ?_, ?_, ?_, ?_, ?_, ?_⟩, ?_, ?_, ?_⟩
    · rw [gset_ne (by decide), gset_eq (by omega), hJ _ (by omega) (by omega) (by omega), a1]
      congr 1
      rcases h4 with h4 | h4 <;> rw [h4] <;> rfl
    · rw [gset_ne (by decide), hJ _ (by omega) (by omega) (by omega)]; exact a2
    · rw [gset_ne (by decide), hJ _ (by omega) (by omega) (by omega)]; exact a3
    · rw [gset_ne (by decide), gset_eq (by omega), if_pos h4]; exact fun _ => hx
    · rw [gset_ne (by decide), hJ _ (by omega) (by omega) (by omega)]; exact a5
    · rw [gset_ne (by decide)]; exact a6
    · rw [gset_ne (by decide)]; exact a7
    · rw [gset_ne (by decide)]; exact a8
    · rw [gset_ne (by decide), hJ _ (by omega) (by omega) (by omega)]; exact a9
    · rw [gset_ne (by decide), gset_ne (by decide)]; exact b'
    · rw [gset_ne (by decide), gset_ne (by decide), gset_ne (by decide)]; exact c'
    · rw [gset_ne (by decide), gset_eq (by omega), gset_ne (by decide), gset_ne (by decide)]; exact fun q => by omega

