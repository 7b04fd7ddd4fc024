/-! ===== 16: arraycopy, stores into Object[], null stores ===== -/
theorem nn32 {z : Int32} (hz : ¬ z < 0) : z.toInt = (z.toNatClampNeg : Int) := by
  have hz0 : (0 : Int) ≤ z.toInt := by
    have := Int32.not_lt.mp hz
    simpa using Int32.le_iff_toInt_le.mp this
  show z.toInt = ((z.toInt.toNat : Nat) : Int)
  omega
abbrev y_arraycopy : MethodName := arraycopyName
section
variable {Y : MI} {d rc rs pc : Nat} {lv : List (Nat × Value)} {st : List Value} {I : M32} {L : M64} {R : MR} {T : SH} {Q : QT}
/-- what row a becomes: n places from sp of f go to dp on -/
def cpR {α : Type} (M : Nat → Nat → α) (a0 a sp dp n : Nat) : Nat → Nat → α := fun q => if q = a then va_cpy (M a0) (M a) sp dp n else M q
theorem cpR_s {α : Type} (M : Nat → Nat → α) (a0 a sp dp n : Nat) : cpR M a0 a sp dp n a = va_cpy (M a0) (M a) sp dp n := if_pos rfl
theorem cpR_n {α : Type} (M : Nat → Nat → α) {a0 a sp dp n q : Nat} (h : q ≠ a) : cpR M a0 a sp dp n q = M q := if_neg h
theorem vA_cp {t a0 a sp dp n : Nat} (j : Nat) : vA t (if ak t = 0 then cpR I a0 a sp dp n else I) L (if ak t = 2 then cpR R a0 a sp dp n else R) a j = if ak t = 0 ∨ ak t = 2 then va_cpy (vA t I L R a0) (vA t I L R a) sp dp n j else vA t I L R a j := by
  by_cases h0 : ak t = 0
  · simp only [vA, h0, if_true, true_or, cpR_s, va_cpy]
    split <;> rfl
  · by_cases h2 : ak t = 2
    · simp only [vA, h2, if_true, or_true, cpR_s, va_cpy]
      split <;> rfl
    · simp only [vA, h0, h2, if_false, or_self]
theorem q_copy {idx a0 a t : Nat} {sp dp n : Int32} (hd : decode Y.2.1 pc = .ok (.invokestatic idx, 3)) (hw : Cond.methodLink Y.1 idx arraycopyName ∈ lw_tbl) (h1 : Cond.native arraycopyName ∈ lw_tbl) (h2 : Cond.static arraycopyName ∈ lw_tbl) (h3 : Cond.initialized "java/lang/System" ∈ lw_tbl)
    (ht0 : T.1 a0 = t + 64) (ht : T.1 a = t + 64) (htt : t = 2 ∨ t = 4) (hsp : ¬ sp < 0) (hdp : ¬ dp < 0) (hn : ¬ n < 0) (hl1 : sp.toNatClampNeg + n.toNatClampNeg ≤ T.2.1 a0) (hl2 : dp.toNatClampNeg + n.toNatClampNeg ≤ T.2.1 a)
    (hfit : t = 2 → ∀ i, i < n.toNatClampNeg → fits .byte (.int (I a0 (sp.toNatClampNeg + i))) = true) (hbig : t = 4 → ∀ i y, i < n.toNatClampNeg → R a0 (sp.toNatClampNeg + i) = some y → T.1 y = 1) (hcast : Cond.castable R_Big "java/lang/Object" ∈ lw_tbl)
    (hd1 : 1 ≤ d) (hst : (st.map fun v => v.category).sum ≤ 8)
    (kk : Run Y d rc rs (pc + 3) lv st (if ak t = 0 then cpR I a0 a sp.toNatClampNeg dp.toNatClampNeg n.toNatClampNeg else I) L (if ak t = 2 then cpR R a0 a sp.toNatClampNeg dp.toNatClampNeg n.toNatClampNeg else R) T Q) : Run Y d rc rs pc lv (.int n :: .int dp :: .ref a :: .int sp :: .ref a0 :: st) I L R T Q := by
  intro p l e Rm s m args below meth c H locs cells slots X ls hC hR hL hl U hU S
  have hKT := hC.2.2.2.2.2.2.2.2.1
  have hrm1 := hC.2.2.2.2.2.2.2.2.2.2.1
  have h16 : t < 16 := by omega
  obtain ⟨hb0, c0, f1, f2, f3⟩ := hR.arr ht0 h16
  obtain ⟨hb, c1, g1, g2, g3⟩ := hR.arr ht h16
  obtain ⟨-, k0, hk0, cm0, hkk0⟩ := f1 (T.2.1 a0) (vA t I L R a0)
  obtain ⟨-, k1, hk1, cm1, hkk1⟩ := g1 (T.2.1 a) (vA t I L R a)
  have hfw : nativeFrameWords "java/lang/System" "arraycopy" 5 ≤ 16 := by decide
  obtain ⟨vm', X', step⟩ := S.arraycopy hC.1 hC.2.2.2.2.2.1 (hKT.use hw rfl) (hKT.use h1 rfl) (hKT.use h2 rfl) (hKT.use h3 rfl) (src := a0) (dst := a) (cs := arrV c0 (T.2.1 a0) (vA t I L R a0)) (cd := arrV c1 (T.2.1 a) (vA t I L R a)) (srcPos := sp) (destPos := dp) (n := n) (by rw [hU]; exact f3) (by rw [hU]; exact g3)
    (fun _ h => by cases h) (fun _ h => by cases h) (fun h => by cases h) (fun h => by cases h) hk0 hk1 hkk0 hkk1 (by rcases htt with rfl | rfl <;> rfl) hsp hdp hn
    (by rw [nn32 hsp, nn32 hn, arrV_size]; omega) (by rw [nn32 hdp, nn32 hn, arrV_size]; omega)
    (fun vm₁ hal i hi => by
      have e : (arrV c0 (T.2.1 a0) (vA t I L R a0)).slots.getD (sp.toNatClampNeg + i) .null = vA t I L R a0 (sp.toNatClampNeg + i) := by
        rw [Array.getD_eq_getD_getElem?, arrV_read _ _ (by omega)]
        rfl
      rw [e]
      rcases htt with rfl | rfl
      · exact ⟨hfit rfl i hi, trivial⟩
      · show fits (.object "java/lang/Object") (va_rf (R a0 (sp.toNatClampNeg + i))) = true ∧ (U.setVm vm₁).takes cm1 (va_rf (R a0 (sp.toNatClampNeg + i)))
        cases hy : R a0 (sp.toNatClampNeg + i) with
        | none => exact ⟨rfl, trivial⟩
        | some y =>
          have hty := hbig rfl i y hi hy
          obtain ⟨-, r, hr, cellV, v1, v2, v3, -⟩ := hR.obj (ci := 0) hty (by decide)
          have hcls := (hC.2.2.2.2.2.2.2.2.2.1.1 0 _ (rfl : kc[0]? = some (R_Big, F_Big, 3))).2
          obtain ⟨x0, t0, w1, w2, w3⟩ := Cond.castable_spec (hKT.use (a := args) hcast rfl)
          obtain ⟨kA, comp, r1, r2, r3, -⟩ := g2
          cases hk1.symm.trans r1
          cases hkk1.symm.trans r2
          cases hcls.1.symm.trans w1
          cases r3.symm.trans w2
          obtain ⟨kC, hkC, -⟩ := Vm.findClass_spec w1
          obtain ⟨kE, hkE, -⟩ := Vm.findClass_spec w2
          obtain ⟨kC', hkC', -⟩ := hal.2.2 _ _ hkC
          obtain ⟨kE', hkE', -⟩ := hal.2.2 _ _ hkE
          refine ⟨rfl, cellV, (show U.heap[y]? = some cellV by rw [hU]; exact v1), (fun q h => by rw [v3] at h; cases h), ⟨kC', by rw [v2]; exact hkC'⟩, ⟨kE', hkE'⟩, ?_⟩
          show vm₁.assignable _ _ = true
          rw [hal.assignable, v2]
          exact w3)
    (g := F0 m pc ls (.int n :: .int dp :: .ref a :: .int sp :: .ref a0 :: st)) rfl (by show ls.size = _; rw [hl.1, hC.2.2.1]) (rest := st) rfl (by rw [hC.2.1]; exact hd) (by omega) (by show 2 * 0 + _ + _ ≤ _; omega)
  have e1 : copied (arrV c0 (T.2.1 a0) (vA t I L R a0)) (arrV c1 (T.2.1 a) (vA t I L R a)) sp dp n = arrV c1 (T.2.1 a) (va_cpy (vA t I L R a0) (vA t I L R a) sp.toNatClampNeg dp.toNatClampNeg n.toNatClampNeg) := va_copied (fun z => z) c0 c1 (vA t I L R a0) (vA t I L R a) hl1
  rw [e1] at X' step
  have hlt : a < H.size := (Array.getElem?_eq_some_iff.mp g3).1
  have hheap : ((U.setVm vm').setCell a (arrV c1 (T.2.1 a) (va_cpy (vA t I L R a0) (vA t I L R a) sp.toNatClampNeg dp.toNatClampNeg n.toNatClampNeg))).heap = H.setIfInBounds a (arrV c1 (T.2.1 a) (va_cpy (vA t I L R a0) (vA t I L R a) sp.toNatClampNeg dp.toNatClampNeg n.toNatClampNeg)) := by rw [← hU]; rfl
  have oq : ∀ q : Nat, q ≠ a → (H.setIfInBounds a (arrV c1 (T.2.1 a) (va_cpy (vA t I L R a0) (vA t I L R a) sp.toNatClampNeg dp.toNatClampNeg n.toNatClampNeg)))[q]? = H[q]? := fun q hq => by simp [Array.getElem?_setIfInBounds, Ne.symm hq]
  have hR' : Rel X s (if ak t = 0 then cpR I a0 a sp.toNatClampNeg dp.toNatClampNeg n.toNatClampNeg else I) L (if ak t = 2 then cpR R a0 a sp.toNatClampNeg dp.toNatClampNeg n.toNatClampNeg else R) T (H.setIfInBounds a (arrV c1 (T.2.1 a) (va_cpy (vA t I L R a0) (vA t I L R a) sp.toNatClampNeg dp.toNatClampNeg n.toNatClampNeg))) := by
    refine hR.set (a := a) hb (by simp) oq (fun q k hq => ?_) (fun _ _ _ => rfl) (fun q k hq => ?_) ?_
    · split
      · rw [cpR_n _ hq]
      · rfl
    · split
      · rw [cpR_n _ hq]
      · rfl
    · rw [ht]
      refine Or.inr (Or.inl ⟨by omega, by omega, c1, by rw [Nat.add_sub_cancel]; exact g1, by rw [Nat.add_sub_cancel]; exact g2, ?_⟩)
      rw [Nat.add_sub_cancel]
      have e2 : vA t (if ak t = 0 then cpR I a0 a sp.toNatClampNeg dp.toNatClampNeg n.toNatClampNeg else I) L (if ak t = 2 then cpR R a0 a sp.toNatClampNeg dp.toNatClampNeg n.toNatClampNeg else R) a = va_cpy (vA t I L R a0) (vA t I L R a) sp.toNatClampNeg dp.toNatClampNeg n.toNatClampNeg := by
        funext j
        rw [vA_cp, if_pos]
        rcases htt with rfl | rfl
        · exact Or.inl rfl
        · exact Or.inr rfl
      rw [e2]
      simp [Array.getElem?_setIfInBounds, hlt]
  obtain ⟨t2, a1, b1⟩ := kk p l e Rm s m args below meth c _ _ cells slots X ls hC hR' ⟨by simp; exact hL.1, fun q hq => by
      rcases List.mem_append.mp hq with h | h
      · exact hL.2 q h
      · obtain ⟨z, -, hz⟩ := List.mem_map.mp h
        rw [← hz]; exact hb⟩ hl _ hheap X'
  exact ⟨t2, step t2 a1, b1⟩
theorem q_copyB {idx a0 a : Nat} {sp dp n : Int32} (hd : decode Y.2.1 pc = .ok (.invokestatic idx, 3)) (hw : Cond.methodLink Y.1 idx arraycopyName ∈ lw_tbl) (h1 : Cond.native arraycopyName ∈ lw_tbl) (h2 : Cond.static arraycopyName ∈ lw_tbl) (h3 : Cond.initialized "java/lang/System" ∈ lw_tbl) (hcast : Cond.castable R_Big "java/lang/Object" ∈ lw_tbl)
    (ht0 : T.1 a0 = 66) (ht : T.1 a = 66) (hsp : ¬ sp < 0) (hdp : ¬ dp < 0) (hn : ¬ n < 0) (hl1 : sp.toNatClampNeg + n.toNatClampNeg ≤ T.2.1 a0) (hl2 : dp.toNatClampNeg + n.toNatClampNeg ≤ T.2.1 a)
    (hfit : ∀ i, i < n.toNatClampNeg → fits .byte (.int (I a0 (sp.toNatClampNeg + i))) = true) (hd1 : 1 ≤ d) (hst : (st.map fun v => v.category).sum ≤ 8)
    (kk : Run Y d rc rs (pc + 3) lv st (cpR I a0 a sp.toNatClampNeg dp.toNatClampNeg n.toNatClampNeg) L R T Q) : Run Y d rc rs pc lv (.int n :: .int dp :: .ref a :: .int sp :: .ref a0 :: st) I L R T Q :=
  q_copy (t := 2) hd hw h1 h2 h3 ht0 ht (Or.inl rfl) hsp hdp hn hl1 hl2 (fun _ => hfit) (fun h => by cases h) hcast hd1 hst kk
theorem q_copyO {idx a0 a : Nat} {sp dp n : Int32} (hd : decode Y.2.1 pc = .ok (.invokestatic idx, 3)) (hw : Cond.methodLink Y.1 idx arraycopyName ∈ lw_tbl) (h1 : Cond.native arraycopyName ∈ lw_tbl) (h2 : Cond.static arraycopyName ∈ lw_tbl) (h3 : Cond.initialized "java/lang/System" ∈ lw_tbl) (hcast : Cond.castable R_Big "java/lang/Object" ∈ lw_tbl)
    (ht0 : T.1 a0 = 68) (ht : T.1 a = 68) (hsp : ¬ sp < 0) (hdp : ¬ dp < 0) (hn : ¬ n < 0) (hl1 : sp.toNatClampNeg + n.toNatClampNeg ≤ T.2.1 a0) (hl2 : dp.toNatClampNeg + n.toNatClampNeg ≤ T.2.1 a)
    (hbig : ∀ i y, i < n.toNatClampNeg → R a0 (sp.toNatClampNeg + i) = some y → T.1 y = 1) (hd1 : 1 ≤ d) (hst : (st.map fun v => v.category).sum ≤ 8)
    (kk : Run Y d rc rs (pc + 3) lv st I L (cpR R a0 a sp.toNatClampNeg dp.toNatClampNeg n.toNatClampNeg) T Q) : Run Y d rc rs pc lv (.int n :: .int dp :: .ref a :: .int sp :: .ref a0 :: st) I L R T Q :=
  q_copy (t := 4) hd hw h1 h2 h3 ht0 ht (Or.inr rfl) hsp hdp hn hl1 hl2 (fun h => by cases h) (fun _ => hbig) hcast hd1 hst kk
/-- a Big goes into an Object[] -/
theorem q_aastO {a v : Nat} {i : Int32} (hd : decode Y.2.1 pc = .ok (.aastore, 1)) (ht : T.1 a = 68) (hi : inB i (T.2.1 a)) (hv : T.1 v = 1) (hcast : Cond.castable R_Big "java/lang/Object" ∈ lw_tbl) (kk : Run Y d rc rs (pc + 1) lv st I L (up2 R a i.toNatClampNeg (some v)) T Q) : Run Y d rc rs pc lv (.ref v :: .int i :: .ref a :: st) I L R T Q := by
  intro p l e Rm s m args below meth c H locs cells slots X ls hC hR hL hl
  have hKT := hC.2.2.2.2.2.2.2.2.1
  obtain ⟨hb, cA, h1, h2, h3⟩ := hR.arr (t := 4) ht (by decide)
  obtain ⟨hbv, r, hr, cellV, g1, g2, g3, -⟩ := hR.obj (ci := 0) hv (by decide)
  have hcls := (hC.2.2.2.2.2.2.2.2.2.1.1 0 _ (rfl : kc[0]? = some (R_Big, F_Big, 3))).2
  obtain ⟨x0, t0, w1, w2, w3⟩ := Cond.castable_spec (hKT.use (a := args) hcast rfl)
  have h2' := h2
  obtain ⟨kA, comp, k1, k2, k3, -⟩ := h2'
  cases hcls.1.symm.trans w1
  cases k3.symm.trans w2
  obtain ⟨-, kV, hkV, hkindV⟩ := id hcls
  obtain ⟨kE, hkE, -⟩ := Vm.findClass_spec w2
  have hlt := inB_lt hi
  refine W.aast hC.1 hC.2.1 h3 (fun q h => by cases h) (fun h => by cases h) k1 k2 rfl hkE ⟨fun q => hi (Or.inl q), by rw [arrV_size]; exact hlt⟩ g1 (by rw [g3]; exact fun q h => by cases h) (by rw [g2]; exact hkV) (by rw [g2]; exact w3) rfl rfl hd fun H1 e1 z oq => kk p l e Rm s m args below meth c H1 _ cells slots X ls hC (hR.ast ht h1 h2 e1 z oq (fun _ _ _ => rfl) (fun _ _ _ => rfl) (fun q j e => up2_a _ _ _ e) (vA_upR (some v) rfl) (by decide)) (hL.put z hb) hl
/-- a reference, null or not, to a field -/
theorem q_putO {idx ci k a : Nat} {o : Option Nat} (hd : decode Y.2.1 pc = .ok (.putfield idx, 3)) (fl : FLk Y.1 idx ci k) (ht : T.1 a = ci + 1) (hf : kf ci k = 2 ∧ ci < 63 ∧ fin ci k = false ∧ isRT (kty ci k) = true)
    (kk : Run Y d rc rs (pc + 3) lv st I L (up2 R a k o) T Q) : Run Y d rc rs pc lv (va_rf o :: .ref a :: st) I L R T Q := by
  refine q_putV hd fl ht hf.2.1 (Or.inl hf.2.2.1) ?_ ?_ (fun _ _ _ => rfl) (fun _ _ _ => rfl) (fun q j e => up2_a _ _ _ e) (fun j => vO_upR o hf.1 j) kk
  · cases o with
    | none => have := hf.2.2.2; cases h : kty ci k <;> rw [h] at this <;> simp [isRT] at this <;> rfl
    | some q => exact (narrow_r hf.2.2.2 q).1
  · cases o with
    | none => have := hf.2.2.2; cases h : kty ci k <;> rw [h] at this <;> simp [isRT] at this <;> rfl
    | some q => exact (narrow_r hf.2.2.2 q).2
/-- every cell of ours lies below the next address -/
def Fresh (T : SH) : Prop := ∀ a, T.1 a ≠ 0 → a < T.2.2
theorem Run.fresh (h : Fresh T → T.1 0 = 0 ∨ 80 ≤ T.1 0 → 0 < T.2.2 → Run Y d rc rs pc lv st I L R T Q) : Run Y d rc rs pc lv st I L R T Q := by
  intro p l e Rm s m args below meth c H locs cells slots X ls hC hR hL hl
  have h0 := hR.2.2.2.2.2.1
  refine h (fun a ha => ?_) ?_ ?_ p l e Rm s m args below meth c H locs cells slots X ls hC hR hL hl
  · rw [hR.1]; exact (hR.2.2.2.1 a ha).2.lt
  · by_cases e0 : T.1 0 = 0
    · exact Or.inl e0
    · rcases (hR.2.2.2.1 0 e0).1 with q | q
      · exact Or.inr q
      · omega
  · rw [hR.1]; have := hR.2.1; omega
end
