/-! ===== 06 HEAP RULES 2: stores specialised, arrays, allocation, returns ===== -/
/-- index in range -/
abbrev inB (i : Int32) (n : Nat) : Prop := vp_in i n
section
variable {Y : MI} {d rc rs pc : Nat} {lv : List (Nat × Value)} {st : List Value} {I : M32} {L : M64} {R : MR} {T : SH} {Q : QT}
theorem vO_upI {ci a k : Nat} (x : Int32) (hf : kf ci k = 0) (j : Nat) : vO ci (up2 I a k x) L R a j = updV (vO ci I L R a) k (.int x) j := by
  by_cases e : j = k
  · subst e; simp only [vO, hf, up2_s, updV, if_true]
  · simp only [vO, updV, if_neg e, up2_k _ _ _ e]
theorem vO_upL {ci a k : Nat} (x : Int64) (hf : kf ci k = 1) (j : Nat) : vO ci I (up2 L a k x) R a j = updV (vO ci I L R a) k (.long x) j := by
  by_cases e : j = k
  · subst e; simp only [vO, hf, up2_s, updV, if_true]
  · simp only [vO, updV, if_neg e, up2_k _ _ _ e]
theorem vO_upR {ci a k : Nat} (x : Option Nat) (hf : kf ci k = 2) (j : Nat) : vO ci I L (up2 R a k x) a j = updV (vO ci I L R a) k (va_rf x) j := by
  by_cases e : j = k
  · subst e; simp only [vO, hf, up2_s, updV, if_true]
  · simp only [vO, updV, if_neg e, up2_k _ _ _ e]
theorem q_putI {idx ci k a : Nat} {x : Int32} (hd : decode Y.2.1 pc = .ok (.putfield idx, 3)) (fl : FLk Y.1 idx ci k) (ht : T.1 a = ci + 1) (hf : kf ci k = 0 ∧ ci < 63 ∧ fin ci k = false ∧ kty ci k = .int)
    (kk : Run Y d rc rs (pc + 3) lv st (up2 I a k x) L R T Q) : Run Y d rc rs pc lv (.int x :: .ref a :: st) I L R T Q :=
  q_putV hd fl ht hf.2.1 (Or.inl hf.2.2.1) (by rw [hf.2.2.2]; rfl) (by rw [hf.2.2.2]; rfl) (fun q j e => up2_a _ _ _ e) (fun _ _ _ => rfl) (fun _ _ _ => rfl) (fun j => vO_upI x hf.1 j) kk
theorem narrow_z {x : Int32} (h : x = 0 ∨ x = 1) : narrow .boolean (.int x) = .int x ∧ fits .boolean (.int x) = true := by
  rcases h with rfl | rfl <;> exact ⟨rfl, rfl⟩
theorem q_putZ {idx ci k a : Nat} {x : Int32} (hd : decode Y.2.1 pc = .ok (.putfield idx, 3)) (fl : FLk Y.1 idx ci k) (ht : T.1 a = ci + 1) (hf : kf ci k = 0 ∧ ci < 63 ∧ fin ci k = false ∧ kty ci k = .boolean) (hz : x = 0 ∨ x = 1)
    (kk : Run Y d rc rs (pc + 3) lv st (up2 I a k x) L R T Q) : Run Y d rc rs pc lv (.int x :: .ref a :: st) I L R T Q :=
  q_putV hd fl ht hf.2.1 (Or.inl hf.2.2.1) (by rw [hf.2.2.2]; exact (narrow_z hz).1) (by rw [hf.2.2.2]; exact (narrow_z hz).2) (fun q j e => up2_a _ _ _ e) (fun _ _ _ => rfl) (fun _ _ _ => rfl) (fun j => vO_upI x hf.1 j) kk
theorem q_putL {idx ci k a : Nat} {x : Int64} (hd : decode Y.2.1 pc = .ok (.putfield idx, 3)) (fl : FLk Y.1 idx ci k) (ht : T.1 a = ci + 1) (hf : kf ci k = 1 ∧ ci < 63 ∧ fin ci k = false ∧ kty ci k = .long)
    (kk : Run Y d rc rs (pc + 3) lv st I (up2 L a k x) R T Q) : Run Y d rc rs pc lv (.long x :: .ref a :: st) I L R T Q :=
  q_putV hd fl ht hf.2.1 (Or.inl hf.2.2.1) (by rw [hf.2.2.2]; rfl) (by rw [hf.2.2.2]; rfl) (fun _ _ _ => rfl) (fun q j e => up2_a _ _ _ e) (fun _ _ _ => rfl) (fun j => vO_upL x hf.1 j) kk
def isRT (t : FieldType) : Bool := match t with
  | .object _ => true
  | .array _ => true
  | _ => false
theorem narrow_r {t : FieldType} (h : isRT t = true) (a : Nat) : narrow t (.ref a) = .ref a ∧ fits t (.ref a) = true := by
  cases t <;> simp [isRT] at h <;> exact ⟨rfl, rfl⟩
theorem q_putR {idx ci k a q : Nat} (hd : decode Y.2.1 pc = .ok (.putfield idx, 3)) (fl : FLk Y.1 idx ci k) (ht : T.1 a = ci + 1) (hf : kf ci k = 2 ∧ ci < 63 ∧ fin ci k = false ∧ isRT (kty ci k) = true)
    (kk : Run Y d rc rs (pc + 3) lv st I L (up2 R a k (some q)) T Q) : Run Y d rc rs pc lv (.ref q :: .ref a :: st) I L R T Q :=
  q_putV hd fl ht hf.2.1 (Or.inl hf.2.2.1) (narrow_r hf.2.2.2 q).1 (narrow_r hf.2.2.2 q).2 (fun _ _ _ => rfl) (fun _ _ _ => rfl) (fun q j e => up2_a _ _ _ e) (fun j => vO_upR (some q) hf.1 j) kk
/-- a reference field in a constructor of its own class, final or not -/
theorem q_putRF {idx ci k a q : Nat} {C : String} {F : u_T} {N : Nat} (hd : decode Y.2.1 pc = .ok (.putfield idx, 3)) (fl : FLk Y.1 idx ci k) (ht : T.1 a = ci + 1) (hf : kf ci k = 2 ∧ ci < 63 ∧ isRT (kty ci k) = true) (hk : kc[ci]? = some (C, F, N)) (hi : Y.2.2.2.2.1 = "<init>") (hdcl : (F k).1 = Y.1) (hw : Cond.fieldLink Y.1 idx (F k).1 (F k).2.1 (F k).2.2.1 ∈ lw_tbl)
    (kk : Run Y d rc rs (pc + 3) lv st I L (up2 R a k (some q)) T Q) : Run Y d rc rs pc lv (.ref q :: .ref a :: st) I L R T Q :=
  q_putV hd fl ht hf.2.1 (Or.inr ⟨hi, fun C' F' N' h => by cases hk.symm.trans h; exact hdcl, C, F, N, hk, hw⟩) (narrow_r hf.2.2 q).1 (narrow_r hf.2.2 q).2 (fun _ _ _ => rfl) (fun _ _ _ => rfl) (fun q j e => up2_a _ _ _ e) (fun j => vO_upR (some q) hf.1 j) kk
/-! arrays -/
theorem vA_upI {t a k : Nat} (x : Int32) (hf : ak t = 0) : vA t (up2 I a k x) L R a = updV (vA t I L R a) k (.int x) := by
  funext j
  by_cases e : j = k
  · subst e; simp only [vA, hf, up2_s, updV, if_true]
  · simp only [vA, updV, if_neg e, up2_k _ _ _ e]
theorem vA_upL {t a k : Nat} (x : Int64) (hf : ak t = 1) : vA t I (up2 L a k x) R a = updV (vA t I L R a) k (.long x) := by
  funext j
  by_cases e : j = k
  · subst e; simp only [vA, hf, up2_s, updV, if_true]
  · simp only [vA, updV, if_neg e, up2_k _ _ _ e]
theorem vA_upR {t a k : Nat} (x : Option Nat) (hf : ak t = 2) : vA t I L (up2 R a k x) a = updV (vA t I L R a) k (va_rf x) := by
  funext j
  by_cases e : j = k
  · subst e; simp only [vA, hf, up2_s, updV, if_true]
  · simp only [vA, updV, if_neg e, up2_k _ _ _ e]
theorem arr_in {i : Int32} {n : Nat} {cA : ClassId} {f : Nat → Value} (h : inB i n) : ¬ (i < 0 ∨ (arrV cA n f).slots.size ≤ i.toNatClampNeg) := by
  rw [arrV_size]; exact h
theorem inB_lt {i : Int32} {n : Nat} (h : inB i n) : i.toNatClampNeg < n := Nat.not_le.mp fun q => h (Or.inr q)
theorem q_iald {a : Nat} {i : Int32} (hd : decode Y.2.1 pc = .ok (.iaload, 1)) (ht : T.1 a = 64) (hi : inB i (T.2.1 a)) (kk : Run Y d rc rs (pc + 1) lv (.int (I a i.toNatClampNeg) :: st) I L R T Q) : Run Y d rc rs pc lv (.int i :: .ref a :: st) I L R T Q := by
  intro p l e Rm s m args below meth c H locs cells slots X ls hC hR hL hl
  obtain ⟨hb, cA, h1, h2, h3⟩ := hR.arr (t := 0) ht (by decide)
  exact W.iald hC.1 hC.2.1 h3 (h1 _ _) (fun q => by cases q) (arr_in hi) (arrV_read _ _ (inB_lt hi)) rfl rfl hd (kk p l e Rm s m args below meth c H locs cells slots X ls hC hR hL hl)
theorem q_lald {a : Nat} {i : Int32} (hd : decode Y.2.1 pc = .ok (.laload, 1)) (ht : T.1 a = 65) (hi : inB i (T.2.1 a)) (kk : Run Y d rc rs (pc + 1) lv (.long (L a i.toNatClampNeg) :: st) I L R T Q) : Run Y d rc rs pc lv (.int i :: .ref a :: st) I L R T Q := by
  intro p l e Rm s m args below meth c H locs cells slots X ls hC hR hL hl
  obtain ⟨hb, cA, h1, h2, h3⟩ := hR.arr (t := 1) ht (by decide)
  exact W.lald hC.1 hC.2.1 h3 (h1 _ _) (fun q => by cases q) (arr_in hi) (arrV_read _ _ (inB_lt hi)) rfl rfl hd (kk p l e Rm s m args below meth c H locs cells slots X ls hC hR hL hl)
theorem q_bald {a : Nat} {i : Int32} (hd : decode Y.2.1 pc = .ok (.baload, 1)) (ht : T.1 a = 66) (hi : inB i (T.2.1 a)) (kk : Run Y d rc rs (pc + 1) lv (.int (I a i.toNatClampNeg) :: st) I L R T Q) : Run Y d rc rs pc lv (.int i :: .ref a :: st) I L R T Q := by
  intro p l e Rm s m args below meth c H locs cells slots X ls hC hR hL hl
  obtain ⟨hb, cA, h1, h2, h3⟩ := hR.arr (t := 2) ht (by decide)
  exact W.bald hC.1 hC.2.1 h3 (h1 _ _) (fun q => by cases q) (arr_in hi) (arrV_read _ _ (inB_lt hi)) rfl rfl hd (kk p l e Rm s m args below meth c H locs cells slots X ls hC hR hL hl)
theorem q_zald {a : Nat} {i : Int32} (hd : decode Y.2.1 pc = .ok (.baload, 1)) (ht : T.1 a = 67) (hi : inB i (T.2.1 a)) (kk : Run Y d rc rs (pc + 1) lv (.int (I a i.toNatClampNeg) :: st) I L R T Q) : Run Y d rc rs pc lv (.int i :: .ref a :: st) I L R T Q := by
  intro p l e Rm s m args below meth c H locs cells slots X ls hC hR hL hl
  obtain ⟨hb, cA, h1, h2, h3⟩ := hR.arr (t := 3) ht (by decide)
  exact W.zald hC.1 hC.2.1 h3 (h1 _ _) (fun q => by cases q) (arr_in hi) (arrV_read _ _ (inB_lt hi)) rfl rfl hd (kk p l e Rm s m args below meth c H locs cells slots X ls hC hR hL hl)
def isO (t : Nat) : Bool := match aty t with
  | .object _ => true
  | _ => false
theorem isO_lt {t : Nat} (h : isO t = true) : t < 16 := by
  rcases Nat.lt_or_ge t 9 with q | q
  · omega
  · obtain ⟨k, rfl⟩ := Nat.exists_eq_add_of_le q
    have : aty (9 + k) = .int := by
      unfold aty
      split <;> first | rfl | omega
    rw [isO, this] at h
    cases h
theorem isO_ref {t : Nat} (h : isO t = true) : (aty t).isReference = true ∧ ∃ C, aty t = .object C := by
  unfold isO at h
  cases hh : aty t <;> rw [hh] at h <;> first | (exact ⟨rfl, _, rfl⟩) | cases h
theorem q_aald {a t : Nat} {i : Int32} {v : Value} (hd : decode Y.2.1 pc = .ok (.aaload, 1)) (ht : T.1 a = t + 64) (ho : isO t = true ∧ ak t = 2) (hi : inB i (T.2.1 a)) (hv : va_rf (R a i.toNatClampNeg) = v) (kk : Run Y d rc rs (pc + 1) lv (v :: st) I L R T Q) : Run Y d rc rs pc lv (.int i :: .ref a :: st) I L R T Q := by
  intro p l e Rm s m args below meth c H locs cells slots X ls hC hR hL hl
  obtain ⟨hb, cA, h1, h2, h3⟩ := hR.arr ht (isO_lt ho.1)
  refine W.aald (v := v) hC.1 hC.2.1 h3 (h1 _ _) (isO_ref ho.1).1 (fun q => by cases q) (arr_in hi) ?_ rfl rfl hd (kk p l e Rm s m args below meth c H locs cells slots X ls hC hR hL hl)
  rw [arrV_read _ _ (inB_lt hi), ← hv]
  simp only [vA, ho.2]
theorem q_aaldR {a t q : Nat} {i : Int32} (hd : decode Y.2.1 pc = .ok (.aaload, 1)) (ht : T.1 a = t + 64) (ho : isO t = true ∧ ak t = 2) (hi : inB i (T.2.1 a)) (hq : R a i.toNatClampNeg = some q) (kk : Run Y d rc rs (pc + 1) lv (.ref q :: st) I L R T Q) : Run Y d rc rs pc lv (.int i :: .ref a :: st) I L R T Q :=
  q_aald hd ht ho hi (by rw [hq]; rfl) kk
/-- what every store to an array of ours does -/
theorem Rel.ast {X : GX} {U : State} {I' : M32} {L' : M64} {R' : MR} {H H1 : Heap} {a t k : Nat} {cA : ClassId} {v : Value} (hR : Rel X U I L R T H) (ht : T.1 a = t + 64) (h1 : ArrOfT U cA (aty t)) (h2 : va_RA U cA (aty t))
    (e : H1[a]? = some ((arrV cA (T.2.1 a) (vA t I L R a)).setSlot k v)) (z : H1.size = H.size) (oq : ∀ q : Nat, q ≠ a → H1[q]? = H[q]?) (hI : ∀ q j, q ≠ a → I' q j = I q j) (hL : ∀ q j, q ≠ a → L' q j = L q j) (hR' : ∀ q j, q ≠ a → R' q j = R q j) (hv : vA t I' L' R' a = updV (vA t I L R a) k v) (h16 : t < 16 := by decide) : Rel X U I' L' R' T H1 := by
  refine hR.set (a := a) (hR.arr ht h16).1 z oq hI hL hR' ?_
  rw [ht]
  refine Or.inr (Or.inl ⟨by omega, by omega, cA, by rw [Nat.add_sub_cancel]; exact h1, by rw [Nat.add_sub_cancel]; exact h2, ?_⟩)
  rw [e, Nat.add_sub_cancel, hv, arrV_store]
theorem LocOk.put {X : GX} {s : State} {H H1 : Heap} {locs : List Loc} {a k : Nat} (h : LocOk X s H locs) (z : H1.size = H.size) (ha : X.2.1 ≤ a) : LocOk X s H1 (locs ++ [⟨a, k⟩]) := by
  refine ⟨by rw [z]; exact h.1, fun q hq => ?_⟩
  rcases List.mem_append.mp hq with h1 | h1
  · exact h.2 q h1
  · rw [List.mem_singleton.mp h1]; exact ha
theorem q_iast {a : Nat} {i x : Int32} (hd : decode Y.2.1 pc = .ok (.iastore, 1)) (ht : T.1 a = 64) (hi : inB i (T.2.1 a)) (kk : Run Y d rc rs (pc + 1) lv st (up2 I a i.toNatClampNeg x) L R T Q) : Run Y d rc rs pc lv (.int x :: .int i :: .ref a :: st) I L R T Q := by
  intro p l e Rm s m args below meth c H locs cells slots X ls hC hR hL hl
  obtain ⟨hb, cA, h1, h2, h3⟩ := hR.arr (t := 0) ht (by decide)
  exact W.iast hC.1 hC.2.1 h3 (h1 _ _) (fun q => by cases q) (arr_in hi) rfl rfl hd fun H1 e1 z oq => kk p l e Rm s m args below meth c H1 _ cells slots X ls hC (hR.ast (t := 0) ht h1 h2 e1 z oq (fun q j e => up2_a _ _ _ e) (fun _ _ _ => rfl) (fun _ _ _ => rfl) (vA_upI x rfl)) (hL.put z hb) hl
theorem q_last {a : Nat} {i : Int32} {x : Int64} (hd : decode Y.2.1 pc = .ok (.lastore, 1)) (ht : T.1 a = 65) (hi : inB i (T.2.1 a)) (kk : Run Y d rc rs (pc + 1) lv st I (up2 L a i.toNatClampNeg x) R T Q) : Run Y d rc rs pc lv (.long x :: .int i :: .ref a :: st) I L R T Q := by
  intro p l e Rm s m args below meth c H locs cells slots X ls hC hR hL hl
  obtain ⟨hb, cA, h1, h2, h3⟩ := hR.arr (t := 1) ht (by decide)
  exact W.last hC.1 hC.2.1 h3 (h1 _ _) (fun q => by cases q) (arr_in hi) rfl rfl hd fun H1 e1 z oq => kk p l e Rm s m args below meth c H1 _ cells slots X ls hC (hR.ast (t := 1) ht h1 h2 e1 z oq (fun _ _ _ => rfl) (fun q j e => up2_a _ _ _ e) (fun _ _ _ => rfl) (vA_upL x rfl)) (hL.put z hb) hl
theorem q_bast {a : Nat} {i x : Int32} (hd : decode Y.2.1 pc = .ok (.bastore, 1)) (ht : T.1 a = 66) (hi : inB i (T.2.1 a)) (kk : Run Y d rc rs (pc + 1) lv st (up2 I a i.toNatClampNeg x.toInt8.toInt32) L R T Q) : Run Y d rc rs pc lv (.int x :: .int i :: .ref a :: st) I L R T Q := by
  intro p l e Rm s m args below meth c H locs cells slots X ls hC hR hL hl
  obtain ⟨hb, cA, h1, h2, h3⟩ := hR.arr (t := 2) ht (by decide)
  exact W.bast hC.1 hC.2.1 h3 (h1 _ _) (fun q => by cases q) (arr_in hi) rfl rfl hd fun H1 e1 z oq => kk p l e Rm s m args below meth c H1 _ cells slots X ls hC (hR.ast (t := 2) ht h1 h2 e1 z oq (fun q j e => up2_a _ _ _ e) (fun _ _ _ => rfl) (fun _ _ _ => rfl) (vA_upI _ rfl)) (hL.put z hb) hl
theorem q_zast {a : Nat} {i x : Int32} (hd : decode Y.2.1 pc = .ok (.bastore, 1)) (ht : T.1 a = 67) (hi : inB i (T.2.1 a)) (hz : x = 0 ∨ x = 1) (kk : Run Y d rc rs (pc + 1) lv st (up2 I a i.toNatClampNeg x) L R T Q) : Run Y d rc rs pc lv (.int x :: .int i :: .ref a :: st) I L R T Q := by
  intro p l e Rm s m args below meth c H locs cells slots X ls hC hR hL hl
  obtain ⟨hb, cA, h1, h2, h3⟩ := hR.arr (t := 3) ht (by decide)
  exact W.zast hC.1 hC.2.1 h3 (h1 _ _) (fun q => by cases q) (arr_in hi) rfl rfl hd fun H1 e1 z oq => kk p l e Rm s m args below meth c H1 _ cells slots X ls hC (hR.ast (t := 3) ht h1 h2 (by rw [(narrow_z hz).1] at e1; exact e1) z oq (fun q j e => up2_a _ _ _ e) (fun _ _ _ => rfl) (fun _ _ _ => rfl) (vA_upI _ rfl)) (hL.put z hb) hl
/-- an object of class ci goes into an array over just that class -/
theorem q_aast {a t v ci : Nat} {i : Int32} {C : String} {F : u_T} {N : Nat} (hd : decode Y.2.1 pc = .ok (.aastore, 1)) (ht : T.1 a = t + 64) (ho : aty t = .object C ∧ ak t = 2) (hi : inB i (T.2.1 a)) (hv : T.1 v = ci + 1) (hci : ci < 63) (hk : kc[ci]? = some (C, F, N)) (kk : Run Y d rc rs (pc + 1) lv st I L (up2 R a i.toNatClampNeg (some v)) T Q) : Run Y d rc rs pc lv (.ref v :: .int i :: .ref a :: st) I L R T Q := by
  intro p l e Rm s m args below meth c H locs cells slots X ls hC hR hL hl
  have h16 : t < 16 := isO_lt (by rw [isO, ho.1])
  obtain ⟨hb, cA, h1, h2, h3⟩ := hR.arr ht h16
  obtain ⟨hbv, r, hr, cellV, g1, g2, g3, -⟩ := hR.obj hv hci
  have hcls := (hC.2.2.2.2.2.2.2.2.2.1.1 ci _ hk).2
  have h2' := h2
  rw [ho.1] at h2'
  obtain ⟨kA, comp, k1, k2, k3, -⟩ := h2'
  have hcomp : comp = X.1.1 ci := Option.some.inj (k3.symm.trans hcls.1)
  subst hcomp
  obtain ⟨-, kV, hkV, hkindV⟩ := id hcls
  have hlt := inB_lt hi
  refine W.aast hC.1 hC.2.1 h3 (fun q h => by cases h) (fun h => by cases h) k1 k2 rfl hkV ⟨fun q => hi (Or.inl q), by rw [arrV_size]; exact hlt⟩ g1 (by rw [g3]; exact fun q h => by cases h) (by rw [g2]; exact hkV) (by rw [g2]; exact va_assign hcls) rfl rfl hd fun H1 e1 z oq => kk p l e Rm s m args below meth c H1 _ cells slots X ls hC (hR.ast ht h1 h2 e1 z oq (fun _ _ _ => rfl) (fun _ _ _ => rfl) (fun q j e => up2_a _ _ _ e) (vA_upR (some v) ho.2) h16) (hL.put z hb) hl
theorem q_alen {a t : Nat} (hd : decode Y.2.1 pc = .ok (.arraylength, 1)) (ht : T.1 a = t + 64) (kk : Run Y d rc rs (pc + 1) lv (.int (nI (T.2.1 a)) :: st) I L R T Q) : Run Y d rc rs pc lv (.ref a :: st) I L R T Q := by
  intro p l e Rm s m args below meth c H locs cells slots X ls hC hR hL hl
  rcases Nat.lt_or_ge t 16 with h16 | h16
  case inr =>
    obtain ⟨cell, g1, g2, g3, g4, g5, -⟩ := hR.ro ht (by omega)
    exact W.alen (n := nI (T.2.1 a)) hC.1 hC.2.1 g1 g2 g5 rfl rfl hd (kk p l e Rm s m args below meth c H locs cells slots X ls hC hR hL hl)
  obtain ⟨hb, cA, h1, h2, h3⟩ := hR.arr ht h16
  exact W.alen (n := nI (T.2.1 a)) hC.1 hC.2.1 h3 (h1 _ _) (by rw [arrV_size]; rfl) rfl rfl hd (kk p l e Rm s m args below meth c H locs cells slots X ls hC hR hL hl)
/-! returns -/
theorem q_ireturn {x : Int32} {ty : FieldType} (hd : decode Y.2.1 pc = .ok (.ireturn, 1)) (hr : Y.2.2.2.1 = some ty) (hn : narrow ty (.int x) = .int x) (hq : Q (.returned (some (.int x))) I L R T) : Run Y d rc rs pc lv [.int x] I L R T Q := by
  intro p l e Rm s m args below meth c H locs cells slots X ls hC hR hL hl
  refine W.mono (fun t h => MQX.of h) (W.widen (k := cells + rc) (n := slots + rs) (Nat.le_add_right _ _) (Nat.le_add_right _ _) ?_)
  exact W.zret hC.1 hC.2.1 (by rw [hC.2.2.2.1]; exact hr) hn (fun t ht hW => ⟨I, L, R, T, by rw [ht]; exact hR.moved hW.alike, hq⟩) hL.2 hd hC.2.2.2.2.1
theorem q_lreturn {x : Int64} (hd : decode Y.2.1 pc = .ok (.lreturn, 1)) (hr : Y.2.2.2.1 = some .long) (hq : Q (.returned (some (.long x))) I L R T) : Run Y d rc rs pc lv [.long x] I L R T Q := by
  intro p l e Rm s m args below meth c H locs cells slots X ls hC hR hL hl
  refine W.mono (fun t h => MQX.of h) (W.widen (k := cells + rc) (n := slots + rs) (Nat.le_add_right _ _) (Nat.le_add_right _ _) ?_)
  exact W.lret hC.1 hC.2.1 (by rw [hC.2.2.2.1]; exact hr) (fun t ht hW => ⟨I, L, R, T, by rw [ht]; exact hR.moved hW.alike, hq⟩) hL.2 hd hC.2.2.2.2.1
theorem q_return (hd : decode Y.2.1 pc = .ok (.return_, 1)) (hr : Y.2.2.2.1 = none) (hq : Q (.returned none) I L R T) : Run Y d rc rs pc lv [] I L R T Q := by
  intro p l e Rm s m args below meth c H locs cells slots X ls hC hR hL hl
  refine W.mono (fun t h => MQX.of h) (W.widen (k := cells + rc) (n := slots + rs) (Nat.le_add_right _ _) (Nat.le_add_right _ _) ?_)
  exact W.vret hC.1 hC.2.1 (by rw [hC.2.2.2.1]; exact hr) (fun t ht hW => ⟨I, L, R, T, by rw [ht]; exact hR.moved hW.alike, hq⟩) hL.2 hd hC.2.2.2.2.1
theorem q_areturn {v : Value} {rt : FieldType} (hd : decode Y.2.1 pc = .ok (.areturn, 1)) (hr : Y.2.2.2.1 = some rt) (hrt : isRT rt = true) (hv : v = .null ∨ ∃ a, v = .ref a) (hq : Q (.returned (some v)) I L R T) : Run Y d rc rs pc lv [v] I L R T Q := by
  intro p l e Rm s m args below meth c H locs cells slots X ls hC hR hL hl
  refine W.mono (fun t h => MQX.of h) (W.widen (k := cells + rc) (n := slots + rs) (Nat.le_add_right _ _) (Nat.le_add_right _ _) ?_)
  refine W.aret hC.1 hC.2.1 (by rw [hC.2.2.2.1]; exact hr) ?_ hv (fun t ht hW => ⟨I, L, R, T, by rw [ht]; exact hR.moved hW.alike, hq⟩) hL.2 hd hC.2.2.2.2.1
  cases rt <;> simp [isRT] at hrt ⊢
/-! constants of the pool, nulls, compares -/
theorem q_ldc {index : Nat} {v : Int32} (hd : decode Y.2.1 pc = .ok (.ldc index, 2)) (hw : Cond.constant Y.1 index v ∈ lw_tbl) (k : Run Y d rc rs (pc + 2) lv (.int v :: st) I L R T Q) : Run Y d rc rs pc lv st I L R T Q := by
  intro p l e Rm s m args below meth c H locs cells slots X ls hC hR hL hl
  exact lv_ldc hC.1 hC.2.1 hC.2.2.2.2.2.1 (hC.2.2.2.2.2.2.2.2.1.use hw rfl) hd (k p l e Rm s m args below meth c H locs cells slots X ls hC hR hL hl)
theorem q_ldc2 {index : Nat} {v : Int64} (hd : decode Y.2.1 pc = .ok (.ldc2_w index, 3)) (hw : Cond.constantLong Y.1 index v ∈ lw_tbl) (k : Run Y d rc rs (pc + 3) lv (.long v :: st) I L R T Q) : Run Y d rc rs pc lv st I L R T Q := by
  intro p l e Rm s m args below meth c H locs cells slots X ls hC hR hL hl
  exact lv_ldc2 hC.1 hC.2.1 hC.2.2.2.2.2.1 (hC.2.2.2.2.2.2.2.2.1.use hw rfl) hd (k p l e Rm s m args below meth c H locs cells slots X ls hC hR hL hl)
end
