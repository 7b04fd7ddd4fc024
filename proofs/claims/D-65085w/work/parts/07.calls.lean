/-! ===== 07: allocation, calls, throws ===== -/
section
variable {Y : MI} {d rc rs pc : Nat} {lv : List (Nat × Value)} {st : List Value} {I : M32} {L : M64} {R : MR} {T : SH} {Q : QT}
theorem q_lcmp {x y : Int64} (hd : decode Y.2.1 pc = .ok (.lcmp, 1)) (k : Run Y d rc rs (pc + 1) lv (.int (lg_cmp x y) :: st) I L R T Q) : Run Y d rc rs pc lv (.long y :: .long x :: st) I L R T Q := by
  intro p l e Rm s m args below meth c H locs cells slots X ls hC hR hL hl
  exact W.lcmp hC.1 hC.2.1 hd (k p l e Rm s m args below meth c H locs cells slots X ls hC hR hL hl)
theorem q_ldcw {index : Nat} {v : Int32} (hd : decode Y.2.1 pc = .ok (.ldc_w index, 3)) (hw : Cond.constant Y.1 index v ∈ lw_tbl) (k : Run Y d rc rs (pc + 3) lv (.int v :: st) I L R T Q) : Run Y d rc rs pc lv st I L R T Q := by
  intro p l e Rm s m args below meth c H locs cells slots X ls hC hR hL hl
  exact lv_ldcw hC.1 hC.2.1 hC.2.2.2.2.2.1 (hC.2.2.2.2.2.2.2.2.1.use hw rfl) hd (k p l e Rm s m args below meth c H locs cells slots X ls hC hR hL hl)
theorem q_ifnull {v : Option Nat} {off : Int} {tgt : Nat} (hd : decode Y.2.1 pc = .ok (.ifnull off, 3)) (ht : (pc : Int) + off = (tgt : Int)) (kt : v = none → Run Y d rc rs tgt lv st I L R T Q) (kf : ∀ a, v = some a → Run Y d rc rs (pc + 3) lv st I L R T Q) : Run Y d rc rs pc lv (va_rf v :: st) I L R T Q := by
  intro p l e Rm s m args below meth c H locs cells slots X ls hC hR hL hl
  cases v with
  | none => exact lv_ifnullN hC.1 hC.2.1 hd ht (kt rfl p l e Rm s m args below meth c H locs cells slots X ls hC hR hL hl)
  | some a => exact lv_ifnull hC.1 hC.2.1 hd (kf a rfl p l e Rm s m args below meth c H locs cells slots X ls hC hR hL hl)
theorem q_ifnonnull {v : Option Nat} {off : Int} {tgt : Nat} (hd : decode Y.2.1 pc = .ok (.ifnonnull off, 3)) (ht : (pc : Int) + off = (tgt : Int)) (kt : ∀ a, v = some a → Run Y d rc rs tgt lv st I L R T Q) (kf : v = none → Run Y d rc rs (pc + 3) lv st I L R T Q) : Run Y d rc rs pc lv (va_rf v :: st) I L R T Q := by
  intro p l e Rm s m args below meth c H locs cells slots X ls hC hR hL hl
  cases v with
  | none => exact lv_ifnonnullN hC.1 hC.2.1 hd (kf rfl p l e Rm s m args below meth c H locs cells slots X ls hC hR hL hl)
  | some a => exact lv_ifnonnull hC.1 hC.2.1 hd ht (kt a rfl p l e Rm s m args below meth c H locs cells slots X ls hC hR hL hl)
end
section
variable {Y : MI} {d rc rs pc : Nat} {lv : List (Nat × Value)} {st : List Value} {I : M32} {L : M64} {R : MR} {T : SH} {Q : QT}
/-- a fresh cell: all its fields are 0, 0, null -/
def fr2 {α : Type} (f : Nat → Nat → α) (z : Nat) (v : α) : Nat → Nat → α := fun a k => if a = z then v else f a k
theorem fr2_s {α : Type} (f : Nat → Nat → α) (z : Nat) (v : α) (k : Nat) : fr2 f z v z k = v := if_pos rfl
theorem fr2_n {α : Type} (f : Nat → Nat → α) {z : Nat} (v : α) {a : Nat} (k : Nat) (h : a ≠ z) : fr2 f z v a k = f a k := if_neg h
def fr1 (f : Nat → Nat) (z v : Nat) : Nat → Nat := fun a => if a = z then v else f a
theorem fr1_s (f : Nat → Nat) (z v : Nat) : fr1 f z v z = v := if_pos rfl
theorem fr1_n (f : Nat → Nat) {z v a : Nat} (h : a ≠ z) : fr1 f z v a = f a := if_neg h
/-- the shape behind an allocation: tag, length -/
def shN (T : SH) (tag len : Nat) : SH := (fr1 T.1 T.2.2 tag, fr1 T.2.1 T.2.2 len, T.2.2 + 1)
theorem q_new {idx ci n : Nat} {C : String} {F : u_T} {N : Nat} (hd : decode Y.2.1 pc = .ok (.new idx, 3)) (hk : kc[ci]? = some (C, F, N)) (hci : ci < 63) (hw1 : Cond.classLink Y.1 idx C ∈ lw_tbl) (hw2 : Cond.instantiable C n ∈ lw_tbl) (hw3 : Cond.initialized C ∈ lw_tbl)
    (hin : ∀ w ∈ u_ws C F N, w ∈ lw_tbl) (hty : ∀ j, j < N → parseFieldDescriptor (F j).2.2.1 = some (kty ci j)) (hdv : ∀ j, j < N → defaultValue (kty ci j) = vO ci (fun _ _ => 0) (fun _ _ => 0) (fun _ _ => none) 0 j)
    (kk : Run Y d rc rs (pc + 3) lv (.ref T.2.2 :: st) (fr2 I T.2.2 0) (fr2 L T.2.2 0) (fr2 R T.2.2 none) (shN T (ci + 1) 0) Q) : Run Y d (rc + 1) (rs + n) pc lv st I L R T Q := by
  intro p l e Rm s m args below meth c H locs cells slots X ls hC hR hL hl
  have hKT := hC.2.2.2.2.2.2.2.2.1
  have hKn := hC.2.2.2.2.2.2.2.2.2.1.1 ci _ hk
  have hrm := hC.2.2.2.2.2.2.2.2.2.2.2.1
  refine W.newcK hC.1 hC.2.1 hC.2.2.2.2.2.1 (hKT.use hw1 rfl) (hKT.use hw2 rfl) (hKT.use hw3 rfl) rfl hd (by omega) (by omega) hKn.2.1 rfl fun H1 kC hkC e1 z1 o1 => ?_
  have hz : T.2.2 = H.size := hR.1
  have hR' : Rel X s (fr2 I T.2.2 0) (fr2 L T.2.2 0) (fr2 R T.2.2 none) (shN T (ci + 1) 0) H1 := by
    rw [hz]
    refine hR.push z1 o1 (fun q k e => fr2_n _ _ _ e) (fun q k e => fr2_n _ _ _ e) (fun q k e => fr2_n _ _ _ e) (fun q e => by show fr1 T.1 T.2.2 _ q = _; rw [hz]; exact fr1_n _ e) (fun q e => by show fr1 T.2.1 T.2.2 _ q = _; rw [hz]; exact fr1_n _ e) rfl (fun _ => ?_)
    have ht : (shN T (ci + 1) 0).1 H.size = ci + 1 := by show fr1 T.1 T.2.2 _ _ = _; rw [hz]; exact fr1_s _ _ _
    rw [ht]
    refine Or.inl ⟨by omega, _, hk, ?_⟩
    refine (u_born (ws := u_ws C F N) (args := args) (kty ci) (hKT.lay hin) (fun _ h => h) hKn hkC e1 hty).to (fun j hj => ?_)
    rw [hdv j hj]
    simp only [vO, Nat.add_sub_cancel, fr2_s]
  rw [hz] at kk hR'
  have e2 : cells + 1 + rc = cells + (rc + 1) := by omega
  have e3 : slots + n + rs = slots + (rs + n) := by omega
  have w := kk p l e Rm s m args below meth c H1 locs (cells + 1) (slots + n) X ls (by rw [e2, e3]; exact hC) hR' ⟨by have := hL.1; omega, hL.2⟩ hl
  rw [e2, e3] at w
  exact w
theorem q_newa {at_ : ArrayType} {t : Nat} {n : Int32} {N : Nat} (hd : decode Y.2.1 pc = .ok (.newarray at_, 2)) (hty : newarray.typeOf at_ = aty t) (hw : Cond.arrayClass (newarray.typeOf at_) ∈ lw_tbl) (hn : ¬ n < 0) (hN : n.toNatClampNeg = N) (hbytes : N * componentBytes (newarray.typeOf at_) ≤ 536870912)
    (hdv : defaultValue (aty t) = vA t (fun _ _ => 0) (fun _ _ => 0) (fun _ _ => none) 0 0 ∧ t < 16)
    (kk : Run Y d rc rs (pc + 2) lv (.ref T.2.2 :: st) (fr2 I T.2.2 0) (fr2 L T.2.2 0) (fr2 R T.2.2 none) (shN T (t + 64) N) Q) : Run Y d (rc + 1) (rs + N) pc lv (.int n :: st) I L R T Q := by
  intro p l e Rm s m args below meth c H locs cells slots X ls hC hR hL hl
  have hKT := hC.2.2.2.2.2.2.2.2.1
  have hrm := hC.2.2.2.2.2.2.2.2.2.2.2.1
  refine va_newaK hC.1 hC.2.1 (hKT.use hw rfl) rfl hd rfl hn hN hbytes (by omega) (by omega) rfl fun H1 cA e1 z1 o1 hAr hNm => ?_
  have hz : T.2.2 = H.size := hR.1
  have hR' : Rel X s (fr2 I T.2.2 0) (fr2 L T.2.2 0) (fr2 R T.2.2 none) (shN T (t + 64) N) H1 := by
    rw [hz]
    refine hR.push z1 o1 (fun q k e => fr2_n _ _ _ e) (fun q k e => fr2_n _ _ _ e) (fun q k e => fr2_n _ _ _ e) (fun q e => by show fr1 T.1 T.2.2 _ q = _; rw [hz]; exact fr1_n _ e) (fun q e => by show fr1 T.2.1 T.2.2 _ q = _; rw [hz]; exact fr1_n _ e) rfl (fun _ => ?_)
    have ht : (shN T (t + 64) N).1 H.size = t + 64 := by show fr1 T.1 T.2.2 _ _ = _; rw [hz]; exact fr1_s _ _ _
    have hl2 : (shN T (t + 64) N).2.1 H.size = N := by show fr1 T.2.1 T.2.2 _ _ = _; rw [hz]; exact fr1_s _ _ _
    rw [ht, hl2]
    refine Or.inr (Or.inl ⟨by omega, by have := hdv.2; omega, cA, by rw [Nat.add_sub_cancel, ← hty]; exact hAr, by rw [Nat.add_sub_cancel, ← hty]; cases at_ <;> exact hNm, ?_⟩)
    rw [e1, Nat.add_sub_cancel, hty, hdv.1]
    congr 2
    funext j
    simp only [vA, fr2_s]
  rw [hz] at kk hR'
  have e2 : cells + 1 + rc = cells + (rc + 1) := by omega
  have e3 : slots + N + rs = slots + (rs + N) := by omega
  have w := kk p l e Rm s m args below meth c H1 locs (cells + 1) (slots + N) X ls (by rw [e2, e3]; exact hC) hR' ⟨by have := hL.1; omega, hL.2⟩ hl
  rw [e2, e3] at w
  exact w
theorem q_anew {idx t : Nat} {n : Int32} {N : Nat} {C : String} (hd : decode Y.2.1 pc = .ok (.anewarray idx, 3)) (hty : aty t = .object C ∧ ak t = 2) (hw : Cond.classLink Y.1 idx C ∈ lw_tbl) (hao : ∀ U, KT U → va_AO C U) (hn : ¬ n < 0) (hN : n.toNatClampNeg = N) (hbytes : N * 4 ≤ 536870912)
    (kk : Run Y d rc rs (pc + 3) lv (.ref T.2.2 :: st) (fr2 I T.2.2 0) (fr2 L T.2.2 0) (fr2 R T.2.2 none) (shN T (t + 64) N) Q) : Run Y d (rc + 1) (rs + N) pc lv (.int n :: st) I L R T Q := by
  intro p l e Rm s m args below meth c H locs cells slots X ls hC hR hL hl
  have hKT := hC.2.2.2.2.2.2.2.2.1
  have hrm := hC.2.2.2.2.2.2.2.2.2.2.2.1
  subst hN
  refine W.anew hC.1 hC.2.1 hC.2.2.2.2.2.1 (hKT.use hw rfl) (va_AO.use (hao s hKT)) rfl hd rfl hn hbytes (by omega) (by omega) fun cA kA comp f1 f2 f3 f4 => ?_
  generalize hH1 : H.push ({ cls := cA, slots := Array.replicate n.toNatClampNeg .null, vm := .none } : Cell) = H1
  have z1 : H1.size = H.size + 1 := by rw [← hH1, Array.size_push]
  have e1 : H1[H.size]? = some (arrV cA n.toNatClampNeg (fun _ => .null)) := by rw [← hH1, Array.getElem?_push_size, ← arrV_new]
  have o1 : ∀ q : Nat, q < H.size → H1[q]? = H[q]? := fun q hq => by rw [← hH1, Array.getElem?_push, if_neg (Nat.ne_of_lt hq)]
  have hAr : ArrOfT s cA (.object C) := fun N z => ⟨(fun k h => by cases h), kA, f2, comp, f3⟩
  have hz : T.2.2 = H.size := hR.1
  generalize n.toNatClampNeg = N at *
  have hR' : Rel X s (fr2 I T.2.2 0) (fr2 L T.2.2 0) (fr2 R T.2.2 none) (shN T (t + 64) N) H1 := by
    rw [hz]
    refine hR.push z1 o1 (fun q k e => fr2_n _ _ _ e) (fun q k e => fr2_n _ _ _ e) (fun q k e => fr2_n _ _ _ e) (fun q e => by show fr1 T.1 T.2.2 _ q = _; rw [hz]; exact fr1_n _ e) (fun q e => by show fr1 T.2.1 T.2.2 _ q = _; rw [hz]; exact fr1_n _ e) rfl (fun _ => ?_)
    have ht : (shN T (t + 64) N).1 H.size = t + 64 := by show fr1 T.1 T.2.2 _ _ = _; rw [hz]; exact fr1_s _ _ _
    have hl2 : (shN T (t + 64) N).2.1 H.size = N := by show fr1 T.2.1 T.2.2 _ _ = _; rw [hz]; exact fr1_s _ _ _
    rw [ht, hl2]
    refine Or.inr (Or.inl ⟨by omega, by have := isO_lt (t := t) (by rw [isO, hty.1]); omega, cA, by rw [Nat.add_sub_cancel, hty.1]; exact hAr, by rw [Nat.add_sub_cancel, hty.1]; exact ⟨kA, comp, f2, f3, f4, f1⟩, ?_⟩)
    rw [e1, Nat.add_sub_cancel]
    congr 2
    funext j
    simp only [vA, hty.2, fr2_s, va_rf]
  rw [hz] at kk hR'
  have e2 : cells + 1 + rc = cells + (rc + 1) := by omega
  have e3 : slots + N + rs = slots + (rs + N) := by omega
  have w := kk p l e Rm s m args below meth c H1 locs (cells + 1) (slots + N) X ls (by rw [e2, e3]; exact hC) hR' ⟨by have := hL.1; omega, hL.2⟩ hl
  rw [e2, e3] at w
  exact w
end
