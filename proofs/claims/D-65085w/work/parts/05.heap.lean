/-! ===== 05 HEAP RULES: fields, arrays ===== -/
/-- the pool entry idx of the class own names field k of class ci -/
def FLk (own : String) (idx ci k : Nat) : Prop := ∃ (C : String) (F : u_T) (N : Nat), kc[ci]? = some (C, F, N) ∧ k < N ∧ (∀ w ∈ u_ws C F N, w ∈ lw_tbl) ∧
  (∀ j, j < N → parseFieldDescriptor (F j).2.2.1 = some (kty ci j)) ∧ (∀ a, a < N → ∀ b, b < N → a ≠ b → (F a).2.1 ≠ (F b).2.1) ∧
  (Cond.fieldLink own idx (F k).1 (F k).2.1 (F k).2.2.1 ∈ lw_tbl ∨ (∃ host, Cond.fieldLinkNest own idx (F k).1 (F k).2.1 (F k).2.2.1 host ∈ lw_tbl) ∨ ∃ ref, Cond.fieldLink own idx ref (F k).2.1 (F k).2.2.1 ∈ lw_tbl ∧ Cond.sameField ref (F k).1 (F k).2.1 (F k).2.2.1 ∈ lw_tbl)
def fin (ci k : Nat) : Bool := match kc[ci]? with
  | some r => (r.2.1 k).2.2.2
  | none => false
theorem KT.lay {s : State} (h : KT s) {C : String} {F : u_T} {N : Nat} (hi : ∀ w ∈ u_ws C F N, w ∈ lw_tbl) {a : Array Value} : ∀ w ∈ u_ws C F N, w.before a s = true := by
  intro w hw
  refine h.use (hi w hw) ?_
  obtain ⟨k, -, rfl⟩ := List.mem_map.mp hw
  unfold u_lay
  split <;> rfl
section
variable {Y : MI} {d rc rs pc : Nat} {lv : List (Nat × Value)} {st : List Value} {I : M32} {L : M64} {R : MR} {T : SH} {Q : QT}
/-- the cell of an object of ours -/
theorem Rel.obj {X : GX} {U : State} {H : Heap} {a ci : Nat} (h : Rel X U I L R T H) (ht : T.1 a = ci + 1) (hci : ci < 63) : X.2.1 ≤ a ∧ ∃ r, kc[ci]? = some r ∧ t_OB a (X.1.1 ci) r.2.2 (X.1.2 ci) H (vO ci I L R a) := by
  obtain ⟨h1, h2⟩ := h.2.2.2.1 a (by omega)
  refine ⟨by omega, ?_⟩
  rw [ht] at h2
  rcases h2 with ⟨-, r, h3, h4⟩ | ⟨h3, -⟩ | ⟨h3, -⟩
  · exact ⟨r, h3, h4⟩
  · omega
  · omega
theorem Rel.arr {X : GX} {U : State} {H : Heap} {a t : Nat} (h : Rel X U I L R T H) (ht : T.1 a = t + 64) (h16 : t < 16) : X.2.1 ≤ a ∧ ∃ cA, ArrOfT U cA (aty t) ∧ va_RA U cA (aty t) ∧ H[a]? = some (arrV cA (T.2.1 a) (vA t I L R a)) := by
  obtain ⟨h1, h2⟩ := h.2.2.2.1 a (by omega)
  refine ⟨by omega, ?_⟩
  rw [ht] at h2
  rcases h2 with ⟨h3, -⟩ | ⟨-, -, cA, h3, h4, h5⟩ | ⟨h3, -⟩
  · omega
  · rw [Nat.add_sub_cancel] at h3 h4 h5
    exact ⟨cA, h3, h4, h5⟩
  · omega
theorem Rel.ro {X : GX} {U : State} {H : Heap} {a t : Nat} (h : Rel X U I L R T H) (ht : T.1 a = t) (h80 : 80 ≤ t) : va_T (roty t) a (T.2.1 a) (vR t I R a) (fun _ => False) U H := by
  obtain ⟨h1, h2⟩ := h.2.2.2.1 a (by omega)
  rw [ht] at h2
  rcases h2 with ⟨h3, -⟩ | ⟨-, h3, -⟩ | ⟨h3, h4⟩
  · omega
  · omega
  · exact h4
theorem q_getV {idx ci k a : Nat} {v : Value} (hd : decode Y.2.1 pc = .ok (.getfield idx, 3)) (fl : FLk Y.1 idx ci k) (ht : T.1 a = ci + 1) (hci : ci < 63) (hv : vO ci I L R a k = v)
    (kk : Run Y d rc rs (pc + 3) lv (v :: st) I L R T Q) : Run Y d rc rs pc lv (.ref a :: st) I L R T Q := by
  intro p l e Rm s m args below meth c H locs cells slots X ls hC hR hL hl
  obtain ⟨hb, r, hr, hO⟩ := hR.obj ht hci
  obtain ⟨C, F, N, hk, hkN, hin, hty, hnm, hlink⟩ := fl
  cases hr.symm.trans hk
  have hKT := hC.2.2.2.2.2.2.2.2.1
  have hK := hC.2.2.2.2.2.2.2.2.2.1
  have hown := hC.2.2.2.2.2.1
  obtain ⟨cell, q1, q2, q3, q4⟩ := hO
  obtain ⟨hS, hfc, kC, hkC, hkind⟩ := hK.1 ci _ hk
  obtain ⟨cf, kf, fi, f, hi, hsl⟩ := hS k hkN
  have hst := (u_facts hfc hkC (u_lays (ws := u_ws C F N) (args := args) (hKT.lay hin) (fun _ h => h) hkN) hi).1
  have hw := kk p l e Rm s m args below meth c H locs cells slots X ls hC hR hL hl
  rcases hlink with hlink | ⟨host, hlink⟩ | ⟨ref, hlink, hsm⟩
  · refine W.getf hC.1 hC.2.1 hown (hKT.use hlink rfl) hi hst q1 (by rw [q3]; exact fun h => by cases h) (v := v) ?_ rfl rfl hd hw
    rw [hsl, q4 k hkN, hv]
  · refine va_Wgetf hC.1 hC.2.1 hown (hKT.use hlink rfl) hi hst q1 (by rw [q3]; exact fun h => by cases h) (v := v) ?_ rfl rfl hd hw
    rw [hsl, q4 k hkN, hv]
  · refine W.getf hC.1 hC.2.1 hown (hKT.use hlink rfl) (u_same (args := args) (hKT.use hsm rfl) _ hi) hst q1 (by rw [q3]; exact fun h => by cases h) (v := v) ?_ rfl rfl hd hw
    rw [hsl, q4 k hkN, hv]
theorem q_getI {idx ci k a : Nat} (hd : decode Y.2.1 pc = .ok (.getfield idx, 3)) (fl : FLk Y.1 idx ci k) (ht : T.1 a = ci + 1) (hf : kf ci k = 0 ∧ ci < 63)
    (kk : Run Y d rc rs (pc + 3) lv (.int (I a k) :: st) I L R T Q) : Run Y d rc rs pc lv (.ref a :: st) I L R T Q := q_getV hd fl ht hf.2 (by simp only [vO, hf.1]) kk
theorem q_getL {idx ci k a : Nat} (hd : decode Y.2.1 pc = .ok (.getfield idx, 3)) (fl : FLk Y.1 idx ci k) (ht : T.1 a = ci + 1) (hf : kf ci k = 1 ∧ ci < 63)
    (kk : Run Y d rc rs (pc + 3) lv (.long (L a k) :: st) I L R T Q) : Run Y d rc rs pc lv (.ref a :: st) I L R T Q := q_getV hd fl ht hf.2 (by simp only [vO, hf.1]) kk
theorem q_getO {idx ci k a : Nat} (hd : decode Y.2.1 pc = .ok (.getfield idx, 3)) (fl : FLk Y.1 idx ci k) (ht : T.1 a = ci + 1) (hf : kf ci k = 2 ∧ ci < 63)
    (kk : Run Y d rc rs (pc + 3) lv (va_rf (R a k) :: st) I L R T Q) : Run Y d rc rs pc lv (.ref a :: st) I L R T Q := q_getV hd fl ht hf.2 (by simp only [vO, hf.1]) kk
theorem q_getR {idx ci k a q : Nat} (hd : decode Y.2.1 pc = .ok (.getfield idx, 3)) (fl : FLk Y.1 idx ci k) (ht : T.1 a = ci + 1) (hf : kf ci k = 2 ∧ ci < 63) (hq : R a k = some q)
    (kk : Run Y d rc rs (pc + 3) lv (.ref q :: st) I L R T Q) : Run Y d rc rs pc lv (.ref a :: st) I L R T Q := q_getV hd fl ht hf.2 (by simp only [vO, hf.1, hq, va_rf]) kk
/-- a store to a field -/
theorem q_putV {idx ci k a : Nat} {v : Value} {I' : M32} {L' : M64} {R' : MR} (hd : decode Y.2.1 pc = .ok (.putfield idx, 3)) (fl : FLk Y.1 idx ci k) (ht : T.1 a = ci + 1) (hci : ci < 63)
    (hfin : fin ci k = false ∨ (Y.2.2.2.2.1 = "<init>" ∧ (∀ C F N, kc[ci]? = some (C, F, N) → (F k).1 = Y.1) ∧ ∃ C F N, kc[ci]? = some (C, F, N) ∧ Cond.fieldLink Y.1 idx (F k).1 (F k).2.1 (F k).2.2.1 ∈ lw_tbl)) (hn : narrow (kty ci k) v = v) (hfit : fits (kty ci k) v = true)
    (h1 : ∀ q j, q ≠ a → I' q j = I q j) (h2 : ∀ q j, q ≠ a → L' q j = L q j) (h3 : ∀ q j, q ≠ a → R' q j = R q j) (hv : ∀ j, vO ci I' L' R' a j = updV (vO ci I L R a) k v j)
    (kk : Run Y d rc rs (pc + 3) lv st I' L' R' T Q) : Run Y d rc rs pc lv (v :: .ref a :: st) I L R T Q := by
  intro p l e Rm s m args below meth c H locs cells slots X ls hC hR hL hl
  obtain ⟨hb, r, hr, hO⟩ := hR.obj ht hci
  obtain ⟨C, F, N, hk, hkN, hin, hty, hnm, hlink⟩ := fl
  cases hr.symm.trans hk
  have hKT := hC.2.2.2.2.2.2.2.2.1
  have hK := hC.2.2.2.2.2.2.2.2.2.1
  have hown := hC.2.2.2.2.2.1
  have hlays := hKT.lay hin (a := args)
  have hap := va_apart (own := Y.1) (args := args) (ci := ci) (Ts := u_ws C F N) hlays (fun _ h => h) (kty ci) hty hnm hK hk
  obtain ⟨cell, q1, q2, q3, q4⟩ := hO
  obtain ⟨hS, hfc, kC, hkC, hkind⟩ := hK.1 ci _ hk
  obtain ⟨cf, kf', fi, f, hi, hsl⟩ := hS k hkN
  have hlay := hlays _ (u_in_lay hkN)
  have hst := (u_facts hfc hkC (u_lays (ws := u_ws C F N) (args := args) hlays (fun _ h => h) hkN) hi).1
  have done : ∀ H' : Heap, H'[a]? = some (cell.setSlot f.slot v) → H'.size = H.size → (∀ q, q ≠ a → H'[q]? = H[q]?) → W p l e Rm s m args below meth c H' (locs ++ [⟨a, f.slot⟩]) cells slots (MQX below (QcX X Q) args s (cells + rc) (slots + rs) (fun q => X.2.1 ≤ q)) (F0 m (pc + 3) ls st) := by
    intro H' e1 e2 e3
    refine kk p l e Rm s m args below meth c H' _ cells slots X ls hC (hR.set (a := a) hb e2 e3 h1 h2 h3 ?_) ⟨by rw [e2]; exact hL.1, fun q hq => ?_⟩ hl
    · rw [ht]
      refine Or.inl ⟨by omega, _, hk, ?_⟩
      rw [hsl] at e1
      exact t_OB.to (V := updV (vO ci I L R a) k v) ⟨_, e1, q2, q3, t_set q4 hap hkN v⟩ (fun j _ => (hv j).symm)
    · rcases List.mem_append.mp hq with h | h
      · exact hL.2 q h
      · rw [List.mem_singleton.mp h]; exact hb
  rcases hfin with hfin | ⟨hini, hdecl, C9, F9, N9, hk9, hlink9⟩
  · have hfin : (F k).2.2.2 = false := by
      unfold fin at hfin
      rw [hk] at hfin
      exact hfin
    unfold u_lay at hlay
    rw [if_neg (by rw [hfin]; decide)] at hlay
    have h6 := u_store hfc hkC hkind hlay hi (hty k hkN) hn hfit
    rcases hlink with hlink | ⟨host, hlink⟩ | ⟨ref, hlink, hsm⟩
    · exact W.putK hC.1 hC.2.1 (f := f) ⟨hown, hKT.use hlink rfl, ⟨_, _, _, hi⟩, hst⟩ (by rw [q2]; exact h6) q1 q3 (by rw [hsl]; exact k2_hasslot (q4 k hkN)) rfl rfl hd done
    · exact va_WputK hC.1 hC.2.1 (f := f) hown (hKT.use hlink rfl) hi hst (by rw [q2]; exact h6) q1 q3 (by rw [hsl]; exact k2_hasslot (q4 k hkN)) rfl rfl hd done
    · exact W.putK hC.1 hC.2.1 (f := f) ⟨hown, hKT.use hlink rfl, ⟨_, _, _, u_same (args := args) (hKT.use hsm rfl) _ hi⟩, hst⟩ (by rw [q2]; exact h6) q1 q3 (by rw [hsl]; exact k2_hasslot (q4 k hkN)) rfl rfl hd done
  · cases hk.symm.trans hk9
    have hdecl := hdecl _ _ _ hk
    by_cases hf : (F k).2.2.2 = true
    · unfold u_lay at hlay
      rw [if_pos hf] at hlay
      have hcf : m.cls = cf := by
        obtain ⟨_, _, c', _, _, _, -, -, hf', -, -, -, hown2, -⟩ := Cond.laysFinal_spec hlay
        have e1 : c' = cf := by have := hi.symm.trans hf'; simp at this; exact this.1.symm
        rw [hdecl] at hown2
        rw [← e1]; exact Option.some.inj (hown.symm.trans hown2)
      have h6 := u_fits hfc hkC hkind (Or.inr hlay) hi (hty k hkN) hn hfit
      exact W.putFinK hC.1 hC.2.1 hown (hKT.use hlink9 rfl) hi hst hcf (by rw [hC.2.2.2.2.2.2.1]; exact hini) (by rw [q2]; exact h6) q1 q3 (by rw [hsl]; exact k2_hasslot (q4 k hkN)) rfl rfl hd done
    · unfold u_lay at hlay
      rw [if_neg hf] at hlay
      have h6 := u_store hfc hkC hkind hlay hi (hty k hkN) hn hfit
      exact W.putK hC.1 hC.2.1 (f := f) ⟨hown, hKT.use hlink9 rfl, ⟨_, _, _, hi⟩, hst⟩ (by rw [q2]; exact h6) q1 q3 (by rw [hsl]; exact k2_hasslot (q4 k hkN)) rfl rfl hd done
end
