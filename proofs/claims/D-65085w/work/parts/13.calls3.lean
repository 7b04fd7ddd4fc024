/-! ===== 13: calls by kind; forms of posts ===== -/
def rI (P : Int32 → M32 → M64 → MR → SH → Prop) : QT := fun o I L R T => ∃ r, o = .returned (some (.int r)) ∧ P r I L R T
def rL (P : Int64 → M32 → M64 → MR → SH → Prop) : QT := fun o I L R T => ∃ r, o = .returned (some (.long r)) ∧ P r I L R T
def rO (P : Option Nat → M32 → M64 → MR → SH → Prop) : QT := fun o I L R T => ∃ r, o = .returned (some (va_rf r)) ∧ P r I L R T
def rV (P : M32 → M64 → MR → SH → Prop) : QT := fun o I L R T => o = .returned none ∧ P I L R T
/-- ... or it throws -/
def orX (Qn : QT) (E : Nat → M32 → M64 → MR → SH → Prop) : QT := fun o I L R T => Qn o I L R T ∨ ∃ x, o = .threw x ∧ E x I L R T
section
variable {Y : MI} {d rc rs pc : Nat} {lv : List (Nat × Value)} {st : List Value} {I : M32} {L : M64} {R : MR} {T : SH} {Q : QT}
theorem sameFE {s t : State} {Ls : List Loc} {a b a' b' : Nat} (h : FE s t Ls a b) (h1 : a ≤ a') (h2 : b ≤ b') : FE s t Ls a' b' := ⟨h.1, h.2.mono h1 h2⟩
/-- more room is no harm -/
theorem Run.more {rc' rs' : Nat} (k : Run Y d rc rs pc lv st I L R T Q) (h1 : rc ≤ rc') (h2 : rs ≤ rs') : Run Y d rc' rs' pc lv st I L R T Q := by
  intro p l e Rm s m args below meth c H locs cells slots X ls hC hR hL hl
  refine W.mono ?_ (k p l e Rm s m args below meth c H locs cells slots X ls ⟨hC.1, hC.2.1, hC.2.2.1, hC.2.2.2.1, hC.2.2.2.2.1, hC.2.2.2.2.2.1, hC.2.2.2.2.2.2.1, hC.2.2.2.2.2.2.2.1, hC.2.2.2.2.2.2.2.2.1, hC.2.2.2.2.2.2.2.2.2.1, hC.2.2.2.2.2.2.2.2.2.2.1, ⟨by have := hC.2.2.2.2.2.2.2.2.2.2.2.1.1; omega, by have := hC.2.2.2.2.2.2.2.2.2.2.2.1.2; omega⟩, hC.2.2.2.2.2.2.2.2.2.2.2.2⟩ hR hL hl)
  rintro t ⟨o, q1, q2, q3, Ls, q4, q5⟩
  exact ⟨o, q1, q2, q3, Ls, sameFE q4 (by omega) (by omega), q5⟩
theorem Run.deep {d' : Nat} (k : Run Y d rc rs pc lv st I L R T Q) (h : d ≤ d') : Run Y d' rc rs pc lv st I L R T Q := by
  intro p l e Rm s m args below meth c H locs cells slots X ls hC hR hL hl
  exact k p l e Rm s m args below meth c H locs cells slots X ls ⟨hC.1, hC.2.1, hC.2.2.1, hC.2.2.2.1, hC.2.2.2.2.1, hC.2.2.2.2.2.1, hC.2.2.2.2.2.2.1, hC.2.2.2.2.2.2.2.1, hC.2.2.2.2.2.2.2.2.1, hC.2.2.2.2.2.2.2.2.2.1, ⟨by have := hC.2.2.2.2.2.2.2.2.2.2.1.1; omega, by have := hC.2.2.2.2.2.2.2.2.2.2.1.2; omega⟩, hC.2.2.2.2.2.2.2.2.2.2.2.1, hC.2.2.2.2.2.2.2.2.2.2.2.2⟩ hR hL hl
theorem len_of {y : MethodName} {n : Nat} {as : List Value} (h : (parseMethodDescriptor y.desc).map (fun d => d.parameters.length) = some n) (hn : as.length = n) : ∀ sig, parseMethodDescriptor y.desc = some sig → as.length = sig.parameters.length := by
  intro sig hs
  rw [hs] at h
  rw [hn]
  exact (Option.some.inj h).symm
theorem q_callS {idx n : Nat} {Z : MI} {y : MethodName} {dd mc ms : Nat} {as rest : List Value} {Qc : QT} (hd : decode Y.2.1 pc = .ok (.invokestatic idx, 3)) (ml : MLk Y.1 idx y) (ok : OkS Z y n) (hcall : Call Z y dd mc ms as I L R T Qc) (hn : as.length = n) (hst : st = as.reverse ++ rest) (hdd : dd + 1 ≤ d) (hw : (rest.map fun v => v.category).sum ≤ 16)
    (kr : ∀ v I' L' R' T', Qc (.returned v) I' L' R' T' → Run Y d rc rs (pc + 3) lv (v.toList ++ rest) I' L' R' T' Q)
    (kt : ∀ x I' L' R' T', Qc (.threw x) I' L' R' T' → Thr Y d rc rs pc lv x I' L' R' T' Q) : Run Y d (rc + mc) (rs + ms) pc lv st I L R T Q := by
  obtain ⟨⟨h1, h2, h3, h4, h5⟩, h6⟩ := ok
  refine q_callG hd hcall hdd h1 h2 h3 hw ?_ kr kt
  intro p l e Rm s m args below meth c U locs cells slots X ls hC hR S
  have hKT := hC.2.2.2.2.2.2.2.2.1
  refine linkS S hC.1 hC.2.2.2.2.2.1 ?_ (hKT.use h6 rfl) (hKT.use h2 rfl) (hKT.use (a := args) h1 ?_) h4 rfl (len_of h5 hn) (by show st = _; exact hst) (by rw [hC.2.1]; exact hd)
  · rcases ml with ml | ⟨host, ml⟩
    · exact Or.inl (hKT.use ml rfl)
    · exact Or.inr ⟨host, hKT.use ml rfl⟩
  · obtain ⟨own, cc, nL, ret, nm, hh⟩ := Z
    cases hh <;> rfl
theorem q_callV {idx n ci : Nat} {Z : MI} {y : MethodName} {dd mc ms : Nat} {b : Nat} {as rest : List Value} {F : u_T} {N : Nat} {Qc : QT} (hd : decode Y.2.1 pc = .ok (.invokevirtual idx, 3)) (ml : MLk Y.1 idx y) (ok : OkV Z y n) (hk : kc[ci]? = some (y.cls, F, N)) (ht : T.1 b = ci + 1) (hci : ci < 63) (hcall : Call Z y dd mc ms (.ref b :: as) I L R T Qc) (hn : as.length = n) (hst : st = as.reverse ++ .ref b :: rest) (hdd : dd + 1 ≤ d) (hw : (rest.map fun v => v.category).sum ≤ 16)
    (kr : ∀ v I' L' R' T', Qc (.returned v) I' L' R' T' → Run Y d rc rs (pc + 3) lv (v.toList ++ rest) I' L' R' T' Q)
    (kt : ∀ x I' L' R' T', Qc (.threw x) I' L' R' T' → Thr Y d rc rs pc lv x I' L' R' T' Q) : Run Y d (rc + mc) (rs + ms) pc lv st I L R T Q := by
  obtain ⟨⟨h1, h2, h3, h4, h5⟩, h6, h7⟩ := ok
  refine q_callG hd hcall hdd h1 h2 h3 hw ?_ kr kt
  intro p l e Rm s m args below meth c U locs cells slots X ls hC hR S
  have hKT := hC.2.2.2.2.2.2.2.2.1
  obtain ⟨-, r, hr, cell, g1, g2, g3, -⟩ := hR.obj ht hci
  have hcls := (hC.2.2.2.2.2.2.2.2.2.1.1 ci _ hk).2
  refine linkV S hC.1 hC.2.2.2.2.2.1 ?_ (hKT.use h6 rfl) (hKT.use h7 rfl) (hKT.use (a := args) h1 ?_) h4 g1 (by rw [g3]; rfl) (by rw [g2]; exact hcls.1) rfl (len_of h5 hn) (by show st = _; exact hst) (by rw [hC.2.1]; exact hd)
  · rcases ml with ml | ⟨host, ml⟩
    · exact Or.inl (hKT.use ml rfl)
    · exact Or.inr ⟨host, hKT.use ml rfl⟩
  · obtain ⟨own, cc, nL, ret, nm, hh⟩ := Z
    cases hh <;> rfl
theorem q_callI {idx n : Nat} {Z : MI} {y : MethodName} {dd mc ms : Nat} {b : Nat} {as rest : List Value} {Qc : QT} (hd : decode Y.2.1 pc = .ok (.invokespecial idx, 3)) (ml : MLk Y.1 idx y) (ok : OkI Z y n) (hcall : Call Z y dd mc ms (.ref b :: as) I L R T Qc) (hn : as.length = n) (hst : st = as.reverse ++ .ref b :: rest) (hdd : dd + 1 ≤ d) (hw : (rest.map fun v => v.category).sum ≤ 16)
    (kr : ∀ v I' L' R' T', Qc (.returned v) I' L' R' T' → Run Y d rc rs (pc + 3) lv (v.toList ++ rest) I' L' R' T' Q)
    (kt : ∀ x I' L' R' T', Qc (.threw x) I' L' R' T' → Thr Y d rc rs pc lv x I' L' R' T' Q) : Run Y d (rc + mc) (rs + ms) pc lv st I L R T Q := by
  obtain ⟨⟨h1, h2, h3, h4, h5⟩, h6, h7, h8, h9⟩ := ok
  refine q_callG hd hcall hdd h1 h2 h3 hw ?_ kr kt
  intro p l e Rm s m args below meth c U locs cells slots X ls hC hR S
  have hKT := hC.2.2.2.2.2.2.2.2.1
  have hcode : Cond.code y Z.2.1 Z.2.2.1 none ∈ lw_tbl := by
    obtain ⟨own, cc, nL, ret, nm, hh⟩ := Z
    subst h8; subst h9
    exact h1
  refine linkI S hC.1 hC.2.2.2.2.2.1 h7 ?_ (hKT.use h6 rfl) (hKT.use hcode rfl) h4 rfl (len_of h5 hn) (by show st = _; exact hst) (by rw [hC.2.1]; exact hd)
  rcases ml with ml | ⟨host, ml⟩
  · exact Or.inl (hKT.use ml rfl)
  · exact Or.inr ⟨host, hKT.use ml rfl⟩
/-- what a call that only returns goes on with -/
theorem kr_I {P : Int32 → M32 → M64 → MR → SH → Prop} {rest : List Value} (k : ∀ r I' L' R' T', P r I' L' R' T' → Run Y d rc rs pc lv (.int r :: rest) I' L' R' T' Q) : ∀ v I' L' R' T', rI P (.returned v) I' L' R' T' → Run Y d rc rs pc lv (v.toList ++ rest) I' L' R' T' Q := by
  rintro v I' L' R' T' ⟨r, h, hp⟩
  cases h
  exact k r I' L' R' T' hp
theorem kr_L {P : Int64 → M32 → M64 → MR → SH → Prop} {rest : List Value} (k : ∀ r I' L' R' T', P r I' L' R' T' → Run Y d rc rs pc lv (.long r :: rest) I' L' R' T' Q) : ∀ v I' L' R' T', rL P (.returned v) I' L' R' T' → Run Y d rc rs pc lv (v.toList ++ rest) I' L' R' T' Q := by
  rintro v I' L' R' T' ⟨r, h, hp⟩
  cases h
  exact k r I' L' R' T' hp
theorem kr_O {P : Option Nat → M32 → M64 → MR → SH → Prop} {rest : List Value} (k : ∀ r I' L' R' T', P r I' L' R' T' → Run Y d rc rs pc lv (va_rf r :: rest) I' L' R' T' Q) : ∀ v I' L' R' T', rO P (.returned v) I' L' R' T' → Run Y d rc rs pc lv (v.toList ++ rest) I' L' R' T' Q := by
  rintro v I' L' R' T' ⟨r, h, hp⟩
  cases h
  exact k r I' L' R' T' hp
theorem kr_V {P : M32 → M64 → MR → SH → Prop} {rest : List Value} (k : ∀ I' L' R' T', P I' L' R' T' → Run Y d rc rs pc lv rest I' L' R' T' Q) : ∀ v I' L' R' T', rV P (.returned v) I' L' R' T' → Run Y d rc rs pc lv (v.toList ++ rest) I' L' R' T' Q := by
  rintro v I' L' R' T' ⟨h, hp⟩
  cases h
  exact k I' L' R' T' hp
theorem kt_I {P : Int32 → M32 → M64 → MR → SH → Prop} {G : Nat → M32 → M64 → MR → SH → Prop} : ∀ x I' L' R' T', rI P (.threw x) I' L' R' T' → G x I' L' R' T' := by rintro x I' L' R' T' ⟨r, h, hp⟩; cases h
theorem kt_L {P : Int64 → M32 → M64 → MR → SH → Prop} {G : Nat → M32 → M64 → MR → SH → Prop} : ∀ x I' L' R' T', rL P (.threw x) I' L' R' T' → G x I' L' R' T' := by rintro x I' L' R' T' ⟨r, h, hp⟩; cases h
theorem kt_O {P : Option Nat → M32 → M64 → MR → SH → Prop} {G : Nat → M32 → M64 → MR → SH → Prop} : ∀ x I' L' R' T', rO P (.threw x) I' L' R' T' → G x I' L' R' T' := by rintro x I' L' R' T' ⟨r, h, hp⟩; cases h
theorem kt_V {P : M32 → M64 → MR → SH → Prop} {G : Nat → M32 → M64 → MR → SH → Prop} : ∀ x I' L' R' T', rV P (.threw x) I' L' R' T' → G x I' L' R' T' := by rintro x I' L' R' T' ⟨h, hp⟩; cases h
/-- Object.<init> -/
theorem q_objInit {idx a : Nat} (hd : decode Y.2.1 pc = .ok (.invokespecial idx, 3)) (ml : Cond.methodLink Y.1 idx objectInit ∈ lw_tbl) (h1 : Cond.instanceMethod objectInit ∈ lw_tbl) (h2 : Cond.code objectInit ⟨#[0xb1]⟩ 1 none ∈ lw_tbl) (hd1 : 1 ≤ d) (hw : (st.map fun v => v.category).sum ≤ 8)
    (kk : Run Y d rc rs (pc + 3) lv st I L R T Q) : Run Y d rc rs pc lv (.ref a :: st) I L R T Q := by
  intro p l e Rm s m args below meth c H locs cells slots X ls hC hR hL hl
  have hKT := hC.2.2.2.2.2.2.2.2.1
  have hrm1 := hC.2.2.2.2.2.2.2.2.2.2.1
  exact W.objInit hC.1 hC.2.1 hC.2.2.2.2.2.1 (hKT.use ml rfl) (hKT.use h1 rfl) (hKT.use h2 rfl) rfl (by show ls.size = _; rw [hl.1, hC.2.2.1]) rfl hd (by omega) (by show 2 * 0 + (st.map fun v => v.category).sum + 12 ≤ _; omega) (kk p l e Rm s m args below meth c H locs cells slots X ls hC hR hL hl)
end
section
variable {Y : MI} {d rc rs pc : Nat} {lv : List (Nat × Value)} {st : List Value} {I : M32} {L : M64} {R : MR} {T : SH} {Q : QT}
theorem Run.top {u v : Value} (h : u = v) (k : Run Y d rc rs pc lv (v :: st) I L R T Q) : Run Y d rc rs pc lv (u :: st) I L R T Q := h ▸ k
theorem j_alen {a t n : Nat} (hd : decode Y.2.1 pc = .ok (.arraylength, 1)) (ht : T.1 a = t + 64) (hn : T.2.1 a = n) (kk : Run Y d rc rs (pc + 1) lv (.int (cI (n : Int)) :: st) I L R T Q) : Run Y d rc rs pc lv (.ref a :: st) I L R T Q := by
  refine q_alen hd ht ?_
  rw [hn]
  have h : nI n = cI (n : Int) := by show Int32.ofNat n = Int32.ofInt n; rw [Int32.ofInt_eq_ofNat]
  rw [h]
  exact kk
theorem q_oload {i : Nat} {o : Option Nat} (hd : decode Y.2.1 pc = .ok (.aload i, 2)) (hi : lv.lookup i = some (va_rf o)) (k : Run Y d rc rs (pc + 2) lv (va_rf o :: st) I L R T Q) : Run Y d rc rs pc lv st I L R T Q := by
  cases o with
  | none => exact q_aloadN hd hi k
  | some a => exact q_aload hd hi k
theorem q_oload_n {n : Fin 4} {o : Option Nat} (hd : decode Y.2.1 pc = .ok (.aload_n n, 1)) (hi : lv.lookup (n : Nat) = some (va_rf o)) (k : Run Y d rc rs (pc + 1) lv (va_rf o :: st) I L R T Q) : Run Y d rc rs pc lv st I L R T Q := by
  cases o with
  | none => exact q_aload_nN hd hi k
  | some a => exact q_aload_n hd hi k
theorem q_ostore {i : Nat} {o : Option Nat} {lv' : List (Nat × Value)} (hd : decode Y.2.1 pc = .ok (.astore i, 2)) (hn : i < Y.2.2.1) (hv : lvS i (va_rf o) lv = lv') (k : Run Y d rc rs (pc + 2) lv' st I L R T Q) : Run Y d rc rs pc lv (va_rf o :: st) I L R T Q := by
  cases o with
  | none => exact q_astoreN hd hn hv k
  | some a => exact q_astore hd hn hv k
theorem q_ostore_n {n : Fin 4} {o : Option Nat} {lv' : List (Nat × Value)} (hd : decode Y.2.1 pc = .ok (.astore_n n, 1)) (hn : (n : Nat) < Y.2.2.1) (hv : lvS (n : Nat) (va_rf o) lv = lv') (k : Run Y d rc rs (pc + 1) lv' st I L R T Q) : Run Y d rc rs pc lv (va_rf o :: st) I L R T Q := by
  cases o with
  | none => exact q_astore_nN hd hn hv k
  | some a => exact q_astore_n hd hn hv k
end
section
variable {Y : MI} {d rc rs pc : Nat} {lv : List (Nat × Value)} {st : List Value} {I : M32} {L : M64} {R : MR} {T : SH} {Q : QT}
/-- callees that change nothing: what they answer is known -/
theorem kp_I {x : Int32} {rest : List Value} (k : Run Y d rc rs pc lv (.int x :: rest) I L R T Q) : ∀ v I' L' R' T', (rI fun r I' L' R' T' => r = x ∧ I' = I ∧ L' = L ∧ R' = R ∧ T' = T) (.returned v) I' L' R' T' → Run Y d rc rs pc lv (v.toList ++ rest) I' L' R' T' Q := by
  rintro v I' L' R' T' ⟨r, h, rfl, rfl, rfl, rfl, rfl⟩
  cases h
  exact k
theorem kp_L {x : Int64} {rest : List Value} (k : Run Y d rc rs pc lv (.long x :: rest) I L R T Q) : ∀ v I' L' R' T', (rL fun r I' L' R' T' => r = x ∧ I' = I ∧ L' = L ∧ R' = R ∧ T' = T) (.returned v) I' L' R' T' → Run Y d rc rs pc lv (v.toList ++ rest) I' L' R' T' Q := by
  rintro v I' L' R' T' ⟨r, h, rfl, rfl, rfl, rfl, rfl⟩
  cases h
  exact k
theorem kp_O {x : Option Nat} {rest : List Value} (k : Run Y d rc rs pc lv (va_rf x :: rest) I L R T Q) : ∀ v I' L' R' T', (rO fun r I' L' R' T' => r = x ∧ I' = I ∧ L' = L ∧ R' = R ∧ T' = T) (.returned v) I' L' R' T' → Run Y d rc rs pc lv (v.toList ++ rest) I' L' R' T' Q := by
  rintro v I' L' R' T' ⟨r, h, rfl, rfl, rfl, rfl, rfl⟩
  cases h
  exact k
/-- callees that change I alone -/
theorem kv_V {P : M32 → Prop} {rest : List Value} (k : ∀ I', P I' → Run Y d rc rs pc lv rest I' L R T Q) : ∀ v I' L' R' T', (rV fun I' L' R' T' => P I' ∧ L' = L ∧ R' = R ∧ T' = T) (.returned v) I' L' R' T' → Run Y d rc rs pc lv (v.toList ++ rest) I' L' R' T' Q := by
  rintro v I' L' R' T' ⟨h, hp, rfl, rfl, rfl⟩
  cases h
  exact k I' hp
theorem kv_I {P : Int32 → M32 → Prop} {rest : List Value} (k : ∀ r I', P r I' → Run Y d rc rs pc lv (.int r :: rest) I' L R T Q) : ∀ v I' L' R' T', (rI fun r I' L' R' T' => P r I' ∧ L' = L ∧ R' = R ∧ T' = T) (.returned v) I' L' R' T' → Run Y d rc rs pc lv (v.toList ++ rest) I' L' R' T' Q := by
  rintro v I' L' R' T' ⟨r, h, hp, rfl, rfl, rfl⟩
  cases h
  exact k r I' hp
theorem kv_O {P : Option Nat → M32 → Prop} {rest : List Value} (k : ∀ r I', P r I' → Run Y d rc rs pc lv (va_rf r :: rest) I' L R T Q) : ∀ v I' L' R' T', (rO fun r I' L' R' T' => P r I' ∧ L' = L ∧ R' = R ∧ T' = T) (.returned v) I' L' R' T' → Run Y d rc rs pc lv (v.toList ++ rest) I' L' R' T' Q := by
  rintro v I' L' R' T' ⟨r, h, hp, rfl, rfl, rfl⟩
  cases h
  exact k r I' hp
end
