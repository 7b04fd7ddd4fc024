/-! ===== 10: Thr, and the calls as rules for Run ===== -/
/-- an exception at x is under way at pc of the method -/
def Thr (Y : MI) (d rc rs pc : Nat) (lv : List (Nat × Value)) (x : Nat) (I : M32) (L : M64) (R : MR) (T : SH) (Q : QT) : Prop :=
  ∀ (p : Program) (l : Launch) (e : Env) (Rm : Room) (s : State) (m : MethodId) (args : Array Value) (below : List Frame) (meth : Method) (c : Code) (H : Heap) (locs : List Loc) (cells slots : Nat) (X : GX) (ls : Array Slot) (st : List Value),
    CtxX Y d (cells + rc) (slots + rs) p l Rm s m meth c X → Rel X s I L R T H → LocOk X s H locs → lv_has ls Y.2.2.1 lv →
    ∀ U : State, U.heap = H → Stand p l e Rm s m args below meth c U locs cells slots →
    ∃ t, Steps p.tables e below ((U.setTop (F0 m pc ls st)).pushFrame (.throwing x)) t ∧ MQX below (QcX X Q) args s (cells + rc) (slots + rs) (fun q => X.2.1 ≤ q) t
section
variable {Y : MI} {d rc rs pc : Nat} {lv : List (Nat × Value)} {st : List Value} {I : M32} {L : M64} {R : MR} {T : SH} {Q : QT}
theorem CtxX.magic {mc ms : Nat} {p : Program} {l : Launch} {e : Env} {Rm : Room} {s : State} {m : MethodId} {args : Array Value} {below : List Frame} {meth : Method} {c : Code} {U : State} {locs : List Loc} {cells slots : Nat} (X : Stand p l e Rm s m args below meth c U locs cells slots) : e.platform.magicAccessors = ({} : Platform).magicAccessors := by rw [X.admits.platform]
/-- what the machine knows of the exception's cell -/
theorem exc_cell {X : GX} {s : State} {H : Heap} {x ci : Nat} (hR : Rel X s I L R T H) (hK : va_K X.1 kc [] s) (hx : T.1 x = ci + 1) (hci : ci < 63) : ∃ cell : Cell, H[x]? = some cell ∧ (∀ k, cell.vm ≠ .statics k) ∧ ∀ (A : String) (F : u_T) (N : Nat), kc[ci]? = some (A, F, N) → ClassAt s A cell.cls := by
  obtain ⟨-, r, hr, cell, g1, g2, g3, -⟩ := hR.obj hx hci
  refine ⟨cell, g1, (by rw [g3]; exact fun k h => by cases h), fun A F N hk => ?_⟩
  rw [g2]
  exact (hK.1 ci _ hk).2
theorem thr_out {x ci : Nat} (hx : T.1 x = ci + 1) (hci : ci < 63) (hs : Seek Y.1 pc ci Y.2.2.2.2.2 none) (hq : Q (.threw x) I L R T) : Thr Y d rc rs pc lv x I L R T Q := by
  intro p l e Rm s m args below meth c H locs cells slots X ls st hC hR hL hl U hU S
  obtain ⟨cell, h1, h2, h3⟩ := exc_cell hR hC.2.2.2.2.2.2.2.2.2.1 hx hci
  have S := stand_widen S (Nat.le_add_right cells rc) (Nat.le_add_right slots rs)
  have hs' : Seek Y.1 pc ci (c.exceptionTable.toList.map (fun h => (h.startPc, h.endPc, h.handlerPc, h.catchType))) none := by rw [hC.2.2.2.2.2.2.2.1]; exact hs
  obtain ⟨vm', hW, hf⟩ := seek_finds (g := F0 m pc ls st) (a := x) rfl hC.2.2.2.2.2.1 rfl hC.2.2.2.2.2.2.2.2.1 h3 (CtxX.magic (mc := 0) (ms := 0) S) h2 c.exceptionTable.toList none ((U.setTop (F0 m pc ls st)).pushFrame (.throwing x)) (by rw [Stand.throwing_heap, hU]; exact h1) (by rw [Stand.throwing_vm]; exact S.warmed) hs'
  obtain ⟨k1, k2, k3, k4⟩ := leaveG S x (g := F0 m pc ls st) rfl rfl rfl hC.2.2.2.2.1 hW hf
  refine ⟨_, k1, .threw x, k2, k3, ⟨I, L, R, T, ?_, hq⟩, locs, k4, hL.2⟩
  show Rel X _ I L R T U.heap
  rw [hU]
  exact hR.moved hW.alike
theorem thr_in {x ci hp : Nat} (hx : T.1 x = ci + 1) (hci : ci < 63) (hs : Seek Y.1 pc ci Y.2.2.2.2.2 (some hp)) (k : Run Y d rc rs hp lv [.ref x] I L R T Q) : Thr Y d rc rs pc lv x I L R T Q := by
  intro p l e Rm s m args below meth c H locs cells slots X ls st hC hR hL hl U hU S
  obtain ⟨cell, h1, h2, h3⟩ := exc_cell hR hC.2.2.2.2.2.2.2.2.2.1 hx hci
  have hs' : Seek Y.1 pc ci (c.exceptionTable.toList.map (fun h => (h.startPc, h.endPc, h.handlerPc, h.catchType))) (some hp) := by rw [hC.2.2.2.2.2.2.2.1]; exact hs
  obtain ⟨vm', hW, hf⟩ := seek_finds (g := F0 m pc ls st) (a := x) rfl hC.2.2.2.2.2.1 rfl hC.2.2.2.2.2.2.2.2.1 h3 (CtxX.magic (mc := 0) (ms := 0) S) h2 c.exceptionTable.toList (some hp) ((U.setTop (F0 m pc ls st)).pushFrame (.throwing x)) (by rw [Stand.throwing_heap, hU]; exact h1) (by rw [Stand.throwing_vm]; exact S.warmed) hs'
  obtain ⟨t, a1, b1⟩ := k p l e Rm s m args below meth c H locs cells slots X ls hC hR hL hl (U.setVm vm') hU (S.noted hW)
  exact ⟨t, catchG S x (g := F0 m pc ls st) rfl hW hf a1, b1⟩
/-- a call, whatever its kind -/
theorem q_callG {Z : MI} {y : MethodName} {dd mc ms : Nat} {as rest : List Value} {Qc : QT} {ig : Instr} (hd : decode Y.2.1 pc = .ok (ig, 3)) (hcall : Call Z y dd mc ms as I L R T Qc) (hdd : dd + 1 ≤ d)
    (hw : codeW Z y ∈ lw_tbl) (hini : Cond.initialized y.cls ∈ lw_tbl) (hnL : Z.2.2.1 ≤ 37) (hst : (rest.map fun v => v.category).sum ≤ 16)
    (hlink : ∀ (p : Program) (l : Launch) (e : Env) (Rm : Room) (s : State) (m : MethodId) (args : Array Value) (below : List Frame) (meth : Method) (c : Code) (U : State) (locs : List Loc) (cells slots : Nat) (X : GX) (ls : Array Slot), CtxX Y d (cells + (rc + mc)) (slots + (rs + ms)) p l Rm s m meth c X → Rel X s I L R T U.heap →
      Stand p l e Rm s m args below meth c U locs cells slots → Links p l e Rm s m args below meth c U locs cells slots y (F0 m pc ls st) rest as)
    (kr : ∀ v I' L' R' T', Qc (.returned v) I' L' R' T' → Run Y d rc rs (pc + 3) lv (v.toList ++ rest) I' L' R' T' Q)
    (kt : ∀ x I' L' R' T', Qc (.threw x) I' L' R' T' → Thr Y d rc rs pc lv x I' L' R' T' Q) : Run Y d (rc + mc) (rs + ms) pc lv st I L R T Q := by
  intro p l e Rm s m args below meth c H locs cells slots X ls hC hR hL hl U hU S
  have hKT := hC.2.2.2.2.2.2.2.2.1
  have hrm1 := hC.2.2.2.2.2.2.2.2.2.2.1
  have hrm2 := hC.2.2.2.2.2.2.2.2.2.2.2.1
  obtain ⟨vm₁, mk, S1, hn, hstep⟩ := hlink p l e Rm s m args below meth c U locs cells slots X ls hC (by rw [hU]; exact hR) S
  have hKT1 : KT (U.setVm vm₁) := KT.warm S1.warmed hKT
  have hK1 : va_K X.1 kc [] (U.setVm vm₁) := va_K.moved S1.warmed.alike hC.2.2.2.2.2.2.2.2.2.1
  have hR1 : Rel X (U.setVm vm₁) I L R T (U.setVm vm₁).heap := by
    show Rel X (U.setVm vm₁) I L R T U.heap
    rw [hU]; exact hR.moved S1.warmed.alike
  have hkw : keepW (codeW Z y) = true := by
    obtain ⟨own, cc, nL, ret, nm, hh⟩ := Z
    cases hh <;> rfl
  obtain ⟨o, t, B, Ls, SB, hLs, hBh, hBv, hQ, hcomes⟩ := callX S1 (g := { F0 m pc ls st with stack := rest }) rfl (by show ls.size = _; rw [hl.1, hC.2.2.1]) (hdg := by rw [hC.2.1]; exact hd) (W0 := 16) (by show 2 * 0 + (rest.map fun v => v.category).sum ≤ _; omega) hn (hcall l X hC.2.2.2.2.2.2.2.2.2.2.2.2.1) (a := as.toArray)
    ⟨rfl, hR1.moved (Vm.Alike.refl _), hKT1.calling _ _ _, va_K.moved (Vm.Alike.refl _) hK1, State.WarmedH.trans hC.2.2.2.2.2.2.2.2.2.2.2.2.2 S1.warmed⟩ (hKT1.use hw hkw) (hKT1.use hini rfl) (by omega) (by omega) (by omega) (by omega)
  obtain ⟨I', L', R', T', hR', hQ'⟩ := hQ
  have hal : s.vm.Alike t.vm := by rw [← hBv]; exact SB.warmed.alike
  have hR2 : Rel X s I' L' R' T' B.heap := by rw [hBh]; exact hR'.moved hal.symm
  have hsz : s.heap.size ≤ B.heap.size := by
    exact SB.same.2.1
  have hL2 : LocOk X s B.heap (locs ++ Ls) := ⟨hsz, fun q hq => by
    rcases List.mem_append.mp hq with h | h
    · exact hL.2 q h
    · exact hLs q h⟩
  have e2 : cells + mc + rc = cells + (rc + mc) := by omega
  have e3 : slots + ms + rs = slots + (rs + ms) := by omega
  cases o with
  | returned v =>
    obtain ⟨t2, a1, b1⟩ := kr v I' L' R' T' hQ' p l e Rm s m args below meth c B.heap (locs ++ Ls) (cells + mc) (slots + ms) X ls (by rw [e2, e3]; exact hC) hR2 hL2 hl B rfl SB
    rw [e2, e3] at b1
    refine ⟨t2, hstep t2 fun acts => ?_, b1⟩
    rw [doInvoke_state]
    exact Steps.trans hcomes a1
  | threw x =>
    obtain ⟨t2, a1, b1⟩ := kt x I' L' R' T' hQ' p l e Rm s m args below meth c B.heap (locs ++ Ls) (cells + mc) (slots + ms) X ls rest (by rw [e2, e3]; exact hC) hR2 hL2 hl B rfl SB
    rw [e2, e3] at b1
    refine ⟨t2, hstep t2 fun acts => ?_, b1⟩
    rw [doInvoke_state]
    exact Steps.trans hcomes a1
end
