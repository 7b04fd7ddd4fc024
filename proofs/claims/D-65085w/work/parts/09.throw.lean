/-! ===== 09: throwing and catching ===== -/
theorem go_cold {E : CtlPost} {e : Env} {d : Bool} {acts : List Action} {s : State} {f : JFrame} {a : Addr} {Q : Handler → Pre} {x : ExceptionTableEntry} {t : List ExceptionTableEntry} {c : ClassId} {cell : Cell} {vm' : Vm} (hx : covers x f.pc = true) (h0 : x.catchType ≠ 0)
    (hg : (Jvm.resolveClass f.method.cls x.catchType).Gives e.toSetting s.vm (.ok c) vm') (hsz : vm'.classes.size ≤ s.vm.classes.size) (hcell : s.heap[a]? = some cell) (hobj : ∀ k, cell.vm ≠ .statics k)
    (hk : ∃ k, vm'.classes[cell.cls]? = some k) (hc : ∃ k, vm'.classes[c]? = some k) :
    wp (findHandler.go f a (x :: t)) Q E e d acts s ↔
      if vm'.assignable cell.cls c = true then Q (.found x.handlerPc) d acts (s.setVm vm') else wp (findHandler.go f a t) Q E e d acts (s.setVm vm') := by
  simp only [covers] at hx
  have hop := (hg.op rfl : (VmOp.resolveClass f.method.cls x.catchType).answer e s.vm = .ok c ∧ (VmOp.resolveClass f.method.cls x.catchType).tables e s.vm = vm')
  have hld := VmOp.lands_eq (e := e) hop.2 hsz
  cases hfit : vm'.assignable cell.cls c <;>
    simp [findHandler.go, hx, h0, hop, hld, hcell, hobj, hk, hc, hfit, VmOp.dirties, VmOp.acts]
/-- the search ends with h, the tables may have been noted -/
def FindsG (e : Env) (s : State) (f : JFrame) (a : Addr) (tb : List ExceptionTableEntry) (h : Handler) (vm' : Vm) : Prop :=
  ∀ (Q : Handler → Pre) (E : CtlPost) (d : Bool) (acts : List Action), wp (findHandler.go f a tb) Q E e d acts s ↔ Q h d acts (s.setVm vm')
/-- the handler list of a method, for an exception of class ci thrown at pc: who takes it -/
def Seek (own : String) (pc ci : Nat) : List (Nat × Nat × Nat × Nat) → Option Nat → Prop
  | [], r => r = none
  | h :: t, r => (¬ (h.1 ≤ pc ∧ pc < h.2.1) ∧ Seek own pc ci t r) ∨ ((h.1 ≤ pc ∧ pc < h.2.1) ∧ h.2.2.2 = 0 ∧ r = some h.2.2.1) ∨
      ((h.1 ≤ pc ∧ pc < h.2.1) ∧ h.2.2.2 ≠ 0 ∧ ∃ (A B : String) (F : u_T) (N : Nat), kc[ci]? = some (A, F, N) ∧ Cond.classLink own h.2.2.2 B ∈ lw_tbl ∧ ((Cond.castable A B ∈ lw_tbl ∧ r = some h.2.2.1) ∨ ((A, B) ∈ nocast ∧ Seek own pc ci t r)))
def hOf (r : Option Nat) : Handler := match r with
  | none => .none
  | some pc => .found pc
section
variable {p : Program} {l : Launch} {e : Env} {Rm : Room} {s : State} {m : MethodId} {args : Array Value} {below : List Frame} {meth : Method} {c : Code} {locs : List Loc} {cells slots : Nat}
theorem seek_finds {own : String} {pc ci : Nat} {a : Addr} {cell : Cell} {g : JFrame} (hpc : g.pc = pc) (hown : s.vm.findClass own = some m.cls) (hg : g.method = m) (hKT : KT s) (hcc : ∀ (A : String) (F : u_T) (N : Nat), kc[ci]? = some (A, F, N) → ClassAt s A cell.cls) (hpl : e.platform.magicAccessors = ({} : Platform).magicAccessors) (hobj : ∀ k, cell.vm ≠ .statics k) :
    ∀ (tb : List ExceptionTableEntry) (r : Option Nat) (U : State), U.heap[a]? = some cell → s.WarmedH U.vm → Seek own pc ci (tb.map (fun h => (h.startPc, h.endPc, h.handlerPc, h.catchType))) r → ∃ vm', s.WarmedH vm' ∧ FindsG e U g a tb (hOf r) vm' := by
  intro tb
  induction tb with
  | nil =>
    intro r U hcell hW h
    refine ⟨U.vm, hW, fun Q E d acts => ?_⟩
    rw [show r = none from h]
    exact W.findHandler_go_nil
  | cons x t ih =>
    intro r U hcell hW h
    rcases h with ⟨hn, h⟩ | ⟨hc, h0, hr⟩ | ⟨hc, h0, A, B, F, N, hk, hlink, h⟩
    · obtain ⟨vm', h1, h2⟩ := ih r U hcell hW h
      refine ⟨vm', h1, fun Q E d acts => ?_⟩
      rw [W.findHandler_go_skip (by rw [hpc]; simp only [covers]; simpa [Nat.not_le, Nat.not_lt] using hn)]
      exact h2 Q E d acts
    · refine ⟨U.vm, hW, fun Q E d acts => ?_⟩
      rw [W.findHandler_go_any (by rw [hpc]; simp only [covers]; simpa using hc) h0, hr]
      rfl
    · obtain ⟨hcA, kA, hkA, -⟩ := hcc A F N hk
      have hlk : (Cond.classLink own x.catchType B).before #[] s = true := hKT.use hlink rfl
      obtain ⟨cT, hcT, hcl⟩ := Cond.classLink_spec hown hlk e.platform hpl
      obtain ⟨dk, _, _, kt, hd, _, _, _, _, hkt, _, hopen⟩ := hcl.here
      have hcl₀ := hW.classLinks hcl
      have hW' : s.WarmedH (U.vm.noted m.cls x.catchType (.cls cT)) := hW.noted hd hopen (State.rightAt_cls hcl)
      obtain ⟨kt', hkt', -⟩ := hW'.alike.2.2 _ _ hkt
      obtain ⟨kA', hkA', -⟩ := hW'.alike.2.2 _ _ hkA
      have hcov : covers x g.pc = true := by rw [hpc]; simp only [covers]; simpa using hc
      have hgo := fun (Q : Handler → Pre) (E : CtlPost) (d : Bool) (acts : List Action) => go_cold (E := E) (e := e) (d := d) (acts := acts) (s := U) (f := g) (a := a) (Q := Q) (t := t) hcov h0 (by rw [hg]; exact resolveClass_links e.toSetting hcl₀) (by no_record) hcell hobj ⟨kA', hkA'⟩ ⟨kt', hkt'⟩
      rcases h with ⟨hcast, hr⟩ | ⟨hno, h⟩
      · obtain ⟨c1, t1, f1, f2, f3⟩ := Cond.castable_spec (hKT.use hcast rfl (a := #[]))
        cases hcA.symm.trans f1
        cases hcT.symm.trans f2
        refine ⟨_, hW', fun Q E d acts => ?_⟩
        rw [hgo Q E d acts, if_pos (by rw [hW'.alike.assignable]; exact f3), hr]
        rfl
      · have hno' : s.vm.assignable cell.cls cT = false := by
          have h9 := hKT.2.1 (A, B) hno
          simp only [Cond.before, Cond.holds, Cond.value, hcA, hcT] at h9
          cases hh : s.vm.assignable cell.cls cT
          · rfl
          · rw [hh] at h9; simp at h9
        obtain ⟨vm', h1, h2⟩ := ih r (U.setVm (U.vm.noted m.cls x.catchType (.cls cT))) hcell hW' h
        refine ⟨vm', h1, fun Q E d acts => ?_⟩
        rw [hgo Q E d acts, if_neg (by rw [hW'.alike.assignable, hno']; decide)]
        exact h2 Q E d acts
theorem step_catchG {U : State} {a : Addr} {f : JFrame} {r : List Frame} {pc : Nat} {vm' : Vm} (hm : U.vm.method? f.method = some meth) (hc : meth.code = some c) (hfind : FindsG e U f a c.exceptionTable.toList (.found pc) vm') :
    (stepThrowing e U a (.java f :: r)).Is ((U.setVm vm').setFrames (.java { f with pc := pc, stack := [.ref a] } :: r)) [] := by
  simp only [stepThrowing, searchFrame, vmDo]
  generalize hr : Sem.go _ e false [] U = res
  obtain ⟨as, rfl, ha⟩ := Sem.eq_ok_of hr (a := Handler.found pc) (s' := U.setVm vm') (acts' := []) (by simp [W.findHandler_eq hm hc, hfind _ _ _ _])
  exact ⟨rfl, ha⟩
theorem step_leaveG {U : State} {a : Addr} {f : JFrame} {r : List Frame} {vm' : Vm} (hm : U.vm.method? f.method = some meth) (hc : meth.code = some c) (hm' : vm'.method? f.method = some meth) (hl : meth.locks = false) (hlocked : f.locked = none) (hentered : f.entered = []) (hfind : FindsG e U f a c.exceptionTable.toList .none vm') :
    (stepThrowing e U a (.java f :: r)).Is ((U.setVm vm').setFrames (.throwing a :: r)) [] := by
  simp only [stepThrowing, searchFrame, vmDo]
  generalize hr : Sem.go _ e false [] U = res
  obtain ⟨as, rfl, ha⟩ := Sem.eq_ok_of hr (a := Handler.none) (s' := U.setVm vm') (acts' := [])
    (by cases hp : e.platform.frameOwnsMonitors <;> simp [W.findHandler_eq hm hc, hfind _ _ _ _, hm', hl, hlocked, hentered, hp, leaveIfLocked])
  exact ⟨rfl, ha⟩
/-- the exception is caught in the method: the walk goes on at the handler -/
theorem catchG {U : State} (X : Stand p l e Rm s m args below meth c U locs cells slots) (a : Addr) {g : JFrame} (hg : g.method = m) {pc : Nat} {vm' : Vm} (hW : s.WarmedH vm') (hfind : FindsG e ((U.setTop g).pushFrame (.throwing a)) g a c.exceptionTable.toList (.found pc) vm') {target : State}
    (hrest : Steps p.tables e below ((U.setVm vm').setTop { g with pc := pc, stack := [.ref a] }) target) : Steps p.tables e below ((U.setTop g).pushFrame (.throwing a)) target := by
  subst hg
  obtain ⟨hgo, hw⟩ := X.here.throwing a
  refine Steps.head hgo hw ?_
  rw [stepThread_throwing (frames_entered X.here.top _), (step_catchG (U := (U.setTop g).pushFrame (.throwing a)) (by rw [Stand.throwing_vm]; exact X.method') X.code hfind).1]
  obtain ⟨g₀, hg0⟩ := Option.isSome_iff_exists.mp X.here.top
  obtain ⟨r, hr⟩ := State.topJava?_eq_some.mp hg0
  have hr' : (U.setVm vm').frames = .java g₀ :: r := hr
  rw [State.setTop_of_frames _ hr'] at hrest
  have hcomm : ∀ (Z : State) (fs : List Frame), (Z.setFrames fs).setVm vm' = (Z.setVm vm').setFrames fs := fun _ _ => rfl
  rw [State.pushFrame, hcomm, State.setFrames_setFrames, State.setTop_of_frames _ hr, hcomm, State.setFrames_setFrames, hr]
  exact hrest
/-- the exception leaves the method -/
theorem leaveG {U : State} (X : Stand p l e Rm s m args below meth c U locs cells slots) (a : Addr) {g : JFrame} (hg : g.method = m) (hlocked : g.locked = none) (hentered : g.entered = []) (hl : meth.locks = false) {vm' : Vm} (hW : s.WarmedH vm') (hfind : FindsG e ((U.setTop g).pushFrame (.throwing a)) g a c.exceptionTable.toList .none vm') :
    Steps p.tables e below ((U.setTop g).pushFrame (.throwing a)) ((U.setVm vm').setFrames (.throwing a :: below)) ∧ ((U.setVm vm').setFrames (.throwing a :: below)).status = .running ∧ Ended ((U.setVm vm').setFrames (.throwing a :: below)) below (.threw a) ∧ FE s ((U.setVm vm').setFrames (.throwing a :: below)) locs cells slots := by
  subst hg
  have X' := X.noted hW
  obtain ⟨g₀, hfr⟩ := X'.frames_eq
  refine ⟨?_, X'.here.running, State.frames_setFrames _ (State.cur_lt_of_frames hfr), (X'.ends _).1, (X'.ends _).2⟩
  obtain ⟨hgo, hw⟩ := X.here.throwing a
  refine Steps.head hgo hw ?_
  rw [stepThread_throwing (frames_entered X.here.top _), (step_leaveG (U := (U.setTop g).pushFrame (.throwing a)) (by rw [Stand.throwing_vm]; exact X.method') X.code (show vm'.method? g.method = some meth from X'.method') hl hlocked hentered hfind).1]
  obtain ⟨g₁, hg1⟩ := Option.isSome_iff_exists.mp X.here.top
  obtain ⟨r, hr⟩ := State.topJava?_eq_some.mp hg1
  have hcomm : ∀ (Z : State) (fs : List Frame), (Z.setFrames fs).setVm vm' = (Z.setVm vm').setFrames fs := fun _ _ => rfl
  rw [State.pushFrame, hcomm, State.setFrames_setFrames, State.setTop_of_frames _ hr, hcomm, State.setFrames_setFrames, X.tail]
  exact Steps.refl _
end
