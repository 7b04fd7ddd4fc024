/-! ===== 08: calls, with both ends ===== -/
section
variable {p : Program} {l : Launch} {e : Env} {Rm : Room} {s : State} {m : MethodId} {args : Array Value} {below : List Frame} {meth : Method} {c : Code} {U : State} {locs : List Loc} {cells slots : Nat}
/-- where a call comes to: returned or thrown -/
def Comes2 (p : Program) (e : Env) (below : List Frame) (A B : State) (g : JFrame) (len : Nat) : Outcome → Prop
  | .returned v => Steps p.tables e below A (B.setTop { g with pc := g.pc + len, stack := v.toList ++ g.stack })
  | .threw x => Steps p.tables e below A ((B.setTop g).pushFrame (.throwing x))
theorem callX (X : Stand p l e Rm s m args below meth c U locs cells slots) {g : JFrame} (hg : g.method = m) (hsize : g.locals.size = c.maxLocals) {ig : Instr} {len : Nat} (hdg : decode c.code g.pc = .ok (ig, len))
    {W0 : Nat} (hW : 2 * g.monitorRoom + (g.stack.map fun v => v.category).sum ≤ W0) {y : MethodName} {mk : MethodId} (hn : U.methodNamed? y = some mk) {Z : MI} {dd mc ms : Nat} {Pc : Array Value → State → Prop} {Qc : Array Value → State → Outcome → State → Prop} {free : Addr → Prop} {a : Array Value}
    (hM : MetX l y [codeW Z y] (rmX dd mc ms) Pc Qc mc ms free) (hPc : Pc a (U.calling g mk a)) (hcode : (codeW Z y).before a U = true) (hini : (Cond.initialized y.cls).before a U = true)
    (hfr : dd + 1 ≤ Rm.frames) (hlo : W0 + (Z.2.2.1 + 11) + 64 * dd ≤ Rm.locals) (hce : cells + mc ≤ Rm.cells) (hsl : slots + ms ≤ Rm.slots) :
    ∃ (o : Outcome) (t B : State) (Ls : List Loc), Stand p l e Rm s m args below meth c B (locs ++ Ls) (cells + mc) (slots + ms) ∧ (∀ q ∈ Ls, free q.base) ∧ B.heap = t.heap ∧ B.vm = t.vm ∧ Qc a (U.calling g mk a) o t ∧ Comes2 p e below (doInvoke e (U.setTop g) [] mk a).1 B g len o := by
  obtain ⟨methY, cY, hmY, hcY, -, hlY, -, -, -, -⟩ := codeW_spec hn hcode
  obtain ⟨kY, hkY, -⟩ := className_of_methodNamed hn
  have hinitY : kY.init = .initialized := Cond.initialized_spec (findClass_of_methodNamed hn) hkY hini
  have h : At U g.method c below := by rw [hg]; exact X.here
  have happ : (headSpec [codeW Z y] (rmX dd mc ms)).appliesLoose y e.platform (U.calling g mk a) = true :=
    Spec.appliesLoose_calling (g := g) h hdg hn hkY hinitY
      (X.room_calling (g := g) (R' := rmX dd mc ms) hsize hmY hcY hfr (by rw [hlY]; show _ + 64 * dd ≤ _; omega) hce hsl) (atoms_intro fun w hw => by rw [List.mem_singleton.mp hw]; exact hcode)
  obtain ⟨mid, hmid⟩ := h.above
  have hfr2 : (U.setTop g).frames = (.java g :: mid) ++ below := by rw [State.frames_setTop' g h.top, hmid]; rfl
  obtain ⟨o, s₂, hsteps, -, hend, hq⟩ := Steps.callFree hM p X.admits X.cas X.clock (acts := []) hfr2 happ hPc trivial
  have hq' : Qc a (U.calling g mk a) o s₂ ∧ ∃ L, FE (U.calling g mk a) s₂ L mc ms ∧ ∀ q ∈ L, free q.base := hq
  obtain ⟨hqc, Ls, ⟨hW₂, hsame₀⟩, hLf⟩ := hq'
  rw [State.frames_setTop' g h.top] at hend
  cases o with
  | returned v =>
    obtain ⟨e2, q2, q3, q4, q5, q6⟩ := hsame₀
    have e3 : s₂ = ({ (U.calling g mk a).setFrames s₂.frames with heap := s₂.heap, slotsUsed := s₂.slotsUsed } : State).setVm s₂.vm := by
      have : s₂ = ({ s₂ with vm := (U.calling g mk a).vm } : State).setVm s₂.vm := rfl
      rw [e2] at this
      exact this
    obtain ⟨c₂, i₂, len₂, hc₂, hd₂, hf₂⟩ := hend
    have hW' : U.WarmedH s₂.vm := hW₂
    have hcc : c₂ = c := by
      have h1 : s₂.code? g.method = U.code? g.method := by
        rw [State.code?_eq, State.code?_eq, hW'.alike.method?]
      exact Option.some.inj (hc₂.symm.trans (h1.trans h.code))
    subst hcc
    have hlen : len₂ = len := by rw [hdg] at hd₂; cases hd₂; rfl
    subst hlen
    obtain ⟨g₀, hg0⟩ := Option.isSome_iff_exists.mp h.top
    obtain ⟨r, hr⟩ := State.topJava?_eq_some.mp hg0
    have hs₂ : s₂ = (({ U with heap := s₂.heap, slotsUsed := s₂.slotsUsed } : State).setVm s₂.vm).setTop { g with pc := g.pc + len₂, stack := v.toList ++ g.stack } := by
      have hr' : (({ U with heap := s₂.heap, slotsUsed := s₂.slotsUsed } : State).setVm s₂.vm).frames = .java g₀ :: r := hr
      refine e3.trans ?_
      rw [hf₂, State.calling_eq h.top, State.setFrames_setFrames, State.setTop_of_frames _ hr', hr]
      rfl
    have hsame : U.sameButNew ({ U with heap := s₂.heap, slotsUsed := s₂.slotsUsed } : State) Ls mc ms := by
      refine ⟨?_, q2, q3, q4, q5, q6⟩
      obtain ⟨t, ht, -⟩ := State.frames_cons hr
      show ({ U with heap := s₂.heap, slotsUsed := s₂.slotsUsed } : State) = { U.setFrames U.frames with heap := s₂.heap, slotsUsed := s₂.slotsUsed }
      rw [State.setFrames_self ht]
    subst hg
    refine ⟨.returned v, s₂, (({ U with heap := s₂.heap, slotsUsed := s₂.slotsUsed } : State).setVm s₂.vm), Ls,
      ⟨X.admits, X.cas, X.clock, X.frames, X.room, X.hears, X.method, X.code, (X.here.setHeapUsed s₂.heap s₂.slotsUsed).setVm hW'.alike, X.tail, State.WarmedH.trans X.warmed hW', X.limits, X.bytes, X.same.trans (hsame.setVm s.vm)⟩,
      hLf, rfl, rfl, hqc, ?_⟩
    show Steps p.tables e below _ ((({ U with heap := s₂.heap, slotsUsed := s₂.slotsUsed } : State).setVm s₂.vm).setTop { g with pc := g.pc + len₂, stack := v.toList ++ g.stack })
    rw [← hs₂]
    exact hsteps
  | threw x =>
    obtain ⟨B, XB, hWB, hsB, ht⟩ := X.outOfThrown hg (hend := by rw [X.tail] at hend; exact hend) hW₂ hsame₀
    have hh : B.heap = s₂.heap := by rw [ht, Stand.throwing_heap]
    have hv : B.vm = s₂.vm := by rw [ht, Stand.throwing_vm]
    refine ⟨.threw x, s₂, B, Ls, XB, hLf, hh, hv, hqc, ?_⟩
    show Steps p.tables e below _ _
    rw [← ht]
    exact hsteps
/-- the step up to a callee's entry: the pool entry is noted, the arguments are off the stack -/
def Links (p : Program) (l : Launch) (e : Env) (Rm : Room) (s : State) (m : MethodId) (args : Array Value) (below : List Frame) (meth : Method) (c : Code) (U : State) (locs : List Loc) (cells slots : Nat) (y : MethodName) (g : JFrame) (rest as : List Value) : Prop :=
  ∃ (vm₁ : Vm) (mk : MethodId), Stand p l e Rm s m args below meth c (U.setVm vm₁) locs cells slots ∧ (U.setVm vm₁).methodNamed? y = some mk ∧
    ∀ target, (∀ acts, Steps p.tables e below (doInvoke e ((U.setVm vm₁).setTop { g with stack := rest }) acts mk as.toArray).1 target) → Steps p.tables e below (U.setTop g) target
theorem linkV (X : Stand p l e Rm s m args below meth c U locs cells slots) (hexec : p.tables.exec = Jvm.exec) {own C : String} {index : Nat} {y : MethodName} {Z : MI}
    (hown : s.vm.findClass own = some m.cls) (hlink : (Cond.methodLink own index y).before args s = true ∨ ∃ host, (Cond.methodLinkNest own index y host).before args s = true) (hinst : (Cond.instanceMethod y).before args s = true) (hsel : (Cond.selects C y y).before args s = true)
    (hcode : (codeW Z y).before args s = true) (hy : y.cls ≠ "java/lang/invoke/MethodHandle" ∧ y.cls ≠ "java/lang/invoke/VarHandle")
    {b : Addr} {cellB : Cell} (hcell : U.heap[b]? = some cellB) (hobj : cellB.vm.isStatics = false) (hcls : s.vm.findClass C = some cellB.cls)
    {g : JFrame} (hg : g.method = m) {argsL rest : List Value} (hlen : ∀ sig, parseMethodDescriptor y.desc = some sig → argsL.length = sig.parameters.length)
    (hstack : g.stack = argsL.reverse ++ .ref b :: rest) (hdg : decode c.code g.pc = .ok (.invokevirtual index, 3)) : Links p l e Rm s m args below meth c U locs cells slots y g rest (.ref b :: argsL) := by
  obtain ⟨mk, methM, hnamed, hmethM, hstM, habM⟩ := Cond.instanceMethod_spec hinst
  obtain ⟨methM', cM, hmethM', -, -, -, -, -, -, hsigM⟩ := codeW_spec hnamed hcode
  cases hmethM.symm.trans hmethM'
  obtain ⟨c2, r2, m2, q1, q2, q3, q4, kP, hkP, hkPi⟩ := Cond.selects_spec hsel
  cases hcls.symm.trans q1
  cases (State.methodFound?_of_named hnamed hy).symm.trans q2
  cases hnamed.symm.trans q3
  have hselP : selectMethod e.platform s.vm cellB.cls mk = .method mk := by rw [Launch.admits_selectMethod X.admits]; exact q4
  rcases hlink with hlink | ⟨host, hlink⟩
  · obtain ⟨vm₁, X₁, hstep₁⟩ := X.invokevirtual hexec hown hlink hnamed hmethM hstM hkP hkPi hy (a := b) (cell := cellB) hcell
      (fun z h => by rw [h] at hobj; cases hobj) hselP hmethM habM hkP hkPi (g := g) hg (argsL := argsL) (rest := rest) (hlen _ hsigM) hstack hdg
    exact ⟨vm₁, mk, X₁, X₁.named hnamed, hstep₁⟩
  · obtain ⟨vm₁, X₁, hstep₁⟩ := X.invokevirtualNest hexec hown hlink hnamed hmethM hstM hkP hkPi hy (a := b) (cell := cellB) hcell
      (fun z h => by rw [h] at hobj; cases hobj) hselP hmethM habM hkP hkPi (g := g) hg (argsL := argsL) (rest := rest) (hlen _ hsigM) hstack hdg
    exact ⟨vm₁, mk, X₁, X₁.named hnamed, hstep₁⟩
theorem codeW_named {Z : MI} {y : MethodName} {U : State} {a : Array Value} (h : (codeW Z y).before a U = true) : ∃ mk, U.methodNamed? y = some mk := by
  obtain ⟨own, cc, nL, ret, nm, hh⟩ := Z
  cases hh with
  | nil => exact Cond.code_named (show (Cond.code y cc nL ret).before a U = true from h)
  | cons x xs =>
    obtain ⟨m9, -, -, hn9, -⟩ := Cond.codeWith_spec (show (Cond.codeWith y cc nL ret (x :: xs)).before a U = true from h)
    exact ⟨m9, hn9⟩
theorem linkS (X : Stand p l e Rm s m args below meth c U locs cells slots) (hexec : p.tables.exec = Jvm.exec) {own : String} {index : Nat} {y : MethodName} {Z : MI}
    (hown : s.vm.findClass own = some m.cls) (hlink : (Cond.methodLink own index y).before args s = true ∨ ∃ host, (Cond.methodLinkNest own index y host).before args s = true) (hstat : (Cond.static y).before args s = true) (hinit : (Cond.initialized y.cls).before args s = true)
    (hcode : (codeW Z y).before args s = true) (hy : y.cls ≠ "java/lang/invoke/MethodHandle" ∧ y.cls ≠ "java/lang/invoke/VarHandle")
    {g : JFrame} (hg : g.method = m) {argsL rest : List Value} (hlen : ∀ sig, parseMethodDescriptor y.desc = some sig → argsL.length = sig.parameters.length)
    (hstack : g.stack = argsL.reverse ++ rest) (hdg : decode c.code g.pc = .ok (.invokestatic index, 3)) : Links p l e Rm s m args below meth c U locs cells slots y g rest argsL := by
  obtain ⟨mk, hnamed⟩ := codeW_named hcode
  obtain ⟨methM, cM, hmethM, -, -, -, -, -, -, hsigM⟩ := codeW_spec hnamed hcode
  have hstatic : methM.isStatic = true := Cond.static_spec hnamed hmethM hstat
  obtain ⟨kP, hkP, -⟩ := className_of_methodNamed hnamed
  have hinitP : kP.init = .initialized := Cond.initialized_spec (findClass_of_methodNamed hnamed) hkP hinit
  rcases hlink with hlink | ⟨host, hlink⟩
  · obtain ⟨vm₁, X₁, hstep₁⟩ := X.invokestatic hexec hown hlink hnamed hmethM hstatic hkP hinitP hy (g := g) hg (argsL := argsL) (rest := rest) (hlen _ hsigM) hstack hdg
    exact ⟨vm₁, mk, X₁, X₁.named hnamed, hstep₁⟩
  · obtain ⟨vm₁, X₁, hstep₁⟩ := X.invokestaticNest hexec hown hlink hnamed hmethM hstatic hkP hinitP hy (g := g) hg (argsL := argsL) (rest := rest) (hlen _ hsigM) hstack hdg
    exact ⟨vm₁, mk, X₁, X₁.named hnamed, hstep₁⟩
theorem linkI (X : Stand p l e Rm s m args below meth c U locs cells slots) (hexec : p.tables.exec = Jvm.exec) {own : String} {index : Nat} {y : MethodName} {bytes : ByteArray} {maxL : Nat}
    (hown : s.vm.findClass own = some m.cls) (hy1 : y.name = "<init>") (hlink : (Cond.methodLink own index y).before args s = true ∨ ∃ host, (Cond.methodLinkNest own index y host).before args s = true) (hinst : (Cond.instanceMethod y).before args s = true)
    (hcode : (Cond.code y bytes maxL none).before args s = true) (hy : y.cls ≠ "java/lang/invoke/MethodHandle" ∧ y.cls ≠ "java/lang/invoke/VarHandle")
    {g : JFrame} (hg : g.method = m) {a : Addr} {argsL rest : List Value} (hlen : ∀ sig, parseMethodDescriptor y.desc = some sig → argsL.length = sig.parameters.length)
    (hstack : g.stack = argsL.reverse ++ .ref a :: rest) (hdg : decode c.code g.pc = .ok (.invokespecial index, 3)) : Links p l e Rm s m args below meth c U locs cells slots y g rest (.ref a :: argsL) := by
  subst hg
  have hpl : e.platform.magicAccessors = ({} : Platform).magicAccessors := by rw [X.admits.platform]
  rcases hlink with hlink | ⟨host, hlink⟩
  · obtain ⟨mk, methM, cM, kP, vm₁, hnamed, hmethM, hcodeM, -, hlocalsM, -, hkP, -, hW₁, hstep₁⟩ := Steps.initColdArgs (e := e) X.here hexec X.warmed hpl hown hy1 hy hlink hinst hcode (f := g) rfl hlen hstack hdg
    have X₁ := X.noted hW₁
    exact ⟨vm₁, mk, X₁, X₁.named hnamed, hstep₁⟩
  · obtain ⟨mk, methM, cM, kP, vm₁, hnamed, hmethM, hcodeM, -, hlocalsM, -, hkP, -, hW₁, hstep₁⟩ := Steps.initColdArgsNest (e := e) X.here hexec X.warmed hpl hown hy1 hy hlink hinst hcode (f := g) rfl hlen hstack hdg
    have X₁ := X.noted hW₁
    exact ⟨vm₁, mk, X₁, X₁.named hnamed, hstep₁⟩
end
