/-! ===== 03 BASE: the abstract heap, Run and Call ===== -/
abbrev M32 : Type := Nat → Nat → Int32
abbrev M64 : Type := Nat → Nat → Int64
abbrev MR : Type := Nat → Nat → Option Nat
/-- shape: class tag of an address (0: not ours; 1 + class; 64 + array type), length of an array, next address -/
abbrev SH : Type := (Nat → Nat) × (Nat → Nat) × Nat
abbrev QT : Type := Outcome → M32 → M64 → MR → SH → Prop
/-- a method: own class, bytes, locals, result, name, handlers -/
abbrev MI : Type := String × ByteArray × Nat × Option FieldType × String × List (Nat × Nat × Nat × Nat)
/-- what a proof fixes of the machine: class numbers and slots, the base address, the state at the law's start -/
abbrev GX : Type := va_G × Nat × State
def up2 {α : Type} (f : Nat → Nat → α) (a k : Nat) (v : α) : Nat → Nat → α := fun a' k' => if a' = a ∧ k' = k then v else f a' k'
theorem up2_s {α : Type} (f : Nat → Nat → α) (a k : Nat) (v : α) : up2 f a k v a k = v := if_pos ⟨rfl, rfl⟩
theorem up2_a {α : Type} (f : Nat → Nat → α) {a k a' : Nat} (k' : Nat) (v : α) (h : a' ≠ a) : up2 f a k v a' k' = f a' k' := if_neg fun q => h q.1
theorem up2_k {α : Type} (f : Nat → Nat → α) {a k k' : Nat} (a' : Nat) (v : α) (h : k' ≠ k) : up2 f a k v a' k' = f a' k' := if_neg fun q => h q.2
def vO (ci : Nat) (I : M32) (L : M64) (R : MR) (a k : Nat) : Value := match kf ci k with
  | 0 => .int (I a k)
  | 1 => .long (L a k)
  | _ => va_rf (R a k)
def aty : Nat → FieldType := fun t => match t with
  | 0 => .int
  | 1 => .long
  | 2 => .byte
  | 3 => .boolean
  | 4 => .object "java/lang/Object"
  | 5 => .object R_Contract
  | 6 => .object R_Big
  | 7 => .object R_Instance
  | 8 => .object R_State
  | _ => .int
def ak : Nat → Nat := fun t => match t with
  | 0 => 0
  | 1 => 1
  | 2 => 0
  | 3 => 0
  | _ => 2
def vA (t : Nat) (I : M32) (L : M64) (R : MR) (a j : Nat) : Value := match ak t with
  | 0 => .int (I a j)
  | 1 => .long (L a j)
  | _ => va_rf (R a j)
/-- arrays that nobody of ours writes: 84 the script, 85 a String's bytes, 86 ArrayList's empty array -/
def roty : Nat → FieldType := fun t => match t with
  | 84 => .int
  | 85 => .byte
  | _ => .object "java/lang/Object"
def vR (t : Nat) (I : M32) (R : MR) (a j : Nat) : Value := match t with
  | 84 => .int (I a j)
  | 85 => .int (I a j)
  | _ => va_rf (R a j)
def CellOk (D : va_G) (U : State) (I : M32) (L : M64) (R : MR) (tag len a : Nat) (H : Heap) : Prop :=
  (tag < 64 ∧ ∃ r, kc[tag - 1]? = some r ∧ t_OB a (D.1 (tag - 1)) r.2.2 (D.2 (tag - 1)) H (vO (tag - 1) I L R a)) ∨
  (64 ≤ tag ∧ tag < 80 ∧ ∃ cA, ArrOfT U cA (aty (tag - 64)) ∧ va_RA U cA (aty (tag - 64)) ∧ H[a]? = some (arrV cA len (vA (tag - 64) I L R a))) ∨
  (80 ≤ tag ∧ va_T (roty tag) a len (vR tag I R a) (fun _ => False) U H)
theorem CellOk.lt {D : va_G} {U : State} {I : M32} {L : M64} {R : MR} {tag len a : Nat} {H : Heap} (h : CellOk D U I L R tag len a H) : a < H.size := by
  rcases h with ⟨-, r, -, cell, h, -⟩ | ⟨-, -, cA, -, -, h⟩ | ⟨-, cell, h, -⟩
  · exact (Array.getElem?_eq_some_iff.mp h).1
  · exact (Array.getElem?_eq_some_iff.mp h).1
  · exact (Array.getElem?_eq_some_iff.mp h).1
theorem vO_congr {ci : Nat} {I I' : M32} {L L' : M64} {R R' : MR} {a : Nat} (h1 : ∀ k, I' a k = I a k) (h2 : ∀ k, L' a k = L a k) (h3 : ∀ k, R' a k = R a k) : vO ci I' L' R' a = vO ci I L R a := by
  funext k
  simp only [vO, h1, h2, h3]
theorem vA_congr {t : Nat} {I I' : M32} {L L' : M64} {R R' : MR} {a : Nat} (h1 : ∀ k, I' a k = I a k) (h2 : ∀ k, L' a k = L a k) (h3 : ∀ k, R' a k = R a k) : vA t I' L' R' a = vA t I L R a := by
  funext k
  simp only [vA, h1, h2, h3]
theorem vR_congr {t : Nat} {I I' : M32} {R R' : MR} {a : Nat} (h1 : ∀ k, I' a k = I a k) (h3 : ∀ k, R' a k = R a k) : vR t I' R' a = vR t I R a := by
  funext k
  simp only [vR, h1, h3]
/-- a cell that isn't written, neither in the machine nor in the picture -/
theorem CellOk.kept {D : va_G} {U : State} {I I' : M32} {L L' : M64} {R R' : MR} {tag len a : Nat} {H H1 : Heap} (h : CellOk D U I L R tag len a H) (hq : H1[a]? = H[a]?) (h1 : ∀ k, I' a k = I a k) (h2 : ∀ k, L' a k = L a k) (h3 : ∀ k, R' a k = R a k) : CellOk D U I' L' R' tag len a H1 := by
  rcases h with ⟨ht, r, hr, h⟩ | ⟨ht, ht2, cA, ha, hb, h⟩ | ⟨ht, cell, g1, g2⟩
  · refine Or.inl ⟨ht, r, hr, ?_⟩
    rw [vO_congr h1 h2 h3]
    exact h.kept hq
  · refine Or.inr (Or.inl ⟨ht, ht2, cA, ha, hb, ?_⟩)
    rw [vA_congr h1 h2 h3, hq]
    exact h
  · refine Or.inr (Or.inr ⟨ht, ?_⟩)
    rw [vR_congr h1 h3]
    exact ⟨cell, by rw [hq]; exact g1, g2⟩
theorem CellOk.moved {D : va_G} {u U : State} {I : M32} {L : M64} {R : MR} {tag len a : Nat} {H : Heap} (hvm : u.vm.Alike U.vm) (h : CellOk D u I L R tag len a H) : CellOk D U I L R tag len a H := by
  rcases h with h | ⟨ht, ht2, cA, ha, hb, h⟩ | ⟨ht, h⟩
  · exact Or.inl h
  · exact Or.inr (Or.inl ⟨ht, ht2, cA, arrOfT_moved hvm ha, hb.moved hvm, h⟩)
  · exact Or.inr (Or.inr ⟨ht, va_T.moved hvm h⟩)
/-- statics of the JDK that are references: class, name, descriptor, place in R 0 -/
def xst : List (String × String × String × Nat) := [("java/lang/Throwable", "UNASSIGNED_STACK", "[Ljava/lang/StackTraceElement;", 0), ("java/lang/Throwable", "SUPPRESSED_SENTINEL", "Ljava/util/List;", 1), ("java/util/ArrayList", "DEFAULTCAPACITY_EMPTY_ELEMENTDATA", "[Ljava/lang/Object;", 2), ("jdk/internal/util/Preconditions", "SIOOBE_FORMATTER", "Ljava/util/function/BiFunction;", 3)]
def xwd : List Cond := [.laysStatic "java/lang/Throwable" "UNASSIGNED_STACK" "[Ljava/lang/StackTraceElement;", .laysStatic "java/lang/Throwable" "SUPPRESSED_SENTINEL" "Ljava/util/List;", .isRef (.static "java/lang/Throwable" "UNASSIGNED_STACK" "[Ljava/lang/StackTraceElement;"), .isRef (.static "java/lang/Throwable" "SUPPRESSED_SENTINEL" "Ljava/util/List;")]
abbrev TXT_WORDS : String := "close pay to into if when case deposit choice notify let assert held neg add sub mul div chosen start end use cond and or not chose ge gt le lt eq true false "
/-- String constants: class, pool entry, text -/
def xsc : List (String × Nat × String) := [(R_Keywords, 15, TXT_WORDS), (R_Nodes, 231, "["), (R_Nodes, 237, "]"), (R_Search, 214, "wait"), (R_Search, 225, "at")]
/-- what is known of the state Z at the law's start; g tells the addresses: 0..3 the statics of xst, 4 the class object of Object[], 10 + i a String constant, 20 + i its bytes -/
def ExtZ (b : Nat) (Z : State) (g : Nat → Option Nat) : Prop :=
  b = Z.heap.size ∧ 0 < b ∧ (∀ w ∈ xwd, w.before #[] Z = true) ∧ (∀ q ∈ xst, va_Z q.1 q.2.1 q.2.2.1 (va_rf (g q.2.2.2)) (fun a => b ≤ a) Z Z.heap) ∧ va_Z "java/lang/String" "COMPACT_STRINGS" "Z" (.int 1) (fun a => b ≤ a) Z Z.heap ∧
  (∃ mi, g 4 = some mi ∧ va_Mi "[Ljava/lang/Object;" mi Z) ∧
  ∀ i r, xsc[i]? = some r → ∃ a, g (10 + i) = some a ∧ vk_R r.1 r.2.1 r.2.2 a Z ∧ va_O "java/lang/String" a (fun a => b ≤ a) Z Z.heap ∧ va_OF "java/lang/String" "coder" "B" (.int 0) a (fun a => b ≤ a) Z Z.heap ∧ va_OF "java/lang/String" "value" "[B" (va_rf (g (20 + i))) a (fun a => b ≤ a) Z Z.heap
/-- the machine's heap H holds the picture (I, L, R, T); below the base it is as at the law's start -/
def Rel (X : GX) (U : State) (I : M32) (L : M64) (R : MR) (T : SH) (H : Heap) : Prop :=
  T.2.2 = H.size ∧ X.2.1 ≤ H.size ∧ (∀ q : Nat, q < X.2.1 → H[q]? = X.2.2.heap[q]?) ∧ (∀ a : Nat, T.1 a ≠ 0 → (80 ≤ T.1 a ∨ X.2.1 ≤ a) ∧ CellOk X.1 U I L R (T.1 a) (T.2.1 a) a H) ∧ ExtZ X.2.1 X.2.2 (R 0)
theorem Rel.moved {X : GX} {u U : State} {I : M32} {L : M64} {R : MR} {T : SH} {H : Heap} (hvm : u.vm.Alike U.vm) (h : Rel X u I L R T H) : Rel X U I L R T H :=
  ⟨h.1, h.2.1, h.2.2.1, fun a ha => ⟨(h.2.2.2.1 a ha).1, (h.2.2.2.1 a ha).2.moved hvm⟩, h.2.2.2.2⟩
/-- one cell of ours is written -/
theorem Rel.set {X : GX} {U : State} {I I' : M32} {L L' : M64} {R R' : MR} {T : SH} {H H1 : Heap} {a : Nat} (h : Rel X U I L R T H) (hb : X.2.1 ≤ a) (hz : H1.size = H.size) (hq : ∀ q : Nat, q ≠ a → H1[q]? = H[q]?)
    (h1 : ∀ q k, q ≠ a → I' q k = I q k) (h2 : ∀ q k, q ≠ a → L' q k = L q k) (h3 : ∀ q k, q ≠ a → R' q k = R q k) (hc : CellOk X.1 U I' L' R' (T.1 a) (T.2.1 a) a H1) : Rel X U I' L' R' T H1 := by
  obtain ⟨e1, e2, e3, e4, e5⟩ := h
  have h0 := e5.2.1
  refine ⟨by rw [hz]; exact e1, by rw [hz]; exact e2, fun q hq2 => ?_, fun q hq2 => ?_, by rw [show R' 0 = R 0 from funext fun k => h3 0 k (by omega)]; exact e5⟩
  · rw [hq q (by omega)]; exact e3 q hq2
  · by_cases e : q = a
    · subst e; exact ⟨Or.inr hb, hc⟩
    · exact ⟨(e4 q hq2).1, (e4 q hq2).2.kept (hq q e) (fun k => h1 q k e) (fun k => h2 q k e) (fun k => h3 q k e)⟩
/-- a cell is made -/
theorem Rel.push {X : GX} {U : State} {I I' : M32} {L L' : M64} {R R' : MR} {T T' : SH} {H H1 : Heap} (h : Rel X U I L R T H) (hz : H1.size = H.size + 1) (hq : ∀ q : Nat, q < H.size → H1[q]? = H[q]?)
    (h1 : ∀ q k, q ≠ H.size → I' q k = I q k) (h2 : ∀ q k, q ≠ H.size → L' q k = L q k) (h3 : ∀ q k, q ≠ H.size → R' q k = R q k)
    (hT1 : ∀ q, q ≠ H.size → T'.1 q = T.1 q) (hT2 : ∀ q, q ≠ H.size → T'.2.1 q = T.2.1 q) (hT3 : T'.2.2 = T.2.2 + 1) (hc : T'.1 H.size ≠ 0 → CellOk X.1 U I' L' R' (T'.1 H.size) (T'.2.1 H.size) H.size H1) : Rel X U I' L' R' T' H1 := by
  obtain ⟨e1, e2, e3, e4, e5⟩ := h
  have h0 := e5.2.1
  refine ⟨by rw [hT3, hz, e1], by omega, fun q hq2 => ?_, fun q hq2 => ?_, by rw [show R' 0 = R 0 from funext fun k => h3 0 k (by omega)]; exact e5⟩
  · rw [hq q (by omega)]; exact e3 q hq2
  · by_cases e : q = H.size
    · subst e; exact ⟨Or.inr e2, hc hq2⟩
    · rw [hT1 q e] at hq2 ⊢
      rw [hT2 q e]
      exact ⟨(e4 q hq2).1, (e4 q hq2).2.kept (hq q (e4 q hq2).2.lt) (fun k => h1 q k e) (fun k => h2 q k e) (fun k => h3 q k e)⟩
/-! the tables' words -/
def keepW (w : Cond) : Bool := match w with
  | .interfaceMethod .. | .unhidden .. => false
  | .arrayClass _ => true
  | w => w.onTables
theorem keepW_one {w : Cond} (hw : keepW w = true) {s U : State} (hW : s.WarmedH U.vm) {a a' : Array Value} (h : w.before a s = true) : w.before a' U = true := by
  cases w <;> first
    | exact word_at hW (Or.inl rfl) h
    | exact word_at hW (Or.inr ⟨_, rfl⟩) h
    | exact va_Nw.use rfl (va_Nw.warmF hW (va_Nw.of rfl h))
    | exact va_Nw.use rfl (va_Nw.warmM hW (va_Nw.of rfl h))
    | exact va_Nw.use rfl (va_Nw.warmD hW (va_Nw.of rfl h))
    | exact va_Nw.use rfl (va_Nw.warmC hW (va_Nw.of rfl h))
    | exact va_tabs rfl (rfl : (s.setVm U.vm).vm = U.vm) (by rw [Cond.privateMethod_setVm hW.alike]; exact h)
    | exact va_tabs rfl (rfl : (s.setVm U.vm).vm = U.vm) (by rw [Cond.publicMethod_setVm hW.alike]; exact h)
    | (simp [keepW, Cond.onTables] at hw)
/-- pairs of which the Statement says that the one isn't the other -/
def nocast : List (String × String) := [(R_ISE, R_IAE), (R_ISE, R_IOOBE), (R_IAE, R_ISE), (R_IAE, R_IOOBE), (R_IOOBE, R_ISE), (R_IOOBE, R_IAE)]
def KT (U : State) : Prop := (∀ w ∈ lw_tbl, keepW w = true → w.before #[] U = true) ∧ (∀ q ∈ nocast, (Cond.not (.castable q.1 q.2)).before #[] U = true) ∧ va_AO "java/lang/Object" U ∧ va_AO R_Contract U ∧ va_AO R_Big U ∧ va_AO R_Instance U ∧ va_AO R_State U
theorem nocast_warm {s U : State} (hW : s.WarmedH U.vm) {a b : String} (h : (Cond.not (.castable a b)).before #[] s = true) : (Cond.not (.castable a b)).before #[] U = true := by
  have h1 := Cond.castAtom_setVm (args := #[]) hW.alike (.not (.castable a b)) rfl h
  simp only [Cond.before, Cond.holds, Cond.value] at h1 ⊢
  exact h1
theorem KT.warm {s U : State} (hW : s.WarmedH U.vm) (h : KT s) : KT U :=
  ⟨fun w hw hk => keepW_one hk hW (h.1 w hw hk), fun q hq => nocast_warm hW (h.2.1 q hq), h.2.2.1.moved hW.alike, h.2.2.2.1.moved hW.alike, h.2.2.2.2.1.moved hW.alike, h.2.2.2.2.2.1.moved hW.alike, h.2.2.2.2.2.2.moved hW.alike⟩
theorem KT.calling {U : State} (g : JFrame) (mk : MethodId) (a : Array Value) (h : KT U) : KT (U.calling g mk a) := KT.warm (s := U) (State.WarmedH.refl U) h
theorem keepW_use {w : Cond} (hw : keepW w = true) {s : State} {a a' : Array Value} (h : w.before a s = true) : w.before a' s = true := keepW_one hw (State.WarmedH.refl s) h
theorem KT.use {s : State} (h : KT s) {w : Cond} (hw : w ∈ lw_tbl) (hk : keepW w = true) {a : Array Value} : w.before a s = true := keepW_use hk (h.1 w hw hk)
/-- a word of tables_1 by its place -/
theorem inT {w : Cond} (i : Nat) (h : tables_1[i]? = some w) : w ∈ lw_tbl := List.mem_append_right _ (List.mem_of_getElem? h)
/-! contracts with throws -/
def FE (first t : State) (L : List Loc) (k n : Nat) : Prop := first.WarmedH t.vm ∧ first.sameButNew ({ t with vm := first.vm } : State) L k n
def MetX (l : Launch) (y : MethodName) (ws : List Cond) (rm : Room) (Pc : Array Value → State → Prop) (Qc : Array Value → State → Outcome → State → Prop) (mc ms : Nat) (free : Addr → Prop) : Prop :=
  MetFree l y (headSpec ws rm) Pc (fun _ _ _ _ _ => True) (fun a st o t => Qc a st o t ∧ ∃ L, FE st t L mc ms ∧ ∀ q ∈ L, free q.base)
def MQX (below : List Frame) (Qc : Array Value → State → Outcome → State → Prop) (a : Array Value) (s : State) (mc ms : Nat) (free : Addr → Prop) : State → Prop := fun t =>
  ∃ o, t.status = .running ∧ Ended t below o ∧ Qc a s o t ∧ ∃ L, FE s t L mc ms ∧ ∀ q ∈ L, free q.base
theorem MQX.of {below : List Frame} {Qc : Array Value → State → Outcome → State → Prop} {a : Array Value} {s : State} {mc ms : Nat} {free : Addr → Prop} {t : State} (h : MQ below Qc a s mc ms free t) : MQX below Qc a s mc ms free t := by
  obtain ⟨o, h1, h2, h3, L, h4, h5⟩ := h
  exact ⟨o, h1, h2, h3, L, h4.2, h5⟩
def codeW (Y : MI) (y : MethodName) : Cond := match Y.2.2.2.2.2 with
  | [] => .code y Y.2.1 Y.2.2.1 Y.2.2.2.1
  | hh => .codeWith y Y.2.1 Y.2.2.1 Y.2.2.2.1 hh
theorem codeW_spec {Y : MI} {y : MethodName} {s : State} {m : MethodId} {a : Array Value} (hn : s.methodNamed? y = some m) (h : (codeW Y y).before a s = true) :
    ∃ meth c, s.vm.method? m = some meth ∧ meth.code = some c ∧ c.code = Y.2.1 ∧ c.maxLocals = Y.2.2.1 ∧ meth.sig.returnType = Y.2.2.2.1 ∧ meth.locks = false ∧ c.exceptionTable.toList.map (fun h => (h.startPc, h.endPc, h.handlerPc, h.catchType)) = Y.2.2.2.2.2 ∧ parseMethodDescriptor y.desc = some meth.sig := by
  obtain ⟨own, cc, nL, ret, nm, hh⟩ := Y
  cases hh with
  | nil =>
    obtain ⟨meth, c, h1, h2, h3, h4, h5, h6, h7, h8⟩ := Cond.code_spec hn (show (Cond.code y cc nL ret).before a s = true from h)
    refine ⟨meth, c, h1, h2, h3, h4, h5, h6, ?_, h8⟩
    have : c.exceptionTable.toList = [] := by
      rw [Array.isEmpty_iff] at h7
      rw [h7]
    rw [this]; rfl
  | cons x xs =>
    obtain ⟨m9, meth, c, hn9, h1, h2, h3, h4, h5, h6, h7, h8⟩ := Cond.codeWith_spec (show (Cond.codeWith y cc nL ret (x :: xs)).before a s = true from h)
    cases hn.symm.trans hn9
    exact ⟨meth, c, h1, h2, h3, h4, h6, h7, h5, h8⟩
def QcX (X : GX) (Q : QT) : Array Value → State → Outcome → State → Prop := fun _ _ o t => ∃ (I : M32) (L : M64) (R : MR) (T : SH), Rel X t I L R T t.heap ∧ Q o I L R T
def PcX (X : GX) (as : List Value) (I : M32) (L : M64) (R : MR) (T : SH) : Array Value → State → Prop := fun a U => a = as.toArray ∧ Rel X U I L R T U.heap ∧ KT U ∧ va_K X.1 kc [] U ∧ X.2.2.WarmedH U.vm
def rmX (d mc ms : Nat) : Room := { frames := d, cells := mc, slots := ms, locals := 64 * d }
/-- the contract of a method: from the picture (I, L, R, T) with these arguments it ends, thrown or returned, with a picture that Q takes; at most mc cells, ms slots are made; d frames are enough -/
def Call (Y : MI) (y : MethodName) (d mc ms : Nat) (as : List Value) (I : M32) (L : M64) (R : MR) (T : SH) (Q : QT) : Prop :=
  ∀ (l : Launch) (X : GX), l.flags = flags0 → MetX l y [codeW Y y] (rmX d mc ms) (PcX X as I L R T) (QcX X Q) mc ms (fun q => X.2.1 ≤ q)
def CtxX (Y : MI) (d mc ms : Nat) (p : Program) (l : Launch) (Rm : Room) (s : State) (m : MethodId) (meth : Method) (c : Code) (X : GX) : Prop :=
  p.tables.exec = Jvm.exec ∧ c.code = Y.2.1 ∧ c.maxLocals = Y.2.2.1 ∧ meth.sig.returnType = Y.2.2.2.1 ∧ meth.locks = false ∧ s.vm.findClass Y.1 = some m.cls ∧ meth.name = Y.2.2.2.2.1 ∧ c.exceptionTable.toList.map (fun h => (h.startPc, h.endPc, h.handlerPc, h.catchType)) = Y.2.2.2.2.2 ∧
  KT s ∧ va_K X.1 kc [] s ∧ (d ≤ Rm.frames ∧ 64 * d ≤ Rm.locals) ∧ (mc ≤ Rm.cells ∧ ms ≤ Rm.slots) ∧ l.flags = flags0 ∧ X.2.2.WarmedH s.vm
def LocOk (X : GX) (s : State) (H : Heap) (locs : List Loc) : Prop := s.heap.size ≤ H.size ∧ ∀ q ∈ locs, X.2.1 ≤ q.base
def Run (Y : MI) (d rc rs pc : Nat) (lv : List (Nat × Value)) (st : List Value) (I : M32) (L : M64) (R : MR) (T : SH) (Q : QT) : Prop :=
  ∀ (p : Program) (l : Launch) (e : Env) (Rm : Room) (s : State) (m : MethodId) (args : Array Value) (below : List Frame) (meth : Method) (c : Code) (H : Heap) (locs : List Loc) (cells slots : Nat) (X : GX) (ls : Array Slot),
    CtxX Y d (cells + rc) (slots + rs) p l Rm s m meth c X → Rel X s I L R T H → LocOk X s H locs → lv_has ls Y.2.2.1 lv →
    W p l e Rm s m args below meth c H locs cells slots (MQX below (QcX X Q) args s (cells + rc) (slots + rs) (fun q => X.2.1 ≤ q)) (F0 m pc ls st)
theorem W.mono {p : Program} {l : Launch} {e : Env} {R : Room} {s : State} {m : MethodId} {args : Array Value} {below : List Frame} {meth : Method} {c : Code} {H : Heap} {locs : List Loc} {cells slots : Nat} {Q Q' : State → Prop} {g : JFrame} (h : ∀ t, Q t → Q' t) (k : W p l e R s m args below meth c H locs cells slots Q g) : W p l e R s m args below meth c H locs cells slots Q' g := by
  intro T hT X
  obtain ⟨t, a, b⟩ := k T hT X
  exact ⟨t, a, h t b⟩
theorem Run.mono {Y : MI} {d rc rs pc : Nat} {lv : List (Nat × Value)} {st : List Value} {I : M32} {L : M64} {R : MR} {T : SH} {Q Q' : QT} (k : Run Y d rc rs pc lv st I L R T Q) (h : ∀ o I L R T, Q o I L R T → Q' o I L R T) : Run Y d rc rs pc lv st I L R T Q' := by
  intro p l e Rm s m args below meth c H locs cells slots X ls hC hR hL hl
  refine W.mono ?_ (k p l e Rm s m args below meth c H locs cells slots X ls hC hR hL hl)
  rintro t ⟨o, h1, h2, ⟨I', L', R', T', h3, h4⟩, h5⟩
  exact ⟨o, h1, h2, ⟨I', L', R', T', h3, h _ _ _ _ _ h4⟩, h5⟩
theorem Call.mono {Y : MI} {y : MethodName} {d mc ms : Nat} {as : List Value} {I : M32} {L : M64} {R : MR} {T : SH} {Q Q' : QT} (k : Call Y y d mc ms as I L R T Q) (h : ∀ o I L R T, Q o I L R T → Q' o I L R T) : Call Y y d mc ms as I L R T Q' := by
  intro l X hf p e ha hc hk s m args below hfr happ hP hK
  obtain ⟨n, o, h1, h2, h3, ⟨I', L', R', T', h4, h5⟩, h6⟩ := k l X hf p e ha hc hk s m args below hfr happ hP hK
  exact ⟨n, o, h1, h2, h3, ⟨I', L', R', T', h4, h _ _ _ _ _ h5⟩, h6⟩
/-- a method's contract out of its walk -/
theorem Call.ofRun {Y : MI} {y : MethodName} {d mc ms : Nat} {as : List Value} {I : M32} {L : M64} {R : MR} {T : SH} {Q : QT} (hy : plainFor y = true) (hY : y.cls = Y.1 ∧ y.name = Y.2.2.2.2.1) (hn : (lg_sl as).length ≤ Y.2.2.1)
    (k : Run Y d mc ms 0 (lv_args 0 as) [] I L R T Q) : Call Y y d mc ms as I L R T Q := by
  intro l X hf
  refine MetFree.of_bodySF (code := Y.2.1) (maxLocals := Y.2.2.1) (ret := Y.2.2.2.1) hy ?_ ?_
  · intro args s m h hnm
    obtain ⟨meth, c, h1, h2, h3, h4, h5, h6, -, -⟩ := codeW_spec hnm (atoms_spec (ws := [codeW Y y]) h _ List.mem_cons_self)
    exact ⟨meth, c, h1, h2, h3, h4, h5, h6⟩
  · intro p e s m args below meth c s₁ B hml hP _
    obtain ⟨rfl, hR, hT, hK, hZW⟩ := hP
    have hh0 : s₁.heap = s.heap := by rw [B.state]; rfl
    obtain ⟨meth', c', q1, q2, q3, q4, q5, q6, q7, -⟩ := codeW_spec B.named (atoms_spec (ws := [codeW Y y]) B.pre _ List.mem_cons_self)
    cases B.method.symm.trans q1
    have hcc : c' = c := by
      have h := B.here.code
      have hm1 : s₁.vm.method? m = some meth := by rw [B.state]; exact B.method
      rw [State.code?_eq, hm1] at h
      exact Option.some.inj (q2.symm.trans h)
    subst hcc
    have hl := lv_entry as (n := Y.2.2.1) hn
    have hC : CtxX Y d (0 + mc) (0 + ms) p l (headSpec [codeW Y y] (rmX d mc ms)).room s m meth c' X :=
      ⟨B.exec, B.bytes, hml, B.returns, B.notSynchronized, by rw [← hY.1]; exact findClass_of_methodNamed B.named, by rw [← hY.2]; exact (name_of_methodNamed B.named B.method).1, q7, hT, hK, ⟨Nat.le_refl _, Nat.le_refl _⟩, ⟨by rw [Nat.zero_add]; exact Nat.le_refl _, by rw [Nat.zero_add]; exact Nat.le_refl _⟩, hf, hZW⟩
    have w := k p l e (headSpec [codeW Y y] (rmX d mc ms)).room s m as.toArray below meth c' s.heap [] 0 0 X _ hC hR ⟨Nat.le_refl _, fun q h => by cases h⟩ hl
    rw [← lg_entry_eq (m := m), Nat.zero_add, Nat.zero_add] at w
    obtain ⟨t, a1, o, b1, b2, b3⟩ := w s₁ hh0 (Stand.of_body B)
    exact ⟨t, o, a1, b1, b2, b3⟩
