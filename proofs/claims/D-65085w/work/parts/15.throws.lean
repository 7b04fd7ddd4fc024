/-! ===== 15: the methods that throw; printed by tools/throws.py ===== -/
def xin (w : Cond) : Prop := w ∈ lw_tbl ∨ w ∈ xwd
theorem own_T : ∀ w ∈ Bundle.throwableAtoms, xin w := by
  unfold Bundle.throwableAtoms
  exact List.forall_mem_cons.mpr ⟨Or.inl (inT1 9 rfl), List.forall_mem_cons.mpr ⟨Or.inl (inT1 153 rfl), List.forall_mem_cons.mpr ⟨Or.inl (inT1 162 rfl), List.forall_mem_cons.mpr ⟨Or.inl (inT1 167 rfl), List.forall_mem_cons.mpr ⟨Or.inl (inT1 170 rfl), List.forall_mem_cons.mpr ⟨Or.inl (inT1 172 rfl), List.forall_mem_cons.mpr ⟨Or.inl (inT1 154 rfl), List.forall_mem_cons.mpr ⟨Or.inl (inT1 155 rfl), List.forall_mem_cons.mpr ⟨Or.inl (inT1 43 rfl), List.forall_mem_cons.mpr ⟨Or.inl (inT1 44 rfl), List.forall_mem_cons.mpr ⟨Or.inl (inT1 156 rfl), List.forall_mem_cons.mpr ⟨Or.inl (inT1 161 rfl), List.forall_mem_cons.mpr ⟨Or.inl (inT1 168 rfl), List.forall_mem_cons.mpr ⟨Or.inl (inT1 188 rfl), List.forall_mem_cons.mpr ⟨Or.inl (inT1 143 rfl), List.forall_mem_cons.mpr ⟨Or.inl (inT1 189 rfl), List.forall_mem_cons.mpr ⟨Or.inl (inT1 145 rfl), List.forall_mem_cons.mpr ⟨Or.inl (inT1 190 rfl), List.forall_mem_cons.mpr ⟨Or.inl (inT1 147 rfl), List.forall_mem_cons.mpr ⟨Or.inl (inT1 157 rfl), List.forall_mem_cons.mpr ⟨Or.inr (List.mem_of_getElem? (i := 0) rfl), List.forall_mem_cons.mpr ⟨Or.inl (inT1 159 rfl), List.forall_mem_cons.mpr ⟨Or.inr (List.mem_of_getElem? (i := 1) rfl), List.forall_mem_cons.mpr ⟨Or.inl (inT1 149 rfl), List.forall_mem_nil _⟩⟩⟩⟩⟩⟩⟩⟩⟩⟩⟩⟩⟩⟩⟩⟩⟩⟩⟩⟩⟩⟩⟩⟩
theorem own_R : ∀ w ∈ Bundle.chain0Atoms "java/lang/RuntimeException" ["java/lang/Exception"], xin w := List.forall_mem_cons.mpr ⟨Or.inl (inT5 157 rfl), List.forall_mem_cons.mpr ⟨Or.inl (inT5 158 rfl), List.forall_mem_cons.mpr ⟨Or.inl (inT5 159 rfl), List.forall_mem_cons.mpr ⟨Or.inl (inT5 160 rfl), List.forall_mem_cons.mpr ⟨Or.inl (inT1 136 rfl), List.forall_mem_cons.mpr ⟨Or.inl (inT5 160 rfl), List.forall_mem_cons.mpr ⟨Or.inl (inT5 161 rfl), List.forall_mem_cons.mpr ⟨Or.inl (inT5 162 rfl), List.forall_mem_cons.mpr ⟨Or.inl (inT1 154 rfl), List.forall_mem_cons.mpr ⟨Or.inl (inT1 138 rfl), List.forall_mem_nil _⟩⟩⟩⟩⟩⟩⟩⟩⟩⟩
theorem own_IAE : ∀ w ∈ Bundle.ownAtoms0 "PromisePlatform" 9 R_IAE ["java/lang/RuntimeException", "java/lang/Exception"], xin w := by
  unfold Bundle.ownAtoms0
  refine List.forall_mem_append.mpr ⟨List.forall_mem_append.mpr ⟨own_T, ?_⟩, ?_⟩
  · exact List.forall_mem_append.mpr ⟨List.forall_mem_cons.mpr ⟨Or.inl (inT5 215 rfl), List.forall_mem_cons.mpr ⟨Or.inl (inT5 216 rfl), List.forall_mem_cons.mpr ⟨Or.inl (inT5 217 rfl), List.forall_mem_cons.mpr ⟨Or.inl (inT5 157 rfl), List.forall_mem_cons.mpr ⟨Or.inl (inT5 145 rfl), List.forall_mem_nil _⟩⟩⟩⟩⟩, own_R⟩
  · exact List.forall_mem_cons.mpr ⟨Or.inl (inT5 214 rfl), List.forall_mem_cons.mpr ⟨Or.inl (inT5 206 rfl), List.forall_mem_cons.mpr ⟨Or.inl (inT5 207 rfl), List.forall_mem_cons.mpr ⟨Or.inl (inT5 208 rfl), List.forall_mem_cons.mpr ⟨Or.inl (inT1 164 rfl), List.forall_mem_cons.mpr ⟨Or.inl (inT5 209 rfl), List.forall_mem_cons.mpr ⟨Or.inl (inT5 210 rfl), List.forall_mem_cons.mpr ⟨Or.inl (inT5 211 rfl), List.forall_mem_cons.mpr ⟨Or.inl (inT5 212 rfl), List.forall_mem_cons.mpr ⟨Or.inr (List.mem_of_getElem? (i := 2) rfl), List.forall_mem_cons.mpr ⟨Or.inr (List.mem_of_getElem? (i := 3) rfl), List.forall_mem_cons.mpr ⟨Or.inl (inT1 152 rfl), List.forall_mem_cons.mpr ⟨Or.inl (inT1 151 rfl), List.forall_mem_cons.mpr ⟨Or.inl (inT5 213 rfl), List.forall_mem_nil _⟩⟩⟩⟩⟩⟩⟩⟩⟩⟩⟩⟩⟩⟩
theorem own_IOOBE : ∀ w ∈ Bundle.ownAtoms0 "PromisePlatform" 3 R_IOOBE ["java/lang/RuntimeException", "java/lang/Exception"], xin w := by
  unfold Bundle.ownAtoms0
  refine List.forall_mem_append.mpr ⟨List.forall_mem_append.mpr ⟨own_T, ?_⟩, ?_⟩
  · exact List.forall_mem_append.mpr ⟨List.forall_mem_cons.mpr ⟨Or.inl (inT5 189 rfl), List.forall_mem_cons.mpr ⟨Or.inl (inT5 190 rfl), List.forall_mem_cons.mpr ⟨Or.inl (inT5 191 rfl), List.forall_mem_cons.mpr ⟨Or.inl (inT5 157 rfl), List.forall_mem_cons.mpr ⟨Or.inl (inT5 145 rfl), List.forall_mem_nil _⟩⟩⟩⟩⟩, own_R⟩
  · exact List.forall_mem_cons.mpr ⟨Or.inl (inT5 188 rfl), List.forall_mem_cons.mpr ⟨Or.inl (inT5 180 rfl), List.forall_mem_cons.mpr ⟨Or.inl (inT5 181 rfl), List.forall_mem_cons.mpr ⟨Or.inl (inT5 182 rfl), List.forall_mem_cons.mpr ⟨Or.inl (inT1 166 rfl), List.forall_mem_cons.mpr ⟨Or.inl (inT5 183 rfl), List.forall_mem_cons.mpr ⟨Or.inl (inT5 184 rfl), List.forall_mem_cons.mpr ⟨Or.inl (inT5 185 rfl), List.forall_mem_cons.mpr ⟨Or.inl (inT5 186 rfl), List.forall_mem_cons.mpr ⟨Or.inr (List.mem_of_getElem? (i := 2) rfl), List.forall_mem_cons.mpr ⟨Or.inr (List.mem_of_getElem? (i := 3) rfl), List.forall_mem_cons.mpr ⟨Or.inl (inT1 152 rfl), List.forall_mem_cons.mpr ⟨Or.inl (inT1 151 rfl), List.forall_mem_cons.mpr ⟨Or.inl (inT5 187 rfl), List.forall_mem_nil _⟩⟩⟩⟩⟩⟩⟩⟩⟩⟩⟩⟩⟩⟩
theorem own_ISE : ∀ w ∈ Bundle.ownAtoms0 "PromisePlatform" 12 R_ISE ["java/lang/RuntimeException", "java/lang/Exception"], xin w := by
  unfold Bundle.ownAtoms0
  refine List.forall_mem_append.mpr ⟨List.forall_mem_append.mpr ⟨own_T, ?_⟩, ?_⟩
  · exact List.forall_mem_append.mpr ⟨List.forall_mem_cons.mpr ⟨Or.inl (inT5 154 rfl), List.forall_mem_cons.mpr ⟨Or.inl (inT5 155 rfl), List.forall_mem_cons.mpr ⟨Or.inl (inT5 156 rfl), List.forall_mem_cons.mpr ⟨Or.inl (inT5 157 rfl), List.forall_mem_cons.mpr ⟨Or.inl (inT5 145 rfl), List.forall_mem_nil _⟩⟩⟩⟩⟩, own_R⟩
  · exact List.forall_mem_cons.mpr ⟨Or.inl (inT5 153 rfl), List.forall_mem_cons.mpr ⟨Or.inl (inT5 143 rfl), List.forall_mem_cons.mpr ⟨Or.inl (inT5 144 rfl), List.forall_mem_cons.mpr ⟨Or.inl (inT5 147 rfl), List.forall_mem_cons.mpr ⟨Or.inl (inT1 165 rfl), List.forall_mem_cons.mpr ⟨Or.inl (inT5 148 rfl), List.forall_mem_cons.mpr ⟨Or.inl (inT5 149 rfl), List.forall_mem_cons.mpr ⟨Or.inl (inT5 150 rfl), List.forall_mem_cons.mpr ⟨Or.inl (inT5 151 rfl), List.forall_mem_cons.mpr ⟨Or.inr (List.mem_of_getElem? (i := 2) rfl), List.forall_mem_cons.mpr ⟨Or.inr (List.mem_of_getElem? (i := 3) rfl), List.forall_mem_cons.mpr ⟨Or.inl (inT1 152 rfl), List.forall_mem_cons.mpr ⟨Or.inl (inT1 151 rfl), List.forall_mem_cons.mpr ⟨Or.inl (inT5 152 rfl), List.forall_mem_nil _⟩⟩⟩⟩⟩⟩⟩⟩⟩⟩⟩⟩⟩⟩
/-- static fields' cells are kept -/
def KeptS (s U : State) : Prop := ∀ (y : Addr) (cy : Cell), s.heap[y]? = some cy → U.heap[y]? = some cy
theorem keptS_lays {s U : State} (hal : s.vm.Alike U.vm) (hk : KeptS s U) {c n D : String} {a a' : Array Value} (h : (Cond.laysStatic c n D).before a s = true) : (Cond.laysStatic c n D).before a' U = true := by
  obtain ⟨cc, k, ix, f, ad, cell, h1, h2, h3, h4, h5, h6, h7, h8, h9⟩ := Cond.laysStatic_spec h
  obtain ⟨k', hf', he⟩ := State.fieldFound?_setVm hal h2
  have hf2 : U.fieldFound? c n D = some (cc, k', ix, f) := hf'
  have g1 : U.vm.findClass c = some cc := by rw [hal.findClass]; exact h1
  have g4 : k'.statics = some ad := by rw [he]; exact h4
  have g9 : k'.staticTypes[f.slot]? = some f.type := by rw [he]; exact h9
  have g5 := hk ad cell h5
  simp [Cond.before, Cond.holds, Cond.value, g1, hf2, h3, g4, g5, h6, h7, h8, g9]
theorem keptS_isRef {s U : State} (hal : s.vm.Alike U.vm) (hk : KeptS s U) {c n D : String} {a a' : Array Value} (hl : (Cond.laysStatic c n D).before a s = true) (h : (Cond.isRef (.static c n D)).before a s = true) : (Cond.isRef (.static c n D)).before a' U = true := by
  obtain ⟨cc, k, ix, f, ad, cell, h1, h2, h3, h4, h5, h6, h7, h8, h9⟩ := Cond.laysStatic_spec hl
  obtain ⟨k', hf', he⟩ := State.fieldFound?_setVm hal h2
  have hf2 : U.fieldFound? c n D = some (cc, k', ix, f) := hf'
  have g4 : k'.statics = some ad := by rw [he]; exact h4
  have g5 := hk ad cell h5
  have e : (Term.static c n D).eval a' U none [] U = (Term.static c n D).eval a s none [] s := by simp [Term.eval, State.fieldNamed?, hf2, h2, h3, g4, h4, g5, h5, h6]
  simp only [Cond.before, Cond.holds, Cond.value, e] at h ⊢
  exact h
theorem own_before {X : GX} {s : State} {I : M32} {L : M64} {R : MR} {T : SH} {H : Heap} (hR : Rel X s I L R T H) (hH : s.heap = H) (hKT : KT s) (hZ : X.2.2.WarmedH s.vm) {w : Cond} (hw : xin w) (hk : keepW w = true ∨ w ∈ xwd) {a : Array Value} : w.before a s = true := by
  have go : w ∈ xwd → w.before a s = true := by
    intro h
    have hks : KeptS X.2.2 s := fun y cy hy => by
      have hlt : y < X.2.1 := by rw [hR.2.2.2.2.1]; exact (Array.getElem?_eq_some_iff.mp hy).1
      rw [hH, hR.2.2.1 y hlt]; exact hy
    have h0 := hR.2.2.2.2.2.2.1 w h
    have hal := hZ.alike
    have e : w = .laysStatic "java/lang/Throwable" "UNASSIGNED_STACK" "[Ljava/lang/StackTraceElement;" ∨ w = .laysStatic "java/lang/Throwable" "SUPPRESSED_SENTINEL" "Ljava/util/List;" ∨ w = .isRef (.static "java/lang/Throwable" "UNASSIGNED_STACK" "[Ljava/lang/StackTraceElement;") ∨ w = .isRef (.static "java/lang/Throwable" "SUPPRESSED_SENTINEL" "Ljava/util/List;") := by simpa [xwd] using h
    rcases e with rfl | rfl | rfl | rfl
    · exact keptS_lays hal hks h0
    · exact keptS_lays hal hks h0
    · exact keptS_isRef hal hks (hR.2.2.2.2.2.2.1 _ (List.mem_of_getElem? (i := 0) rfl)) h0
    · exact keptS_isRef hal hks (hR.2.2.2.2.2.2.1 _ (List.mem_of_getElem? (i := 1) rfl)) h0
  rcases hk with hk | hk
  · rcases hw with hw | hw
    · exact hKT.use hw hk
    · exact go hw
  · exact go hk
/-- returns if x isn't 0; else an exception of tag t is made and thrown -/
def thrQ (t : Nat) (x : Int32) (I : M32) (L : M64) (R : MR) (T : SH) : QT := fun o I' L' R' T' => (I' = I ∧ L' = L ∧ R' = R) ∧ ((¬ x = 0 ∧ o = .returned none ∧ T' = T) ∨ (x = 0 ∧ o = .threw T.2.2 ∧ T' = shN T t 0))
theorem thr_call {Y : MI} {y : MethodName} {x : Int32} {I : M32} {L : M64} {R : MR} {T : SH} {ci idx ic n : Nat} {C : String} {F : u_T} {names : List String} (hy : plainFor y = true) (hY : y.cls = Y.1 ∧ y.name = Y.2.2.2.2.1) (hn : Y.2.2.1 = 1) (hret : Y.2.2.2.1 = none) (hhh : Y.2.2.2.2.2 = []) (hkc : kc[ci]? = some (C, F, 0))
    (d0 : decode Y.2.1 0 = .ok (.iload_n 0, 1)) (d1 : decode Y.2.1 1 = .ok (.ifCond .ne 11, 3)) (d4 : decode Y.2.1 4 = .ok (.new idx, 3)) (d7 : decode Y.2.1 7 = .ok (.dup, 1)) (d8 : decode Y.2.1 8 = .ok (.invokespecial ic, 3)) (d11 : decode Y.2.1 11 = .ok (.athrow, 1)) (d12 : decode Y.2.1 12 = .ok (.return_, 1)) (h6 : n = 6) (hci : ci < 63)
    (w1 : Cond.classLink Y.1 idx C ∈ lw_tbl) (w2 : Cond.instantiable C n ∈ lw_tbl) (w3 : Cond.initialized C ∈ lw_tbl) (hown : ∀ w ∈ Bundle.ownAtoms0 Y.1 ic C names, xin w) (hkp : (Bundle.ownAtoms0 Y.1 ic C names).all (fun w => keepW w || xwd.contains w) = true) (hfit : (Bundle.fit C && names.all Bundle.fit) = true ∧ names.length = 2) :
    Call Y y 6 1 6 [.int x] I L R T (thrQ (ci + 1) x I L R T) := by
  by_cases hx : x = 0
  case neg =>
    refine Call.ofRun hy hY (by rw [hn]; exact Nat.le_refl _) ?_
    refine q_iload_n d0 rfl ?_
    refine q_if_ne d1 (tgt := 12) (by decide) (fun _ => ?_) (fun h => absurd h hx)
    exact q_return d12 hret ⟨⟨rfl, rfl, rfl⟩, Or.inl ⟨hx, rfl, rfl⟩⟩
  subst h6
  intro l X hf
  refine MetFree.of_bodySF (code := Y.2.1) (maxLocals := Y.2.2.1) (ret := Y.2.2.2.1) hy ?_ ?_
  · intro args s m h hnm
    obtain ⟨meth, c, h1, h2, h3, h4, h5, h6, -, -⟩ := codeW_spec hnm (atoms_spec (ws := [codeW Y y]) h _ List.mem_cons_self)
    exact ⟨meth, c, h1, h2, h3, h4, h5, h6⟩
  · intro p e s m args below meth c s₁ B hml hP _
    obtain ⟨rfl, hR, hT, hK, hZW⟩ := hP
    have hh0 : s₁.heap = s.heap := by rw [B.state]; rfl
    obtain ⟨meth', c', q1, q2, q3, q4, q5, q6, q7, -⟩ := codeW_spec B.named (atoms_spec (ws := [codeW Y y]) B.pre _ List.mem_cons_self)
    cases B.method.symm.trans q1
    have hcc : c' = c := by
      have h := B.here.code
      have hm1 : s₁.vm.method? m = some meth := by rw [B.state]; exact B.method
      rw [State.code?_eq, hm1] at h
      exact Option.some.inj (q2.symm.trans h)
    subst hcc
    have hl := lv_entry [.int x] (n := Y.2.2.1) (by rw [hn]; exact Nat.le_refl _)
    have hownc : s.vm.findClass Y.1 = some m.cls := by rw [← hY.1]; exact findClass_of_methodNamed B.named
    have hKn := (hK.1 ci _ hkc).2
    have w : W p l e (headSpec [codeW Y y] (rmX 6 1 6)).room s m [Value.int x].toArray below meth c' s.heap [] 0 0 (MQX below (QcX X (thrQ (ci + 1) x I L R T)) [Value.int x].toArray s 1 6 (fun q => X.2.1 ≤ q)) (F0 m 0 ((lg_sl [Value.int x] ++ List.replicate (Y.2.2.1 - (lg_sl [Value.int x]).length) Slot.unset).toArray) []) := by
      refine lv_iload_n B.exec B.bytes d0 rfl (lv_look hl (i := 0) rfl) ?_
      refine lv_if_ne B.exec B.bytes d1 (tgt := 12) (by decide) (fun h => absurd hx h) (fun _ => ?_)
      refine W.newcK B.exec B.bytes hownc (hT.use w1 rfl) (hT.use w2 rfl) (hT.use w3 rfl) rfl d4 (Nat.le_refl _) (Nat.le_refl _) hKn.1 rfl fun H1 kC hkC e1 z1 o1 => ?_
      refine lv_dup B.exec B.bytes d7 rfl ?_
      intro U hU S
      have hsz : ((lg_sl [Value.int x] ++ List.replicate (Y.2.2.1 - (lg_sl [Value.int x]).length) Slot.unset).toArray).size = c'.maxLocals := by
        rw [q4]; exact hl.1
      simp only [Bool.and_eq_true, List.all_eq_true, Bool.or_eq_true, List.contains_iff_mem] at hkp hfit
      obtain ⟨t, a1, a2, a3, a4, a5, ce, a6, a7⟩ := S.ctorThrow0 B.exec (Launch.traces_off hf S.admits) hownc hfit.1.1 hfit.1.2 (fun w hw => own_before hR rfl hT hZW (hown w hw) (hkp w hw)) (fun x h => by cases h) hKn.1 hkC (a := s.heap.size) (by rw [hU]; exact e1) (Nat.le_refl _) (g := F0 m 8 _ [Value.ref s.heap.size, .ref s.heap.size]) rfl hsz rfl rfl rfl (by rw [B.bytes]; exact d8) (by rw [B.bytes]; exact d11) (fun x hx => by rw [hhh] at q7; rw [List.map_eq_nil_iff.mp q7] at hx; cases hx) (by rw [hfit.2]; show _ < 6; omega) (by rw [hfit.2]; show 2 * 0 + _ + _ ≤ 64 * 6; simp [Value.category]) B.notSynchronized
      refine ⟨t, a1, .threw s.heap.size, a2, a3, ⟨I, L, R, shN T (ci + 1) 0, ?_, ⟨rfl, rfl, rfl⟩, Or.inr ⟨hx, by rw [hR.1], rfl⟩⟩, [], ⟨a4, a5⟩, fun q h => by cases h⟩
      have hz : T.2.2 = s.heap.size := hR.1
      obtain ⟨-, k2, k3, -, -, k6⟩ := a5
      have k2 : s.heap.size ≤ t.heap.size := k2
      have k3 : t.heap.size ≤ s.heap.size + 1 := k3
      have hlt : s.heap.size < t.heap.size := (Array.getElem?_eq_some_iff.mp a6).1
      have hkeep : ∀ q : Nat, q < s.heap.size → t.heap[q]? = s.heap[q]? := by
        intro q hq
        obtain ⟨c0, hc0⟩ : ∃ c0, s.heap[q]? = some c0 := ⟨_, Array.getElem?_eq_getElem hq⟩
        obtain ⟨c1, g1, g2, g3, g4⟩ := k6 q c0 hc0
        have g1 : t.heap[q]? = some c1 := g1
        have : c1.slots = c0.slots := Array.ext_getElem? fun i => g4 i (fun h => by cases h)
        rw [g1, hc0, g2, this]
      refine (hR.moved a4.alike).push (H1 := t.heap) (by omega) hkeep (fun _ _ _ => rfl) (fun _ _ _ => rfl) (fun _ _ _ => rfl) (fun q e => by show fr1 T.1 T.2.2 _ q = _; rw [hz]; exact fr1_n _ e) (fun q e => by show fr1 T.2.1 T.2.2 _ q = _; rw [hz]; exact fr1_n _ e) rfl (fun _ => ?_)
      have ht : (shN T (ci + 1) 0).1 s.heap.size = ci + 1 := by show fr1 T.1 T.2.2 _ _ = _; rw [hz]; exact fr1_s _ _ _
      rw [ht]
      refine Or.inl ⟨by omega, _, hkc, ce, a6, ?_, a7.vm, fun k h => absurd h (Nat.not_lt_zero k)⟩
      exact Option.some.inj (a7.cls.symm.trans hKn.1)
    rw [← lg_entry_eq (m := m)] at w
    obtain ⟨t, a1, o, b1, b2, b3⟩ := w s₁ hh0 (Stand.of_body B)
    exact ⟨t, o, a1, b1, b2, b3⟩

theorem d_Platform_want_0 : decode m_Platform_want.2.1 0 = .ok (.iload_n 0, 1) := by decide +kernel
theorem d_Platform_want_1 : decode m_Platform_want.2.1 1 = .ok (.ifCond .ne 11, 3) := by decide +kernel
theorem d_Platform_want_4 : decode m_Platform_want.2.1 4 = .ok (.new 7, 3) := by decide +kernel
theorem d_Platform_want_7 : decode m_Platform_want.2.1 7 = .ok (.dup, 1) := by decide +kernel
theorem d_Platform_want_8 : decode m_Platform_want.2.1 8 = .ok (.invokespecial 9, 3) := by decide +kernel
theorem d_Platform_want_11 : decode m_Platform_want.2.1 11 = .ok (.athrow, 1) := by decide +kernel
theorem d_Platform_want_12 : decode m_Platform_want.2.1 12 = .ok (.return_, 1) := by decide +kernel
theorem c_Platform_want {x : Int32} {I : M32} {L : M64} {R : MR} {T : SH} : Call m_Platform_want y_Platform_want 6 1 6 [.int x] I L R T (thrQ 20 x I L R T) :=
  thr_call (ci := 19) (idx := 7) (ic := 9) (by decide) ⟨rfl, rfl⟩ rfl rfl rfl rfl d_Platform_want_0 d_Platform_want_1 d_Platform_want_4 d_Platform_want_7 d_Platform_want_8 d_Platform_want_11 d_Platform_want_12 rfl (by decide) (inT5 205 rfl) (inT5 206 rfl) (inT1 29 rfl) own_IAE (by decide) (by decide)
theorem d_Platform_wantIndex_0 : decode m_Platform_wantIndex.2.1 0 = .ok (.iload_n 0, 1) := by decide +kernel
theorem d_Platform_wantIndex_1 : decode m_Platform_wantIndex.2.1 1 = .ok (.ifCond .ne 11, 3) := by decide +kernel
theorem d_Platform_wantIndex_4 : decode m_Platform_wantIndex.2.1 4 = .ok (.new 1, 3) := by decide +kernel
theorem d_Platform_wantIndex_7 : decode m_Platform_wantIndex.2.1 7 = .ok (.dup, 1) := by decide +kernel
theorem d_Platform_wantIndex_8 : decode m_Platform_wantIndex.2.1 8 = .ok (.invokespecial 3, 3) := by decide +kernel
theorem d_Platform_wantIndex_11 : decode m_Platform_wantIndex.2.1 11 = .ok (.athrow, 1) := by decide +kernel
theorem d_Platform_wantIndex_12 : decode m_Platform_wantIndex.2.1 12 = .ok (.return_, 1) := by decide +kernel
theorem c_Platform_wantIndex {x : Int32} {I : M32} {L : M64} {R : MR} {T : SH} : Call m_Platform_wantIndex y_Platform_wantIndex 6 1 6 [.int x] I L R T (thrQ 21 x I L R T) :=
  thr_call (ci := 20) (idx := 1) (ic := 3) (by decide) ⟨rfl, rfl⟩ rfl rfl rfl rfl d_Platform_wantIndex_0 d_Platform_wantIndex_1 d_Platform_wantIndex_4 d_Platform_wantIndex_7 d_Platform_wantIndex_8 d_Platform_wantIndex_11 d_Platform_wantIndex_12 rfl (by decide) (inT5 179 rfl) (inT5 180 rfl) (inT1 31 rfl) own_IOOBE (by decide) (by decide)
theorem d_Platform_allow_0 : decode m_Platform_allow.2.1 0 = .ok (.iload_n 0, 1) := by decide +kernel
theorem d_Platform_allow_1 : decode m_Platform_allow.2.1 1 = .ok (.ifCond .ne 11, 3) := by decide +kernel
theorem d_Platform_allow_4 : decode m_Platform_allow.2.1 4 = .ok (.new 10, 3) := by decide +kernel
theorem d_Platform_allow_7 : decode m_Platform_allow.2.1 7 = .ok (.dup, 1) := by decide +kernel
theorem d_Platform_allow_8 : decode m_Platform_allow.2.1 8 = .ok (.invokespecial 12, 3) := by decide +kernel
theorem d_Platform_allow_11 : decode m_Platform_allow.2.1 11 = .ok (.athrow, 1) := by decide +kernel
theorem d_Platform_allow_12 : decode m_Platform_allow.2.1 12 = .ok (.return_, 1) := by decide +kernel
theorem c_Platform_allow {x : Int32} {I : M32} {L : M64} {R : MR} {T : SH} : Call m_Platform_allow y_Platform_allow 6 1 6 [.int x] I L R T (thrQ 19 x I L R T) :=
  thr_call (ci := 18) (idx := 10) (ic := 12) (by decide) ⟨rfl, rfl⟩ rfl rfl rfl rfl d_Platform_allow_0 d_Platform_allow_1 d_Platform_allow_4 d_Platform_allow_7 d_Platform_allow_8 d_Platform_allow_11 d_Platform_allow_12 rfl (by decide) (inT5 142 rfl) (inT5 143 rfl) (inT1 28 rfl) own_ISE (by decide) (by decide)
