/-! ===== 04 RULES: one an instruction; printed by tools/rules.py ===== -/
theorem lv_look {ls : Array Slot} {nL : Nat} {lv : List (Nat × Value)} {i : Nat} {v : Value} (h : lv_has ls nL lv) (hi : lv.lookup i = some v) : ls[i]? = some (.val v) := by
  refine h.2.2 (i, v) ?_
  clear h
  induction lv with
  | nil => simp [List.lookup] at hi
  | cons q t ih =>
    obtain ⟨a, b⟩ := q
    simp only [List.lookup] at hi
    split at hi
    · rename_i he
      have he : i = a := by simpa using he
      cases hi
      subst he
      exact List.mem_cons_self
    · exact List.mem_cons_of_mem _ (ih hi)
theorem lv_lookK {lv : List (Nat × Value)} {i : Nat} {v : Value} (hi : lv.lookup i = some v) : ∃ k : Nat, lv[k]? = some (i, v) := by
  refine List.getElem?_of_mem ?_
  induction lv with
  | nil => simp [List.lookup] at hi
  | cons q t ih =>
    obtain ⟨a, b⟩ := q
    simp only [List.lookup] at hi
    split at hi
    · rename_i he
      have he : i = a := by simpa using he
      cases hi
      subst he
      exact List.mem_cons_self
    · exact List.mem_cons_of_mem _ (ih hi)
def lvS (i : Nat) (v : Value) (lv : List (Nat × Value)) : List (Nat × Value) := (i, v) :: lv.filter (fun q => !(q.1 == i) && !(q.1 + 1 == i && q.2.category == 2))
def lvS2 (i : Nat) (v : Value) (lv : List (Nat × Value)) : List (Nat × Value) := (i, v) :: lv.filter (fun q => !(q.1 == i) && (!(q.1 == i + 1) && !(q.1 + 1 == i && q.2.category == 2)))
/-- fewer locals, in another order -/
theorem Run.lv {Y : MI} {d rc rs pc : Nat} {lv : List (Nat × Value)} {st : List Value} {I : M32} {L : M64} {R : MR} {T : SH} {Q : QT} {lv' : List (Nat × Value)} (h : ∀ q ∈ lv', q ∈ lv) (k : Run Y d rc rs pc lv' st I L R T Q) : Run Y d rc rs pc lv st I L R T Q := by
  intro p l e Rm s m args below meth c H locs cells slots X ls hC hR hL hl
  exact k p l e Rm s m args below meth c H locs cells slots X ls hC hR hL ⟨hl.1, hl.2.1, fun q hq => hl.2.2 q (h q hq)⟩
theorem q_iconst {Y : MI} {d rc rs pc : Nat} {lv : List (Nat × Value)} {st : List Value} {I : M32} {L : M64} {R : MR} {T : SH} {Q : QT} {n : Int} {v : Int32} (hd : decode Y.2.1 pc = .ok (.iconst n, 1)) (hv : Int32.ofInt n = v) (k : Run Y d rc rs (pc + 1) lv (.int v :: st) I L R T Q) : Run Y d rc rs pc lv st I L R T Q := by
  intro p l e Rm s m args below meth c H locs cells slots X ls hC hR hL hl
  exact lv_iconst hC.1 hC.2.1 hd hv (k p l e Rm s m args below meth c H locs cells slots X ls hC hR hL hl)
theorem q_bipush {Y : MI} {d rc rs pc : Nat} {lv : List (Nat × Value)} {st : List Value} {I : M32} {L : M64} {R : MR} {T : SH} {Q : QT} {n : Int} {v : Int32} (hd : decode Y.2.1 pc = .ok (.bipush n, 2)) (hv : (Int8.ofInt n).toInt32 = v) (k : Run Y d rc rs (pc + 2) lv (.int v :: st) I L R T Q) : Run Y d rc rs pc lv st I L R T Q := by
  intro p l e Rm s m args below meth c H locs cells slots X ls hC hR hL hl
  exact lv_bipush hC.1 hC.2.1 hd hv (k p l e Rm s m args below meth c H locs cells slots X ls hC hR hL hl)
theorem q_sipush {Y : MI} {d rc rs pc : Nat} {lv : List (Nat × Value)} {st : List Value} {I : M32} {L : M64} {R : MR} {T : SH} {Q : QT} {n : Int} {v : Int32} (hd : decode Y.2.1 pc = .ok (.sipush n, 3)) (hv : (Int16.ofInt n).toInt32 = v) (k : Run Y d rc rs (pc + 3) lv (.int v :: st) I L R T Q) : Run Y d rc rs pc lv st I L R T Q := by
  intro p l e Rm s m args below meth c H locs cells slots X ls hC hR hL hl
  exact lv_sipush hC.1 hC.2.1 hd hv (k p l e Rm s m args below meth c H locs cells slots X ls hC hR hL hl)
theorem q_lconst {Y : MI} {d rc rs pc : Nat} {lv : List (Nat × Value)} {st : List Value} {I : M32} {L : M64} {R : MR} {T : SH} {Q : QT} {n : Fin 2} {v : Int64} (hd : decode Y.2.1 pc = .ok (.lconst n, 1)) (hv : Int64.ofNat (n : Nat) = v) (k : Run Y d rc rs (pc + 1) lv (.long v :: st) I L R T Q) : Run Y d rc rs pc lv st I L R T Q := by
  intro p l e Rm s m args below meth c H locs cells slots X ls hC hR hL hl
  exact lv_lconst hC.1 hC.2.1 hd hv (k p l e Rm s m args below meth c H locs cells slots X ls hC hR hL hl)
theorem q_null {Y : MI} {d rc rs pc : Nat} {lv : List (Nat × Value)} {st : List Value} {I : M32} {L : M64} {R : MR} {T : SH} {Q : QT}  (hd : decode Y.2.1 pc = .ok (.aconst_null, 1))  (k : Run Y d rc rs (pc + 1) lv (.null :: st) I L R T Q) : Run Y d rc rs pc lv st I L R T Q := by
  intro p l e Rm s m args below meth c H locs cells slots X ls hC hR hL hl
  exact lv_null hC.1 hC.2.1 hd  (k p l e Rm s m args below meth c H locs cells slots X ls hC hR hL hl)
theorem q_iload {Y : MI} {d rc rs pc : Nat} {lv : List (Nat × Value)} {st : List Value} {I : M32} {L : M64} {R : MR} {T : SH} {Q : QT} {i : Nat} {x : Int32} (hd : decode Y.2.1 pc = .ok (.iload i, 2)) (hi : lv.lookup i = some (.int x)) (k : Run Y d rc rs (pc + 2) lv (.int x :: st) I L R T Q) : Run Y d rc rs pc lv st I L R T Q := by
  intro p l e Rm s m args below meth c H locs cells slots X ls hC hR hL hl
  exact lv_iload hC.1 hC.2.1 hd (lv_look hl hi) (k p l e Rm s m args below meth c H locs cells slots X ls hC hR hL hl)
theorem q_iload_n {Y : MI} {d rc rs pc : Nat} {lv : List (Nat × Value)} {st : List Value} {I : M32} {L : M64} {R : MR} {T : SH} {Q : QT} {n : Fin 4} {x : Int32} (hd : decode Y.2.1 pc = .ok (.iload_n n, 1)) (hi : lv.lookup (n : Nat) = some (.int x)) (k : Run Y d rc rs (pc + 1) lv (.int x :: st) I L R T Q) : Run Y d rc rs pc lv st I L R T Q := by
  intro p l e Rm s m args below meth c H locs cells slots X ls hC hR hL hl
  exact lv_iload_n hC.1 hC.2.1 hd rfl (lv_look hl hi) (k p l e Rm s m args below meth c H locs cells slots X ls hC hR hL hl)
theorem q_lload {Y : MI} {d rc rs pc : Nat} {lv : List (Nat × Value)} {st : List Value} {I : M32} {L : M64} {R : MR} {T : SH} {Q : QT} {i : Nat} {x : Int64} (hd : decode Y.2.1 pc = .ok (.lload i, 2)) (hi : lv.lookup i = some (.long x)) (k : Run Y d rc rs (pc + 2) lv (.long x :: st) I L R T Q) : Run Y d rc rs pc lv st I L R T Q := by
  intro p l e Rm s m args below meth c H locs cells slots X ls hC hR hL hl
  exact lv_lload hC.1 hC.2.1 hd (lv_look hl hi) (k p l e Rm s m args below meth c H locs cells slots X ls hC hR hL hl)
theorem q_lload_n {Y : MI} {d rc rs pc : Nat} {lv : List (Nat × Value)} {st : List Value} {I : M32} {L : M64} {R : MR} {T : SH} {Q : QT} {n : Fin 4} {x : Int64} (hd : decode Y.2.1 pc = .ok (.lload_n n, 1)) (hi : lv.lookup (n : Nat) = some (.long x)) (k : Run Y d rc rs (pc + 1) lv (.long x :: st) I L R T Q) : Run Y d rc rs pc lv st I L R T Q := by
  intro p l e Rm s m args below meth c H locs cells slots X ls hC hR hL hl
  exact lv_lload_n hC.1 hC.2.1 hd rfl (lv_look hl hi) (k p l e Rm s m args below meth c H locs cells slots X ls hC hR hL hl)
theorem q_aload {Y : MI} {d rc rs pc : Nat} {lv : List (Nat × Value)} {st : List Value} {I : M32} {L : M64} {R : MR} {T : SH} {Q : QT} {i : Nat} {a : Nat} (hd : decode Y.2.1 pc = .ok (.aload i, 2)) (hi : lv.lookup i = some (.ref a)) (k : Run Y d rc rs (pc + 2) lv (.ref a :: st) I L R T Q) : Run Y d rc rs pc lv st I L R T Q := by
  intro p l e Rm s m args below meth c H locs cells slots X ls hC hR hL hl
  exact lv_aload hC.1 hC.2.1 hd (lv_look hl hi) (k p l e Rm s m args below meth c H locs cells slots X ls hC hR hL hl)
theorem q_aload_n {Y : MI} {d rc rs pc : Nat} {lv : List (Nat × Value)} {st : List Value} {I : M32} {L : M64} {R : MR} {T : SH} {Q : QT} {n : Fin 4} {a : Nat} (hd : decode Y.2.1 pc = .ok (.aload_n n, 1)) (hi : lv.lookup (n : Nat) = some (.ref a)) (k : Run Y d rc rs (pc + 1) lv (.ref a :: st) I L R T Q) : Run Y d rc rs pc lv st I L R T Q := by
  intro p l e Rm s m args below meth c H locs cells slots X ls hC hR hL hl
  exact lv_aload_n hC.1 hC.2.1 hd rfl (lv_look hl hi) (k p l e Rm s m args below meth c H locs cells slots X ls hC hR hL hl)
theorem q_aloadN {Y : MI} {d rc rs pc : Nat} {lv : List (Nat × Value)} {st : List Value} {I : M32} {L : M64} {R : MR} {T : SH} {Q : QT} {i : Nat} (hd : decode Y.2.1 pc = .ok (.aload i, 2)) (hi : lv.lookup i = some .null) (k : Run Y d rc rs (pc + 2) lv (.null :: st) I L R T Q) : Run Y d rc rs pc lv st I L R T Q := by
  intro p l e Rm s m args below meth c H locs cells slots X ls hC hR hL hl
  exact lv_aloadN hC.1 hC.2.1 hd (lv_look hl hi) (k p l e Rm s m args below meth c H locs cells slots X ls hC hR hL hl)
theorem q_aload_nN {Y : MI} {d rc rs pc : Nat} {lv : List (Nat × Value)} {st : List Value} {I : M32} {L : M64} {R : MR} {T : SH} {Q : QT} {n : Fin 4} (hd : decode Y.2.1 pc = .ok (.aload_n n, 1)) (hi : lv.lookup (n : Nat) = some .null) (k : Run Y d rc rs (pc + 1) lv (.null :: st) I L R T Q) : Run Y d rc rs pc lv st I L R T Q := by
  intro p l e Rm s m args below meth c H locs cells slots X ls hC hR hL hl
  exact lv_aload_nN hC.1 hC.2.1 hd rfl (lv_look hl hi) (k p l e Rm s m args below meth c H locs cells slots X ls hC hR hL hl)
theorem q_istore {Y : MI} {d rc rs pc : Nat} {lv : List (Nat × Value)} {st : List Value} {I : M32} {L : M64} {R : MR} {T : SH} {Q : QT} {x : Int32} {lv' : List (Nat × Value)} {i : Nat} (hd : decode Y.2.1 pc = .ok (.istore i, 2)) (hn : i < Y.2.2.1) (hv : lvS i (.int x) lv = lv') (k : Run Y d rc rs (pc + 2) lv' st I L R T Q) : Run Y d rc rs pc lv (.int x :: st) I L R T Q := by
  intro p l e Rm s m args below meth c H locs cells slots X ls hC hR hL hl
  exact lv_istore hC.1 hC.2.1 hd  hl hn hv (fun ls hl => (k p l e Rm s m args below meth c H locs cells slots X ls hC hR hL hl))
theorem q_istore_n {Y : MI} {d rc rs pc : Nat} {lv : List (Nat × Value)} {st : List Value} {I : M32} {L : M64} {R : MR} {T : SH} {Q : QT} {x : Int32} {lv' : List (Nat × Value)} {n : Fin 4} (hd : decode Y.2.1 pc = .ok (.istore_n n, 1)) (hn : (n : Nat) < Y.2.2.1) (hv : lvS (n : Nat) (.int x) lv = lv') (k : Run Y d rc rs (pc + 1) lv' st I L R T Q) : Run Y d rc rs pc lv (.int x :: st) I L R T Q := by
  intro p l e Rm s m args below meth c H locs cells slots X ls hC hR hL hl
  exact lv_istore_n hC.1 hC.2.1 hd rfl hl hn hv (fun ls hl => (k p l e Rm s m args below meth c H locs cells slots X ls hC hR hL hl))
theorem q_lstore {Y : MI} {d rc rs pc : Nat} {lv : List (Nat × Value)} {st : List Value} {I : M32} {L : M64} {R : MR} {T : SH} {Q : QT} {x : Int64} {lv' : List (Nat × Value)} {i : Nat} (hd : decode Y.2.1 pc = .ok (.lstore i, 2)) (hn : i + 1 < Y.2.2.1) (hv : lvS2 i (.long x) lv = lv') (k : Run Y d rc rs (pc + 2) lv' st I L R T Q) : Run Y d rc rs pc lv (.long x :: st) I L R T Q := by
  intro p l e Rm s m args below meth c H locs cells slots X ls hC hR hL hl
  exact lv_lstore hC.1 hC.2.1 hd  hl hn hv (fun ls hl => (k p l e Rm s m args below meth c H locs cells slots X ls hC hR hL hl))
theorem q_lstore_n {Y : MI} {d rc rs pc : Nat} {lv : List (Nat × Value)} {st : List Value} {I : M32} {L : M64} {R : MR} {T : SH} {Q : QT} {x : Int64} {lv' : List (Nat × Value)} {n : Fin 4} (hd : decode Y.2.1 pc = .ok (.lstore_n n, 1)) (hn : (n : Nat) + 1 < Y.2.2.1) (hv : lvS2 (n : Nat) (.long x) lv = lv') (k : Run Y d rc rs (pc + 1) lv' st I L R T Q) : Run Y d rc rs pc lv (.long x :: st) I L R T Q := by
  intro p l e Rm s m args below meth c H locs cells slots X ls hC hR hL hl
  exact lv_lstore_n hC.1 hC.2.1 hd rfl hl hn hv (fun ls hl => (k p l e Rm s m args below meth c H locs cells slots X ls hC hR hL hl))
theorem q_astore {Y : MI} {d rc rs pc : Nat} {lv : List (Nat × Value)} {st : List Value} {I : M32} {L : M64} {R : MR} {T : SH} {Q : QT} {x : Nat} {lv' : List (Nat × Value)} {i : Nat} (hd : decode Y.2.1 pc = .ok (.astore i, 2)) (hn : i < Y.2.2.1) (hv : lvS i (.ref x) lv = lv') (k : Run Y d rc rs (pc + 2) lv' st I L R T Q) : Run Y d rc rs pc lv (.ref x :: st) I L R T Q := by
  intro p l e Rm s m args below meth c H locs cells slots X ls hC hR hL hl
  exact lv_astore hC.1 hC.2.1 hd  hl hn hv (fun ls hl => (k p l e Rm s m args below meth c H locs cells slots X ls hC hR hL hl))
theorem q_astore_n {Y : MI} {d rc rs pc : Nat} {lv : List (Nat × Value)} {st : List Value} {I : M32} {L : M64} {R : MR} {T : SH} {Q : QT} {x : Nat} {lv' : List (Nat × Value)} {n : Fin 4} (hd : decode Y.2.1 pc = .ok (.astore_n n, 1)) (hn : (n : Nat) < Y.2.2.1) (hv : lvS (n : Nat) (.ref x) lv = lv') (k : Run Y d rc rs (pc + 1) lv' st I L R T Q) : Run Y d rc rs pc lv (.ref x :: st) I L R T Q := by
  intro p l e Rm s m args below meth c H locs cells slots X ls hC hR hL hl
  exact lv_astore_n hC.1 hC.2.1 hd rfl hl hn hv (fun ls hl => (k p l e Rm s m args below meth c H locs cells slots X ls hC hR hL hl))
theorem q_astoreN {Y : MI} {d rc rs pc : Nat} {lv : List (Nat × Value)} {st : List Value} {I : M32} {L : M64} {R : MR} {T : SH} {Q : QT} {lv' : List (Nat × Value)} {i : Nat} (hd : decode Y.2.1 pc = .ok (.astore i, 2)) (hn : i < Y.2.2.1) (hv : lvS i .null lv = lv') (k : Run Y d rc rs (pc + 2) lv' st I L R T Q) : Run Y d rc rs pc lv (.null :: st) I L R T Q := by
  intro p l e Rm s m args below meth c H locs cells slots X ls hC hR hL hl
  exact lv_astoreN hC.1 hC.2.1 hd  hl hn hv (fun ls hl => (k p l e Rm s m args below meth c H locs cells slots X ls hC hR hL hl))
theorem q_astore_nN {Y : MI} {d rc rs pc : Nat} {lv : List (Nat × Value)} {st : List Value} {I : M32} {L : M64} {R : MR} {T : SH} {Q : QT} {lv' : List (Nat × Value)} {n : Fin 4} (hd : decode Y.2.1 pc = .ok (.astore_n n, 1)) (hn : (n : Nat) < Y.2.2.1) (hv : lvS (n : Nat) .null lv = lv') (k : Run Y d rc rs (pc + 1) lv' st I L R T Q) : Run Y d rc rs pc lv (.null :: st) I L R T Q := by
  intro p l e Rm s m args below meth c H locs cells slots X ls hC hR hL hl
  exact lv_astore_nN hC.1 hC.2.1 hd rfl hl hn hv (fun ls hl => (k p l e Rm s m args below meth c H locs cells slots X ls hC hR hL hl))
theorem q_iinc {Y : MI} {d rc rs pc : Nat} {lv : List (Nat × Value)} {st : List Value} {I : M32} {L : M64} {R : MR} {T : SH} {Q : QT} {i : Nat} {n : Int} {x v : Int32} {lv' : List (Nat × Value)} (hd : decode Y.2.1 pc = .ok (.iinc i n, 3)) (hi : lv.lookup i = some (.int x)) (he : x + Int32.ofInt n = v) (hn : i < Y.2.2.1) (hv : lvS i (.int v) lv = lv') (k : Run Y d rc rs (pc + 3) lv' st I L R T Q) : Run Y d rc rs pc lv st I L R T Q := by
  intro p l e Rm s m args below meth c H locs cells slots X ls hC hR hL hl
  obtain ⟨kk, hk⟩ := lv_lookK hi
  exact lv_iinc hC.1 hC.2.1 hd hl hk he hn hv (fun ls hl => (k p l e Rm s m args below meth c H locs cells slots X ls hC hR hL hl))
theorem q_iadd {Y : MI} {d rc rs pc : Nat} {lv : List (Nat × Value)} {st : List Value} {I : M32} {L : M64} {R : MR} {T : SH} {Q : QT} {x y : Int32} (hd : decode Y.2.1 pc = .ok (.iadd, 1))  (k : Run Y d rc rs (pc + 1) lv (.int (x + y) :: st) I L R T Q) : Run Y d rc rs pc lv (.int y :: .int x :: st) I L R T Q := by
  intro p l e Rm s m args below meth c H locs cells slots X ls hC hR hL hl
  exact lv_iadd hC.1 hC.2.1 hd  (k p l e Rm s m args below meth c H locs cells slots X ls hC hR hL hl)
theorem q_isub {Y : MI} {d rc rs pc : Nat} {lv : List (Nat × Value)} {st : List Value} {I : M32} {L : M64} {R : MR} {T : SH} {Q : QT} {x y : Int32} (hd : decode Y.2.1 pc = .ok (.isub, 1))  (k : Run Y d rc rs (pc + 1) lv (.int (x - y) :: st) I L R T Q) : Run Y d rc rs pc lv (.int y :: .int x :: st) I L R T Q := by
  intro p l e Rm s m args below meth c H locs cells slots X ls hC hR hL hl
  exact lv_isub hC.1 hC.2.1 hd  (k p l e Rm s m args below meth c H locs cells slots X ls hC hR hL hl)
theorem q_imul {Y : MI} {d rc rs pc : Nat} {lv : List (Nat × Value)} {st : List Value} {I : M32} {L : M64} {R : MR} {T : SH} {Q : QT} {x y : Int32} (hd : decode Y.2.1 pc = .ok (.imul, 1))  (k : Run Y d rc rs (pc + 1) lv (.int (x * y) :: st) I L R T Q) : Run Y d rc rs pc lv (.int y :: .int x :: st) I L R T Q := by
  intro p l e Rm s m args below meth c H locs cells slots X ls hC hR hL hl
  exact lv_imul hC.1 hC.2.1 hd  (k p l e Rm s m args below meth c H locs cells slots X ls hC hR hL hl)
theorem q_iand {Y : MI} {d rc rs pc : Nat} {lv : List (Nat × Value)} {st : List Value} {I : M32} {L : M64} {R : MR} {T : SH} {Q : QT} {x y : Int32} (hd : decode Y.2.1 pc = .ok (.iand, 1))  (k : Run Y d rc rs (pc + 1) lv (.int (x &&& y) :: st) I L R T Q) : Run Y d rc rs pc lv (.int y :: .int x :: st) I L R T Q := by
  intro p l e Rm s m args below meth c H locs cells slots X ls hC hR hL hl
  exact lv_iand hC.1 hC.2.1 hd  (k p l e Rm s m args below meth c H locs cells slots X ls hC hR hL hl)
theorem q_ior {Y : MI} {d rc rs pc : Nat} {lv : List (Nat × Value)} {st : List Value} {I : M32} {L : M64} {R : MR} {T : SH} {Q : QT} {x y : Int32} (hd : decode Y.2.1 pc = .ok (.ior, 1))  (k : Run Y d rc rs (pc + 1) lv (.int (x ||| y) :: st) I L R T Q) : Run Y d rc rs pc lv (.int y :: .int x :: st) I L R T Q := by
  intro p l e Rm s m args below meth c H locs cells slots X ls hC hR hL hl
  exact lv_ior hC.1 hC.2.1 hd  (k p l e Rm s m args below meth c H locs cells slots X ls hC hR hL hl)
theorem q_ixor {Y : MI} {d rc rs pc : Nat} {lv : List (Nat × Value)} {st : List Value} {I : M32} {L : M64} {R : MR} {T : SH} {Q : QT} {x y : Int32} (hd : decode Y.2.1 pc = .ok (.ixor, 1))  (k : Run Y d rc rs (pc + 1) lv (.int (x ^^^ y) :: st) I L R T Q) : Run Y d rc rs pc lv (.int y :: .int x :: st) I L R T Q := by
  intro p l e Rm s m args below meth c H locs cells slots X ls hC hR hL hl
  exact lv_ixor hC.1 hC.2.1 hd  (k p l e Rm s m args below meth c H locs cells slots X ls hC hR hL hl)
theorem q_ladd {Y : MI} {d rc rs pc : Nat} {lv : List (Nat × Value)} {st : List Value} {I : M32} {L : M64} {R : MR} {T : SH} {Q : QT} {x y : Int64} (hd : decode Y.2.1 pc = .ok (.ladd, 1))  (k : Run Y d rc rs (pc + 1) lv (.long (x + y) :: st) I L R T Q) : Run Y d rc rs pc lv (.long y :: .long x :: st) I L R T Q := by
  intro p l e Rm s m args below meth c H locs cells slots X ls hC hR hL hl
  exact lv_ladd hC.1 hC.2.1 hd  (k p l e Rm s m args below meth c H locs cells slots X ls hC hR hL hl)
theorem q_lsub {Y : MI} {d rc rs pc : Nat} {lv : List (Nat × Value)} {st : List Value} {I : M32} {L : M64} {R : MR} {T : SH} {Q : QT} {x y : Int64} (hd : decode Y.2.1 pc = .ok (.lsub, 1))  (k : Run Y d rc rs (pc + 1) lv (.long (x - y) :: st) I L R T Q) : Run Y d rc rs pc lv (.long y :: .long x :: st) I L R T Q := by
  intro p l e Rm s m args below meth c H locs cells slots X ls hC hR hL hl
  exact lv_lsub hC.1 hC.2.1 hd  (k p l e Rm s m args below meth c H locs cells slots X ls hC hR hL hl)
theorem q_lmul {Y : MI} {d rc rs pc : Nat} {lv : List (Nat × Value)} {st : List Value} {I : M32} {L : M64} {R : MR} {T : SH} {Q : QT} {x y : Int64} (hd : decode Y.2.1 pc = .ok (.lmul, 1))  (k : Run Y d rc rs (pc + 1) lv (.long (x * y) :: st) I L R T Q) : Run Y d rc rs pc lv (.long y :: .long x :: st) I L R T Q := by
  intro p l e Rm s m args below meth c H locs cells slots X ls hC hR hL hl
  exact lv_lmul hC.1 hC.2.1 hd  (k p l e Rm s m args below meth c H locs cells slots X ls hC hR hL hl)
theorem q_land {Y : MI} {d rc rs pc : Nat} {lv : List (Nat × Value)} {st : List Value} {I : M32} {L : M64} {R : MR} {T : SH} {Q : QT} {x y : Int64} (hd : decode Y.2.1 pc = .ok (.land, 1))  (k : Run Y d rc rs (pc + 1) lv (.long (x &&& y) :: st) I L R T Q) : Run Y d rc rs pc lv (.long y :: .long x :: st) I L R T Q := by
  intro p l e Rm s m args below meth c H locs cells slots X ls hC hR hL hl
  exact lv_land hC.1 hC.2.1 hd  (k p l e Rm s m args below meth c H locs cells slots X ls hC hR hL hl)
theorem q_lor {Y : MI} {d rc rs pc : Nat} {lv : List (Nat × Value)} {st : List Value} {I : M32} {L : M64} {R : MR} {T : SH} {Q : QT} {x y : Int64} (hd : decode Y.2.1 pc = .ok (.lor, 1))  (k : Run Y d rc rs (pc + 1) lv (.long (x ||| y) :: st) I L R T Q) : Run Y d rc rs pc lv (.long y :: .long x :: st) I L R T Q := by
  intro p l e Rm s m args below meth c H locs cells slots X ls hC hR hL hl
  exact lv_lor hC.1 hC.2.1 hd  (k p l e Rm s m args below meth c H locs cells slots X ls hC hR hL hl)
theorem q_lxor {Y : MI} {d rc rs pc : Nat} {lv : List (Nat × Value)} {st : List Value} {I : M32} {L : M64} {R : MR} {T : SH} {Q : QT} {x y : Int64} (hd : decode Y.2.1 pc = .ok (.lxor, 1))  (k : Run Y d rc rs (pc + 1) lv (.long (x ^^^ y) :: st) I L R T Q) : Run Y d rc rs pc lv (.long y :: .long x :: st) I L R T Q := by
  intro p l e Rm s m args below meth c H locs cells slots X ls hC hR hL hl
  exact lv_lxor hC.1 hC.2.1 hd  (k p l e Rm s m args below meth c H locs cells slots X ls hC hR hL hl)
theorem q_idiv {Y : MI} {d rc rs pc : Nat} {lv : List (Nat × Value)} {st : List Value} {I : M32} {L : M64} {R : MR} {T : SH} {Q : QT} {x y : Int32} (hd : decode Y.2.1 pc = .ok (.idiv, 1)) (hne : ¬ y = 0) (k : Run Y d rc rs (pc + 1) lv (.int (x / y) :: st) I L R T Q) : Run Y d rc rs pc lv (.int y :: .int x :: st) I L R T Q := by
  intro p l e Rm s m args below meth c H locs cells slots X ls hC hR hL hl
  exact lv_idiv hC.1 hC.2.1 hd hne (k p l e Rm s m args below meth c H locs cells slots X ls hC hR hL hl)
theorem q_irem {Y : MI} {d rc rs pc : Nat} {lv : List (Nat × Value)} {st : List Value} {I : M32} {L : M64} {R : MR} {T : SH} {Q : QT} {x y : Int32} (hd : decode Y.2.1 pc = .ok (.irem, 1)) (hne : ¬ y = 0) (k : Run Y d rc rs (pc + 1) lv (.int (x - x / y * y) :: st) I L R T Q) : Run Y d rc rs pc lv (.int y :: .int x :: st) I L R T Q := by
  intro p l e Rm s m args below meth c H locs cells slots X ls hC hR hL hl
  exact lv_irem hC.1 hC.2.1 hd hne (k p l e Rm s m args below meth c H locs cells slots X ls hC hR hL hl)
theorem q_ldiv {Y : MI} {d rc rs pc : Nat} {lv : List (Nat × Value)} {st : List Value} {I : M32} {L : M64} {R : MR} {T : SH} {Q : QT} {x y : Int64} (hd : decode Y.2.1 pc = .ok (.ldiv, 1)) (hne : ¬ y = 0) (k : Run Y d rc rs (pc + 1) lv (.long (x / y) :: st) I L R T Q) : Run Y d rc rs pc lv (.long y :: .long x :: st) I L R T Q := by
  intro p l e Rm s m args below meth c H locs cells slots X ls hC hR hL hl
  exact lv_ldiv hC.1 hC.2.1 hd hne (k p l e Rm s m args below meth c H locs cells slots X ls hC hR hL hl)
theorem q_lrem {Y : MI} {d rc rs pc : Nat} {lv : List (Nat × Value)} {st : List Value} {I : M32} {L : M64} {R : MR} {T : SH} {Q : QT} {x y : Int64} (hd : decode Y.2.1 pc = .ok (.lrem, 1)) (hne : ¬ y = 0) (k : Run Y d rc rs (pc + 1) lv (.long (x - x / y * y) :: st) I L R T Q) : Run Y d rc rs pc lv (.long y :: .long x :: st) I L R T Q := by
  intro p l e Rm s m args below meth c H locs cells slots X ls hC hR hL hl
  exact lv_lrem hC.1 hC.2.1 hd hne (k p l e Rm s m args below meth c H locs cells slots X ls hC hR hL hl)
theorem q_ineg {Y : MI} {d rc rs pc : Nat} {lv : List (Nat × Value)} {st : List Value} {I : M32} {L : M64} {R : MR} {T : SH} {Q : QT} {x : Int32} (hd : decode Y.2.1 pc = .ok (.ineg, 1))  (k : Run Y d rc rs (pc + 1) lv (.int (-x) :: st) I L R T Q) : Run Y d rc rs pc lv (.int x :: st) I L R T Q := by
  intro p l e Rm s m args below meth c H locs cells slots X ls hC hR hL hl
  exact lv_ineg hC.1 hC.2.1 hd  (k p l e Rm s m args below meth c H locs cells slots X ls hC hR hL hl)
theorem q_ishl {Y : MI} {d rc rs pc : Nat} {lv : List (Nat × Value)} {st : List Value} {I : M32} {L : M64} {R : MR} {T : SH} {Q : QT} {x y : Int32} (hd : decode Y.2.1 pc = .ok (.ishl, 1))  (k : Run Y d rc rs (pc + 1) lv (.int (x <<< (y &&& 31)) :: st) I L R T Q) : Run Y d rc rs pc lv (.int y :: .int x :: st) I L R T Q := by
  intro p l e Rm s m args below meth c H locs cells slots X ls hC hR hL hl
  exact lv_ishl hC.1 hC.2.1 hd  (k p l e Rm s m args below meth c H locs cells slots X ls hC hR hL hl)
theorem q_ishr {Y : MI} {d rc rs pc : Nat} {lv : List (Nat × Value)} {st : List Value} {I : M32} {L : M64} {R : MR} {T : SH} {Q : QT} {x y : Int32} (hd : decode Y.2.1 pc = .ok (.ishr, 1))  (k : Run Y d rc rs (pc + 1) lv (.int (x >>> (y &&& 31)) :: st) I L R T Q) : Run Y d rc rs pc lv (.int y :: .int x :: st) I L R T Q := by
  intro p l e Rm s m args below meth c H locs cells slots X ls hC hR hL hl
  exact lv_ishr hC.1 hC.2.1 hd  (k p l e Rm s m args below meth c H locs cells slots X ls hC hR hL hl)
theorem q_lshl {Y : MI} {d rc rs pc : Nat} {lv : List (Nat × Value)} {st : List Value} {I : M32} {L : M64} {R : MR} {T : SH} {Q : QT} {x : Int64} {y : Int32} (hd : decode Y.2.1 pc = .ok (.lshl, 1))  (k : Run Y d rc rs (pc + 1) lv (.long (x <<< (y.toInt64 &&& 63)) :: st) I L R T Q) : Run Y d rc rs pc lv (.int y :: .long x :: st) I L R T Q := by
  intro p l e Rm s m args below meth c H locs cells slots X ls hC hR hL hl
  exact lv_lshl hC.1 hC.2.1 hd rfl (k p l e Rm s m args below meth c H locs cells slots X ls hC hR hL hl)
theorem q_lshr {Y : MI} {d rc rs pc : Nat} {lv : List (Nat × Value)} {st : List Value} {I : M32} {L : M64} {R : MR} {T : SH} {Q : QT} {x : Int64} {y : Int32} (hd : decode Y.2.1 pc = .ok (.lshr, 1))  (k : Run Y d rc rs (pc + 1) lv (.long (x >>> (y.toInt64 &&& 63)) :: st) I L R T Q) : Run Y d rc rs pc lv (.int y :: .long x :: st) I L R T Q := by
  intro p l e Rm s m args below meth c H locs cells slots X ls hC hR hL hl
  exact lv_lshr hC.1 hC.2.1 hd rfl (k p l e Rm s m args below meth c H locs cells slots X ls hC hR hL hl)
theorem q_i2l {Y : MI} {d rc rs pc : Nat} {lv : List (Nat × Value)} {st : List Value} {I : M32} {L : M64} {R : MR} {T : SH} {Q : QT} {x : Int32} (hd : decode Y.2.1 pc = .ok (.i2l, 1))  (k : Run Y d rc rs (pc + 1) lv (.long x.toInt64 :: st) I L R T Q) : Run Y d rc rs pc lv (.int x :: st) I L R T Q := by
  intro p l e Rm s m args below meth c H locs cells slots X ls hC hR hL hl
  exact lv_i2l hC.1 hC.2.1 hd rfl (k p l e Rm s m args below meth c H locs cells slots X ls hC hR hL hl)
theorem q_l2i {Y : MI} {d rc rs pc : Nat} {lv : List (Nat × Value)} {st : List Value} {I : M32} {L : M64} {R : MR} {T : SH} {Q : QT} {x : Int64} (hd : decode Y.2.1 pc = .ok (.l2i, 1))  (k : Run Y d rc rs (pc + 1) lv (.int x.toInt32 :: st) I L R T Q) : Run Y d rc rs pc lv (.long x :: st) I L R T Q := by
  intro p l e Rm s m args below meth c H locs cells slots X ls hC hR hL hl
  exact lv_l2i hC.1 hC.2.1 hd rfl (k p l e Rm s m args below meth c H locs cells slots X ls hC hR hL hl)
theorem q_i2b {Y : MI} {d rc rs pc : Nat} {lv : List (Nat × Value)} {st : List Value} {I : M32} {L : M64} {R : MR} {T : SH} {Q : QT} {x : Int32} (hd : decode Y.2.1 pc = .ok (.i2b, 1))  (k : Run Y d rc rs (pc + 1) lv (.int x.toInt8.toInt32 :: st) I L R T Q) : Run Y d rc rs pc lv (.int x :: st) I L R T Q := by
  intro p l e Rm s m args below meth c H locs cells slots X ls hC hR hL hl
  exact lv_i2b hC.1 hC.2.1 hd rfl (k p l e Rm s m args below meth c H locs cells slots X ls hC hR hL hl)
theorem q_dup {Y : MI} {d rc rs pc : Nat} {lv : List (Nat × Value)} {st : List Value} {I : M32} {L : M64} {R : MR} {T : SH} {Q : QT} {v : Value} (hd : decode Y.2.1 pc = .ok (.dup, 1)) (hc : v.category = 1) (k : Run Y d rc rs (pc + 1) lv (v :: v :: st) I L R T Q) : Run Y d rc rs pc lv (v :: st) I L R T Q := by
  intro p l e Rm s m args below meth c H locs cells slots X ls hC hR hL hl
  exact lv_dup hC.1 hC.2.1 hd hc (k p l e Rm s m args below meth c H locs cells slots X ls hC hR hL hl)
theorem q_pop {Y : MI} {d rc rs pc : Nat} {lv : List (Nat × Value)} {st : List Value} {I : M32} {L : M64} {R : MR} {T : SH} {Q : QT} {v : Value} (hd : decode Y.2.1 pc = .ok (.pop, 1)) (hc : v.category = 1) (k : Run Y d rc rs (pc + 1) lv st I L R T Q) : Run Y d rc rs pc lv (v :: st) I L R T Q := by
  intro p l e Rm s m args below meth c H locs cells slots X ls hC hR hL hl
  exact lv_pop hC.1 hC.2.1 hd hc (k p l e Rm s m args below meth c H locs cells slots X ls hC hR hL hl)
theorem q_dup_x1 {Y : MI} {d rc rs pc : Nat} {lv : List (Nat × Value)} {st : List Value} {I : M32} {L : M64} {R : MR} {T : SH} {Q : QT} {va vb : Value} (hd : decode Y.2.1 pc = .ok (.dup_x1, 1)) (hc : va.category = 1) (hc2 : vb.category = 1) (k : Run Y d rc rs (pc + 1) lv (va :: vb :: va :: st) I L R T Q) : Run Y d rc rs pc lv (va :: vb :: st) I L R T Q := by
  intro p l e Rm s m args below meth c H locs cells slots X ls hC hR hL hl
  exact lv_dup_x1 hC.1 hC.2.1 hd hc hc2 (k p l e Rm s m args below meth c H locs cells slots X ls hC hR hL hl)
theorem q_dup2_11 {Y : MI} {d rc rs pc : Nat} {lv : List (Nat × Value)} {st : List Value} {I : M32} {L : M64} {R : MR} {T : SH} {Q : QT} {va vb : Value} (hd : decode Y.2.1 pc = .ok (.dup2, 1)) (hc : va.category = 1) (hc2 : vb.category = 1) (k : Run Y d rc rs (pc + 1) lv (va :: vb :: va :: vb :: st) I L R T Q) : Run Y d rc rs pc lv (va :: vb :: st) I L R T Q := by
  intro p l e Rm s m args below meth c H locs cells slots X ls hC hR hL hl
  exact lv_dup2_11 hC.1 hC.2.1 hd hc hc2 (k p l e Rm s m args below meth c H locs cells slots X ls hC hR hL hl)
theorem q_dup2_2 {Y : MI} {d rc rs pc : Nat} {lv : List (Nat × Value)} {st : List Value} {I : M32} {L : M64} {R : MR} {T : SH} {Q : QT} {v : Value} (hd : decode Y.2.1 pc = .ok (.dup2, 1)) (hc : v.category = 2) (k : Run Y d rc rs (pc + 1) lv (v :: v :: st) I L R T Q) : Run Y d rc rs pc lv (v :: st) I L R T Q := by
  intro p l e Rm s m args below meth c H locs cells slots X ls hC hR hL hl
  exact lv_dup2_2 hC.1 hC.2.1 hd hc (k p l e Rm s m args below meth c H locs cells slots X ls hC hR hL hl)
theorem q_if_eq {Y : MI} {d rc rs pc : Nat} {lv : List (Nat × Value)} {st : List Value} {I : M32} {L : M64} {R : MR} {T : SH} {Q : QT} {x : Int32} {off : Int} {tgt : Nat} (hd : decode Y.2.1 pc = .ok (.ifCond .eq off, 3)) (ht : (pc : Int) + off = (tgt : Int)) (kt : (x = 0) → Run Y d rc rs tgt lv st I L R T Q) (kf : ¬ (x = 0) → Run Y d rc rs (pc + 3) lv st I L R T Q) : Run Y d rc rs pc lv (.int x :: st) I L R T Q := by
  intro p l e Rm s m args below meth c H locs cells slots X ls hC hR hL hl
  exact lv_if_eq hC.1 hC.2.1 hd ht (fun hc => kt hc p l e Rm s m args below meth c H locs cells slots X ls hC hR hL hl) (fun hc => kf hc p l e Rm s m args below meth c H locs cells slots X ls hC hR hL hl)
theorem q_if_ne {Y : MI} {d rc rs pc : Nat} {lv : List (Nat × Value)} {st : List Value} {I : M32} {L : M64} {R : MR} {T : SH} {Q : QT} {x : Int32} {off : Int} {tgt : Nat} (hd : decode Y.2.1 pc = .ok (.ifCond .ne off, 3)) (ht : (pc : Int) + off = (tgt : Int)) (kt : (¬ x = 0) → Run Y d rc rs tgt lv st I L R T Q) (kf : (x = 0) → Run Y d rc rs (pc + 3) lv st I L R T Q) : Run Y d rc rs pc lv (.int x :: st) I L R T Q := by
  intro p l e Rm s m args below meth c H locs cells slots X ls hC hR hL hl
  exact lv_if_ne hC.1 hC.2.1 hd ht (fun hc => kt hc p l e Rm s m args below meth c H locs cells slots X ls hC hR hL hl) (fun hc => kf hc p l e Rm s m args below meth c H locs cells slots X ls hC hR hL hl)
theorem q_if_lt {Y : MI} {d rc rs pc : Nat} {lv : List (Nat × Value)} {st : List Value} {I : M32} {L : M64} {R : MR} {T : SH} {Q : QT} {x : Int32} {off : Int} {tgt : Nat} (hd : decode Y.2.1 pc = .ok (.ifCond .lt off, 3)) (ht : (pc : Int) + off = (tgt : Int)) (kt : (x < 0) → Run Y d rc rs tgt lv st I L R T Q) (kf : ¬ (x < 0) → Run Y d rc rs (pc + 3) lv st I L R T Q) : Run Y d rc rs pc lv (.int x :: st) I L R T Q := by
  intro p l e Rm s m args below meth c H locs cells slots X ls hC hR hL hl
  exact lv_if_lt hC.1 hC.2.1 hd ht (fun hc => kt hc p l e Rm s m args below meth c H locs cells slots X ls hC hR hL hl) (fun hc => kf hc p l e Rm s m args below meth c H locs cells slots X ls hC hR hL hl)
theorem q_if_ge {Y : MI} {d rc rs pc : Nat} {lv : List (Nat × Value)} {st : List Value} {I : M32} {L : M64} {R : MR} {T : SH} {Q : QT} {x : Int32} {off : Int} {tgt : Nat} (hd : decode Y.2.1 pc = .ok (.ifCond .ge off, 3)) (ht : (pc : Int) + off = (tgt : Int)) (kt : (0 ≤ x) → Run Y d rc rs tgt lv st I L R T Q) (kf : ¬ (0 ≤ x) → Run Y d rc rs (pc + 3) lv st I L R T Q) : Run Y d rc rs pc lv (.int x :: st) I L R T Q := by
  intro p l e Rm s m args below meth c H locs cells slots X ls hC hR hL hl
  exact lv_if_ge hC.1 hC.2.1 hd ht (fun hc => kt hc p l e Rm s m args below meth c H locs cells slots X ls hC hR hL hl) (fun hc => kf hc p l e Rm s m args below meth c H locs cells slots X ls hC hR hL hl)
theorem q_if_gt {Y : MI} {d rc rs pc : Nat} {lv : List (Nat × Value)} {st : List Value} {I : M32} {L : M64} {R : MR} {T : SH} {Q : QT} {x : Int32} {off : Int} {tgt : Nat} (hd : decode Y.2.1 pc = .ok (.ifCond .gt off, 3)) (ht : (pc : Int) + off = (tgt : Int)) (kt : (0 < x) → Run Y d rc rs tgt lv st I L R T Q) (kf : ¬ (0 < x) → Run Y d rc rs (pc + 3) lv st I L R T Q) : Run Y d rc rs pc lv (.int x :: st) I L R T Q := by
  intro p l e Rm s m args below meth c H locs cells slots X ls hC hR hL hl
  exact lv_if_gt hC.1 hC.2.1 hd ht (fun hc => kt hc p l e Rm s m args below meth c H locs cells slots X ls hC hR hL hl) (fun hc => kf hc p l e Rm s m args below meth c H locs cells slots X ls hC hR hL hl)
theorem q_if_le {Y : MI} {d rc rs pc : Nat} {lv : List (Nat × Value)} {st : List Value} {I : M32} {L : M64} {R : MR} {T : SH} {Q : QT} {x : Int32} {off : Int} {tgt : Nat} (hd : decode Y.2.1 pc = .ok (.ifCond .le off, 3)) (ht : (pc : Int) + off = (tgt : Int)) (kt : (x ≤ 0) → Run Y d rc rs tgt lv st I L R T Q) (kf : ¬ (x ≤ 0) → Run Y d rc rs (pc + 3) lv st I L R T Q) : Run Y d rc rs pc lv (.int x :: st) I L R T Q := by
  intro p l e Rm s m args below meth c H locs cells slots X ls hC hR hL hl
  exact lv_if_le hC.1 hC.2.1 hd ht (fun hc => kt hc p l e Rm s m args below meth c H locs cells slots X ls hC hR hL hl) (fun hc => kf hc p l e Rm s m args below meth c H locs cells slots X ls hC hR hL hl)
theorem q_icmp_eq {Y : MI} {d rc rs pc : Nat} {lv : List (Nat × Value)} {st : List Value} {I : M32} {L : M64} {R : MR} {T : SH} {Q : QT} {x y : Int32} {off : Int} {tgt : Nat} (hd : decode Y.2.1 pc = .ok (.if_icmp .eq off, 3)) (ht : (pc : Int) + off = (tgt : Int)) (kt : (x = y) → Run Y d rc rs tgt lv st I L R T Q) (kf : ¬ (x = y) → Run Y d rc rs (pc + 3) lv st I L R T Q) : Run Y d rc rs pc lv (.int y :: .int x :: st) I L R T Q := by
  intro p l e Rm s m args below meth c H locs cells slots X ls hC hR hL hl
  exact lv_icmp_eq hC.1 hC.2.1 hd ht (fun hc => kt hc p l e Rm s m args below meth c H locs cells slots X ls hC hR hL hl) (fun hc => kf hc p l e Rm s m args below meth c H locs cells slots X ls hC hR hL hl)
theorem q_icmp_ne {Y : MI} {d rc rs pc : Nat} {lv : List (Nat × Value)} {st : List Value} {I : M32} {L : M64} {R : MR} {T : SH} {Q : QT} {x y : Int32} {off : Int} {tgt : Nat} (hd : decode Y.2.1 pc = .ok (.if_icmp .ne off, 3)) (ht : (pc : Int) + off = (tgt : Int)) (kt : (¬ x = y) → Run Y d rc rs tgt lv st I L R T Q) (kf : (x = y) → Run Y d rc rs (pc + 3) lv st I L R T Q) : Run Y d rc rs pc lv (.int y :: .int x :: st) I L R T Q := by
  intro p l e Rm s m args below meth c H locs cells slots X ls hC hR hL hl
  exact lv_icmp_ne hC.1 hC.2.1 hd ht (fun hc => kt hc p l e Rm s m args below meth c H locs cells slots X ls hC hR hL hl) (fun hc => kf hc p l e Rm s m args below meth c H locs cells slots X ls hC hR hL hl)
theorem q_icmp_lt {Y : MI} {d rc rs pc : Nat} {lv : List (Nat × Value)} {st : List Value} {I : M32} {L : M64} {R : MR} {T : SH} {Q : QT} {x y : Int32} {off : Int} {tgt : Nat} (hd : decode Y.2.1 pc = .ok (.if_icmp .lt off, 3)) (ht : (pc : Int) + off = (tgt : Int)) (kt : (x < y) → Run Y d rc rs tgt lv st I L R T Q) (kf : ¬ (x < y) → Run Y d rc rs (pc + 3) lv st I L R T Q) : Run Y d rc rs pc lv (.int y :: .int x :: st) I L R T Q := by
  intro p l e Rm s m args below meth c H locs cells slots X ls hC hR hL hl
  exact lv_icmp_lt hC.1 hC.2.1 hd ht (fun hc => kt hc p l e Rm s m args below meth c H locs cells slots X ls hC hR hL hl) (fun hc => kf hc p l e Rm s m args below meth c H locs cells slots X ls hC hR hL hl)
theorem q_icmp_ge {Y : MI} {d rc rs pc : Nat} {lv : List (Nat × Value)} {st : List Value} {I : M32} {L : M64} {R : MR} {T : SH} {Q : QT} {x y : Int32} {off : Int} {tgt : Nat} (hd : decode Y.2.1 pc = .ok (.if_icmp .ge off, 3)) (ht : (pc : Int) + off = (tgt : Int)) (kt : (y ≤ x) → Run Y d rc rs tgt lv st I L R T Q) (kf : ¬ (y ≤ x) → Run Y d rc rs (pc + 3) lv st I L R T Q) : Run Y d rc rs pc lv (.int y :: .int x :: st) I L R T Q := by
  intro p l e Rm s m args below meth c H locs cells slots X ls hC hR hL hl
  exact lv_icmp_ge hC.1 hC.2.1 hd ht (fun hc => kt hc p l e Rm s m args below meth c H locs cells slots X ls hC hR hL hl) (fun hc => kf hc p l e Rm s m args below meth c H locs cells slots X ls hC hR hL hl)
theorem q_icmp_gt {Y : MI} {d rc rs pc : Nat} {lv : List (Nat × Value)} {st : List Value} {I : M32} {L : M64} {R : MR} {T : SH} {Q : QT} {x y : Int32} {off : Int} {tgt : Nat} (hd : decode Y.2.1 pc = .ok (.if_icmp .gt off, 3)) (ht : (pc : Int) + off = (tgt : Int)) (kt : (y < x) → Run Y d rc rs tgt lv st I L R T Q) (kf : ¬ (y < x) → Run Y d rc rs (pc + 3) lv st I L R T Q) : Run Y d rc rs pc lv (.int y :: .int x :: st) I L R T Q := by
  intro p l e Rm s m args below meth c H locs cells slots X ls hC hR hL hl
  exact lv_icmp_gt hC.1 hC.2.1 hd ht (fun hc => kt hc p l e Rm s m args below meth c H locs cells slots X ls hC hR hL hl) (fun hc => kf hc p l e Rm s m args below meth c H locs cells slots X ls hC hR hL hl)
theorem q_icmp_le {Y : MI} {d rc rs pc : Nat} {lv : List (Nat × Value)} {st : List Value} {I : M32} {L : M64} {R : MR} {T : SH} {Q : QT} {x y : Int32} {off : Int} {tgt : Nat} (hd : decode Y.2.1 pc = .ok (.if_icmp .le off, 3)) (ht : (pc : Int) + off = (tgt : Int)) (kt : (x ≤ y) → Run Y d rc rs tgt lv st I L R T Q) (kf : ¬ (x ≤ y) → Run Y d rc rs (pc + 3) lv st I L R T Q) : Run Y d rc rs pc lv (.int y :: .int x :: st) I L R T Q := by
  intro p l e Rm s m args below meth c H locs cells slots X ls hC hR hL hl
  exact lv_icmp_le hC.1 hC.2.1 hd ht (fun hc => kt hc p l e Rm s m args below meth c H locs cells slots X ls hC hR hL hl) (fun hc => kf hc p l e Rm s m args below meth c H locs cells slots X ls hC hR hL hl)
theorem q_goto {Y : MI} {d rc rs pc : Nat} {lv : List (Nat × Value)} {st : List Value} {I : M32} {L : M64} {R : MR} {T : SH} {Q : QT} {off : Int} {tgt : Nat} (hd : decode Y.2.1 pc = .ok (.goto off, 3)) (ht : (pc : Int) + off = (tgt : Int)) (k : Run Y d rc rs tgt lv st I L R T Q) : Run Y d rc rs pc lv st I L R T Q := by
  intro p l e Rm s m args below meth c H locs cells slots X ls hC hR hL hl
  exact lv_goto hC.1 hC.2.1 hd ht (k p l e Rm s m args below meth c H locs cells slots X ls hC hR hL hl)
