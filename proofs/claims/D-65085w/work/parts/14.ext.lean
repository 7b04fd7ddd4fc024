/-! ===== 14: what lies outside: statics, String constants, class objects; switches, casts, athrow, arraycopy ===== -/
section
variable {Y : MI} {d rc rs pc : Nat} {lv : List (Nat × Value)} {st : List Value} {I : M32} {L : M64} {R : MR} {T : SH} {Q : QT}
theorem Rel.out {X : GX} {U : State} {H : Heap} (h : Rel X U I L R T H) : ∀ a : Nat, a < X.2.2.heap.size → ¬ X.2.1 ≤ a → H[a]? = X.2.2.heap[a]? := fun a _ h2 => h.2.2.1 a (Nat.lt_of_not_le h2)
theorem Rel.stat {X : GX} {U : State} {H : Heap} {C n D : String} {v : Value} (h : Rel X U I L R T H) (hW : X.2.2.WarmedH U.vm) (hz : va_Z C n D v (fun a => X.2.1 ≤ a) X.2.2 X.2.2.heap) : va_Z C n D v (fun a => X.2.1 ≤ a) U H :=
  va_Z.kept (va_Z.moved hW.alike hz) h.out
theorem q_getsV {idx : Nat} {C n D : String} {v : Value} (hd : decode Y.2.1 pc = .ok (.getstatic idx, 3)) (hw : Cond.fieldLink Y.1 idx C n D ∈ lw_tbl) (hv : ∀ (X : GX), ExtZ X.2.1 X.2.2 (R 0) → va_Z C n D v (fun a => X.2.1 ≤ a) X.2.2 X.2.2.heap)
    (kk : Run Y d rc rs (pc + 3) lv (v :: st) I L R T Q) : Run Y d rc rs pc lv st I L R T Q := by
  intro p l e Rm s m args below meth c H locs cells slots X ls hC hR hL hl
  have hKT := hC.2.2.2.2.2.2.2.2.1
  obtain ⟨cf, kf, fi, f, a, cell, h1, h2, h3, h4, h5, h6, h7, h8⟩ := hR.stat hC.2.2.2.2.2.2.2.2.2.2.2.2.2 (hv X hR.2.2.2.2)
  exact W.gets hC.1 hC.2.1 hC.2.2.2.2.2.1 (hKT.use hw rfl) h1 h2 h3 h4 h5 (fun e => by rw [e] at h6; cases h6) h7 rfl hd (kk p l e Rm s m args below meth c H locs cells slots X ls hC hR hL hl)
theorem q_gets {idx k : Nat} {C n D : String} (hd : decode Y.2.1 pc = .ok (.getstatic idx, 3)) (hw : Cond.fieldLink Y.1 idx C n D ∈ lw_tbl) (hq : (C, n, D, k) ∈ xst) (kk : Run Y d rc rs (pc + 3) lv (va_rf (R 0 k) :: st) I L R T Q) : Run Y d rc rs pc lv st I L R T Q :=
  q_getsV hd hw (fun X h => h.2.2.2.1 _ hq) kk
theorem q_compact {idx : Nat} (hd : decode Y.2.1 pc = .ok (.getstatic idx, 3)) (hw : Cond.fieldLink Y.1 idx "java/lang/String" "COMPACT_STRINGS" "Z" ∈ lw_tbl) (kk : Run Y d rc rs (pc + 3) lv (.int (cI 1) :: st) I L R T Q) : Run Y d rc rs pc lv st I L R T Q :=
  q_getsV hd hw (fun X h => h.2.2.2.2.1) kk
theorem q_ldcS {idx i a : Nat} {tx : String} (hd : decode Y.2.1 pc = .ok (.ldc idx, 2)) (hi : xsc[i]? = some (Y.1, idx, tx)) (ha : R 0 (10 + i) = some a) (kk : Run Y d rc rs (pc + 2) lv (.ref a :: st) I L R T Q) : Run Y d rc rs pc lv st I L R T Q := by
  intro p l e Rm s m args below meth c H locs cells slots X ls hC hR hL hl
  obtain ⟨a', g1, g2, -⟩ := hR.2.2.2.2.2.2.2.2.2.2 i _ hi
  cases ha.symm.trans g1
  exact va_ldcS hC.1 hC.2.1 hC.2.2.2.2.2.1 (vk_R.warm hC.2.2.2.2.2.2.2.2.2.2.2.2.2 g2) hd (kk p l e Rm s m args below meth c H locs cells slots X ls hC hR hL hl)
theorem va_OF.keepH {o n D : String} {v : Value} {t : Nat} {A : Nat → Prop} {U : State} {H H1 : Heap} (h : va_OF o n D v t A U H) (hq : ∀ a : Nat, a < H.size → ¬ A a → H1[a]? = H[a]?) : va_OF o n D v t A U H1 := va_OF.kept h hq
/-- a field of a String constant -/
theorem q_strF {idx i a : Nat} {r : String × Nat × String} {n D : String} {v : Value} (hd : decode Y.2.1 pc = .ok (.getfield idx, 3)) (hw : Cond.fieldLink Y.1 idx "java/lang/String" n D ∈ lw_tbl) (hi : xsc[i]? = some r) (ha : R 0 (10 + i) = some a)
    (hv : (n = "coder" ∧ D = "B" ∧ v = .int (cI 0)) ∨ (n = "value" ∧ D = "[B" ∧ v = va_rf (R 0 (20 + i)))) (kk : Run Y d rc rs (pc + 3) lv (v :: st) I L R T Q) : Run Y d rc rs pc lv (.ref a :: st) I L R T Q := by
  intro p l e Rm s m args below meth c H locs cells slots X ls hC hR hL hl
  have hKT := hC.2.2.2.2.2.2.2.2.1
  have hZ := hC.2.2.2.2.2.2.2.2.2.2.2.2.2
  obtain ⟨a', g1, g2, g3, g4, g5⟩ := hR.2.2.2.2.2.2.2.2.2.2 i _ hi
  cases ha.symm.trans g1
  have hof : va_OF "java/lang/String" n D v a (fun q => X.2.1 ≤ q) s H := by
    rcases hv with ⟨rfl, rfl, rfl⟩ | ⟨rfl, rfl, rfl⟩
    · exact va_OF.kept (va_OF.moved hZ.alike g4) hR.out
    · exact va_OF.kept (va_OF.moved hZ.alike g5) hR.out
  obtain ⟨cf, k, fi, f, cell, h1, h2, h3, h4, h5, h6⟩ := hof
  exact W.getf hC.1 hC.2.1 hC.2.2.2.2.2.1 (hKT.use hw rfl) h1 h2 h3 h4 (v := v) h5 rfl rfl hd (kk p l e Rm s m args below meth c H locs cells slots X ls hC hR hL hl)
/-- a call on a String constant -/
theorem q_callVS {idx n i : Nat} {Z : MI} {y : MethodName} {dd mc ms : Nat} {b : Nat} {as rest : List Value} {r : String × Nat × String} {Qc : QT} (hd : decode Y.2.1 pc = .ok (.invokevirtual idx, 3)) (ml : MLk Y.1 idx y) (ok : OkV Z y n) (hc : y.cls = "java/lang/String") (hi : xsc[i]? = some r) (ha : R 0 (10 + i) = some b) (hcall : Call Z y dd mc ms (.ref b :: as) I L R T Qc) (hn : as.length = n) (hst : st = as.reverse ++ .ref b :: rest) (hdd : dd + 1 ≤ d) (hw : (rest.map fun v => v.category).sum ≤ 16)
    (kr : ∀ v I' L' R' T', Qc (.returned v) I' L' R' T' → Run Y d rc rs (pc + 3) lv (v.toList ++ rest) I' L' R' T' Q)
    (kt : ∀ x I' L' R' T', Qc (.threw x) I' L' R' T' → Thr Y d rc rs pc lv x I' L' R' T' Q) : Run Y d (rc + mc) (rs + ms) pc lv st I L R T Q := by
  obtain ⟨⟨h1, h2, h3, h4, h5⟩, h6, h7⟩ := ok
  refine q_callG hd hcall hdd h1 h2 h3 hw ?_ kr kt
  intro p l e Rm s m args below meth c U locs cells slots X ls hC hR S
  have hKT := hC.2.2.2.2.2.2.2.2.1
  have hZ := hC.2.2.2.2.2.2.2.2.2.2.2.2.2
  obtain ⟨a', g1, g2, g3, -⟩ := hR.2.2.2.2.2.2.2.2.2.2 i _ hi
  cases ha.symm.trans g1
  obtain ⟨cell, k1, k2, k3, -⟩ := va_O.kept (va_O.moved hZ.alike g3) hR.out
  refine linkV (C := y.cls) S hC.1 hC.2.2.2.2.2.1 ?_ (hKT.use h6 rfl) (hKT.use h7 rfl) (hKT.use (a := args) h1 ?_) h4 k1 k2 (by rw [hc]; exact k3) rfl (len_of h5 hn) (by show st = _; exact hst) (by rw [hC.2.1]; exact hd)
  · rcases ml with ml | ⟨host, ml⟩
    · exact Or.inl (hKT.use ml rfl)
    · exact Or.inr ⟨host, hKT.use ml rfl⟩
  · obtain ⟨own, cc, nL, ret, nm, hh⟩ := Z
    cases hh <;> rfl
theorem q_ldcM {idx mi : Nat} (hd : decode Y.2.1 pc = .ok (.ldc idx, 2)) (hw : Cond.classLink Y.1 idx "[Ljava/lang/Object;" ∈ lw_tbl) (hm : R 0 4 = some mi) (kk : Run Y d rc rs (pc + 2) lv (.ref mi :: st) I L R T Q) : Run Y d rc rs pc lv st I L R T Q := by
  intro p l e Rm s m args below meth c H locs cells slots X ls hC hR hL hl
  obtain ⟨mi', g1, g2⟩ := hR.2.2.2.2.2.2.2.2.2.1
  cases hm.symm.trans g1
  exact va_ldcM hC.1 hC.2.1 hC.2.2.2.2.2.1 (hC.2.2.2.2.2.2.2.2.1.use hw rfl) (va_Mi.moved hC.2.2.2.2.2.2.2.2.2.2.2.2.2.alike g2) hd (kk p l e Rm s m args below meth c H locs cells slots X ls hC hR hL hl)
abbrev y_getClass : MethodName := ⟨"java/lang/Object", "getClass", "()Ljava/lang/Class;"⟩
theorem q_getC {idx mi a : Nat} (hd : decode Y.2.1 pc = .ok (.invokevirtual idx, 3)) (hw : Cond.methodLink Y.1 idx y_getClass ∈ lw_tbl) (h1 : Cond.declares y_getClass ∈ lw_tbl) (h2 : Cond.selects "[Ljava/lang/Object;" y_getClass y_getClass ∈ lw_tbl) (h3 : Cond.instanceMethod y_getClass ∈ lw_tbl) (h4 : Cond.native y_getClass ∈ lw_tbl)
    (ht : T.1 a = 68) (hm : R 0 4 = some mi) (hd1 : 1 ≤ d) (hst : (st.map fun v => v.category).sum ≤ 8) (kk : Run Y d rc rs (pc + 3) lv (.ref mi :: st) I L R T Q) : Run Y d rc rs pc lv (.ref a :: st) I L R T Q := by
  intro p l e Rm s m args below meth c H locs cells slots X ls hC hR hL hl
  have hKT := hC.2.2.2.2.2.2.2.2.1
  have hrm1 := hC.2.2.2.2.2.2.2.2.2.2.1
  obtain ⟨mi', g1, g2⟩ := hR.2.2.2.2.2.2.2.2.2.1
  cases hm.symm.trans g1
  obtain ⟨hb, cA, k1, k2, k3⟩ := hR.arr (t := 4) ht (by decide)
  exact va_getC hC.1 hC.2.1 (by rw [hl.1, hC.2.2.1]) hC.2.2.2.2.2.1 (hKT.use hw rfl) (hKT.use h1 rfl) (hKT.use h2 rfl) (hKT.use h3 rfl) (hKT.use h4 rfl) (va_Mi.moved hC.2.2.2.2.2.2.2.2.2.2.2.2.2.alike g2) ⟨_, k3, rfl, va_nmO k2 rfl⟩ (by omega) (by omega) hd (kk p l e Rm s m args below meth c H locs cells slots X ls hC hR hL hl)
/-- a cast to the object's own class -/
theorem q_cast {idx a ci : Nat} {C : String} {F : u_T} {N : Nat} (hd : decode Y.2.1 pc = .ok (.checkcast idx, 3)) (hw : Cond.classLink Y.1 idx C ∈ lw_tbl) (hk : kc[ci]? = some (C, F, N)) (ht : T.1 a = ci + 1) (hci : ci < 63) (kk : Run Y d rc rs (pc + 3) lv (.ref a :: st) I L R T Q) : Run Y d rc rs pc lv (.ref a :: st) I L R T Q := by
  intro p l e Rm s m args below meth c H locs cells slots X ls hC hR hL hl
  obtain ⟨cell, h1, h2, h3⟩ := exc_cell hR hC.2.2.2.2.2.2.2.2.2.1 ht hci
  obtain ⟨-, r, hr, cell', g1, g2, g3, -⟩ := hR.obj ht hci
  cases h1.symm.trans g1
  exact va_castE hC.1 hC.2.1 hC.2.2.2.2.2.1 (hC.2.2.2.2.2.2.2.2.1.use hw rfl) ⟨cell, h1, by rw [g3]; rfl, (h3 C F N hk).1⟩ hd (kk p l e Rm s m args below meth c H locs cells slots X ls hC hR hL hl)
theorem q_acmp_eq {rx ry : Option Nat} {off : Int} {tgt : Nat} (hd : decode Y.2.1 pc = .ok (.if_acmp .eq off, 3)) (ht : (pc : Int) + off = (tgt : Int)) (kt : rx = ry → Run Y d rc rs tgt lv st I L R T Q) (kf : ¬ rx = ry → Run Y d rc rs (pc + 3) lv st I L R T Q) : Run Y d rc rs pc lv (va_rf ry :: va_rf rx :: st) I L R T Q := by
  intro p l e Rm s m args below meth c H locs cells slots X ls hC hR hL hl
  exact lv_acmp_eq hC.1 hC.2.1 hd ht (fun h => kt h p l e Rm s m args below meth c H locs cells slots X ls hC hR hL hl) (fun h => kf h p l e Rm s m args below meth c H locs cells slots X ls hC hR hL hl)
theorem q_acmp_ne {rx ry : Option Nat} {off : Int} {tgt : Nat} (hd : decode Y.2.1 pc = .ok (.if_acmp .ne off, 3)) (ht : (pc : Int) + off = (tgt : Int)) (kt : ¬ rx = ry → Run Y d rc rs tgt lv st I L R T Q) (kf : rx = ry → Run Y d rc rs (pc + 3) lv st I L R T Q) : Run Y d rc rs pc lv (va_rf ry :: va_rf rx :: st) I L R T Q := by
  intro p l e Rm s m args below meth c H locs cells slots X ls hC hR hL hl
  refine lv_acmp_ne hC.1 hC.2.1 hd ht (fun h => ?_) (fun h => ?_)
  · exact kt h p l e Rm s m args below meth c H locs cells slots X ls hC hR hL hl
  · exact kf (by simpa using h) p l e Rm s m args below meth c H locs cells slots X ls hC hR hL hl
theorem q_i2c {x v : Int32} (hd : decode Y.2.1 pc = .ok (.i2c, 1)) (hv : (x.toUInt32 % 65536).toInt32 = v) (k : Run Y d rc rs (pc + 1) lv (.int v :: st) I L R T Q) : Run Y d rc rs pc lv (.int x :: st) I L R T Q := by
  intro p l e Rm s m args below meth c H locs cells slots X ls hC hR hL hl
  exact lv_i2c hC.1 hC.2.1 hd hv (k p l e Rm s m args below meth c H locs cells slots X ls hC hR hL hl)
/-! switches -/
theorem j_tableIn {z k : Int} {dflt lo hi : Int} {offs : Array Int} {len : Nat} {off : Int} {tgt : Nat} (hd : decode Y.2.1 pc = .ok (.tableswitch dflt lo hi offs, len)) (hz : z = k) (hr : -2147483648 ≤ k ∧ k ≤ 2147483647 ∧ lo ≤ k ∧ k ≤ hi) (ho : offs[(k - lo).toNat]? = some off) (ht : (pc : Int) + off = (tgt : Int))
    (kk : Run Y d rc rs tgt lv st I L R T Q) : Run Y d rc rs pc lv (.int (cI z) :: st) I L R T Q := by
  intro p l e Rm s m args below meth c H locs cells slots X ls hC hR hL hl
  subst hz
  have e1 : (cI z).toInt = z := t_cI (by omega)
  exact lv_tableIn hC.1 hC.2.1 hd (by rw [e1]; omega) (by rw [e1]; omega) (by rw [e1]; exact ho) ht (kk p l e Rm s m args below meth c H locs cells slots X ls hC hR hL hl)
theorem j_tableOut {z : Int} {dflt lo hi : Int} {offs : Array Int} {len : Nat} {tgt : Nat} (hd : decode Y.2.1 pc = .ok (.tableswitch dflt lo hi offs, len)) (hr : -2147483648 ≤ z ∧ z ≤ 2147483647) (hz : z < lo ∨ hi < z) (ht : (pc : Int) + dflt = (tgt : Int))
    (kk : Run Y d rc rs tgt lv st I L R T Q) : Run Y d rc rs pc lv (.int (cI z) :: st) I L R T Q := by
  intro p l e Rm s m args below meth c H locs cells slots X ls hC hR hL hl
  have e1 : (cI z).toInt = z := t_cI hr
  exact lv_tableOut hC.1 hC.2.1 hd (by rw [e1]; exact hz) ht (kk p l e Rm s m args below meth c H locs cells slots X ls hC hR hL hl)
theorem j_lookup {z : Int} {dflt : Int} {ps : Array (Int × Int)} {len : Nat} {off : Int} {tgt : Nat} (hd : decode Y.2.1 pc = .ok (.lookupswitch dflt ps, len)) (hr : -2147483648 ≤ z ∧ z ≤ 2147483647) (hp : (ps.toList.zip (ps.toList.drop 1)).all (fun (a, next) => a.1 < next.1) = true) (ho : Op.lookupswitch.offset ps.toList dflt z = off) (ht : (pc : Int) + off = (tgt : Int))
    (kk : Run Y d rc rs tgt lv st I L R T Q) : Run Y d rc rs pc lv (.int (cI z) :: st) I L R T Q := by
  intro p l e Rm s m args below meth c H locs cells slots X ls hC hR hL hl
  have e1 : (cI z).toInt = z := t_cI hr
  exact lv_lookup hC.1 hC.2.1 hd hp (by rw [e1]; exact ho) ht (kk p l e Rm s m args below meth c H locs cells slots X ls hC hR hL hl)
/-! loads from arrays of the outside -/
theorem q_ialdX {a : Nat} {i : Int32} (hd : decode Y.2.1 pc = .ok (.iaload, 1)) (ht : T.1 a = 84) (hi : inB i (T.2.1 a)) (kk : Run Y d rc rs (pc + 1) lv (.int (I a i.toNatClampNeg) :: st) I L R T Q) : Run Y d rc rs pc lv (.int i :: .ref a :: st) I L R T Q := by
  intro p l e Rm s m args below meth c H locs cells slots X ls hC hR hL hl
  obtain ⟨cell, g1, g2, g3, g4, g5, g6, -⟩ := hR.ro ht (by decide)
  exact W.iald hC.1 hC.2.1 g1 g2 g3 (fun q => hi (q.imp id fun q => by omega)) (g6 _ (inB_lt hi)) rfl rfl hd (kk p l e Rm s m args below meth c H locs cells slots X ls hC hR hL hl)
theorem q_baldX {a : Nat} {i : Int32} (hd : decode Y.2.1 pc = .ok (.baload, 1)) (ht : T.1 a = 85) (hi : inB i (T.2.1 a)) (kk : Run Y d rc rs (pc + 1) lv (.int (I a i.toNatClampNeg) :: st) I L R T Q) : Run Y d rc rs pc lv (.int i :: .ref a :: st) I L R T Q := by
  intro p l e Rm s m args below meth c H locs cells slots X ls hC hR hL hl
  obtain ⟨cell, g1, g2, g3, g4, g5, g6, -⟩ := hR.ro ht (by decide)
  exact W.bald hC.1 hC.2.1 g1 g2 g3 (fun q => hi (q.imp id fun q => by omega)) (g6 _ (inB_lt hi)) rfl rfl hd (kk p l e Rm s m args below meth c H locs cells slots X ls hC hR hL hl)
/-! a throw out of the code -/
theorem q_athrow {x : Nat} (hd : decode Y.2.1 pc = .ok (.athrow, 1)) (k : Thr Y d rc rs pc lv x I L R T Q) : Run Y d rc rs pc lv (.ref x :: st) I L R T Q := by
  intro p l e Rm s m args below meth c H locs cells slots X ls hC hR hL hl U hU S
  obtain ⟨t, a1, b1⟩ := k p l e Rm s m args below meth c H locs cells slots X ls st hC hR hL hl U hU S
  refine ⟨t, ?_, b1⟩
  have hdg : decode c.code (F0 m pc ls (.ref x :: st)).pc = .ok (.athrow, 1) := by rw [hC.2.1]; exact hd
  jvm_step S.here [hC.1, hdg, athrow.wp_sem]
  exact a1
end
