/-! ===== 92 THE COMPONENT'S READER: the action of a case ===== -/
theorem d_Nodes_action_0 : decode m_Nodes_action.2.1 0 = .ok (.aload_n 0, 1) := by decide +kernel
theorem d_Nodes_action_1 : decode m_Nodes_action.2.1 1 = .ok (.getfield 3, 3) := by decide +kernel
theorem d_Nodes_action_4 : decode m_Nodes_action.2.1 4 = .ok (.getfield 83, 3) := by decide +kernel
theorem d_Nodes_action_7 : decode m_Nodes_action.2.1 7 = .ok (.getfield 100, 3) := by decide +kernel
theorem d_Nodes_action_10 : decode m_Nodes_action.2.1 10 = .ok (.istore_n 3, 1) := by decide +kernel
theorem d_Nodes_action_11 : decode m_Nodes_action.2.1 11 = .ok (.iload_n 3, 1) := by decide +kernel
theorem d_Nodes_action_12 : decode m_Nodes_action.2.1 12 = .ok (.bipush 107, 2) := by decide +kernel
theorem d_Nodes_action_14 : decode m_Nodes_action.2.1 14 = .ok (.if_icmp .ne 14, 3) := by decide +kernel
theorem d_Nodes_action_17 : decode m_Nodes_action.2.1 17 = .ok (.aload_n 0, 1) := by decide +kernel
theorem d_Nodes_action_18 : decode m_Nodes_action.2.1 18 = .ok (.getfield 3, 3) := by decide +kernel
theorem d_Nodes_action_21 : decode m_Nodes_action.2.1 21 = .ok (.getfield 83, 3) := by decide +kernel
theorem d_Nodes_action_24 : decode m_Nodes_action.2.1 24 = .ok (.iconst 3, 1) := by decide +kernel
theorem d_Nodes_action_25 : decode m_Nodes_action.2.1 25 = .ok (.invokevirtual 87, 3) := by decide +kernel
theorem d_Nodes_action_28 : decode m_Nodes_action.2.1 28 = .ok (.iload_n 3, 1) := by decide +kernel
theorem d_Nodes_action_29 : decode m_Nodes_action.2.1 29 = .ok (.bipush 7, 2) := by decide +kernel
theorem d_Nodes_action_31 : decode m_Nodes_action.2.1 31 = .ok (.if_icmp .eq 26, 3) := by decide +kernel
theorem d_Nodes_action_34 : decode m_Nodes_action.2.1 34 = .ok (.iload_n 3, 1) := by decide +kernel
theorem d_Nodes_action_35 : decode m_Nodes_action.2.1 35 = .ok (.bipush 8, 2) := by decide +kernel
theorem d_Nodes_action_37 : decode m_Nodes_action.2.1 37 = .ok (.if_icmp .eq 20, 3) := by decide +kernel
theorem d_Nodes_action_40 : decode m_Nodes_action.2.1 40 = .ok (.iload_n 3, 1) := by decide +kernel
theorem d_Nodes_action_41 : decode m_Nodes_action.2.1 41 = .ok (.bipush 9, 2) := by decide +kernel
theorem d_Nodes_action_43 : decode m_Nodes_action.2.1 43 = .ok (.if_icmp .eq 14, 3) := by decide +kernel
theorem d_Nodes_action_46 : decode m_Nodes_action.2.1 46 = .ok (.aload_n 0, 1) := by decide +kernel
theorem d_Nodes_action_47 : decode m_Nodes_action.2.1 47 = .ok (.getfield 3, 3) := by decide +kernel
theorem d_Nodes_action_50 : decode m_Nodes_action.2.1 50 = .ok (.getfield 83, 3) := by decide +kernel
theorem d_Nodes_action_53 : decode m_Nodes_action.2.1 53 = .ok (.iconst 4, 1) := by decide +kernel
theorem d_Nodes_action_54 : decode m_Nodes_action.2.1 54 = .ok (.invokevirtual 87, 3) := by decide +kernel
theorem d_Nodes_action_57 : decode m_Nodes_action.2.1 57 = .ok (.aload_n 0, 1) := by decide +kernel
theorem d_Nodes_action_58 : decode m_Nodes_action.2.1 58 = .ok (.getfield 25, 3) := by decide +kernel
theorem d_Nodes_action_61 : decode m_Nodes_action.2.1 61 = .ok (.iload_n 1, 1) := by decide +kernel
theorem d_Nodes_action_62 : decode m_Nodes_action.2.1 62 = .ok (.iload_n 3, 1) := by decide +kernel
theorem d_Nodes_action_63 : decode m_Nodes_action.2.1 63 = .ok (.iastore, 1) := by decide +kernel
theorem d_Nodes_action_64 : decode m_Nodes_action.2.1 64 = .ok (.aload_n 0, 1) := by decide +kernel
theorem d_Nodes_action_65 : decode m_Nodes_action.2.1 65 = .ok (.getfield 3, 3) := by decide +kernel
theorem d_Nodes_action_68 : decode m_Nodes_action.2.1 68 = .ok (.getfield 83, 3) := by decide +kernel
theorem d_Nodes_action_71 : decode m_Nodes_action.2.1 71 = .ok (.invokevirtual 103, 3) := by decide +kernel
theorem d_Nodes_action_74 : decode m_Nodes_action.2.1 74 = .ok (.iload_n 3, 1) := by decide +kernel
theorem d_Nodes_action_75 : decode m_Nodes_action.2.1 75 = .ok (.bipush 9, 2) := by decide +kernel
theorem d_Nodes_action_77 : decode m_Nodes_action.2.1 77 = .ok (.if_icmp .ne 17, 3) := by decide +kernel
theorem d_Nodes_action_80 : decode m_Nodes_action.2.1 80 = .ok (.aload_n 0, 1) := by decide +kernel
theorem d_Nodes_action_81 : decode m_Nodes_action.2.1 81 = .ok (.getfield 19, 3) := by decide +kernel
theorem d_Nodes_action_84 : decode m_Nodes_action.2.1 84 = .ok (.iload_n 1, 1) := by decide +kernel
theorem d_Nodes_action_85 : decode m_Nodes_action.2.1 85 = .ok (.aload_n 0, 1) := by decide +kernel
theorem d_Nodes_action_86 : decode m_Nodes_action.2.1 86 = .ok (.iload_n 2, 1) := by decide +kernel
theorem d_Nodes_action_87 : decode m_Nodes_action.2.1 87 = .ok (.iconst 1, 1) := by decide +kernel
theorem d_Nodes_action_88 : decode m_Nodes_action.2.1 88 = .ok (.iadd, 1) := by decide +kernel
theorem d_Nodes_action_89 : decode m_Nodes_action.2.1 89 = .ok (.invokevirtual 119, 3) := by decide +kernel
theorem d_Nodes_action_92 : decode m_Nodes_action.2.1 92 = .ok (.iastore, 1) := by decide +kernel
theorem d_Nodes_action_93 : decode m_Nodes_action.2.1 93 = .ok (.return_, 1) := by decide +kernel
theorem d_Nodes_action_94 : decode m_Nodes_action.2.1 94 = .ok (.aload_n 0, 1) := by decide +kernel
theorem d_Nodes_action_95 : decode m_Nodes_action.2.1 95 = .ok (.getfield 37, 3) := by decide +kernel
theorem d_Nodes_action_98 : decode m_Nodes_action.2.1 98 = .ok (.iload_n 1, 1) := by decide +kernel
theorem d_Nodes_action_99 : decode m_Nodes_action.2.1 99 = .ok (.aload_n 0, 1) := by decide +kernel
theorem d_Nodes_action_100 : decode m_Nodes_action.2.1 100 = .ok (.getfield 3, 3) := by decide +kernel
theorem d_Nodes_action_103 : decode m_Nodes_action.2.1 103 = .ok (.getfield 83, 3) := by decide +kernel
theorem d_Nodes_action_106 : decode m_Nodes_action.2.1 106 = .ok (.invokevirtual 125, 3) := by decide +kernel
theorem d_Nodes_action_109 : decode m_Nodes_action.2.1 109 = .ok (.lastore, 1) := by decide +kernel
theorem d_Nodes_action_110 : decode m_Nodes_action.2.1 110 = .ok (.aload_n 0, 1) := by decide +kernel
theorem d_Nodes_action_111 : decode m_Nodes_action.2.1 111 = .ok (.getfield 41, 3) := by decide +kernel
theorem d_Nodes_action_114 : decode m_Nodes_action.2.1 114 = .ok (.iload_n 1, 1) := by decide +kernel
theorem d_Nodes_action_115 : decode m_Nodes_action.2.1 115 = .ok (.aload_n 0, 1) := by decide +kernel
theorem d_Nodes_action_116 : decode m_Nodes_action.2.1 116 = .ok (.getfield 3, 3) := by decide +kernel
theorem d_Nodes_action_119 : decode m_Nodes_action.2.1 119 = .ok (.getfield 83, 3) := by decide +kernel
theorem d_Nodes_action_122 : decode m_Nodes_action.2.1 122 = .ok (.invokevirtual 125, 3) := by decide +kernel
theorem d_Nodes_action_125 : decode m_Nodes_action.2.1 125 = .ok (.lastore, 1) := by decide +kernel
theorem d_Nodes_action_126 : decode m_Nodes_action.2.1 126 = .ok (.iload_n 3, 1) := by decide +kernel
theorem d_Nodes_action_127 : decode m_Nodes_action.2.1 127 = .ok (.bipush 7, 2) := by decide +kernel
theorem d_Nodes_action_129 : decode m_Nodes_action.2.1 129 = .ok (.if_icmp .ne 33, 3) := by decide +kernel
theorem d_Nodes_action_132 : decode m_Nodes_action.2.1 132 = .ok (.aload_n 0, 1) := by decide +kernel
theorem d_Nodes_action_133 : decode m_Nodes_action.2.1 133 = .ok (.getfield 44, 3) := by decide +kernel
theorem d_Nodes_action_136 : decode m_Nodes_action.2.1 136 = .ok (.iload_n 1, 1) := by decide +kernel
theorem d_Nodes_action_137 : decode m_Nodes_action.2.1 137 = .ok (.aload_n 0, 1) := by decide +kernel
theorem d_Nodes_action_138 : decode m_Nodes_action.2.1 138 = .ok (.getfield 3, 3) := by decide +kernel
theorem d_Nodes_action_141 : decode m_Nodes_action.2.1 141 = .ok (.getfield 83, 3) := by decide +kernel
theorem d_Nodes_action_144 : decode m_Nodes_action.2.1 144 = .ok (.invokevirtual 125, 3) := by decide +kernel
theorem d_Nodes_action_147 : decode m_Nodes_action.2.1 147 = .ok (.lastore, 1) := by decide +kernel
theorem d_Nodes_action_148 : decode m_Nodes_action.2.1 148 = .ok (.aload_n 0, 1) := by decide +kernel
theorem d_Nodes_action_149 : decode m_Nodes_action.2.1 149 = .ok (.getfield 19, 3) := by decide +kernel
theorem d_Nodes_action_152 : decode m_Nodes_action.2.1 152 = .ok (.iload_n 1, 1) := by decide +kernel
theorem d_Nodes_action_153 : decode m_Nodes_action.2.1 153 = .ok (.aload_n 0, 1) := by decide +kernel
theorem d_Nodes_action_154 : decode m_Nodes_action.2.1 154 = .ok (.iload_n 2, 1) := by decide +kernel
theorem d_Nodes_action_155 : decode m_Nodes_action.2.1 155 = .ok (.iconst 1, 1) := by decide +kernel
theorem d_Nodes_action_156 : decode m_Nodes_action.2.1 156 = .ok (.iadd, 1) := by decide +kernel
theorem d_Nodes_action_157 : decode m_Nodes_action.2.1 157 = .ok (.invokevirtual 129, 3) := by decide +kernel
theorem d_Nodes_action_160 : decode m_Nodes_action.2.1 160 = .ok (.iastore, 1) := by decide +kernel
theorem d_Nodes_action_161 : decode m_Nodes_action.2.1 161 = .ok (.return_, 1) := by decide +kernel
theorem d_Nodes_action_162 : decode m_Nodes_action.2.1 162 = .ok (.aload_n 0, 1) := by decide +kernel
theorem d_Nodes_action_163 : decode m_Nodes_action.2.1 163 = .ok (.getfield 3, 3) := by decide +kernel
theorem d_Nodes_action_166 : decode m_Nodes_action.2.1 166 = .ok (.getfield 83, 3) := by decide +kernel
theorem d_Nodes_action_169 : decode m_Nodes_action.2.1 169 = .ok (.bipush 105, 2) := by decide +kernel
theorem d_Nodes_action_171 : decode m_Nodes_action.2.1 171 = .ok (.invokevirtual 105, 3) := by decide +kernel
theorem d_Nodes_action_174 : decode m_Nodes_action.2.1 174 = .ok (.aload_n 0, 1) := by decide +kernel
theorem d_Nodes_action_175 : decode m_Nodes_action.2.1 175 = .ok (.iload_n 1, 1) := by decide +kernel
theorem d_Nodes_action_176 : decode m_Nodes_action.2.1 176 = .ok (.invokevirtual 154, 3) := by decide +kernel
theorem d_Nodes_action_179 : decode m_Nodes_action.2.1 179 = .ok (.aload_n 0, 1) := by decide +kernel
theorem d_Nodes_action_180 : decode m_Nodes_action.2.1 180 = .ok (.getfield 3, 3) := by decide +kernel
theorem d_Nodes_action_183 : decode m_Nodes_action.2.1 183 = .ok (.getfield 83, 3) := by decide +kernel
theorem d_Nodes_action_186 : decode m_Nodes_action.2.1 186 = .ok (.bipush 106, 2) := by decide +kernel
theorem d_Nodes_action_188 : decode m_Nodes_action.2.1 188 = .ok (.invokevirtual 105, 3) := by decide +kernel
theorem d_Nodes_action_191 : decode m_Nodes_action.2.1 191 = .ok (.return_, 1) := by decide +kernel
def itB (k : Int) : List (Nat × Nat) := if k = 7 then [(4, 1), (4, 2), (4, 3), (2, 1)] else if k = 8 then [(4, 1), (4, 2), (11, 0), (12, 0)] else [(3, 1)]
theorem itA_B (k : Int) : itA k = itB k ++ [(1, 2)] := by
  unfold itA itB
  split
  · rfl
  · split <;> rfl
/-- the action of a case -/
def actC (τ : TkF) (P : PTC) (dd : Nat) (row : Row) (n m a : Nat) : CR (Nat × Row × List Row × List Int) := if tk τ a = 107 then erC (3, tb τ a) else if ¬ (tk τ a = 7 ∨ tk τ a = 8 ∨ tk τ a = 9) then erC (4, tb τ a) else bdC (lfC (nx τ a)) fun a2 => itsC (itm0C τ P dd) (itB (tk τ a)) (row.set 3 (tk τ a)) n m a2
theorem actC_go {τ : TkF} {P : PTC} {dd n m a : Nat} {row : Row} (h1 : ¬ tk τ a = 107) (h2 : tk τ a = 7 ∨ tk τ a = 8 ∨ tk τ a = 9) : actC τ P dd row n m a = bdC (lfC (nx τ a)) fun a2 => itsC (itm0C τ P dd) (itB (tk τ a)) (row.set 3 (tk τ a)) n m a2 := by
  unfold actC; rw [if_neg h1, if_neg (fun q => q h2)]
theorem bdR_1 {X : CR (Nat × Nat × List Int)} {row : Row} {m : Nat} : (bdC X (bdR row m)).1 = X.1 := by
  obtain ⟨c, r⟩ := X
  cases r <;> rfl
theorem bdR_er {X : CR (Nat × Nat × List Int)} {row : Row} {m c : Nat} {e : Int × Nat} (h : bdC X (bdR row m) = (c, .error e)) : X = (c, .error e) := by
  obtain ⟨c', r⟩ := X
  cases r
  · cases h; rfl
  · cases h
theorem bdR_ok {X : CR (Nat × Nat × List Int)} {row : Row} {m c : Nat} {q : Nat × Row × List Row × List Int} (h : bdC X (bdR row m) = (c, .ok q)) : ∃ p, X = (c, .ok (q.1, p, q.2.2.2)) ∧ q.2.1 = (row.set 8 m).set 9 (p : Int) ∧ q.2.2.1 = [] := by
  obtain ⟨c', r⟩ := X
  cases r with
  | error e => cases h
  | ok x =>
    cases h
    exact ⟨x.2.1, rfl, rfl, rfl⟩
theorem c_Nodes_action {P w o D N Z g F f dep i n m sz a : Nat} {t : Nat → Nat} {V : Nat → Int} {row : Row} {I : M32} {L : M64} {R : MR} {T : SH} (d : Nat) (ihV : RdOk P w o D N Z g F t m_Nodes_value y_Nodes_value 2 f) (ihO : RdOk P w o D N Z g F t m_Nodes_observation y_Nodes_observation 3 f) (hd : 3 * f + 9 ≤ d) (h102 : 102 ≤ f + (dep + 1)) (h101 : dep + 1 ≤ 101) (hC : CS P w o D N Z g t a n m sz V I L R T) (hr : RowC I L D i row ∧ row.length = 11) (hi : i < n) (h9 : row.getD 9 0 = 0) (hB : m + (actC (tkP t N) (psC (tkP t N) g F f) dep row n m a).1 ≤ 60000) :
    Call m_Nodes_action y_Nodes_action d (rmC sz (m + (actC (tkP t N) (psC (tkP t N) g F f) dep row n m a).1)) (rmS sz (m + (actC (tkP t N) (psC (tkP t N) g F f) dep row n m a).1)) [.ref D, .int (cI (i : Int)), .int (cI (dep : Int))] I L R T (ItQ P w o D N Z g t i n m sz V (actC (tkP t N) (psC (tkP t N) g F f) dep row n m a) I L R T) := by
  obtain ⟨tot, htot⟩ : ∃ tot, tot = actC (tkP t N) (psC (tkP t N) g F f) dep row n m a := ⟨_, rfl⟩
  rw [← htot] at hB ⊢
  refine Call.ofRun (by decide) ⟨rfl, rfl⟩ (Nat.le_of_ble_eq_true rfl) ?_
  refine Run.gen fun Q hQ => ?_
  have hE := EQ9.it hQ
  have hW3 := WK.start0 hC hr hi
  have hly := hW3.lay
  have hms := hC.1.2.2.2.1.lt
  refine Run.more (rc := rmC (max sz (m + ([] : List Int).length)) (m + tot.1)) (rs := rmS (max sz (m + ([] : List Int).length)) (m + tot.1)) ?_ (by rw [show max sz (m + ([] : List Int).length) = sz from by show max sz (m + 0) = sz; omega]; exact Nat.le_refl _) (by rw [show max sz (m + ([] : List Int).length) = sz from by show max sz (m + 0) = sz; omega]; exact Nat.le_refl _)
  have hkr3 := WK_kr hW3
  refine q_aload_n d_Nodes_action_0 rfl ?_
  refine q_getR d_Nodes_action_1 fl_Nodes_3 hW3.nd.1 ⟨rfl, by decide⟩ hW3.nd.2.2 ?_
  refine q_getR d_Nodes_action_4 fl_Nodes_83 hW3.pt ⟨rfl, by decide⟩ hW3.po ?_
  refine j_getI (v := (cI (tk (tkP t N) a))) d_Nodes_action_7 fl_Nodes_100 hW3.tks.1 ⟨rfl, by decide⟩ (WK_kd hW3) ?_
  refine q_istore_n (lv' := [(3, .int (cI (tk (tkP t N) a))), (0, .ref D), (1, .int (cI (i : Int))), (2, .int (cI (dep : Int)))]) d_Nodes_action_10 (by decide) rfl ?_
  refine q_iload_n d_Nodes_action_11 rfl ?_
  refine j_bipush d_Nodes_action_12 (by decide) ?_
  refine j_icmp_ne (tgt := 28) d_Nodes_action_14 (by decide) (by omega) (by omega) (fun h1 => ?_) (fun h1 => ?_)
  rotate_left
  · skip
    refine q_aload_n d_Nodes_action_17 rfl ?_
    refine q_getR d_Nodes_action_18 fl_Nodes_3 hW3.nd.1 ⟨rfl, by decide⟩ hW3.nd.2.2 ?_
    refine q_getR d_Nodes_action_21 fl_Nodes_83 hW3.pt ⟨rfl, by decide⟩ hW3.po ?_
    refine j_iconst d_Nodes_action_24 ?_
    refine q_callV (ci := 5) (rc := (rmC (max sz (m + ([] : List Int).length)) (m + tot.1))) (rs := (rmS (max sz (m + ([] : List Int).length)) (m + tot.1))) (rest := []) d_Nodes_action_25 ml_Nodes_87 ok_Tokens_fail rfl hW3.tks.1 (by decide) (c_Tokens_fail (d - 1) (by omega) hW3.tks hW3.fb) rfl rfl (by omega) (Nat.le_of_ble_eq_true rfl) (fun v I' L' R' T' h => by cases h.1) (fun x I' L' R' T' h => ?_)
    obtain ⟨h0, f3, h4, e1, e2, e3⟩ := badQ_fx h
    subst L' R' T'
    cases h0
    exact thr_bad rfl hW3.bad (hE.use hW3 (e := (3, tb (tkP t N) a)) (by rw [htot, actC, if_pos h1]; rfl) f3 Fx.rf h4)
  by_cases h789 : tk (tkP t N) a = 7 ∨ tk (tkP t N) a = 8 ∨ tk (tkP t N) a = 9
  rotate_left
  · refine q_iload_n d_Nodes_action_28 rfl ?_
    refine j_bipush d_Nodes_action_29 (by decide) ?_
    refine j_icmp_eq (tgt := 57) d_Nodes_action_31 (by decide) (by omega) (by omega) (fun hx => by exfalso; omega) (fun hx => ?_)
    refine q_iload_n d_Nodes_action_34 rfl ?_
    refine j_bipush d_Nodes_action_35 (by decide) ?_
    refine j_icmp_eq (tgt := 57) d_Nodes_action_37 (by decide) (by omega) (by omega) (fun hx => by exfalso; omega) (fun hx => ?_)
    refine q_iload_n d_Nodes_action_40 rfl ?_
    refine j_bipush d_Nodes_action_41 (by decide) ?_
    refine j_icmp_eq (tgt := 57) d_Nodes_action_43 (by decide) (by omega) (by omega) (fun hx => by exfalso; omega) (fun hx => ?_)
    refine q_aload_n d_Nodes_action_46 rfl ?_
    refine q_getR d_Nodes_action_47 fl_Nodes_3 hW3.nd.1 ⟨rfl, by decide⟩ hW3.nd.2.2 ?_
    refine q_getR d_Nodes_action_50 fl_Nodes_83 hW3.pt ⟨rfl, by decide⟩ hW3.po ?_
    refine j_iconst d_Nodes_action_53 ?_
    refine q_callV (ci := 5) (rc := (rmC (max sz (m + ([] : List Int).length)) (m + tot.1))) (rs := (rmS (max sz (m + ([] : List Int).length)) (m + tot.1))) (rest := []) d_Nodes_action_54 ml_Nodes_87 ok_Tokens_fail rfl hW3.tks.1 (by decide) (c_Tokens_fail (d - 1) (by omega) hW3.tks hW3.fb) rfl rfl (by omega) (Nat.le_of_ble_eq_true rfl) (fun v I' L' R' T' h => by cases h.1) (fun x I' L' R' T' h => ?_)
    obtain ⟨h0, f3, h4, e1, e2, e3⟩ := badQ_fx h
    subst L' R' T'
    cases h0
    exact thr_bad rfl hW3.bad (hE.use hW3 (e := (4, tb (tkP t N) a)) (by rw [htot, actC, if_neg h1, if_pos h789]; rfl) f3 Fx.rf h4)
  have t57 : ∀ (dummy : True), True → Run m_Nodes_action d (rmC (max sz (m + ([] : List Int).length)) (m + tot.1)) (rmS (max sz (m + ([] : List Int).length)) (m + tot.1)) 57 [(0, .ref D), (1, .int (cI (i : Int))), (2, .int (cI (dep : Int))), (3, .int (cI (tk (tkP t N) a)))] [] I L R T Q := by
    intro _ _
    refine q_aload_n d_Nodes_action_57 rfl ?_
    refine q_getR d_Nodes_action_58 fl_Nodes_25 hW3.nd.1 ⟨rfl, by decide⟩ (nR3 hW3.nd) ?_
    refine q_iload_n d_Nodes_action_61 rfl ?_
    refine q_iload_n d_Nodes_action_62 rfl ?_
    refine j_iast (j := i) d_Nodes_action_63 (nT3 hW3.nd) (nN3 hW3.nd) (by omega) (by omega) (by omega) ?_
    have hW4 := hW3.stI (s := 3) (c := 4) (v := tk (tkP t N) a) (by omega)
    generalize hI4 : (up2 I (D + 4) i (cI (tk (tkP t N) a))) = I4 at hW4 ⊢
    have hkr4 := WK_kr hW4
    refine q_aload_n d_Nodes_action_64 rfl ?_
    refine q_getR d_Nodes_action_65 fl_Nodes_3 hW4.nd.1 ⟨rfl, by decide⟩ hW4.nd.2.2 ?_
    refine q_getR d_Nodes_action_68 fl_Nodes_83 hW4.pt ⟨rfl, by decide⟩ hW4.po ?_
    refine q_tk (as := []) (st := []) hW4 d_Nodes_action_71 ml_Nodes_103 ok_Tokens_next rfl rfl (c_Tokens_nextT (d := d - 1) (by omega) hW4.tks hW4.pt hW4.1.1.1.2.1 hW4.1.1.1.2.2.2.1 hW4.1.1.2.1 hW4.1.2.1) rfl rfl (by omega) (Nat.le_of_ble_eq_true rfl) hE (fun e hr => by rw [htot, actC_go h1 h789, hr]; rfl) (fun a5 I5 L5 hr5 hW5 => ?_)
    have hkr5 := WK_kr hW5
    have hR5 : RsC tot (itm0C (tkP t N) (psC (tkP t N) g F f) dep) n m okC (itB (tk (tkP t N) a)) (row.set 3 (tk (tkP t N) a)) [] [] a5 := by rw [htot, actC_go h1 h789, hr5, bdC_ok, adC_0]; exact RsC.init
    refine q_iload_n d_Nodes_action_74 rfl ?_
    refine j_bipush d_Nodes_action_75 (by decide) ?_
    refine j_icmp_ne (tgt := 94) d_Nodes_action_77 (by decide) (by omega) (by omega) (fun hx9 => ?_) (fun hx9 => ?_)
    rotate_left
    · skip
      rw [show itB (tk (tkP t N) a) = [(3, 1)] by rw [hx9]; rfl] at hR5
      refine q_aload_n d_Nodes_action_80 rfl ?_
      refine q_getR d_Nodes_action_81 fl_Nodes_19 hW5.nd.1 ⟨rfl, by decide⟩ (nR1 hW5.nd) ?_
      refine q_iload_n d_Nodes_action_84 rfl ?_
      refine q_aload_n d_Nodes_action_85 rfl ?_
      refine q_iload_n d_Nodes_action_86 rfl ?_
      refine j_iconst d_Nodes_action_87 ?_
      refine j_iadd d_Nodes_action_88 ?_
      refine q_ch hW5 hR5 ihO (fun _ _ _ _ => rfl) (Or.inl rfl) d_Nodes_action_89 d_Nodes_action_92 ml_Nodes_119 ok_Nodes_observation rfl rfl (by omega) (by omega) (by omega) hB (Nat.le_of_ble_eq_true rfl) hE (fun a6 row6 rs6 ns6 I6 L6 R6 T6 hW6 hR6 hro6 => ?_)
      have hkr6 := WK_kr hW6
      refine q_return d_Nodes_action_93 rfl ?_
      refine hQ _ _ _ _ _ ?_
      exact ItQ.fin hW6 hR6
    by_cases h7 : tk (tkP t N) a = 7
    · rw [show itB (tk (tkP t N) a) = [(4, 1), (4, 2), (4, 3), (2, 1)] by rw [h7]; rfl] at hR5
      refine q_aload_n d_Nodes_action_94 rfl ?_
      refine q_getR d_Nodes_action_95 fl_Nodes_37 hW5.nd.1 ⟨rfl, by decide⟩ (nR7 hW5.nd) ?_
      refine q_iload_n d_Nodes_action_98 rfl ?_
      refine q_aload_n d_Nodes_action_99 rfl ?_
      refine q_getR d_Nodes_action_100 fl_Nodes_3 hW5.nd.1 ⟨rfl, by decide⟩ hW5.nd.2.2 ?_
      refine q_getR d_Nodes_action_103 fl_Nodes_83 hW5.pt ⟨rfl, by decide⟩ hW5.po ?_
      refine q_nm (dd := d - 1) hW5 hR5 (fun _ _ _ _ => rfl) (Or.inl rfl) d_Nodes_action_106 d_Nodes_action_109 ml_Nodes_125 rfl (by omega) (by omega) (Nat.le_of_ble_eq_true rfl) hE (fun a6 row6 I6 L6 hW6 hR6 hro6 => ?_)
      have hkr6 := WK_kr hW6
      refine q_aload_n d_Nodes_action_110 rfl ?_
      refine q_getR d_Nodes_action_111 fl_Nodes_41 hW6.nd.1 ⟨rfl, by decide⟩ (nR8 hW6.nd) ?_
      refine q_iload_n d_Nodes_action_114 rfl ?_
      refine q_aload_n d_Nodes_action_115 rfl ?_
      refine q_getR d_Nodes_action_116 fl_Nodes_3 hW6.nd.1 ⟨rfl, by decide⟩ hW6.nd.2.2 ?_
      refine q_getR d_Nodes_action_119 fl_Nodes_83 hW6.pt ⟨rfl, by decide⟩ hW6.po ?_
      refine q_nm (dd := d - 1) hW6 hR6 (fun _ _ _ _ => rfl) (Or.inr (Or.inl rfl)) d_Nodes_action_122 d_Nodes_action_125 ml_Nodes_125 rfl (by omega) (by omega) (Nat.le_of_ble_eq_true rfl) hE (fun a7 row7 I7 L7 hW7 hR7 hro7 => ?_)
      have hkr7 := WK_kr hW7
      refine q_iload_n d_Nodes_action_126 rfl ?_
      refine j_bipush d_Nodes_action_127 (by decide) ?_
      refine j_icmp_ne (tgt := 162) d_Nodes_action_129 (by decide) (by omega) (by omega) (fun hx => by exfalso; omega) (fun hx => ?_)
      refine q_aload_n d_Nodes_action_132 rfl ?_
      refine q_getR d_Nodes_action_133 fl_Nodes_44 hW7.nd.1 ⟨rfl, by decide⟩ (nR9 hW7.nd) ?_
      refine q_iload_n d_Nodes_action_136 rfl ?_
      refine q_aload_n d_Nodes_action_137 rfl ?_
      refine q_getR d_Nodes_action_138 fl_Nodes_3 hW7.nd.1 ⟨rfl, by decide⟩ hW7.nd.2.2 ?_
      refine q_getR d_Nodes_action_141 fl_Nodes_83 hW7.pt ⟨rfl, by decide⟩ hW7.po ?_
      refine q_nm (dd := d - 1) hW7 hR7 (fun _ _ _ _ => rfl) (Or.inr (Or.inr rfl)) d_Nodes_action_144 d_Nodes_action_147 ml_Nodes_125 rfl (by omega) (by omega) (Nat.le_of_ble_eq_true rfl) hE (fun a8 row8 I8 L8 hW8 hR8 hro8 => ?_)
      have hkr8 := WK_kr hW8
      refine q_aload_n d_Nodes_action_148 rfl ?_
      refine q_getR d_Nodes_action_149 fl_Nodes_19 hW8.nd.1 ⟨rfl, by decide⟩ (nR1 hW8.nd) ?_
      refine q_iload_n d_Nodes_action_152 rfl ?_
      refine q_aload_n d_Nodes_action_153 rfl ?_
      refine q_iload_n d_Nodes_action_154 rfl ?_
      refine j_iconst d_Nodes_action_155 ?_
      refine j_iadd d_Nodes_action_156 ?_
      refine q_ch hW8 hR8 ihV (fun _ _ _ _ => rfl) (Or.inl rfl) d_Nodes_action_157 d_Nodes_action_160 ml_Nodes_129 ok_Nodes_value rfl rfl (by omega) (by omega) (by omega) hB (Nat.le_of_ble_eq_true rfl) hE (fun a9 row9 rs9 ns9 I9 L9 R9 T9 hW9 hR9 hro9 => ?_)
      have hkr9 := WK_kr hW9
      refine q_return d_Nodes_action_161 rfl ?_
      refine hQ _ _ _ _ _ ?_
      exact ItQ.fin hW9 hR9
    have h8 : tk (tkP t N) a = 8 := by omega
    rw [show itB (tk (tkP t N) a) = [(4, 1), (4, 2), (11, 0), (12, 0)] by rw [h8]; rfl] at hR5
    refine q_aload_n d_Nodes_action_94 rfl ?_
    refine q_getR d_Nodes_action_95 fl_Nodes_37 hW5.nd.1 ⟨rfl, by decide⟩ (nR7 hW5.nd) ?_
    refine q_iload_n d_Nodes_action_98 rfl ?_
    refine q_aload_n d_Nodes_action_99 rfl ?_
    refine q_getR d_Nodes_action_100 fl_Nodes_3 hW5.nd.1 ⟨rfl, by decide⟩ hW5.nd.2.2 ?_
    refine q_getR d_Nodes_action_103 fl_Nodes_83 hW5.pt ⟨rfl, by decide⟩ hW5.po ?_
    refine q_nm (dd := d - 1) hW5 hR5 (fun _ _ _ _ => rfl) (Or.inl rfl) d_Nodes_action_106 d_Nodes_action_109 ml_Nodes_125 rfl (by omega) (by omega) (Nat.le_of_ble_eq_true rfl) hE (fun a6 row6 I6 L6 hW6 hR6 hro6 => ?_)
    have hkr6 := WK_kr hW6
    refine q_aload_n d_Nodes_action_110 rfl ?_
    refine q_getR d_Nodes_action_111 fl_Nodes_41 hW6.nd.1 ⟨rfl, by decide⟩ (nR8 hW6.nd) ?_
    refine q_iload_n d_Nodes_action_114 rfl ?_
    refine q_aload_n d_Nodes_action_115 rfl ?_
    refine q_getR d_Nodes_action_116 fl_Nodes_3 hW6.nd.1 ⟨rfl, by decide⟩ hW6.nd.2.2 ?_
    refine q_getR d_Nodes_action_119 fl_Nodes_83 hW6.pt ⟨rfl, by decide⟩ hW6.po ?_
    refine q_nm (dd := d - 1) hW6 hR6 (fun _ _ _ _ => rfl) (Or.inr (Or.inl rfl)) d_Nodes_action_122 d_Nodes_action_125 ml_Nodes_125 rfl (by omega) (by omega) (Nat.le_of_ble_eq_true rfl) hE (fun a7 row7 I7 L7 hW7 hR7 hro7 => ?_)
    have hkr7 := WK_kr hW7
    refine q_iload_n d_Nodes_action_126 rfl ?_
    refine j_bipush d_Nodes_action_127 (by decide) ?_
    refine j_icmp_ne (tgt := 162) d_Nodes_action_129 (by decide) (by omega) (by omega) (fun hx => ?_) (fun hx => by exfalso; omega)
    refine q_aload_n d_Nodes_action_162 rfl ?_
    refine q_getR d_Nodes_action_163 fl_Nodes_3 hW7.nd.1 ⟨rfl, by decide⟩ hW7.nd.2.2 ?_
    refine q_getR d_Nodes_action_166 fl_Nodes_83 hW7.pt ⟨rfl, by decide⟩ hW7.po ?_
    refine j_bipush d_Nodes_action_169 (by decide) ?_
    refine q_tk (as := [.int (cI 105)]) (st := []) hW7 d_Nodes_action_171 ml_Nodes_105 ok_Tokens_want rfl rfl (c_Tokens_wantT (d := d - 1) (due := 105) (by omega) hW7.tks hW7.pt hW7.1.1.1.2.1 hW7.1.1.1.2.2.2.1 hW7.1.1.2.1 hW7.1.2.1 (by omega)) rfl rfl (by omega) (Nat.le_of_ble_eq_true rfl) hE (fun e hr => hR7.er (c := 0) (by show bdC (lfC (wn (tkP t N) 105 a7)) _ = _; rw [hr]; rfl)) (fun a8 I8 L8 hr8 hW8 => ?_)
    have hkr8 := WK_kr hW8
    have hR8 := hR7.ok (c := 0) (a' := a8) (row' := row7) (rs' := []) (nums' := []) (by show bdC (lfC (wn (tkP t N) 105 a7)) _ = _; rw [hr8]; rfl) rfl
    rw [List.append_nil, List.append_nil] at hR8
    have r9 : row7.getD 9 0 = 0 := by rw [hro7, hro6, gset_n (by decide), gset_n (by decide), gset_n (by decide)]; exact h9
    have hge8 := hR8.ge
    have hg9 : ([] : List Int).length + (bdC (bndsC (tkP t N) 5 0 a8) (bdR row7 (m + ([] : List Int).length))).1 ≤ tot.1 := by
      rw [bdR_1]
      exact Nat.le_trans (Nat.add_le_add_left (bdC_ge (bndsC (tkP t N) 5 0 a8) _) _) hge8
    refine q_aload_n d_Nodes_action_174 rfl ?_
    refine q_iload_n d_Nodes_action_175 rfl ?_
    refine q_sub (as := [.int (cI (i : Int))]) (st := []) (r := bdC (bndsC (tkP t N) 5 0 a8) (bdR row7 (m + ([] : List Int).length))) hW8 d_Nodes_action_176 ml_Nodes_154 ok_Nodes_bounds rfl rfl (c_Nodes_bounds (row := row7) (m := m + ([] : List Int).length) (d - 1) (by omega) hW8.1 hW8.2.1 hW8.2.2.2.1 r9 (by have : ([] : List Int).length = 0 := rfl; omega)) rfl rfl (by omega) (Nat.le_of_ble_eq_true rfl) hE (hg9) (fun c e hr => hR8.er (by show bdC (bndsC (tkP t N) 5 0 a8) _ = _; rw [bdR_er hr]; rfl)) (fun a9 row9 rs9 nz9 ns9 I9 L9 R9 T9 hn9 hr9 hW9 => ?_)
    have hkr9 := WK_kr hW9
    obtain ⟨p, x1, x2, x3⟩ := bdR_ok hr9
    have x2' : row9 = (row7.set 8 ((m + ([] : List Int).length : Nat) : Int)).set 9 (p : Int) := x2
    have x3' : rs9 = [] := x3
    subst x3'
    refine q_aload_n d_Nodes_action_179 rfl ?_
    refine q_getR d_Nodes_action_180 fl_Nodes_3 hW9.nd.1 ⟨rfl, by decide⟩ hW9.nd.2.2 ?_
    refine q_getR d_Nodes_action_183 fl_Nodes_83 hW9.pt ⟨rfl, by decide⟩ hW9.po ?_
    refine j_bipush d_Nodes_action_186 (by decide) ?_
    refine q_tk (as := [.int (cI 106)]) (st := []) hW9 d_Nodes_action_188 ml_Nodes_105 ok_Tokens_want rfl rfl (c_Tokens_wantT (d := d - 1) (due := 106) (by omega) hW9.tks hW9.pt hW9.1.1.1.2.1 hW9.1.1.1.2.2.2.1 hW9.1.1.2.1 hW9.1.2.1 (by omega)) rfl rfl (by omega) (Nat.le_of_ble_eq_true rfl) hE (fun e hr => by rw [hn9, List.length_append]; exact hR8.er (c := nz9.length) (by show bdC (bndsC (tkP t N) 5 0 a8) _ = _; rw [x1, bdC_ok]; show adC _ (bdC (lfC (wn (tkP t N) 106 a9)) _) = _; rw [hr]; rfl)) (fun a10 I10 L10 hr10 hW10 => ?_)
    have hkr10 := WK_kr hW10
    have hR10 := hR8.ok (c := nz9.length) (a' := a10) (row' := row9) (rs' := []) (nums' := nz9) (by show bdC (bndsC (tkP t N) 5 0 a8) _ = _; rw [x1, bdC_ok]; show adC _ (bdC (lfC (wn (tkP t N) 106 a9)) _) = _; rw [hr10, x2']; rfl) rfl
    rw [List.append_nil, ← hn9] at hR10
    refine q_return d_Nodes_action_191 rfl ?_
    refine hQ _ _ _ _ _ ?_
    exact ItQ.fin hW10 hR10
  rcases h789 with e | e | e
  · refine q_iload_n d_Nodes_action_28 rfl ?_
    refine j_bipush d_Nodes_action_29 (by decide) ?_
    refine j_icmp_eq (tgt := 57) d_Nodes_action_31 (by decide) (by omega) (by omega) (fun hx => ?_) (fun hx => by exfalso; omega)
    refine Run.lv (lv' := [(0, .ref D), (1, .int (cI (i : Int))), (2, .int (cI (dep : Int))), (3, .int (cI (tk (tkP t N) a)))]) (by intro q hq; simp only [List.mem_cons, List.not_mem_nil, or_false] at hq ⊢; rcases hq with rfl | rfl | rfl | rfl <;> simp) ?_
    exact t57 trivial trivial
  · refine q_iload_n d_Nodes_action_28 rfl ?_
    refine j_bipush d_Nodes_action_29 (by decide) ?_
    refine j_icmp_eq (tgt := 57) d_Nodes_action_31 (by decide) (by omega) (by omega) (fun hx => by exfalso; omega) (fun hx => ?_)
    refine q_iload_n d_Nodes_action_34 rfl ?_
    refine j_bipush d_Nodes_action_35 (by decide) ?_
    refine j_icmp_eq (tgt := 57) d_Nodes_action_37 (by decide) (by omega) (by omega) (fun hx => ?_) (fun hx => by exfalso; omega)
    refine Run.lv (lv' := [(0, .ref D), (1, .int (cI (i : Int))), (2, .int (cI (dep : Int))), (3, .int (cI (tk (tkP t N) a)))]) (by intro q hq; simp only [List.mem_cons, List.not_mem_nil, or_false] at hq ⊢; rcases hq with rfl | rfl | rfl | rfl <;> simp) ?_
    exact t57 trivial trivial
  · refine q_iload_n d_Nodes_action_28 rfl ?_
    refine j_bipush d_Nodes_action_29 (by decide) ?_
    refine j_icmp_eq (tgt := 57) d_Nodes_action_31 (by decide) (by omega) (by omega) (fun hx => by exfalso; omega) (fun hx => ?_)
    refine q_iload_n d_Nodes_action_34 rfl ?_
    refine j_bipush d_Nodes_action_35 (by decide) ?_
    refine j_icmp_eq (tgt := 57) d_Nodes_action_37 (by decide) (by omega) (by omega) (fun hx => by exfalso; omega) (fun hx => ?_)
    refine q_iload_n d_Nodes_action_40 rfl ?_
    refine j_bipush d_Nodes_action_41 (by decide) ?_
    refine j_icmp_eq (tgt := 57) d_Nodes_action_43 (by decide) (by omega) (by omega) (fun hx => ?_) (fun hx => by exfalso; omega)
    refine Run.lv (lv' := [(0, .ref D), (1, .int (cI (i : Int))), (2, .int (cI (dep : Int))), (3, .int (cI (tk (tkP t N) a)))]) (by intro q hq; simp only [List.mem_cons, List.not_mem_nil, or_false] at hq ⊢; rcases hq with rfl | rfl | rfl | rfl <;> simp) ?_
    exact t57 trivial trivial

