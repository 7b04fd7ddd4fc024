/-! ===== 91 THE COMPONENT'S READER: bounds ===== -/
theorem d_Nodes_bounds_0 : decode m_Nodes_bounds.2.1 0 = .ok (.aload_n 0, 1) := by decide +kernel
theorem d_Nodes_bounds_1 : decode m_Nodes_bounds.2.1 1 = .ok (.getfield 3, 3) := by decide +kernel
theorem d_Nodes_bounds_4 : decode m_Nodes_bounds.2.1 4 = .ok (.getfield 83, 3) := by decide +kernel
theorem d_Nodes_bounds_7 : decode m_Nodes_bounds.2.1 7 = .ok (.getfield 100, 3) := by decide +kernel
theorem d_Nodes_bounds_10 : decode m_Nodes_bounds.2.1 10 = .ok (.bipush 100, 2) := by decide +kernel
theorem d_Nodes_bounds_12 : decode m_Nodes_bounds.2.1 12 = .ok (.if_icmp .ne 25, 3) := by decide +kernel
theorem d_Nodes_bounds_15 : decode m_Nodes_bounds.2.1 15 = .ok (.aload_n 0, 1) := by decide +kernel
theorem d_Nodes_bounds_16 : decode m_Nodes_bounds.2.1 16 = .ok (.getfield 34, 3) := by decide +kernel
theorem d_Nodes_bounds_19 : decode m_Nodes_bounds.2.1 19 = .ok (.iload_n 1, 1) := by decide +kernel
theorem d_Nodes_bounds_20 : decode m_Nodes_bounds.2.1 20 = .ok (.iaload, 1) := by decide +kernel
theorem d_Nodes_bounds_21 : decode m_Nodes_bounds.2.1 21 = .ok (.iconst 4, 1) := by decide +kernel
theorem d_Nodes_bounds_22 : decode m_Nodes_bounds.2.1 22 = .ok (.if_icmp .ne 15, 3) := by decide +kernel
theorem d_Nodes_bounds_25 : decode m_Nodes_bounds.2.1 25 = .ok (.aload_n 0, 1) := by decide +kernel
theorem d_Nodes_bounds_26 : decode m_Nodes_bounds.2.1 26 = .ok (.getfield 3, 3) := by decide +kernel
theorem d_Nodes_bounds_29 : decode m_Nodes_bounds.2.1 29 = .ok (.getfield 83, 3) := by decide +kernel
theorem d_Nodes_bounds_32 : decode m_Nodes_bounds.2.1 32 = .ok (.bipush 8, 2) := by decide +kernel
theorem d_Nodes_bounds_34 : decode m_Nodes_bounds.2.1 34 = .ok (.invokevirtual 87, 3) := by decide +kernel
theorem d_Nodes_bounds_37 : decode m_Nodes_bounds.2.1 37 = .ok (.aload_n 0, 1) := by decide +kernel
theorem d_Nodes_bounds_38 : decode m_Nodes_bounds.2.1 38 = .ok (.getfield 3, 3) := by decide +kernel
theorem d_Nodes_bounds_41 : decode m_Nodes_bounds.2.1 41 = .ok (.getfield 83, 3) := by decide +kernel
theorem d_Nodes_bounds_44 : decode m_Nodes_bounds.2.1 44 = .ok (.getfield 100, 3) := by decide +kernel
theorem d_Nodes_bounds_47 : decode m_Nodes_bounds.2.1 47 = .ok (.bipush 100, 2) := by decide +kernel
theorem d_Nodes_bounds_49 : decode m_Nodes_bounds.2.1 49 = .ok (.if_icmp .ne 20, 3) := by decide +kernel
theorem d_Nodes_bounds_52 : decode m_Nodes_bounds.2.1 52 = .ok (.aload_n 0, 1) := by decide +kernel
theorem d_Nodes_bounds_53 : decode m_Nodes_bounds.2.1 53 = .ok (.aload_n 0, 1) := by decide +kernel
theorem d_Nodes_bounds_54 : decode m_Nodes_bounds.2.1 54 = .ok (.getfield 3, 3) := by decide +kernel
theorem d_Nodes_bounds_57 : decode m_Nodes_bounds.2.1 57 = .ok (.getfield 83, 3) := by decide +kernel
theorem d_Nodes_bounds_60 : decode m_Nodes_bounds.2.1 60 = .ok (.getfield 142, 3) := by decide +kernel
theorem d_Nodes_bounds_63 : decode m_Nodes_bounds.2.1 63 = .ok (.invokevirtual 151, 3) := by decide +kernel
theorem d_Nodes_bounds_66 : decode m_Nodes_bounds.2.1 66 = .ok (.goto 4, 3) := by decide +kernel
theorem d_Nodes_bounds_69 : decode m_Nodes_bounds.2.1 69 = .ok (.iconst (-1), 1) := by decide +kernel
theorem d_Nodes_bounds_70 : decode m_Nodes_bounds.2.1 70 = .ok (.istore_n 2, 1) := by decide +kernel
theorem d_Nodes_bounds_71 : decode m_Nodes_bounds.2.1 71 = .ok (.aload_n 0, 1) := by decide +kernel
theorem d_Nodes_bounds_72 : decode m_Nodes_bounds.2.1 72 = .ok (.getfield 3, 3) := by decide +kernel
theorem d_Nodes_bounds_75 : decode m_Nodes_bounds.2.1 75 = .ok (.getfield 83, 3) := by decide +kernel
theorem d_Nodes_bounds_78 : decode m_Nodes_bounds.2.1 78 = .ok (.bipush 100, 2) := by decide +kernel
theorem d_Nodes_bounds_80 : decode m_Nodes_bounds.2.1 80 = .ok (.invokevirtual 105, 3) := by decide +kernel
theorem d_Nodes_bounds_83 : decode m_Nodes_bounds.2.1 83 = .ok (.aload_n 0, 1) := by decide +kernel
theorem d_Nodes_bounds_84 : decode m_Nodes_bounds.2.1 84 = .ok (.getfield 31, 3) := by decide +kernel
theorem d_Nodes_bounds_87 : decode m_Nodes_bounds.2.1 87 = .ok (.iload_n 1, 1) := by decide +kernel
theorem d_Nodes_bounds_88 : decode m_Nodes_bounds.2.1 88 = .ok (.aload_n 0, 1) := by decide +kernel
theorem d_Nodes_bounds_89 : decode m_Nodes_bounds.2.1 89 = .ok (.getfield 34, 3) := by decide +kernel
theorem d_Nodes_bounds_92 : decode m_Nodes_bounds.2.1 92 = .ok (.iload_n 1, 1) := by decide +kernel
theorem d_Nodes_bounds_93 : decode m_Nodes_bounds.2.1 93 = .ok (.iaload, 1) := by decide +kernel
theorem d_Nodes_bounds_94 : decode m_Nodes_bounds.2.1 94 = .ok (.ifCond .ne 7, 3) := by decide +kernel
theorem d_Nodes_bounds_97 : decode m_Nodes_bounds.2.1 97 = .ok (.iload_n 2, 1) := by decide +kernel
theorem d_Nodes_bounds_98 : decode m_Nodes_bounds.2.1 98 = .ok (.goto 9, 3) := by decide +kernel
theorem d_Nodes_bounds_101 : decode m_Nodes_bounds.2.1 101 = .ok (.aload_n 0, 1) := by decide +kernel
theorem d_Nodes_bounds_102 : decode m_Nodes_bounds.2.1 102 = .ok (.getfield 31, 3) := by decide +kernel
theorem d_Nodes_bounds_105 : decode m_Nodes_bounds.2.1 105 = .ok (.iload_n 1, 1) := by decide +kernel
theorem d_Nodes_bounds_106 : decode m_Nodes_bounds.2.1 106 = .ok (.iaload, 1) := by decide +kernel
theorem d_Nodes_bounds_107 : decode m_Nodes_bounds.2.1 107 = .ok (.iastore, 1) := by decide +kernel
theorem d_Nodes_bounds_108 : decode m_Nodes_bounds.2.1 108 = .ok (.aload_n 0, 1) := by decide +kernel
theorem d_Nodes_bounds_109 : decode m_Nodes_bounds.2.1 109 = .ok (.getfield 3, 3) := by decide +kernel
theorem d_Nodes_bounds_112 : decode m_Nodes_bounds.2.1 112 = .ok (.getfield 83, 3) := by decide +kernel
theorem d_Nodes_bounds_115 : decode m_Nodes_bounds.2.1 115 = .ok (.getfield 100, 3) := by decide +kernel
theorem d_Nodes_bounds_118 : decode m_Nodes_bounds.2.1 118 = .ok (.bipush 100, 2) := by decide +kernel
theorem d_Nodes_bounds_120 : decode m_Nodes_bounds.2.1 120 = .ok (.if_icmp .ne 69, 3) := by decide +kernel
theorem d_Nodes_bounds_123 : decode m_Nodes_bounds.2.1 123 = .ok (.aload_n 0, 1) := by decide +kernel
theorem d_Nodes_bounds_124 : decode m_Nodes_bounds.2.1 124 = .ok (.getfield 3, 3) := by decide +kernel
theorem d_Nodes_bounds_127 : decode m_Nodes_bounds.2.1 127 = .ok (.getfield 83, 3) := by decide +kernel
theorem d_Nodes_bounds_130 : decode m_Nodes_bounds.2.1 130 = .ok (.getfield 142, 3) := by decide +kernel
theorem d_Nodes_bounds_133 : decode m_Nodes_bounds.2.1 133 = .ok (.aload_n 0, 1) := by decide +kernel
theorem d_Nodes_bounds_134 : decode m_Nodes_bounds.2.1 134 = .ok (.iload_n 2, 1) := by decide +kernel
theorem d_Nodes_bounds_135 : decode m_Nodes_bounds.2.1 135 = .ok (.invokevirtual 157, 3) := by decide +kernel
theorem d_Nodes_bounds_138 : decode m_Nodes_bounds.2.1 138 = .ok (.invokestatic 161, 3) := by decide +kernel
theorem d_Nodes_bounds_141 : decode m_Nodes_bounds.2.1 141 = .ok (.ifCond .ge 15, 3) := by decide +kernel
theorem d_Nodes_bounds_144 : decode m_Nodes_bounds.2.1 144 = .ok (.aload_n 0, 1) := by decide +kernel
theorem d_Nodes_bounds_145 : decode m_Nodes_bounds.2.1 145 = .ok (.getfield 3, 3) := by decide +kernel
theorem d_Nodes_bounds_148 : decode m_Nodes_bounds.2.1 148 = .ok (.getfield 83, 3) := by decide +kernel
theorem d_Nodes_bounds_151 : decode m_Nodes_bounds.2.1 151 = .ok (.bipush 6, 2) := by decide +kernel
theorem d_Nodes_bounds_153 : decode m_Nodes_bounds.2.1 153 = .ok (.invokevirtual 87, 3) := by decide +kernel
theorem d_Nodes_bounds_156 : decode m_Nodes_bounds.2.1 156 = .ok (.aload_n 0, 1) := by decide +kernel
theorem d_Nodes_bounds_157 : decode m_Nodes_bounds.2.1 157 = .ok (.aload_n 0, 1) := by decide +kernel
theorem d_Nodes_bounds_158 : decode m_Nodes_bounds.2.1 158 = .ok (.getfield 3, 3) := by decide +kernel
theorem d_Nodes_bounds_161 : decode m_Nodes_bounds.2.1 161 = .ok (.getfield 83, 3) := by decide +kernel
theorem d_Nodes_bounds_164 : decode m_Nodes_bounds.2.1 164 = .ok (.getfield 142, 3) := by decide +kernel
theorem d_Nodes_bounds_167 : decode m_Nodes_bounds.2.1 167 = .ok (.invokevirtual 151, 3) := by decide +kernel
theorem d_Nodes_bounds_170 : decode m_Nodes_bounds.2.1 170 = .ok (.istore_n 3, 1) := by decide +kernel
theorem d_Nodes_bounds_171 : decode m_Nodes_bounds.2.1 171 = .ok (.aload_n 0, 1) := by decide +kernel
theorem d_Nodes_bounds_172 : decode m_Nodes_bounds.2.1 172 = .ok (.getfield 34, 3) := by decide +kernel
theorem d_Nodes_bounds_175 : decode m_Nodes_bounds.2.1 175 = .ok (.iload_n 1, 1) := by decide +kernel
theorem d_Nodes_bounds_176 : decode m_Nodes_bounds.2.1 176 = .ok (.dup2, 1) := by decide +kernel
theorem d_Nodes_bounds_177 : decode m_Nodes_bounds.2.1 177 = .ok (.iaload, 1) := by decide +kernel
theorem d_Nodes_bounds_178 : decode m_Nodes_bounds.2.1 178 = .ok (.iload_n 3, 1) := by decide +kernel
theorem d_Nodes_bounds_179 : decode m_Nodes_bounds.2.1 179 = .ok (.ifCond .lt 7, 3) := by decide +kernel
theorem d_Nodes_bounds_182 : decode m_Nodes_bounds.2.1 182 = .ok (.iconst 1, 1) := by decide +kernel
theorem d_Nodes_bounds_183 : decode m_Nodes_bounds.2.1 183 = .ok (.goto 4, 3) := by decide +kernel
theorem d_Nodes_bounds_186 : decode m_Nodes_bounds.2.1 186 = .ok (.iconst 0, 1) := by decide +kernel
theorem d_Nodes_bounds_187 : decode m_Nodes_bounds.2.1 187 = .ok (.iadd, 1) := by decide +kernel
theorem d_Nodes_bounds_188 : decode m_Nodes_bounds.2.1 188 = .ok (.iastore, 1) := by decide +kernel
theorem d_Nodes_bounds_189 : decode m_Nodes_bounds.2.1 189 = .ok (.aload_n 0, 1) := by decide +kernel
theorem d_Nodes_bounds_190 : decode m_Nodes_bounds.2.1 190 = .ok (.getfield 3, 3) := by decide +kernel
theorem d_Nodes_bounds_193 : decode m_Nodes_bounds.2.1 193 = .ok (.getfield 83, 3) := by decide +kernel
theorem d_Nodes_bounds_196 : decode m_Nodes_bounds.2.1 196 = .ok (.bipush 100, 2) := by decide +kernel
theorem d_Nodes_bounds_198 : decode m_Nodes_bounds.2.1 198 = .ok (.invokevirtual 105, 3) := by decide +kernel
theorem d_Nodes_bounds_201 : decode m_Nodes_bounds.2.1 201 = .ok (.aload_n 0, 1) := by decide +kernel
theorem d_Nodes_bounds_202 : decode m_Nodes_bounds.2.1 202 = .ok (.getfield 3, 3) := by decide +kernel
theorem d_Nodes_bounds_205 : decode m_Nodes_bounds.2.1 205 = .ok (.getfield 83, 3) := by decide +kernel
theorem d_Nodes_bounds_208 : decode m_Nodes_bounds.2.1 208 = .ok (.getfield 100, 3) := by decide +kernel
theorem d_Nodes_bounds_211 : decode m_Nodes_bounds.2.1 211 = .ok (.bipush 106, 2) := by decide +kernel
theorem d_Nodes_bounds_213 : decode m_Nodes_bounds.2.1 213 = .ok (.if_icmp .ne (-213), 3) := by decide +kernel
theorem d_Nodes_bounds_216 : decode m_Nodes_bounds.2.1 216 = .ok (.return_, 1) := by decide +kernel
section
variable {τ : TkF} {k p a a1 a2 : Nat} {e : Int × Nat}
theorem wn_k {due : Int} (h : wn τ due a = .ok a1) : tk τ a = due := by
  unfold wn at h
  split at h
  · cases h
  · split at h
    · cases h
    · rename_i h2; exact Decidable.not_not.mp h2
theorem bndsC_e8 (h1 : tk τ a = 100) (h2 : p = 4) : bndsC τ (k + 1) p a = (0, .error (8, tb τ a)) := by
  rw [bndsC, if_pos ⟨h1, h2⟩]
theorem bndsC_1 (h2 : ¬ (tk τ a = 100 ∧ p = 4)) : bndsC τ (k + 1) p a = adC (if tk τ a = 100 then 1 else 0) (bdC (lfC (wn τ 100 a)) fun a1 => if tk τ a1 = 100 ∧ tv τ a1 < tv τ a then erC (6, tb τ a1) else adC (if tk τ a1 = 100 then 1 else 0) (bdC (lfC (wn τ 100 a1)) fun a2 => if tk τ a2 = 106 then okC (a2, p + 1, [tv τ a, tv τ a1]) else bdC (bndsC τ k (p + 1) a2) fun r => okC (r.1, r.2.1, tv τ a :: tv τ a1 :: r.2.2))) := by
  rw [bndsC, if_neg h2]
theorem bndsC_e1 (h2 : ¬ (tk τ a = 100 ∧ p = 4)) (hw : wn τ 100 a = .error e) : bndsC τ (k + 1) p a = (if tk τ a = 100 then 1 else 0, .error e) := by
  rw [bndsC_1 h2, hw]; rfl
theorem bndsC_e6 (h2 : ¬ p = 4) (hw : wn τ 100 a = .ok a1) (h3 : tk τ a1 = 100) (h4 : tv τ a1 < tv τ a) : bndsC τ (k + 1) p a = (1, .error (6, tb τ a1)) := by
  rw [bndsC_1 (fun q => h2 q.2), hw, bdC_ok, if_pos (wn_k hw), if_pos ⟨h3, h4⟩]; rfl
theorem bndsC_2' (h2 : ¬ p = 4) (hw : wn τ 100 a = .ok a1) (h4 : ¬ (tk τ a1 = 100 ∧ tv τ a1 < tv τ a)) : bndsC τ (k + 1) p a = adC 1 (adC (if tk τ a1 = 100 then 1 else 0) (bdC (lfC (wn τ 100 a1)) fun a2 => if tk τ a2 = 106 then okC (a2, p + 1, [tv τ a, tv τ a1]) else bdC (bndsC τ k (p + 1) a2) fun r => okC (r.1, r.2.1, tv τ a :: tv τ a1 :: r.2.2))) := by
  rw [bndsC_1 (fun q => h2 q.2), hw, bdC_ok, if_neg h4, if_pos (wn_k hw), adC_0]
theorem bndsC_e2 (h2 : ¬ p = 4) (hw : wn τ 100 a = .ok a1) (h4 : ¬ (tk τ a1 = 100 ∧ tv τ a1 < tv τ a)) (hw2 : wn τ 100 a1 = .error e) : bndsC τ (k + 1) p a = (1 + if tk τ a1 = 100 then 1 else 0, .error e) := by
  rw [bndsC_2' h2 hw h4, hw2]; rfl
theorem bndsC_ok (h2 : ¬ p = 4) (hw : wn τ 100 a = .ok a1) (h4 : ¬ (tk τ a1 = 100 ∧ tv τ a1 < tv τ a)) (hw2 : wn τ 100 a1 = .ok a2) (h5 : tk τ a2 = 106) : bndsC τ (k + 1) p a = (2, .ok (a2, p + 1, [tv τ a, tv τ a1])) := by
  rw [bndsC_2' h2 hw h4, hw2, bdC_ok, if_pos (wn_k hw2), if_pos h5]; rfl
theorem bndsC_go (h2 : ¬ p = 4) (hw : wn τ 100 a = .ok a1) (h4 : ¬ (tk τ a1 = 100 ∧ tv τ a1 < tv τ a)) (hw2 : wn τ 100 a1 = .ok a2) (h5 : ¬ tk τ a2 = 106) : bndsC τ (k + 1) p a = adC 2 (bdC (bndsC τ k (p + 1) a2) fun r => okC (r.1, r.2.1, tv τ a :: tv τ a1 :: r.2.2)) := by
  rw [bndsC_2' h2 hw h4, hw2, bdC_ok, if_pos (wn_k hw2), if_neg h5, adC_0, adC_adC]
theorem bndsC_g1 (h1 : tk τ a = 100) (h2 : ¬ p = 4) : 1 ≤ (bndsC τ (k + 1) p a).1 := by
  rw [bndsC_1 (fun q => h2 q.2), if_pos h1]; exact Nat.le_add_right _ _
theorem bndsC_g2 (h2 : ¬ p = 4) (hw : wn τ 100 a = .ok a1) (h3 : tk τ a1 = 100) (h4 : ¬ tv τ a1 < tv τ a) : 2 ≤ (bndsC τ (k + 1) p a).1 := by
  rw [bndsC_2' h2 hw (fun q => h4 q.2), if_pos h3, adC_adC]; exact Nat.le_add_right _ _
end
theorem cmpZ_lt' {a b : Int} : cmpZ a b < 0 ↔ a < b := by unfold cmpZ; split <;> (try split) <;> omega
/-- the row of a case behind p pairs -/
def rwB (row : Row) (m p : Nat) : Row := if p = 0 then row else (row.set 8 m).set 9 p
theorem rwB_9 {row : Row} {m p : Nat} (hl : row.length = 11) (h9 : row.getD 9 0 = 0) : (rwB row m p).getD 9 0 = p := by
  unfold rwB
  by_cases q : p = 0
  · rw [if_pos q, h9, q]; rfl
  · rw [if_neg q, gset_s (by rw [List.length_set]; omega)]
theorem rwB_8 {row : Row} {m p : Nat} (hl : row.length = 11) (hp : p ≠ 0) : (rwB row m p).getD 8 0 = m := by
  unfold rwB
  rw [if_neg hp, gset_n (by decide), gset_s (by omega)]
theorem rwB_s {row : Row} {m p : Nat} (hl : row.length = 11) : ((rwB row m p).set 8 (m : Int)).set 9 ((p + 1 : Nat) : Int) = rwB row m (p + 1) := by
  unfold rwB
  rw [if_neg (Nat.succ_ne_zero p)]
  by_cases q : p = 0
  · rw [if_pos q]
  · rw [if_neg q, List.set_comm _ _ (by decide), List.set_set, List.set_comm _ _ (by decide), List.set_set]
def bdR (row : Row) (m : Nat) (q : Nat × Nat × List Int) : CR (Nat × Row × List Row × List Int) := okC (q.1, (row.set 8 m).set 9 q.2.1, [], q.2.2)
theorem c_Nodes_bounds {P w o D N Z g i n m sz a : Nat} {t : Nat → Nat} {V : Nat → Int} {row : Row} {I : M32} {L : M64} {R : MR} {T : SH} (d : Nat) (hd : 8 ≤ d) (hC : CS P w o D N Z g t a n m sz V I L R T) (hr : RowC I L D i row ∧ row.length = 11) (hi : i < n) (h9 : row.getD 9 0 = 0) (hB : m + (bdC (bndsC (tkP t N) 5 0 a) (bdR row m)).1 ≤ 60000) :
    Call m_Nodes_bounds y_Nodes_bounds d (rmC sz (m + (bdC (bndsC (tkP t N) 5 0 a) (bdR row m)).1)) (rmS sz (m + (bdC (bndsC (tkP t N) 5 0 a) (bdR row m)).1)) [.ref D, .int (cI (i : Int))] I L R T (ItQ P w o D N Z g t i n m sz V (bdC (bndsC (tkP t N) 5 0 a) (bdR row m)) I L R T) := by
  obtain ⟨tot, htot⟩ : ∃ tot, tot = bdC (bndsC (tkP t N) 5 0 a) (bdR row m) := ⟨_, rfl⟩
  rw [← htot] at hB ⊢
  have hl11 := hr.2
  refine Call.ofRun (by decide) ⟨rfl, rfl⟩ (Nat.le_of_ble_eq_true rfl) ?_
  refine Run.gen fun Q hQ => ?_
  have hE := EQ9.it hQ
  have hW0 := WK.start0 hC hr hi
  have hly := hW0.lay
  have hms := hC.1.2.2.2.1.lt
  have loop : ∀ (k p a3 : Nat) (ns3 : List Int) (I3 : M32) (L3 : M64) (R3 : MR) (T3 : SH), k + p = 5 ∧ p ≤ 4 → ns3.length = 2 * p → WK P w o D N Z g t i n m sz V I L R T a3 (rwB row m p) [] ns3 I3 L3 R3 T3 → tot = adC ns3.length (bdC (bndsC (tkP t N) k p a3) (fun q => bdR row m (q.1, q.2.1, ns3 ++ q.2.2))) → Run m_Nodes_bounds d (rmC (max sz (m + ns3.length)) (m + tot.1)) (rmS (max sz (m + ns3.length)) (m + tot.1)) 0 [(0, .ref D), (1, .int (cI (i : Int)))] [] I3 L3 R3 T3 Q := by
    intro k
    induction k with
    | zero =>
      intro p a3 ns3 I3 L3 R3 T3 hkp hnp hW3 ht3
      omega
    | succ k ih =>
      intro p a3 ns3 I3 L3 R3 T3 hkp hnp hW3 ht3
      have hkr3 := WK_kr hW3
      have v9 := (hW3.2.1.1.2.2.2.2.2.2.2.2.2).trans (congrArg cI (rwB_9 (m := m) hl11 h9))
      by_cases h1 : tk (tkP t N) a3 = 100
      rotate_left
      · refine q_aload_n d_Nodes_bounds_0 rfl ?_
        refine q_getR d_Nodes_bounds_1 fl_Nodes_3 hW3.nd.1 ⟨rfl, by decide⟩ hW3.nd.2.2 ?_
        refine q_getR d_Nodes_bounds_4 fl_Nodes_83 hW3.pt ⟨rfl, by decide⟩ hW3.po ?_
        refine j_getI (v := (cI (tk (tkP t N) a3))) d_Nodes_bounds_7 fl_Nodes_100 hW3.tks.1 ⟨rfl, by decide⟩ (WK_kd hW3) ?_
        refine j_bipush d_Nodes_bounds_10 (by decide) ?_
        refine j_icmp_ne (tgt := 37) d_Nodes_bounds_12 (by decide) (by omega) (by omega) (fun hx => ?_) (fun hx => by exfalso; omega)
        refine q_aload_n d_Nodes_bounds_37 rfl ?_
        refine q_getR d_Nodes_bounds_38 fl_Nodes_3 hW3.nd.1 ⟨rfl, by decide⟩ hW3.nd.2.2 ?_
        refine q_getR d_Nodes_bounds_41 fl_Nodes_83 hW3.pt ⟨rfl, by decide⟩ hW3.po ?_
        refine j_getI (v := (cI (tk (tkP t N) a3))) d_Nodes_bounds_44 fl_Nodes_100 hW3.tks.1 ⟨rfl, by decide⟩ (WK_kd hW3) ?_
        refine j_bipush d_Nodes_bounds_47 (by decide) ?_
        refine j_icmp_ne (tgt := 69) d_Nodes_bounds_49 (by decide) (by omega) (by omega) (fun hx => ?_) (fun hx => by exfalso; omega)
        refine j_iconst d_Nodes_bounds_69 ?_
        refine q_istore_n (lv' := [(2, .int (cI (-1))), (0, .ref D), (1, .int (cI (i : Int)))]) d_Nodes_bounds_70 (by decide) rfl ?_
        refine q_aload_n d_Nodes_bounds_71 rfl ?_
        refine q_getR d_Nodes_bounds_72 fl_Nodes_3 hW3.nd.1 ⟨rfl, by decide⟩ hW3.nd.2.2 ?_
        refine q_getR d_Nodes_bounds_75 fl_Nodes_83 hW3.pt ⟨rfl, by decide⟩ hW3.po ?_
        refine j_bipush d_Nodes_bounds_78 (by decide) ?_
        refine q_tk (as := [.int (cI 100)]) (st := []) hW3 d_Nodes_bounds_80 ml_Nodes_105 ok_Tokens_want rfl rfl (c_Tokens_wantT (d := d - 1) (due := 100) (by omega) hW3.tks hW3.pt hW3.1.1.1.2.1 hW3.1.1.1.2.2.2.1 hW3.1.1.2.1 hW3.1.2.1 (by omega)) rfl rfl (by omega) (Nat.le_of_ble_eq_true rfl) hE (fun e hr => by rw [ht3, bndsC_e1 (fun q => h1 q.1) hr, if_neg h1]; rfl) (fun a4 I4 L4 hr4 hW4 => ?_)
        have hkr4 := WK_kr hW4
        exact absurd (wn_k hr4) h1
      by_cases h2 : p = 4
      · refine q_aload_n d_Nodes_bounds_0 rfl ?_
        refine q_getR d_Nodes_bounds_1 fl_Nodes_3 hW3.nd.1 ⟨rfl, by decide⟩ hW3.nd.2.2 ?_
        refine q_getR d_Nodes_bounds_4 fl_Nodes_83 hW3.pt ⟨rfl, by decide⟩ hW3.po ?_
        refine j_getI (v := (cI (tk (tkP t N) a3))) d_Nodes_bounds_7 fl_Nodes_100 hW3.tks.1 ⟨rfl, by decide⟩ (WK_kd hW3) ?_
        refine j_bipush d_Nodes_bounds_10 (by decide) ?_
        refine j_icmp_ne (tgt := 37) d_Nodes_bounds_12 (by decide) (by omega) (by omega) (fun hx => by exfalso; omega) (fun hx => ?_)
        refine q_aload_n d_Nodes_bounds_15 rfl ?_
        refine q_getR d_Nodes_bounds_16 fl_Nodes_34 hW3.nd.1 ⟨rfl, by decide⟩ (nR6 hW3.nd) ?_
        refine q_iload_n d_Nodes_bounds_19 rfl ?_
        refine j_iald (j := i) (v := (cI (p : Int))) d_Nodes_bounds_20 (nT6 hW3.nd) (nN6 hW3.nd) (by omega) (by omega) (by omega) v9 ?_
        refine j_iconst d_Nodes_bounds_21 ?_
        refine j_icmp_ne (tgt := 37) d_Nodes_bounds_22 (by decide) (by omega) (by omega) (fun hx => by exfalso; omega) (fun hx => ?_)
        refine q_aload_n d_Nodes_bounds_25 rfl ?_
        refine q_getR d_Nodes_bounds_26 fl_Nodes_3 hW3.nd.1 ⟨rfl, by decide⟩ hW3.nd.2.2 ?_
        refine q_getR d_Nodes_bounds_29 fl_Nodes_83 hW3.pt ⟨rfl, by decide⟩ hW3.po ?_
        refine j_bipush d_Nodes_bounds_32 (by decide) ?_
        refine q_callV (ci := 5) (rc := (rmC (max sz (m + ns3.length)) (m + tot.1))) (rs := (rmS (max sz (m + ns3.length)) (m + tot.1))) (rest := []) d_Nodes_bounds_34 ml_Nodes_87 ok_Tokens_fail rfl hW3.tks.1 (by decide) (c_Tokens_fail (d - 1) (by omega) hW3.tks hW3.fb) rfl rfl (by omega) (Nat.le_of_ble_eq_true rfl) (fun v I' L' R' T' h => by cases h.1) (fun x I' L' R' T' h => ?_)
        obtain ⟨h0, f3, h4, e1, e2, e3⟩ := badQ_fx h
        subst L' R' T'
        cases h0
        exact thr_bad rfl hW3.bad (hE.use hW3 (e := (8, tb (tkP t N) a3)) (by rw [ht3, bndsC_e8 h1 h2]; rfl) f3 Fx.rf h4)
      refine q_aload_n d_Nodes_bounds_0 rfl ?_
      refine q_getR d_Nodes_bounds_1 fl_Nodes_3 hW3.nd.1 ⟨rfl, by decide⟩ hW3.nd.2.2 ?_
      refine q_getR d_Nodes_bounds_4 fl_Nodes_83 hW3.pt ⟨rfl, by decide⟩ hW3.po ?_
      refine j_getI (v := (cI (tk (tkP t N) a3))) d_Nodes_bounds_7 fl_Nodes_100 hW3.tks.1 ⟨rfl, by decide⟩ (WK_kd hW3) ?_
      refine j_bipush d_Nodes_bounds_10 (by decide) ?_
      refine j_icmp_ne (tgt := 37) d_Nodes_bounds_12 (by decide) (by omega) (by omega) (fun hx => by exfalso; omega) (fun hx => ?_)
      refine q_aload_n d_Nodes_bounds_15 rfl ?_
      refine q_getR d_Nodes_bounds_16 fl_Nodes_34 hW3.nd.1 ⟨rfl, by decide⟩ (nR6 hW3.nd) ?_
      refine q_iload_n d_Nodes_bounds_19 rfl ?_
      refine j_iald (j := i) (v := (cI (p : Int))) d_Nodes_bounds_20 (nT6 hW3.nd) (nN6 hW3.nd) (by omega) (by omega) (by omega) v9 ?_
      refine j_iconst d_Nodes_bounds_21 ?_
      refine j_icmp_ne (tgt := 37) d_Nodes_bounds_22 (by decide) (by omega) (by omega) (fun hx => ?_) (fun hx => by exfalso; omega)
      refine q_aload_n d_Nodes_bounds_37 rfl ?_
      refine q_getR d_Nodes_bounds_38 fl_Nodes_3 hW3.nd.1 ⟨rfl, by decide⟩ hW3.nd.2.2 ?_
      refine q_getR d_Nodes_bounds_41 fl_Nodes_83 hW3.pt ⟨rfl, by decide⟩ hW3.po ?_
      refine j_getI (v := (cI (tk (tkP t N) a3))) d_Nodes_bounds_44 fl_Nodes_100 hW3.tks.1 ⟨rfl, by decide⟩ (WK_kd hW3) ?_
      refine j_bipush d_Nodes_bounds_47 (by decide) ?_
      refine j_icmp_ne (tgt := 69) d_Nodes_bounds_49 (by decide) (by omega) (by omega) (fun hx => by exfalso; omega) (fun hx => ?_)
      refine q_aload_n d_Nodes_bounds_52 rfl ?_
      refine q_aload_n d_Nodes_bounds_53 rfl ?_
      refine q_getR d_Nodes_bounds_54 fl_Nodes_3 hW3.nd.1 ⟨rfl, by decide⟩ hW3.nd.2.2 ?_
      refine q_getR d_Nodes_bounds_57 fl_Nodes_83 hW3.pt ⟨rfl, by decide⟩ hW3.po ?_
      refine q_getR d_Nodes_bounds_60 fl_Nodes_142 hW3.tks.1 ⟨rfl, by decide⟩ hW3.tks.2.2.2.2.1 ?_
      have g1 : ns3.length + 1 ≤ tot.1 := by
        rw [ht3]
        exact Nat.add_le_add_left (Nat.le_trans (bndsC_g1 h1 h2) (bdC_ge _ _)) _
      refine q_num hW3 h1 d_Nodes_bounds_63 ml_Nodes_151 (by omega) hB g1 (Nat.le_of_ble_eq_true rfl) (fun ns4 I4 L4 R4 T4 hn4 hW4 => ?_)
      have hkr4 := WK_kr hW4
      refine q_goto (tgt := 70) d_Nodes_bounds_66 (by decide) ?_
      refine q_istore_n (lv' := [(2, .int (cI (((m + ns3.length : Nat) : Int)))), (0, .ref D), (1, .int (cI (i : Int)))]) d_Nodes_bounds_70 (by decide) rfl ?_
      refine q_aload_n d_Nodes_bounds_71 rfl ?_
      refine q_getR d_Nodes_bounds_72 fl_Nodes_3 hW4.nd.1 ⟨rfl, by decide⟩ hW4.nd.2.2 ?_
      refine q_getR d_Nodes_bounds_75 fl_Nodes_83 hW4.pt ⟨rfl, by decide⟩ hW4.po ?_
      refine j_bipush d_Nodes_bounds_78 (by decide) ?_
      refine q_tk (as := [.int (cI 100)]) (st := []) hW4 d_Nodes_bounds_80 ml_Nodes_105 ok_Tokens_want rfl rfl (c_Tokens_wantT (d := d - 1) (due := 100) (by omega) hW4.tks hW4.pt hW4.1.1.1.2.1 hW4.1.1.1.2.2.2.1 hW4.1.1.2.1 hW4.1.2.1 (by omega)) rfl rfl (by omega) (Nat.le_of_ble_eq_true rfl) hE (fun e hr => by rw [ht3, bndsC_e1 (fun q => h2 q.2) hr, if_pos h1, hn4, List.length_append]; rfl) (fun a5 I5 L5 hr5 hW5 => ?_)
      have hkr5 := WK_kr hW5
      have v5 := (hW5.2.1.1.2.2.2.2.2.2.2.2.2).trans (congrArg cI (rwB_9 (m := m) hl11 h9))
      have s107 : ∀ (dummy : True), True → Run m_Nodes_bounds d (rmC (max sz (m + ns4.length)) (m + tot.1)) (rmS (max sz (m + ns4.length)) (m + tot.1)) 107 [(0, .ref D), (1, .int (cI (i : Int))), (2, .int (cI (((m + ns3.length : Nat) : Int))))] [.int (cI (m : Int)), .int (cI (i : Int)), .ref (D + 6)] I5 L5 R4 T4 Q := by
        intro _ _
        refine j_iast (j := i) d_Nodes_bounds_107 (nT5 hW5.nd) (nN5 hW5.nd) (by omega) (by omega) (by omega) ?_
        have hW6 := hW5.stI (s := 8) (c := 6) (v := ((m : Nat) : Int)) (by omega)
        generalize hI6 : (up2 I5 (D + 6) i (cI (m : Int))) = I6 at hW6 ⊢
        have hkr6 := WK_kr hW6
        by_cases h3 : tk (tkP t N) a5 = 100
        rotate_left
        · refine q_aload_n d_Nodes_bounds_108 rfl ?_
          refine q_getR d_Nodes_bounds_109 fl_Nodes_3 hW6.nd.1 ⟨rfl, by decide⟩ hW6.nd.2.2 ?_
          refine q_getR d_Nodes_bounds_112 fl_Nodes_83 hW6.pt ⟨rfl, by decide⟩ hW6.po ?_
          refine j_getI (v := (cI (tk (tkP t N) a5))) d_Nodes_bounds_115 fl_Nodes_100 hW6.tks.1 ⟨rfl, by decide⟩ (WK_kd hW6) ?_
          refine j_bipush d_Nodes_bounds_118 (by decide) ?_
          refine j_icmp_ne (tgt := 189) d_Nodes_bounds_120 (by decide) (by omega) (by omega) (fun hx => ?_) (fun hx => by exfalso; omega)
          refine q_aload_n d_Nodes_bounds_189 rfl ?_
          refine q_getR d_Nodes_bounds_190 fl_Nodes_3 hW6.nd.1 ⟨rfl, by decide⟩ hW6.nd.2.2 ?_
          refine q_getR d_Nodes_bounds_193 fl_Nodes_83 hW6.pt ⟨rfl, by decide⟩ hW6.po ?_
          refine j_bipush d_Nodes_bounds_196 (by decide) ?_
          refine q_tk (as := [.int (cI 100)]) (st := []) hW6 d_Nodes_bounds_198 ml_Nodes_105 ok_Tokens_want rfl rfl (c_Tokens_wantT (d := d - 1) (due := 100) (by omega) hW6.tks hW6.pt hW6.1.1.1.2.1 hW6.1.1.1.2.2.2.1 hW6.1.1.2.1 hW6.1.2.1 (by omega)) rfl rfl (by omega) (Nat.le_of_ble_eq_true rfl) hE (fun e hr => by rw [ht3, bndsC_e2 h2 hr5 (fun q => h3 q.1) hr, if_neg h3, hn4, List.length_append]; rfl) (fun a7 I7 L7 hr7 hW7 => ?_)
          have hkr7 := WK_kr hW7
          exact absurd (wn_k hr7) h3
        refine q_aload_n d_Nodes_bounds_108 rfl ?_
        refine q_getR d_Nodes_bounds_109 fl_Nodes_3 hW6.nd.1 ⟨rfl, by decide⟩ hW6.nd.2.2 ?_
        refine q_getR d_Nodes_bounds_112 fl_Nodes_83 hW6.pt ⟨rfl, by decide⟩ hW6.po ?_
        refine j_getI (v := (cI (tk (tkP t N) a5))) d_Nodes_bounds_115 fl_Nodes_100 hW6.tks.1 ⟨rfl, by decide⟩ (WK_kd hW6) ?_
        refine j_bipush d_Nodes_bounds_118 (by decide) ?_
        refine j_icmp_ne (tgt := 189) d_Nodes_bounds_120 (by decide) (by omega) (by omega) (fun hx => by exfalso; omega) (fun hx => ?_)
        have hV6 := hW6.1.1.2.2.2.1
        obtain ⟨b, b1, b2, b3, b4⟩ := hV6.at (k := m + ns3.length) hW6.nd (by rw [hn4, List.length_append]; exact Nat.lt_succ_self _)
        have b5 : extV V m ns4 (m + ns3.length) = tv (tkP t N) a3 := by
          rw [hn4, ← extV_ext, extV_1 (Nat.lt_succ_self _), if_pos rfl]
        rw [b5] at b2
        refine q_aload_n d_Nodes_bounds_123 rfl ?_
        refine q_getR d_Nodes_bounds_124 fl_Nodes_3 hW6.nd.1 ⟨rfl, by decide⟩ hW6.nd.2.2 ?_
        refine q_getR d_Nodes_bounds_127 fl_Nodes_83 hW6.pt ⟨rfl, by decide⟩ hW6.po ?_
        refine q_getR d_Nodes_bounds_130 fl_Nodes_142 hW6.tks.1 ⟨rfl, by decide⟩ hW6.tks.2.2.2.2.1 ?_
        refine q_aload_n d_Nodes_bounds_133 rfl ?_
        refine q_iload_n d_Nodes_bounds_134 rfl ?_
        refine q_callV (ci := 6) (rc := (rmC (max sz (m + ns4.length)) (m + tot.1))) (rs := (rmS (max sz (m + ns4.length)) (m + tot.1))) (rest := [.ref (o + 2)]) d_Nodes_bounds_135 ml_Nodes_157 ok_Nodes_numberAt rfl hW6.nd.1 (by decide) (b4 (d - 1) L5 (by omega)) rfl rfl (by omega) (Nat.le_of_ble_eq_true rfl) (kp_O ?_) kt_O
        refine q_callS (rc := (rmC (max sz (m + ns4.length)) (m + tot.1))) (rs := (rmS (max sz (m + ns4.length)) (m + tot.1))) (rest := []) d_Nodes_bounds_138 ml_Nodes_161 ok_Big_compare (c_Big_compare (d - 1) (by omega) hW6.tks.2.2.2.2.2.1 b1 (WK_bg hW6 h3) b2) rfl rfl (by omega) (Nat.le_of_ble_eq_true rfl) (kp_I ?_) kt_I
        have hcz := cmpZ_in (tv (tkP t N) a5) (tv (tkP t N) a3)
        have hcl : cmpZ (tv (tkP t N) a5) (tv (tkP t N) a3) < 0 ↔ tv (tkP t N) a5 < tv (tkP t N) a3 := cmpZ_lt'
        refine j_if_ge (tgt := 156) d_Nodes_bounds_141 (by decide) (by omega) (fun hlt => ?_) (fun hlt => ?_)
        rotate_left
        · skip
          refine q_aload_n d_Nodes_bounds_144 rfl ?_
          refine q_getR d_Nodes_bounds_145 fl_Nodes_3 hW6.nd.1 ⟨rfl, by decide⟩ hW6.nd.2.2 ?_
          refine q_getR d_Nodes_bounds_148 fl_Nodes_83 hW6.pt ⟨rfl, by decide⟩ hW6.po ?_
          refine j_bipush d_Nodes_bounds_151 (by decide) ?_
          refine q_callV (ci := 5) (rc := (rmC (max sz (m + ns4.length)) (m + tot.1))) (rs := (rmS (max sz (m + ns4.length)) (m + tot.1))) (rest := []) d_Nodes_bounds_153 ml_Nodes_87 ok_Tokens_fail rfl hW6.tks.1 (by decide) (c_Tokens_fail (d - 1) (by omega) hW6.tks hW6.fb) rfl rfl (by omega) (Nat.le_of_ble_eq_true rfl) (fun v I' L' R' T' h => by cases h.1) (fun x I' L' R' T' h => ?_)
          obtain ⟨h0, f3, h4, e1, e2, e3⟩ := badQ_fx h
          subst L' R' T'
          cases h0
          exact thr_bad rfl hW6.bad (hE.use hW6 (e := (6, tb (tkP t N) a5)) (by rw [ht3, bndsC_e6 h2 hr5 h3 (hcl.mp hlt), hn4, List.length_append]; rfl) f3 Fx.rf h4)
        have h4' : ¬ tv (tkP t N) a5 < tv (tkP t N) a3 := fun q => absurd (hcl.mpr q) (by omega)
        have g2 : ns4.length + 1 ≤ tot.1 := by
          rw [ht3, hn4, List.length_append]
          exact Nat.add_le_add_left (Nat.le_trans (bndsC_g2 h2 hr5 h3 h4') (bdC_ge _ _)) _
        refine q_aload_n d_Nodes_bounds_156 rfl ?_
        refine q_aload_n d_Nodes_bounds_157 rfl ?_
        refine q_getR d_Nodes_bounds_158 fl_Nodes_3 hW6.nd.1 ⟨rfl, by decide⟩ hW6.nd.2.2 ?_
        refine q_getR d_Nodes_bounds_161 fl_Nodes_83 hW6.pt ⟨rfl, by decide⟩ hW6.po ?_
        refine q_getR d_Nodes_bounds_164 fl_Nodes_142 hW6.tks.1 ⟨rfl, by decide⟩ hW6.tks.2.2.2.2.1 ?_
        refine q_num hW6 h3 d_Nodes_bounds_167 ml_Nodes_151 (by omega) hB g2 (Nat.le_of_ble_eq_true rfl) (fun ns7 I7 L7 R7 T7 hn7 hW7 => ?_)
        have hkr7 := WK_kr hW7
        have v7 := (hW7.2.1.1.2.2.2.2.2.2.2.2.2).trans (congrArg cI ((gset_n (by decide)).trans (rwB_9 (m := m) (p := p) hl11 h9)))
        refine q_istore_n (lv' := [(3, .int (cI (((m + ns4.length : Nat) : Int)))), (0, .ref D), (1, .int (cI (i : Int))), (2, .int (cI (((m + ns3.length : Nat) : Int))))]) d_Nodes_bounds_170 (by decide) rfl ?_
        refine q_aload_n d_Nodes_bounds_171 rfl ?_
        refine q_getR d_Nodes_bounds_172 fl_Nodes_34 hW7.nd.1 ⟨rfl, by decide⟩ (nR6 hW7.nd) ?_
        refine q_iload_n d_Nodes_bounds_175 rfl ?_
        refine q_dup2_11 d_Nodes_bounds_176 rfl rfl ?_
        refine j_iald (j := i) (v := (cI (p : Int))) d_Nodes_bounds_177 (nT6 hW7.nd) (nN6 hW7.nd) (by omega) (by omega) (by omega) v7 ?_
        refine q_iload_n d_Nodes_bounds_178 rfl ?_
        refine j_if_lt (tgt := 186) d_Nodes_bounds_179 (by decide) (by omega) (fun hx => by exfalso; omega) (fun hx => ?_)
        refine j_iconst d_Nodes_bounds_182 ?_
        refine q_goto (tgt := 187) d_Nodes_bounds_183 (by decide) ?_
        refine j_iadd d_Nodes_bounds_187 ?_
        refine j_iast (j := i) d_Nodes_bounds_188 (nT6 hW7.nd) (nN6 hW7.nd) (by omega) (by omega) (by omega) ?_
        have hW8 := hW7.stI (s := 9) (c := 7) (v := ((p : Int) + 1)) (by omega)
        generalize hI8 : (up2 I7 (D + 7) i (cI ((p : Int) + 1))) = I8 at hW8 ⊢
        have hkr8 := WK_kr hW8
        have hW8' : WK P w o D N Z g t i n m sz V I L R T a5 (rwB row m (p + 1)) [] ns7 I8 L7 R7 T7 := by
          rw [← rwB_s hl11]; exact hW8
        refine q_aload_n d_Nodes_bounds_189 rfl ?_
        refine q_getR d_Nodes_bounds_190 fl_Nodes_3 hW8.nd.1 ⟨rfl, by decide⟩ hW8.nd.2.2 ?_
        refine q_getR d_Nodes_bounds_193 fl_Nodes_83 hW8.pt ⟨rfl, by decide⟩ hW8.po ?_
        refine j_bipush d_Nodes_bounds_196 (by decide) ?_
        refine q_tk (as := [.int (cI 100)]) (st := []) hW8 d_Nodes_bounds_198 ml_Nodes_105 ok_Tokens_want rfl rfl (c_Tokens_wantT (d := d - 1) (due := 100) (by omega) hW8.tks hW8.pt hW8.1.1.1.2.1 hW8.1.1.1.2.2.2.1 hW8.1.1.2.1 hW8.1.2.1 (by omega)) rfl rfl (by omega) (Nat.le_of_ble_eq_true rfl) hE (fun e hr => by rw [ht3, bndsC_e2 h2 hr5 (fun q => h4' q.2) hr, if_pos h3, hn7, hn4, List.length_append, List.length_append]; rfl) (fun a9 I9 L9 hr9 hW9 => ?_)
        have hkr9 := WK_kr hW9
        have hW9' : WK P w o D N Z g t i n m sz V I L R T a9 (rwB row m (p + 1)) [] ns7 I9 L9 R7 T7 := by
          rw [← rwB_s hl11]; exact hW9
        have e7 : ns7 = ns3 ++ [tv (tkP t N) a3, tv (tkP t N) a5] := by rw [hn7, hn4, List.append_assoc]; rfl
        refine q_aload_n d_Nodes_bounds_201 rfl ?_
        refine q_getR d_Nodes_bounds_202 fl_Nodes_3 hW9.nd.1 ⟨rfl, by decide⟩ hW9.nd.2.2 ?_
        refine q_getR d_Nodes_bounds_205 fl_Nodes_83 hW9.pt ⟨rfl, by decide⟩ hW9.po ?_
        refine j_getI (v := (cI (tk (tkP t N) a9))) d_Nodes_bounds_208 fl_Nodes_100 hW9.tks.1 ⟨rfl, by decide⟩ (WK_kd hW9) ?_
        refine j_bipush d_Nodes_bounds_211 (by decide) ?_
        refine j_icmp_ne (tgt := 0) d_Nodes_bounds_213 (by decide) (by omega) (by omega) (fun h5 => ?_) (fun h5 => ?_)
        · skip
          refine Run.lv (lv' := [(0, .ref D), (1, .int (cI (i : Int)))]) (by intro q hq; simp only [List.mem_cons, List.not_mem_nil, or_false] at hq ⊢; rcases hq with rfl | rfl <;> simp) ?_
          exact ih (p + 1) a9 ns7 _ _ _ _ (by omega) (by rw [e7, List.length_append, hnp]; show 2 * p + 2 = _; omega) hW9' (by rw [ht3, bndsC_go h2 hr5 (fun q => h4' q.2) hr9 h5, bdC_adC, adC_adC, bdC_bdC, e7, List.length_append]; simp only [bdC_ok, adC_0, List.append_assoc, List.cons_append, List.nil_append, List.length_cons, List.length_nil])
        refine q_return d_Nodes_bounds_216 rfl ?_
        refine hQ _ _ _ _ _ ?_
        refine ItQ.done hW9' ?_
        rw [ht3, bndsC_ok h2 hr5 (fun q => h4' q.2) hr9 h5, bdC_ok, e7, List.length_append]
        unfold rwB
        rw [if_neg (Nat.succ_ne_zero p)]
        rfl
      refine q_aload_n d_Nodes_bounds_83 rfl ?_
      refine q_getR d_Nodes_bounds_84 fl_Nodes_31 hW5.nd.1 ⟨rfl, by decide⟩ (nR5 hW5.nd) ?_
      refine q_iload_n d_Nodes_bounds_87 rfl ?_
      refine q_aload_n d_Nodes_bounds_88 rfl ?_
      refine q_getR d_Nodes_bounds_89 fl_Nodes_34 hW5.nd.1 ⟨rfl, by decide⟩ (nR6 hW5.nd) ?_
      refine q_iload_n d_Nodes_bounds_92 rfl ?_
      refine j_iald (j := i) (v := (cI (p : Int))) d_Nodes_bounds_93 (nT6 hW5.nd) (nN6 hW5.nd) (by omega) (by omega) (by omega) v5 ?_
      by_cases h0 : p = 0
      · refine j_if_ne (tgt := 101) d_Nodes_bounds_94 (by decide) (by omega) (fun hx => by exfalso; omega) (fun hx => ?_)
        refine q_iload_n d_Nodes_bounds_97 rfl ?_
        refine q_goto (tgt := 107) d_Nodes_bounds_98 (by decide) ?_
        refine Run.top (v := .int (cI (m : Int))) (by rw [show ((m + ns3.length : Nat) : Int) = (m : Int) by omega]) ?_
        refine Run.lv (lv' := [(0, .ref D), (1, .int (cI (i : Int))), (2, .int (cI (((m + ns3.length : Nat) : Int))))]) (by intro q hq; simp only [List.mem_cons, List.not_mem_nil, or_false] at hq ⊢; rcases hq with rfl | rfl | rfl <;> simp) ?_
        exact s107 trivial trivial
      · refine j_if_ne (tgt := 101) d_Nodes_bounds_94 (by decide) (by omega) (fun hx => ?_) (fun hx => by exfalso; omega)
        have v8 := (hW5.2.1.1.2.2.2.2.2.2.2.2.1).trans (congrArg cI (rwB_8 (row := row) (m := m) hl11 h0))
        refine q_aload_n d_Nodes_bounds_101 rfl ?_
        refine q_getR d_Nodes_bounds_102 fl_Nodes_31 hW5.nd.1 ⟨rfl, by decide⟩ (nR5 hW5.nd) ?_
        refine q_iload_n d_Nodes_bounds_105 rfl ?_
        refine j_iald (j := i) (v := (cI (m : Int))) d_Nodes_bounds_106 (nT5 hW5.nd) (nN5 hW5.nd) (by omega) (by omega) (by omega) v8 ?_
        refine Run.lv (lv' := [(0, .ref D), (1, .int (cI (i : Int))), (2, .int (cI (((m + ns3.length : Nat) : Int))))]) (by intro q hq; simp only [List.mem_cons, List.not_mem_nil, or_false] at hq ⊢; rcases hq with rfl | rfl | rfl <;> simp) ?_
        exact s107 trivial trivial
  refine Run.more (rc := rmC (max sz (m + ([] : List Int).length)) (m + tot.1)) (rs := rmS (max sz (m + ([] : List Int).length)) (m + tot.1)) ?_ (by rw [show max sz (m + ([] : List Int).length) = sz from by show max sz (m + 0) = sz; omega]; exact Nat.le_refl _) (by rw [show max sz (m + ([] : List Int).length) = sz from by show max sz (m + 0) = sz; omega]; exact Nat.le_refl _)
  exact loop 5 0 a [] I L R T (by omega) rfl hW0 (by rw [htot]; show _ = adC 0 (bdC (bndsC (tkP t N) 5 0 a) (fun q : Nat × Nat × List Int => bdR row m (q.1, q.2.1, [] ++ q.2.2))); rw [adC_0]; rfl)

