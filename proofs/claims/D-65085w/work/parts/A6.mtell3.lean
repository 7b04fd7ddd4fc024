/-! ===== A6 THE REFERENCE PRINTS: nodes ===== -/
theorem d_Model_tellNode_0 : decode m_Model_tellNode.2.1 0 = .ok (.aload_n 0, 1) := by decide +kernel
theorem d_Model_tellNode_1 : decode m_Model_tellNode.2.1 1 = .ok (.getfield 26, 3) := by decide +kernel
theorem d_Model_tellNode_4 : decode m_Model_tellNode.2.1 4 = .ok (.iload_n 1, 1) := by decide +kernel
theorem d_Model_tellNode_5 : decode m_Model_tellNode.2.1 5 = .ok (.iaload, 1) := by decide +kernel
theorem d_Model_tellNode_6 : decode m_Model_tellNode.2.1 6 = .ok (.istore_n 2, 1) := by decide +kernel
theorem d_Model_tellNode_7 : decode m_Model_tellNode.2.1 7 = .ok (.iload_n 2, 1) := by decide +kernel
theorem d_Model_tellNode_8 : decode m_Model_tellNode.2.1 8 = .ok (.i2l, 1) := by decide +kernel
theorem d_Model_tellNode_9 : decode m_Model_tellNode.2.1 9 = .ok (.ldc2_w 719, 3) := by decide +kernel
theorem d_Model_tellNode_12 : decode m_Model_tellNode.2.1 12 = .ok (.ldc2_w 426, 3) := by decide +kernel
theorem d_Model_tellNode_15 : decode m_Model_tellNode.2.1 15 = .ok (.invokestatic 407, 3) := by decide +kernel
theorem d_Model_tellNode_18 : decode m_Model_tellNode.2.1 18 = .ok (.ifCond .eq 9, 3) := by decide +kernel
theorem d_Model_tellNode_21 : decode m_Model_tellNode.2.1 21 = .ok (.aload_n 0, 1) := by decide +kernel
theorem d_Model_tellNode_22 : decode m_Model_tellNode.2.1 22 = .ok (.iload_n 1, 1) := by decide +kernel
theorem d_Model_tellNode_23 : decode m_Model_tellNode.2.1 23 = .ok (.invokevirtual 721, 3) := by decide +kernel
theorem d_Model_tellNode_26 : decode m_Model_tellNode.2.1 26 = .ok (.return_, 1) := by decide +kernel
theorem d_Model_tellNode_27 : decode m_Model_tellNode.2.1 27 = .ok (.iload_n 2, 1) := by decide +kernel
theorem d_Model_tellNode_28 : decode m_Model_tellNode.2.1 28 = .ok (.bipush 21, 2) := by decide +kernel
theorem d_Model_tellNode_30 : decode m_Model_tellNode.2.1 30 = .ok (.if_icmp .ne 14, 3) := by decide +kernel
theorem d_Model_tellNode_33 : decode m_Model_tellNode.2.1 33 = .ok (.aload_n 0, 1) := by decide +kernel
theorem d_Model_tellNode_34 : decode m_Model_tellNode.2.1 34 = .ok (.aload_n 0, 1) := by decide +kernel
theorem d_Model_tellNode_35 : decode m_Model_tellNode.2.1 35 = .ok (.getfield 29, 3) := by decide +kernel
theorem d_Model_tellNode_38 : decode m_Model_tellNode.2.1 38 = .ok (.iload_n 1, 1) := by decide +kernel
theorem d_Model_tellNode_39 : decode m_Model_tellNode.2.1 39 = .ok (.laload, 1) := by decide +kernel
theorem d_Model_tellNode_40 : decode m_Model_tellNode.2.1 40 = .ok (.invokevirtual 724, 3) := by decide +kernel
theorem d_Model_tellNode_43 : decode m_Model_tellNode.2.1 43 = .ok (.return_, 1) := by decide +kernel
theorem d_Model_tellNode_44 : decode m_Model_tellNode.2.1 44 = .ok (.iload_n 2, 1) := by decide +kernel
theorem d_Model_tellNode_45 : decode m_Model_tellNode.2.1 45 = .ok (.bipush 20, 2) := by decide +kernel
theorem d_Model_tellNode_47 : decode m_Model_tellNode.2.1 47 = .ok (.if_icmp .ne 18, 3) := by decide +kernel
theorem d_Model_tellNode_50 : decode m_Model_tellNode.2.1 50 = .ok (.aload_n 0, 1) := by decide +kernel
theorem d_Model_tellNode_51 : decode m_Model_tellNode.2.1 51 = .ok (.invokevirtual 417, 3) := by decide +kernel
theorem d_Model_tellNode_54 : decode m_Model_tellNode.2.1 54 = .ok (.aload_n 0, 1) := by decide +kernel
theorem d_Model_tellNode_55 : decode m_Model_tellNode.2.1 55 = .ok (.aload_n 0, 1) := by decide +kernel
theorem d_Model_tellNode_56 : decode m_Model_tellNode.2.1 56 = .ok (.getfield 51, 3) := by decide +kernel
theorem d_Model_tellNode_59 : decode m_Model_tellNode.2.1 59 = .ok (.iload_n 1, 1) := by decide +kernel
theorem d_Model_tellNode_60 : decode m_Model_tellNode.2.1 60 = .ok (.iaload, 1) := by decide +kernel
theorem d_Model_tellNode_61 : decode m_Model_tellNode.2.1 61 = .ok (.invokevirtual 716, 3) := by decide +kernel
theorem d_Model_tellNode_64 : decode m_Model_tellNode.2.1 64 = .ok (.return_, 1) := by decide +kernel
theorem d_Model_tellNode_65 : decode m_Model_tellNode.2.1 65 = .ok (.aload_n 0, 1) := by decide +kernel
theorem d_Model_tellNode_66 : decode m_Model_tellNode.2.1 66 = .ok (.iload_n 2, 1) := by decide +kernel
theorem d_Model_tellNode_67 : decode m_Model_tellNode.2.1 67 = .ok (.invokestatic 727, 3) := by decide +kernel
theorem d_Model_tellNode_70 : decode m_Model_tellNode.2.1 70 = .ok (.invokevirtual 710, 3) := by decide +kernel
theorem d_Model_tellNode_73 : decode m_Model_tellNode.2.1 73 = .ok (.iload_n 2, 1) := by decide +kernel
theorem d_Model_tellNode_74 : decode m_Model_tellNode.2.1 74 = .ok (.iconst 5, 1) := by decide +kernel
theorem d_Model_tellNode_75 : decode m_Model_tellNode.2.1 75 = .ok (.if_icmp .ne 44, 3) := by decide +kernel
theorem d_Model_tellNode_78 : decode m_Model_tellNode.2.1 78 = .ok (.aload_n 0, 1) := by decide +kernel
theorem d_Model_tellNode_79 : decode m_Model_tellNode.2.1 79 = .ok (.iconst 0, 1) := by decide +kernel
theorem d_Model_tellNode_80 : decode m_Model_tellNode.2.1 80 = .ok (.aload_n 0, 1) := by decide +kernel
theorem d_Model_tellNode_81 : decode m_Model_tellNode.2.1 81 = .ok (.getfield 42, 3) := by decide +kernel
theorem d_Model_tellNode_84 : decode m_Model_tellNode.2.1 84 = .ok (.iload_n 1, 1) := by decide +kernel
theorem d_Model_tellNode_85 : decode m_Model_tellNode.2.1 85 = .ok (.iaload, 1) := by decide +kernel
theorem d_Model_tellNode_86 : decode m_Model_tellNode.2.1 86 = .ok (.invokevirtual 713, 3) := by decide +kernel
theorem d_Model_tellNode_89 : decode m_Model_tellNode.2.1 89 = .ok (.aload_n 0, 1) := by decide +kernel
theorem d_Model_tellNode_90 : decode m_Model_tellNode.2.1 90 = .ok (.iconst 3, 1) := by decide +kernel
theorem d_Model_tellNode_91 : decode m_Model_tellNode.2.1 91 = .ok (.iload_n 1, 1) := by decide +kernel
theorem d_Model_tellNode_92 : decode m_Model_tellNode.2.1 92 = .ok (.invokevirtual 713, 3) := by decide +kernel
theorem d_Model_tellNode_95 : decode m_Model_tellNode.2.1 95 = .ok (.aload_n 0, 1) := by decide +kernel
theorem d_Model_tellNode_96 : decode m_Model_tellNode.2.1 96 = .ok (.iconst 2, 1) := by decide +kernel
theorem d_Model_tellNode_97 : decode m_Model_tellNode.2.1 97 = .ok (.iload_n 1, 1) := by decide +kernel
theorem d_Model_tellNode_98 : decode m_Model_tellNode.2.1 98 = .ok (.invokevirtual 713, 3) := by decide +kernel
theorem d_Model_tellNode_101 : decode m_Model_tellNode.2.1 101 = .ok (.aload_n 0, 1) := by decide +kernel
theorem d_Model_tellNode_102 : decode m_Model_tellNode.2.1 102 = .ok (.iconst 0, 1) := by decide +kernel
theorem d_Model_tellNode_103 : decode m_Model_tellNode.2.1 103 = .ok (.aload_n 0, 1) := by decide +kernel
theorem d_Model_tellNode_104 : decode m_Model_tellNode.2.1 104 = .ok (.getfield 39, 3) := by decide +kernel
theorem d_Model_tellNode_107 : decode m_Model_tellNode.2.1 107 = .ok (.iload_n 1, 1) := by decide +kernel
theorem d_Model_tellNode_108 : decode m_Model_tellNode.2.1 108 = .ok (.iaload, 1) := by decide +kernel
theorem d_Model_tellNode_109 : decode m_Model_tellNode.2.1 109 = .ok (.invokevirtual 713, 3) := by decide +kernel
theorem d_Model_tellNode_112 : decode m_Model_tellNode.2.1 112 = .ok (.aload_n 0, 1) := by decide +kernel
theorem d_Model_tellNode_113 : decode m_Model_tellNode.2.1 113 = .ok (.iconst 1, 1) := by decide +kernel
theorem d_Model_tellNode_114 : decode m_Model_tellNode.2.1 114 = .ok (.iload_n 1, 1) := by decide +kernel
theorem d_Model_tellNode_115 : decode m_Model_tellNode.2.1 115 = .ok (.invokevirtual 713, 3) := by decide +kernel
theorem d_Model_tellNode_118 : decode m_Model_tellNode.2.1 118 = .ok (.return_, 1) := by decide +kernel
theorem d_Model_tellNode_119 : decode m_Model_tellNode.2.1 119 = .ok (.aload_n 0, 1) := by decide +kernel
theorem d_Model_tellNode_120 : decode m_Model_tellNode.2.1 120 = .ok (.iconst 0, 1) := by decide +kernel
theorem d_Model_tellNode_121 : decode m_Model_tellNode.2.1 121 = .ok (.aload_n 0, 1) := by decide +kernel
theorem d_Model_tellNode_122 : decode m_Model_tellNode.2.1 122 = .ok (.getfield 45, 3) := by decide +kernel
theorem d_Model_tellNode_125 : decode m_Model_tellNode.2.1 125 = .ok (.iload_n 1, 1) := by decide +kernel
theorem d_Model_tellNode_126 : decode m_Model_tellNode.2.1 126 = .ok (.iaload, 1) := by decide +kernel
theorem d_Model_tellNode_127 : decode m_Model_tellNode.2.1 127 = .ok (.invokevirtual 713, 3) := by decide +kernel
theorem d_Model_tellNode_130 : decode m_Model_tellNode.2.1 130 = .ok (.aload_n 0, 1) := by decide +kernel
theorem d_Model_tellNode_131 : decode m_Model_tellNode.2.1 131 = .ok (.iconst 0, 1) := by decide +kernel
theorem d_Model_tellNode_132 : decode m_Model_tellNode.2.1 132 = .ok (.aload_n 0, 1) := by decide +kernel
theorem d_Model_tellNode_133 : decode m_Model_tellNode.2.1 133 = .ok (.getfield 42, 3) := by decide +kernel
theorem d_Model_tellNode_136 : decode m_Model_tellNode.2.1 136 = .ok (.iload_n 1, 1) := by decide +kernel
theorem d_Model_tellNode_137 : decode m_Model_tellNode.2.1 137 = .ok (.iaload, 1) := by decide +kernel
theorem d_Model_tellNode_138 : decode m_Model_tellNode.2.1 138 = .ok (.invokevirtual 713, 3) := by decide +kernel
theorem d_Model_tellNode_141 : decode m_Model_tellNode.2.1 141 = .ok (.aload_n 0, 1) := by decide +kernel
theorem d_Model_tellNode_142 : decode m_Model_tellNode.2.1 142 = .ok (.iconst 0, 1) := by decide +kernel
theorem d_Model_tellNode_143 : decode m_Model_tellNode.2.1 143 = .ok (.aload_n 0, 1) := by decide +kernel
theorem d_Model_tellNode_144 : decode m_Model_tellNode.2.1 144 = .ok (.getfield 39, 3) := by decide +kernel
theorem d_Model_tellNode_147 : decode m_Model_tellNode.2.1 147 = .ok (.iload_n 1, 1) := by decide +kernel
theorem d_Model_tellNode_148 : decode m_Model_tellNode.2.1 148 = .ok (.iaload, 1) := by decide +kernel
theorem d_Model_tellNode_149 : decode m_Model_tellNode.2.1 149 = .ok (.invokevirtual 713, 3) := by decide +kernel
theorem d_Model_tellNode_152 : decode m_Model_tellNode.2.1 152 = .ok (.aload_n 0, 1) := by decide +kernel
theorem d_Model_tellNode_153 : decode m_Model_tellNode.2.1 153 = .ok (.getfield 29, 3) := by decide +kernel
theorem d_Model_tellNode_156 : decode m_Model_tellNode.2.1 156 = .ok (.iload_n 1, 1) := by decide +kernel
theorem d_Model_tellNode_157 : decode m_Model_tellNode.2.1 157 = .ok (.laload, 1) := by decide +kernel
theorem d_Model_tellNode_158 : decode m_Model_tellNode.2.1 158 = .ok (.lconst 0, 1) := by decide +kernel
theorem d_Model_tellNode_159 : decode m_Model_tellNode.2.1 159 = .ok (.lcmp, 1) := by decide +kernel
theorem d_Model_tellNode_160 : decode m_Model_tellNode.2.1 160 = .ok (.ifCond .eq 13, 3) := by decide +kernel
theorem d_Model_tellNode_163 : decode m_Model_tellNode.2.1 163 = .ok (.aload_n 0, 1) := by decide +kernel
theorem d_Model_tellNode_164 : decode m_Model_tellNode.2.1 164 = .ok (.aload_n 0, 1) := by decide +kernel
theorem d_Model_tellNode_165 : decode m_Model_tellNode.2.1 165 = .ok (.getfield 29, 3) := by decide +kernel
theorem d_Model_tellNode_168 : decode m_Model_tellNode.2.1 168 = .ok (.iload_n 1, 1) := by decide +kernel
theorem d_Model_tellNode_169 : decode m_Model_tellNode.2.1 169 = .ok (.laload, 1) := by decide +kernel
theorem d_Model_tellNode_170 : decode m_Model_tellNode.2.1 170 = .ok (.invokevirtual 710, 3) := by decide +kernel
theorem d_Model_tellNode_173 : decode m_Model_tellNode.2.1 173 = .ok (.iload_n 2, 1) := by decide +kernel
theorem d_Model_tellNode_174 : decode m_Model_tellNode.2.1 174 = .ok (.iconst 2, 1) := by decide +kernel
theorem d_Model_tellNode_175 : decode m_Model_tellNode.2.1 175 = .ok (.if_icmp .eq 8, 3) := by decide +kernel
theorem d_Model_tellNode_178 : decode m_Model_tellNode.2.1 178 = .ok (.iload_n 2, 1) := by decide +kernel
theorem d_Model_tellNode_179 : decode m_Model_tellNode.2.1 179 = .ok (.iconst 3, 1) := by decide +kernel
theorem d_Model_tellNode_180 : decode m_Model_tellNode.2.1 180 = .ok (.if_icmp .ne 21, 3) := by decide +kernel
theorem d_Model_tellNode_183 : decode m_Model_tellNode.2.1 183 = .ok (.aload_n 0, 1) := by decide +kernel
theorem d_Model_tellNode_184 : decode m_Model_tellNode.2.1 184 = .ok (.iload_n 2, 1) := by decide +kernel
theorem d_Model_tellNode_185 : decode m_Model_tellNode.2.1 185 = .ok (.iconst 2, 1) := by decide +kernel
theorem d_Model_tellNode_186 : decode m_Model_tellNode.2.1 186 = .ok (.if_icmp .ne 9, 3) := by decide +kernel
theorem d_Model_tellNode_189 : decode m_Model_tellNode.2.1 189 = .ok (.ldc2_w 468, 3) := by decide +kernel
theorem d_Model_tellNode_192 : decode m_Model_tellNode.2.1 192 = .ok (.goto 6, 3) := by decide +kernel
theorem d_Model_tellNode_195 : decode m_Model_tellNode.2.1 195 = .ok (.ldc2_w 470, 3) := by decide +kernel
theorem d_Model_tellNode_198 : decode m_Model_tellNode.2.1 198 = .ok (.invokevirtual 710, 3) := by decide +kernel
theorem d_Model_tellNode_201 : decode m_Model_tellNode.2.1 201 = .ok (.aload_n 0, 1) := by decide +kernel
theorem d_Model_tellNode_202 : decode m_Model_tellNode.2.1 202 = .ok (.getfield 33, 3) := by decide +kernel
theorem d_Model_tellNode_205 : decode m_Model_tellNode.2.1 205 = .ok (.iload_n 1, 1) := by decide +kernel
theorem d_Model_tellNode_206 : decode m_Model_tellNode.2.1 206 = .ok (.laload, 1) := by decide +kernel
theorem d_Model_tellNode_207 : decode m_Model_tellNode.2.1 207 = .ok (.lconst 0, 1) := by decide +kernel
theorem d_Model_tellNode_208 : decode m_Model_tellNode.2.1 208 = .ok (.lcmp, 1) := by decide +kernel
theorem d_Model_tellNode_209 : decode m_Model_tellNode.2.1 209 = .ok (.ifCond .eq 13, 3) := by decide +kernel
theorem d_Model_tellNode_212 : decode m_Model_tellNode.2.1 212 = .ok (.aload_n 0, 1) := by decide +kernel
theorem d_Model_tellNode_213 : decode m_Model_tellNode.2.1 213 = .ok (.aload_n 0, 1) := by decide +kernel
theorem d_Model_tellNode_214 : decode m_Model_tellNode.2.1 214 = .ok (.getfield 33, 3) := by decide +kernel
theorem d_Model_tellNode_217 : decode m_Model_tellNode.2.1 217 = .ok (.iload_n 1, 1) := by decide +kernel
theorem d_Model_tellNode_218 : decode m_Model_tellNode.2.1 218 = .ok (.laload, 1) := by decide +kernel
theorem d_Model_tellNode_219 : decode m_Model_tellNode.2.1 219 = .ok (.invokevirtual 710, 3) := by decide +kernel
theorem d_Model_tellNode_222 : decode m_Model_tellNode.2.1 222 = .ok (.aload_n 0, 1) := by decide +kernel
theorem d_Model_tellNode_223 : decode m_Model_tellNode.2.1 223 = .ok (.getfield 36, 3) := by decide +kernel
theorem d_Model_tellNode_226 : decode m_Model_tellNode.2.1 226 = .ok (.iload_n 1, 1) := by decide +kernel
theorem d_Model_tellNode_227 : decode m_Model_tellNode.2.1 227 = .ok (.laload, 1) := by decide +kernel
theorem d_Model_tellNode_228 : decode m_Model_tellNode.2.1 228 = .ok (.lconst 0, 1) := by decide +kernel
theorem d_Model_tellNode_229 : decode m_Model_tellNode.2.1 229 = .ok (.lcmp, 1) := by decide +kernel
theorem d_Model_tellNode_230 : decode m_Model_tellNode.2.1 230 = .ok (.ifCond .eq 13, 3) := by decide +kernel
theorem d_Model_tellNode_233 : decode m_Model_tellNode.2.1 233 = .ok (.aload_n 0, 1) := by decide +kernel
theorem d_Model_tellNode_234 : decode m_Model_tellNode.2.1 234 = .ok (.aload_n 0, 1) := by decide +kernel
theorem d_Model_tellNode_235 : decode m_Model_tellNode.2.1 235 = .ok (.getfield 36, 3) := by decide +kernel
theorem d_Model_tellNode_238 : decode m_Model_tellNode.2.1 238 = .ok (.iload_n 1, 1) := by decide +kernel
theorem d_Model_tellNode_239 : decode m_Model_tellNode.2.1 239 = .ok (.laload, 1) := by decide +kernel
theorem d_Model_tellNode_240 : decode m_Model_tellNode.2.1 240 = .ok (.invokevirtual 710, 3) := by decide +kernel
theorem d_Model_tellNode_243 : decode m_Model_tellNode.2.1 243 = .ok (.return_, 1) := by decide +kernel
theorem layL_n {w n : Nat} {pl : List (Nat × Nat)} : layL w (n : Int) pl = (w, n) :: pl := by
  unfold layL
  rw [if_neg (by omega), Int.toNat_natCast]
theorem layL_le (w : Nat) (z : Int) (pl : List (Nat × Nat)) : (layL w z pl).length ≤ pl.length + 1 := by
  unfold layL; split
  · omega
  · rw [List.length_cons]; exact Nat.le_refl _
/-- the words of a node itself -/
noncomputable def pwN (r : Row) (l : List Nat) : List Nat :=
  let l1 := nmP (r.getD 5 0) (wordL l (kwL (r.getD 0 0).toNat))
  let l2 := if r.getD 0 0 = 1 then wordL l1 (kwL (if r.getD 3 0 = 1 then 3 else 2)) else l1
  nmP (r.getD 7 0) (nmP (r.getD 6 0) l2)
section
variable {M tp pt : Nat} {ρ : Nat → Row} {V : Nat → Int} {I0 I : M32} {L : M64} {R : MR} {T : SH} {l : List Nat} {pile : List (Nat × Nat)}
theorem c_Model_tellNodeC {n : Nat} (d : Nat) (hd : 4 ≤ d) (hM : MdlS M R T) (hS : TlS M I0 l pile I) (hl : pile.length + 3 ≤ 5090) (hr : RowM I0 L M tp pt V n (ρ n)) (hn : n < 5100) (htp : tp ≤ 1100000) (hpt : pt ≤ 20400) (hk : (ρ n).getD 0 0 = 6) (hca : CaN (ρ n)) (h89 : (ρ n).getD 3 0 = 8 → ∃ k p : Nat, (ρ n).getD 8 0 = (k : Int) ∧ (ρ n).getD 9 0 = (p : Int) ∧ (1 ≤ p ∧ p ≤ 4))
    (h1i : -1 ≤ (ρ n).getD 1 0 ∧ (ρ n).getD 1 0 < 5100) (h2i : -1 ≤ (ρ n).getD 2 0 ∧ (ρ n).getD 2 0 < 5100) (h4i : -1 ≤ (ρ n).getD 4 0 ∧ (ρ n).getD 4 0 < 5100) :
    Call m_Model_tellNode y_Model_tellNode d 0 0 [.ref M, .int (cI (n : Int))] I L R T (rV fun I' L' R' T' => TlS M I0 (kaL V (ρ n) l) (layL 0 ((ρ n).getD 1 0) (layL 0 ((ρ n).getD 2 0) (layL 0 ((ρ n).getD 4 0) pile))) I' ∧ L' = L ∧ R' = R ∧ T' = T) := by
  obtain ⟨kk, hkk⟩ : ∃ kk, kk = kdM ((ρ n).getD 0 0) ((ρ n).getD 3 0) := ⟨_, rfl⟩
  have hkr : 8 ≤ kk ∧ kk ≤ 10 := by
    rw [hkk, hk]
    rcases hca with ⟨h, -⟩ | ⟨h, -⟩ | ⟨h, -⟩ <;> rw [h] <;> decide
  refine Call.ofRun (by decide) ⟨rfl, rfl⟩ (Nat.le_of_ble_eq_true rfl) ?_
  refine Run.gen fun Q hQ => ?_
  refine q_aload_n d_Model_tellNode_0 rfl ?_
  refine q_getR d_Model_tellNode_1 fl_Model_26 hM.1 ⟨rfl, by decide⟩ (mR19 hM) ?_
  refine q_iload_n d_Model_tellNode_4 rfl ?_
  refine j_iald (j := n) (v := (cI kk)) d_Model_tellNode_5 (mT19 hM) (mN19 hM) (by omega) (by omega) (by omega) ((hr.tl hS).1.1.trans (by rw [hkk])) ?_
  refine q_istore_n (lv' := [(2, .int (cI kk)), (0, .ref M), (1, .int (cI (n : Int)))]) d_Model_tellNode_6 (by decide) rfl ?_
  refine q_iload_n d_Model_tellNode_7 rfl ?_
  refine j_i2l d_Model_tellNode_8 (by omega) ?_
  refine j_ldc2 (z := 8) d_Model_tellNode_9 (inT12 68 rfl) (by decide) ?_
  refine j_ldc2 (z := 10) d_Model_tellNode_12 (inT11 223 rfl) (by decide) ?_
  refine q_callS (rc := 0) (rs := 0) (rest := []) d_Model_tellNode_15 ml_Model_407 ok_Model_isIn (c_Model_isIn (d - 1) (v := kk) (a := 8) (b := 10) (by omega) (by decide) (by decide)) rfl rfl (by omega) (Nat.le_of_ble_eq_true rfl) (kp_I ?_) kt_I
  refine j_ifb_eq (tgt := 27) d_Model_tellNode_18 (by decide) (fun hx => by exfalso; omega) (fun hx => ?_)
  refine q_aload_n d_Model_tellNode_21 rfl ?_
  refine q_iload_n d_Model_tellNode_22 rfl ?_
  refine q_callV (ci := 17) (rc := 0) (rs := 0) (rest := []) d_Model_tellNode_23 ml_Model_721 ok_Model_tellCase rfl hM.1 (by decide) (c_Model_tellCase (d - 1) (by omega) hM hS hl hr hn htp hpt hk hca h89 h1i h2i h4i) rfl rfl (by omega) (Nat.le_of_ble_eq_true rfl) (kv_V (fun J1 q1 => ?_)) kt_V
  refine q_return d_Model_tellNode_26 rfl ?_
  refine hQ _ _ _ _ _ ?_
  exact ⟨rfl, q1, rfl, rfl, rfl⟩
theorem c_Model_tellNodeV {n : Nat} (d : Nat) (hd : 3 ≤ d) (hM : MdlS M R T) (hS : TlS M I0 l pile I) (hr : RowM I0 L M tp pt V n (ρ n)) (hn : n < 5100) (htp : tp ≤ 1100000) (hk : (ρ n).getD 0 0 = 100) :
    Call m_Model_tellNode y_Model_tellNode d 0 0 [.ref M, .int (cI (n : Int))] I L R T (rV fun I' L' R' T' => TlS M I0 (wordL l (nuL (V ((ρ n).getD 8 0).toNat))) pile I' ∧ L' = L ∧ R' = R ∧ T' = T) := by
  have hrI := hr.tl hS
  obtain ⟨p, y1, mm, y2, y3, y4⟩ := hrI.2.1 hk
  refine Call.ofRun (by decide) ⟨rfl, rfl⟩ (Nat.le_of_ble_eq_true rfl) ?_
  refine Run.gen fun Q hQ => ?_
  refine q_aload_n d_Model_tellNode_0 rfl ?_
  refine q_getR d_Model_tellNode_1 fl_Model_26 hM.1 ⟨rfl, by decide⟩ (mR19 hM) ?_
  refine q_iload_n d_Model_tellNode_4 rfl ?_
  refine j_iald (j := n) (v := (cI 20)) d_Model_tellNode_5 (mT19 hM) (mN19 hM) (by omega) (by omega) (by omega) (hrI.1.1.trans (by rw [hk]; rfl)) ?_
  refine q_istore_n (lv' := [(2, .int (cI 20)), (0, .ref M), (1, .int (cI (n : Int)))]) d_Model_tellNode_6 (by decide) rfl ?_
  refine q_iload_n d_Model_tellNode_7 rfl ?_
  refine j_i2l d_Model_tellNode_8 (by omega) ?_
  refine j_ldc2 (z := 8) d_Model_tellNode_9 (inT12 68 rfl) (by decide) ?_
  refine j_ldc2 (z := 10) d_Model_tellNode_12 (inT11 223 rfl) (by decide) ?_
  refine q_callS (rc := 0) (rs := 0) (rest := []) d_Model_tellNode_15 ml_Model_407 ok_Model_isIn (c_Model_isIn (d - 1) (v := 20) (a := 8) (b := 10) (by omega) (by decide) (by decide)) rfl rfl (by omega) (Nat.le_of_ble_eq_true rfl) (kp_I ?_) kt_I
  refine j_ifb_eq (tgt := 27) d_Model_tellNode_18 (by decide) (fun hx => ?_) (fun hx => by exfalso; omega)
  refine q_iload_n d_Model_tellNode_27 rfl ?_
  refine j_bipush d_Model_tellNode_28 (by decide) ?_
  refine j_icmp_ne (tgt := 44) d_Model_tellNode_30 (by decide) (by omega) (by omega) (fun hx => ?_) (fun hx => by exfalso; omega)
  refine q_iload_n d_Model_tellNode_44 rfl ?_
  refine j_bipush d_Model_tellNode_45 (by decide) ?_
  refine j_icmp_ne (tgt := 65) d_Model_tellNode_47 (by decide) (by omega) (by omega) (fun hx => by exfalso; omega) (fun hx => ?_)
  refine q_aload_n d_Model_tellNode_50 rfl ?_
  refine q_callV (ci := 17) (rc := 0) (rs := 0) (rest := []) d_Model_tellNode_51 ml_Model_417 ok_Model_putBlank rfl hM.1 (by decide) (c_Model_putBlank (d - 1) (by omega) hM hS.1) rfl rfl (by omega) (Nat.le_of_ble_eq_true rfl) (kv_V (fun J1 q1 => ?_)) kt_V
  have s1 := hS.out q1.1 q1.2
  refine q_aload_n d_Model_tellNode_54 rfl ?_
  refine q_aload_n d_Model_tellNode_55 rfl ?_
  refine q_getR d_Model_tellNode_56 fl_Model_51 hM.1 ⟨rfl, by decide⟩ (mR27 hM) ?_
  refine q_iload_n d_Model_tellNode_59 rfl ?_
  refine j_iald (j := n) (v := (cI (p : Int))) d_Model_tellNode_60 (mT27 hM) (mN27 hM) (by omega) (by omega) (by omega) (by rw [q1.2.1 _ (by omega) (by omega)]; exact y1) ?_
  refine q_callV (ci := 17) (rc := 0) (rs := 0) (rest := []) d_Model_tellNode_61 ml_Model_716 ok_Model_putNumber rfl hM.1 (by decide) (c_Model_putNumber (d - 1) (by omega) hM s1.1 (y4.congr fun k _ hk => by rw [q1.2.1 _ (by omega) (by omega)]) (by omega)) rfl rfl (by omega) (Nat.le_of_ble_eq_true rfl) (kv_V (fun J2 q2 => ?_)) kt_V
  obtain ⟨dn1, dd1, v2, f2⟩ := q2
  rw [nuL_eq dd1] at v2
  have s2 := s1.out v2 f2
  refine q_return d_Model_tellNode_64 rfl ?_
  refine hQ _ _ _ _ _ ?_
  exact ⟨rfl, s2, rfl, rfl, rfl⟩
theorem c_Model_tellNodeP {n x : Nat} (d : Nat) (hd : 4 ≤ d) (hM : MdlS M R T) (hS : TlS M I0 l pile I) (hr : RowM I0 L M tp pt V n (ρ n)) (hn : n < 5100) (hk : (ρ n).getD 0 0 = 102) (hx5 : (ρ n).getD 5 0 = (x : Int)) (hxn : nmO x) :
    Call m_Model_tellNode y_Model_tellNode d 0 0 [.ref M, .int (cI (n : Int))] I L R T (rV fun I' L' R' T' => TlS M I0 (wordL l (63 :: nmL x)) pile I' ∧ L' = L ∧ R' = R ∧ T' = T) := by
  have hrI := hr.tl hS
  refine Call.ofRun (by decide) ⟨rfl, rfl⟩ (Nat.le_of_ble_eq_true rfl) ?_
  refine Run.gen fun Q hQ => ?_
  refine q_aload_n d_Model_tellNode_0 rfl ?_
  refine q_getR d_Model_tellNode_1 fl_Model_26 hM.1 ⟨rfl, by decide⟩ (mR19 hM) ?_
  refine q_iload_n d_Model_tellNode_4 rfl ?_
  refine j_iald (j := n) (v := (cI 21)) d_Model_tellNode_5 (mT19 hM) (mN19 hM) (by omega) (by omega) (by omega) (hrI.1.1.trans (by rw [hk]; rfl)) ?_
  refine q_istore_n (lv' := [(2, .int (cI 21)), (0, .ref M), (1, .int (cI (n : Int)))]) d_Model_tellNode_6 (by decide) rfl ?_
  refine q_iload_n d_Model_tellNode_7 rfl ?_
  refine j_i2l d_Model_tellNode_8 (by omega) ?_
  refine j_ldc2 (z := 8) d_Model_tellNode_9 (inT12 68 rfl) (by decide) ?_
  refine j_ldc2 (z := 10) d_Model_tellNode_12 (inT11 223 rfl) (by decide) ?_
  refine q_callS (rc := 0) (rs := 0) (rest := []) d_Model_tellNode_15 ml_Model_407 ok_Model_isIn (c_Model_isIn (d - 1) (v := 21) (a := 8) (b := 10) (by omega) (by decide) (by decide)) rfl rfl (by omega) (Nat.le_of_ble_eq_true rfl) (kp_I ?_) kt_I
  refine j_ifb_eq (tgt := 27) d_Model_tellNode_18 (by decide) (fun hx => ?_) (fun hx => by exfalso; omega)
  refine q_iload_n d_Model_tellNode_27 rfl ?_
  refine j_bipush d_Model_tellNode_28 (by decide) ?_
  refine j_icmp_ne (tgt := 44) d_Model_tellNode_30 (by decide) (by omega) (by omega) (fun hx => by exfalso; omega) (fun hx => ?_)
  refine q_aload_n d_Model_tellNode_33 rfl ?_
  refine q_aload_n d_Model_tellNode_34 rfl ?_
  refine q_getR d_Model_tellNode_35 fl_Model_29 hM.1 ⟨rfl, by decide⟩ (mR20 hM) ?_
  refine q_iload_n d_Model_tellNode_38 rfl ?_
  refine j_lald (j := n) (v := (cL (x : Int))) d_Model_tellNode_39 (mT20 hM) (mN20 hM) (by omega) (by omega) (by omega) (hrI.1.2.2.2.2.2.1.trans (by rw [hx5])) ?_
  refine q_callV (ci := 17) (rc := 0) (rs := 0) (rest := []) d_Model_tellNode_40 ml_Model_724 ok_Model_putAsked rfl hM.1 (by decide) (c_Model_putAsked (d - 1) (by omega) hM hS.1 hxn) rfl rfl (by omega) (Nat.le_of_ble_eq_true rfl) (kv_V (fun J1 q1 => ?_)) kt_V
  have s1 := hS.out q1.1 q1.2
  refine q_return d_Model_tellNode_43 rfl ?_
  refine hQ _ _ _ _ _ ?_
  exact ⟨rfl, s1, rfl, rfl, rfl⟩
theorem c_Model_tellNodeH {n : Nat} (d : Nat) (hd : 4 ≤ d) (hM : MdlS M R T) (hS : TlS M I0 l pile I) (hl : pile.length + 5 ≤ 5090) (hr : RowM I0 L M tp pt V n (ρ n)) (hn : n < 5100) (hk : (ρ n).getD 0 0 = 5) (h1i : -1 ≤ (ρ n).getD 1 0 ∧ (ρ n).getD 1 0 < 5100) (h2i : -1 ≤ (ρ n).getD 2 0 ∧ (ρ n).getD 2 0 < 5100) :
    Call m_Model_tellNode y_Model_tellNode d 0 0 [.ref M, .int (cI (n : Int))] I L R T (rV fun I' L' R' T' => TlS M I0 (wordL l (kwL 5)) ((1, n) :: layL 0 ((ρ n).getD 1 0) ((2, n) :: (3, n) :: layL 0 ((ρ n).getD 2 0) pile)) I' ∧ L' = L ∧ R' = R ∧ T' = T) := by
  have hrw : ∀ J l' pile', TlS M I0 l' pile' J → RowM J L M tp pt V n (ρ n) := fun J l' pile' h => hr.tl h
  have hrI := hr.tl hS
  obtain ⟨c1, hc1⟩ : ∃ c1, c1 = (ρ n).getD 1 0 := ⟨_, rfl⟩
  obtain ⟨c2, hc2⟩ : ∃ c2, c2 = (ρ n).getD 2 0 := ⟨_, rfl⟩
  rw [← hc1] at h1i
  rw [← hc2] at h2i
  rw [← hc1, ← hc2]
  refine Call.ofRun (by decide) ⟨rfl, rfl⟩ (Nat.le_of_ble_eq_true rfl) ?_
  refine Run.gen fun Q hQ => ?_
  refine q_aload_n d_Model_tellNode_0 rfl ?_
  refine q_getR d_Model_tellNode_1 fl_Model_26 hM.1 ⟨rfl, by decide⟩ (mR19 hM) ?_
  refine q_iload_n d_Model_tellNode_4 rfl ?_
  refine j_iald (j := n) (v := (cI 5)) d_Model_tellNode_5 (mT19 hM) (mN19 hM) (by omega) (by omega) (by omega) (hrI.1.1.trans (by rw [hk]; rfl)) ?_
  refine q_istore_n (lv' := [(2, .int (cI 5)), (0, .ref M), (1, .int (cI (n : Int)))]) d_Model_tellNode_6 (by decide) rfl ?_
  refine q_iload_n d_Model_tellNode_7 rfl ?_
  refine j_i2l d_Model_tellNode_8 (by omega) ?_
  refine j_ldc2 (z := 8) d_Model_tellNode_9 (inT12 68 rfl) (by decide) ?_
  refine j_ldc2 (z := 10) d_Model_tellNode_12 (inT11 223 rfl) (by decide) ?_
  refine q_callS (rc := 0) (rs := 0) (rest := []) d_Model_tellNode_15 ml_Model_407 ok_Model_isIn (c_Model_isIn (d - 1) (v := 5) (a := 8) (b := 10) (by omega) (by decide) (by decide)) rfl rfl (by omega) (Nat.le_of_ble_eq_true rfl) (kp_I ?_) kt_I
  refine j_ifb_eq (tgt := 27) d_Model_tellNode_18 (by decide) (fun hx => ?_) (fun hx => by exfalso; omega)
  refine q_iload_n d_Model_tellNode_27 rfl ?_
  refine j_bipush d_Model_tellNode_28 (by decide) ?_
  refine j_icmp_ne (tgt := 44) d_Model_tellNode_30 (by decide) (by omega) (by omega) (fun hx => ?_) (fun hx => by exfalso; omega)
  refine q_iload_n d_Model_tellNode_44 rfl ?_
  refine j_bipush d_Model_tellNode_45 (by decide) ?_
  refine j_icmp_ne (tgt := 65) d_Model_tellNode_47 (by decide) (by omega) (by omega) (fun hx => ?_) (fun hx => by exfalso; omega)
  refine q_aload_n d_Model_tellNode_65 rfl ?_
  refine q_iload_n d_Model_tellNode_66 rfl ?_
  refine q_callS (rc := 0) (rs := 0) (rest := [.ref M]) d_Model_tellNode_67 ml_Model_727 ok_Model_wordOf (c_Model_wordOf (d - 1) (w := 5) (by decide)) rfl rfl (by omega) (Nat.le_of_ble_eq_true rfl) (kp_L ?_) kt_L
  refine q_callV (ci := 17) (rc := 0) (rs := 0) (rest := []) d_Model_tellNode_70 ml_Model_710 ok_Model_putWord rfl hM.1 (by decide) (c_Model_putWord (d - 1) (by omega) hM hS.1 (NmN_kw 5 (by decide))) rfl rfl (by omega) (Nat.le_of_ble_eq_true rfl) (kv_V (fun J1 q1 => ?_)) kt_V
  have s1 : TlS M I0 (wordL l (kwL 5)) pile J1 := hS.out q1.1 q1.2
  refine q_iload_n d_Model_tellNode_73 rfl ?_
  refine j_iconst d_Model_tellNode_74 ?_
  refine j_icmp_ne (tgt := 119) d_Model_tellNode_75 (by decide) (by omega) (by omega) (fun hx => by exfalso; omega) (fun hx => ?_)
  refine q_aload_n d_Model_tellNode_78 rfl ?_
  refine j_iconst d_Model_tellNode_79 ?_
  refine q_aload_n d_Model_tellNode_80 rfl ?_
  refine q_getR d_Model_tellNode_81 fl_Model_42 hM.1 ⟨rfl, by decide⟩ (mR24 hM) ?_
  refine q_iload_n d_Model_tellNode_84 rfl ?_
  refine j_iald (j := n) (v := (cI c2)) d_Model_tellNode_85 (mT24 hM) (mN24 hM) (by omega) (by omega) (by omega) ((hrw _ _ _ s1).1.2.2.1.trans (by rw [← hc2])) ?_
  refine q_callV (ci := 17) (rc := 0) (rs := 0) (rest := []) d_Model_tellNode_86 ml_Model_713 ok_Model_lay rfl hM.1 (by decide) (c_Model_lay (d - 1) (w := 0) hM s1 (by omega) (by omega)) rfl rfl (by omega) (Nat.le_of_ble_eq_true rfl) (kv_V (fun J2 s2 => ?_)) kt_V
  have g2 := layL_le 0 c2 pile
  refine q_aload_n d_Model_tellNode_89 rfl ?_
  refine j_iconst d_Model_tellNode_90 ?_
  refine q_iload_n d_Model_tellNode_91 rfl ?_
  refine q_callV (ci := 17) (rc := 0) (rs := 0) (rest := []) d_Model_tellNode_92 ml_Model_713 ok_Model_lay rfl hM.1 (by decide) (c_Model_lay (d - 1) (w := 3) hM s2 (by omega) (by omega)) rfl rfl (by omega) (Nat.le_of_ble_eq_true rfl) (kv_V (fun J3 s3 => ?_)) kt_V
  rw [layL_n] at s3
  refine q_aload_n d_Model_tellNode_95 rfl ?_
  refine j_iconst d_Model_tellNode_96 ?_
  refine q_iload_n d_Model_tellNode_97 rfl ?_
  refine q_callV (ci := 17) (rc := 0) (rs := 0) (rest := []) d_Model_tellNode_98 ml_Model_713 ok_Model_lay rfl hM.1 (by decide) (c_Model_lay (d - 1) (w := 2) hM s3 (by rw [List.length_cons]; omega) (by omega)) rfl rfl (by omega) (Nat.le_of_ble_eq_true rfl) (kv_V (fun J4 s4 => ?_)) kt_V
  rw [layL_n] at s4
  refine q_aload_n d_Model_tellNode_101 rfl ?_
  refine j_iconst d_Model_tellNode_102 ?_
  refine q_aload_n d_Model_tellNode_103 rfl ?_
  refine q_getR d_Model_tellNode_104 fl_Model_39 hM.1 ⟨rfl, by decide⟩ (mR23 hM) ?_
  refine q_iload_n d_Model_tellNode_107 rfl ?_
  refine j_iald (j := n) (v := (cI c1)) d_Model_tellNode_108 (mT23 hM) (mN23 hM) (by omega) (by omega) (by omega) ((hrw _ _ _ s4).1.2.1.trans (by rw [← hc1])) ?_
  refine q_callV (ci := 17) (rc := 0) (rs := 0) (rest := []) d_Model_tellNode_109 ml_Model_713 ok_Model_lay rfl hM.1 (by decide) (c_Model_lay (d - 1) (w := 0) hM s4 (by rw [List.length_cons, List.length_cons]; omega) (by omega)) rfl rfl (by omega) (Nat.le_of_ble_eq_true rfl) (kv_V (fun J5 s5 => ?_)) kt_V
  have g5 := layL_le 0 c1 ((2, n) :: (3, n) :: layL 0 c2 pile)
  rw [List.length_cons, List.length_cons] at g5
  refine q_aload_n d_Model_tellNode_112 rfl ?_
  refine j_iconst d_Model_tellNode_113 ?_
  refine q_iload_n d_Model_tellNode_114 rfl ?_
  refine q_callV (ci := 17) (rc := 0) (rs := 0) (rest := []) d_Model_tellNode_115 ml_Model_713 ok_Model_lay rfl hM.1 (by decide) (c_Model_lay (d - 1) (w := 1) hM s5 (by omega) (by omega)) rfl rfl (by omega) (Nat.le_of_ble_eq_true rfl) (kv_V (fun J6 s6 => ?_)) kt_V
  rw [layL_n] at s6
  refine q_return d_Model_tellNode_118 rfl ?_
  refine hQ _ _ _ _ _ ?_
  exact ⟨rfl, s6, rfl, rfl, rfl⟩
theorem kdM_g {k : Nat} {h : Int} (hk : k < 34) (hn : k ≠ 2 ∧ k ≠ 3 ∧ k ≠ 5 ∧ k ≠ 6 ∧ k ≠ 7 ∧ k ≠ 8 ∧ k ≠ 9) : (1 ≤ kdM k h ∧ kdM k h ≤ 50) ∧ kdM k h ≠ 5 ∧ ¬ (8 ≤ kdM k h ∧ kdM k h ≤ 21) ∧ (kdM k h = 2 ↔ k = 1 ∧ h ≠ 1) ∧ (kdM k h = 3 ↔ k = 1 ∧ h = 1) := by
  unfold kdM
  (repeat' split) <;> omega
theorem c_Model_tellNodeW {n k : Nat} {c3 : Int} (d : Nat) (hd : 4 ≤ d) (hM : MdlS M R T) (hS : TlS M I0 l pile I) (hl : pile.length + 5 ≤ 5090) (hr : RowM I0 L M tp pt V n (ρ n)) (hn : n < 5100) (hk : (ρ n).getD 0 0 = (k : Int)) (hk34 : k < 34) (hkn : k ≠ 2 ∧ k ≠ 3 ∧ k ≠ 5 ∧ k ≠ 6 ∧ k ≠ 7 ∧ k ≠ 8 ∧ k ≠ 9) (h5 : nmZ (ρ n) 5) (h6 : nmZ (ρ n) 6) (h7 : nmZ (ρ n) 7) (h1i : -1 ≤ (ρ n).getD 1 0 ∧ (ρ n).getD 1 0 < 5100) (h2i : -1 ≤ (ρ n).getD 2 0 ∧ (ρ n).getD 2 0 < 5100) (hc3 : c3 = if (ρ n).getD 0 0 = 4 ∨ (ρ n).getD 0 0 = 22 then (ρ n).getD 3 0 else -1) (h3i : -1 ≤ c3 ∧ c3 < 5100) :
    Call m_Model_tellNode y_Model_tellNode d 0 0 [.ref M, .int (cI (n : Int))] I L R T (rV fun I' L' R' T' => TlS M I0 (pwN (ρ n) l) (layL 0 ((ρ n).getD 1 0) (layL 0 ((ρ n).getD 2 0) (layL 0 c3 pile))) I' ∧ L' = L ∧ R' = R ∧ T' = T) := by
  have hrw : ∀ J l' pile', TlS M I0 l' pile' J → RowM J L M tp pt V n (ρ n) := fun J l' pile' h => hr.tl h
  have hrI := hr.tl hS
  obtain ⟨c1, hc1⟩ : ∃ c1, c1 = (ρ n).getD 1 0 := ⟨_, rfl⟩
  obtain ⟨c2, hc2⟩ : ∃ c2, c2 = (ρ n).getD 2 0 := ⟨_, rfl⟩
  rw [← hc1] at h1i
  rw [← hc2] at h2i
  rw [← hc1, ← hc2]
  obtain ⟨kk, hkk⟩ : ∃ kk, kk = kdM ((ρ n).getD 0 0) ((ρ n).getD 3 0) := ⟨_, rfl⟩
  have hkr := kdM_g (h := (ρ n).getD 3 0) hk34 hkn
  have hwd := wdF_kw (h := (ρ n).getD 3 0) hk34 ⟨hkn.1, hkn.2.1, hkn.2.2.2.1, hkn.2.2.2.2.1, hkn.2.2.2.2.2.1, hkn.2.2.2.2.2.2⟩
  rw [← hk, ← hkk] at hkr hwd
  obtain ⟨x5, e5, y5⟩ := h5
  obtain ⟨x6, e6, y6⟩ := h6
  obtain ⟨x7, e7, y7⟩ := h7
  have b63 : ∀ x : Nat, (x = 0 ∨ nmO x) → x < 9223372036854775808 := fun x h => by
    rcases h with h | ⟨-, n, h⟩
    · omega
    · exact h.2.2.1
  have b5 := b63 x5 y5
  have b6 := b63 x6 y6
  have b7 := b63 x7 y7
  have enm : ∀ (x n : Nat) l0, 0 < x → NmN x n → nmP (x : Int) l0 = wordL l0 (spl x n) := fun x n l0 h h2 => by unfold nmP; rw [if_neg (by omega), Int.toNat_natCast, nmL_eq h2]
  have en0 : ∀ l0, nmP ((0 : Nat) : Int) l0 = l0 := fun l0 => by unfold nmP; rw [if_pos (show ((0 : Nat) : Int) = 0 from rfl)]
  unfold pwN
  simp only [hk, e5, e6, e7, Int.toNat_natCast]
  refine Call.ofRun (by decide) ⟨rfl, rfl⟩ (Nat.le_of_ble_eq_true rfl) ?_
  refine Run.gen fun Q hQ => ?_
  refine q_aload_n d_Model_tellNode_0 rfl ?_
  refine q_getR d_Model_tellNode_1 fl_Model_26 hM.1 ⟨rfl, by decide⟩ (mR19 hM) ?_
  refine q_iload_n d_Model_tellNode_4 rfl ?_
  refine j_iald (j := n) (v := (cI kk)) d_Model_tellNode_5 (mT19 hM) (mN19 hM) (by omega) (by omega) (by omega) (hrI.1.1.trans (by rw [hkk])) ?_
  refine q_istore_n (lv' := [(2, .int (cI kk)), (0, .ref M), (1, .int (cI (n : Int)))]) d_Model_tellNode_6 (by decide) rfl ?_
  refine q_iload_n d_Model_tellNode_7 rfl ?_
  refine j_i2l d_Model_tellNode_8 (by omega) ?_
  refine j_ldc2 (z := 8) d_Model_tellNode_9 (inT12 68 rfl) (by decide) ?_
  refine j_ldc2 (z := 10) d_Model_tellNode_12 (inT11 223 rfl) (by decide) ?_
  refine q_callS (rc := 0) (rs := 0) (rest := []) d_Model_tellNode_15 ml_Model_407 ok_Model_isIn (c_Model_isIn (d - 1) (v := kk) (a := 8) (b := 10) (by omega) (by decide) (by decide)) rfl rfl (by omega) (Nat.le_of_ble_eq_true rfl) (kp_I ?_) kt_I
  refine j_ifb_eq (tgt := 27) d_Model_tellNode_18 (by decide) (fun hx => ?_) (fun hx => by exfalso; omega)
  refine q_iload_n d_Model_tellNode_27 rfl ?_
  refine j_bipush d_Model_tellNode_28 (by decide) ?_
  refine j_icmp_ne (tgt := 44) d_Model_tellNode_30 (by decide) (by omega) (by omega) (fun hx => ?_) (fun hx => by exfalso; omega)
  refine q_iload_n d_Model_tellNode_44 rfl ?_
  refine j_bipush d_Model_tellNode_45 (by decide) ?_
  refine j_icmp_ne (tgt := 65) d_Model_tellNode_47 (by decide) (by omega) (by omega) (fun hx => ?_) (fun hx => by exfalso; omega)
  refine q_aload_n d_Model_tellNode_65 rfl ?_
  refine q_iload_n d_Model_tellNode_66 rfl ?_
  refine q_callS (rc := 0) (rs := 0) (rest := [.ref M]) d_Model_tellNode_67 ml_Model_727 ok_Model_wordOf (c_Model_wordOf (d - 1) (w := kk) (by omega)) rfl rfl (by omega) (Nat.le_of_ble_eq_true rfl) (kp_L ?_) kt_L
  rw [hwd]
  refine q_callV (ci := 17) (rc := 0) (rs := 0) (rest := []) d_Model_tellNode_70 ml_Model_710 ok_Model_putWord rfl hM.1 (by decide) (c_Model_putWord (d - 1) (by omega) hM hS.1 (NmN_kw k hk34)) rfl rfl (by omega) (Nat.le_of_ble_eq_true rfl) (kv_V (fun J1 q1 => ?_)) kt_V
  have s1 : TlS M I0 (wordL l (kwL k)) pile J1 := hS.out q1.1 q1.2
  refine q_iload_n d_Model_tellNode_73 rfl ?_
  refine j_iconst d_Model_tellNode_74 ?_
  refine j_icmp_ne (tgt := 119) d_Model_tellNode_75 (by decide) (by omega) (by omega) (fun hx => ?_) (fun hx => by exfalso; omega)
  refine q_aload_n d_Model_tellNode_119 rfl ?_
  refine j_iconst d_Model_tellNode_120 ?_
  refine q_aload_n d_Model_tellNode_121 rfl ?_
  refine q_getR d_Model_tellNode_122 fl_Model_45 hM.1 ⟨rfl, by decide⟩ (mR25 hM) ?_
  refine q_iload_n d_Model_tellNode_125 rfl ?_
  refine j_iald (j := n) (v := (cI c3)) d_Model_tellNode_126 (mT25 hM) (mN25 hM) (by omega) (by omega) (by omega) (((hrw _ _ _ s1).1.2.2.2.1 (by rw [hk]; omega)).trans (by rw [hc3])) ?_
  refine q_callV (ci := 17) (rc := 0) (rs := 0) (rest := []) d_Model_tellNode_127 ml_Model_713 ok_Model_lay rfl hM.1 (by decide) (c_Model_lay (d - 1) (w := 0) hM s1 (by omega) (by omega)) rfl rfl (by omega) (Nat.le_of_ble_eq_true rfl) (kv_V (fun J2 s2 => ?_)) kt_V
  have g2 := layL_le 0 c3 pile
  refine q_aload_n d_Model_tellNode_130 rfl ?_
  refine j_iconst d_Model_tellNode_131 ?_
  refine q_aload_n d_Model_tellNode_132 rfl ?_
  refine q_getR d_Model_tellNode_133 fl_Model_42 hM.1 ⟨rfl, by decide⟩ (mR24 hM) ?_
  refine q_iload_n d_Model_tellNode_136 rfl ?_
  refine j_iald (j := n) (v := (cI c2)) d_Model_tellNode_137 (mT24 hM) (mN24 hM) (by omega) (by omega) (by omega) ((hrw _ _ _ s2).1.2.2.1.trans (by rw [← hc2])) ?_
  refine q_callV (ci := 17) (rc := 0) (rs := 0) (rest := []) d_Model_tellNode_138 ml_Model_713 ok_Model_lay rfl hM.1 (by decide) (c_Model_lay (d - 1) (w := 0) hM s2 (by omega) (by omega)) rfl rfl (by omega) (Nat.le_of_ble_eq_true rfl) (kv_V (fun J3 s3 => ?_)) kt_V
  have g3 := layL_le 0 c2 (layL 0 c3 pile)
  refine q_aload_n d_Model_tellNode_141 rfl ?_
  refine j_iconst d_Model_tellNode_142 ?_
  refine q_aload_n d_Model_tellNode_143 rfl ?_
  refine q_getR d_Model_tellNode_144 fl_Model_39 hM.1 ⟨rfl, by decide⟩ (mR23 hM) ?_
  refine q_iload_n d_Model_tellNode_147 rfl ?_
  refine j_iald (j := n) (v := (cI c1)) d_Model_tellNode_148 (mT23 hM) (mN23 hM) (by omega) (by omega) (by omega) ((hrw _ _ _ s3).1.2.1.trans (by rw [← hc1])) ?_
  refine q_callV (ci := 17) (rc := 0) (rs := 0) (rest := []) d_Model_tellNode_149 ml_Model_713 ok_Model_lay rfl hM.1 (by decide) (c_Model_lay (d - 1) (w := 0) hM s3 (by omega) (by omega)) rfl rfl (by omega) (Nat.le_of_ble_eq_true rfl) (kv_V (fun J4 s4 => ?_)) kt_V
  obtain ⟨pl, hpl⟩ : ∃ pl, pl = layL 0 c1 (layL 0 c2 (layL 0 c3 pile)) := ⟨_, rfl⟩
  rw [← hpl] at s4 hQ
  obtain ⟨l1, hl1⟩ : ∃ l1, l1 = nmP (x5 : Int) (wordL l (kwL k)) := ⟨_, rfl⟩
  rw [← hl1] at hQ
  obtain ⟨l2, hl2⟩ : ∃ l2, l2 = (if (k : Int) = 1 then wordL l1 (kwL (if (ρ n).getD 3 0 = 1 then 3 else 2)) else l1) := ⟨_, rfl⟩
  rw [← hl2] at hQ
  obtain ⟨l3, hl3⟩ : ∃ l3, l3 = nmP (x6 : Int) l2 := ⟨_, rfl⟩
  rw [← hl3] at hQ
  have t222 : ∀ (JJ : M32), TlS M I0 l3 pl JJ → Run m_Model_tellNode d 0 0 222 [(0, .ref M), (1, .int (cI (n : Int))), (2, .int (cI kk))] [] JJ L R T Q := by
    intro JJ sj
    refine q_aload_n d_Model_tellNode_222 rfl ?_
    refine q_getR d_Model_tellNode_223 fl_Model_36 hM.1 ⟨rfl, by decide⟩ (mR22 hM) ?_
    refine q_iload_n d_Model_tellNode_226 rfl ?_
    refine j_lald (j := n) (v := (cL (x7 : Int))) d_Model_tellNode_227 (mT22 hM) (mN22 hM) (by omega) (by omega) (by omega) (hrI.1.2.2.2.2.2.2.2.1.trans (by rw [e7])) ?_
    refine j_lconst (z := 0) d_Model_tellNode_228 (by decide) ?_
    by_cases hz : x7 = 0
    · refine j_lcmp_eq (tgt := 243) d_Model_tellNode_229 d_Model_tellNode_230 (by decide) (by omega) (by omega) (fun hx => ?_) (fun hx => by exfalso; omega)
      refine q_return d_Model_tellNode_243 rfl ?_
      refine hQ _ _ _ _ _ ?_
      refine ⟨rfl, ?_, rfl, rfl, rfl⟩
      rw [hz, en0]
      exact sj
    rcases y7 with y7 | ⟨y0, nn, y7⟩
    · exact absurd y7 hz
    refine j_lcmp_eq (tgt := 243) d_Model_tellNode_229 d_Model_tellNode_230 (by decide) (by omega) (by omega) (fun hx => by exfalso; omega) (fun hx => ?_)
    refine q_aload_n d_Model_tellNode_233 rfl ?_
    refine q_aload_n d_Model_tellNode_234 rfl ?_
    refine q_getR d_Model_tellNode_235 fl_Model_36 hM.1 ⟨rfl, by decide⟩ (mR22 hM) ?_
    refine q_iload_n d_Model_tellNode_238 rfl ?_
    refine j_lald (j := n) (v := (cL (x7 : Int))) d_Model_tellNode_239 (mT22 hM) (mN22 hM) (by omega) (by omega) (by omega) (hrI.1.2.2.2.2.2.2.2.1.trans (by rw [e7])) ?_
    refine q_callV (ci := 17) (rc := 0) (rs := 0) (rest := []) d_Model_tellNode_240 ml_Model_710 ok_Model_putWord rfl hM.1 (by decide) (c_Model_putWord (d - 1) (by omega) hM sj.1 y7) rfl rfl (by omega) (Nat.le_of_ble_eq_true rfl) (kv_V (fun K1 w1 => ?_)) kt_V
    have t1 := sj.out w1.1 w1.2
    refine q_return d_Model_tellNode_243 rfl ?_
    refine hQ _ _ _ _ _ ?_
    refine ⟨rfl, ?_, rfl, rfl, rfl⟩
    rw [enm x7 nn _ y0 y7]
    exact t1
  have t201 : ∀ (JJ : M32), TlS M I0 l2 pl JJ → Run m_Model_tellNode d 0 0 201 [(0, .ref M), (1, .int (cI (n : Int))), (2, .int (cI kk))] [] JJ L R T Q := by
    intro JJ sj
    refine q_aload_n d_Model_tellNode_201 rfl ?_
    refine q_getR d_Model_tellNode_202 fl_Model_33 hM.1 ⟨rfl, by decide⟩ (mR21 hM) ?_
    refine q_iload_n d_Model_tellNode_205 rfl ?_
    refine j_lald (j := n) (v := (cL (x6 : Int))) d_Model_tellNode_206 (mT21 hM) (mN21 hM) (by omega) (by omega) (by omega) (hrI.1.2.2.2.2.2.2.1.trans (by rw [e6])) ?_
    refine j_lconst (z := 0) d_Model_tellNode_207 (by decide) ?_
    by_cases hz : x6 = 0
    · refine j_lcmp_eq (tgt := 222) d_Model_tellNode_208 d_Model_tellNode_209 (by decide) (by omega) (by omega) (fun hx => ?_) (fun hx => by exfalso; omega)
      exact t222 _ (by rw [hl3, hz, en0]; exact sj)
    rcases y6 with y6 | ⟨y0, nn, y6⟩
    · exact absurd y6 hz
    refine j_lcmp_eq (tgt := 222) d_Model_tellNode_208 d_Model_tellNode_209 (by decide) (by omega) (by omega) (fun hx => by exfalso; omega) (fun hx => ?_)
    refine q_aload_n d_Model_tellNode_212 rfl ?_
    refine q_aload_n d_Model_tellNode_213 rfl ?_
    refine q_getR d_Model_tellNode_214 fl_Model_33 hM.1 ⟨rfl, by decide⟩ (mR21 hM) ?_
    refine q_iload_n d_Model_tellNode_217 rfl ?_
    refine j_lald (j := n) (v := (cL (x6 : Int))) d_Model_tellNode_218 (mT21 hM) (mN21 hM) (by omega) (by omega) (by omega) (hrI.1.2.2.2.2.2.2.1.trans (by rw [e6])) ?_
    refine q_callV (ci := 17) (rc := 0) (rs := 0) (rest := []) d_Model_tellNode_219 ml_Model_710 ok_Model_putWord rfl hM.1 (by decide) (c_Model_putWord (d - 1) (by omega) hM sj.1 y6) rfl rfl (by omega) (Nat.le_of_ble_eq_true rfl) (kv_V (fun K1 w1 => ?_)) kt_V
    have t1 := sj.out w1.1 w1.2
    exact t222 _ (by rw [hl3, enm x6 nn _ y0 y6]; exact t1)
  have t173 : ∀ (JJ : M32), TlS M I0 l1 pl JJ → Run m_Model_tellNode d 0 0 173 [(0, .ref M), (1, .int (cI (n : Int))), (2, .int (cI kk))] [] JJ L R T Q := by
    intro JJ sj
    refine q_iload_n d_Model_tellNode_173 rfl ?_
    refine j_iconst d_Model_tellNode_174 ?_
    by_cases hk1 : k = 1
    rotate_left
    · refine j_icmp_eq (tgt := 183) d_Model_tellNode_175 (by decide) (by omega) (by omega) (fun hx => by exfalso; omega) (fun hx => ?_)
      refine q_iload_n d_Model_tellNode_178 rfl ?_
      refine j_iconst d_Model_tellNode_179 ?_
      refine j_icmp_ne (tgt := 201) d_Model_tellNode_180 (by decide) (by omega) (by omega) (fun hx => ?_) (fun hx => by exfalso; omega)
      exact t201 _ (by rw [hl2, if_neg (by omega)]; exact sj)
    have t183 : ∀ (dummy : True), True → Run m_Model_tellNode d 0 0 183 [(0, .ref M), (1, .int (cI (n : Int))), (2, .int (cI kk))] [] JJ L R T Q := by
      intro _ _
      refine q_aload_n d_Model_tellNode_183 rfl ?_
      refine q_iload_n d_Model_tellNode_184 rfl ?_
      refine j_iconst d_Model_tellNode_185 ?_
      suffices J : ∀ (u : Int), (((¬ kk = 2) ∧ u = 1768846447) ∨ ((kk = 2) ∧ u = 29807)) → Run m_Model_tellNode d 0 0 198 [(0, .ref M), (1, .int (cI (n : Int))), (2, .int (cI kk))] [.long (cL u), .ref M] JJ L R T Q by
        refine j_icmp_ne (tgt := 195) d_Model_tellNode_186 (by decide) (by omega) (by omega) (fun hp1 => ?_) (fun hp1 => ?_)
        · refine j_ldc2 (z := 1768846447) d_Model_tellNode_195 (inT11 125 rfl) (by decide) ?_
          exact J _ (Or.inl ⟨hp1, rfl⟩)
        · refine j_ldc2 (z := 29807) d_Model_tellNode_189 (inT11 124 rfl) (by decide) ?_
          refine q_goto (tgt := 198) d_Model_tellNode_192 (by decide) ?_
          exact J _ (Or.inr ⟨hp1, rfl⟩)
      intro u hu
      obtain ⟨k3, hk3, hk4⟩ : ∃ k3 : Nat, u = ((KW.getD k3 0 : Nat) : Int) ∧ k3 = if (ρ n).getD 3 0 = 1 then 3 else 2 := by
        by_cases e : (ρ n).getD 3 0 = 1
        · exact ⟨3, by show u = 1768846447; omega, by rw [if_pos e]⟩
        · exact ⟨2, by show u = 29807; omega, by rw [if_neg e]⟩
      rw [hk3]
      refine q_callV (ci := 17) (rc := 0) (rs := 0) (rest := []) d_Model_tellNode_198 ml_Model_710 ok_Model_putWord rfl hM.1 (by decide) (c_Model_putWord (d - 1) (by omega) hM sj.1 (NmN_kw k3 (by split at hk4 <;> omega))) rfl rfl (by omega) (Nat.le_of_ble_eq_true rfl) (kv_V (fun K1 w1 => ?_)) kt_V
      have t1 := sj.out w1.1 w1.2
      exact t201 _ (by rw [hl2, if_pos (by omega), ← hk4]; exact t1)
    by_cases hk2 : kk = 2
    · refine j_icmp_eq (tgt := 183) d_Model_tellNode_175 (by decide) (by omega) (by omega) (fun hx => ?_) (fun hx => by exfalso; omega)
      exact t183 trivial trivial
    refine j_icmp_eq (tgt := 183) d_Model_tellNode_175 (by decide) (by omega) (by omega) (fun hx => by exfalso; omega) (fun hx => ?_)
    refine q_iload_n d_Model_tellNode_178 rfl ?_
    refine j_iconst d_Model_tellNode_179 ?_
    refine j_icmp_ne (tgt := 201) d_Model_tellNode_180 (by decide) (by omega) (by omega) (fun hx => by exfalso; omega) (fun hx => ?_)
    exact t183 trivial trivial
  refine q_aload_n d_Model_tellNode_152 rfl ?_
  refine q_getR d_Model_tellNode_153 fl_Model_29 hM.1 ⟨rfl, by decide⟩ (mR20 hM) ?_
  refine q_iload_n d_Model_tellNode_156 rfl ?_
  refine j_lald (j := n) (v := (cL (x5 : Int))) d_Model_tellNode_157 (mT20 hM) (mN20 hM) (by omega) (by omega) (by omega) (hrI.1.2.2.2.2.2.1.trans (by rw [e5])) ?_
  refine j_lconst (z := 0) d_Model_tellNode_158 (by decide) ?_
  by_cases hz : x5 = 0
  · refine j_lcmp_eq (tgt := 173) d_Model_tellNode_159 d_Model_tellNode_160 (by decide) (by omega) (by omega) (fun hx => ?_) (fun hx => by exfalso; omega)
    refine Run.lv (lv' := [(0, .ref M), (1, .int (cI (n : Int))), (2, .int (cI kk))]) (by intro q hq; simp only [List.mem_cons, List.not_mem_nil, or_false] at hq ⊢; rcases hq with rfl | rfl | rfl <;> simp) ?_
    exact t173 _ (by rw [hl1, hz, en0]; exact s4)
  rcases y5 with y5 | ⟨y0, nn, y5⟩
  · exact absurd y5 hz
  refine j_lcmp_eq (tgt := 173) d_Model_tellNode_159 d_Model_tellNode_160 (by decide) (by omega) (by omega) (fun hx => by exfalso; omega) (fun hx => ?_)
  refine q_aload_n d_Model_tellNode_163 rfl ?_
  refine q_aload_n d_Model_tellNode_164 rfl ?_
  refine q_getR d_Model_tellNode_165 fl_Model_29 hM.1 ⟨rfl, by decide⟩ (mR20 hM) ?_
  refine q_iload_n d_Model_tellNode_168 rfl ?_
  refine j_lald (j := n) (v := (cL (x5 : Int))) d_Model_tellNode_169 (mT20 hM) (mN20 hM) (by omega) (by omega) (by omega) (hrI.1.2.2.2.2.2.1.trans (by rw [e5])) ?_
  refine q_callV (ci := 17) (rc := 0) (rs := 0) (rest := []) d_Model_tellNode_170 ml_Model_710 ok_Model_putWord rfl hM.1 (by decide) (c_Model_putWord (d - 1) (by omega) hM s4.1 y5) rfl rfl (by omega) (Nat.le_of_ble_eq_true rfl) (kv_V (fun K1 w1 => ?_)) kt_V
  have t1 := s4.out w1.1 w1.2
  refine Run.lv (lv' := [(0, .ref M), (1, .int (cI (n : Int))), (2, .int (cI kk))]) (by intro q hq; simp only [List.mem_cons, List.not_mem_nil, or_false] at hq ⊢; rcases hq with rfl | rfl | rfl <;> simp) ?_
  exact t173 _ (by rw [hl1, enm x5 nn _ y0 y5]; exact t1)
end

