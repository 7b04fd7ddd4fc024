/-! ===== 93 THE COMPONENT'S READER: one case of a when ===== -/
theorem d_Nodes_when_0 : decode m_Nodes_when.2.1 0 = .ok (.aload_n 0, 1) := by decide +kernel
theorem d_Nodes_when_1 : decode m_Nodes_when.2.1 1 = .ok (.getfield 3, 3) := by decide +kernel
theorem d_Nodes_when_4 : decode m_Nodes_when.2.1 4 = .ok (.getfield 83, 3) := by decide +kernel
theorem d_Nodes_when_7 : decode m_Nodes_when.2.1 7 = .ok (.bipush 105, 2) := by decide +kernel
theorem d_Nodes_when_9 : decode m_Nodes_when.2.1 9 = .ok (.invokevirtual 105, 3) := by decide +kernel
theorem d_Nodes_when_12 : decode m_Nodes_when.2.1 12 = .ok (.iconst (-1), 1) := by decide +kernel
theorem d_Nodes_when_13 : decode m_Nodes_when.2.1 13 = .ok (.istore_n 3, 1) := by decide +kernel
theorem d_Nodes_when_14 : decode m_Nodes_when.2.1 14 = .ok (.iconst 0, 1) := by decide +kernel
theorem d_Nodes_when_15 : decode m_Nodes_when.2.1 15 = .ok (.istore 4, 2) := by decide +kernel
theorem d_Nodes_when_17 : decode m_Nodes_when.2.1 17 = .ok (.aload_n 0, 1) := by decide +kernel
theorem d_Nodes_when_18 : decode m_Nodes_when.2.1 18 = .ok (.getfield 3, 3) := by decide +kernel
theorem d_Nodes_when_21 : decode m_Nodes_when.2.1 21 = .ok (.getfield 83, 3) := by decide +kernel
theorem d_Nodes_when_24 : decode m_Nodes_when.2.1 24 = .ok (.getfield 100, 3) := by decide +kernel
theorem d_Nodes_when_27 : decode m_Nodes_when.2.1 27 = .ok (.bipush 6, 2) := by decide +kernel
theorem d_Nodes_when_29 : decode m_Nodes_when.2.1 29 = .ok (.if_icmp .ne 99, 3) := by decide +kernel
theorem d_Nodes_when_32 : decode m_Nodes_when.2.1 32 = .ok (.aload_n 0, 1) := by decide +kernel
theorem d_Nodes_when_33 : decode m_Nodes_when.2.1 33 = .ok (.bipush 6, 2) := by decide +kernel
theorem d_Nodes_when_35 : decode m_Nodes_when.2.1 35 = .ok (.iload_n 2, 1) := by decide +kernel
theorem d_Nodes_when_36 : decode m_Nodes_when.2.1 36 = .ok (.iconst 1, 1) := by decide +kernel
theorem d_Nodes_when_37 : decode m_Nodes_when.2.1 37 = .ok (.iadd, 1) := by decide +kernel
theorem d_Nodes_when_38 : decode m_Nodes_when.2.1 38 = .ok (.invokevirtual 111, 3) := by decide +kernel
theorem d_Nodes_when_41 : decode m_Nodes_when.2.1 41 = .ok (.istore 5, 2) := by decide +kernel
theorem d_Nodes_when_43 : decode m_Nodes_when.2.1 43 = .ok (.iload 4, 2) := by decide +kernel
theorem d_Nodes_when_45 : decode m_Nodes_when.2.1 45 = .ok (.bipush 8, 2) := by decide +kernel
theorem d_Nodes_when_47 : decode m_Nodes_when.2.1 47 = .ok (.if_icmp .ne 15, 3) := by decide +kernel
theorem d_Nodes_when_50 : decode m_Nodes_when.2.1 50 = .ok (.aload_n 0, 1) := by decide +kernel
theorem d_Nodes_when_51 : decode m_Nodes_when.2.1 51 = .ok (.getfield 3, 3) := by decide +kernel
theorem d_Nodes_when_54 : decode m_Nodes_when.2.1 54 = .ok (.getfield 83, 3) := by decide +kernel
theorem d_Nodes_when_57 : decode m_Nodes_when.2.1 57 = .ok (.bipush 8, 2) := by decide +kernel
theorem d_Nodes_when_59 : decode m_Nodes_when.2.1 59 = .ok (.invokevirtual 87, 3) := by decide +kernel
theorem d_Nodes_when_62 : decode m_Nodes_when.2.1 62 = .ok (.iinc 4 1, 3) := by decide +kernel
theorem d_Nodes_when_65 : decode m_Nodes_when.2.1 65 = .ok (.aload_n 0, 1) := by decide +kernel
theorem d_Nodes_when_66 : decode m_Nodes_when.2.1 66 = .ok (.getfield 3, 3) := by decide +kernel
theorem d_Nodes_when_69 : decode m_Nodes_when.2.1 69 = .ok (.getfield 83, 3) := by decide +kernel
theorem d_Nodes_when_72 : decode m_Nodes_when.2.1 72 = .ok (.invokevirtual 103, 3) := by decide +kernel
theorem d_Nodes_when_75 : decode m_Nodes_when.2.1 75 = .ok (.aload_n 0, 1) := by decide +kernel
theorem d_Nodes_when_76 : decode m_Nodes_when.2.1 76 = .ok (.iload 5, 2) := by decide +kernel
theorem d_Nodes_when_78 : decode m_Nodes_when.2.1 78 = .ok (.iload_n 2, 1) := by decide +kernel
theorem d_Nodes_when_79 : decode m_Nodes_when.2.1 79 = .ok (.iconst 1, 1) := by decide +kernel
theorem d_Nodes_when_80 : decode m_Nodes_when.2.1 80 = .ok (.iadd, 1) := by decide +kernel
theorem d_Nodes_when_81 : decode m_Nodes_when.2.1 81 = .ok (.invokevirtual 135, 3) := by decide +kernel
theorem d_Nodes_when_84 : decode m_Nodes_when.2.1 84 = .ok (.aload_n 0, 1) := by decide +kernel
theorem d_Nodes_when_85 : decode m_Nodes_when.2.1 85 = .ok (.getfield 22, 3) := by decide +kernel
theorem d_Nodes_when_88 : decode m_Nodes_when.2.1 88 = .ok (.iload 5, 2) := by decide +kernel
theorem d_Nodes_when_90 : decode m_Nodes_when.2.1 90 = .ok (.aload_n 0, 1) := by decide +kernel
theorem d_Nodes_when_91 : decode m_Nodes_when.2.1 91 = .ok (.iload_n 2, 1) := by decide +kernel
theorem d_Nodes_when_92 : decode m_Nodes_when.2.1 92 = .ok (.iconst 2, 1) := by decide +kernel
theorem d_Nodes_when_93 : decode m_Nodes_when.2.1 93 = .ok (.iadd, 1) := by decide +kernel
theorem d_Nodes_when_94 : decode m_Nodes_when.2.1 94 = .ok (.invokevirtual 93, 3) := by decide +kernel
theorem d_Nodes_when_97 : decode m_Nodes_when.2.1 97 = .ok (.iastore, 1) := by decide +kernel
theorem d_Nodes_when_98 : decode m_Nodes_when.2.1 98 = .ok (.iload_n 3, 1) := by decide +kernel
theorem d_Nodes_when_99 : decode m_Nodes_when.2.1 99 = .ok (.iconst (-1), 1) := by decide +kernel
theorem d_Nodes_when_100 : decode m_Nodes_when.2.1 100 = .ok (.if_icmp .ne 14, 3) := by decide +kernel
theorem d_Nodes_when_103 : decode m_Nodes_when.2.1 103 = .ok (.aload_n 0, 1) := by decide +kernel
theorem d_Nodes_when_104 : decode m_Nodes_when.2.1 104 = .ok (.getfield 19, 3) := by decide +kernel
theorem d_Nodes_when_107 : decode m_Nodes_when.2.1 107 = .ok (.iload_n 1, 1) := by decide +kernel
theorem d_Nodes_when_108 : decode m_Nodes_when.2.1 108 = .ok (.iload 5, 2) := by decide +kernel
theorem d_Nodes_when_110 : decode m_Nodes_when.2.1 110 = .ok (.iastore, 1) := by decide +kernel
theorem d_Nodes_when_111 : decode m_Nodes_when.2.1 111 = .ok (.goto 11, 3) := by decide +kernel
theorem d_Nodes_when_114 : decode m_Nodes_when.2.1 114 = .ok (.aload_n 0, 1) := by decide +kernel
theorem d_Nodes_when_115 : decode m_Nodes_when.2.1 115 = .ok (.getfield 28, 3) := by decide +kernel
theorem d_Nodes_when_118 : decode m_Nodes_when.2.1 118 = .ok (.iload_n 3, 1) := by decide +kernel
theorem d_Nodes_when_119 : decode m_Nodes_when.2.1 119 = .ok (.iload 5, 2) := by decide +kernel
theorem d_Nodes_when_121 : decode m_Nodes_when.2.1 121 = .ok (.iastore, 1) := by decide +kernel
theorem d_Nodes_when_122 : decode m_Nodes_when.2.1 122 = .ok (.iload 5, 2) := by decide +kernel
theorem d_Nodes_when_124 : decode m_Nodes_when.2.1 124 = .ok (.istore_n 3, 1) := by decide +kernel
theorem d_Nodes_when_125 : decode m_Nodes_when.2.1 125 = .ok (.goto (-108), 3) := by decide +kernel
theorem d_Nodes_when_128 : decode m_Nodes_when.2.1 128 = .ok (.aload_n 0, 1) := by decide +kernel
theorem d_Nodes_when_129 : decode m_Nodes_when.2.1 129 = .ok (.getfield 3, 3) := by decide +kernel
theorem d_Nodes_when_132 : decode m_Nodes_when.2.1 132 = .ok (.getfield 83, 3) := by decide +kernel
theorem d_Nodes_when_135 : decode m_Nodes_when.2.1 135 = .ok (.bipush 106, 2) := by decide +kernel
theorem d_Nodes_when_137 : decode m_Nodes_when.2.1 137 = .ok (.invokevirtual 105, 3) := by decide +kernel
theorem d_Nodes_when_140 : decode m_Nodes_when.2.1 140 = .ok (.aload_n 0, 1) := by decide +kernel
theorem d_Nodes_when_141 : decode m_Nodes_when.2.1 141 = .ok (.getfield 3, 3) := by decide +kernel
theorem d_Nodes_when_144 : decode m_Nodes_when.2.1 144 = .ok (.getfield 83, 3) := by decide +kernel
theorem d_Nodes_when_147 : decode m_Nodes_when.2.1 147 = .ok (.getfield 100, 3) := by decide +kernel
theorem d_Nodes_when_150 : decode m_Nodes_when.2.1 150 = .ok (.bipush 102, 2) := by decide +kernel
theorem d_Nodes_when_152 : decode m_Nodes_when.2.1 152 = .ok (.if_icmp .ne 22, 3) := by decide +kernel
theorem d_Nodes_when_155 : decode m_Nodes_when.2.1 155 = .ok (.aload_n 0, 1) := by decide +kernel
theorem d_Nodes_when_156 : decode m_Nodes_when.2.1 156 = .ok (.getfield 37, 3) := by decide +kernel
theorem d_Nodes_when_159 : decode m_Nodes_when.2.1 159 = .ok (.iload_n 1, 1) := by decide +kernel
theorem d_Nodes_when_160 : decode m_Nodes_when.2.1 160 = .ok (.aload_n 0, 1) := by decide +kernel
theorem d_Nodes_when_161 : decode m_Nodes_when.2.1 161 = .ok (.getfield 3, 3) := by decide +kernel
theorem d_Nodes_when_164 : decode m_Nodes_when.2.1 164 = .ok (.getfield 83, 3) := by decide +kernel
theorem d_Nodes_when_167 : decode m_Nodes_when.2.1 167 = .ok (.getfield 138, 3) := by decide +kernel
theorem d_Nodes_when_170 : decode m_Nodes_when.2.1 170 = .ok (.lastore, 1) := by decide +kernel
theorem d_Nodes_when_171 : decode m_Nodes_when.2.1 171 = .ok (.goto 69, 3) := by decide +kernel
theorem d_Nodes_when_174 : decode m_Nodes_when.2.1 174 = .ok (.aload_n 0, 1) := by decide +kernel
theorem d_Nodes_when_175 : decode m_Nodes_when.2.1 175 = .ok (.getfield 3, 3) := by decide +kernel
theorem d_Nodes_when_178 : decode m_Nodes_when.2.1 178 = .ok (.getfield 83, 3) := by decide +kernel
theorem d_Nodes_when_181 : decode m_Nodes_when.2.1 181 = .ok (.getfield 100, 3) := by decide +kernel
theorem d_Nodes_when_184 : decode m_Nodes_when.2.1 184 = .ok (.bipush 100, 2) := by decide +kernel
theorem d_Nodes_when_186 : decode m_Nodes_when.2.1 186 = .ok (.if_icmp .ne 54, 3) := by decide +kernel
theorem d_Nodes_when_189 : decode m_Nodes_when.2.1 189 = .ok (.aload_n 0, 1) := by decide +kernel
theorem d_Nodes_when_190 : decode m_Nodes_when.2.1 190 = .ok (.getfield 3, 3) := by decide +kernel
theorem d_Nodes_when_193 : decode m_Nodes_when.2.1 193 = .ok (.getfield 83, 3) := by decide +kernel
theorem d_Nodes_when_196 : decode m_Nodes_when.2.1 196 = .ok (.getfield 142, 3) := by decide +kernel
theorem d_Nodes_when_199 : decode m_Nodes_when.2.1 199 = .ok (.invokevirtual 146, 3) := by decide +kernel
theorem d_Nodes_when_202 : decode m_Nodes_when.2.1 202 = .ok (.ldc2_w 149, 3) := by decide +kernel
theorem d_Nodes_when_205 : decode m_Nodes_when.2.1 205 = .ok (.lcmp, 1) := by decide +kernel
theorem d_Nodes_when_206 : decode m_Nodes_when.2.1 206 = .ok (.ifCond .ne 14, 3) := by decide +kernel
theorem d_Nodes_when_209 : decode m_Nodes_when.2.1 209 = .ok (.aload_n 0, 1) := by decide +kernel
theorem d_Nodes_when_210 : decode m_Nodes_when.2.1 210 = .ok (.getfield 3, 3) := by decide +kernel
theorem d_Nodes_when_213 : decode m_Nodes_when.2.1 213 = .ok (.getfield 83, 3) := by decide +kernel
theorem d_Nodes_when_216 : decode m_Nodes_when.2.1 216 = .ok (.iconst 5, 1) := by decide +kernel
theorem d_Nodes_when_217 : decode m_Nodes_when.2.1 217 = .ok (.invokevirtual 87, 3) := by decide +kernel
theorem d_Nodes_when_220 : decode m_Nodes_when.2.1 220 = .ok (.aload_n 0, 1) := by decide +kernel
theorem d_Nodes_when_221 : decode m_Nodes_when.2.1 221 = .ok (.getfield 31, 3) := by decide +kernel
theorem d_Nodes_when_224 : decode m_Nodes_when.2.1 224 = .ok (.iload_n 1, 1) := by decide +kernel
theorem d_Nodes_when_225 : decode m_Nodes_when.2.1 225 = .ok (.aload_n 0, 1) := by decide +kernel
theorem d_Nodes_when_226 : decode m_Nodes_when.2.1 226 = .ok (.aload_n 0, 1) := by decide +kernel
theorem d_Nodes_when_227 : decode m_Nodes_when.2.1 227 = .ok (.getfield 3, 3) := by decide +kernel
theorem d_Nodes_when_230 : decode m_Nodes_when.2.1 230 = .ok (.getfield 83, 3) := by decide +kernel
theorem d_Nodes_when_233 : decode m_Nodes_when.2.1 233 = .ok (.getfield 142, 3) := by decide +kernel
theorem d_Nodes_when_236 : decode m_Nodes_when.2.1 236 = .ok (.invokevirtual 151, 3) := by decide +kernel
theorem d_Nodes_when_239 : decode m_Nodes_when.2.1 239 = .ok (.iastore, 1) := by decide +kernel
theorem d_Nodes_when_240 : decode m_Nodes_when.2.1 240 = .ok (.aload_n 0, 1) := by decide +kernel
theorem d_Nodes_when_241 : decode m_Nodes_when.2.1 241 = .ok (.getfield 3, 3) := by decide +kernel
theorem d_Nodes_when_244 : decode m_Nodes_when.2.1 244 = .ok (.getfield 83, 3) := by decide +kernel
theorem d_Nodes_when_247 : decode m_Nodes_when.2.1 247 = .ok (.aload_n 0, 1) := by decide +kernel
theorem d_Nodes_when_248 : decode m_Nodes_when.2.1 248 = .ok (.getfield 3, 3) := by decide +kernel
theorem d_Nodes_when_251 : decode m_Nodes_when.2.1 251 = .ok (.getfield 83, 3) := by decide +kernel
theorem d_Nodes_when_254 : decode m_Nodes_when.2.1 254 = .ok (.getfield 100, 3) := by decide +kernel
theorem d_Nodes_when_257 : decode m_Nodes_when.2.1 257 = .ok (.bipush 102, 2) := by decide +kernel
theorem d_Nodes_when_259 : decode m_Nodes_when.2.1 259 = .ok (.if_icmp .ne 8, 3) := by decide +kernel
theorem d_Nodes_when_262 : decode m_Nodes_when.2.1 262 = .ok (.bipush 102, 2) := by decide +kernel
theorem d_Nodes_when_264 : decode m_Nodes_when.2.1 264 = .ok (.goto 5, 3) := by decide +kernel
theorem d_Nodes_when_267 : decode m_Nodes_when.2.1 267 = .ok (.bipush 100, 2) := by decide +kernel
theorem d_Nodes_when_269 : decode m_Nodes_when.2.1 269 = .ok (.invokevirtual 105, 3) := by decide +kernel
theorem d_Nodes_when_272 : decode m_Nodes_when.2.1 272 = .ok (.aload_n 0, 1) := by decide +kernel
theorem d_Nodes_when_273 : decode m_Nodes_when.2.1 273 = .ok (.getfield 22, 3) := by decide +kernel
theorem d_Nodes_when_276 : decode m_Nodes_when.2.1 276 = .ok (.iload_n 1, 1) := by decide +kernel
theorem d_Nodes_when_277 : decode m_Nodes_when.2.1 277 = .ok (.aload_n 0, 1) := by decide +kernel
theorem d_Nodes_when_278 : decode m_Nodes_when.2.1 278 = .ok (.iload_n 2, 1) := by decide +kernel
theorem d_Nodes_when_279 : decode m_Nodes_when.2.1 279 = .ok (.iconst 1, 1) := by decide +kernel
theorem d_Nodes_when_280 : decode m_Nodes_when.2.1 280 = .ok (.iadd, 1) := by decide +kernel
theorem d_Nodes_when_281 : decode m_Nodes_when.2.1 281 = .ok (.invokevirtual 93, 3) := by decide +kernel
theorem d_Nodes_when_284 : decode m_Nodes_when.2.1 284 = .ok (.iastore, 1) := by decide +kernel
theorem d_Nodes_when_285 : decode m_Nodes_when.2.1 285 = .ok (.return_, 1) := by decide +kernel
/-- a case's action and contract as items -/
def itW (τ : TkF) (P : PTC) (dd : Nat) : ITC := fun what slot row n m a => if what = 99 then actC τ P dd row n m a else itm0C τ P dd what slot row n m a
theorem itsC_app {it : ITC} : ∀ (ws ws' : List (Nat × Nat)) (row : Row) (n m a : Nat), itsC it (ws ++ ws') row n m a = bdC (itsC it ws row n m a) fun q => bdC (itsC it ws' q.2.1 (n + q.2.2.1.length) (m + q.2.2.2.length) q.1) fun r => okC (r.1, r.2.1, q.2.2.1 ++ r.2.2.1, q.2.2.2 ++ r.2.2.2)
  | [], ws', row, n, m, a => by
    show itsC it ws' row n m a = adC 0 (bdC (itsC it ws' row n m a) fun q => okC (q.1, q.2.1, [] ++ q.2.2.1, [] ++ q.2.2.2))
    rw [adC_0, bdC_id]
  | w :: ws, ws', row, n, m, a => by
    have ih := itsC_app (it := it) ws ws'
    simp only [List.cons_append, itsC, ih, bdC_bdC, bdC_ok, adC_0, List.append_assoc, List.length_append, Nat.add_assoc]
theorem itW_eq {τ : TkF} {P : PTC} {dd n m a : Nat} {row : Row} : itsC (itW τ P dd) [(99, 0), (1, 2)] row n m a = if tk τ a = 107 then erC (3, tb τ a) else if ¬ (tk τ a = 7 ∨ tk τ a = 8 ∨ tk τ a = 9) then erC (4, tb τ a) else bdC (lfC (nx τ a)) fun a2 => itsC (itm0C τ P dd) (itA (tk τ a)) (row.set 3 (tk τ a)) n m a2 := by
  show bdC (actC τ P dd row n m a) (fun q => bdC (itsC (itm0C τ P dd) [(1, 2)] q.2.1 (n + q.2.2.1.length) (m + q.2.2.2.length) q.1) fun r => okC (r.1, r.2.1, q.2.2.1 ++ r.2.2.1, q.2.2.2 ++ r.2.2.2)) = _
  unfold actC
  split
  · rfl
  · split
    · rfl
    · rw [bdC_bdC]
      simp only [itA_B, itsC_app]
def caR (dep : Nat) : Row := [6, -1, -1, -1, -1, 0, 0, 0, -1, 0, (dep : Int)]
theorem casC_0 {τ : TkF} {g dep k cnt n m a : Nat} {P : PTC} (h : tk τ a ≠ 6) : casC τ g P dep (k + 1) cnt n m a = okC (a, [], []) := by rw [casC, if_pos h]
theorem casC_7 {τ : TkF} {g dep k cnt n m a : Nat} {P : PTC} (h : tk τ a = 6) (h2 : 100 < dep + 1 ∨ n - g = 1000) : casC τ g P dep (k + 1) cnt n m a = erC (7, tb τ a) := by rw [casC, if_neg (fun q => q h), if_pos h2]
theorem casC_8 {τ : TkF} {g dep k cnt n m a : Nat} {P : PTC} (h : tk τ a = 6) (h2 : ¬ (100 < dep + 1 ∨ n - g = 1000)) (h3 : cnt = 8) : casC τ g P dep (k + 1) cnt n m a = erC (8, tb τ a) := by rw [casC, if_neg (fun q => q h), if_neg h2, if_pos h3]
theorem casC_s {τ : TkF} {g dep k cnt n m a : Nat} {P : PTC} (h : tk τ a = 6) (h2 : ¬ (100 < dep + 1 ∨ n - g = 1000)) (h3 : ¬ cnt = 8) : casC τ g P dep (k + 1) cnt n m a = bdC (lfC (nx τ a)) fun a1 => bdC (itsC (itW τ P (dep + 1)) [(99, 0), (1, 2)] (caR (dep + 1)) (n + 1) m a1) fun q =>
    bdC (casC τ g P dep k (cnt + 1) (n + 1 + q.2.2.1.length) (m + q.2.2.2.length) q.1) fun r =>
    okC (r.1, q.2.1.set 4 (if r.2.1 = [] then -1 else ((n + 1 + q.2.2.1.length : Nat) : Int)) :: (q.2.2.1 ++ r.2.1), q.2.2.2 ++ r.2.2) := by
  rw [casC, if_neg (fun q => q h), if_neg h2, if_neg h3]
  congr 1
  funext a1
  rw [itW_eq]
  split
  · rfl
  · split
    · rfl
    · rw [bdC_bdC]; rfl
/-- the row's place for the next case stays -/
theorem itsC_4 {it : ITC} {s : Nat} : ∀ (ws : List (Nat × Nat)), (∀ x ∈ ws, ∀ row n m a q, (it x.1 x.2 row n m a).2 = .ok q → q.2.1.getD s 0 = row.getD s 0) → ∀ row n m a q, (itsC it ws row n m a).2 = .ok q → q.2.1.getD s 0 = row.getD s 0
  | [], _, row, n, m, a, q, h => by cases h; rfl
  | x :: ws, hw, row, n, m, a, q, h => by
    have h1 : (bdC (it x.1 x.2 row n m a) fun q => bdC (itsC it ws q.2.1 (n + q.2.2.1.length) (m + q.2.2.2.length) q.1) fun r => okC (r.1, r.2.1, q.2.2.1 ++ r.2.2.1, q.2.2.2 ++ r.2.2.2)).2 = .ok q := h
    rw [bdC_2] at h1
    cases e : (it x.1 x.2 row n m a).2 with
    | error e' => rw [e] at h1; cases h1
    | ok q1 =>
      rw [e, bnd_ok, bdC_2] at h1
      cases e2 : (itsC it ws q1.2.1 (n + q1.2.2.1.length) (m + q1.2.2.2.length) q1.1).2 with
      | error e' => rw [e2] at h1; cases h1
      | ok q2 =>
        rw [e2, bnd_ok] at h1
        cases h1
        have := itsC_4 ws (fun y hy => hw y (List.mem_cons_of_mem _ hy)) _ _ _ _ _ e2
        exact this.trans (hw x (List.mem_cons_self ..) _ _ _ _ _ e)
theorem itm0C_4 {τ : TkF} {P : PTC} {dd : Nat} {x : Nat × Nat} (hx : x.2 ≤ 3 ∧ (x.1 = 4 → 1 ≤ x.2)) (row : Row) (n m a : Nat) (q : Nat × Row × List Row × List Int) (h : (itm0C τ P dd x.1 x.2 row n m a).2 = .ok q) : q.2.1.getD 4 0 = row.getD 4 0 := by
  rw [itm0C_2] at h
  unfold itm0 at h
  split at h
  · obtain ⟨y, -, h⟩ := bnd_inv h
    cases h
    exact gset_n (by omega)
  · split at h
    · rename_i h4
      obtain ⟨y, -, h⟩ := bnd_inv h
      cases h
      have := hx.2 h4
      exact gset_n (by omega)
    · split at h
      · obtain ⟨y, -, h⟩ := bnd_inv h
        cases h
        exact gset_n (by decide)
      · split at h
        · split at h
          · obtain ⟨y, -, h⟩ := bnd_inv h
            cases h
            exact gset_n (by decide)
          · split at h
            · cases h
            · obtain ⟨y, -, h⟩ := bnd_inv h
              cases h
              exact gset_n (by decide)
        · split at h
          · obtain ⟨y, -, h⟩ := bnd_inv h
            obtain ⟨y2, -, h⟩ := bnd_inv h
            cases h
            exact (gset_n (by decide)).trans (gset_n (by decide))
          · obtain ⟨y, -, h⟩ := bnd_inv h
            cases h
            rfl
theorem actC_4 {τ : TkF} {P : PTC} {dd n m a c : Nat} {row : Row} {q : Nat × Row × List Row × List Int} (h : actC τ P dd row n m a = (c, .ok q)) : q.2.1.getD 4 0 = row.getD 4 0 := by
  have h := congrArg Prod.snd h
  unfold actC at h
  split at h
  · cases h
  · split at h
    · cases h
    · rw [bdC_2] at h
      obtain ⟨y, -, h⟩ := bnd_inv h
      have := itsC_4 (s := 4) _ (fun x hx => itm0C_4 (by
        unfold itB at hx
        split at hx
        · simp only [List.mem_cons, List.not_mem_nil, or_false] at hx
          rcases hx with rfl | rfl | rfl | rfl <;> decide
        · split at hx
          · simp only [List.mem_cons, List.not_mem_nil, or_false] at hx
            rcases hx with rfl | rfl | rfl | rfl <;> decide
          · simp only [List.mem_cons, List.not_mem_nil, or_false] at hx
            subst hx; decide)) _ _ _ _ _ h
      exact this.trans (gset_n (by decide))
section
variable {P w o D N Z g i n1 m0 sz0 a : Nat} {t : Nat → Nat} {V0 : Nat → Int} {I0 I I' : M32} {L0 L L' : M64} {R0 R R' : MR} {T0 T T' : SH} {row : Row} {rs : List Row} {nums : List Int}
/-- behind a case -/
theorem WK.case {a' : Nat} {crow : Row} {crs : List Row} {cns : List Int} (h : WK P w o D N Z g t i n1 m0 sz0 V0 I0 L0 R0 T0 a row rs nums I L R T) (hc : WK P w o D N Z g t (n1 + rs.length) (n1 + rs.length + 1) (m0 + nums.length) (max sz0 (m0 + nums.length)) (extV V0 m0 nums) I L R T a' crow crs cns I' L' R' T') : WK P w o D N Z g t i n1 m0 sz0 V0 I0 L0 R0 T0 a' row (rs ++ (crow :: crs)) (nums ++ cns) I' L' R' T' := by
  have h1 := hc.1
  rw [show n1 + rs.length + 1 + crs.length = n1 + rs.length + (crow :: crs).length by rw [List.length_cons]; omega] at h1
  exact h.ps h1 (RowsC.cons hc.2.1.1 hc.2.2.1) hc.2.2.2.2
/-- the place of the next case goes into a case's row -/
theorem WK.nxt {j : Nat} {v : Int} (h : WK P w o D N Z g t i n1 m0 sz0 V0 I0 L0 R0 T0 a row rs nums I L R T) (hj : j < rs.length) (hl : (rs.getD j []).length = 11) : WK P w o D N Z g t i n1 m0 sz0 V0 I0 L0 R0 T0 a row (rs.set j ((rs.getD j []).set 4 v)) nums (up2 I (D + 5) (n1 + j) (cI v)) L R T := by
  have hly := h.lay
  refine ⟨?_, ⟨h.2.1.1.of (fun c _ _ => up2_k _ _ _ (by omega)) (fun _ _ _ => rfl), h.2.1.2⟩, ?_, h.2.2.2.1, h.2.2.2.2.tr (RF.up (by decide) (by decide) (by omega))⟩
  · rw [List.length_set]; exact h.1.up (by decide) (by decide)
  · intro k hk
    rw [List.length_set] at hk
    by_cases q : k = j
    · subst q
      rw [List.getD_eq_getElem?_getD, List.getElem?_set_self hj]
      exact (h.2.2.1 k hj).stI hl (by omega)
    · rw [show (rs.set j ((rs.getD j []).set 4 v)).getD k [] = rs.getD k [] by rw [List.getD_eq_getElem?_getD, List.getElem?_set_ne (fun e => q e.symm), ← List.getD_eq_getElem?_getD]]
      exact (h.2.2.1 k hk).of (fun c _ _ => up2_k _ _ _ (by omega)) (fun _ _ _ => rfl)
/-- failures within a part of the whole -/
theorem EQ9.sub {α β : Type} {tot : CR α} {totc : CR β} {c : Nat} {Q : QT} (hE : EQ9 P w o D Z g i m0 sz0 V0 tot I0 L0 R0 T0 Q) (hW : WK P w o D N Z g t i n1 m0 sz0 V0 I0 L0 R0 T0 a row rs nums I L R T) (hc : i ≤ c) (ht : ∀ e, totc.2 = .error e → tot = (nums.length + totc.1, .error e)) : EQ9 P w o D Z g c (m0 + nums.length) (max sz0 (m0 + nums.length)) (extV V0 m0 nums) totc I L R T Q := by
  intro e I' L' R' T' h1 h2 h3
  have h4 := ht e h1
  refine hE e I' L' R' T' (by rw [h4]) ?_ (hW.2.2.2.2.tr (h3.mo hc))
  rw [h4]
  exact h2.up
end
/-- a case, behind its keyword: its action and its contract -/
theorem when_case {P w o D N Z g F f dep dw i n m sz a a0 : Nat} {t : Nat → Nat} {V : Nat → Int} {I I3 : M32} {L L3 : M64} {R : MR} {T : SH} {α : Type} {tot : CR α} {G : Nat × Row × List Row × List Int → CR α} {Q : QT} {zl : Int} {cnt : Nat} {d : Nat} (ihV : RdOk P w o D N Z g F t m_Nodes_value y_Nodes_value 2 f) (ihO : RdOk P w o D N Z g F t m_Nodes_observation y_Nodes_observation 3 f) (ihC : RdOk P w o D N Z g F t m_Nodes_contract y_Nodes_contract 1 f) (hd : 3 * f + 10 ≤ d) (h102 : 102 ≤ f + (dep + 1)) (h101 : dep + 1 ≤ 101) (hdw : dep = dw + 1)
    (hW3 : WK P w o D N Z g t n (n + 1) m sz V I L R T a (caR dep) [] [] I3 L3 R T) (htot : tot = bdC (lfC (nx (tkP t N) a)) fun a1 => bdC (itsC (itW (tkP t N) (psC (tkP t N) g F f) dep) [(99, 0), (1, 2)] (caR dep) (n + 1) m a1) G) (hB : m + tot.1 ≤ 60000) (hE : EQ9 P w o D Z g n m sz V tot I L R T Q)
    (kk : ∀ a' crow crs cns I' L' R' T', WK P w o D N Z g t n (n + 1) m sz V I L R T a' crow crs cns I' L' R' T' → crow.getD 4 0 = -1 → tot = adC cns.length (G (a', crow, crs, cns)) → Run m_Nodes_when d (rmC (max sz (m + cns.length)) (m + tot.1)) (rmS (max sz (m + cns.length)) (m + tot.1)) 98 [(0, .ref D), (1, .int (cI (i : Int))), (2, .int (cI (dw : Int))), (3, .int (cI zl)), (4, .int (cI (cnt : Int))), (5, .int (cI (n : Int)))] [] I' L' R' T' Q) :
    Run m_Nodes_when d (rmC (max sz (m + ([] : List Int).length)) (m + tot.1)) (rmS (max sz (m + ([] : List Int).length)) (m + tot.1)) 65 [(0, .ref D), (1, .int (cI (i : Int))), (2, .int (cI (dw : Int))), (3, .int (cI zl)), (4, .int (cI (cnt : Int))), (5, .int (cI (n : Int)))] [] I3 L3 R T Q := by
  have hly := hW3.lay
  have hkr3 := WK_kr hW3
  refine q_aload_n d_Nodes_when_65 rfl ?_
  refine q_getR d_Nodes_when_66 fl_Nodes_3 hW3.nd.1 ⟨rfl, by decide⟩ hW3.nd.2.2 ?_
  refine q_getR d_Nodes_when_69 fl_Nodes_83 hW3.pt ⟨rfl, by decide⟩ hW3.po ?_
  refine q_tk (as := []) (st := []) hW3 d_Nodes_when_72 ml_Nodes_103 ok_Tokens_next rfl rfl (c_Tokens_nextT (d := d - 1) (by omega) hW3.tks hW3.pt hW3.1.1.1.2.1 hW3.1.1.1.2.2.2.1 hW3.1.1.2.1 hW3.1.2.1) rfl rfl (by omega) (Nat.le_of_ble_eq_true rfl) hE (fun e hr => by rw [htot, hr]; rfl) (fun a4 I4 L4 hr4 hW4 => ?_)
  have hkr4 := WK_kr hW4
  have hR4 : RsC tot (itW (tkP t N) (psC (tkP t N) g F f) dep) (n + 1) m G [(99, 0), (1, 2)] (caR dep) [] [] a4 := by
    rw [htot, hr4]
    unfold RsC
    rfl
  refine q_aload_n d_Nodes_when_75 rfl ?_
  refine q_iload d_Nodes_when_76 rfl ?_
  refine q_iload_n d_Nodes_when_78 rfl ?_
  refine j_iconst d_Nodes_when_79 ?_
  refine j_iadd d_Nodes_when_80 ?_
  refine Run.top (v := .int (cI (dep : Int))) (by rw [show ((dw : Int) + 1) = (dep : Int) by omega]) ?_
  have hge4 : ([] : List Int).length + (actC (tkP t N) (psC (tkP t N) g F f) dep (caR dep) (n + 1) (m + ([] : List Int).length) a4).1 ≤ tot.1 := hR4.ge
  refine q_sub (as := [.int (cI (n : Int)), .int (cI (dep : Int))]) (st := []) (r := actC (tkP t N) (psC (tkP t N) g F f) dep (caR dep) (n + 1) (m + ([] : List Int).length) a4) hW4 d_Nodes_when_81 ml_Nodes_135 ok_Nodes_action rfl rfl (c_Nodes_action (row := caR dep) (m := m + ([] : List Int).length) (d - 1) ihV ihO (by omega) h102 h101 hW4.1 hW4.2.1 hW4.2.2.2.1 rfl (by have : ([] : List Int).length = 0 := rfl; omega)) rfl rfl (by omega) (Nat.le_of_ble_eq_true rfl) hE (hge4) (fun c e hr => hR4.er hr) (fun a5 row5 rs5 nz5 ns5 I5 L5 R5 T5 hn5 hr5 hW5 => ?_)
  have hkr5 := WK_kr hW5
  have hR5 := hR4.ok (a' := a5) (row' := row5) (rs' := rs5) (nums' := nz5) hr5 rfl
  rw [List.nil_append, ← hn5] at hR5
  have r4 : row5.getD 4 0 = -1 := actC_4 hr5
  refine q_aload_n d_Nodes_when_84 rfl ?_
  refine q_getR d_Nodes_when_85 fl_Nodes_22 hW5.nd.1 ⟨rfl, by decide⟩ (nR2 hW5.nd) ?_
  refine q_iload d_Nodes_when_88 rfl ?_
  refine q_aload_n d_Nodes_when_90 rfl ?_
  refine q_iload_n d_Nodes_when_91 rfl ?_
  refine j_iconst d_Nodes_when_92 ?_
  refine j_iadd d_Nodes_when_93 ?_
  refine Run.top (v := .int (cI ((dep : Int) + 1))) (by rw [show ((dw : Int) + 2) = (dep : Int) + 1 by omega]) ?_
  refine q_ch hW5 hR5 ihC (fun _ _ _ _ => rfl) (Or.inr (Or.inl rfl)) d_Nodes_when_94 d_Nodes_when_97 ml_Nodes_93 ok_Nodes_contract rfl rfl (by omega) (by omega) (by omega) hB (Nat.le_of_ble_eq_true rfl) hE (fun a6 row6 rs6 ns6 I6 L6 R6 T6 hW6 hR6 hro6 => ?_)
  have hkr6 := WK_kr hW6
  refine kk a6 row6 rs6 ns6 _ _ _ _ hW6 ?_ ?_
  · rw [hro6, gset_n (by decide)]; exact r4
  · exact hR6.nil

