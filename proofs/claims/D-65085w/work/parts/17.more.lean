/-! ===== 17: booleans as propositions, raw long compares, posts; the shape of the reference (printed by tools/part17.py) ===== -/
def bI (P : Prop) [Decidable P] : Int := if P then 1 else 0
theorem bI_t {P : Prop} [Decidable P] (h : P) : bI P = 1 := if_pos h
theorem bI_f {P : Prop} [Decidable P] (h : ¬ P) : bI P = 0 := if_neg h
theorem bI_z {P : Prop} [Decidable P] : cI (bI P) = 0 ∨ cI (bI P) = 1 := by
  by_cases h : P
  · rw [bI_t h]; exact Or.inr rfl
  · rw [bI_f h]; exact Or.inl rfl
theorem bI_c {P Q : Prop} [Decidable P] [Decidable Q] (h : P ↔ Q) : bI P = bI Q := by
  by_cases q : P
  · rw [bI_t q, bI_t (h.mp q)]
  · rw [bI_f q, bI_f (fun z => q (h.mpr z))]
theorem bI_le {P : Prop} [Decidable P] : 0 ≤ bI P ∧ bI P ≤ 1 := by
  unfold bI; split <;> decide
theorem bI_d {v : Int} {P : Prop} [Decidable P] (h : (P ∧ v = 1) ∨ (¬ P ∧ v = 0)) : v = bI P := by
  rcases h with ⟨h, e⟩ | ⟨h, e⟩
  · rw [e, bI_t h]
  · rw [e, bI_f h]
section
variable {Y : MI} {d rc rs pc : Nat} {lv : List (Nat × Value)} {st : List Value} {I : M32} {L : M64} {R : MR} {T : SH} {Q : QT}
theorem Run.gen (h : ∀ Q' : QT, (∀ o I L R T, Q o I L R T → Q' o I L R T) → Run Y d rc rs pc lv st I L R T Q') : Run Y d rc rs pc lv st I L R T Q := h Q fun _ _ _ _ _ h => h
theorem j_ifb_eq {P : Prop} [Decidable P] {off : Int} {tgt : Nat} (hd : decode Y.2.1 pc = .ok (.ifCond .eq off, 3)) (ht : (pc : Int) + off = (tgt : Int)) (kt : ¬ P → Run Y d rc rs tgt lv st I L R T Q) (kf : P → Run Y d rc rs (pc + 3) lv st I L R T Q) : Run Y d rc rs pc lv (.int (cI (bI P)) :: st) I L R T Q :=
  j_if_eq hd ht (by have := bI_le (P := P); omega) (fun h => kt fun q => by rw [bI_t q] at h; cases h) (fun h => kf (Decidable.byContradiction fun q => h (bI_f q)))
theorem j_ifb_ne {P : Prop} [Decidable P] {off : Int} {tgt : Nat} (hd : decode Y.2.1 pc = .ok (.ifCond .ne off, 3)) (ht : (pc : Int) + off = (tgt : Int)) (kt : P → Run Y d rc rs tgt lv st I L R T Q) (kf : ¬ P → Run Y d rc rs (pc + 3) lv st I L R T Q) : Run Y d rc rs pc lv (.int (cI (bI P)) :: st) I L R T Q :=
  j_if_ne hd ht (by have := bI_le (P := P); omega) (fun h => kt (Decidable.byContradiction fun q => h (bI_f q))) (fun h => kf fun q => by rw [bI_t q] at h; cases h)
theorem q_lcmpR_eq {x y : Int64} {off : Int} {tgt : Nat} (hd0 : decode Y.2.1 pc = .ok (.lcmp, 1)) (hd : decode Y.2.1 (pc + 1) = .ok (.ifCond .eq off, 3)) (ht : ((pc + 1 : Nat) : Int) + off = (tgt : Int)) (kt : x = y → Run Y d rc rs tgt lv st I L R T Q) (kf : ¬ x = y → Run Y d rc rs (pc + 1 + 3) lv st I L R T Q) : Run Y d rc rs pc lv (.long y :: .long x :: st) I L R T Q :=
  q_lcmp hd0 (q_if_eq hd ht (fun h => kt (lcmp_eq.mp h)) (fun h => kf (fun q => h (lcmp_eq.mpr q))))
theorem q_lcmpR_ne {x y : Int64} {off : Int} {tgt : Nat} (hd0 : decode Y.2.1 pc = .ok (.lcmp, 1)) (hd : decode Y.2.1 (pc + 1) = .ok (.ifCond .ne off, 3)) (ht : ((pc + 1 : Nat) : Int) + off = (tgt : Int)) (kt : ¬ x = y → Run Y d rc rs tgt lv st I L R T Q) (kf : x = y → Run Y d rc rs (pc + 1 + 3) lv st I L R T Q) : Run Y d rc rs pc lv (.long y :: .long x :: st) I L R T Q :=
  q_lcmp hd0 (q_if_ne hd ht (fun h => kt (fun q => h (lcmp_eq.mpr q))) (fun h => kf (lcmp_eq.mp h)))
theorem q_lcmpR_lt {x y : Int64} {off : Int} {tgt : Nat} (hd0 : decode Y.2.1 pc = .ok (.lcmp, 1)) (hd : decode Y.2.1 (pc + 1) = .ok (.ifCond .lt off, 3)) (ht : ((pc + 1 : Nat) : Int) + off = (tgt : Int)) (kt : x < y → Run Y d rc rs tgt lv st I L R T Q) (kf : ¬ x < y → Run Y d rc rs (pc + 1 + 3) lv st I L R T Q) : Run Y d rc rs pc lv (.long y :: .long x :: st) I L R T Q :=
  q_lcmp hd0 (q_if_lt hd ht (fun h => kt (lcmp_lt.mp h)) (fun h => kf (fun q => h (lcmp_lt.mpr q))))
theorem q_lcmpR_ge {x y : Int64} {off : Int} {tgt : Nat} (hd0 : decode Y.2.1 pc = .ok (.lcmp, 1)) (hd : decode Y.2.1 (pc + 1) = .ok (.ifCond .ge off, 3)) (ht : ((pc + 1 : Nat) : Int) + off = (tgt : Int)) (kt : ¬ x < y → Run Y d rc rs tgt lv st I L R T Q) (kf : x < y → Run Y d rc rs (pc + 1 + 3) lv st I L R T Q) : Run Y d rc rs pc lv (.long y :: .long x :: st) I L R T Q :=
  q_lcmp hd0 (q_if_ge hd ht (fun h => kt (Int64.not_lt.mpr (by rwa [lg_cmp_ge] at h))) (fun h => kf (Int64.not_le.mp fun q => h (by rwa [lg_cmp_ge]))))
theorem q_lcmpR_gt {x y : Int64} {off : Int} {tgt : Nat} (hd0 : decode Y.2.1 pc = .ok (.lcmp, 1)) (hd : decode Y.2.1 (pc + 1) = .ok (.ifCond .gt off, 3)) (ht : ((pc + 1 : Nat) : Int) + off = (tgt : Int)) (kt : y < x → Run Y d rc rs tgt lv st I L R T Q) (kf : ¬ y < x → Run Y d rc rs (pc + 1 + 3) lv st I L R T Q) : Run Y d rc rs pc lv (.long y :: .long x :: st) I L R T Q :=
  q_lcmp hd0 (q_if_gt hd ht (fun h => kt (lcmp_gt.mp h)) (fun h => kf (fun q => h (lcmp_gt.mpr q))))
theorem q_lcmpR_le {x y : Int64} {off : Int} {tgt : Nat} (hd0 : decode Y.2.1 pc = .ok (.lcmp, 1)) (hd : decode Y.2.1 (pc + 1) = .ok (.ifCond .le off, 3)) (ht : ((pc + 1 : Nat) : Int) + off = (tgt : Int)) (kt : ¬ y < x → Run Y d rc rs tgt lv st I L R T Q) (kf : y < x → Run Y d rc rs (pc + 1 + 3) lv st I L R T Q) : Run Y d rc rs pc lv (.long y :: .long x :: st) I L R T Q :=
  q_lcmp hd0 (q_if_le hd ht (fun h => kt (Int64.not_lt.mpr (lcmp_le.mp h))) (fun h => kf (Int64.not_le.mp fun q => h (lcmp_le.mpr q))))
end
/-- field, offset, tag, length of the arrays of the reference -/
def mtab : List (Nat × Nat × Nat × Nat) := [(1, 1, 64, 16384), (3, 2, 64, 16384), (5, 3, 64, 1100000), (9, 4, 64, 304), (10, 5, 64, 16384), (19, 6, 64, 5100), (20, 7, 65, 5100), (21, 8, 65, 5100), (22, 9, 65, 5100), (23, 10, 64, 5100), (24, 11, 64, 5100), (25, 12, 64, 5100), (26, 13, 64, 5100), (27, 14, 64, 5100), (28, 15, 65, 5100), (29, 16, 67, 5100), (30, 17, 64, 5100), (31, 18, 64, 5100), (32, 19, 64, 20400), (33, 20, 64, 20400), (39, 21, 64, 30000), (40, 22, 64, 30000), (41, 23, 64, 30000), (42, 24, 64, 30000), (45, 25, 64, 40), (46, 26, 65, 40), (47, 27, 65, 40), (48, 28, 65, 40), (49, 29, 64, 40), (50, 30, 67, 16), (51, 31, 64, 16), (52, 32, 64, 16), (53, 33, 64, 5100), (54, 34, 64, 5100), (56, 35, 65, 1100), (57, 36, 65, 1100), (59, 37, 64, 5100), (61, 38, 65, 21), (62, 39, 64, 6342), (64, 40, 67, 16), (65, 41, 64, 16), (66, 42, 65, 16), (67, 43, 64, 16), (68, 44, 65, 640), (69, 45, 65, 640), (70, 46, 64, 193280), (71, 47, 64, 16), (72, 48, 65, 640), (73, 49, 65, 640), (74, 50, 64, 193280), (75, 51, 64, 16), (76, 52, 65, 640), (77, 53, 64, 193280), (78, 54, 64, 16), (79, 55, 65, 320), (80, 56, 64, 96640), (84, 57, 65, 41), (85, 58, 65, 41), (86, 59, 64, 41), (88, 60, 65, 41), (89, 61, 65, 41), (90, 62, 64, 41), (92, 63, 65, 41), (93, 64, 64, 41), (95, 65, 65, 20), (96, 66, 64, 20), (103, 67, 64, 60), (104, 68, 65, 60), (105, 69, 65, 60), (106, 70, 65, 60), (107, 71, 64, 60), (109, 72, 64, 60), (110, 73, 65, 60), (111, 74, 65, 60), (112, 75, 65, 60), (113, 76, 64, 60), (115, 77, 65, 61), (116, 78, 65, 61), (117, 79, 64, 61), (118, 80, 64, 400), (119, 81, 64, 400), (121, 82, 64, 400), (124, 83, 65, 60), (125, 84, 65, 60), (126, 85, 64, 18120), (128, 86, 65, 60), (129, 87, 64, 18120), (131, 88, 64, 60), (132, 89, 65, 60), (133, 90, 65, 60), (134, 91, 65, 60), (135, 92, 64, 18120), (137, 93, 64, 60), (138, 94, 65, 60), (139, 95, 65, 60), (140, 96, 65, 60), (141, 97, 64, 18120), (144, 98, 64, 402), (145, 99, 65, 402), (146, 100, 64, 402), (147, 101, 64, 402), (148, 102, 65, 16080), (149, 103, 65, 16080), (150, 104, 64, 16080), (151, 105, 64, 402), (152, 106, 65, 16080), (153, 107, 65, 16080), (154, 108, 64, 16080), (155, 109, 64, 402), (156, 110, 65, 16080), (157, 111, 64, 16080), (158, 112, 64, 402), (159, 113, 64, 402), (160, 114, 64, 402), (161, 115, 64, 402), (162, 116, 65, 402), (163, 117, 65, 402), (164, 118, 65, 402), (165, 119, 64, 402), (166, 120, 65, 402), (169, 121, 64, 16384)]
/-- the shape of the reference M: its arrays stand right behind it -/
def MdlS (M : Nat) (R : MR) (T : SH) : Prop := T.1 M = 17 + 1 ∧ ∀ q ∈ mtab, R M q.1 = some (M + q.2.1) ∧ T.1 (M + q.2.1) = q.2.2.1 ∧ T.2.1 (M + q.2.1) = q.2.2.2
section
variable {M : Nat} {R : MR} {T : SH}
theorem m_in1 : (1, 1, 64, 16384) ∈ mtab := List.mem_of_getElem? (i := 0) rfl
theorem mR1 (h : MdlS M R T) : R M 1 = some (M + 1) := (h.2 _ m_in1).1
theorem mT1 (h : MdlS M R T) : T.1 (M + 1) = 64 := (h.2 _ m_in1).2.1
theorem mN1 (h : MdlS M R T) : T.2.1 (M + 1) = 16384 := (h.2 _ m_in1).2.2
theorem m_in3 : (3, 2, 64, 16384) ∈ mtab := List.mem_of_getElem? (i := 1) rfl
theorem mR3 (h : MdlS M R T) : R M 3 = some (M + 2) := (h.2 _ m_in3).1
theorem mT3 (h : MdlS M R T) : T.1 (M + 2) = 64 := (h.2 _ m_in3).2.1
theorem mN3 (h : MdlS M R T) : T.2.1 (M + 2) = 16384 := (h.2 _ m_in3).2.2
theorem m_in5 : (5, 3, 64, 1100000) ∈ mtab := List.mem_of_getElem? (i := 2) rfl
theorem mR5 (h : MdlS M R T) : R M 5 = some (M + 3) := (h.2 _ m_in5).1
theorem mT5 (h : MdlS M R T) : T.1 (M + 3) = 64 := (h.2 _ m_in5).2.1
theorem mN5 (h : MdlS M R T) : T.2.1 (M + 3) = 1100000 := (h.2 _ m_in5).2.2
theorem m_in9 : (9, 4, 64, 304) ∈ mtab := List.mem_of_getElem? (i := 3) rfl
theorem mR9 (h : MdlS M R T) : R M 9 = some (M + 4) := (h.2 _ m_in9).1
theorem mT9 (h : MdlS M R T) : T.1 (M + 4) = 64 := (h.2 _ m_in9).2.1
theorem mN9 (h : MdlS M R T) : T.2.1 (M + 4) = 304 := (h.2 _ m_in9).2.2
theorem m_in10 : (10, 5, 64, 16384) ∈ mtab := List.mem_of_getElem? (i := 4) rfl
theorem mR10 (h : MdlS M R T) : R M 10 = some (M + 5) := (h.2 _ m_in10).1
theorem mT10 (h : MdlS M R T) : T.1 (M + 5) = 64 := (h.2 _ m_in10).2.1
theorem mN10 (h : MdlS M R T) : T.2.1 (M + 5) = 16384 := (h.2 _ m_in10).2.2
theorem m_in19 : (19, 6, 64, 5100) ∈ mtab := List.mem_of_getElem? (i := 5) rfl
theorem mR19 (h : MdlS M R T) : R M 19 = some (M + 6) := (h.2 _ m_in19).1
theorem mT19 (h : MdlS M R T) : T.1 (M + 6) = 64 := (h.2 _ m_in19).2.1
theorem mN19 (h : MdlS M R T) : T.2.1 (M + 6) = 5100 := (h.2 _ m_in19).2.2
theorem m_in20 : (20, 7, 65, 5100) ∈ mtab := List.mem_of_getElem? (i := 6) rfl
theorem mR20 (h : MdlS M R T) : R M 20 = some (M + 7) := (h.2 _ m_in20).1
theorem mT20 (h : MdlS M R T) : T.1 (M + 7) = 65 := (h.2 _ m_in20).2.1
theorem mN20 (h : MdlS M R T) : T.2.1 (M + 7) = 5100 := (h.2 _ m_in20).2.2
theorem m_in21 : (21, 8, 65, 5100) ∈ mtab := List.mem_of_getElem? (i := 7) rfl
theorem mR21 (h : MdlS M R T) : R M 21 = some (M + 8) := (h.2 _ m_in21).1
theorem mT21 (h : MdlS M R T) : T.1 (M + 8) = 65 := (h.2 _ m_in21).2.1
theorem mN21 (h : MdlS M R T) : T.2.1 (M + 8) = 5100 := (h.2 _ m_in21).2.2
theorem m_in22 : (22, 9, 65, 5100) ∈ mtab := List.mem_of_getElem? (i := 8) rfl
theorem mR22 (h : MdlS M R T) : R M 22 = some (M + 9) := (h.2 _ m_in22).1
theorem mT22 (h : MdlS M R T) : T.1 (M + 9) = 65 := (h.2 _ m_in22).2.1
theorem mN22 (h : MdlS M R T) : T.2.1 (M + 9) = 5100 := (h.2 _ m_in22).2.2
theorem m_in23 : (23, 10, 64, 5100) ∈ mtab := List.mem_of_getElem? (i := 9) rfl
theorem mR23 (h : MdlS M R T) : R M 23 = some (M + 10) := (h.2 _ m_in23).1
theorem mT23 (h : MdlS M R T) : T.1 (M + 10) = 64 := (h.2 _ m_in23).2.1
theorem mN23 (h : MdlS M R T) : T.2.1 (M + 10) = 5100 := (h.2 _ m_in23).2.2
theorem m_in24 : (24, 11, 64, 5100) ∈ mtab := List.mem_of_getElem? (i := 10) rfl
theorem mR24 (h : MdlS M R T) : R M 24 = some (M + 11) := (h.2 _ m_in24).1
theorem mT24 (h : MdlS M R T) : T.1 (M + 11) = 64 := (h.2 _ m_in24).2.1
theorem mN24 (h : MdlS M R T) : T.2.1 (M + 11) = 5100 := (h.2 _ m_in24).2.2
theorem m_in25 : (25, 12, 64, 5100) ∈ mtab := List.mem_of_getElem? (i := 11) rfl
theorem mR25 (h : MdlS M R T) : R M 25 = some (M + 12) := (h.2 _ m_in25).1
theorem mT25 (h : MdlS M R T) : T.1 (M + 12) = 64 := (h.2 _ m_in25).2.1
theorem mN25 (h : MdlS M R T) : T.2.1 (M + 12) = 5100 := (h.2 _ m_in25).2.2
theorem m_in26 : (26, 13, 64, 5100) ∈ mtab := List.mem_of_getElem? (i := 12) rfl
theorem mR26 (h : MdlS M R T) : R M 26 = some (M + 13) := (h.2 _ m_in26).1
theorem mT26 (h : MdlS M R T) : T.1 (M + 13) = 64 := (h.2 _ m_in26).2.1
theorem mN26 (h : MdlS M R T) : T.2.1 (M + 13) = 5100 := (h.2 _ m_in26).2.2
theorem m_in27 : (27, 14, 64, 5100) ∈ mtab := List.mem_of_getElem? (i := 13) rfl
theorem mR27 (h : MdlS M R T) : R M 27 = some (M + 14) := (h.2 _ m_in27).1
theorem mT27 (h : MdlS M R T) : T.1 (M + 14) = 64 := (h.2 _ m_in27).2.1
theorem mN27 (h : MdlS M R T) : T.2.1 (M + 14) = 5100 := (h.2 _ m_in27).2.2
theorem m_in28 : (28, 15, 65, 5100) ∈ mtab := List.mem_of_getElem? (i := 14) rfl
theorem mR28 (h : MdlS M R T) : R M 28 = some (M + 15) := (h.2 _ m_in28).1
theorem mT28 (h : MdlS M R T) : T.1 (M + 15) = 65 := (h.2 _ m_in28).2.1
theorem mN28 (h : MdlS M R T) : T.2.1 (M + 15) = 5100 := (h.2 _ m_in28).2.2
theorem m_in29 : (29, 16, 67, 5100) ∈ mtab := List.mem_of_getElem? (i := 15) rfl
theorem mR29 (h : MdlS M R T) : R M 29 = some (M + 16) := (h.2 _ m_in29).1
theorem mT29 (h : MdlS M R T) : T.1 (M + 16) = 67 := (h.2 _ m_in29).2.1
theorem mN29 (h : MdlS M R T) : T.2.1 (M + 16) = 5100 := (h.2 _ m_in29).2.2
theorem m_in30 : (30, 17, 64, 5100) ∈ mtab := List.mem_of_getElem? (i := 16) rfl
theorem mR30 (h : MdlS M R T) : R M 30 = some (M + 17) := (h.2 _ m_in30).1
theorem mT30 (h : MdlS M R T) : T.1 (M + 17) = 64 := (h.2 _ m_in30).2.1
theorem mN30 (h : MdlS M R T) : T.2.1 (M + 17) = 5100 := (h.2 _ m_in30).2.2
theorem m_in31 : (31, 18, 64, 5100) ∈ mtab := List.mem_of_getElem? (i := 17) rfl
theorem mR31 (h : MdlS M R T) : R M 31 = some (M + 18) := (h.2 _ m_in31).1
theorem mT31 (h : MdlS M R T) : T.1 (M + 18) = 64 := (h.2 _ m_in31).2.1
theorem mN31 (h : MdlS M R T) : T.2.1 (M + 18) = 5100 := (h.2 _ m_in31).2.2
theorem m_in32 : (32, 19, 64, 20400) ∈ mtab := List.mem_of_getElem? (i := 18) rfl
theorem mR32 (h : MdlS M R T) : R M 32 = some (M + 19) := (h.2 _ m_in32).1
theorem mT32 (h : MdlS M R T) : T.1 (M + 19) = 64 := (h.2 _ m_in32).2.1
theorem mN32 (h : MdlS M R T) : T.2.1 (M + 19) = 20400 := (h.2 _ m_in32).2.2
theorem m_in33 : (33, 20, 64, 20400) ∈ mtab := List.mem_of_getElem? (i := 19) rfl
theorem mR33 (h : MdlS M R T) : R M 33 = some (M + 20) := (h.2 _ m_in33).1
theorem mT33 (h : MdlS M R T) : T.1 (M + 20) = 64 := (h.2 _ m_in33).2.1
theorem mN33 (h : MdlS M R T) : T.2.1 (M + 20) = 20400 := (h.2 _ m_in33).2.2
theorem m_in39 : (39, 21, 64, 30000) ∈ mtab := List.mem_of_getElem? (i := 20) rfl
theorem mR39 (h : MdlS M R T) : R M 39 = some (M + 21) := (h.2 _ m_in39).1
theorem mT39 (h : MdlS M R T) : T.1 (M + 21) = 64 := (h.2 _ m_in39).2.1
theorem mN39 (h : MdlS M R T) : T.2.1 (M + 21) = 30000 := (h.2 _ m_in39).2.2
theorem m_in40 : (40, 22, 64, 30000) ∈ mtab := List.mem_of_getElem? (i := 21) rfl
theorem mR40 (h : MdlS M R T) : R M 40 = some (M + 22) := (h.2 _ m_in40).1
theorem mT40 (h : MdlS M R T) : T.1 (M + 22) = 64 := (h.2 _ m_in40).2.1
theorem mN40 (h : MdlS M R T) : T.2.1 (M + 22) = 30000 := (h.2 _ m_in40).2.2
theorem m_in41 : (41, 23, 64, 30000) ∈ mtab := List.mem_of_getElem? (i := 22) rfl
theorem mR41 (h : MdlS M R T) : R M 41 = some (M + 23) := (h.2 _ m_in41).1
theorem mT41 (h : MdlS M R T) : T.1 (M + 23) = 64 := (h.2 _ m_in41).2.1
theorem mN41 (h : MdlS M R T) : T.2.1 (M + 23) = 30000 := (h.2 _ m_in41).2.2
theorem m_in42 : (42, 24, 64, 30000) ∈ mtab := List.mem_of_getElem? (i := 23) rfl
theorem mR42 (h : MdlS M R T) : R M 42 = some (M + 24) := (h.2 _ m_in42).1
theorem mT42 (h : MdlS M R T) : T.1 (M + 24) = 64 := (h.2 _ m_in42).2.1
theorem mN42 (h : MdlS M R T) : T.2.1 (M + 24) = 30000 := (h.2 _ m_in42).2.2
theorem m_in45 : (45, 25, 64, 40) ∈ mtab := List.mem_of_getElem? (i := 24) rfl
theorem mR45 (h : MdlS M R T) : R M 45 = some (M + 25) := (h.2 _ m_in45).1
theorem mT45 (h : MdlS M R T) : T.1 (M + 25) = 64 := (h.2 _ m_in45).2.1
theorem mN45 (h : MdlS M R T) : T.2.1 (M + 25) = 40 := (h.2 _ m_in45).2.2
theorem m_in46 : (46, 26, 65, 40) ∈ mtab := List.mem_of_getElem? (i := 25) rfl
theorem mR46 (h : MdlS M R T) : R M 46 = some (M + 26) := (h.2 _ m_in46).1
theorem mT46 (h : MdlS M R T) : T.1 (M + 26) = 65 := (h.2 _ m_in46).2.1
theorem mN46 (h : MdlS M R T) : T.2.1 (M + 26) = 40 := (h.2 _ m_in46).2.2
theorem m_in47 : (47, 27, 65, 40) ∈ mtab := List.mem_of_getElem? (i := 26) rfl
theorem mR47 (h : MdlS M R T) : R M 47 = some (M + 27) := (h.2 _ m_in47).1
theorem mT47 (h : MdlS M R T) : T.1 (M + 27) = 65 := (h.2 _ m_in47).2.1
theorem mN47 (h : MdlS M R T) : T.2.1 (M + 27) = 40 := (h.2 _ m_in47).2.2
theorem m_in48 : (48, 28, 65, 40) ∈ mtab := List.mem_of_getElem? (i := 27) rfl
theorem mR48 (h : MdlS M R T) : R M 48 = some (M + 28) := (h.2 _ m_in48).1
theorem mT48 (h : MdlS M R T) : T.1 (M + 28) = 65 := (h.2 _ m_in48).2.1
theorem mN48 (h : MdlS M R T) : T.2.1 (M + 28) = 40 := (h.2 _ m_in48).2.2
theorem m_in49 : (49, 29, 64, 40) ∈ mtab := List.mem_of_getElem? (i := 28) rfl
theorem mR49 (h : MdlS M R T) : R M 49 = some (M + 29) := (h.2 _ m_in49).1
theorem mT49 (h : MdlS M R T) : T.1 (M + 29) = 64 := (h.2 _ m_in49).2.1
theorem mN49 (h : MdlS M R T) : T.2.1 (M + 29) = 40 := (h.2 _ m_in49).2.2
theorem m_in50 : (50, 30, 67, 16) ∈ mtab := List.mem_of_getElem? (i := 29) rfl
theorem mR50 (h : MdlS M R T) : R M 50 = some (M + 30) := (h.2 _ m_in50).1
theorem mT50 (h : MdlS M R T) : T.1 (M + 30) = 67 := (h.2 _ m_in50).2.1
theorem mN50 (h : MdlS M R T) : T.2.1 (M + 30) = 16 := (h.2 _ m_in50).2.2
theorem m_in51 : (51, 31, 64, 16) ∈ mtab := List.mem_of_getElem? (i := 30) rfl
theorem mR51 (h : MdlS M R T) : R M 51 = some (M + 31) := (h.2 _ m_in51).1
theorem mT51 (h : MdlS M R T) : T.1 (M + 31) = 64 := (h.2 _ m_in51).2.1
theorem mN51 (h : MdlS M R T) : T.2.1 (M + 31) = 16 := (h.2 _ m_in51).2.2
theorem m_in52 : (52, 32, 64, 16) ∈ mtab := List.mem_of_getElem? (i := 31) rfl
theorem mR52 (h : MdlS M R T) : R M 52 = some (M + 32) := (h.2 _ m_in52).1
theorem mT52 (h : MdlS M R T) : T.1 (M + 32) = 64 := (h.2 _ m_in52).2.1
theorem mN52 (h : MdlS M R T) : T.2.1 (M + 32) = 16 := (h.2 _ m_in52).2.2
theorem m_in53 : (53, 33, 64, 5100) ∈ mtab := List.mem_of_getElem? (i := 32) rfl
theorem mR53 (h : MdlS M R T) : R M 53 = some (M + 33) := (h.2 _ m_in53).1
theorem mT53 (h : MdlS M R T) : T.1 (M + 33) = 64 := (h.2 _ m_in53).2.1
theorem mN53 (h : MdlS M R T) : T.2.1 (M + 33) = 5100 := (h.2 _ m_in53).2.2
theorem m_in54 : (54, 34, 64, 5100) ∈ mtab := List.mem_of_getElem? (i := 33) rfl
theorem mR54 (h : MdlS M R T) : R M 54 = some (M + 34) := (h.2 _ m_in54).1
theorem mT54 (h : MdlS M R T) : T.1 (M + 34) = 64 := (h.2 _ m_in54).2.1
theorem mN54 (h : MdlS M R T) : T.2.1 (M + 34) = 5100 := (h.2 _ m_in54).2.2
theorem m_in56 : (56, 35, 65, 1100) ∈ mtab := List.mem_of_getElem? (i := 34) rfl
theorem mR56 (h : MdlS M R T) : R M 56 = some (M + 35) := (h.2 _ m_in56).1
theorem mT56 (h : MdlS M R T) : T.1 (M + 35) = 65 := (h.2 _ m_in56).2.1
theorem mN56 (h : MdlS M R T) : T.2.1 (M + 35) = 1100 := (h.2 _ m_in56).2.2
theorem m_in57 : (57, 36, 65, 1100) ∈ mtab := List.mem_of_getElem? (i := 35) rfl
theorem mR57 (h : MdlS M R T) : R M 57 = some (M + 36) := (h.2 _ m_in57).1
theorem mT57 (h : MdlS M R T) : T.1 (M + 36) = 65 := (h.2 _ m_in57).2.1
theorem mN57 (h : MdlS M R T) : T.2.1 (M + 36) = 1100 := (h.2 _ m_in57).2.2
theorem m_in59 : (59, 37, 64, 5100) ∈ mtab := List.mem_of_getElem? (i := 36) rfl
theorem mR59 (h : MdlS M R T) : R M 59 = some (M + 37) := (h.2 _ m_in59).1
theorem mT59 (h : MdlS M R T) : T.1 (M + 37) = 64 := (h.2 _ m_in59).2.1
theorem mN59 (h : MdlS M R T) : T.2.1 (M + 37) = 5100 := (h.2 _ m_in59).2.2
theorem m_in61 : (61, 38, 65, 21) ∈ mtab := List.mem_of_getElem? (i := 37) rfl
theorem mR61 (h : MdlS M R T) : R M 61 = some (M + 38) := (h.2 _ m_in61).1
theorem mT61 (h : MdlS M R T) : T.1 (M + 38) = 65 := (h.2 _ m_in61).2.1
theorem mN61 (h : MdlS M R T) : T.2.1 (M + 38) = 21 := (h.2 _ m_in61).2.2
theorem m_in62 : (62, 39, 64, 6342) ∈ mtab := List.mem_of_getElem? (i := 38) rfl
theorem mR62 (h : MdlS M R T) : R M 62 = some (M + 39) := (h.2 _ m_in62).1
theorem mT62 (h : MdlS M R T) : T.1 (M + 39) = 64 := (h.2 _ m_in62).2.1
theorem mN62 (h : MdlS M R T) : T.2.1 (M + 39) = 6342 := (h.2 _ m_in62).2.2
theorem m_in64 : (64, 40, 67, 16) ∈ mtab := List.mem_of_getElem? (i := 39) rfl
theorem mR64 (h : MdlS M R T) : R M 64 = some (M + 40) := (h.2 _ m_in64).1
theorem mT64 (h : MdlS M R T) : T.1 (M + 40) = 67 := (h.2 _ m_in64).2.1
theorem mN64 (h : MdlS M R T) : T.2.1 (M + 40) = 16 := (h.2 _ m_in64).2.2
theorem m_in65 : (65, 41, 64, 16) ∈ mtab := List.mem_of_getElem? (i := 40) rfl
theorem mR65 (h : MdlS M R T) : R M 65 = some (M + 41) := (h.2 _ m_in65).1
theorem mT65 (h : MdlS M R T) : T.1 (M + 41) = 64 := (h.2 _ m_in65).2.1
theorem mN65 (h : MdlS M R T) : T.2.1 (M + 41) = 16 := (h.2 _ m_in65).2.2
theorem m_in66 : (66, 42, 65, 16) ∈ mtab := List.mem_of_getElem? (i := 41) rfl
theorem mR66 (h : MdlS M R T) : R M 66 = some (M + 42) := (h.2 _ m_in66).1
theorem mT66 (h : MdlS M R T) : T.1 (M + 42) = 65 := (h.2 _ m_in66).2.1
theorem mN66 (h : MdlS M R T) : T.2.1 (M + 42) = 16 := (h.2 _ m_in66).2.2
theorem m_in67 : (67, 43, 64, 16) ∈ mtab := List.mem_of_getElem? (i := 42) rfl
theorem mR67 (h : MdlS M R T) : R M 67 = some (M + 43) := (h.2 _ m_in67).1
theorem mT67 (h : MdlS M R T) : T.1 (M + 43) = 64 := (h.2 _ m_in67).2.1
theorem mN67 (h : MdlS M R T) : T.2.1 (M + 43) = 16 := (h.2 _ m_in67).2.2
theorem m_in68 : (68, 44, 65, 640) ∈ mtab := List.mem_of_getElem? (i := 43) rfl
theorem mR68 (h : MdlS M R T) : R M 68 = some (M + 44) := (h.2 _ m_in68).1
theorem mT68 (h : MdlS M R T) : T.1 (M + 44) = 65 := (h.2 _ m_in68).2.1
theorem mN68 (h : MdlS M R T) : T.2.1 (M + 44) = 640 := (h.2 _ m_in68).2.2
theorem m_in69 : (69, 45, 65, 640) ∈ mtab := List.mem_of_getElem? (i := 44) rfl
theorem mR69 (h : MdlS M R T) : R M 69 = some (M + 45) := (h.2 _ m_in69).1
theorem mT69 (h : MdlS M R T) : T.1 (M + 45) = 65 := (h.2 _ m_in69).2.1
theorem mN69 (h : MdlS M R T) : T.2.1 (M + 45) = 640 := (h.2 _ m_in69).2.2
theorem m_in70 : (70, 46, 64, 193280) ∈ mtab := List.mem_of_getElem? (i := 45) rfl
theorem mR70 (h : MdlS M R T) : R M 70 = some (M + 46) := (h.2 _ m_in70).1
theorem mT70 (h : MdlS M R T) : T.1 (M + 46) = 64 := (h.2 _ m_in70).2.1
theorem mN70 (h : MdlS M R T) : T.2.1 (M + 46) = 193280 := (h.2 _ m_in70).2.2
theorem m_in71 : (71, 47, 64, 16) ∈ mtab := List.mem_of_getElem? (i := 46) rfl
theorem mR71 (h : MdlS M R T) : R M 71 = some (M + 47) := (h.2 _ m_in71).1
theorem mT71 (h : MdlS M R T) : T.1 (M + 47) = 64 := (h.2 _ m_in71).2.1
theorem mN71 (h : MdlS M R T) : T.2.1 (M + 47) = 16 := (h.2 _ m_in71).2.2
theorem m_in72 : (72, 48, 65, 640) ∈ mtab := List.mem_of_getElem? (i := 47) rfl
theorem mR72 (h : MdlS M R T) : R M 72 = some (M + 48) := (h.2 _ m_in72).1
theorem mT72 (h : MdlS M R T) : T.1 (M + 48) = 65 := (h.2 _ m_in72).2.1
theorem mN72 (h : MdlS M R T) : T.2.1 (M + 48) = 640 := (h.2 _ m_in72).2.2
theorem m_in73 : (73, 49, 65, 640) ∈ mtab := List.mem_of_getElem? (i := 48) rfl
theorem mR73 (h : MdlS M R T) : R M 73 = some (M + 49) := (h.2 _ m_in73).1
theorem mT73 (h : MdlS M R T) : T.1 (M + 49) = 65 := (h.2 _ m_in73).2.1
theorem mN73 (h : MdlS M R T) : T.2.1 (M + 49) = 640 := (h.2 _ m_in73).2.2
theorem m_in74 : (74, 50, 64, 193280) ∈ mtab := List.mem_of_getElem? (i := 49) rfl
theorem mR74 (h : MdlS M R T) : R M 74 = some (M + 50) := (h.2 _ m_in74).1
theorem mT74 (h : MdlS M R T) : T.1 (M + 50) = 64 := (h.2 _ m_in74).2.1
theorem mN74 (h : MdlS M R T) : T.2.1 (M + 50) = 193280 := (h.2 _ m_in74).2.2
theorem m_in75 : (75, 51, 64, 16) ∈ mtab := List.mem_of_getElem? (i := 50) rfl
theorem mR75 (h : MdlS M R T) : R M 75 = some (M + 51) := (h.2 _ m_in75).1
theorem mT75 (h : MdlS M R T) : T.1 (M + 51) = 64 := (h.2 _ m_in75).2.1
theorem mN75 (h : MdlS M R T) : T.2.1 (M + 51) = 16 := (h.2 _ m_in75).2.2
theorem m_in76 : (76, 52, 65, 640) ∈ mtab := List.mem_of_getElem? (i := 51) rfl
theorem mR76 (h : MdlS M R T) : R M 76 = some (M + 52) := (h.2 _ m_in76).1
theorem mT76 (h : MdlS M R T) : T.1 (M + 52) = 65 := (h.2 _ m_in76).2.1
theorem mN76 (h : MdlS M R T) : T.2.1 (M + 52) = 640 := (h.2 _ m_in76).2.2
theorem m_in77 : (77, 53, 64, 193280) ∈ mtab := List.mem_of_getElem? (i := 52) rfl
theorem mR77 (h : MdlS M R T) : R M 77 = some (M + 53) := (h.2 _ m_in77).1
theorem mT77 (h : MdlS M R T) : T.1 (M + 53) = 64 := (h.2 _ m_in77).2.1
theorem mN77 (h : MdlS M R T) : T.2.1 (M + 53) = 193280 := (h.2 _ m_in77).2.2
theorem m_in78 : (78, 54, 64, 16) ∈ mtab := List.mem_of_getElem? (i := 53) rfl
theorem mR78 (h : MdlS M R T) : R M 78 = some (M + 54) := (h.2 _ m_in78).1
theorem mT78 (h : MdlS M R T) : T.1 (M + 54) = 64 := (h.2 _ m_in78).2.1
theorem mN78 (h : MdlS M R T) : T.2.1 (M + 54) = 16 := (h.2 _ m_in78).2.2
theorem m_in79 : (79, 55, 65, 320) ∈ mtab := List.mem_of_getElem? (i := 54) rfl
theorem mR79 (h : MdlS M R T) : R M 79 = some (M + 55) := (h.2 _ m_in79).1
theorem mT79 (h : MdlS M R T) : T.1 (M + 55) = 65 := (h.2 _ m_in79).2.1
theorem mN79 (h : MdlS M R T) : T.2.1 (M + 55) = 320 := (h.2 _ m_in79).2.2
theorem m_in80 : (80, 56, 64, 96640) ∈ mtab := List.mem_of_getElem? (i := 55) rfl
theorem mR80 (h : MdlS M R T) : R M 80 = some (M + 56) := (h.2 _ m_in80).1
theorem mT80 (h : MdlS M R T) : T.1 (M + 56) = 64 := (h.2 _ m_in80).2.1
theorem mN80 (h : MdlS M R T) : T.2.1 (M + 56) = 96640 := (h.2 _ m_in80).2.2
theorem m_in84 : (84, 57, 65, 41) ∈ mtab := List.mem_of_getElem? (i := 56) rfl
theorem mR84 (h : MdlS M R T) : R M 84 = some (M + 57) := (h.2 _ m_in84).1
theorem mT84 (h : MdlS M R T) : T.1 (M + 57) = 65 := (h.2 _ m_in84).2.1
theorem mN84 (h : MdlS M R T) : T.2.1 (M + 57) = 41 := (h.2 _ m_in84).2.2
theorem m_in85 : (85, 58, 65, 41) ∈ mtab := List.mem_of_getElem? (i := 57) rfl
theorem mR85 (h : MdlS M R T) : R M 85 = some (M + 58) := (h.2 _ m_in85).1
theorem mT85 (h : MdlS M R T) : T.1 (M + 58) = 65 := (h.2 _ m_in85).2.1
theorem mN85 (h : MdlS M R T) : T.2.1 (M + 58) = 41 := (h.2 _ m_in85).2.2
theorem m_in86 : (86, 59, 64, 41) ∈ mtab := List.mem_of_getElem? (i := 58) rfl
theorem mR86 (h : MdlS M R T) : R M 86 = some (M + 59) := (h.2 _ m_in86).1
theorem mT86 (h : MdlS M R T) : T.1 (M + 59) = 64 := (h.2 _ m_in86).2.1
theorem mN86 (h : MdlS M R T) : T.2.1 (M + 59) = 41 := (h.2 _ m_in86).2.2
theorem m_in88 : (88, 60, 65, 41) ∈ mtab := List.mem_of_getElem? (i := 59) rfl
theorem mR88 (h : MdlS M R T) : R M 88 = some (M + 60) := (h.2 _ m_in88).1
theorem mT88 (h : MdlS M R T) : T.1 (M + 60) = 65 := (h.2 _ m_in88).2.1
theorem mN88 (h : MdlS M R T) : T.2.1 (M + 60) = 41 := (h.2 _ m_in88).2.2
theorem m_in89 : (89, 61, 65, 41) ∈ mtab := List.mem_of_getElem? (i := 60) rfl
theorem mR89 (h : MdlS M R T) : R M 89 = some (M + 61) := (h.2 _ m_in89).1
theorem mT89 (h : MdlS M R T) : T.1 (M + 61) = 65 := (h.2 _ m_in89).2.1
theorem mN89 (h : MdlS M R T) : T.2.1 (M + 61) = 41 := (h.2 _ m_in89).2.2
theorem m_in90 : (90, 62, 64, 41) ∈ mtab := List.mem_of_getElem? (i := 61) rfl
theorem mR90 (h : MdlS M R T) : R M 90 = some (M + 62) := (h.2 _ m_in90).1
theorem mT90 (h : MdlS M R T) : T.1 (M + 62) = 64 := (h.2 _ m_in90).2.1
theorem mN90 (h : MdlS M R T) : T.2.1 (M + 62) = 41 := (h.2 _ m_in90).2.2
theorem m_in92 : (92, 63, 65, 41) ∈ mtab := List.mem_of_getElem? (i := 62) rfl
theorem mR92 (h : MdlS M R T) : R M 92 = some (M + 63) := (h.2 _ m_in92).1
theorem mT92 (h : MdlS M R T) : T.1 (M + 63) = 65 := (h.2 _ m_in92).2.1
theorem mN92 (h : MdlS M R T) : T.2.1 (M + 63) = 41 := (h.2 _ m_in92).2.2
theorem m_in93 : (93, 64, 64, 41) ∈ mtab := List.mem_of_getElem? (i := 63) rfl
theorem mR93 (h : MdlS M R T) : R M 93 = some (M + 64) := (h.2 _ m_in93).1
theorem mT93 (h : MdlS M R T) : T.1 (M + 64) = 64 := (h.2 _ m_in93).2.1
theorem mN93 (h : MdlS M R T) : T.2.1 (M + 64) = 41 := (h.2 _ m_in93).2.2
theorem m_in95 : (95, 65, 65, 20) ∈ mtab := List.mem_of_getElem? (i := 64) rfl
theorem mR95 (h : MdlS M R T) : R M 95 = some (M + 65) := (h.2 _ m_in95).1
theorem mT95 (h : MdlS M R T) : T.1 (M + 65) = 65 := (h.2 _ m_in95).2.1
theorem mN95 (h : MdlS M R T) : T.2.1 (M + 65) = 20 := (h.2 _ m_in95).2.2
theorem m_in96 : (96, 66, 64, 20) ∈ mtab := List.mem_of_getElem? (i := 65) rfl
theorem mR96 (h : MdlS M R T) : R M 96 = some (M + 66) := (h.2 _ m_in96).1
theorem mT96 (h : MdlS M R T) : T.1 (M + 66) = 64 := (h.2 _ m_in96).2.1
theorem mN96 (h : MdlS M R T) : T.2.1 (M + 66) = 20 := (h.2 _ m_in96).2.2
theorem m_in103 : (103, 67, 64, 60) ∈ mtab := List.mem_of_getElem? (i := 66) rfl
theorem mR103 (h : MdlS M R T) : R M 103 = some (M + 67) := (h.2 _ m_in103).1
theorem mT103 (h : MdlS M R T) : T.1 (M + 67) = 64 := (h.2 _ m_in103).2.1
theorem mN103 (h : MdlS M R T) : T.2.1 (M + 67) = 60 := (h.2 _ m_in103).2.2
theorem m_in104 : (104, 68, 65, 60) ∈ mtab := List.mem_of_getElem? (i := 67) rfl
theorem mR104 (h : MdlS M R T) : R M 104 = some (M + 68) := (h.2 _ m_in104).1
theorem mT104 (h : MdlS M R T) : T.1 (M + 68) = 65 := (h.2 _ m_in104).2.1
theorem mN104 (h : MdlS M R T) : T.2.1 (M + 68) = 60 := (h.2 _ m_in104).2.2
theorem m_in105 : (105, 69, 65, 60) ∈ mtab := List.mem_of_getElem? (i := 68) rfl
theorem mR105 (h : MdlS M R T) : R M 105 = some (M + 69) := (h.2 _ m_in105).1
theorem mT105 (h : MdlS M R T) : T.1 (M + 69) = 65 := (h.2 _ m_in105).2.1
theorem mN105 (h : MdlS M R T) : T.2.1 (M + 69) = 60 := (h.2 _ m_in105).2.2
theorem m_in106 : (106, 70, 65, 60) ∈ mtab := List.mem_of_getElem? (i := 69) rfl
theorem mR106 (h : MdlS M R T) : R M 106 = some (M + 70) := (h.2 _ m_in106).1
theorem mT106 (h : MdlS M R T) : T.1 (M + 70) = 65 := (h.2 _ m_in106).2.1
theorem mN106 (h : MdlS M R T) : T.2.1 (M + 70) = 60 := (h.2 _ m_in106).2.2
theorem m_in107 : (107, 71, 64, 60) ∈ mtab := List.mem_of_getElem? (i := 70) rfl
theorem mR107 (h : MdlS M R T) : R M 107 = some (M + 71) := (h.2 _ m_in107).1
theorem mT107 (h : MdlS M R T) : T.1 (M + 71) = 64 := (h.2 _ m_in107).2.1
theorem mN107 (h : MdlS M R T) : T.2.1 (M + 71) = 60 := (h.2 _ m_in107).2.2
theorem m_in109 : (109, 72, 64, 60) ∈ mtab := List.mem_of_getElem? (i := 71) rfl
theorem mR109 (h : MdlS M R T) : R M 109 = some (M + 72) := (h.2 _ m_in109).1
theorem mT109 (h : MdlS M R T) : T.1 (M + 72) = 64 := (h.2 _ m_in109).2.1
theorem mN109 (h : MdlS M R T) : T.2.1 (M + 72) = 60 := (h.2 _ m_in109).2.2
theorem m_in110 : (110, 73, 65, 60) ∈ mtab := List.mem_of_getElem? (i := 72) rfl
theorem mR110 (h : MdlS M R T) : R M 110 = some (M + 73) := (h.2 _ m_in110).1
theorem mT110 (h : MdlS M R T) : T.1 (M + 73) = 65 := (h.2 _ m_in110).2.1
theorem mN110 (h : MdlS M R T) : T.2.1 (M + 73) = 60 := (h.2 _ m_in110).2.2
theorem m_in111 : (111, 74, 65, 60) ∈ mtab := List.mem_of_getElem? (i := 73) rfl
theorem mR111 (h : MdlS M R T) : R M 111 = some (M + 74) := (h.2 _ m_in111).1
theorem mT111 (h : MdlS M R T) : T.1 (M + 74) = 65 := (h.2 _ m_in111).2.1
theorem mN111 (h : MdlS M R T) : T.2.1 (M + 74) = 60 := (h.2 _ m_in111).2.2
theorem m_in112 : (112, 75, 65, 60) ∈ mtab := List.mem_of_getElem? (i := 74) rfl
theorem mR112 (h : MdlS M R T) : R M 112 = some (M + 75) := (h.2 _ m_in112).1
theorem mT112 (h : MdlS M R T) : T.1 (M + 75) = 65 := (h.2 _ m_in112).2.1
theorem mN112 (h : MdlS M R T) : T.2.1 (M + 75) = 60 := (h.2 _ m_in112).2.2
theorem m_in113 : (113, 76, 64, 60) ∈ mtab := List.mem_of_getElem? (i := 75) rfl
theorem mR113 (h : MdlS M R T) : R M 113 = some (M + 76) := (h.2 _ m_in113).1
theorem mT113 (h : MdlS M R T) : T.1 (M + 76) = 64 := (h.2 _ m_in113).2.1
theorem mN113 (h : MdlS M R T) : T.2.1 (M + 76) = 60 := (h.2 _ m_in113).2.2
theorem m_in115 : (115, 77, 65, 61) ∈ mtab := List.mem_of_getElem? (i := 76) rfl
theorem mR115 (h : MdlS M R T) : R M 115 = some (M + 77) := (h.2 _ m_in115).1
theorem mT115 (h : MdlS M R T) : T.1 (M + 77) = 65 := (h.2 _ m_in115).2.1
theorem mN115 (h : MdlS M R T) : T.2.1 (M + 77) = 61 := (h.2 _ m_in115).2.2
theorem m_in116 : (116, 78, 65, 61) ∈ mtab := List.mem_of_getElem? (i := 77) rfl
theorem mR116 (h : MdlS M R T) : R M 116 = some (M + 78) := (h.2 _ m_in116).1
theorem mT116 (h : MdlS M R T) : T.1 (M + 78) = 65 := (h.2 _ m_in116).2.1
theorem mN116 (h : MdlS M R T) : T.2.1 (M + 78) = 61 := (h.2 _ m_in116).2.2
theorem m_in117 : (117, 79, 64, 61) ∈ mtab := List.mem_of_getElem? (i := 78) rfl
theorem mR117 (h : MdlS M R T) : R M 117 = some (M + 79) := (h.2 _ m_in117).1
theorem mT117 (h : MdlS M R T) : T.1 (M + 79) = 64 := (h.2 _ m_in117).2.1
theorem mN117 (h : MdlS M R T) : T.2.1 (M + 79) = 61 := (h.2 _ m_in117).2.2
theorem m_in118 : (118, 80, 64, 400) ∈ mtab := List.mem_of_getElem? (i := 79) rfl
theorem mR118 (h : MdlS M R T) : R M 118 = some (M + 80) := (h.2 _ m_in118).1
theorem mT118 (h : MdlS M R T) : T.1 (M + 80) = 64 := (h.2 _ m_in118).2.1
theorem mN118 (h : MdlS M R T) : T.2.1 (M + 80) = 400 := (h.2 _ m_in118).2.2
theorem m_in119 : (119, 81, 64, 400) ∈ mtab := List.mem_of_getElem? (i := 80) rfl
theorem mR119 (h : MdlS M R T) : R M 119 = some (M + 81) := (h.2 _ m_in119).1
theorem mT119 (h : MdlS M R T) : T.1 (M + 81) = 64 := (h.2 _ m_in119).2.1
theorem mN119 (h : MdlS M R T) : T.2.1 (M + 81) = 400 := (h.2 _ m_in119).2.2
theorem m_in121 : (121, 82, 64, 400) ∈ mtab := List.mem_of_getElem? (i := 81) rfl
theorem mR121 (h : MdlS M R T) : R M 121 = some (M + 82) := (h.2 _ m_in121).1
theorem mT121 (h : MdlS M R T) : T.1 (M + 82) = 64 := (h.2 _ m_in121).2.1
theorem mN121 (h : MdlS M R T) : T.2.1 (M + 82) = 400 := (h.2 _ m_in121).2.2
theorem m_in124 : (124, 83, 65, 60) ∈ mtab := List.mem_of_getElem? (i := 82) rfl
theorem mR124 (h : MdlS M R T) : R M 124 = some (M + 83) := (h.2 _ m_in124).1
theorem mT124 (h : MdlS M R T) : T.1 (M + 83) = 65 := (h.2 _ m_in124).2.1
theorem mN124 (h : MdlS M R T) : T.2.1 (M + 83) = 60 := (h.2 _ m_in124).2.2
theorem m_in125 : (125, 84, 65, 60) ∈ mtab := List.mem_of_getElem? (i := 83) rfl
theorem mR125 (h : MdlS M R T) : R M 125 = some (M + 84) := (h.2 _ m_in125).1
theorem mT125 (h : MdlS M R T) : T.1 (M + 84) = 65 := (h.2 _ m_in125).2.1
theorem mN125 (h : MdlS M R T) : T.2.1 (M + 84) = 60 := (h.2 _ m_in125).2.2
theorem m_in126 : (126, 85, 64, 18120) ∈ mtab := List.mem_of_getElem? (i := 84) rfl
theorem mR126 (h : MdlS M R T) : R M 126 = some (M + 85) := (h.2 _ m_in126).1
theorem mT126 (h : MdlS M R T) : T.1 (M + 85) = 64 := (h.2 _ m_in126).2.1
theorem mN126 (h : MdlS M R T) : T.2.1 (M + 85) = 18120 := (h.2 _ m_in126).2.2
theorem m_in128 : (128, 86, 65, 60) ∈ mtab := List.mem_of_getElem? (i := 85) rfl
theorem mR128 (h : MdlS M R T) : R M 128 = some (M + 86) := (h.2 _ m_in128).1
theorem mT128 (h : MdlS M R T) : T.1 (M + 86) = 65 := (h.2 _ m_in128).2.1
theorem mN128 (h : MdlS M R T) : T.2.1 (M + 86) = 60 := (h.2 _ m_in128).2.2
theorem m_in129 : (129, 87, 64, 18120) ∈ mtab := List.mem_of_getElem? (i := 86) rfl
theorem mR129 (h : MdlS M R T) : R M 129 = some (M + 87) := (h.2 _ m_in129).1
theorem mT129 (h : MdlS M R T) : T.1 (M + 87) = 64 := (h.2 _ m_in129).2.1
theorem mN129 (h : MdlS M R T) : T.2.1 (M + 87) = 18120 := (h.2 _ m_in129).2.2
theorem m_in131 : (131, 88, 64, 60) ∈ mtab := List.mem_of_getElem? (i := 87) rfl
theorem mR131 (h : MdlS M R T) : R M 131 = some (M + 88) := (h.2 _ m_in131).1
theorem mT131 (h : MdlS M R T) : T.1 (M + 88) = 64 := (h.2 _ m_in131).2.1
theorem mN131 (h : MdlS M R T) : T.2.1 (M + 88) = 60 := (h.2 _ m_in131).2.2
theorem m_in132 : (132, 89, 65, 60) ∈ mtab := List.mem_of_getElem? (i := 88) rfl
theorem mR132 (h : MdlS M R T) : R M 132 = some (M + 89) := (h.2 _ m_in132).1
theorem mT132 (h : MdlS M R T) : T.1 (M + 89) = 65 := (h.2 _ m_in132).2.1
theorem mN132 (h : MdlS M R T) : T.2.1 (M + 89) = 60 := (h.2 _ m_in132).2.2
theorem m_in133 : (133, 90, 65, 60) ∈ mtab := List.mem_of_getElem? (i := 89) rfl
theorem mR133 (h : MdlS M R T) : R M 133 = some (M + 90) := (h.2 _ m_in133).1
theorem mT133 (h : MdlS M R T) : T.1 (M + 90) = 65 := (h.2 _ m_in133).2.1
theorem mN133 (h : MdlS M R T) : T.2.1 (M + 90) = 60 := (h.2 _ m_in133).2.2
theorem m_in134 : (134, 91, 65, 60) ∈ mtab := List.mem_of_getElem? (i := 90) rfl
theorem mR134 (h : MdlS M R T) : R M 134 = some (M + 91) := (h.2 _ m_in134).1
theorem mT134 (h : MdlS M R T) : T.1 (M + 91) = 65 := (h.2 _ m_in134).2.1
theorem mN134 (h : MdlS M R T) : T.2.1 (M + 91) = 60 := (h.2 _ m_in134).2.2
theorem m_in135 : (135, 92, 64, 18120) ∈ mtab := List.mem_of_getElem? (i := 91) rfl
theorem mR135 (h : MdlS M R T) : R M 135 = some (M + 92) := (h.2 _ m_in135).1
theorem mT135 (h : MdlS M R T) : T.1 (M + 92) = 64 := (h.2 _ m_in135).2.1
theorem mN135 (h : MdlS M R T) : T.2.1 (M + 92) = 18120 := (h.2 _ m_in135).2.2
theorem m_in137 : (137, 93, 64, 60) ∈ mtab := List.mem_of_getElem? (i := 92) rfl
theorem mR137 (h : MdlS M R T) : R M 137 = some (M + 93) := (h.2 _ m_in137).1
theorem mT137 (h : MdlS M R T) : T.1 (M + 93) = 64 := (h.2 _ m_in137).2.1
theorem mN137 (h : MdlS M R T) : T.2.1 (M + 93) = 60 := (h.2 _ m_in137).2.2
theorem m_in138 : (138, 94, 65, 60) ∈ mtab := List.mem_of_getElem? (i := 93) rfl
theorem mR138 (h : MdlS M R T) : R M 138 = some (M + 94) := (h.2 _ m_in138).1
theorem mT138 (h : MdlS M R T) : T.1 (M + 94) = 65 := (h.2 _ m_in138).2.1
theorem mN138 (h : MdlS M R T) : T.2.1 (M + 94) = 60 := (h.2 _ m_in138).2.2
theorem m_in139 : (139, 95, 65, 60) ∈ mtab := List.mem_of_getElem? (i := 94) rfl
theorem mR139 (h : MdlS M R T) : R M 139 = some (M + 95) := (h.2 _ m_in139).1
theorem mT139 (h : MdlS M R T) : T.1 (M + 95) = 65 := (h.2 _ m_in139).2.1
theorem mN139 (h : MdlS M R T) : T.2.1 (M + 95) = 60 := (h.2 _ m_in139).2.2
theorem m_in140 : (140, 96, 65, 60) ∈ mtab := List.mem_of_getElem? (i := 95) rfl
theorem mR140 (h : MdlS M R T) : R M 140 = some (M + 96) := (h.2 _ m_in140).1
theorem mT140 (h : MdlS M R T) : T.1 (M + 96) = 65 := (h.2 _ m_in140).2.1
theorem mN140 (h : MdlS M R T) : T.2.1 (M + 96) = 60 := (h.2 _ m_in140).2.2
theorem m_in141 : (141, 97, 64, 18120) ∈ mtab := List.mem_of_getElem? (i := 96) rfl
theorem mR141 (h : MdlS M R T) : R M 141 = some (M + 97) := (h.2 _ m_in141).1
theorem mT141 (h : MdlS M R T) : T.1 (M + 97) = 64 := (h.2 _ m_in141).2.1
theorem mN141 (h : MdlS M R T) : T.2.1 (M + 97) = 18120 := (h.2 _ m_in141).2.2
theorem m_in144 : (144, 98, 64, 402) ∈ mtab := List.mem_of_getElem? (i := 97) rfl
theorem mR144 (h : MdlS M R T) : R M 144 = some (M + 98) := (h.2 _ m_in144).1
theorem mT144 (h : MdlS M R T) : T.1 (M + 98) = 64 := (h.2 _ m_in144).2.1
theorem mN144 (h : MdlS M R T) : T.2.1 (M + 98) = 402 := (h.2 _ m_in144).2.2
theorem m_in145 : (145, 99, 65, 402) ∈ mtab := List.mem_of_getElem? (i := 98) rfl
theorem mR145 (h : MdlS M R T) : R M 145 = some (M + 99) := (h.2 _ m_in145).1
theorem mT145 (h : MdlS M R T) : T.1 (M + 99) = 65 := (h.2 _ m_in145).2.1
theorem mN145 (h : MdlS M R T) : T.2.1 (M + 99) = 402 := (h.2 _ m_in145).2.2
theorem m_in146 : (146, 100, 64, 402) ∈ mtab := List.mem_of_getElem? (i := 99) rfl
theorem mR146 (h : MdlS M R T) : R M 146 = some (M + 100) := (h.2 _ m_in146).1
theorem mT146 (h : MdlS M R T) : T.1 (M + 100) = 64 := (h.2 _ m_in146).2.1
theorem mN146 (h : MdlS M R T) : T.2.1 (M + 100) = 402 := (h.2 _ m_in146).2.2
theorem m_in147 : (147, 101, 64, 402) ∈ mtab := List.mem_of_getElem? (i := 100) rfl
theorem mR147 (h : MdlS M R T) : R M 147 = some (M + 101) := (h.2 _ m_in147).1
theorem mT147 (h : MdlS M R T) : T.1 (M + 101) = 64 := (h.2 _ m_in147).2.1
theorem mN147 (h : MdlS M R T) : T.2.1 (M + 101) = 402 := (h.2 _ m_in147).2.2
theorem m_in148 : (148, 102, 65, 16080) ∈ mtab := List.mem_of_getElem? (i := 101) rfl
theorem mR148 (h : MdlS M R T) : R M 148 = some (M + 102) := (h.2 _ m_in148).1
theorem mT148 (h : MdlS M R T) : T.1 (M + 102) = 65 := (h.2 _ m_in148).2.1
theorem mN148 (h : MdlS M R T) : T.2.1 (M + 102) = 16080 := (h.2 _ m_in148).2.2
theorem m_in149 : (149, 103, 65, 16080) ∈ mtab := List.mem_of_getElem? (i := 102) rfl
theorem mR149 (h : MdlS M R T) : R M 149 = some (M + 103) := (h.2 _ m_in149).1
theorem mT149 (h : MdlS M R T) : T.1 (M + 103) = 65 := (h.2 _ m_in149).2.1
theorem mN149 (h : MdlS M R T) : T.2.1 (M + 103) = 16080 := (h.2 _ m_in149).2.2
theorem m_in150 : (150, 104, 64, 16080) ∈ mtab := List.mem_of_getElem? (i := 103) rfl
theorem mR150 (h : MdlS M R T) : R M 150 = some (M + 104) := (h.2 _ m_in150).1
theorem mT150 (h : MdlS M R T) : T.1 (M + 104) = 64 := (h.2 _ m_in150).2.1
theorem mN150 (h : MdlS M R T) : T.2.1 (M + 104) = 16080 := (h.2 _ m_in150).2.2
theorem m_in151 : (151, 105, 64, 402) ∈ mtab := List.mem_of_getElem? (i := 104) rfl
theorem mR151 (h : MdlS M R T) : R M 151 = some (M + 105) := (h.2 _ m_in151).1
theorem mT151 (h : MdlS M R T) : T.1 (M + 105) = 64 := (h.2 _ m_in151).2.1
theorem mN151 (h : MdlS M R T) : T.2.1 (M + 105) = 402 := (h.2 _ m_in151).2.2
theorem m_in152 : (152, 106, 65, 16080) ∈ mtab := List.mem_of_getElem? (i := 105) rfl
theorem mR152 (h : MdlS M R T) : R M 152 = some (M + 106) := (h.2 _ m_in152).1
theorem mT152 (h : MdlS M R T) : T.1 (M + 106) = 65 := (h.2 _ m_in152).2.1
theorem mN152 (h : MdlS M R T) : T.2.1 (M + 106) = 16080 := (h.2 _ m_in152).2.2
theorem m_in153 : (153, 107, 65, 16080) ∈ mtab := List.mem_of_getElem? (i := 106) rfl
theorem mR153 (h : MdlS M R T) : R M 153 = some (M + 107) := (h.2 _ m_in153).1
theorem mT153 (h : MdlS M R T) : T.1 (M + 107) = 65 := (h.2 _ m_in153).2.1
theorem mN153 (h : MdlS M R T) : T.2.1 (M + 107) = 16080 := (h.2 _ m_in153).2.2
theorem m_in154 : (154, 108, 64, 16080) ∈ mtab := List.mem_of_getElem? (i := 107) rfl
theorem mR154 (h : MdlS M R T) : R M 154 = some (M + 108) := (h.2 _ m_in154).1
theorem mT154 (h : MdlS M R T) : T.1 (M + 108) = 64 := (h.2 _ m_in154).2.1
theorem mN154 (h : MdlS M R T) : T.2.1 (M + 108) = 16080 := (h.2 _ m_in154).2.2
theorem m_in155 : (155, 109, 64, 402) ∈ mtab := List.mem_of_getElem? (i := 108) rfl
theorem mR155 (h : MdlS M R T) : R M 155 = some (M + 109) := (h.2 _ m_in155).1
theorem mT155 (h : MdlS M R T) : T.1 (M + 109) = 64 := (h.2 _ m_in155).2.1
theorem mN155 (h : MdlS M R T) : T.2.1 (M + 109) = 402 := (h.2 _ m_in155).2.2
theorem m_in156 : (156, 110, 65, 16080) ∈ mtab := List.mem_of_getElem? (i := 109) rfl
theorem mR156 (h : MdlS M R T) : R M 156 = some (M + 110) := (h.2 _ m_in156).1
theorem mT156 (h : MdlS M R T) : T.1 (M + 110) = 65 := (h.2 _ m_in156).2.1
theorem mN156 (h : MdlS M R T) : T.2.1 (M + 110) = 16080 := (h.2 _ m_in156).2.2
theorem m_in157 : (157, 111, 64, 16080) ∈ mtab := List.mem_of_getElem? (i := 110) rfl
theorem mR157 (h : MdlS M R T) : R M 157 = some (M + 111) := (h.2 _ m_in157).1
theorem mT157 (h : MdlS M R T) : T.1 (M + 111) = 64 := (h.2 _ m_in157).2.1
theorem mN157 (h : MdlS M R T) : T.2.1 (M + 111) = 16080 := (h.2 _ m_in157).2.2
theorem m_in158 : (158, 112, 64, 402) ∈ mtab := List.mem_of_getElem? (i := 111) rfl
theorem mR158 (h : MdlS M R T) : R M 158 = some (M + 112) := (h.2 _ m_in158).1
theorem mT158 (h : MdlS M R T) : T.1 (M + 112) = 64 := (h.2 _ m_in158).2.1
theorem mN158 (h : MdlS M R T) : T.2.1 (M + 112) = 402 := (h.2 _ m_in158).2.2
theorem m_in159 : (159, 113, 64, 402) ∈ mtab := List.mem_of_getElem? (i := 112) rfl
theorem mR159 (h : MdlS M R T) : R M 159 = some (M + 113) := (h.2 _ m_in159).1
theorem mT159 (h : MdlS M R T) : T.1 (M + 113) = 64 := (h.2 _ m_in159).2.1
theorem mN159 (h : MdlS M R T) : T.2.1 (M + 113) = 402 := (h.2 _ m_in159).2.2
theorem m_in160 : (160, 114, 64, 402) ∈ mtab := List.mem_of_getElem? (i := 113) rfl
theorem mR160 (h : MdlS M R T) : R M 160 = some (M + 114) := (h.2 _ m_in160).1
theorem mT160 (h : MdlS M R T) : T.1 (M + 114) = 64 := (h.2 _ m_in160).2.1
theorem mN160 (h : MdlS M R T) : T.2.1 (M + 114) = 402 := (h.2 _ m_in160).2.2
theorem m_in161 : (161, 115, 64, 402) ∈ mtab := List.mem_of_getElem? (i := 114) rfl
theorem mR161 (h : MdlS M R T) : R M 161 = some (M + 115) := (h.2 _ m_in161).1
theorem mT161 (h : MdlS M R T) : T.1 (M + 115) = 64 := (h.2 _ m_in161).2.1
theorem mN161 (h : MdlS M R T) : T.2.1 (M + 115) = 402 := (h.2 _ m_in161).2.2
theorem m_in162 : (162, 116, 65, 402) ∈ mtab := List.mem_of_getElem? (i := 115) rfl
theorem mR162 (h : MdlS M R T) : R M 162 = some (M + 116) := (h.2 _ m_in162).1
theorem mT162 (h : MdlS M R T) : T.1 (M + 116) = 65 := (h.2 _ m_in162).2.1
theorem mN162 (h : MdlS M R T) : T.2.1 (M + 116) = 402 := (h.2 _ m_in162).2.2
theorem m_in163 : (163, 117, 65, 402) ∈ mtab := List.mem_of_getElem? (i := 116) rfl
theorem mR163 (h : MdlS M R T) : R M 163 = some (M + 117) := (h.2 _ m_in163).1
theorem mT163 (h : MdlS M R T) : T.1 (M + 117) = 65 := (h.2 _ m_in163).2.1
theorem mN163 (h : MdlS M R T) : T.2.1 (M + 117) = 402 := (h.2 _ m_in163).2.2
theorem m_in164 : (164, 118, 65, 402) ∈ mtab := List.mem_of_getElem? (i := 117) rfl
theorem mR164 (h : MdlS M R T) : R M 164 = some (M + 118) := (h.2 _ m_in164).1
theorem mT164 (h : MdlS M R T) : T.1 (M + 118) = 65 := (h.2 _ m_in164).2.1
theorem mN164 (h : MdlS M R T) : T.2.1 (M + 118) = 402 := (h.2 _ m_in164).2.2
theorem m_in165 : (165, 119, 64, 402) ∈ mtab := List.mem_of_getElem? (i := 118) rfl
theorem mR165 (h : MdlS M R T) : R M 165 = some (M + 119) := (h.2 _ m_in165).1
theorem mT165 (h : MdlS M R T) : T.1 (M + 119) = 64 := (h.2 _ m_in165).2.1
theorem mN165 (h : MdlS M R T) : T.2.1 (M + 119) = 402 := (h.2 _ m_in165).2.2
theorem m_in166 : (166, 120, 65, 402) ∈ mtab := List.mem_of_getElem? (i := 119) rfl
theorem mR166 (h : MdlS M R T) : R M 166 = some (M + 120) := (h.2 _ m_in166).1
theorem mT166 (h : MdlS M R T) : T.1 (M + 120) = 65 := (h.2 _ m_in166).2.1
theorem mN166 (h : MdlS M R T) : T.2.1 (M + 120) = 402 := (h.2 _ m_in166).2.2
theorem m_in169 : (169, 121, 64, 16384) ∈ mtab := List.mem_of_getElem? (i := 120) rfl
theorem mR169 (h : MdlS M R T) : R M 169 = some (M + 121) := (h.2 _ m_in169).1
theorem mT169 (h : MdlS M R T) : T.1 (M + 121) = 64 := (h.2 _ m_in169).2.1
theorem mN169 (h : MdlS M R T) : T.2.1 (M + 121) = 16384 := (h.2 _ m_in169).2.2
end
