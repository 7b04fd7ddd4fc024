/-! ===== A1 THE COMPONENT PRINTS: names, words ===== -/
theorem d_Nodes_printParameter_0 : decode m_Nodes_printParameter.2.1 0 = .ok (.aload_n 0, 1) := by decide +kernel
theorem d_Nodes_printParameter_1 : decode m_Nodes_printParameter.2.1 1 = .ok (.getfield 3, 3) := by decide +kernel
theorem d_Nodes_printParameter_4 : decode m_Nodes_printParameter.2.1 4 = .ok (.getfield 181, 3) := by decide +kernel
theorem d_Nodes_printParameter_7 : decode m_Nodes_printParameter.2.1 7 = .ok (.invokevirtual 185, 3) := by decide +kernel
theorem d_Nodes_printParameter_10 : decode m_Nodes_printParameter.2.1 10 = .ok (.aload_n 0, 1) := by decide +kernel
theorem d_Nodes_printParameter_11 : decode m_Nodes_printParameter.2.1 11 = .ok (.getfield 3, 3) := by decide +kernel
theorem d_Nodes_printParameter_14 : decode m_Nodes_printParameter.2.1 14 = .ok (.getfield 181, 3) := by decide +kernel
theorem d_Nodes_printParameter_17 : decode m_Nodes_printParameter.2.1 17 = .ok (.bipush 63, 2) := by decide +kernel
theorem d_Nodes_printParameter_19 : decode m_Nodes_printParameter.2.1 19 = .ok (.invokevirtual 190, 3) := by decide +kernel
theorem d_Nodes_printParameter_22 : decode m_Nodes_printParameter.2.1 22 = .ok (.aload_n 0, 1) := by decide +kernel
theorem d_Nodes_printParameter_23 : decode m_Nodes_printParameter.2.1 23 = .ok (.getfield 3, 3) := by decide +kernel
theorem d_Nodes_printParameter_26 : decode m_Nodes_printParameter.2.1 26 = .ok (.getfield 181, 3) := by decide +kernel
theorem d_Nodes_printParameter_29 : decode m_Nodes_printParameter.2.1 29 = .ok (.lload_n 1, 1) := by decide +kernel
theorem d_Nodes_printParameter_30 : decode m_Nodes_printParameter.2.1 30 = .ok (.invokevirtual 193, 3) := by decide +kernel
theorem d_Nodes_printParameter_33 : decode m_Nodes_printParameter.2.1 33 = .ok (.return_, 1) := by decide +kernel
theorem d_Nodes_printName_0 : decode m_Nodes_printName.2.1 0 = .ok (.lload_n 1, 1) := by decide +kernel
theorem d_Nodes_printName_1 : decode m_Nodes_printName.2.1 1 = .ok (.lconst 0, 1) := by decide +kernel
theorem d_Nodes_printName_2 : decode m_Nodes_printName.2.1 2 = .ok (.lcmp, 1) := by decide +kernel
theorem d_Nodes_printName_3 : decode m_Nodes_printName.2.1 3 = .ok (.ifCond .eq 14, 3) := by decide +kernel
theorem d_Nodes_printName_6 : decode m_Nodes_printName.2.1 6 = .ok (.aload_n 0, 1) := by decide +kernel
theorem d_Nodes_printName_7 : decode m_Nodes_printName.2.1 7 = .ok (.getfield 3, 3) := by decide +kernel
theorem d_Nodes_printName_10 : decode m_Nodes_printName.2.1 10 = .ok (.getfield 181, 3) := by decide +kernel
theorem d_Nodes_printName_13 : decode m_Nodes_printName.2.1 13 = .ok (.lload_n 1, 1) := by decide +kernel
theorem d_Nodes_printName_14 : decode m_Nodes_printName.2.1 14 = .ok (.invokevirtual 211, 3) := by decide +kernel
theorem d_Nodes_printName_17 : decode m_Nodes_printName.2.1 17 = .ok (.return_, 1) := by decide +kernel
theorem d_Nodes_printChild_0 : decode m_Nodes_printChild.2.1 0 = .ok (.iload_n 1, 1) := by decide +kernel
theorem d_Nodes_printChild_1 : decode m_Nodes_printChild.2.1 1 = .ok (.iconst (-1), 1) := by decide +kernel
theorem d_Nodes_printChild_2 : decode m_Nodes_printChild.2.1 2 = .ok (.if_icmp .eq 8, 3) := by decide +kernel
theorem d_Nodes_printChild_5 : decode m_Nodes_printChild.2.1 5 = .ok (.aload_n 0, 1) := by decide +kernel
theorem d_Nodes_printChild_6 : decode m_Nodes_printChild.2.1 6 = .ok (.iload_n 1, 1) := by decide +kernel
theorem d_Nodes_printChild_7 : decode m_Nodes_printChild.2.1 7 = .ok (.invokevirtual 213, 3) := by decide +kernel
theorem d_Nodes_printChild_10 : decode m_Nodes_printChild.2.1 10 = .ok (.return_, 1) := by decide +kernel
theorem d_Nodes_printWord_0 : decode m_Nodes_printWord.2.1 0 = .ok (.aload_n 0, 1) := by decide +kernel
theorem d_Nodes_printWord_1 : decode m_Nodes_printWord.2.1 1 = .ok (.getfield 3, 3) := by decide +kernel
theorem d_Nodes_printWord_4 : decode m_Nodes_printWord.2.1 4 = .ok (.getfield 216, 3) := by decide +kernel
theorem d_Nodes_printWord_7 : decode m_Nodes_printWord.2.1 7 = .ok (.iload_n 2, 1) := by decide +kernel
theorem d_Nodes_printWord_8 : decode m_Nodes_printWord.2.1 8 = .ok (.aload_n 0, 1) := by decide +kernel
theorem d_Nodes_printWord_9 : decode m_Nodes_printWord.2.1 9 = .ok (.getfield 3, 3) := by decide +kernel
theorem d_Nodes_printWord_12 : decode m_Nodes_printWord.2.1 12 = .ok (.getfield 181, 3) := by decide +kernel
theorem d_Nodes_printWord_15 : decode m_Nodes_printWord.2.1 15 = .ok (.invokevirtual 220, 3) := by decide +kernel
theorem d_Nodes_printWord_18 : decode m_Nodes_printWord.2.1 18 = .ok (.aload_n 0, 1) := by decide +kernel
theorem d_Nodes_printWord_19 : decode m_Nodes_printWord.2.1 19 = .ok (.aload_n 0, 1) := by decide +kernel
theorem d_Nodes_printWord_20 : decode m_Nodes_printWord.2.1 20 = .ok (.getfield 37, 3) := by decide +kernel
theorem d_Nodes_printWord_23 : decode m_Nodes_printWord.2.1 23 = .ok (.iload_n 1, 1) := by decide +kernel
theorem d_Nodes_printWord_24 : decode m_Nodes_printWord.2.1 24 = .ok (.laload, 1) := by decide +kernel
theorem d_Nodes_printWord_25 : decode m_Nodes_printWord.2.1 25 = .ok (.invokevirtual 225, 3) := by decide +kernel
theorem d_Nodes_printWord_28 : decode m_Nodes_printWord.2.1 28 = .ok (.iload_n 2, 1) := by decide +kernel
theorem d_Nodes_printWord_29 : decode m_Nodes_printWord.2.1 29 = .ok (.iconst 1, 1) := by decide +kernel
theorem d_Nodes_printWord_30 : decode m_Nodes_printWord.2.1 30 = .ok (.if_icmp .ne 35, 3) := by decide +kernel
theorem d_Nodes_printWord_33 : decode m_Nodes_printWord.2.1 33 = .ok (.aload_n 0, 1) := by decide +kernel
theorem d_Nodes_printWord_34 : decode m_Nodes_printWord.2.1 34 = .ok (.getfield 3, 3) := by decide +kernel
theorem d_Nodes_printWord_37 : decode m_Nodes_printWord.2.1 37 = .ok (.getfield 216, 3) := by decide +kernel
theorem d_Nodes_printWord_40 : decode m_Nodes_printWord.2.1 40 = .ok (.aload_n 0, 1) := by decide +kernel
theorem d_Nodes_printWord_41 : decode m_Nodes_printWord.2.1 41 = .ok (.getfield 25, 3) := by decide +kernel
theorem d_Nodes_printWord_44 : decode m_Nodes_printWord.2.1 44 = .ok (.iload_n 1, 1) := by decide +kernel
theorem d_Nodes_printWord_45 : decode m_Nodes_printWord.2.1 45 = .ok (.iaload, 1) := by decide +kernel
theorem d_Nodes_printWord_46 : decode m_Nodes_printWord.2.1 46 = .ok (.iconst 1, 1) := by decide +kernel
theorem d_Nodes_printWord_47 : decode m_Nodes_printWord.2.1 47 = .ok (.if_icmp .ne 7, 3) := by decide +kernel
theorem d_Nodes_printWord_50 : decode m_Nodes_printWord.2.1 50 = .ok (.iconst 3, 1) := by decide +kernel
theorem d_Nodes_printWord_51 : decode m_Nodes_printWord.2.1 51 = .ok (.goto 4, 3) := by decide +kernel
theorem d_Nodes_printWord_54 : decode m_Nodes_printWord.2.1 54 = .ok (.iconst 2, 1) := by decide +kernel
theorem d_Nodes_printWord_55 : decode m_Nodes_printWord.2.1 55 = .ok (.aload_n 0, 1) := by decide +kernel
theorem d_Nodes_printWord_56 : decode m_Nodes_printWord.2.1 56 = .ok (.getfield 3, 3) := by decide +kernel
theorem d_Nodes_printWord_59 : decode m_Nodes_printWord.2.1 59 = .ok (.getfield 181, 3) := by decide +kernel
theorem d_Nodes_printWord_62 : decode m_Nodes_printWord.2.1 62 = .ok (.invokevirtual 220, 3) := by decide +kernel
theorem d_Nodes_printWord_65 : decode m_Nodes_printWord.2.1 65 = .ok (.aload_n 0, 1) := by decide +kernel
theorem d_Nodes_printWord_66 : decode m_Nodes_printWord.2.1 66 = .ok (.aload_n 0, 1) := by decide +kernel
theorem d_Nodes_printWord_67 : decode m_Nodes_printWord.2.1 67 = .ok (.getfield 41, 3) := by decide +kernel
theorem d_Nodes_printWord_70 : decode m_Nodes_printWord.2.1 70 = .ok (.iload_n 1, 1) := by decide +kernel
theorem d_Nodes_printWord_71 : decode m_Nodes_printWord.2.1 71 = .ok (.laload, 1) := by decide +kernel
theorem d_Nodes_printWord_72 : decode m_Nodes_printWord.2.1 72 = .ok (.invokevirtual 225, 3) := by decide +kernel
theorem d_Nodes_printWord_75 : decode m_Nodes_printWord.2.1 75 = .ok (.aload_n 0, 1) := by decide +kernel
theorem d_Nodes_printWord_76 : decode m_Nodes_printWord.2.1 76 = .ok (.aload_n 0, 1) := by decide +kernel
theorem d_Nodes_printWord_77 : decode m_Nodes_printWord.2.1 77 = .ok (.getfield 44, 3) := by decide +kernel
theorem d_Nodes_printWord_80 : decode m_Nodes_printWord.2.1 80 = .ok (.iload_n 1, 1) := by decide +kernel
theorem d_Nodes_printWord_81 : decode m_Nodes_printWord.2.1 81 = .ok (.laload, 1) := by decide +kernel
theorem d_Nodes_printWord_82 : decode m_Nodes_printWord.2.1 82 = .ok (.invokevirtual 225, 3) := by decide +kernel
theorem d_Nodes_printWord_85 : decode m_Nodes_printWord.2.1 85 = .ok (.aload_n 0, 1) := by decide +kernel
theorem d_Nodes_printWord_86 : decode m_Nodes_printWord.2.1 86 = .ok (.aload_n 0, 1) := by decide +kernel
theorem d_Nodes_printWord_87 : decode m_Nodes_printWord.2.1 87 = .ok (.getfield 19, 3) := by decide +kernel
theorem d_Nodes_printWord_90 : decode m_Nodes_printWord.2.1 90 = .ok (.iload_n 1, 1) := by decide +kernel
theorem d_Nodes_printWord_91 : decode m_Nodes_printWord.2.1 91 = .ok (.iaload, 1) := by decide +kernel
theorem d_Nodes_printWord_92 : decode m_Nodes_printWord.2.1 92 = .ok (.invokevirtual 228, 3) := by decide +kernel
theorem d_Nodes_printWord_95 : decode m_Nodes_printWord.2.1 95 = .ok (.aload_n 0, 1) := by decide +kernel
theorem d_Nodes_printWord_96 : decode m_Nodes_printWord.2.1 96 = .ok (.aload_n 0, 1) := by decide +kernel
theorem d_Nodes_printWord_97 : decode m_Nodes_printWord.2.1 97 = .ok (.getfield 22, 3) := by decide +kernel
theorem d_Nodes_printWord_100 : decode m_Nodes_printWord.2.1 100 = .ok (.iload_n 1, 1) := by decide +kernel
theorem d_Nodes_printWord_101 : decode m_Nodes_printWord.2.1 101 = .ok (.iaload, 1) := by decide +kernel
theorem d_Nodes_printWord_102 : decode m_Nodes_printWord.2.1 102 = .ok (.invokevirtual 228, 3) := by decide +kernel
theorem d_Nodes_printWord_105 : decode m_Nodes_printWord.2.1 105 = .ok (.iload_n 2, 1) := by decide +kernel
theorem d_Nodes_printWord_106 : decode m_Nodes_printWord.2.1 106 = .ok (.iconst 4, 1) := by decide +kernel
theorem d_Nodes_printWord_107 : decode m_Nodes_printWord.2.1 107 = .ok (.if_icmp .eq 9, 3) := by decide +kernel
theorem d_Nodes_printWord_110 : decode m_Nodes_printWord.2.1 110 = .ok (.iload_n 2, 1) := by decide +kernel
theorem d_Nodes_printWord_111 : decode m_Nodes_printWord.2.1 111 = .ok (.bipush 22, 2) := by decide +kernel
theorem d_Nodes_printWord_113 : decode m_Nodes_printWord.2.1 113 = .ok (.if_icmp .ne 13, 3) := by decide +kernel
theorem d_Nodes_printWord_116 : decode m_Nodes_printWord.2.1 116 = .ok (.aload_n 0, 1) := by decide +kernel
theorem d_Nodes_printWord_117 : decode m_Nodes_printWord.2.1 117 = .ok (.aload_n 0, 1) := by decide +kernel
theorem d_Nodes_printWord_118 : decode m_Nodes_printWord.2.1 118 = .ok (.getfield 25, 3) := by decide +kernel
theorem d_Nodes_printWord_121 : decode m_Nodes_printWord.2.1 121 = .ok (.iload_n 1, 1) := by decide +kernel
theorem d_Nodes_printWord_122 : decode m_Nodes_printWord.2.1 122 = .ok (.iaload, 1) := by decide +kernel
theorem d_Nodes_printWord_123 : decode m_Nodes_printWord.2.1 123 = .ok (.invokevirtual 213, 3) := by decide +kernel
theorem d_Nodes_printWord_126 : decode m_Nodes_printWord.2.1 126 = .ok (.return_, 1) := by decide +kernel
/-- what printing needs that stays -/
def PrF (P w o D : Nat) (L : M64) (R : MR) (T : SH) : Prop := T.1 P = 16 + 1 ∧ R P 0 = some w ∧ R P 3 = some o ∧ KwS R T w ∧ KwV L w ∧ OutS R T o (o + 1) ∧ NdS R T D P
def PrI (o D Z mm sz lo hi a1 p1 a2 p2 : Nat) (ρ : Nat → Row) (V : Nat → Int) (L : M64) (R : MR) (T : SH) (I : M32) : Prop := NuH I R T D Z mm sz V ∧ (∀ i, lo ≤ i → i < hi → RowC I L D i (ρ i)) ∧ StrC I R T 1 a1 p1 1 (fun _ => 91) ∧ StrC I R T 2 a2 p2 1 (fun _ => 93) ∧ (o + 5 < D ∧ hi ≤ 5000) ∧ (p1 ≠ o ∧ p1 ≠ o + 4 ∧ p1 ≠ o + 5) ∧ (p2 ≠ o ∧ p2 ≠ o + 4 ∧ p2 ≠ o + 5)
section
variable {P w o D Z mm sz lo hi a1 p1 a2 p2 : Nat} {ρ : Nat → Row} {V : Nat → Int} {I : M32} {L : M64} {R : MR} {T : SH}
theorem StrC.fr {i a p n : Nat} {f : Nat → Nat} {I' : M32} (h : StrC I R T i a p n f) (hp : I' p = I p) : StrC I' R T i a p n f := by
  obtain ⟨h1, h2, h3, h4, h5, h6, h7⟩ := h
  exact ⟨h1, h2, h3, h4, h5, h6, fun j hj => ⟨(h7 j hj).1, by rw [hp]; exact (h7 j hj).2⟩⟩
theorem PrI.fr {I' : M32} (h : PrI o D Z mm sz lo hi a1 p1 a2 p2 ρ V L R T I) (hF : FrO o (o + 1) I I') : PrI o D Z mm sz lo hi a1 p1 a2 p2 ρ V L R T I' := by
  obtain ⟨h1, h2, h3, h4, h5, h6, h7⟩ := h
  have hz := h1.lt
  refine ⟨h1.co (by rw [hF _ (by omega) (by omega) (by omega)]) (by rw [hF _ (by omega) (by omega) (by omega)]) (fun a k e => by rw [hF _ (by omega) (by omega) (by omega)]), fun i i1 i2 => (h2 i i1 i2).of (fun c _ _ => by rw [hF _ (by omega) (by omega) (by omega)]) (fun _ _ _ => rfl), h3.fr (hF _ (by omega) (by omega) (by omega)), h4.fr (hF _ (by omega) (by omega) (by omega)), h5, h6, h7⟩
theorem c_Nodes_printParameter (d : Nat) {x : Nat} {l : List Nat} (hd : 3 ≤ d) (hF : PrF P w o D L R T) (hV : OutV I o l) (hx : nmO x) :
    Call m_Nodes_printParameter y_Nodes_printParameter d 0 0 [.ref D, .long (cL x)] I L R T (rV fun I' L' R' T' => (OutV I' o (wordL l (63 :: nmL x)) ∧ FrO o (o + 1) I I') ∧ L' = L ∧ R' = R ∧ T' = T) := by
  obtain ⟨f1, f2, f3, f4, f5, f6, f7⟩ := hF
  obtain ⟨hx0, nn, hx⟩ := hx
  refine Call.ofRun (by decide) ⟨rfl, rfl⟩ (Nat.le_of_ble_eq_true rfl) ?_
  refine Run.gen fun Q hQ => ?_
  refine q_aload_n d_Nodes_printParameter_0 rfl ?_
  refine q_getR d_Nodes_printParameter_1 fl_Nodes_3 f7.1 ⟨rfl, by decide⟩ f7.2.2 ?_
  refine q_getR d_Nodes_printParameter_4 fl_Nodes_181 f1 ⟨rfl, by decide⟩ f3 ?_
  refine q_callV (ci := 2) (rc := 0) (rs := 0) (rest := []) d_Nodes_printParameter_7 ml_Nodes_185 ok_Out_part rfl f6.1 (by decide) (c_Out_part (d - 1) (by omega) f6 hV) rfl rfl (by omega) (Nat.le_of_ble_eq_true rfl) (kv_V (fun J1 h1 => ?_)) kt_V
  refine q_aload_n d_Nodes_printParameter_10 rfl ?_
  refine q_getR d_Nodes_printParameter_11 fl_Nodes_3 f7.1 ⟨rfl, by decide⟩ f7.2.2 ?_
  refine q_getR d_Nodes_printParameter_14 fl_Nodes_181 f1 ⟨rfl, by decide⟩ f3 ?_
  refine j_bipush d_Nodes_printParameter_17 (by decide) ?_
  refine q_callV (ci := 2) (rc := 0) (rs := 0) (rest := []) d_Nodes_printParameter_19 ml_Nodes_190 ok_Out_put rfl f6.1 (by decide) (c_Out_put (d - 1) (b := 63) f6 h1.1 (by decide)) rfl rfl (by omega) (Nat.le_of_ble_eq_true rfl) (kv_V (fun J2 h2 => ?_)) kt_V
  refine q_aload_n d_Nodes_printParameter_22 rfl ?_
  refine q_getR d_Nodes_printParameter_23 fl_Nodes_3 f7.1 ⟨rfl, by decide⟩ f7.2.2 ?_
  refine q_getR d_Nodes_printParameter_26 fl_Nodes_181 f1 ⟨rfl, by decide⟩ f3 ?_
  refine q_lload_n d_Nodes_printParameter_29 rfl ?_
  refine q_callV (ci := 2) (rc := 0) (rs := 0) (rest := []) d_Nodes_printParameter_30 ml_Nodes_193 ok_Out_spell rfl f6.1 (by decide) (c_Out_spell (d - 1) (by omega) f6 h2.1 hx) rfl rfl (by omega) (Nat.le_of_ble_eq_true rfl) (kv_V (fun J3 h3 => ?_)) kt_V
  refine q_return d_Nodes_printParameter_33 rfl ?_
  refine hQ _ _ _ _ _ ?_
  refine ⟨rfl, ⟨?_, (h1.2.tr (h2.2.tr h3.2)).o⟩, rfl, rfl, rfl⟩
  have := h3.1
  rw [nmL_eq hx] at this
  exact this
theorem c_Nodes_printName (d : Nat) {x : Nat} {l : List Nat} (hd : 3 ≤ d) (hF : PrF P w o D L R T) (hV : OutV I o l) (hx : x = 0 ∨ nmO x) :
    Call m_Nodes_printName y_Nodes_printName d 0 0 [.ref D, .long (cL x)] I L R T (rV fun I' L' R' T' => (OutV I' o (nmP x l) ∧ FrO o (o + 1) I I') ∧ L' = L ∧ R' = R ∧ T' = T) := by
  obtain ⟨f1, f2, f3, f4, f5, f6, f7⟩ := hF
  have hx63 : x < 9223372036854775808 := by
    rcases hx with h | ⟨-, n, h⟩
    · omega
    · exact h.2.2.1
  refine Call.ofRun (by decide) ⟨rfl, rfl⟩ (Nat.le_of_ble_eq_true rfl) ?_
  refine Run.gen fun Q hQ => ?_
  refine q_lload_n d_Nodes_printName_0 rfl ?_
  refine j_lconst (z := 0) d_Nodes_printName_1 (by decide) ?_
  by_cases h0 : x = 0
  · refine j_lcmp_eq (tgt := 17) d_Nodes_printName_2 d_Nodes_printName_3 (by decide) (by omega) (by omega) (fun hx => ?_) (fun hx => by exfalso; omega)
    refine q_return d_Nodes_printName_17 rfl ?_
    refine hQ _ _ _ _ _ ?_
    refine ⟨rfl, ⟨?_, FrO.rf⟩, rfl, rfl, rfl⟩
    unfold nmP; rw [if_pos (by omega)]; exact hV
  rcases hx with hnx | ⟨hx0, nn, hnx⟩
  · exact absurd hnx h0
  refine j_lcmp_eq (tgt := 17) d_Nodes_printName_2 d_Nodes_printName_3 (by decide) (by omega) (by omega) (fun hx => by exfalso; omega) (fun hx => ?_)
  refine q_aload_n d_Nodes_printName_6 rfl ?_
  refine q_getR d_Nodes_printName_7 fl_Nodes_3 f7.1 ⟨rfl, by decide⟩ f7.2.2 ?_
  refine q_getR d_Nodes_printName_10 fl_Nodes_181 f1 ⟨rfl, by decide⟩ f3 ?_
  refine q_lload_n d_Nodes_printName_13 rfl ?_
  refine q_callV (ci := 2) (rc := 0) (rs := 0) (rest := []) d_Nodes_printName_14 ml_Nodes_211 ok_Out_name rfl f6.1 (by decide) (c_Out_name (d - 1) (by omega) f6 hV hnx) rfl rfl (by omega) (Nat.le_of_ble_eq_true rfl) (kv_V (fun J3 h3 => ?_)) kt_V
  refine q_return d_Nodes_printName_17 rfl ?_
  refine hQ _ _ _ _ _ ?_
  refine ⟨rfl, ⟨?_, h3.2.o⟩, rfl, rfl, rfl⟩
  have := h3.1
  rw [nmL_eq hnx] at this
  unfold nmP; rw [if_neg (by omega)]; exact this
end
/-- print prints nodes of fuel f -/
def PrOk (P w o D Z mm sz lo hi a1 p1 a2 p2 : Nat) (ρ : Nat → Row) (V : Nat → Int) (L : M64) (R : MR) (T : SH) (f : Nat) : Prop := ∀ (s n m n' m' d : Nat) (l : List Nat) (I : M32), 5 * f + 10 ≤ d → Wf ρ V f s n m n' m' → lo ≤ n → n' ≤ hi → m' ≤ mm → PrI o D Z mm sz lo hi a1 p1 a2 p2 ρ V L R T I → OutV I o l → Call m_Nodes_print y_Nodes_print d 0 0 [.ref D, .int (cI (n : Int))] I L R T (rV fun I' L' R' T' => (OutV I' o (prN ρ V f n l) ∧ FrO o (o + 1) I I') ∧ L' = L ∧ R' = R ∧ T' = T)
section
variable {P w o D Z mm sz lo hi a1 p1 a2 p2 : Nat} {ρ : Nat → Row} {V : Nat → Int} {I : M32} {L : M64} {R : MR} {T : SH}
theorem PrOk.ch {f lo' hi' mh d : Nat} {c : Int} {l : List Nat} (h : PrOk P w o D Z mm sz lo hi a1 p1 a2 p2 ρ V L R T f) (hc : ChO ρ V f lo' hi' mh c) (hd : 5 * f + 10 ≤ d) (hlo : lo ≤ lo') (hhi : hi' ≤ hi) (hmh : mh ≤ mm) (hP : PrI o D Z mm sz lo hi a1 p1 a2 p2 ρ V L R T I) (hV : OutV I o l) : Call m_Nodes_print y_Nodes_print d 0 0 [.ref D, .int (cI c)] I L R T (rV fun I' L' R' T' => (OutV I' o (prN ρ V f c.toNat l) ∧ FrO o (o + 1) I I') ∧ L' = L ∧ R' = R ∧ T' = T) := by
  obtain ⟨k, s, m, n', m', rfl, h1, h2, h3, h4⟩ := hc
  exact h s k m n' m' d l I hd h4 (by omega) (by omega) (by omega) hP hV
theorem ChO.in {f lo' hi' mh : Nat} {c : Int} (h : ChO ρ V f lo' hi' mh c) (hh : hi' ≤ 5000) : 0 ≤ c ∧ c < 5000 := by
  obtain ⟨k, s, m, n', m', rfl, h1, h2, h3, h4⟩ := h
  have := Wf_le _ _ _ _ _ _ h4
  omega
theorem c_Nodes_printChild {f lo' hi' mh : Nat} (d : Nat) {c : Int} {l : List Nat} (hd : 5 * f + 11 ≤ d) (hF : PrF P w o D L R T) (hK : PrOk P w o D Z mm sz lo hi a1 p1 a2 p2 ρ V L R T f) (hc : c = -1 ∨ ChO ρ V f lo' hi' mh c) (hlo : lo ≤ lo') (hhi : hi' ≤ hi) (hmh : mh ≤ mm) (hP : PrI o D Z mm sz lo hi a1 p1 a2 p2 ρ V L R T I) (hV : OutV I o l) :
    Call m_Nodes_printChild y_Nodes_printChild d 0 0 [.ref D, .int (cI c)] I L R T (rV fun I' L' R' T' => (OutV I' o (chP (prN ρ V f) c l) ∧ FrO o (o + 1) I I') ∧ L' = L ∧ R' = R ∧ T' = T) := by
  have hci : -1 ≤ c ∧ c < 5000 := by
    rcases hc with h | h
    · omega
    · have := h.in (by have := hP.2.2.2.2.1; omega); omega
  refine Call.ofRun (by decide) ⟨rfl, rfl⟩ (Nat.le_of_ble_eq_true rfl) ?_
  refine Run.gen fun Q hQ => ?_
  refine q_iload_n d_Nodes_printChild_0 rfl ?_
  refine j_iconst d_Nodes_printChild_1 ?_
  by_cases h0 : c = -1
  · refine j_icmp_eq (tgt := 10) d_Nodes_printChild_2 (by decide) (by omega) (by omega) (fun hx => ?_) (fun hx => by exfalso; omega)
    refine q_return d_Nodes_printChild_10 rfl ?_
    refine hQ _ _ _ _ _ ?_
    refine ⟨rfl, ⟨?_, FrO.rf⟩, rfl, rfl, rfl⟩
    unfold chP; rw [if_pos h0]; exact hV
  rcases hc with hc | hc
  · exact absurd hc h0
  refine j_icmp_eq (tgt := 10) d_Nodes_printChild_2 (by decide) (by omega) (by omega) (fun hx => by exfalso; omega) (fun hx => ?_)
  refine q_aload_n d_Nodes_printChild_5 rfl ?_
  refine q_iload_n d_Nodes_printChild_6 rfl ?_
  refine q_callV (ci := 6) (rc := 0) (rs := 0) (rest := []) d_Nodes_printChild_7 ml_Nodes_213 ok_Nodes_print rfl hF.2.2.2.2.2.2.1 (by decide) (hK.ch (d := d - 1) hc (by omega) hlo hhi hmh hP hV) rfl rfl (by omega) (Nat.le_of_ble_eq_true rfl) (kv_V (fun J3 h3 => ?_)) kt_V
  refine q_return d_Nodes_printChild_10 rfl ?_
  refine hQ _ _ _ _ _ ?_
  refine ⟨rfl, ⟨?_, h3.2⟩, rfl, rfl, rfl⟩
  unfold chP; rw [if_neg h0]; exact h3.1
/-- the words of a node that is no number, parameter, case, when -/
noncomputable def pwL (ρ : Nat → Row) (P : Nat → List Nat → List Nat) (n : Nat) (l : List Nat) : List Nat :=
  let r := ρ n
  let l1 := nmP (r.getD 5 0) (wordL l (kwL (r.getD 0 0).toNat))
  let l2 := if r.getD 0 0 = 1 then wordL l1 (kwL (if r.getD 3 0 = 1 then 3 else 2)) else l1
  let l3 := chP P (r.getD 2 0) (chP P (r.getD 1 0) (nmP (r.getD 7 0) (nmP (r.getD 6 0) l2)))
  if r.getD 0 0 = 4 ∨ r.getD 0 0 = 22 then P (r.getD 3 0).toNat l3 else l3
theorem c_Nodes_printWord {f n n' m' k : Nat} (d : Nat) {l : List Nat} (hd : 5 * f + 12 ≤ d) (hF : PrF P w o D L R T) (hK : PrOk P w o D Z mm sz lo hi a1 p1 a2 p2 ρ V L R T f) (hI : InvR ρ V f n n' m' (k : Int) (ρ n)) (hk : k < 34) (h1 : k = 1 → inI ((ρ n).getD 3 0)) (h4 : k = 4 ∨ k = 22 → ChO ρ V f n n' m' ((ρ n).getD 3 0)) (hlo : lo ≤ n) (hn : n < n') (hhi : n' ≤ hi) (hmh : m' ≤ mm) (hP : PrI o D Z mm sz lo hi a1 p1 a2 p2 ρ V L R T I) (hV : OutV I o l) :
    Call m_Nodes_printWord y_Nodes_printWord d 0 0 [.ref D, .int (cI (n : Int)), .int (cI (k : Int))] I L R T (rV fun I' L' R' T' => (OutV I' o (pwL ρ (prN ρ V f) n l) ∧ FrO o (o + 1) I I') ∧ L' = L ∧ R' = R ∧ T' = T) := by
  obtain ⟨f1, f2, f3, f4, f5, f6, f7⟩ := id hF
  obtain ⟨g1, g2, ⟨⟨x5, e5, y5⟩, ⟨x6, e6, y6⟩, ⟨x7, e7, y7⟩⟩, g6, g7⟩ := id hI
  have hly := hP.2.2.2.2.1
  have hrw : ∀ J, PrI o D Z mm sz lo hi a1 p1 a2 p2 ρ V L R T J → RowC J L D n (ρ n) := fun J hJ => hJ.2.1 n hlo (by omega)
  have hr0 := hrw I hP
  obtain ⟨c1, hc1⟩ : ∃ c1, c1 = (ρ n).getD 1 0 := ⟨_, rfl⟩
  obtain ⟨c2, hc2⟩ : ∃ c2, c2 = (ρ n).getD 2 0 := ⟨_, rfl⟩
  obtain ⟨c3, hc3⟩ : ∃ c3, c3 = (ρ n).getD 3 0 := ⟨_, rfl⟩
  unfold pwL
  rw [← hc3] at h1 h4
  rw [← hc1] at g6
  rw [← hc2] at g7
  simp only [g2, e5, e6, e7, ← hc1, ← hc2, ← hc3]
  refine Call.ofRun (by decide) ⟨rfl, rfl⟩ (Nat.le_of_ble_eq_true rfl) ?_
  refine Run.gen fun Q hQ => ?_
  refine q_aload_n d_Nodes_printWord_0 rfl ?_
  refine q_getR d_Nodes_printWord_1 fl_Nodes_3 f7.1 ⟨rfl, by decide⟩ f7.2.2 ?_
  refine q_getR d_Nodes_printWord_4 fl_Nodes_216 f1 ⟨rfl, by decide⟩ f2 ?_
  refine q_iload_n d_Nodes_printWord_7 rfl ?_
  refine q_aload_n d_Nodes_printWord_8 rfl ?_
  refine q_getR d_Nodes_printWord_9 fl_Nodes_3 f7.1 ⟨rfl, by decide⟩ f7.2.2 ?_
  refine q_getR d_Nodes_printWord_12 fl_Nodes_181 f1 ⟨rfl, by decide⟩ f3 ?_
  refine q_callV (ci := 3) (rc := 0) (rs := 0) (rest := []) d_Nodes_printWord_15 ml_Nodes_220 ok_Keywords_print rfl f4.1 (by decide) (c_Keywords_print (d - 1) (k := k) (by omega) f4 f5 f6 hV hk) rfl rfl (by omega) (Nat.le_of_ble_eq_true rfl) (kv_V (fun J1 q1 => ?_)) kt_V
  refine q_aload_n d_Nodes_printWord_18 rfl ?_
  refine q_aload_n d_Nodes_printWord_19 rfl ?_
  refine q_getR d_Nodes_printWord_20 fl_Nodes_37 f7.1 ⟨rfl, by decide⟩ (nR7 f7) ?_
  refine q_iload_n d_Nodes_printWord_23 rfl ?_
  refine j_lald (j := n) (v := (cL (x5 : Int))) d_Nodes_printWord_24 (nT7 f7) (nN7 f7) (by omega) (by omega) (by omega) (hr0.2.2.2.2.2.1.trans (by rw [e5])) ?_
  refine q_callV (ci := 6) (rc := 0) (rs := 0) (rest := []) d_Nodes_printWord_25 ml_Nodes_225 ok_Nodes_printName rfl f7.1 (by decide) (c_Nodes_printName (d - 1) (by omega) hF q1.1 y5) rfl rfl (by omega) (Nat.le_of_ble_eq_true rfl) (kv_V (fun J2 q2 => ?_)) kt_V
  have hF2 := q1.2.o.tr q2.2
  have hP2 := hP.fr hF2
  have t65 : ∀ (l3 : List Nat) (J3 : M32), FrO o (o + 1) I J3 → OutV J3 o l3 → l3 = (if (k : Int) = 1 then wordL (nmP x5 (wordL l (kwL (k : Int).toNat))) (kwL (if c3 = 1 then 3 else 2)) else nmP x5 (wordL l (kwL (k : Int).toNat))) → Run m_Nodes_printWord d 0 0 65 [(0, .ref D), (1, .int (cI (n : Int))), (2, .int (cI (k : Int)))] [] J3 L R T Q := by
    intro l3 J3 q3 v3 hl3
    rw [← hl3] at hQ
    refine q_aload_n d_Nodes_printWord_65 rfl ?_
    refine q_aload_n d_Nodes_printWord_66 rfl ?_
    refine q_getR d_Nodes_printWord_67 fl_Nodes_41 f7.1 ⟨rfl, by decide⟩ (nR8 f7) ?_
    refine q_iload_n d_Nodes_printWord_70 rfl ?_
    refine j_lald (j := n) (v := (cL (x6 : Int))) d_Nodes_printWord_71 (nT8 f7) (nN8 f7) (by omega) (by omega) (by omega) (hr0.2.2.2.2.2.2.1.trans (by rw [e6])) ?_
    refine q_callV (ci := 6) (rc := 0) (rs := 0) (rest := []) d_Nodes_printWord_72 ml_Nodes_225 ok_Nodes_printName rfl f7.1 (by decide) (c_Nodes_printName (d - 1) (by omega) hF v3 y6) rfl rfl (by omega) (Nat.le_of_ble_eq_true rfl) (kv_V (fun J4 q4 => ?_)) kt_V
    refine q_aload_n d_Nodes_printWord_75 rfl ?_
    refine q_aload_n d_Nodes_printWord_76 rfl ?_
    refine q_getR d_Nodes_printWord_77 fl_Nodes_44 f7.1 ⟨rfl, by decide⟩ (nR9 f7) ?_
    refine q_iload_n d_Nodes_printWord_80 rfl ?_
    refine j_lald (j := n) (v := (cL (x7 : Int))) d_Nodes_printWord_81 (nT9 f7) (nN9 f7) (by omega) (by omega) (by omega) (hr0.2.2.2.2.2.2.2.1.trans (by rw [e7])) ?_
    refine q_callV (ci := 6) (rc := 0) (rs := 0) (rest := []) d_Nodes_printWord_82 ml_Nodes_225 ok_Nodes_printName rfl f7.1 (by decide) (c_Nodes_printName (d - 1) (by omega) hF q4.1 y7) rfl rfl (by omega) (Nat.le_of_ble_eq_true rfl) (kv_V (fun J5 q5 => ?_)) kt_V
    have hF5 := (q3.tr q4.2).tr q5.2
    have hP5 := hP.fr hF5
    refine q_aload_n d_Nodes_printWord_85 rfl ?_
    refine q_aload_n d_Nodes_printWord_86 rfl ?_
    refine q_getR d_Nodes_printWord_87 fl_Nodes_19 f7.1 ⟨rfl, by decide⟩ (nR1 f7) ?_
    refine q_iload_n d_Nodes_printWord_90 rfl ?_
    refine j_iald (j := n) (v := (cI c1)) d_Nodes_printWord_91 (nT1 f7) (nN1 f7) (by omega) (by omega) (by omega) ((hrw _ hP5).2.1.trans (by rw [← hc1])) ?_
    refine q_callV (ci := 6) (rc := 0) (rs := 0) (rest := []) d_Nodes_printWord_92 ml_Nodes_228 ok_Nodes_printChild rfl f7.1 (by decide) (c_Nodes_printChild (d - 1) (by omega) hF hK g6 hlo hhi hmh hP5 q5.1) rfl rfl (by omega) (Nat.le_of_ble_eq_true rfl) (kv_V (fun J6 q6 => ?_)) kt_V
    have hF6 := hF5.tr q6.2
    have hP6 := hP.fr hF6
    refine q_aload_n d_Nodes_printWord_95 rfl ?_
    refine q_aload_n d_Nodes_printWord_96 rfl ?_
    refine q_getR d_Nodes_printWord_97 fl_Nodes_22 f7.1 ⟨rfl, by decide⟩ (nR2 f7) ?_
    refine q_iload_n d_Nodes_printWord_100 rfl ?_
    refine j_iald (j := n) (v := (cI c2)) d_Nodes_printWord_101 (nT2 f7) (nN2 f7) (by omega) (by omega) (by omega) ((hrw _ hP6).2.2.1.trans (by rw [← hc2])) ?_
    refine q_callV (ci := 6) (rc := 0) (rs := 0) (rest := []) d_Nodes_printWord_102 ml_Nodes_228 ok_Nodes_printChild rfl f7.1 (by decide) (c_Nodes_printChild (d - 1) (by omega) hF hK g7 hlo hhi hmh hP6 q6.1) rfl rfl (by omega) (Nat.le_of_ble_eq_true rfl) (kv_V (fun J7 q7 => ?_)) kt_V
    have hF7 := hF6.tr q7.2
    have hP7 := hP.fr hF7
    have t116 : ∀ (h422 : k = 4 ∨ k = 22), True → Run m_Nodes_printWord d 0 0 116 [(0, .ref D), (1, .int (cI (n : Int))), (2, .int (cI (k : Int)))] [] J7 L R T Q := by
      intro h422 _
      refine q_aload_n d_Nodes_printWord_116 rfl ?_
      refine q_aload_n d_Nodes_printWord_117 rfl ?_
      refine q_getR d_Nodes_printWord_118 fl_Nodes_25 f7.1 ⟨rfl, by decide⟩ (nR3 f7) ?_
      refine q_iload_n d_Nodes_printWord_121 rfl ?_
      refine j_iald (j := n) (v := (cI c3)) d_Nodes_printWord_122 (nT3 f7) (nN3 f7) (by omega) (by omega) (by omega) ((hrw _ hP7).2.2.2.1.trans (by rw [← hc3])) ?_
      refine q_callV (ci := 6) (rc := 0) (rs := 0) (rest := []) d_Nodes_printWord_123 ml_Nodes_213 ok_Nodes_print rfl f7.1 (by decide) (hK.ch (d := d - 1) (h4 h422) (by omega) hlo hhi hmh hP7 q7.1) rfl rfl (by omega) (Nat.le_of_ble_eq_true rfl) (kv_V (fun J8 q8 => ?_)) kt_V
      refine q_return d_Nodes_printWord_126 rfl ?_
      refine hQ _ _ _ _ _ ?_
      refine ⟨rfl, ⟨?_, hF7.tr q8.2⟩, rfl, rfl, rfl⟩
      rw [if_pos (by omega)]
      exact q8.1
    refine q_iload_n d_Nodes_printWord_105 rfl ?_
    refine j_iconst d_Nodes_printWord_106 ?_
    by_cases h44 : k = 4
    · refine j_icmp_eq (tgt := 116) d_Nodes_printWord_107 (by decide) (by omega) (by omega) (fun hx => ?_) (fun hx => by exfalso; omega)
      exact t116 (Or.inl h44) trivial
    refine j_icmp_eq (tgt := 116) d_Nodes_printWord_107 (by decide) (by omega) (by omega) (fun hx => by exfalso; omega) (fun hx => ?_)
    refine q_iload_n d_Nodes_printWord_110 rfl ?_
    refine j_bipush d_Nodes_printWord_111 (by decide) ?_
    by_cases h22 : k = 22
    · refine j_icmp_ne (tgt := 126) d_Nodes_printWord_113 (by decide) (by omega) (by omega) (fun hx => by exfalso; omega) (fun hx => ?_)
      exact t116 (Or.inr h22) trivial
    refine j_icmp_ne (tgt := 126) d_Nodes_printWord_113 (by decide) (by omega) (by omega) (fun hx => ?_) (fun hx => by exfalso; omega)
    refine q_return d_Nodes_printWord_126 rfl ?_
    refine hQ _ _ _ _ _ ?_
    refine ⟨rfl, ⟨?_, hF7⟩, rfl, rfl, rfl⟩
    rw [if_neg (by omega)]
    exact q7.1
  refine q_iload_n d_Nodes_printWord_28 rfl ?_
  refine j_iconst d_Nodes_printWord_29 ?_
  by_cases h11 : k = 1
  rotate_left
  · refine j_icmp_ne (tgt := 65) d_Nodes_printWord_30 (by decide) (by omega) (by omega) (fun hx => ?_) (fun hx => by exfalso; omega)
    exact t65 _ _ hF2 q2.1 (by rw [if_neg (by omega)]; rfl)
  refine j_icmp_ne (tgt := 65) d_Nodes_printWord_30 (by decide) (by omega) (by omega) (fun hx => by exfalso; omega) (fun hx => ?_)
  have hc3i := h1 h11
  refine q_aload_n d_Nodes_printWord_33 rfl ?_
  refine q_getR d_Nodes_printWord_34 fl_Nodes_3 f7.1 ⟨rfl, by decide⟩ f7.2.2 ?_
  refine q_getR d_Nodes_printWord_37 fl_Nodes_216 f1 ⟨rfl, by decide⟩ f2 ?_
  refine q_aload_n d_Nodes_printWord_40 rfl ?_
  refine q_getR d_Nodes_printWord_41 fl_Nodes_25 f7.1 ⟨rfl, by decide⟩ (nR3 f7) ?_
  refine q_iload_n d_Nodes_printWord_44 rfl ?_
  refine j_iald (j := n) (v := (cI c3)) d_Nodes_printWord_45 (nT3 f7) (nN3 f7) (by omega) (by omega) (by omega) ((hrw _ hP2).2.2.2.1.trans (by rw [← hc3])) ?_
  refine j_iconst d_Nodes_printWord_46 ?_
  suffices J : ∀ (u : Int), (((¬ c3 = 1) ∧ u = 2) ∨ ((c3 = 1) ∧ u = 3)) → Run m_Nodes_printWord d 0 0 55 [(0, .ref D), (1, .int (cI (n : Int))), (2, .int (cI (k : Int)))] [.int (cI u), .ref w] J2 L R T Q by
    refine j_icmp_ne (tgt := 54) d_Nodes_printWord_47 (by decide) (by omega) (by omega) (fun hp1 => ?_) (fun hp1 => ?_)
    · refine j_iconst d_Nodes_printWord_54 ?_
      exact J _ (Or.inl ⟨hp1, rfl⟩)
    · refine j_iconst d_Nodes_printWord_50 ?_
      refine q_goto (tgt := 55) d_Nodes_printWord_51 (by decide) ?_
      exact J _ (Or.inr ⟨hp1, rfl⟩)
  intro u hu
  obtain ⟨k3, hk3, hk4⟩ : ∃ k3 : Nat, u = (k3 : Int) ∧ k3 = if c3 = 1 then 3 else 2 := by
    by_cases e : c3 = 1
    · exact ⟨3, by omega, by rw [if_pos e]⟩
    · exact ⟨2, by omega, by rw [if_neg e]⟩
  subst hk3
  refine q_aload_n d_Nodes_printWord_55 rfl ?_
  refine q_getR d_Nodes_printWord_56 fl_Nodes_3 f7.1 ⟨rfl, by decide⟩ f7.2.2 ?_
  refine q_getR d_Nodes_printWord_59 fl_Nodes_181 f1 ⟨rfl, by decide⟩ f3 ?_
  refine q_callV (ci := 3) (rc := 0) (rs := 0) (rest := []) d_Nodes_printWord_62 ml_Nodes_220 ok_Keywords_print rfl f4.1 (by decide) (c_Keywords_print (d - 1) (k := k3) (by omega) f4 f5 f6 q2.1 (by split at hk4 <;> omega)) rfl rfl (by omega) (Nat.le_of_ble_eq_true rfl) (kv_V (fun J3 q3 => ?_)) kt_V
  exact t65 _ _ (hF2.tr q3.2.o) q3.1 (by rw [if_pos (by omega), hk4]; rfl)
end

