/-! ===== B3 WHAT IS TOLD OF A CONTRACT: whens in one another, the reference ===== -/
theorem d_Model_standIn_0 : decode m_Model_standIn.2.1 0 = .ok (.iload_n 1, 1) := by decide +kernel
theorem d_Model_standIn_1 : decode m_Model_standIn.2.1 1 = .ok (.iconst (-1), 1) := by decide +kernel
theorem d_Model_standIn_2 : decode m_Model_standIn.2.1 2 = .ok (.if_icmp .eq 26, 3) := by decide +kernel
theorem d_Model_standIn_5 : decode m_Model_standIn.2.1 5 = .ok (.aload_n 0, 1) := by decide +kernel
theorem d_Model_standIn_6 : decode m_Model_standIn.2.1 6 = .ok (.getfield 121, 3) := by decide +kernel
theorem d_Model_standIn_9 : decode m_Model_standIn.2.1 9 = .ok (.iload_n 1, 1) := by decide +kernel
theorem d_Model_standIn_10 : decode m_Model_standIn.2.1 10 = .ok (.iload_n 2, 1) := by decide +kernel
theorem d_Model_standIn_11 : decode m_Model_standIn.2.1 11 = .ok (.aload_n 0, 1) := by decide +kernel
theorem d_Model_standIn_12 : decode m_Model_standIn.2.1 12 = .ok (.getfield 26, 3) := by decide +kernel
theorem d_Model_standIn_15 : decode m_Model_standIn.2.1 15 = .ok (.iload_n 1, 1) := by decide +kernel
theorem d_Model_standIn_16 : decode m_Model_standIn.2.1 16 = .ok (.iaload, 1) := by decide +kernel
theorem d_Model_standIn_17 : decode m_Model_standIn.2.1 17 = .ok (.iconst 5, 1) := by decide +kernel
theorem d_Model_standIn_18 : decode m_Model_standIn.2.1 18 = .ok (.if_icmp .ne 7, 3) := by decide +kernel
theorem d_Model_standIn_21 : decode m_Model_standIn.2.1 21 = .ok (.iconst 1, 1) := by decide +kernel
theorem d_Model_standIn_22 : decode m_Model_standIn.2.1 22 = .ok (.goto 4, 3) := by decide +kernel
theorem d_Model_standIn_25 : decode m_Model_standIn.2.1 25 = .ok (.iconst 0, 1) := by decide +kernel
theorem d_Model_standIn_26 : decode m_Model_standIn.2.1 26 = .ok (.iadd, 1) := by decide +kernel
theorem d_Model_standIn_27 : decode m_Model_standIn.2.1 27 = .ok (.iastore, 1) := by decide +kernel
theorem d_Model_standIn_28 : decode m_Model_standIn.2.1 28 = .ok (.return_, 1) := by decide +kernel
theorem d_Model_mostWhens_0 : decode m_Model_mostWhens.2.1 0 = .ok (.iconst 0, 1) := by decide +kernel
theorem d_Model_mostWhens_1 : decode m_Model_mostWhens.2.1 1 = .ok (.istore_n 3, 1) := by decide +kernel
theorem d_Model_mostWhens_2 : decode m_Model_mostWhens.2.1 2 = .ok (.aload_n 0, 1) := by decide +kernel
theorem d_Model_mostWhens_3 : decode m_Model_mostWhens.2.1 3 = .ok (.getfield 121, 3) := by decide +kernel
theorem d_Model_mostWhens_6 : decode m_Model_mostWhens.2.1 6 = .ok (.iload_n 1, 1) := by decide +kernel
theorem d_Model_mostWhens_7 : decode m_Model_mostWhens.2.1 7 = .ok (.aload_n 0, 1) := by decide +kernel
theorem d_Model_mostWhens_8 : decode m_Model_mostWhens.2.1 8 = .ok (.getfield 26, 3) := by decide +kernel
theorem d_Model_mostWhens_11 : decode m_Model_mostWhens.2.1 11 = .ok (.iload_n 1, 1) := by decide +kernel
theorem d_Model_mostWhens_12 : decode m_Model_mostWhens.2.1 12 = .ok (.iaload, 1) := by decide +kernel
theorem d_Model_mostWhens_13 : decode m_Model_mostWhens.2.1 13 = .ok (.iconst 5, 1) := by decide +kernel
theorem d_Model_mostWhens_14 : decode m_Model_mostWhens.2.1 14 = .ok (.if_icmp .ne 7, 3) := by decide +kernel
theorem d_Model_mostWhens_17 : decode m_Model_mostWhens.2.1 17 = .ok (.iconst 1, 1) := by decide +kernel
theorem d_Model_mostWhens_18 : decode m_Model_mostWhens.2.1 18 = .ok (.goto 4, 3) := by decide +kernel
theorem d_Model_mostWhens_21 : decode m_Model_mostWhens.2.1 21 = .ok (.iconst 0, 1) := by decide +kernel
theorem d_Model_mostWhens_22 : decode m_Model_mostWhens.2.1 22 = .ok (.iastore, 1) := by decide +kernel
theorem d_Model_mostWhens_23 : decode m_Model_mostWhens.2.1 23 = .ok (.iload_n 1, 1) := by decide +kernel
theorem d_Model_mostWhens_24 : decode m_Model_mostWhens.2.1 24 = .ok (.istore 4, 2) := by decide +kernel
theorem d_Model_mostWhens_26 : decode m_Model_mostWhens.2.1 26 = .ok (.iload 4, 2) := by decide +kernel
theorem d_Model_mostWhens_28 : decode m_Model_mostWhens.2.1 28 = .ok (.iload_n 2, 1) := by decide +kernel
theorem d_Model_mostWhens_29 : decode m_Model_mostWhens.2.1 29 = .ok (.if_icmp .ge 127, 3) := by decide +kernel
theorem d_Model_mostWhens_32 : decode m_Model_mostWhens.2.1 32 = .ok (.aload_n 0, 1) := by decide +kernel
theorem d_Model_mostWhens_33 : decode m_Model_mostWhens.2.1 33 = .ok (.getfield 121, 3) := by decide +kernel
theorem d_Model_mostWhens_36 : decode m_Model_mostWhens.2.1 36 = .ok (.iload 4, 2) := by decide +kernel
theorem d_Model_mostWhens_38 : decode m_Model_mostWhens.2.1 38 = .ok (.iaload, 1) := by decide +kernel
theorem d_Model_mostWhens_39 : decode m_Model_mostWhens.2.1 39 = .ok (.iload_n 3, 1) := by decide +kernel
theorem d_Model_mostWhens_40 : decode m_Model_mostWhens.2.1 40 = .ok (.if_icmp .le 13, 3) := by decide +kernel
theorem d_Model_mostWhens_43 : decode m_Model_mostWhens.2.1 43 = .ok (.aload_n 0, 1) := by decide +kernel
theorem d_Model_mostWhens_44 : decode m_Model_mostWhens.2.1 44 = .ok (.getfield 121, 3) := by decide +kernel
theorem d_Model_mostWhens_47 : decode m_Model_mostWhens.2.1 47 = .ok (.iload 4, 2) := by decide +kernel
theorem d_Model_mostWhens_49 : decode m_Model_mostWhens.2.1 49 = .ok (.iaload, 1) := by decide +kernel
theorem d_Model_mostWhens_50 : decode m_Model_mostWhens.2.1 50 = .ok (.goto 4, 3) := by decide +kernel
theorem d_Model_mostWhens_53 : decode m_Model_mostWhens.2.1 53 = .ok (.iload_n 3, 1) := by decide +kernel
theorem d_Model_mostWhens_54 : decode m_Model_mostWhens.2.1 54 = .ok (.istore_n 3, 1) := by decide +kernel
theorem d_Model_mostWhens_55 : decode m_Model_mostWhens.2.1 55 = .ok (.aload_n 0, 1) := by decide +kernel
theorem d_Model_mostWhens_56 : decode m_Model_mostWhens.2.1 56 = .ok (.aload_n 0, 1) := by decide +kernel
theorem d_Model_mostWhens_57 : decode m_Model_mostWhens.2.1 57 = .ok (.getfield 39, 3) := by decide +kernel
theorem d_Model_mostWhens_60 : decode m_Model_mostWhens.2.1 60 = .ok (.iload 4, 2) := by decide +kernel
theorem d_Model_mostWhens_62 : decode m_Model_mostWhens.2.1 62 = .ok (.iaload, 1) := by decide +kernel
theorem d_Model_mostWhens_63 : decode m_Model_mostWhens.2.1 63 = .ok (.aload_n 0, 1) := by decide +kernel
theorem d_Model_mostWhens_64 : decode m_Model_mostWhens.2.1 64 = .ok (.getfield 121, 3) := by decide +kernel
theorem d_Model_mostWhens_67 : decode m_Model_mostWhens.2.1 67 = .ok (.iload 4, 2) := by decide +kernel
theorem d_Model_mostWhens_69 : decode m_Model_mostWhens.2.1 69 = .ok (.iaload, 1) := by decide +kernel
theorem d_Model_mostWhens_70 : decode m_Model_mostWhens.2.1 70 = .ok (.invokevirtual 742, 3) := by decide +kernel
theorem d_Model_mostWhens_73 : decode m_Model_mostWhens.2.1 73 = .ok (.aload_n 0, 1) := by decide +kernel
theorem d_Model_mostWhens_74 : decode m_Model_mostWhens.2.1 74 = .ok (.aload_n 0, 1) := by decide +kernel
theorem d_Model_mostWhens_75 : decode m_Model_mostWhens.2.1 75 = .ok (.getfield 42, 3) := by decide +kernel
theorem d_Model_mostWhens_78 : decode m_Model_mostWhens.2.1 78 = .ok (.iload 4, 2) := by decide +kernel
theorem d_Model_mostWhens_80 : decode m_Model_mostWhens.2.1 80 = .ok (.iaload, 1) := by decide +kernel
theorem d_Model_mostWhens_81 : decode m_Model_mostWhens.2.1 81 = .ok (.aload_n 0, 1) := by decide +kernel
theorem d_Model_mostWhens_82 : decode m_Model_mostWhens.2.1 82 = .ok (.getfield 121, 3) := by decide +kernel
theorem d_Model_mostWhens_85 : decode m_Model_mostWhens.2.1 85 = .ok (.iload 4, 2) := by decide +kernel
theorem d_Model_mostWhens_87 : decode m_Model_mostWhens.2.1 87 = .ok (.iaload, 1) := by decide +kernel
theorem d_Model_mostWhens_88 : decode m_Model_mostWhens.2.1 88 = .ok (.invokevirtual 742, 3) := by decide +kernel
theorem d_Model_mostWhens_91 : decode m_Model_mostWhens.2.1 91 = .ok (.aload_n 0, 1) := by decide +kernel
theorem d_Model_mostWhens_92 : decode m_Model_mostWhens.2.1 92 = .ok (.getfield 26, 3) := by decide +kernel
theorem d_Model_mostWhens_95 : decode m_Model_mostWhens.2.1 95 = .ok (.iload 4, 2) := by decide +kernel
theorem d_Model_mostWhens_97 : decode m_Model_mostWhens.2.1 97 = .ok (.iaload, 1) := by decide +kernel
theorem d_Model_mostWhens_98 : decode m_Model_mostWhens.2.1 98 = .ok (.iconst 5, 1) := by decide +kernel
theorem d_Model_mostWhens_99 : decode m_Model_mostWhens.2.1 99 = .ok (.if_icmp .eq 21, 3) := by decide +kernel
theorem d_Model_mostWhens_102 : decode m_Model_mostWhens.2.1 102 = .ok (.aload_n 0, 1) := by decide +kernel
theorem d_Model_mostWhens_103 : decode m_Model_mostWhens.2.1 103 = .ok (.aload_n 0, 1) := by decide +kernel
theorem d_Model_mostWhens_104 : decode m_Model_mostWhens.2.1 104 = .ok (.getfield 45, 3) := by decide +kernel
theorem d_Model_mostWhens_107 : decode m_Model_mostWhens.2.1 107 = .ok (.iload 4, 2) := by decide +kernel
theorem d_Model_mostWhens_109 : decode m_Model_mostWhens.2.1 109 = .ok (.iaload, 1) := by decide +kernel
theorem d_Model_mostWhens_110 : decode m_Model_mostWhens.2.1 110 = .ok (.aload_n 0, 1) := by decide +kernel
theorem d_Model_mostWhens_111 : decode m_Model_mostWhens.2.1 111 = .ok (.getfield 121, 3) := by decide +kernel
theorem d_Model_mostWhens_114 : decode m_Model_mostWhens.2.1 114 = .ok (.iload 4, 2) := by decide +kernel
theorem d_Model_mostWhens_116 : decode m_Model_mostWhens.2.1 116 = .ok (.iaload, 1) := by decide +kernel
theorem d_Model_mostWhens_117 : decode m_Model_mostWhens.2.1 117 = .ok (.invokevirtual 742, 3) := by decide +kernel
theorem d_Model_mostWhens_120 : decode m_Model_mostWhens.2.1 120 = .ok (.aload_n 0, 1) := by decide +kernel
theorem d_Model_mostWhens_121 : decode m_Model_mostWhens.2.1 121 = .ok (.getfield 48, 3) := by decide +kernel
theorem d_Model_mostWhens_124 : decode m_Model_mostWhens.2.1 124 = .ok (.iload 4, 2) := by decide +kernel
theorem d_Model_mostWhens_126 : decode m_Model_mostWhens.2.1 126 = .ok (.iaload, 1) := by decide +kernel
theorem d_Model_mostWhens_127 : decode m_Model_mostWhens.2.1 127 = .ok (.iconst (-1), 1) := by decide +kernel
theorem d_Model_mostWhens_128 : decode m_Model_mostWhens.2.1 128 = .ok (.if_icmp .eq 22, 3) := by decide +kernel
theorem d_Model_mostWhens_131 : decode m_Model_mostWhens.2.1 131 = .ok (.aload_n 0, 1) := by decide +kernel
theorem d_Model_mostWhens_132 : decode m_Model_mostWhens.2.1 132 = .ok (.getfield 121, 3) := by decide +kernel
theorem d_Model_mostWhens_135 : decode m_Model_mostWhens.2.1 135 = .ok (.aload_n 0, 1) := by decide +kernel
theorem d_Model_mostWhens_136 : decode m_Model_mostWhens.2.1 136 = .ok (.getfield 48, 3) := by decide +kernel
theorem d_Model_mostWhens_139 : decode m_Model_mostWhens.2.1 139 = .ok (.iload 4, 2) := by decide +kernel
theorem d_Model_mostWhens_141 : decode m_Model_mostWhens.2.1 141 = .ok (.iaload, 1) := by decide +kernel
theorem d_Model_mostWhens_142 : decode m_Model_mostWhens.2.1 142 = .ok (.aload_n 0, 1) := by decide +kernel
theorem d_Model_mostWhens_143 : decode m_Model_mostWhens.2.1 143 = .ok (.getfield 121, 3) := by decide +kernel
theorem d_Model_mostWhens_146 : decode m_Model_mostWhens.2.1 146 = .ok (.iload 4, 2) := by decide +kernel
theorem d_Model_mostWhens_148 : decode m_Model_mostWhens.2.1 148 = .ok (.iaload, 1) := by decide +kernel
theorem d_Model_mostWhens_149 : decode m_Model_mostWhens.2.1 149 = .ok (.iastore, 1) := by decide +kernel
theorem d_Model_mostWhens_150 : decode m_Model_mostWhens.2.1 150 = .ok (.iinc 4 1, 3) := by decide +kernel
theorem d_Model_mostWhens_153 : decode m_Model_mostWhens.2.1 153 = .ok (.goto (-127), 3) := by decide +kernel
theorem d_Model_mostWhens_156 : decode m_Model_mostWhens.2.1 156 = .ok (.iload_n 3, 1) := by decide +kernel
theorem d_Model_mostWhens_157 : decode m_Model_mostWhens.2.1 157 = .ok (.ireturn, 1) := by decide +kernel
/-- only the row of whens changes -/
def FrW' (M : Nat) (I I' : M32) : Prop := ∀ a, a ≠ M + 37 → I' a = I a
theorem FrW'.rf {M : Nat} {I : M32} : FrW' M I I := fun _ _ => rfl
theorem FrW'.tr {M : Nat} {I J K : M32} (h : FrW' M I J) (g : FrW' M J K) : FrW' M I K := fun a e => (g a e).trans (h a e)
section
variable {M tp pt d LO HI : Nat} {ρ : Nat → Row} {V : Nat → Int} {I0 I : M32} {L : M64} {R : MR} {T : SH} {Q : QT}
theorem RowM.w {i : Nat} {r : Row} (h : RowM I0 L M tp pt V i r) (hF : FrW' M I0 I) : RowM I L M tp pt V i r :=
  h.fx (fun a h1 h2 => by rw [hF a (by omega)]) (fun a h1 h2 => rfl) (fun k _ => by rw [hF _ (by omega)]) (fun k _ => ⟨by rw [hF _ (by omega)], by rw [hF _ (by omega)]⟩) (Nat.le_refl _) (Nat.le_refl _)
theorem kdM_5 {k h : Int} (hk : 0 ≤ k ∧ k ≤ 102) : kdM k h = 5 ↔ k = 5 := by
  unfold kdM
  (repeat' split) <;> omega
/-- one more when -/
abbrev wh1 (ρ : Nat → Row) (p : Nat) : Int := if (ρ p).getD 0 0 = 5 then 1 else 0
theorem c_Model_standIn (d : Nat) {c v : Int} (hM : MdlS M R T) (hr : ∀ i, LO ≤ i → i < HI → RowM I L M tp pt V i (ρ i) ∧ 0 ≤ (ρ i).getD 0 0 ∧ (ρ i).getD 0 0 ≤ 102) (hHI : HI ≤ 5100) (hc : c = -1 ∨ ((LO : Int) ≤ c ∧ c < HI)) :
    Call m_Model_standIn y_Model_standIn d 0 0 [.ref M, .int (cI c), .int (cI v)] I L R T (rV fun I' L' R' T' => (FrW' M I I' ∧ (∀ p : Nat, (p : Int) = c → I' (M + 37) p = cI (v + wh1 ρ p)) ∧ ∀ p : Nat, (p : Int) ≠ c → I' (M + 37) p = I (M + 37) p) ∧ L' = L ∧ R' = R ∧ T' = T) := by
  refine Call.ofRun (by decide) ⟨rfl, rfl⟩ (Nat.le_of_ble_eq_true rfl) ?_
  refine Run.gen fun Q hQ => ?_
  refine q_iload_n d_Model_standIn_0 rfl ?_
  refine j_iconst d_Model_standIn_1 ?_
  by_cases h1 : c = -1
  · refine j_icmp_eq (tgt := 28) d_Model_standIn_2 (by decide) (by omega) (by omega) (fun hx => ?_) (fun hx => by exfalso; omega)
    refine q_return d_Model_standIn_28 rfl ?_
    refine hQ _ _ _ _ _ ?_
    exact ⟨rfl, ⟨FrW'.rf, fun p hp => by omega, fun p _ => rfl⟩, rfl, rfl, rfl⟩
  obtain ⟨n, hn, hn1, hn2⟩ : ∃ n : Nat, c = (n : Int) ∧ LO ≤ n ∧ n < HI := ⟨c.toNat, by omega, by omega, by omega⟩
  obtain ⟨hrn, hk⟩ := hr n hn1 hn2
  obtain ⟨kk, hkk⟩ : ∃ kk, kk = kdM ((ρ n).getD 0 0) ((ρ n).getD 3 0) := ⟨_, rfl⟩
  have h5 := kdM_5 (h := (ρ n).getD 3 0) hk
  rw [← hkk] at h5
  have hki : inI kk := by
    rw [hkk]; unfold kdM
    (repeat' split) <;> omega
  refine j_icmp_eq (tgt := 28) d_Model_standIn_2 (by decide) (by omega) (by omega) (fun hx => by exfalso; omega) (fun hx => ?_)
  refine q_aload_n d_Model_standIn_5 rfl ?_
  refine q_getR d_Model_standIn_6 fl_Model_121 hM.1 ⟨rfl, by decide⟩ (mR59 hM) ?_
  refine q_iload_n d_Model_standIn_9 rfl ?_
  refine q_iload_n d_Model_standIn_10 rfl ?_
  refine q_aload_n d_Model_standIn_11 rfl ?_
  refine q_getR d_Model_standIn_12 fl_Model_26 hM.1 ⟨rfl, by decide⟩ (mR19 hM) ?_
  refine q_iload_n d_Model_standIn_15 rfl ?_
  refine j_iald (j := n) (v := (cI kk)) d_Model_standIn_16 (mT19 hM) (mN19 hM) (by omega) (by omega) (by omega) (hrn.1.1.trans (by rw [hkk])) ?_
  refine j_iconst d_Model_standIn_17 ?_
  suffices J : ∀ (u : Int), (((¬ kk = 5) ∧ u = 0) ∨ ((kk = 5) ∧ u = 1)) → Run m_Model_standIn d 0 0 26 [(0, .ref M), (1, .int (cI c)), (2, .int (cI v))] [.int (cI u), .int (cI v), .int (cI c), .ref (M + 37)] I L R T Q by
    refine j_icmp_ne (tgt := 25) d_Model_standIn_18 (by decide) (by omega) (by omega) (fun hp1 => ?_) (fun hp1 => ?_)
    · refine j_iconst d_Model_standIn_25 ?_
      exact J _ (Or.inl ⟨hp1, rfl⟩)
    · refine j_iconst d_Model_standIn_21 ?_
      refine q_goto (tgt := 26) d_Model_standIn_22 (by decide) ?_
      exact J _ (Or.inr ⟨hp1, rfl⟩)
  intro u hu
  have hu2 : u = wh1 ρ n := by
    unfold wh1
    by_cases q : (ρ n).getD 0 0 = 5
    · rw [if_pos q]; omega
    · rw [if_neg q]; omega
  refine j_iadd d_Model_standIn_26 ?_
  refine j_iast (j := n) d_Model_standIn_27 (mT59 hM) (mN59 hM) (by omega) (by omega) (by omega) ?_
  generalize hI1 : (up2 I (M + 37) n (cI (v + u))) = I1
  refine q_return d_Model_standIn_28 rfl ?_
  refine hQ _ _ _ _ _ ?_
  refine ⟨rfl, ⟨fun a e => by rw [← hI1, up2_row _ _ e], fun p hp => ?_, fun p hp => ?_⟩, rfl, rfl, rfl⟩
  · obtain rfl : p = n := by omega
    rw [← hI1, up2_s, hu2]
  · rw [← hI1, up2_k _ _ _ (by omega)]
/-- the head of the loop -/
def MH (d M a b : Nat) (L : M64) (R : MR) (T : SH) (Q : QT) (n μ : Nat) (I : M32) : Prop := Run m_Model_mostWhens d 0 0 26 [(0, .ref M), (1, .int (cI (a : Int))), (2, .int (cI (b : Int))), (3, .int (cI (μ : Int))), (4, .int (cI (n : Int)))] [] I L R T Q
/-- one step of the loop -/
theorem mh_step {aa bb n μ v : Nat} (hd : 2 ≤ d) (hM : MdlS M R T) (hr : ∀ i, LO ≤ i → i < HI → RowM I L M tp pt V i (ρ i) ∧ 0 ≤ (ρ i).getD 0 0 ∧ (ρ i).getD 0 0 ≤ 102) (hHI : HI ≤ 5100) (hn : LO ≤ n ∧ n < HI) (hnb : n < bb) (hbb : bb ≤ 5100) (hv : I (M + 37) n = cI (v : Int)) (hv2 : v ≤ 5000) (hμ : μ ≤ 5000)
    (c1 : (ρ n).getD 1 0 = -1 ∨ ((n : Int) < (ρ n).getD 1 0 ∧ (ρ n).getD 1 0 < HI)) (c2 : (ρ n).getD 2 0 = -1 ∨ ((n : Int) < (ρ n).getD 2 0 ∧ (ρ n).getD 2 0 < HI)) (c3 : (ρ n).getD 0 0 = 4 ∨ (ρ n).getD 0 0 = 22 → ((n : Int) < (ρ n).getD 3 0 ∧ (ρ n).getD 3 0 < HI)) (c4 : (ρ n).getD 4 0 = -1 ∨ ((n : Int) < (ρ n).getD 4 0 ∧ (ρ n).getD 4 0 < HI ∧ (ρ ((ρ n).getD 4 0).toNat).getD 0 0 ≠ 5))
    (kk : ∀ I', FrW' M I I' → (∀ p : Nat, ((p : Int) = (ρ n).getD 1 0 ∨ (p : Int) = (ρ n).getD 2 0 ∨ (((ρ n).getD 0 0 = 4 ∨ (ρ n).getD 0 0 = 22) ∧ (p : Int) = (ρ n).getD 3 0) ∨ (p : Int) = (ρ n).getD 4 0) → I' (M + 37) p = cI ((v : Int) + wh1 ρ p)) → (∀ p : Nat, ¬ ((p : Int) = (ρ n).getD 1 0 ∨ (p : Int) = (ρ n).getD 2 0 ∨ (((ρ n).getD 0 0 = 4 ∨ (ρ n).getD 0 0 = 22) ∧ (p : Int) = (ρ n).getD 3 0) ∨ (p : Int) = (ρ n).getD 4 0) → I' (M + 37) p = I (M + 37) p) → MH d M aa bb L R T Q (n + 1) (max μ v) I') : MH d M aa bb L R T Q n μ I := by
  obtain ⟨hrn, hk⟩ := hr n hn.1 hn.2
  obtain ⟨z1, hz1⟩ : ∃ z, z = (ρ n).getD 1 0 := ⟨_, rfl⟩
  obtain ⟨z2, hz2⟩ : ∃ z, z = (ρ n).getD 2 0 := ⟨_, rfl⟩
  obtain ⟨z3, hz3⟩ : ∃ z, z = (ρ n).getD 3 0 := ⟨_, rfl⟩
  obtain ⟨z4, hz4⟩ : ∃ z, z = (ρ n).getD 4 0 := ⟨_, rfl⟩
  obtain ⟨κ, hκ⟩ : ∃ z, z = (ρ n).getD 0 0 := ⟨_, rfl⟩
  obtain ⟨kd, hkd⟩ : ∃ kd, kd = kdM ((ρ n).getD 0 0) ((ρ n).getD 3 0) := ⟨_, rfl⟩
  have h5 := kdM_5 (h := (ρ n).getD 3 0) hk
  rw [← hkd] at h5
  have hki : inI kd := by
    rw [hkd]; unfold kdM
    (repeat' split) <;> omega
  rw [← hκ] at hk h5
  simp only [← hz1, ← hz2, ← hz3, ← hz4, ← hκ] at c1 c2 c3 c4 kk
  have hrw : ∀ J, FrW' M I J → ∀ i, LO ≤ i → i < HI → RowM J L M tp pt V i (ρ i) ∧ 0 ≤ (ρ i).getD 0 0 ∧ (ρ i).getD 0 0 ≤ 102 := fun J hJ i i1 i2 => ⟨(hr i i1 i2).1.w hJ, (hr i i1 i2).2⟩
  unfold MH
  refine q_iload d_Model_mostWhens_26 rfl ?_
  refine q_iload_n d_Model_mostWhens_28 rfl ?_
  refine j_icmp_ge (tgt := 156) d_Model_mostWhens_29 (by decide) (by omega) (by omega) (fun hx => by exfalso; omega) (fun hx => ?_)
  refine q_aload_n d_Model_mostWhens_32 rfl ?_
  refine q_getR d_Model_mostWhens_33 fl_Model_121 hM.1 ⟨rfl, by decide⟩ (mR59 hM) ?_
  refine q_iload d_Model_mostWhens_36 rfl ?_
  refine j_iald (j := n) (v := (cI (v : Int))) d_Model_mostWhens_38 (mT59 hM) (mN59 hM) (by omega) (by omega) (by omega) hv ?_
  refine q_iload_n d_Model_mostWhens_39 rfl ?_
  suffices J : ∀ (w : Int), ((((v : Int) ≤ (μ : Int)) ∧ w = (μ : Int)) ∨ (((μ : Int) < (v : Int)) ∧ w = (v : Int))) → Run m_Model_mostWhens d 0 0 54 [(0, .ref M), (1, .int (cI (aa : Int))), (2, .int (cI (bb : Int))), (3, .int (cI (μ : Int))), (4, .int (cI (n : Int)))] [.int (cI w)] I L R T Q by
    refine j_icmp_le (tgt := 53) d_Model_mostWhens_40 (by decide) (by omega) (by omega) (fun hp2 => ?_) (fun hp2 => ?_)
    · refine q_iload_n d_Model_mostWhens_53 rfl ?_
      exact J _ (Or.inl ⟨hp2, rfl⟩)
    · refine q_aload_n d_Model_mostWhens_43 rfl ?_
      refine q_getR d_Model_mostWhens_44 fl_Model_121 hM.1 ⟨rfl, by decide⟩ (mR59 hM) ?_
      refine q_iload d_Model_mostWhens_47 rfl ?_
      refine j_iald (j := n) (v := (cI (v : Int))) d_Model_mostWhens_49 (mT59 hM) (mN59 hM) (by omega) (by omega) (by omega) hv ?_
      refine q_goto (tgt := 54) d_Model_mostWhens_50 (by decide) ?_
      exact J _ (Or.inr ⟨hp2, rfl⟩)
  intro w hw
  have hw2 : w = ((max μ v : Nat) : Int) := by omega
  rw [hw2]
  refine q_istore_n (lv' := [(3, .int (cI (((max μ v : Nat) : Int)))), (0, .ref M), (1, .int (cI (aa : Int))), (2, .int (cI (bb : Int))), (4, .int (cI (n : Int)))]) d_Model_mostWhens_54 (by decide) rfl ?_
  refine q_aload_n d_Model_mostWhens_55 rfl ?_
  refine q_aload_n d_Model_mostWhens_56 rfl ?_
  refine q_getR d_Model_mostWhens_57 fl_Model_39 hM.1 ⟨rfl, by decide⟩ (mR23 hM) ?_
  refine q_iload d_Model_mostWhens_60 rfl ?_
  refine j_iald (j := n) (v := (cI z1)) d_Model_mostWhens_62 (mT23 hM) (mN23 hM) (by omega) (by omega) (by omega) (hrn.1.2.1.trans (by rw [← hz1])) ?_
  refine q_aload_n d_Model_mostWhens_63 rfl ?_
  refine q_getR d_Model_mostWhens_64 fl_Model_121 hM.1 ⟨rfl, by decide⟩ (mR59 hM) ?_
  refine q_iload d_Model_mostWhens_67 rfl ?_
  refine j_iald (j := n) (v := (cI (v : Int))) d_Model_mostWhens_69 (mT59 hM) (mN59 hM) (by omega) (by omega) (by omega) hv ?_
  refine q_callV (ci := 17) (rc := 0) (rs := 0) (rest := []) d_Model_mostWhens_70 ml_Model_742 ok_Model_standIn rfl hM.1 (by decide) (c_Model_standIn (d - 1) (v := (v : Int)) hM hr hHI (by omega)) rfl rfl (by omega) (Nat.le_of_ble_eq_true rfl) (kv_V (fun J1 q1 => ?_)) kt_V
  obtain ⟨f1, s1, o1⟩ := q1
  have hrn1 := (hrw J1 f1 n hn.1 hn.2).1
  have e1 : J1 (M + 37) n = cI (v : Int) := (o1 n (by omega)).trans hv
  refine q_aload_n d_Model_mostWhens_73 rfl ?_
  refine q_aload_n d_Model_mostWhens_74 rfl ?_
  refine q_getR d_Model_mostWhens_75 fl_Model_42 hM.1 ⟨rfl, by decide⟩ (mR24 hM) ?_
  refine q_iload d_Model_mostWhens_78 rfl ?_
  refine j_iald (j := n) (v := (cI z2)) d_Model_mostWhens_80 (mT24 hM) (mN24 hM) (by omega) (by omega) (by omega) (hrn1.1.2.2.1.trans (by rw [← hz2])) ?_
  refine q_aload_n d_Model_mostWhens_81 rfl ?_
  refine q_getR d_Model_mostWhens_82 fl_Model_121 hM.1 ⟨rfl, by decide⟩ (mR59 hM) ?_
  refine q_iload d_Model_mostWhens_85 rfl ?_
  refine j_iald (j := n) (v := (cI (v : Int))) d_Model_mostWhens_87 (mT59 hM) (mN59 hM) (by omega) (by omega) (by omega) e1 ?_
  refine q_callV (ci := 17) (rc := 0) (rs := 0) (rest := []) d_Model_mostWhens_88 ml_Model_742 ok_Model_standIn rfl hM.1 (by decide) (c_Model_standIn (d - 1) (v := (v : Int)) hM (hrw J1 f1) hHI (by omega)) rfl rfl (by omega) (Nat.le_of_ble_eq_true rfl) (kv_V (fun J2 q2 => ?_)) kt_V
  obtain ⟨f2, s2, o2⟩ := q2
  have f12 := f1.tr f2
  have hrn2 := (hrw J2 f12 n hn.1 hn.2).1
  have e2 : J2 (M + 37) n = cI (v : Int) := (o2 n (by omega)).trans e1
  have t120 : ∀ (J3 : M32), FrW' M I J3 → (∀ p : Nat, ((p : Int) = z1 ∨ (p : Int) = z2 ∨ ((κ = 4 ∨ κ = 22) ∧ (p : Int) = z3)) → J3 (M + 37) p = cI ((v : Int) + wh1 ρ p)) → (∀ p : Nat, ¬ ((p : Int) = z1 ∨ (p : Int) = z2 ∨ ((κ = 4 ∨ κ = 22) ∧ (p : Int) = z3)) → J3 (M + 37) p = I (M + 37) p) → Run m_Model_mostWhens d 0 0 120 [(0, .ref M), (1, .int (cI (aa : Int))), (2, .int (cI (bb : Int))), (3, .int (cI (((max μ v : Nat) : Int)))), (4, .int (cI (n : Int)))] [] J3 L R T Q := by
    intro J3 f3 s3 o3
    have hrn3 := (hrw J3 f3 n hn.1 hn.2).1
    have e3 : J3 (M + 37) n = cI (v : Int) := (o3 n (by
      rintro (h | h | ⟨h1, h⟩)
      · omega
      · omega
      · have := c3 h1; omega)).trans hv
    refine q_aload_n d_Model_mostWhens_120 rfl ?_
    refine q_getR d_Model_mostWhens_121 fl_Model_48 hM.1 ⟨rfl, by decide⟩ (mR26 hM) ?_
    refine q_iload d_Model_mostWhens_124 rfl ?_
    refine j_iald (j := n) (v := (cI z4)) d_Model_mostWhens_126 (mT26 hM) (mN26 hM) (by omega) (by omega) (by omega) (hrn3.1.2.2.2.2.1.trans (by rw [← hz4])) ?_
    refine j_iconst d_Model_mostWhens_127 ?_
    by_cases h4 : z4 = -1
    · refine j_icmp_eq (tgt := 150) d_Model_mostWhens_128 (by decide) (by omega) (by omega) (fun hx => ?_) (fun hx => by exfalso; omega)
      refine j_iinc (lv' := [(4, .int (cI ((n : Int) + 1))), (0, .ref M), (1, .int (cI (aa : Int))), (2, .int (cI (bb : Int))), (3, .int (cI (((max μ v : Nat) : Int))))]) d_Model_mostWhens_150 rfl (by decide) rfl ?_
      refine q_goto (tgt := 26) d_Model_mostWhens_153 (by decide) ?_
      have := kk J3 f3 (fun p hp => s3 p (by omega)) (fun p hp => o3 p (by omega))
      unfold MH at this
      rw [show (n : Int) + 1 = ((n + 1 : Nat) : Int) by omega]
      refine Run.lv (lv' := [(0, .ref M), (1, .int (cI (aa : Int))), (2, .int (cI (bb : Int))), (3, .int (cI (((max μ v : Nat) : Int)))), (4, .int (cI (((n + 1 : Nat) : Int))))]) (by intro q hq; simp only [List.mem_cons, List.not_mem_nil, or_false] at hq ⊢; rcases hq with rfl | rfl | rfl | rfl | rfl <;> simp) ?_
      exact this
    obtain ⟨n4, hn4⟩ : ∃ n4 : Nat, z4 = (n4 : Int) := ⟨z4.toNat, by omega⟩
    have c4' := c4.resolve_left h4
    rw [hn4, Int.toNat_natCast] at c4'
    refine j_icmp_eq (tgt := 150) d_Model_mostWhens_128 (by decide) (by omega) (by omega) (fun hx => by exfalso; omega) (fun hx => ?_)
    refine q_aload_n d_Model_mostWhens_131 rfl ?_
    refine q_getR d_Model_mostWhens_132 fl_Model_121 hM.1 ⟨rfl, by decide⟩ (mR59 hM) ?_
    refine q_aload_n d_Model_mostWhens_135 rfl ?_
    refine q_getR d_Model_mostWhens_136 fl_Model_48 hM.1 ⟨rfl, by decide⟩ (mR26 hM) ?_
    refine q_iload d_Model_mostWhens_139 rfl ?_
    refine j_iald (j := n) (v := (cI z4)) d_Model_mostWhens_141 (mT26 hM) (mN26 hM) (by omega) (by omega) (by omega) (hrn3.1.2.2.2.2.1.trans (by rw [← hz4])) ?_
    refine q_aload_n d_Model_mostWhens_142 rfl ?_
    refine q_getR d_Model_mostWhens_143 fl_Model_121 hM.1 ⟨rfl, by decide⟩ (mR59 hM) ?_
    refine q_iload d_Model_mostWhens_146 rfl ?_
    refine j_iald (j := n) (v := (cI (v : Int))) d_Model_mostWhens_148 (mT59 hM) (mN59 hM) (by omega) (by omega) (by omega) e3 ?_
    refine j_iast (j := n4) d_Model_mostWhens_149 (mT59 hM) (mN59 hM) (by omega) (by omega) (by omega) ?_
    generalize hJ4 : (up2 J3 (M + 37) n4 (cI (v : Int))) = J4
    refine j_iinc (lv' := [(4, .int (cI ((n : Int) + 1))), (0, .ref M), (1, .int (cI (aa : Int))), (2, .int (cI (bb : Int))), (3, .int (cI (((max μ v : Nat) : Int))))]) d_Model_mostWhens_150 rfl (by decide) rfl ?_
    refine q_goto (tgt := 26) d_Model_mostWhens_153 (by decide) ?_
    have := kk J4 (f3.tr fun a e => by rw [← hJ4, up2_row _ _ e]) (fun p hp => ?_) (fun p hp => ?_)
    · unfold MH at this
      rw [show (n : Int) + 1 = ((n + 1 : Nat) : Int) by omega]
      refine Run.lv (lv' := [(0, .ref M), (1, .int (cI (aa : Int))), (2, .int (cI (bb : Int))), (3, .int (cI (((max μ v : Nat) : Int)))), (4, .int (cI (((n + 1 : Nat) : Int))))]) (by intro q hq; simp only [List.mem_cons, List.not_mem_nil, or_false] at hq ⊢; rcases hq with rfl | rfl | rfl | rfl | rfl <;> simp) ?_
      exact this
    · by_cases e : p = n4
      · subst e
        rw [← hJ4, up2_s]
        unfold wh1
        rw [if_neg c4'.2.2, Int.add_zero]
      · rw [← hJ4, up2_k _ _ _ e]
        exact s3 p (by omega)
    · rw [← hJ4, up2_k _ _ _ (by omega)]
      exact o3 p (by omega)
  refine q_aload_n d_Model_mostWhens_91 rfl ?_
  refine q_getR d_Model_mostWhens_92 fl_Model_26 hM.1 ⟨rfl, by decide⟩ (mR19 hM) ?_
  refine q_iload d_Model_mostWhens_95 rfl ?_
  refine j_iald (j := n) (v := (cI kd)) d_Model_mostWhens_97 (mT19 hM) (mN19 hM) (by omega) (by omega) (by omega) (hrn2.1.1.trans (by rw [hkd])) ?_
  refine j_iconst d_Model_mostWhens_98 ?_
  by_cases hk5 : kd = 5
  · refine j_icmp_eq (tgt := 120) d_Model_mostWhens_99 (by decide) (by omega) (by omega) (fun hx => ?_) (fun hx => by exfalso; omega)
    refine Run.lv (lv' := [(0, .ref M), (1, .int (cI (aa : Int))), (2, .int (cI (bb : Int))), (3, .int (cI (((max μ v : Nat) : Int)))), (4, .int (cI (n : Int)))]) (by intro q hq; simp only [List.mem_cons, List.not_mem_nil, or_false] at hq ⊢; rcases hq with rfl | rfl | rfl | rfl | rfl <;> simp) ?_
    exact t120 J2 f12 (fun p hp => by
      by_cases e : (p : Int) = z2
      · exact s2 p e
      · rw [o2 p e]; exact s1 p (by omega)) (fun p hp => by rw [o2 p (by omega), o1 p (by omega)])
  have h3c : (if κ = 4 ∨ κ = 22 then z3 else -1) = -1 ∨ ((LO : Int) ≤ (if κ = 4 ∨ κ = 22 then z3 else -1) ∧ (if κ = 4 ∨ κ = 22 then z3 else -1) < HI) := by
    by_cases e : κ = 4 ∨ κ = 22
    · rw [if_pos e]; have := c3 e; omega
    · rw [if_neg e]; omega
  refine j_icmp_eq (tgt := 120) d_Model_mostWhens_99 (by decide) (by omega) (by omega) (fun hx => by exfalso; omega) (fun hx => ?_)
  refine q_aload_n d_Model_mostWhens_102 rfl ?_
  refine q_aload_n d_Model_mostWhens_103 rfl ?_
  refine q_getR d_Model_mostWhens_104 fl_Model_45 hM.1 ⟨rfl, by decide⟩ (mR25 hM) ?_
  refine q_iload d_Model_mostWhens_107 rfl ?_
  refine j_iald (j := n) (v := (cI (if κ = 4 ∨ κ = 22 then z3 else -1))) d_Model_mostWhens_109 (mT25 hM) (mN25 hM) (by omega) (by omega) (by omega) ((hrn2.1.2.2.2.1 (by rw [← hκ]; omega)).trans (by rw [← hκ, ← hz3])) ?_
  refine q_aload_n d_Model_mostWhens_110 rfl ?_
  refine q_getR d_Model_mostWhens_111 fl_Model_121 hM.1 ⟨rfl, by decide⟩ (mR59 hM) ?_
  refine q_iload d_Model_mostWhens_114 rfl ?_
  refine j_iald (j := n) (v := (cI (v : Int))) d_Model_mostWhens_116 (mT59 hM) (mN59 hM) (by omega) (by omega) (by omega) e2 ?_
  refine q_callV (ci := 17) (rc := 0) (rs := 0) (rest := []) d_Model_mostWhens_117 ml_Model_742 ok_Model_standIn rfl hM.1 (by decide) (c_Model_standIn (d - 1) (v := (v : Int)) hM (hrw J2 f12) hHI h3c) rfl rfl (by omega) (Nat.le_of_ble_eq_true rfl) (kv_V (fun J3 q3 => ?_)) kt_V
  obtain ⟨f3, s3, o3⟩ := q3
  refine Run.lv (lv' := [(0, .ref M), (1, .int (cI (aa : Int))), (2, .int (cI (bb : Int))), (3, .int (cI (((max μ v : Nat) : Int)))), (4, .int (cI (n : Int)))]) (by intro q hq; simp only [List.mem_cons, List.not_mem_nil, or_false] at hq ⊢; rcases hq with rfl | rfl | rfl | rfl | rfl <;> simp) ?_
  refine t120 J3 (f12.tr f3) (fun p hp => ?_) (fun p hp => ?_)
  · by_cases e3 : (κ = 4 ∨ κ = 22) ∧ (p : Int) = z3
    · exact s3 p (by rw [if_pos e3.1]; exact e3.2)
    · rw [o3 p (by
        by_cases e : κ = 4 ∨ κ = 22
        · rw [if_pos e]; exact fun z => e3 ⟨e, z⟩
        · rw [if_neg e]; omega)]
      by_cases e : (p : Int) = z2
      · exact s2 p e
      · rw [o2 p e]; exact s1 p (by omega)
  · rw [o3 p (by
        by_cases e : κ = 4 ∨ κ = 22
        · rw [if_pos e]; exact fun z => hp (Or.inr (Or.inr ⟨e, z⟩))
        · rw [if_neg e]; omega), o2 p (by omega), o1 p (by omega)]
end

