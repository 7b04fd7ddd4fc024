/-! ===== 77 TOLD, STATE ===== -/
theorem d_Told_add_0 : decode m_Told_add.2.1 0 = .ok (.aload_n 0, 1) := by decide +kernel
theorem d_Told_add_1 : decode m_Told_add.2.1 1 = .ok (.getfield 32, 3) := by decide +kernel
theorem d_Told_add_4 : decode m_Told_add.2.1 4 = .ok (.bipush 60, 2) := by decide +kernel
theorem d_Told_add_6 : decode m_Told_add.2.1 6 = .ok (.if_icmp .ne 5, 3) := by decide +kernel
theorem d_Told_add_9 : decode m_Told_add.2.1 9 = .ok (.iconst 0, 1) := by decide +kernel
theorem d_Told_add_10 : decode m_Told_add.2.1 10 = .ok (.ireturn, 1) := by decide +kernel
theorem d_Told_add_11 : decode m_Told_add.2.1 11 = .ok (.aload_n 0, 1) := by decide +kernel
theorem d_Told_add_12 : decode m_Told_add.2.1 12 = .ok (.getfield 9, 3) := by decide +kernel
theorem d_Told_add_15 : decode m_Told_add.2.1 15 = .ok (.aload_n 0, 1) := by decide +kernel
theorem d_Told_add_16 : decode m_Told_add.2.1 16 = .ok (.getfield 32, 3) := by decide +kernel
theorem d_Told_add_19 : decode m_Told_add.2.1 19 = .ok (.iload_n 1, 1) := by decide +kernel
theorem d_Told_add_20 : decode m_Told_add.2.1 20 = .ok (.iastore, 1) := by decide +kernel
theorem d_Told_add_21 : decode m_Told_add.2.1 21 = .ok (.aload_n 0, 1) := by decide +kernel
theorem d_Told_add_22 : decode m_Told_add.2.1 22 = .ok (.getfield 15, 3) := by decide +kernel
theorem d_Told_add_25 : decode m_Told_add.2.1 25 = .ok (.aload_n 0, 1) := by decide +kernel
theorem d_Told_add_26 : decode m_Told_add.2.1 26 = .ok (.getfield 32, 3) := by decide +kernel
theorem d_Told_add_29 : decode m_Told_add.2.1 29 = .ok (.lload_n 2, 1) := by decide +kernel
theorem d_Told_add_30 : decode m_Told_add.2.1 30 = .ok (.lastore, 1) := by decide +kernel
theorem d_Told_add_31 : decode m_Told_add.2.1 31 = .ok (.aload_n 0, 1) := by decide +kernel
theorem d_Told_add_32 : decode m_Told_add.2.1 32 = .ok (.getfield 19, 3) := by decide +kernel
theorem d_Told_add_35 : decode m_Told_add.2.1 35 = .ok (.aload_n 0, 1) := by decide +kernel
theorem d_Told_add_36 : decode m_Told_add.2.1 36 = .ok (.getfield 32, 3) := by decide +kernel
theorem d_Told_add_39 : decode m_Told_add.2.1 39 = .ok (.lload 4, 2) := by decide +kernel
theorem d_Told_add_41 : decode m_Told_add.2.1 41 = .ok (.lastore, 1) := by decide +kernel
theorem d_Told_add_42 : decode m_Told_add.2.1 42 = .ok (.aload_n 0, 1) := by decide +kernel
theorem d_Told_add_43 : decode m_Told_add.2.1 43 = .ok (.getfield 22, 3) := by decide +kernel
theorem d_Told_add_46 : decode m_Told_add.2.1 46 = .ok (.aload_n 0, 1) := by decide +kernel
theorem d_Told_add_47 : decode m_Told_add.2.1 47 = .ok (.getfield 32, 3) := by decide +kernel
theorem d_Told_add_50 : decode m_Told_add.2.1 50 = .ok (.lload 6, 2) := by decide +kernel
theorem d_Told_add_52 : decode m_Told_add.2.1 52 = .ok (.lastore, 1) := by decide +kernel
theorem d_Told_add_53 : decode m_Told_add.2.1 53 = .ok (.aload 8, 2) := by decide +kernel
theorem d_Told_add_55 : decode m_Told_add.2.1 55 = .ok (.ifnonnull 18, 3) := by decide +kernel
theorem d_Told_add_58 : decode m_Told_add.2.1 58 = .ok (.aload_n 0, 1) := by decide +kernel
theorem d_Told_add_59 : decode m_Told_add.2.1 59 = .ok (.getfield 27, 3) := by decide +kernel
theorem d_Told_add_62 : decode m_Told_add.2.1 62 = .ok (.aload_n 0, 1) := by decide +kernel
theorem d_Told_add_63 : decode m_Told_add.2.1 63 = .ok (.getfield 32, 3) := by decide +kernel
theorem d_Told_add_66 : decode m_Told_add.2.1 66 = .ok (.aaload, 1) := by decide +kernel
theorem d_Told_add_67 : decode m_Told_add.2.1 67 = .ok (.invokevirtual 36, 3) := by decide +kernel
theorem d_Told_add_70 : decode m_Told_add.2.1 70 = .ok (.goto 17, 3) := by decide +kernel
theorem d_Told_add_73 : decode m_Told_add.2.1 73 = .ok (.aload_n 0, 1) := by decide +kernel
theorem d_Told_add_74 : decode m_Told_add.2.1 74 = .ok (.getfield 27, 3) := by decide +kernel
theorem d_Told_add_77 : decode m_Told_add.2.1 77 = .ok (.aload_n 0, 1) := by decide +kernel
theorem d_Told_add_78 : decode m_Told_add.2.1 78 = .ok (.getfield 32, 3) := by decide +kernel
theorem d_Told_add_81 : decode m_Told_add.2.1 81 = .ok (.aaload, 1) := by decide +kernel
theorem d_Told_add_82 : decode m_Told_add.2.1 82 = .ok (.aload 8, 2) := by decide +kernel
theorem d_Told_add_84 : decode m_Told_add.2.1 84 = .ok (.invokevirtual 39, 3) := by decide +kernel
theorem d_Told_add_87 : decode m_Told_add.2.1 87 = .ok (.aload_n 0, 1) := by decide +kernel
theorem d_Told_add_88 : decode m_Told_add.2.1 88 = .ok (.dup, 1) := by decide +kernel
theorem d_Told_add_89 : decode m_Told_add.2.1 89 = .ok (.getfield 32, 3) := by decide +kernel
theorem d_Told_add_92 : decode m_Told_add.2.1 92 = .ok (.iconst 1, 1) := by decide +kernel
theorem d_Told_add_93 : decode m_Told_add.2.1 93 = .ok (.iadd, 1) := by decide +kernel
theorem d_Told_add_94 : decode m_Told_add.2.1 94 = .ok (.putfield 32, 3) := by decide +kernel
theorem d_Told_add_97 : decode m_Told_add.2.1 97 = .ok (.iconst 1, 1) := by decide +kernel
theorem d_Told_add_98 : decode m_Told_add.2.1 98 = .ok (.ireturn, 1) := by decide +kernel
theorem d_Told_take_0 : decode m_Told_take.2.1 0 = .ok (.aload_n 0, 1) := by decide +kernel
theorem d_Told_take_1 : decode m_Told_take.2.1 1 = .ok (.aload_n 1, 1) := by decide +kernel
theorem d_Told_take_2 : decode m_Told_take.2.1 2 = .ok (.getfield 32, 3) := by decide +kernel
theorem d_Told_take_5 : decode m_Told_take.2.1 5 = .ok (.putfield 32, 3) := by decide +kernel
theorem d_Told_take_8 : decode m_Told_take.2.1 8 = .ok (.iconst 0, 1) := by decide +kernel
theorem d_Told_take_9 : decode m_Told_take.2.1 9 = .ok (.istore_n 2, 1) := by decide +kernel
theorem d_Told_take_10 : decode m_Told_take.2.1 10 = .ok (.iload_n 2, 1) := by decide +kernel
theorem d_Told_take_11 : decode m_Told_take.2.1 11 = .ok (.aload_n 0, 1) := by decide +kernel
theorem d_Told_take_12 : decode m_Told_take.2.1 12 = .ok (.getfield 32, 3) := by decide +kernel
theorem d_Told_take_15 : decode m_Told_take.2.1 15 = .ok (.if_icmp .ge 72, 3) := by decide +kernel
theorem d_Told_take_18 : decode m_Told_take.2.1 18 = .ok (.aload_n 0, 1) := by decide +kernel
theorem d_Told_take_19 : decode m_Told_take.2.1 19 = .ok (.getfield 9, 3) := by decide +kernel
theorem d_Told_take_22 : decode m_Told_take.2.1 22 = .ok (.iload_n 2, 1) := by decide +kernel
theorem d_Told_take_23 : decode m_Told_take.2.1 23 = .ok (.aload_n 1, 1) := by decide +kernel
theorem d_Told_take_24 : decode m_Told_take.2.1 24 = .ok (.getfield 9, 3) := by decide +kernel
theorem d_Told_take_27 : decode m_Told_take.2.1 27 = .ok (.iload_n 2, 1) := by decide +kernel
theorem d_Told_take_28 : decode m_Told_take.2.1 28 = .ok (.iaload, 1) := by decide +kernel
theorem d_Told_take_29 : decode m_Told_take.2.1 29 = .ok (.iastore, 1) := by decide +kernel
theorem d_Told_take_30 : decode m_Told_take.2.1 30 = .ok (.aload_n 0, 1) := by decide +kernel
theorem d_Told_take_31 : decode m_Told_take.2.1 31 = .ok (.getfield 15, 3) := by decide +kernel
theorem d_Told_take_34 : decode m_Told_take.2.1 34 = .ok (.iload_n 2, 1) := by decide +kernel
theorem d_Told_take_35 : decode m_Told_take.2.1 35 = .ok (.aload_n 1, 1) := by decide +kernel
theorem d_Told_take_36 : decode m_Told_take.2.1 36 = .ok (.getfield 15, 3) := by decide +kernel
theorem d_Told_take_39 : decode m_Told_take.2.1 39 = .ok (.iload_n 2, 1) := by decide +kernel
theorem d_Told_take_40 : decode m_Told_take.2.1 40 = .ok (.laload, 1) := by decide +kernel
theorem d_Told_take_41 : decode m_Told_take.2.1 41 = .ok (.lastore, 1) := by decide +kernel
theorem d_Told_take_42 : decode m_Told_take.2.1 42 = .ok (.aload_n 0, 1) := by decide +kernel
theorem d_Told_take_43 : decode m_Told_take.2.1 43 = .ok (.getfield 19, 3) := by decide +kernel
theorem d_Told_take_46 : decode m_Told_take.2.1 46 = .ok (.iload_n 2, 1) := by decide +kernel
theorem d_Told_take_47 : decode m_Told_take.2.1 47 = .ok (.aload_n 1, 1) := by decide +kernel
theorem d_Told_take_48 : decode m_Told_take.2.1 48 = .ok (.getfield 19, 3) := by decide +kernel
theorem d_Told_take_51 : decode m_Told_take.2.1 51 = .ok (.iload_n 2, 1) := by decide +kernel
theorem d_Told_take_52 : decode m_Told_take.2.1 52 = .ok (.laload, 1) := by decide +kernel
theorem d_Told_take_53 : decode m_Told_take.2.1 53 = .ok (.lastore, 1) := by decide +kernel
theorem d_Told_take_54 : decode m_Told_take.2.1 54 = .ok (.aload_n 0, 1) := by decide +kernel
theorem d_Told_take_55 : decode m_Told_take.2.1 55 = .ok (.getfield 22, 3) := by decide +kernel
theorem d_Told_take_58 : decode m_Told_take.2.1 58 = .ok (.iload_n 2, 1) := by decide +kernel
theorem d_Told_take_59 : decode m_Told_take.2.1 59 = .ok (.aload_n 1, 1) := by decide +kernel
theorem d_Told_take_60 : decode m_Told_take.2.1 60 = .ok (.getfield 22, 3) := by decide +kernel
theorem d_Told_take_63 : decode m_Told_take.2.1 63 = .ok (.iload_n 2, 1) := by decide +kernel
theorem d_Told_take_64 : decode m_Told_take.2.1 64 = .ok (.laload, 1) := by decide +kernel
theorem d_Told_take_65 : decode m_Told_take.2.1 65 = .ok (.lastore, 1) := by decide +kernel
theorem d_Told_take_66 : decode m_Told_take.2.1 66 = .ok (.aload_n 0, 1) := by decide +kernel
theorem d_Told_take_67 : decode m_Told_take.2.1 67 = .ok (.getfield 27, 3) := by decide +kernel
theorem d_Told_take_70 : decode m_Told_take.2.1 70 = .ok (.iload_n 2, 1) := by decide +kernel
theorem d_Told_take_71 : decode m_Told_take.2.1 71 = .ok (.aaload, 1) := by decide +kernel
theorem d_Told_take_72 : decode m_Told_take.2.1 72 = .ok (.aload_n 1, 1) := by decide +kernel
theorem d_Told_take_73 : decode m_Told_take.2.1 73 = .ok (.getfield 27, 3) := by decide +kernel
theorem d_Told_take_76 : decode m_Told_take.2.1 76 = .ok (.iload_n 2, 1) := by decide +kernel
theorem d_Told_take_77 : decode m_Told_take.2.1 77 = .ok (.aaload, 1) := by decide +kernel
theorem d_Told_take_78 : decode m_Told_take.2.1 78 = .ok (.invokevirtual 39, 3) := by decide +kernel
theorem d_Told_take_81 : decode m_Told_take.2.1 81 = .ok (.iinc 2 1, 3) := by decide +kernel
theorem d_Told_take_84 : decode m_Told_take.2.1 84 = .ok (.goto (-74), 3) := by decide +kernel
theorem d_Told_take_87 : decode m_Told_take.2.1 87 = .ok (.return_, 1) := by decide +kernel
theorem d_State_take_0 : decode m_State_take.2.1 0 = .ok (.aload_n 0, 1) := by decide +kernel
theorem d_State_take_1 : decode m_State_take.2.1 1 = .ok (.getfield 14, 3) := by decide +kernel
theorem d_State_take_4 : decode m_State_take.2.1 4 = .ok (.aload_n 1, 1) := by decide +kernel
theorem d_State_take_5 : decode m_State_take.2.1 5 = .ok (.getfield 14, 3) := by decide +kernel
theorem d_State_take_8 : decode m_State_take.2.1 8 = .ok (.invokevirtual 26, 3) := by decide +kernel
theorem d_State_take_11 : decode m_State_take.2.1 11 = .ok (.aload_n 0, 1) := by decide +kernel
theorem d_State_take_12 : decode m_State_take.2.1 12 = .ok (.getfield 20, 3) := by decide +kernel
theorem d_State_take_15 : decode m_State_take.2.1 15 = .ok (.aload_n 1, 1) := by decide +kernel
theorem d_State_take_16 : decode m_State_take.2.1 16 = .ok (.getfield 20, 3) := by decide +kernel
theorem d_State_take_19 : decode m_State_take.2.1 19 = .ok (.invokevirtual 26, 3) := by decide +kernel
theorem d_State_take_22 : decode m_State_take.2.1 22 = .ok (.aload_n 0, 1) := by decide +kernel
theorem d_State_take_23 : decode m_State_take.2.1 23 = .ok (.getfield 23, 3) := by decide +kernel
theorem d_State_take_26 : decode m_State_take.2.1 26 = .ok (.aload_n 1, 1) := by decide +kernel
theorem d_State_take_27 : decode m_State_take.2.1 27 = .ok (.getfield 23, 3) := by decide +kernel
theorem d_State_take_30 : decode m_State_take.2.1 30 = .ok (.invokevirtual 26, 3) := by decide +kernel
theorem d_State_take_33 : decode m_State_take.2.1 33 = .ok (.aload_n 0, 1) := by decide +kernel
theorem d_State_take_34 : decode m_State_take.2.1 34 = .ok (.aload_n 1, 1) := by decide +kernel
theorem d_State_take_35 : decode m_State_take.2.1 35 = .ok (.getfield 30, 3) := by decide +kernel
theorem d_State_take_38 : decode m_State_take.2.1 38 = .ok (.putfield 30, 3) := by decide +kernel
theorem d_State_take_41 : decode m_State_take.2.1 41 = .ok (.aload_n 0, 1) := by decide +kernel
theorem d_State_take_42 : decode m_State_take.2.1 42 = .ok (.aload_n 1, 1) := by decide +kernel
theorem d_State_take_43 : decode m_State_take.2.1 43 = .ok (.getfield 34, 3) := by decide +kernel
theorem d_State_take_46 : decode m_State_take.2.1 46 = .ok (.putfield 34, 3) := by decide +kernel
theorem d_State_take_49 : decode m_State_take.2.1 49 = .ok (.return_, 1) := by decide +kernel
theorem d_State_clear_0 : decode m_State_clear.2.1 0 = .ok (.aload_n 0, 1) := by decide +kernel
theorem d_State_clear_1 : decode m_State_clear.2.1 1 = .ok (.getfield 14, 3) := by decide +kernel
theorem d_State_clear_4 : decode m_State_clear.2.1 4 = .ok (.invokevirtual 38, 3) := by decide +kernel
theorem d_State_clear_7 : decode m_State_clear.2.1 7 = .ok (.aload_n 0, 1) := by decide +kernel
theorem d_State_clear_8 : decode m_State_clear.2.1 8 = .ok (.getfield 20, 3) := by decide +kernel
theorem d_State_clear_11 : decode m_State_clear.2.1 11 = .ok (.invokevirtual 38, 3) := by decide +kernel
theorem d_State_clear_14 : decode m_State_clear.2.1 14 = .ok (.aload_n 0, 1) := by decide +kernel
theorem d_State_clear_15 : decode m_State_clear.2.1 15 = .ok (.getfield 23, 3) := by decide +kernel
theorem d_State_clear_18 : decode m_State_clear.2.1 18 = .ok (.invokevirtual 38, 3) := by decide +kernel
theorem d_State_clear_21 : decode m_State_clear.2.1 21 = .ok (.return_, 1) := by decide +kernel
/-- the cells from s on, n of them -/
abbrev Rg (s n : Nat) (a _ : Nat) : Prop := s ≤ a ∧ a < s + n
abbrev Ten := Nat × Nat × Nat × Nat × Int
/-- payments or warnings at t -/
def TdS (R : MR) (T : SH) (t : Nat) : Prop := T.1 t = 12 + 1 ∧ (R t 0 = some (t + 1) ∧ T.1 (t + 1) = 64 ∧ T.2.1 (t + 1) = 60) ∧ (R t 1 = some (t + 2) ∧ T.1 (t + 2) = 65 ∧ T.2.1 (t + 2) = 60) ∧ (R t 2 = some (t + 3) ∧ T.1 (t + 3) = 65 ∧ T.2.1 (t + 3) = 60) ∧ (R t 3 = some (t + 4) ∧ T.1 (t + 4) = 65 ∧ T.2.1 (t + 4) = 60) ∧ (R t 4 = some (t + 5) ∧ T.1 (t + 5) = 70 ∧ T.2.1 (t + 5) = 60) ∧ ∀ k, k < 60 → R (t + 5) k = some (t + 6 + 2 * k) ∧ BigS R T (t + 6 + 2 * k)
abbrev t5 (l : List Ten) (k : Nat) : Ten := l.getD k (0, 0, 0, 0, 0)
def TenV (I : M32) (L : M64) (t k : Nat) (e : Ten) : Prop := I (t + 1) k = cI e.1 ∧ L (t + 2) k = cL e.2.1 ∧ L (t + 3) k = cL e.2.2.1 ∧ L (t + 4) k = cL e.2.2.2.1 ∧ BigV I (t + 6 + 2 * k) e.2.2.2.2 ∧ e.1 < 10 ∧ e.2.1 < 9223372036854775808 ∧ e.2.2.1 < 9223372036854775808 ∧ e.2.2.2.1 < 9223372036854775808
/-- it holds the entries l -/
def TdV (I : M32) (L : M64) (t : Nat) (l : List Ten) : Prop := l.length ≤ 60 ∧ I t 5 = cI l.length ∧ ∀ k, k < l.length → TenV I L t k (t5 l k)
theorem TenV.congr {I J : M32} {L K : M64} {t k : Nat} {e : Ten} (h : TenV I L t k e) (h1 : J (t + 1) k = I (t + 1) k) (h2 : K (t + 2) k = L (t + 2) k) (h3 : K (t + 3) k = L (t + 3) k) (h4 : K (t + 4) k = L (t + 4) k) (h5 : J (t + 6 + 2 * k) = I (t + 6 + 2 * k)) (h6 : J (t + 6 + 2 * k + 1) = I (t + 6 + 2 * k + 1)) : TenV J K t k e := ⟨h1.trans h.1, h2.trans h.2.1, h3.trans h.2.2.1, h4.trans h.2.2.2.1, h.2.2.2.2.1.congr h5 h6, h.2.2.2.2.2⟩
theorem FrB.rg {s n b : Nat} {I J : M32} (h : FrB b I J) (h1 : s ≤ b) (h2 : b + 1 < s + n) : Fx (Rg s n) I J := fun a k e => by rw [h a (by omega) (by omega)]
theorem TdV.snoc {I J : M32} {L K : M64} {t : Nat} {l : List Ten} {e : Ten} (h : TdV I L t l) (hl : l.length < 60) (hJ : J t 5 = cI (l.length + 1 : Nat)) (hF : ∀ k, k < l.length → J (t + 1) k = I (t + 1) k ∧ K (t + 2) k = L (t + 2) k ∧ K (t + 3) k = L (t + 3) k ∧ K (t + 4) k = L (t + 4) k ∧ J (t + 6 + 2 * k) = I (t + 6 + 2 * k) ∧ J (t + 6 + 2 * k + 1) = I (t + 6 + 2 * k + 1)) (hE : TenV J K t l.length e) : TdV J K t (l ++ [e]) := by
  have hlen : (l ++ [e]).length = l.length + 1 := by rw [List.length_append]; rfl
  refine ⟨by omega, by rw [hJ, hlen], fun k hk => ?_⟩
  rw [hlen] at hk
  by_cases q : k < l.length
  · have hf := hF k q
    show TenV J K t k ((l ++ [e]).getD k (0, 0, 0, 0, 0))
    rw [gapp_l _ _ _ q]
    exact (h.2.2 k q).congr hf.1 hf.2.1 hf.2.2.1 hf.2.2.2.1 hf.2.2.2.2.1 hf.2.2.2.2.2
  · obtain rfl : k = l.length := by omega
    show TenV J K t l.length ((l ++ [e]).getD l.length (0, 0, 0, 0, 0))
    rw [gapp_r _ _ _ (Nat.le_refl _), Nat.sub_self]
    exact hE
/-- the way of add behind the number: what is put is told by the number's cell -/
theorem c_Told_add (d : Nat) {t b c x y z : Nat} {v : Int} {l : List Ten} {I : M32} {L : M64} {R : MR} {T : SH} (hd : 1 ≤ d) (hS : TdS R T t) (hV : TdV I L t l) (hc : c < 10) (hx : x < 9223372036854775808) (hy : y < 9223372036854775808) (hz : z < 9223372036854775808) (hb : BigS R T b) (hbt : b + 1 < t ∨ t + 126 ≤ b) (hv : BigV I b v) :
    Call m_Told_add y_Told_add d 0 0 [.ref t, .int (cI c), .long (cL x), .long (cL y), .long (cL z), .ref b] I L R T (rI fun q I' L' R' T' => (q = cI (bI (l.length < 60)) ∧ TdV I' L' t (if l.length < 60 then l ++ [(c, x, y, z, v)] else l) ∧ Fx (Rg t 126) I I' ∧ Fx (Rg t 126) L L') ∧ R' = R ∧ T' = T) := by
  refine Call.ofRun (by decide) ⟨rfl, rfl⟩ (Nat.le_of_ble_eq_true rfl) ?_
  refine Run.gen fun Q hQ => ?_
  obtain ⟨s1, ⟨s2, s3, s4⟩, ⟨s5, s6, s7⟩, ⟨s8, s9, s10⟩, ⟨s11, s12, s13⟩, ⟨s14, s15, s16⟩, s17⟩ := id hS
  obtain ⟨v1, v2, v3⟩ := id hV
  obtain ⟨n, hn⟩ : ∃ n, n = l.length := ⟨_, rfl⟩
  have hsn := fun J K e => @TdV.snoc I J L K t l e hV
  rw [← hn] at v1 v2 v3 hQ hsn
  refine q_aload_n d_Told_add_0 rfl ?_
  refine j_getI (v := (cI (n : Int))) d_Told_add_1 fl_Told_32 s1 ⟨rfl, by decide⟩ v2 ?_
  refine j_bipush d_Told_add_4 (by decide) ?_
  refine j_icmp_ne (tgt := 11) d_Told_add_6 (by decide) (by omega) (by omega) (fun h1 => ?_) (fun h1 => ?_)
  · skip
    have s18 := s17 n (by omega)
    refine q_aload_n d_Told_add_11 rfl ?_
    refine q_getR d_Told_add_12 fl_Told_9 s1 ⟨rfl, by decide⟩ s2 ?_
    refine q_aload_n d_Told_add_15 rfl ?_
    refine j_getI (v := (cI (n : Int))) d_Told_add_16 fl_Told_32 s1 ⟨rfl, by decide⟩ v2 ?_
    refine q_iload_n d_Told_add_19 rfl ?_
    refine j_iast (j := n) d_Told_add_20 s3 s4 (by omega) (by omega) (by omega) ?_
    refine q_aload_n d_Told_add_21 rfl ?_
    refine q_getR d_Told_add_22 fl_Told_15 s1 ⟨rfl, by decide⟩ s5 ?_
    refine q_aload_n d_Told_add_25 rfl ?_
    refine j_getI (v := (cI (n : Int))) d_Told_add_26 fl_Told_32 s1 ⟨rfl, by decide⟩ ((up2_a _ _ _ (by omega)).trans (v2)) ?_
    refine q_lload_n d_Told_add_29 rfl ?_
    refine j_last (j := n) d_Told_add_30 s6 s7 (by omega) (by omega) (by omega) ?_
    refine q_aload_n d_Told_add_31 rfl ?_
    refine q_getR d_Told_add_32 fl_Told_19 s1 ⟨rfl, by decide⟩ s8 ?_
    refine q_aload_n d_Told_add_35 rfl ?_
    refine j_getI (v := (cI (n : Int))) d_Told_add_36 fl_Told_32 s1 ⟨rfl, by decide⟩ ((up2_a _ _ _ (by omega)).trans (v2)) ?_
    refine q_lload d_Told_add_39 rfl ?_
    refine j_last (j := n) d_Told_add_41 s9 s10 (by omega) (by omega) (by omega) ?_
    refine q_aload_n d_Told_add_42 rfl ?_
    refine q_getR d_Told_add_43 fl_Told_22 s1 ⟨rfl, by decide⟩ s11 ?_
    refine q_aload_n d_Told_add_46 rfl ?_
    refine j_getI (v := (cI (n : Int))) d_Told_add_47 fl_Told_32 s1 ⟨rfl, by decide⟩ ((up2_a _ _ _ (by omega)).trans (v2)) ?_
    refine q_lload d_Told_add_50 rfl ?_
    refine j_last (j := n) d_Told_add_52 s12 s13 (by omega) (by omega) (by omega) ?_
    refine q_aload d_Told_add_53 rfl ?_
    refine q_ifnonnull (v := some b) (tgt := 73) d_Told_add_55 (by decide) (fun _ _ => ?_) (fun hx => by cases hx)
    refine q_aload_n d_Told_add_73 rfl ?_
    refine q_getR d_Told_add_74 fl_Told_27 s1 ⟨rfl, by decide⟩ s14 ?_
    refine q_aload_n d_Told_add_77 rfl ?_
    refine j_getI (v := (cI (n : Int))) d_Told_add_78 fl_Told_32 s1 ⟨rfl, by decide⟩ ((up2_a _ _ _ (by omega)).trans (v2)) ?_
    refine j_aald (j := n) d_Told_add_81 s15 ⟨rfl, rfl⟩ s16 (by omega) (by omega) (by omega) (by rw [s18.1]; first | done | rfl) ?_
    refine q_aload d_Told_add_82 rfl ?_
    generalize hJ : (up2 I (t + 1) n (cI (c : Int))) = J
    generalize hK : (up2 (up2 (up2 L (t + 2) n (cL (x : Int))) (t + 3) n (cL (y : Int))) (t + 4) n (cL (z : Int))) = K
    have fJ : Fx (fun a k => a = t + 1 ∧ k = n) I J := by rw [← hJ]; exact Fx.up ⟨rfl, rfl⟩
    have fK : Fx (fun a k => (a = t + 2 ∨ a = t + 3 ∨ a = t + 4) ∧ k = n) L K := by rw [← hK]; exact ((Fx.up ⟨Or.inl rfl, rfl⟩).tu ⟨Or.inr (Or.inl rfl), rfl⟩).tu ⟨Or.inr (Or.inr rfl), rfl⟩
    have hvJ : BigV J b v := hv.congr (fJ.row fun k' => by omega) (fJ.row fun k' => by omega)
    refine q_callV (ci := 0) (rc := 0) (rs := 0) (rest := []) d_Told_add_84 ml_Told_39 ok_Big_set rfl s18.2.1 (by decide) (c_Big_set (d - 1) s18.2 hb (by omega) hvJ) rfl rfl (by omega) (Nat.le_of_ble_eq_true rfl) (kv_V (fun J2 hJ2 => ?_)) kt_V
    refine q_aload_n d_Told_add_87 rfl ?_
    refine q_dup d_Told_add_88 rfl ?_
    refine j_getI (v := (cI (n : Int))) d_Told_add_89 fl_Told_32 s1 ⟨rfl, by decide⟩ (by rw [hJ2.2 t (by omega) (by omega), fJ t 5 (by omega)]; exact v2) ?_
    refine j_iconst d_Told_add_92 ?_
    refine j_iadd d_Told_add_93 ?_
    refine q_putI d_Told_add_94 fl_Told_32 s1 ⟨rfl, by decide, rfl, rfl⟩ ?_
    refine j_iconst d_Told_add_97 ?_
    generalize hJ3 : (up2 J2 t 5 (cI ((n : Int) + 1))) = J3
    have f3 : Fx (fun a k => a = t ∧ k = 5) J2 J3 := by rw [← hJ3]; exact Fx.up ⟨rfl, rfl⟩
    have hrow : ∀ a, a ≠ t → a ≠ t + 6 + 2 * n → a ≠ t + 6 + 2 * n + 1 → J3 a = J a := fun a e1 e2 e3 => (f3.row fun k' => by omega).trans (hJ2.2 a e2 e3)
    refine q_ireturn d_Told_add_98 rfl (narrow_z (Or.inr rfl)).1 ?_
    refine hQ _ _ _ _ _ ?_
    refine ⟨_, rfl, ⟨by rw [bI_t (by omega)], ?_, ((fJ.mo fun a k e => by omega).tr (hJ2.2.rg (by omega) (by omega))).tr (f3.mo fun a k e => by omega), fK.mo fun a k e => by omega⟩, rfl, rfl⟩
    rw [if_pos (by omega)]
    refine hsn J3 K _ (by omega) (by rw [← hJ3, up2_s]; rfl) (fun k hk => ⟨?_, fK _ _ (by omega), fK _ _ (by omega), fK _ _ (by omega), ?_, ?_⟩) ⟨?_, ?_, ?_, ?_, hJ2.1.congr (f3.row fun k' => by omega) (f3.row fun k' => by omega), hc, hx, hy, hz⟩
    · rw [hrow _ (by omega) (by omega) (by omega)]; exact fJ _ _ (by omega)
    · rw [hrow _ (by omega) (by omega) (by omega)]; exact fJ.row fun k' => by omega
    · rw [hrow _ (by omega) (by omega) (by omega)]; exact fJ.row fun k' => by omega
    · rw [hrow _ (by omega) (by omega) (by omega), ← hJ, up2_s]
    · rw [← hK, up2_a _ _ _ (by omega), up2_a _ _ _ (by omega), up2_s]
    · rw [← hK, up2_a _ _ _ (by omega), up2_s]
    · rw [← hK, up2_s]
  · skip
    refine j_iconst d_Told_add_9 ?_
    refine q_ireturn d_Told_add_10 rfl (narrow_z (Or.inl rfl)).1 ?_
    refine hQ _ _ _ _ _ ?_
    exact ⟨_, rfl, ⟨by rw [bI_f (by omega)], by rw [if_neg (by omega)]; exact hV, Fx.rf, Fx.rf⟩, rfl, rfl⟩
theorem c_Told_add0 (d : Nat) {t c x y z : Nat} {l : List Ten} {I : M32} {L : M64} {R : MR} {T : SH} (hd : 1 ≤ d) (hS : TdS R T t) (hV : TdV I L t l) (hc : c < 10) (hx : x < 9223372036854775808) (hy : y < 9223372036854775808) (hz : z < 9223372036854775808) :
    Call m_Told_add y_Told_add d 0 0 [.ref t, .int (cI c), .long (cL x), .long (cL y), .long (cL z), .null] I L R T (rI fun q I' L' R' T' => (q = cI (bI (l.length < 60)) ∧ TdV I' L' t (if l.length < 60 then l ++ [(c, x, y, z, 0)] else l) ∧ Fx (Rg t 126) I I' ∧ Fx (Rg t 126) L L') ∧ R' = R ∧ T' = T) := by
  refine Call.ofRun (by decide) ⟨rfl, rfl⟩ (Nat.le_of_ble_eq_true rfl) ?_
  refine Run.gen fun Q hQ => ?_
  obtain ⟨s1, ⟨s2, s3, s4⟩, ⟨s5, s6, s7⟩, ⟨s8, s9, s10⟩, ⟨s11, s12, s13⟩, ⟨s14, s15, s16⟩, s17⟩ := id hS
  obtain ⟨v1, v2, v3⟩ := id hV
  obtain ⟨n, hn⟩ : ∃ n, n = l.length := ⟨_, rfl⟩
  have hsn := fun J K e => @TdV.snoc I J L K t l e hV
  rw [← hn] at v1 v2 v3 hQ hsn
  refine q_aload_n d_Told_add_0 rfl ?_
  refine j_getI (v := (cI (n : Int))) d_Told_add_1 fl_Told_32 s1 ⟨rfl, by decide⟩ v2 ?_
  refine j_bipush d_Told_add_4 (by decide) ?_
  refine j_icmp_ne (tgt := 11) d_Told_add_6 (by decide) (by omega) (by omega) (fun h1 => ?_) (fun h1 => ?_)
  · skip
    have s18 := s17 n (by omega)
    refine q_aload_n d_Told_add_11 rfl ?_
    refine q_getR d_Told_add_12 fl_Told_9 s1 ⟨rfl, by decide⟩ s2 ?_
    refine q_aload_n d_Told_add_15 rfl ?_
    refine j_getI (v := (cI (n : Int))) d_Told_add_16 fl_Told_32 s1 ⟨rfl, by decide⟩ v2 ?_
    refine q_iload_n d_Told_add_19 rfl ?_
    refine j_iast (j := n) d_Told_add_20 s3 s4 (by omega) (by omega) (by omega) ?_
    refine q_aload_n d_Told_add_21 rfl ?_
    refine q_getR d_Told_add_22 fl_Told_15 s1 ⟨rfl, by decide⟩ s5 ?_
    refine q_aload_n d_Told_add_25 rfl ?_
    refine j_getI (v := (cI (n : Int))) d_Told_add_26 fl_Told_32 s1 ⟨rfl, by decide⟩ ((up2_a _ _ _ (by omega)).trans (v2)) ?_
    refine q_lload_n d_Told_add_29 rfl ?_
    refine j_last (j := n) d_Told_add_30 s6 s7 (by omega) (by omega) (by omega) ?_
    refine q_aload_n d_Told_add_31 rfl ?_
    refine q_getR d_Told_add_32 fl_Told_19 s1 ⟨rfl, by decide⟩ s8 ?_
    refine q_aload_n d_Told_add_35 rfl ?_
    refine j_getI (v := (cI (n : Int))) d_Told_add_36 fl_Told_32 s1 ⟨rfl, by decide⟩ ((up2_a _ _ _ (by omega)).trans (v2)) ?_
    refine q_lload d_Told_add_39 rfl ?_
    refine j_last (j := n) d_Told_add_41 s9 s10 (by omega) (by omega) (by omega) ?_
    refine q_aload_n d_Told_add_42 rfl ?_
    refine q_getR d_Told_add_43 fl_Told_22 s1 ⟨rfl, by decide⟩ s11 ?_
    refine q_aload_n d_Told_add_46 rfl ?_
    refine j_getI (v := (cI (n : Int))) d_Told_add_47 fl_Told_32 s1 ⟨rfl, by decide⟩ ((up2_a _ _ _ (by omega)).trans (v2)) ?_
    refine q_lload d_Told_add_50 rfl ?_
    refine j_last (j := n) d_Told_add_52 s12 s13 (by omega) (by omega) (by omega) ?_
    refine q_aloadN d_Told_add_53 rfl ?_
    refine q_ifnonnull (v := none) (tgt := 73) d_Told_add_55 (by decide) (fun _ hx => by cases hx) (fun _ => ?_)
    refine q_aload_n d_Told_add_58 rfl ?_
    refine q_getR d_Told_add_59 fl_Told_27 s1 ⟨rfl, by decide⟩ s14 ?_
    refine q_aload_n d_Told_add_62 rfl ?_
    refine j_getI (v := (cI (n : Int))) d_Told_add_63 fl_Told_32 s1 ⟨rfl, by decide⟩ ((up2_a _ _ _ (by omega)).trans (v2)) ?_
    refine j_aald (j := n) d_Told_add_66 s15 ⟨rfl, rfl⟩ s16 (by omega) (by omega) (by omega) (by rw [s18.1]; first | done | rfl) ?_
    generalize hJ : (up2 I (t + 1) n (cI (c : Int))) = J
    generalize hK : (up2 (up2 (up2 L (t + 2) n (cL (x : Int))) (t + 3) n (cL (y : Int))) (t + 4) n (cL (z : Int))) = K
    have fJ : Fx (fun a k => a = t + 1 ∧ k = n) I J := by rw [← hJ]; exact Fx.up ⟨rfl, rfl⟩
    have fK : Fx (fun a k => (a = t + 2 ∨ a = t + 3 ∨ a = t + 4) ∧ k = n) L K := by rw [← hK]; exact ((Fx.up ⟨Or.inl rfl, rfl⟩).tu ⟨Or.inr (Or.inl rfl), rfl⟩).tu ⟨Or.inr (Or.inr rfl), rfl⟩
    refine q_callV (ci := 0) (rc := 0) (rs := 0) (rest := []) d_Told_add_67 ml_Told_36 ok_Big_clear rfl s18.2.1 (by decide) (c_Big_clear (d - 1) s18.2) rfl rfl (by omega) (Nat.le_of_ble_eq_true rfl) (kp_V ?_) kt_V
    generalize hJ2 : (up2 (up2 J (t + 6 + 2 * n) 1 (cI 0)) (t + 6 + 2 * n) 2 (cI 0)) = J2
    have f2 : FrB (t + 6 + 2 * n) J J2 := by rw [← hJ2]; exact FrB.up.tr FrB.up
    have hv2 : BigV J2 (t + 6 + 2 * n) 0 := BigV.zero (by rw [← hJ2, up2_k _ _ _ (by decide), up2_s]) (by rw [← hJ2, up2_s])
    refine q_goto (tgt := 87) d_Told_add_70 (by decide) ?_
    refine q_aload_n d_Told_add_87 rfl ?_
    refine q_dup d_Told_add_88 rfl ?_
    refine j_getI (v := (cI (n : Int))) d_Told_add_89 fl_Told_32 s1 ⟨rfl, by decide⟩ (by rw [f2 t (by omega) (by omega), fJ t 5 (by omega)]; exact v2) ?_
    refine j_iconst d_Told_add_92 ?_
    refine j_iadd d_Told_add_93 ?_
    refine q_putI d_Told_add_94 fl_Told_32 s1 ⟨rfl, by decide, rfl, rfl⟩ ?_
    refine j_iconst d_Told_add_97 ?_
    generalize hJ3 : (up2 J2 t 5 (cI ((n : Int) + 1))) = J3
    have f3 : Fx (fun a k => a = t ∧ k = 5) J2 J3 := by rw [← hJ3]; exact Fx.up ⟨rfl, rfl⟩
    have hrow : ∀ a, a ≠ t → a ≠ t + 6 + 2 * n → a ≠ t + 6 + 2 * n + 1 → J3 a = J a := fun a e1 e2 e3 => (f3.row fun k' => by omega).trans (f2 a e2 e3)
    refine q_ireturn d_Told_add_98 rfl (narrow_z (Or.inr rfl)).1 ?_
    refine hQ _ _ _ _ _ ?_
    refine ⟨_, rfl, ⟨by rw [bI_t (by omega)], ?_, ((fJ.mo fun a k e => by omega).tr (f2.rg (by omega) (by omega))).tr (f3.mo fun a k e => by omega), fK.mo fun a k e => by omega⟩, rfl, rfl⟩
    rw [if_pos (by omega)]
    refine hsn J3 K _ (by omega) (by rw [← hJ3, up2_s]; rfl) (fun k hk => ⟨?_, fK _ _ (by omega), fK _ _ (by omega), fK _ _ (by omega), ?_, ?_⟩) ⟨?_, ?_, ?_, ?_, hv2.congr (f3.row fun k' => by omega) (f3.row fun k' => by omega), hc, hx, hy, hz⟩
    · rw [hrow _ (by omega) (by omega) (by omega)]; exact fJ _ _ (by omega)
    · rw [hrow _ (by omega) (by omega) (by omega)]; exact fJ.row fun k' => by omega
    · rw [hrow _ (by omega) (by omega) (by omega)]; exact fJ.row fun k' => by omega
    · rw [hrow _ (by omega) (by omega) (by omega), ← hJ, up2_s]
    · rw [← hK, up2_a _ _ _ (by omega), up2_a _ _ _ (by omega), up2_s]
    · rw [← hK, up2_a _ _ _ (by omega), up2_s]
    · rw [← hK, up2_s]
  · skip
    refine j_iconst d_Told_add_9 ?_
    refine q_ireturn d_Told_add_10 rfl (narrow_z (Or.inl rfl)).1 ?_
    refine hQ _ _ _ _ _ ?_
    exact ⟨_, rfl, ⟨by rw [bI_f (by omega)], by rw [if_neg (by omega)]; exact hV, Fx.rf, Fx.rf⟩, rfl, rfl⟩

