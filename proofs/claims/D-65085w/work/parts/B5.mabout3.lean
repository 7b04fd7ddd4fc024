/-! ===== B5 WHENS IN ONE ANOTHER: the reference ===== -/
section
variable {ρ : Nat → Row} {V : Nat → Int}
theorem WfL_ch {C : SRel} {f : Nat} (hC : ∀ r n m r' n' m', C r n m r' n' m' → n ≤ n' ∧ m ≤ m') (hC1 : ∀ j r n m r' n' m', C r n m r' n' m' → j ≠ 1 → r'.getD j 0 = r.getD j 0) : ∀ (ws : List (Nat × Nat)), sepC ws = true → (∀ x ∈ ws, x.1 ≠ 8 ∧ (x.1 ≤ 4 → 1 ≤ x.2 ∧ x.2 ≤ 3)) → ∀ (r : Row) (n m : Nat) (r' : Row) (n' m' : Nat), WfL (WfS V C (Wf ρ V f)) ws r n m r' n' m' → r.length = 11 → ∀ y ∈ ws, y.1 ≤ 3 → ∃ p mm n1 mm1 : Nat, r'.getD y.2 0 = (p : Int) ∧ n ≤ p ∧ n1 ≤ n' ∧ Wf ρ V f y.1 p mm n1 mm1
  | [], _, _, r, n, m, r', n', m', h, hl, y, hy, _ => absurd hy (List.not_mem_nil)
  | x :: ws, hsep, hw, r, n, m, r', n', m', h, hl, y, hy, hy3 => by
    obtain ⟨r1, n1, m1, h1, h2⟩ := h
    have hx := hw x (List.mem_cons_self ..)
    have hSle : ∀ (w sl : Nat) (r : Row) (n m : Nat) (r' : Row) (n' m' : Nat), WfS V C (Wf ρ V f) w sl r n m r' n' m' → n ≤ n' ∧ m ≤ m' := fun w sl r n m r' n' m' => WfS_le (V := V) (C := C) (w := w) (sl := sl) (r := r) (n := n) (m := m) (r' := r') (n' := n') (m' := m') (Wf_le (ρ := ρ) (V := V) f) hC
    have l1 := hSle _ _ _ _ _ _ _ _ h1
    have l2 := WfL_le hSle _ _ _ _ _ _ _ h2
    have hsep' : (ws.all (fun y => decide (x.1 ≤ 3 → x.2 ∉ fldW y)) && sepC ws) = true := hsep
    rw [Bool.and_eq_true, List.all_eq_true] at hsep'
    have hl1 : r1.length = 11 := by
      unfold WfS at h1
      split at h1
      · rw [h1.1, List.length_set]; exact hl
      · split at h1
        · obtain ⟨⟨y, z, -⟩, z2, -⟩ := h1; rw [z, List.length_set]; exact hl
        · split at h1
          · obtain ⟨z, z2, -⟩ := h1; rcases z with z | z <;> rw [z, List.length_set] <;> exact hl
          · split at h1
            · obtain ⟨z2, ⟨y, z, -⟩ | ⟨z, -⟩⟩ := h1 <;> rw [z, List.length_set] <;> exact hl
            · split at h1
              · obtain ⟨z2, p, -, z, -⟩ := h1; rw [z, List.length_set, List.length_set]; exact hl
              · split at h1
                · rename_i q; exact absurd q hx.1
                · rw [h1.1]; exact hl
    rcases List.mem_cons.mp hy with e | e
    · subst e
      have hx3 := hx.2 (by omega)
      have g1 : r1 = r.set y.2 n ∧ Wf ρ V f y.1 n m n1 m1 := by unfold WfS at h1; rw [if_pos hy3] at h1; exact h1
      refine ⟨n, m, n1, m1, ?_, Nat.le_refl _, l2.1, g1.2⟩
      rw [WfL_kp (fun r n m r' n' m' q e => hC1 _ r n m r' n' m' q e) ws (fun y' hy' => of_decide_eq_true (hsep'.1 y' hy') hy3) _ _ _ _ _ _ h2, g1.1, gset_s (by omega)]
    · obtain ⟨p, mm, n2, mm1, z1, z2, z3, z4⟩ := WfL_ch hC hC1 ws hsep'.2 (fun z hz => hw z (List.mem_cons_of_mem _ hz)) r1 n1 m1 r' n' m' h2 hl1 y e hy3
      exact ⟨p, mm, n2, mm1, z1, by omega, z3, z4⟩
theorem Fa_le (r : Row) (n m : Nat) (r' : Row) (n' m' : Nat) (h : (fun (_ : Row) (_ _ : Nat) (_ : Row) (_ _ : Nat) => False) r n m r' n' m') : n ≤ n' ∧ m ≤ m' := absurd h (fun h => h)
theorem Fa_1 (j : Nat) (r : Row) (n m : Nat) (r' : Row) (n' m' : Nat) (h : (fun (_ : Row) (_ _ : Nat) (_ : Row) (_ _ : Nat) => False) r n m r' n' m') (_ : j ≠ 1) : r'.getD j 0 = r.getD j 0 := absurd h (fun h => h)
theorem Wc_1 {f : Nat} (j : Nat) (r : Row) (n m : Nat) (r' : Row) (n' m' : Nat) (h : r' = r.set 1 (if n' = n then -1 else (n : Int)) ∧ WfC ρ (WfS V (fun _ _ _ _ _ _ => False) (Wf ρ V f)) 8 n m n' m') (hj : j ≠ 1) : r'.getD j 0 = r.getD j 0 := by rw [h.1, gset_n hj]
theorem itC_4 {κ : Int} : ∀ x ∈ itC κ, 4 ∉ fldW x := by
  unfold itC
  repeat (refine ite_all (by decide) ?_)
  decide
theorem itC_n3 {κ : Int} (e : ¬ (κ = 4 ∨ κ = 22)) : ∀ x ∈ itC κ, x.1 ≤ 3 → x.2 ≠ 3 := by
  unfold itC
  refine ite_all (by decide) ?_
  rw [if_neg (fun q => e (Or.inl q))]
  refine ite_all (by decide) (ite_all (by decide) (ite_all (by decide) (ite_all (by decide) (ite_all (by decide) (ite_all (by decide) (ite_all (by decide) ?_))))))
  rw [if_neg (fun q => e (Or.inr q))]
  repeat (refine ite_all (by decide) ?_)
  decide
theorem itC_v {κ : Int} (h : okS 2 κ = true ∨ okS 3 κ = true) : ∀ x ∈ itC κ, x.1 ≠ 1 := by
  have hk : κ ≠ 1 ∧ κ ≠ 4 ∧ κ ≠ 5 ∧ κ ≠ 10 ∧ κ ≠ 11 := by
    rcases h with h | h
    · unfold okS at h; rw [if_neg (by decide), if_pos rfl, decide_eq_true_eq] at h; omega
    · unfold okS at h; rw [if_neg (by decide), if_neg (by decide), decide_eq_true_eq] at h; omega
  unfold itC
  rw [if_neg hk.1, if_neg hk.2.1, if_neg hk.2.2.1, if_neg hk.2.2.2.1, if_neg hk.2.2.2.2]
  repeat (refine ite_all (by decide) ?_)
  decide
theorem itA_12 {κ : Int} : ∀ x ∈ itA κ, x.1 ≤ 3 → x.2 = 1 ∨ x.2 = 2 := by
  unfold itA
  repeat (refine ite_all (by decide) ?_)
  decide
theorem chM_le {W : Int → Nat} {v : Nat} {r : Row} : ∀ ws : List (Nat × Nat), (∀ x ∈ ws, x.1 ≤ 3 → W (r.getD x.2 0) = 0) → chM W v r ws ≤ v
  | [], _ => Nat.zero_le _
  | x :: ws, h => by
    have ih := chM_le (v := v) ws (fun y hy => h y (List.mem_cons_of_mem _ hy))
    show max (if x.1 ≤ 3 then v + W (r.getD x.2 0) else 0) (chM W v r ws) ≤ v
    by_cases q : x.1 ≤ 3
    · rw [if_pos q, h x (List.mem_cons_self ..) q]; omega
    · rw [if_neg q]; omega
theorem WfC_h {f : Nat} : ∀ {k n m n' m' : Nat}, WfC ρ (WfS V (fun _ _ _ _ _ _ => False) (Wf ρ V f)) k n m n' m' → n' ≠ n → (ρ n).getD 0 0 = 6
  | 0, n, m, n', m', h, hn => absurd h.1 hn
  | k + 1, n, m, n', m', h, hn => by
    rcases h with h | ⟨κ, dep, r, n1, m1, k1, k2, k3, k4, k5⟩
    · exact absurd h.1 hn
    · rw [k3]; exact ((WfL.caf k1 k2).o).1.2.1
/-- a when's contract lies behind its cases -/
theorem Wf.whn2 {f s n m n' m' : Nat} (h : Wf ρ V (f + 1) s n m n' m') (h5 : (ρ n).getD 0 0 = 5) : ∃ (n2 m2 m3 : Nat), (ρ n).getD 1 0 = (if n2 = n + 1 then -1 else ((n + 1 : Nat) : Int)) ∧ WfC ρ (WfS V (fun _ _ _ _ _ _ => False) (Wf ρ V f)) 8 (n + 1) m n2 m2 ∧ n + 1 ≤ n2 ∧ (ρ n).getD 2 0 = (n2 : Int) ∧ Wf ρ V f 1 n2 m3 n' m' ∧ (ρ n).getD 4 0 = -1 := by
  obtain ⟨κ, dep, x, h0, h1, h2, h3, h⟩ := h.un
  rw [h5] at h0
  subst h0
  obtain rfl : x = 0 := h3 (by decide)
  obtain ⟨r1, n1, m1, q1, r2, n2, m2, q2, r3, n3, m3, q3, r4, n4, m4, q4, e1, e2, e3⟩ := h
  obtain ⟨z1, y1, w1⟩ := (show r1 = [5, -1, -1, -1, -1, ((0 : Nat) : Int), 0, 0, -1, 0, dep] ∧ n1 = n + 1 ∧ m1 = m from q1)
  obtain ⟨z2, u2⟩ := (show r2 = r1.set 1 (if n2 = n1 then -1 else (n1 : Int)) ∧ WfC ρ (WfS V (fun _ _ _ _ _ _ => False) (Wf ρ V f)) 8 n1 m1 n2 m2 from q2)
  obtain ⟨y3, u3⟩ := (show n3 = n2 ∧ ((∃ x : Nat, r3 = r2.set 5 x ∧ nmO x ∧ m3 = m2) ∨ (r3 = r2.set 8 m2 ∧ m3 = m2 + 1 ∧ 0 ≤ V m2 ∧ V m2 ≤ 1000000000000000)) from q3)
  obtain ⟨z4, u4⟩ := (show r4 = r3.set 2 n3 ∧ Wf ρ V f 1 n3 m3 n4 m4 from q4)
  have b2 := WfCf_le (ρ := ρ) (V := V) (f := f) r2 _ _ _ _ _ ⟨rfl, u2⟩
  rw [y1, w1] at u2 b2
  rw [y1] at z2
  rw [y3] at u4 z4
  rw [← e2, ← e3] at u4
  refine ⟨n2, m2, m3, ?_, u2, b2.1, ?_, u4, ?_⟩
  · rw [e1, z4]
    rcases u3 with ⟨x, z3, -⟩ | ⟨z3, -⟩ <;> rw [z3, z2, z1] <;> rfl
  · rw [e1, z4]
    rcases u3 with ⟨x, z3, -⟩ | ⟨z3, -⟩ <;> rw [z3, z2, z1] <;> rfl
  · rw [e1, z4]
    rcases u3 with ⟨x, z3, -⟩ | ⟨z3, -⟩ <;> rw [z3, z2, z1] <;> rfl
end
section
variable {M tp pt d LO HI aa bb : Nat} {ρ : Nat → Row} {V : Nat → Int} {I0 I : M32} {L : M64} {R : MR} {T : SH} {Q : QT}
theorem wm_cases {f v n2 m2 : Nat} (hd : 2 ≤ d) (hM : MdlS M R T) (hr : ∀ i, LO ≤ i → i < HI → RowM I0 L M tp pt V i (ρ i) ∧ 0 ≤ (ρ i).getD 0 0 ∧ (ρ i).getD 0 0 ≤ 102) (hHI : HI ≤ 5100) (hbb : bb ≤ 5100) (ih : WmOk M d LO HI aa bb ρ V I0 L R T Q f) (hv : v + f ≤ 1000) (hn2 : n2 ≤ HI ∧ n2 ≤ bb) : ∀ (k n3 m3 : Nat) (c : Int) (μ : Nat) (I : M32), LO ≤ n3 → c = (if n2 = n3 then -1 else (n3 : Int)) → WfC ρ (WfS V (fun _ _ _ _ _ _ => False) (Wf ρ V f)) k n3 m3 n2 m2 → FrW' M I0 I → (n2 ≠ n3 → I (M + 37) n3 = cI (v : Int)) → μ ≤ 1000 → (∀ I', FrW' M I0 I' → (∀ k, n2 ≤ k → I' (M + 37) k = I (M + 37) k) → MH d M aa bb L R T Q n2 (if c = -1 then μ else max μ (v + whCs ρ (whF ρ f) k c 0)) I') → MH d M aa bb L R T Q n3 μ I
  | 0, n3, m3, c, μ, I, hl, hc, hC, hF, hw, hμ, kk => by
    rw [if_pos hC.1] at hc
    have := kk I hF (fun _ _ => rfl)
    rw [if_pos hc, hC.1] at this
    exact this
  | k + 1, n3, m3, c, μ, I, hl, hc, hC, hF, hw, hμ, kk => by
    have hSle : ∀ (w sl : Nat) (r : Row) (n m : Nat) (r' : Row) (n' m' : Nat), WfS V (fun _ _ _ _ _ _ => False) (Wf ρ V f) w sl r n m r' n' m' → n ≤ n' ∧ m ≤ m' := fun w sl r n m r' n' m' => WfS_le (V := V) (C := fun _ _ _ _ _ _ => False) (w := w) (sl := sl) (r := r) (n := n) (m := m) (r' := r') (n' := n') (m' := m') (Wf_le (ρ := ρ) (V := V) f) Fa_le
    rcases hC with ⟨e1, e2⟩ | ⟨κ, dep, r, n4, m4, k1, k2, k3, k4, k5⟩
    · rw [if_pos e1] at hc
      have := kk I hF (fun _ _ => rfl)
      rw [if_pos hc, e1] at this
      exact this
    have b1 := WfL_le hSle _ _ _ _ _ _ _ k2
    have b2 := WfC_le hSle _ _ _ _ _ k5
    rw [if_neg (by omega)] at hc
    have hca : CaF ρ V f n3 n4 m4 (ρ n3) := by rw [k3]; exact (WfL.caf k1 k2).o
    have hr11 : r.length = 11 := (WfL.caf k1 k2).1.1
    have hnx : (ρ n3).getD 4 0 = (if n2 = n4 then -1 else (n4 : Int)) := by rw [k3, gset_s (by omega)]
    have hin : ∀ z : Int, (z = -1 ∨ ChO ρ V f n3 n4 m4 z) → z = -1 ∨ ((n3 : Int) < z ∧ z < HI) := fun z hz => by
      rcases hz with h | ⟨p, s, m, nn, mm, e, g1, g2, g3, g4⟩
      · exact Or.inl h
      · have := Wf_le _ _ _ _ _ _ g4; omega
    refine mh_step (v := v) hd hM (fun i i1 i2 => ⟨(hr i i1 i2).1.w hF, (hr i i1 i2).2⟩) hHI ⟨hl, by omega⟩ (by omega) hbb (hw (by omega)) (by omega) (by omega) (hin _ hca.1.2.2.2.1) (hin _ hca.1.2.2.2.2) (fun e => by have := hca.1.2.1; omega) ?_ fun I1 f1 s1 o1 => ?_
    · rw [hnx]
      by_cases e : n2 = n4
      · rw [if_pos e]; exact Or.inl rfl
      · rw [if_neg e, Int.toNat_natCast]
        exact Or.inr ⟨by omega, by omega, by rw [WfC_h k5 e]; decide⟩
    have es : ∀ j, j ≠ 4 → r.getD j 0 = (ρ n3).getD j 0 := fun j hj => by rw [k3, gset_n hj]
    have hF1 := hF.tr f1
    refine wm_its Fa_le Fa_1 ih hv (itA κ) itA_s (itA_sepC κ) _ (n3 + 1) m3 r n4 m4 (max μ v) I1 k2 rfl (by omega) (by omega) (by omega) hF1 (by omega) (fun x hx hx3 p hp => ?_) fun I2 f2 o2 => ?_
    · rcases itA_12 x hx hx3 with e | e
      · rw [e, es 1 (by decide)] at hp; exact s1 p (Or.inl hp)
      · rw [e, es 2 (by decide)] at hp; exact s1 p (Or.inr (Or.inl hp))
    have hz := fun x hx hx3 => WfL_ch Fa_le Fa_1 (itA κ) (itA_sepC κ) itA_s _ _ _ _ _ _ k2 rfl x hx hx3
    have hmx : max (max μ v) (chM (whF ρ f) v r (itA κ)) = max μ (v + whF ρ f ((ρ n3).getD 2 0)) := by
      rw [← es 2 (by decide)]
      rcases k1 with e | e | e
      · obtain ⟨p, mm, nn, mm1, z1, z2, z3, z4⟩ := hz (2, 1) (by rw [e]; decide) (by decide)
        have z5 := whF_v z4 (by decide)
        rw [← z1] at z5
        have z5 : whF ρ f (r.getD 1 0) = 0 := z5
        rw [e]
        show max (max μ v) (max 0 (max 0 (max 0 (max (v + whF ρ f (r.getD 1 0)) (max (v + whF ρ f (r.getD 2 0)) 0))))) = _
        rw [z5]; omega
      · rw [e]
        show max (max μ v) (max 0 (max 0 (max 0 (max 0 (max (v + whF ρ f (r.getD 2 0)) 0))))) = _
        omega
      · obtain ⟨p, mm, nn, mm1, z1, z2, z3, z4⟩ := hz (3, 1) (by rw [e]; decide) (by decide)
        have z5 := whF_v z4 (by decide)
        rw [← z1] at z5
        have z5 : whF ρ f (r.getD 1 0) = 0 := z5
        rw [e]
        show max (max μ v) (max (v + whF ρ f (r.getD 1 0)) (max (v + whF ρ f (r.getD 2 0)) 0)) = _
        rw [z5]; omega
    rw [hmx]
    have hwl := whF_le ρ f ((ρ n3).getD 2 0)
    refine wm_cases hd hM hr hHI hbb ih hv hn2 k n4 m4 _ _ I2 (by omega) hnx k5 f2 (fun e => ?_) (by omega) fun I3 f3 o3 => ?_
    · have := s1 n4 (Or.inr (Or.inr (Or.inr (by rw [hnx, if_neg e]))))
      rw [o2 n4 (Nat.le_refl _), this]
      unfold wh1
      rw [WfC_h k5 e, if_neg (by decide), Int.add_zero]
    · have hstep : whCs ρ (whF ρ f) (k + 1) c 0 = max (whF ρ f ((ρ n3).getD 2 0)) (whCs ρ (whF ρ f) k ((ρ n3).getD 4 0) 0) := by
        show (if c = -1 then 0 else whCs ρ (whF ρ f) k ((ρ c.toNat).getD 4 0) (max 0 (whF ρ f ((ρ c.toNat).getD 2 0)))) = _
        rw [if_neg (show ¬ c = -1 by omega), hc, Int.toNat_natCast, whCs_max]
        omega
      have := kk I3 f3 (fun q hq => by
        rw [o3 q hq, o2 q (by omega), o1 q]
        rintro (h | h | ⟨h1, h⟩ | h)
        · rcases hca.1.2.2.2.1 with e | ⟨p, s, m, nn, mm, e, g1, g2, g3, g4⟩
          · omega
          · have := Wf_le _ _ _ _ _ _ g4; omega
        · rcases hca.1.2.2.2.2 with e | ⟨p, s, m, nn, mm, e, g1, g2, g3, g4⟩
          · omega
          · have := Wf_le _ _ _ _ _ _ g4; omega
        · have := hca.1.2.1; omega
        · rw [hnx] at h
          by_cases e : n2 = n4
          · rw [if_pos e] at h; omega
          · rw [if_neg e] at h; omega)
      rw [if_neg (show ¬ c = -1 by omega), hstep] at this
      by_cases e : (ρ n3).getD 4 0 = -1
      · rw [if_pos e]
        have e0 : whCs ρ (whF ρ f) k ((ρ n3).getD 4 0) 0 = 0 := by
          rw [e]
          cases k with
          | zero => rfl
          | succ k => rfl
        rw [e0, show max (whF ρ f ((ρ n3).getD 2 0)) 0 = whF ρ f ((ρ n3).getD 2 0) by omega] at this
        exact this
      · rw [if_neg e, show max (max μ (v + whF ρ f ((ρ n3).getD 2 0))) (v + whCs ρ (whF ρ f) k ((ρ n3).getD 4 0) 0) = max μ (v + max (whF ρ f ((ρ n3).getD 2 0)) (whCs ρ (whF ρ f) k ((ρ n3).getD 4 0) 0)) by omega]
        exact this
theorem WmOk.step {f : Nat} (hd : 2 ≤ d) (hM : MdlS M R T) (hr : ∀ i, LO ≤ i → i < HI → RowM I0 L M tp pt V i (ρ i) ∧ 0 ≤ (ρ i).getD 0 0 ∧ (ρ i).getD 0 0 ≤ 102) (hHI : HI ≤ 5100) (hbb : bb ≤ 5100) (ih : WmOk M d LO HI aa bb ρ V I0 L R T Q f) : WmOk M d LO HI aa bb ρ V I0 L R T Q (f + 1) := by
  intro s n m n' m' b μ I hw hlo hhi hnb hF hW hbf hμ kk
  have hb := Wf_le _ _ _ _ _ _ hw
  have hrI : ∀ i, LO ≤ i → i < HI → RowM I L M tp pt V i (ρ i) ∧ 0 ≤ (ρ i).getD 0 0 ∧ (ρ i).getD 0 0 ≤ 102 := fun i i1 i2 => ⟨(hr i i1 i2).1.w hF, (hr i i1 i2).2⟩
  by_cases h5 : (ρ n).getD 0 0 = 5
  · obtain ⟨n2, m2, m3, g1, g2, g3, g4, g5, g6⟩ := hw.whn2 h5
    have b5 := Wf_le _ _ _ _ _ _ g5
    have hv : I (M + 37) n = cI ((b + 1 : Nat) : Int) := by
      rw [hW]; unfold wh1; rw [if_pos h5]; rfl
    refine mh_step (v := b + 1) hd hM hrI hHI ⟨hlo, by omega⟩ (by omega) hbb hv (by omega) (by omega) (by rw [g1]; split <;> omega) (by rw [g4]; omega) (fun e => by omega) (Or.inl g6) fun I1 f1 s1 o1 => ?_
    refine wm_cases (v := b + 1) (n2 := n2) (m2 := m2) hd hM hr hHI hbb ih (by omega) (by omega) 8 (n + 1) m _ (max μ (b + 1)) I1 (by omega) g1 g2 (hF.tr f1) (fun e => ?_) (by omega) fun I2 f2 o2 => ?_
    · have := s1 (n + 1) (Or.inl (by rw [g1, if_neg e]))
      rw [this]
      unfold wh1
      rw [WfC_h g2 e, if_neg (by decide), Int.add_zero]
    have hcl := whCs_le (ρ := ρ) (W := whF ρ f) (b := f) (whF_le ρ f) 8 ((ρ n).getD 1 0) 0 (Nat.zero_le _)
    have hwl := whF_le ρ f (n2 : Int)
    refine ih 1 n2 m3 n' m' (b + 1) _ I2 g5 (by omega) hhi hnb f2 ?_ (by omega) (by split <;> omega) fun I3 f3 o3 => ?_
    · rw [o2 n2 (Nat.le_refl _)]
      exact s1 n2 (Or.inr (Or.inl g4.symm))
    have := kk I3 f3 (fun q hq => by
      rw [o3 q hq, o2 q (by omega), o1 q]
      rintro (h | h | ⟨h1, h⟩ | h)
      · rw [g1] at h
        by_cases e : n2 = n + 1
        · rw [if_pos e] at h; omega
        · rw [if_neg e] at h; omega
      · rw [g4] at h; omega
      · omega
      · rw [g6] at h; omega)
    have hst : whF ρ (f + 1) (n : Int) = whCs ρ (whF ρ f) 8 ((ρ n).getD 1 0) (whF ρ f (n2 : Int)) + 1 := by
      show (if (n : Int) = -1 then 0 else _) = _
      rw [if_neg (by omega), Int.toNat_natCast, h5, if_neg (by decide), if_pos rfl, if_neg (by decide), g4]
      rw [show max (whF ρ f (n2 : Int)) 0 = whF ρ f (n2 : Int) by omega]
    rw [hst, whCs_max] at this
    by_cases e : (ρ n).getD 1 0 = -1
    · rw [if_pos e]
      have e0 : whCs ρ (whF ρ f) 8 ((ρ n).getD 1 0) 0 = 0 := by rw [e]; rfl
      rw [e0] at this
      rw [show max (max μ (b + 1)) (b + 1 + whF ρ f (n2 : Int)) = max μ (b + (max (whF ρ f (n2 : Int)) 0 + 1)) by omega]
      exact this
    · rw [if_neg e]
      rw [show max (max (max μ (b + 1)) (b + 1 + whCs ρ (whF ρ f) 8 ((ρ n).getD 1 0) 0)) (b + 1 + whF ρ f (n2 : Int)) = max μ (b + (max (whF ρ f (n2 : Int)) (whCs ρ (whF ρ f) 8 ((ρ n).getD 1 0) 0) + 1)) by omega]
      exact this
  · obtain ⟨hok, hI⟩ := hw.inv h5
    obtain ⟨κ, dep, x, e0, e1, e2, e3, hL⟩ := hw.un
    have h4 : (ρ n).getD 4 0 = -1 := by rw [WfL_kp (fun r n m r' n' m' q e => Wc_1 _ r n m r' n' m' q e) _ itC_4 _ _ _ _ _ _ hL]; rfl
    have hin : ∀ z : Int, (z = -1 ∨ ChO ρ V f n n' m' z) → z = -1 ∨ ((n : Int) < z ∧ z < HI) := fun z hz => by
      rcases hz with h | ⟨p, s, m, nn, mm, e, g1, g2, g3, g4⟩
      · exact Or.inl h
      · have := Wf_le _ _ _ _ _ _ g4; omega
    have hv : I (M + 37) n = cI (b : Int) := by
      rw [hW]; unfold wh1; rw [if_neg h5, Int.add_zero]
    refine mh_step (v := b) hd hM hrI hHI ⟨hlo, by omega⟩ (by omega) hbb hv (by omega) (by omega) (hin _ hI.2.2.2.1) (hin _ hI.2.2.2.2) (fun e => ?_) (Or.inl h4) fun I1 f1 s1 o1 => ?_
    · rcases hin _ (Or.inr (hw.thr e)) with h | h
      · obtain ⟨p, s, m, nn, mm, e, -⟩ := hw.thr e; omega
      · exact h
    have hκ5 : κ ≠ 5 := by rw [← e0]; exact h5
    have hmm : (if κ = 100 then m + 1 else m) ≤ m + 1 := by split <;> omega
    refine wm_its (v := b) WfCf_le (fun j r n m r' n' m' q e => Wc_1 _ r n m r' n' m' q e) ih (by omega) (itC κ) (itC_s hκ5) (itC_sepC κ) _ (n + 1) _ (ρ n) n' m' (max μ b) I1 hL rfl (by omega) hhi hnb (hF.tr f1) (by omega) (fun y hy hy3 p hp => ?_) fun I2 f2 o2 => ?_
    · have hys := (itC_s hκ5 y hy).2 (by omega)
      have hy3' : y.2 = 1 ∨ y.2 = 2 ∨ y.2 = 3 := by omega
      rcases hy3' with e | e | e
      · rw [e] at hp; exact s1 p (Or.inl hp)
      · rw [e] at hp; exact s1 p (Or.inr (Or.inl hp))
      · rw [e] at hp
        refine s1 p (Or.inr (Or.inr (Or.inl ⟨?_, hp⟩)))
        rw [e0]
        exact Decidable.not_not.mp fun z => itC_n3 z y hy hy3 e
    have hz := fun x hx hx3 => WfL_ch WfCf_le (fun j r n m r' n' m' q e => Wc_1 _ r n m r' n' m' q e) (itC κ) (itC_sepC κ) (itC_s hκ5) _ _ _ _ _ _ hL rfl x hx hx3
    have := kk I2 f2 (fun q hq => by
      rw [o2 q hq, o1 q]
      have hlt : ∀ z : Int, (z = -1 ∨ ChO ρ V f n n' m' z) → z < n' := fun z hz => by
        rcases hz with h | ⟨p, s, m, nn, mm, e, g1, g2, g3, g4⟩
        · omega
        · have := Wf_le _ _ _ _ _ _ g4; omega
      rintro (h | h | ⟨h1, h⟩ | h)
      · have := hlt _ hI.2.2.2.1; omega
      · have := hlt _ hI.2.2.2.2; omega
      · have := hlt _ (Or.inr (hw.thr h1)); omega
      · omega)
    have hst : whF ρ (f + 1) (n : Int) = if okS 2 κ = true ∨ okS 3 κ = true then 0 else max (whF ρ f ((ρ n).getD 2 0)) (if κ = 4 then whF ρ f ((ρ n).getD 3 0) else 0) := by
      show (if (n : Int) = -1 then 0 else _) = _
      rw [if_neg (by omega), Int.toNat_natCast, e0, if_neg hκ5]
    have hmx : max (max μ b) (chM (whF ρ f) b (ρ n) (itC κ)) = max μ (b + whF ρ (f + 1) (n : Int)) := by
      rw [hst]
      have hvz : ∀ x ∈ itC κ, x.1 ≤ 3 → x.1 ≠ 1 → whF ρ f ((ρ n).getD x.2 0) = 0 := fun x hx hx3 h1 => by
        obtain ⟨p, mm, nn, mm1, z1, z2, z3, z4⟩ := hz x hx hx3
        rw [z1]; exact whF_v z4 h1
      by_cases ho : okS 2 κ = true ∨ okS 3 κ = true
      · rw [if_pos ho]
        have := chM_le (v := b) (itC κ) (fun x hx hx3 => hvz x hx hx3 (itC_v ho x hx))
        omega
      · rw [if_neg ho]
        have hk1 : κ = 0 ∨ κ = 1 ∨ κ = 4 ∨ κ = 10 ∨ κ = 11 := by
          unfold okS at e1 ho
          rw [if_neg (by decide), if_pos rfl, if_neg (by decide), if_neg (by decide), decide_eq_true_eq, decide_eq_true_eq] at ho
          (repeat' split at e1) <;> rw [decide_eq_true_eq] at e1 <;> omega
        have h20 : whF ρ f (-1) = 0 := by
          cases f with
          | zero => rfl
          | succ f => rfl
        rcases hk1 with e | e | e | e | e
        · have z2 : (ρ n).getD 2 0 = -1 := by
            rw [e] at hL
            rw [hL.1]; rfl
          rw [e, z2, h20]
          show max (max μ b) 0 = max μ (b + max 0 0)
          omega
        · have z := hvz (2, 1) (by rw [e]; decide) (by decide) (by decide)
          have z : whF ρ f ((ρ n).getD 1 0) = 0 := z
          rw [e]
          show max (max μ b) (max 0 (max 0 (max 0 (max 0 (max (b + whF ρ f ((ρ n).getD 1 0)) (max (b + whF ρ f ((ρ n).getD 2 0)) 0)))))) = max μ (b + max (whF ρ f ((ρ n).getD 2 0)) 0)
          rw [z]; omega
        · have z := hvz (3, 1) (by rw [e]; decide) (by decide) (by decide)
          have z : whF ρ f ((ρ n).getD 1 0) = 0 := z
          rw [e]
          show max (max μ b) (max (b + whF ρ f ((ρ n).getD 1 0)) (max (b + whF ρ f ((ρ n).getD 2 0)) (max (b + whF ρ f ((ρ n).getD 3 0)) 0))) = max μ (b + max (whF ρ f ((ρ n).getD 2 0)) (whF ρ f ((ρ n).getD 3 0)))
          rw [z]; omega
        · have z := hvz (2, 1) (by rw [e]; decide) (by decide) (by decide)
          have z : whF ρ f ((ρ n).getD 1 0) = 0 := z
          rw [e]
          show max (max μ b) (max 0 (max (b + whF ρ f ((ρ n).getD 1 0)) (max (b + whF ρ f ((ρ n).getD 2 0)) 0))) = max μ (b + max (whF ρ f ((ρ n).getD 2 0)) 0)
          rw [z]; omega
        · have z := hvz (3, 1) (by rw [e]; decide) (by decide) (by decide)
          have z : whF ρ f ((ρ n).getD 1 0) = 0 := z
          rw [e]
          show max (max μ b) (max (b + whF ρ f ((ρ n).getD 1 0)) (max (b + whF ρ f ((ρ n).getD 2 0)) 0)) = max μ (b + max (whF ρ f ((ρ n).getD 2 0)) 0)
          rw [z]; omega
    rw [hmx]
    exact this
theorem wmAll (hd : 2 ≤ d) (hM : MdlS M R T) (hr : ∀ i, LO ≤ i → i < HI → RowM I0 L M tp pt V i (ρ i) ∧ 0 ≤ (ρ i).getD 0 0 ∧ (ρ i).getD 0 0 ≤ 102) (hHI : HI ≤ 5100) (hbb : bb ≤ 5100) : ∀ f, WmOk M d LO HI aa bb ρ V I0 L R T Q f
  | 0 => fun s n m n' m' b μ I hw => absurd hw (fun h => h)
  | f + 1 => (wmAll hd hM hr hHI hbb f).step hd hM hr hHI hbb
theorem c_Model_mostWhens {f s n m n' m' : Nat} (d : Nat) (hd : 2 ≤ d) (hM : MdlS M R T) (hr : ∀ i, LO ≤ i → i < HI → RowM I L M tp pt V i (ρ i) ∧ 0 ≤ (ρ i).getD 0 0 ∧ (ρ i).getD 0 0 ≤ 102) (hHI : HI ≤ 5100) (hw : Wf ρ V f s n m n' m') (hlo : LO ≤ n) (hhi : n' ≤ HI) (hf : f ≤ 1000) :
    Call m_Model_mostWhens y_Model_mostWhens d 0 0 [.ref M, .int (cI (n : Int)), .int (cI (n' : Int))] I L R T (rI fun r I' L' R' T' => r = cI (whF ρ f (n : Int) : Nat) ∧ FrW' M I I' ∧ L' = L ∧ R' = R ∧ T' = T) := by
  have hb := Wf_le _ _ _ _ _ _ hw
  obtain ⟨hrn, hk⟩ := hr n hlo (by omega)
  obtain ⟨kk, hkk⟩ : ∃ kk, kk = kdM ((ρ n).getD 0 0) ((ρ n).getD 3 0) := ⟨_, rfl⟩
  have h5 := kdM_5 (h := (ρ n).getD 3 0) hk
  rw [← hkk] at h5
  have hki : inI kk := by
    rw [hkk]; unfold kdM
    (repeat' split) <;> omega
  refine Call.ofRun (by decide) ⟨rfl, rfl⟩ (Nat.le_of_ble_eq_true rfl) ?_
  refine Run.gen fun Q hQ => ?_
  refine j_iconst d_Model_mostWhens_0 ?_
  refine q_istore_n (lv' := [(3, .int (cI 0)), (0, .ref M), (1, .int (cI (n : Int))), (2, .int (cI (n' : Int)))]) d_Model_mostWhens_1 (by decide) rfl ?_
  refine q_aload_n d_Model_mostWhens_2 rfl ?_
  refine q_getR d_Model_mostWhens_3 fl_Model_121 hM.1 ⟨rfl, by decide⟩ (mR59 hM) ?_
  refine q_iload_n d_Model_mostWhens_6 rfl ?_
  refine q_aload_n d_Model_mostWhens_7 rfl ?_
  refine q_getR d_Model_mostWhens_8 fl_Model_26 hM.1 ⟨rfl, by decide⟩ (mR19 hM) ?_
  refine q_iload_n d_Model_mostWhens_11 rfl ?_
  refine j_iald (j := n) (v := (cI kk)) d_Model_mostWhens_12 (mT19 hM) (mN19 hM) (by omega) (by omega) (by omega) (hrn.1.1.trans (by rw [hkk])) ?_
  refine j_iconst d_Model_mostWhens_13 ?_
  suffices J : ∀ (u : Int), (((¬ kk = 5) ∧ u = 0) ∨ ((kk = 5) ∧ u = 1)) → Run m_Model_mostWhens d 0 0 22 [(0, .ref M), (1, .int (cI (n : Int))), (2, .int (cI (n' : Int))), (3, .int (cI 0))] [.int (cI u), .int (cI (n : Int)), .ref (M + 37)] I L R T Q by
    refine j_icmp_ne (tgt := 21) d_Model_mostWhens_14 (by decide) (by omega) (by omega) (fun hp1 => ?_) (fun hp1 => ?_)
    · refine j_iconst d_Model_mostWhens_21 ?_
      refine Run.lv (lv' := [(0, .ref M), (1, .int (cI (n : Int))), (2, .int (cI (n' : Int))), (3, .int (cI 0))]) (by intro q hq; simp only [List.mem_cons, List.not_mem_nil, or_false] at hq ⊢; rcases hq with rfl | rfl | rfl | rfl <;> simp) ?_
      exact J _ (Or.inl ⟨hp1, rfl⟩)
    · refine j_iconst d_Model_mostWhens_17 ?_
      refine q_goto (tgt := 22) d_Model_mostWhens_18 (by decide) ?_
      refine Run.lv (lv' := [(0, .ref M), (1, .int (cI (n : Int))), (2, .int (cI (n' : Int))), (3, .int (cI 0))]) (by intro q hq; simp only [List.mem_cons, List.not_mem_nil, or_false] at hq ⊢; rcases hq with rfl | rfl | rfl | rfl <;> simp) ?_
      exact J _ (Or.inr ⟨hp1, rfl⟩)
  intro u hu
  have hu2 : u = wh1 ρ n := by
    unfold wh1
    by_cases q : (ρ n).getD 0 0 = 5
    · rw [if_pos q]; omega
    · rw [if_neg q]; omega
  refine j_iast (j := n) d_Model_mostWhens_22 (mT59 hM) (mN59 hM) (by omega) (by omega) (by omega) ?_
  generalize hI1 : (up2 I (M + 37) n (cI u)) = I1
  have f1 : FrW' M I I1 := fun a e => by rw [← hI1, up2_row _ _ e]
  refine q_iload_n d_Model_mostWhens_23 rfl ?_
  refine q_istore (lv' := [(4, .int (cI (n : Int))), (0, .ref M), (1, .int (cI (n : Int))), (2, .int (cI (n' : Int))), (3, .int (cI 0))]) d_Model_mostWhens_24 (by decide) rfl ?_
  have hH : MH d M n n' L R T Q n 0 I1 := by
    refine wmAll (Q := Q) (aa := n) (bb := n') hd hM hr hHI (by omega) f s n m n' m' 0 0 I1 hw hlo hhi (Nat.le_refl _) f1 (by rw [← hI1, up2_s, hu2]; congr 1; exact (Int.zero_add _).symm) (by omega) (by omega) fun I' f' _ => ?_
    rw [show max 0 (0 + whF ρ f (n : Int)) = whF ρ f (n : Int) by omega]
    unfold MH
    refine q_iload d_Model_mostWhens_26 rfl ?_
    refine q_iload_n d_Model_mostWhens_28 rfl ?_
    refine j_icmp_ge (tgt := 156) d_Model_mostWhens_29 (by decide) (by omega) (by omega) (fun hx => ?_) (fun hx => by exfalso; omega)
    refine q_iload_n d_Model_mostWhens_156 rfl ?_
    refine q_ireturn d_Model_mostWhens_157 rfl rfl ?_
    refine hQ _ _ _ _ _ ?_
    exact ⟨_, rfl, rfl, f', rfl, rfl, rfl⟩
  unfold MH at hH
  refine Run.lv (lv' := [(0, .ref M), (1, .int (cI (n : Int))), (2, .int (cI (n' : Int))), (3, .int (cI 0)), (4, .int (cI (n : Int)))]) (by intro q hq; simp only [List.mem_cons, List.not_mem_nil, or_false] at hq ⊢; rcases hq with rfl | rfl | rfl | rfl | rfl <;> simp) ?_
  exact hH
end

