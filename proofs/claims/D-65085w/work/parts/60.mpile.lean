/-! ===== 60 FRAMES BY SETS OF CELLS; the reference's pile of wants, its nodes ===== -/
theorem d_Model_push_0 : decode m_Model_push.2.1 0 = .ok (.aload_n 0, 1) := by decide +kernel
theorem d_Model_push_1 : decode m_Model_push.2.1 1 = .ok (.getfield 73, 3) := by decide +kernel
theorem d_Model_push_4 : decode m_Model_push.2.1 4 = .ok (.aload_n 0, 1) := by decide +kernel
theorem d_Model_push_5 : decode m_Model_push.2.1 5 = .ok (.getfield 582, 3) := by decide +kernel
theorem d_Model_push_8 : decode m_Model_push.2.1 8 = .ok (.iload_n 1, 1) := by decide +kernel
theorem d_Model_push_9 : decode m_Model_push.2.1 9 = .ok (.iastore, 1) := by decide +kernel
theorem d_Model_push_10 : decode m_Model_push.2.1 10 = .ok (.aload_n 0, 1) := by decide +kernel
theorem d_Model_push_11 : decode m_Model_push.2.1 11 = .ok (.getfield 76, 3) := by decide +kernel
theorem d_Model_push_14 : decode m_Model_push.2.1 14 = .ok (.aload_n 0, 1) := by decide +kernel
theorem d_Model_push_15 : decode m_Model_push.2.1 15 = .ok (.getfield 582, 3) := by decide +kernel
theorem d_Model_push_18 : decode m_Model_push.2.1 18 = .ok (.iload_n 2, 1) := by decide +kernel
theorem d_Model_push_19 : decode m_Model_push.2.1 19 = .ok (.iastore, 1) := by decide +kernel
theorem d_Model_push_20 : decode m_Model_push.2.1 20 = .ok (.aload_n 0, 1) := by decide +kernel
theorem d_Model_push_21 : decode m_Model_push.2.1 21 = .ok (.getfield 79, 3) := by decide +kernel
theorem d_Model_push_24 : decode m_Model_push.2.1 24 = .ok (.aload_n 0, 1) := by decide +kernel
theorem d_Model_push_25 : decode m_Model_push.2.1 25 = .ok (.getfield 582, 3) := by decide +kernel
theorem d_Model_push_28 : decode m_Model_push.2.1 28 = .ok (.iload_n 3, 1) := by decide +kernel
theorem d_Model_push_29 : decode m_Model_push.2.1 29 = .ok (.iastore, 1) := by decide +kernel
theorem d_Model_push_30 : decode m_Model_push.2.1 30 = .ok (.aload_n 0, 1) := by decide +kernel
theorem d_Model_push_31 : decode m_Model_push.2.1 31 = .ok (.getfield 82, 3) := by decide +kernel
theorem d_Model_push_34 : decode m_Model_push.2.1 34 = .ok (.aload_n 0, 1) := by decide +kernel
theorem d_Model_push_35 : decode m_Model_push.2.1 35 = .ok (.getfield 582, 3) := by decide +kernel
theorem d_Model_push_38 : decode m_Model_push.2.1 38 = .ok (.iload 4, 2) := by decide +kernel
theorem d_Model_push_40 : decode m_Model_push.2.1 40 = .ok (.iastore, 1) := by decide +kernel
theorem d_Model_push_41 : decode m_Model_push.2.1 41 = .ok (.aload_n 0, 1) := by decide +kernel
theorem d_Model_push_42 : decode m_Model_push.2.1 42 = .ok (.dup, 1) := by decide +kernel
theorem d_Model_push_43 : decode m_Model_push.2.1 43 = .ok (.getfield 582, 3) := by decide +kernel
theorem d_Model_push_46 : decode m_Model_push.2.1 46 = .ok (.iconst 1, 1) := by decide +kernel
theorem d_Model_push_47 : decode m_Model_push.2.1 47 = .ok (.iadd, 1) := by decide +kernel
theorem d_Model_push_48 : decode m_Model_push.2.1 48 = .ok (.putfield 582, 3) := by decide +kernel
theorem d_Model_push_51 : decode m_Model_push.2.1 51 = .ok (.return_, 1) := by decide +kernel
theorem d_Model_link_0 : decode m_Model_link.2.1 0 = .ok (.iload_n 1, 1) := by decide +kernel
theorem d_Model_link_1 : decode m_Model_link.2.1 1 = .ok (.iconst (-1), 1) := by decide +kernel
theorem d_Model_link_2 : decode m_Model_link.2.1 2 = .ok (.if_icmp .ne 11, 3) := by decide +kernel
theorem d_Model_link_5 : decode m_Model_link.2.1 5 = .ok (.aload_n 0, 1) := by decide +kernel
theorem d_Model_link_6 : decode m_Model_link.2.1 6 = .ok (.iload_n 3, 1) := by decide +kernel
theorem d_Model_link_7 : decode m_Model_link.2.1 7 = .ok (.putfield 585, 3) := by decide +kernel
theorem d_Model_link_10 : decode m_Model_link.2.1 10 = .ok (.goto 40, 3) := by decide +kernel
theorem d_Model_link_13 : decode m_Model_link.2.1 13 = .ok (.iload_n 2, 1) := by decide +kernel
theorem d_Model_link_14 : decode m_Model_link.2.1 14 = .ok (.iconst 1, 1) := by decide +kernel
theorem d_Model_link_15 : decode m_Model_link.2.1 15 = .ok (.if_icmp .ne 13, 3) := by decide +kernel
theorem d_Model_link_18 : decode m_Model_link.2.1 18 = .ok (.aload_n 0, 1) := by decide +kernel
theorem d_Model_link_19 : decode m_Model_link.2.1 19 = .ok (.getfield 39, 3) := by decide +kernel
theorem d_Model_link_22 : decode m_Model_link.2.1 22 = .ok (.iload_n 1, 1) := by decide +kernel
theorem d_Model_link_23 : decode m_Model_link.2.1 23 = .ok (.iload_n 3, 1) := by decide +kernel
theorem d_Model_link_24 : decode m_Model_link.2.1 24 = .ok (.iastore, 1) := by decide +kernel
theorem d_Model_link_25 : decode m_Model_link.2.1 25 = .ok (.goto 25, 3) := by decide +kernel
theorem d_Model_link_28 : decode m_Model_link.2.1 28 = .ok (.iload_n 2, 1) := by decide +kernel
theorem d_Model_link_29 : decode m_Model_link.2.1 29 = .ok (.iconst 2, 1) := by decide +kernel
theorem d_Model_link_30 : decode m_Model_link.2.1 30 = .ok (.if_icmp .ne 13, 3) := by decide +kernel
theorem d_Model_link_33 : decode m_Model_link.2.1 33 = .ok (.aload_n 0, 1) := by decide +kernel
theorem d_Model_link_34 : decode m_Model_link.2.1 34 = .ok (.getfield 42, 3) := by decide +kernel
theorem d_Model_link_37 : decode m_Model_link.2.1 37 = .ok (.iload_n 1, 1) := by decide +kernel
theorem d_Model_link_38 : decode m_Model_link.2.1 38 = .ok (.iload_n 3, 1) := by decide +kernel
theorem d_Model_link_39 : decode m_Model_link.2.1 39 = .ok (.iastore, 1) := by decide +kernel
theorem d_Model_link_40 : decode m_Model_link.2.1 40 = .ok (.goto 10, 3) := by decide +kernel
theorem d_Model_link_43 : decode m_Model_link.2.1 43 = .ok (.aload_n 0, 1) := by decide +kernel
theorem d_Model_link_44 : decode m_Model_link.2.1 44 = .ok (.getfield 45, 3) := by decide +kernel
theorem d_Model_link_47 : decode m_Model_link.2.1 47 = .ok (.iload_n 1, 1) := by decide +kernel
theorem d_Model_link_48 : decode m_Model_link.2.1 48 = .ok (.iload_n 3, 1) := by decide +kernel
theorem d_Model_link_49 : decode m_Model_link.2.1 49 = .ok (.iastore, 1) := by decide +kernel
theorem d_Model_link_50 : decode m_Model_link.2.1 50 = .ok (.return_, 1) := by decide +kernel
theorem d_Model_node_0 : decode m_Model_node.2.1 0 = .ok (.iload_n 2, 1) := by decide +kernel
theorem d_Model_node_1 : decode m_Model_node.2.1 1 = .ok (.bipush 100, 2) := by decide +kernel
theorem d_Model_node_3 : decode m_Model_node.2.1 3 = .ok (.if_icmp .gt 18, 3) := by decide +kernel
theorem d_Model_node_6 : decode m_Model_node.2.1 6 = .ok (.aload_n 0, 1) := by decide +kernel
theorem d_Model_node_7 : decode m_Model_node.2.1 7 = .ok (.getfield 588, 3) := by decide +kernel
theorem d_Model_node_10 : decode m_Model_node.2.1 10 = .ok (.aload_n 0, 1) := by decide +kernel
theorem d_Model_node_11 : decode m_Model_node.2.1 11 = .ok (.getfield 591, 3) := by decide +kernel
theorem d_Model_node_14 : decode m_Model_node.2.1 14 = .ok (.isub, 1) := by decide +kernel
theorem d_Model_node_15 : decode m_Model_node.2.1 15 = .ok (.sipush 1000, 3) := by decide +kernel
theorem d_Model_node_18 : decode m_Model_node.2.1 18 = .ok (.if_icmp .ne 11, 3) := by decide +kernel
theorem d_Model_node_21 : decode m_Model_node.2.1 21 = .ok (.aload_n 0, 1) := by decide +kernel
theorem d_Model_node_22 : decode m_Model_node.2.1 22 = .ok (.bipush 7, 2) := by decide +kernel
theorem d_Model_node_24 : decode m_Model_node.2.1 24 = .ok (.invokevirtual 573, 3) := by decide +kernel
theorem d_Model_node_27 : decode m_Model_node.2.1 27 = .ok (.iconst (-1), 1) := by decide +kernel
theorem d_Model_node_28 : decode m_Model_node.2.1 28 = .ok (.ireturn, 1) := by decide +kernel
theorem d_Model_node_29 : decode m_Model_node.2.1 29 = .ok (.aload_n 0, 1) := by decide +kernel
theorem d_Model_node_30 : decode m_Model_node.2.1 30 = .ok (.getfield 588, 3) := by decide +kernel
theorem d_Model_node_33 : decode m_Model_node.2.1 33 = .ok (.istore_n 3, 1) := by decide +kernel
theorem d_Model_node_34 : decode m_Model_node.2.1 34 = .ok (.aload_n 0, 1) := by decide +kernel
theorem d_Model_node_35 : decode m_Model_node.2.1 35 = .ok (.dup, 1) := by decide +kernel
theorem d_Model_node_36 : decode m_Model_node.2.1 36 = .ok (.getfield 588, 3) := by decide +kernel
theorem d_Model_node_39 : decode m_Model_node.2.1 39 = .ok (.iconst 1, 1) := by decide +kernel
theorem d_Model_node_40 : decode m_Model_node.2.1 40 = .ok (.iadd, 1) := by decide +kernel
theorem d_Model_node_41 : decode m_Model_node.2.1 41 = .ok (.putfield 588, 3) := by decide +kernel
theorem d_Model_node_44 : decode m_Model_node.2.1 44 = .ok (.aload_n 0, 1) := by decide +kernel
theorem d_Model_node_45 : decode m_Model_node.2.1 45 = .ok (.getfield 26, 3) := by decide +kernel
theorem d_Model_node_48 : decode m_Model_node.2.1 48 = .ok (.iload_n 3, 1) := by decide +kernel
theorem d_Model_node_49 : decode m_Model_node.2.1 49 = .ok (.iload_n 1, 1) := by decide +kernel
theorem d_Model_node_50 : decode m_Model_node.2.1 50 = .ok (.iastore, 1) := by decide +kernel
theorem d_Model_node_51 : decode m_Model_node.2.1 51 = .ok (.aload_n 0, 1) := by decide +kernel
theorem d_Model_node_52 : decode m_Model_node.2.1 52 = .ok (.getfield 29, 3) := by decide +kernel
theorem d_Model_node_55 : decode m_Model_node.2.1 55 = .ok (.iload_n 3, 1) := by decide +kernel
theorem d_Model_node_56 : decode m_Model_node.2.1 56 = .ok (.lconst 0, 1) := by decide +kernel
theorem d_Model_node_57 : decode m_Model_node.2.1 57 = .ok (.lastore, 1) := by decide +kernel
theorem d_Model_node_58 : decode m_Model_node.2.1 58 = .ok (.aload_n 0, 1) := by decide +kernel
theorem d_Model_node_59 : decode m_Model_node.2.1 59 = .ok (.getfield 33, 3) := by decide +kernel
theorem d_Model_node_62 : decode m_Model_node.2.1 62 = .ok (.iload_n 3, 1) := by decide +kernel
theorem d_Model_node_63 : decode m_Model_node.2.1 63 = .ok (.lconst 0, 1) := by decide +kernel
theorem d_Model_node_64 : decode m_Model_node.2.1 64 = .ok (.lastore, 1) := by decide +kernel
theorem d_Model_node_65 : decode m_Model_node.2.1 65 = .ok (.aload_n 0, 1) := by decide +kernel
theorem d_Model_node_66 : decode m_Model_node.2.1 66 = .ok (.getfield 36, 3) := by decide +kernel
theorem d_Model_node_69 : decode m_Model_node.2.1 69 = .ok (.iload_n 3, 1) := by decide +kernel
theorem d_Model_node_70 : decode m_Model_node.2.1 70 = .ok (.lconst 0, 1) := by decide +kernel
theorem d_Model_node_71 : decode m_Model_node.2.1 71 = .ok (.lastore, 1) := by decide +kernel
theorem d_Model_node_72 : decode m_Model_node.2.1 72 = .ok (.aload_n 0, 1) := by decide +kernel
theorem d_Model_node_73 : decode m_Model_node.2.1 73 = .ok (.getfield 39, 3) := by decide +kernel
theorem d_Model_node_76 : decode m_Model_node.2.1 76 = .ok (.iload_n 3, 1) := by decide +kernel
theorem d_Model_node_77 : decode m_Model_node.2.1 77 = .ok (.iconst (-1), 1) := by decide +kernel
theorem d_Model_node_78 : decode m_Model_node.2.1 78 = .ok (.iastore, 1) := by decide +kernel
theorem d_Model_node_79 : decode m_Model_node.2.1 79 = .ok (.aload_n 0, 1) := by decide +kernel
theorem d_Model_node_80 : decode m_Model_node.2.1 80 = .ok (.getfield 42, 3) := by decide +kernel
theorem d_Model_node_83 : decode m_Model_node.2.1 83 = .ok (.iload_n 3, 1) := by decide +kernel
theorem d_Model_node_84 : decode m_Model_node.2.1 84 = .ok (.iconst (-1), 1) := by decide +kernel
theorem d_Model_node_85 : decode m_Model_node.2.1 85 = .ok (.iastore, 1) := by decide +kernel
theorem d_Model_node_86 : decode m_Model_node.2.1 86 = .ok (.aload_n 0, 1) := by decide +kernel
theorem d_Model_node_87 : decode m_Model_node.2.1 87 = .ok (.getfield 45, 3) := by decide +kernel
theorem d_Model_node_90 : decode m_Model_node.2.1 90 = .ok (.iload_n 3, 1) := by decide +kernel
theorem d_Model_node_91 : decode m_Model_node.2.1 91 = .ok (.iconst (-1), 1) := by decide +kernel
theorem d_Model_node_92 : decode m_Model_node.2.1 92 = .ok (.iastore, 1) := by decide +kernel
theorem d_Model_node_93 : decode m_Model_node.2.1 93 = .ok (.aload_n 0, 1) := by decide +kernel
theorem d_Model_node_94 : decode m_Model_node.2.1 94 = .ok (.getfield 48, 3) := by decide +kernel
theorem d_Model_node_97 : decode m_Model_node.2.1 97 = .ok (.iload_n 3, 1) := by decide +kernel
theorem d_Model_node_98 : decode m_Model_node.2.1 98 = .ok (.iconst (-1), 1) := by decide +kernel
theorem d_Model_node_99 : decode m_Model_node.2.1 99 = .ok (.iastore, 1) := by decide +kernel
theorem d_Model_node_100 : decode m_Model_node.2.1 100 = .ok (.aload_n 0, 1) := by decide +kernel
theorem d_Model_node_101 : decode m_Model_node.2.1 101 = .ok (.getfield 57, 3) := by decide +kernel
theorem d_Model_node_104 : decode m_Model_node.2.1 104 = .ok (.iload_n 3, 1) := by decide +kernel
theorem d_Model_node_105 : decode m_Model_node.2.1 105 = .ok (.iconst 0, 1) := by decide +kernel
theorem d_Model_node_106 : decode m_Model_node.2.1 106 = .ok (.bastore, 1) := by decide +kernel
theorem d_Model_node_107 : decode m_Model_node.2.1 107 = .ok (.aload_n 0, 1) := by decide +kernel
theorem d_Model_node_108 : decode m_Model_node.2.1 108 = .ok (.getfield 64, 3) := by decide +kernel
theorem d_Model_node_111 : decode m_Model_node.2.1 111 = .ok (.iload_n 3, 1) := by decide +kernel
theorem d_Model_node_112 : decode m_Model_node.2.1 112 = .ok (.iconst 0, 1) := by decide +kernel
theorem d_Model_node_113 : decode m_Model_node.2.1 113 = .ok (.iastore, 1) := by decide +kernel
theorem d_Model_node_114 : decode m_Model_node.2.1 114 = .ok (.iload_n 3, 1) := by decide +kernel
theorem d_Model_node_115 : decode m_Model_node.2.1 115 = .ok (.ireturn, 1) := by decide +kernel
/-- only cells of S may have changed -/
def Fx {α : Type} (S : Nat → Nat → Prop) (f g : Nat → Nat → α) : Prop := ∀ a k, ¬ S a k → g a k = f a k
theorem Fx.rf {α : Type} {S : Nat → Nat → Prop} {f : Nat → Nat → α} : Fx S f f := fun _ _ _ => rfl
theorem Fx.tr {α : Type} {S : Nat → Nat → Prop} {f g u : Nat → Nat → α} (h : Fx S f g) (q : Fx S g u) : Fx S f u := fun a k e => (q a k e).trans (h a k e)
theorem Fx.mo {α : Type} {S S' : Nat → Nat → Prop} {f g : Nat → Nat → α} (h : Fx S f g) (m : ∀ a k, S a k → S' a k) : Fx S' f g := fun a k e => h a k fun q => e (m a k q)
theorem Fx.up {α : Type} {S : Nat → Nat → Prop} {f : Nat → Nat → α} {a k : Nat} {v : α} (h : S a k) : Fx S f (up2 f a k v) := fun b j e => by
  by_cases e1 : b = a
  · subst e1
    have e3 : j ≠ k := fun e2 => e (by rw [e2]; exact h)
    rw [up2_k _ _ _ e3]
  · rw [up2_row _ _ e1]
theorem Fx.tu {α : Type} {S : Nat → Nat → Prop} {f g : Nat → Nat → α} {a k : Nat} {v : α} (q : Fx S f g) (h : S a k) : Fx S f (up2 g a k v) := q.tr (Fx.up h)
/-- arrays of the reference: only rows from n on and row nd, pairs from pt on, numbers from tp on, the pile may have changed -/
def FA (M : Nat) (nd : Int) (n pt tp : Nat) (I I' : M32) : Prop := (∀ a k, a < M ∨ M + 24 < a ∨ a = M + 1 ∨ a = M + 2 ∨ a = M + 4 ∨ a = M + 5 → I' a k = I a k) ∧ (∀ a k, M + 6 ≤ a → a ≤ M + 18 → k < n → (k : Int) ≠ nd → I' a k = I a k) ∧ (∀ a k, M + 19 ≤ a → a ≤ M + 20 → k < pt → I' a k = I a k) ∧ (∀ k, k < tp → I' (M + 3) k = I (M + 3) k)
theorem FA.rf {M : Nat} {nd : Int} {n pt tp : Nat} {I : M32} : FA M nd n pt tp I I := ⟨fun _ _ _ => rfl, fun _ _ _ _ _ _ => rfl, fun _ _ _ _ _ => rfl, fun _ _ => rfl⟩
theorem FA.tr {M : Nat} {nd : Int} {n pt tp : Nat} {I J K : M32} (h : FA M nd n pt tp I J) (g : FA M nd n pt tp J K) : FA M nd n pt tp I K := ⟨fun a k e => (g.1 a k e).trans (h.1 a k e), fun a k e1 e2 e3 e4 => (g.2.1 a k e1 e2 e3 e4).trans (h.2.1 a k e1 e2 e3 e4), fun a k e1 e2 e3 => (g.2.2.1 a k e1 e2 e3).trans (h.2.2.1 a k e1 e2 e3), fun k e => (g.2.2.2 k e).trans (h.2.2.2 k e)⟩
theorem FA.mo {M : Nat} {nd nd' : Int} {n pt tp n' pt' tp' : Nat} {I I' : M32} (h : FA M nd' n' pt' tp' I I') (hn : n ≤ n') (hp : pt ≤ pt') (ht : tp ≤ tp') (hd : nd' = nd ∨ (n : Int) ≤ nd' ∨ nd' < 0) : FA M nd n pt tp I I' := ⟨h.1, fun a k e1 e2 e3 e4 => h.2.1 a k e1 e2 (by omega) (by omega), fun a k e1 e2 e3 => h.2.2.1 a k e1 e2 (by omega), fun k e => h.2.2.2 k (by omega)⟩
theorem FA.of {M : Nat} {nd : Int} {n pt tp : Nat} {S : Nat → Nat → Prop} {I I' : M32} (h : Fx S I I') (h1 : ∀ a k, S a k → M ≤ a ∧ a ≤ M + 24 ∧ a ≠ M + 1 ∧ a ≠ M + 2 ∧ a ≠ M + 4 ∧ a ≠ M + 5) (h2 : ∀ a k, S a k → M + 6 ≤ a → a ≤ M + 18 → n ≤ k ∨ (k : Int) = nd) (h3 : ∀ a k, S a k → M + 19 ≤ a → a ≤ M + 20 → pt ≤ k) (h4 : ∀ k, S (M + 3) k → tp ≤ k) : FA M nd n pt tp I I' := ⟨fun a k e => h a k fun q => by have := h1 a k q; omega, fun a k e1 e2 e3 e4 => h a k fun q => by have := h2 a k q e1 e2; omega, fun a k e1 e2 e3 => h a k fun q => by have := h3 a k q e1 e2; omega, fun k e => h _ k fun q => by have := h4 k q; omega⟩
/-- fields of the reference: only those of l may have changed -/
def FF (M : Nat) (l : List Nat) (I I' : M32) : Prop := ∀ k, k ∉ l → I' M k = I M k
theorem FF.rf {M : Nat} {l : List Nat} {I : M32} : FF M l I I := fun _ _ => rfl
theorem FF.tr {M : Nat} {l : List Nat} {I J K : M32} (h : FF M l I J) (g : FF M l J K) : FF M l I K := fun k e => (g k e).trans (h k e)
theorem FF.mo {M : Nat} {l l' : List Nat} {I J : M32} (h : FF M l I J) (g : ∀ k ∈ l, k ∈ l') : FF M l' I J := fun k e => h k fun q => e (g k q)
theorem FF.of {M : Nat} {l : List Nat} {S : Nat → Nat → Prop} {I J : M32} (h : Fx S I J) (g : ∀ k, S M k → k ∈ l) : FF M l I J := fun k e => h M k fun q => e (g k q)
theorem FF.up {M k : Nat} {l : List Nat} {I : M32} {v : Int32} (h : k ∈ l) : FF M l I (up2 I M k v) := fun j e => up2_k _ _ _ fun q => e (q ▸ h)
/-- the long cells of the reference that reading changes -/
def FLn (M : Nat) (nd : Int) (n : Nat) (L L' : M64) : Prop := (∀ a k, a < M ∨ (M < a ∧ a < M + 6) ∨ M + 18 < a → L' a k = L a k) ∧ (∀ k, k ≠ 16 → L' M k = L M k) ∧ (∀ a k, M + 6 ≤ a → a ≤ M + 18 → k < n → (k : Int) ≠ nd → L' a k = L a k)
theorem FLn.rf {M : Nat} {nd : Int} {n : Nat} {L : M64} : FLn M nd n L L := ⟨fun _ _ _ => rfl, fun _ _ => rfl, fun _ _ _ _ _ _ => rfl⟩
theorem FLn.tr {M : Nat} {nd : Int} {n : Nat} {I J K : M64} (h : FLn M nd n I J) (g : FLn M nd n J K) : FLn M nd n I K := ⟨fun a k e => (g.1 a k e).trans (h.1 a k e), fun k e => (g.2.1 k e).trans (h.2.1 k e), fun a k e1 e2 e3 e4 => (g.2.2 a k e1 e2 e3 e4).trans (h.2.2 a k e1 e2 e3 e4)⟩
theorem FLn.mo {M : Nat} {nd nd' : Int} {n n' : Nat} {I I' : M64} (h : FLn M nd' n' I I') (hn : n ≤ n') (hd : nd' = nd ∨ (n : Int) ≤ nd' ∨ nd' < 0) : FLn M nd n I I' := ⟨h.1, h.2.1, fun a k e1 e2 e3 e4 => h.2.2 a k e1 e2 (by omega) (by omega)⟩
theorem FLn.of {M : Nat} {nd : Int} {n : Nat} {S : Nat → Nat → Prop} {I I' : M64} (h : Fx S I I') (h1 : ∀ a k, S a k → (a = M ∧ k = 16) ∨ (M + 6 ≤ a ∧ a ≤ M + 18 ∧ (n ≤ k ∨ (k : Int) = nd))) : FLn M nd n I I' := ⟨fun a k e => h a k fun q => by have := h1 a k q; omega, fun k e => h M k fun q => by have := h1 M k q; omega, fun a k e1 e2 e3 e4 => h a k fun q => by have := h1 a k q; omega⟩
/-- what is wanted: what, node, slot, depth; the next one first -/
abbrev Wt := Int × Int × Int × Int
def PileV (I : M32) (M : Nat) : List Wt → Prop
  | [] => True
  | w :: l => (I (M + 21) l.length = cI w.1 ∧ I (M + 22) l.length = cI w.2.1 ∧ I (M + 23) l.length = cI w.2.2.1 ∧ I (M + 24) l.length = cI w.2.2.2) ∧ PileV I M l
theorem PileV.fx {I J : M32} {M : Nat} : ∀ {l : List Wt}, PileV I M l → (∀ a k, M + 21 ≤ a → a ≤ M + 24 → k < l.length → J a k = I a k) → PileV J M l
  | [], _, _ => trivial
  | _ :: l, h, hf => ⟨⟨by rw [hf _ _ (by omega) (by omega) (Nat.lt_succ_self _)]; exact h.1.1, by rw [hf _ _ (by omega) (by omega) (Nat.lt_succ_self _)]; exact h.1.2.1, by rw [hf _ _ (by omega) (by omega) (Nat.lt_succ_self _)]; exact h.1.2.2.1, by rw [hf _ _ (by omega) (by omega) (Nat.lt_succ_self _)]; exact h.1.2.2.2⟩, PileV.fx h.2 fun a k h1 h2 h3 => hf a k h1 h2 (Nat.lt_succ_of_lt h3)⟩
/-- the cells of the pile -/
abbrev SPl (M a k : Nat) : Prop := (M + 21 ≤ a ∧ a ≤ M + 24) ∨ (a = M ∧ k = 43)
/-- the pile holds l; since I0 only the pile has changed -/
def PA (M : Nat) (I0 I : M32) (l : List Wt) : Prop := PileV I M l ∧ I M 43 = cI l.length ∧ Fx (SPl M) I0 I
theorem c_Model_push (d : Nat) {M : Nat} {x y z u : Int} {l : List Wt} {I0 I : M32} {L : M64} {R : MR} {T : SH} (hM : MdlS M R T) (hA : PA M I0 I l) (hl : l.length < 30000) :
    Call m_Model_push y_Model_push d 0 0 [.ref M, .int (cI x), .int (cI y), .int (cI z), .int (cI u)] I L R T (rV fun I' L' R' T' => PA M I0 I' ((x, y, z, u) :: l) ∧ L' = L ∧ R' = R ∧ T' = T) := by
  refine Call.ofRun (by decide) ⟨rfl, rfl⟩ (Nat.le_of_ble_eq_true rfl) ?_
  refine Run.gen fun Q hQ => ?_
  obtain ⟨h1, h2, h3⟩ := hA
  obtain ⟨w, hw⟩ : ∃ w, w = l.length := ⟨_, rfl⟩
  rw [← hw] at h2 hl
  refine q_aload_n d_Model_push_0 rfl ?_
  refine q_getR d_Model_push_1 fl_Model_73 hM.1 ⟨rfl, by decide⟩ (mR39 hM) ?_
  refine q_aload_n d_Model_push_4 rfl ?_
  refine j_getI (v := (cI (w : Int))) d_Model_push_5 fl_Model_582 hM.1 ⟨rfl, by decide⟩ h2 ?_
  refine q_iload_n d_Model_push_8 rfl ?_
  refine j_iast (j := w) d_Model_push_9 (mT39 hM) (mN39 hM) (by omega) (by omega) (by omega) ?_
  refine q_aload_n d_Model_push_10 rfl ?_
  refine q_getR d_Model_push_11 fl_Model_76 hM.1 ⟨rfl, by decide⟩ (mR40 hM) ?_
  refine q_aload_n d_Model_push_14 rfl ?_
  refine j_getI (v := (cI (w : Int))) d_Model_push_15 fl_Model_582 hM.1 ⟨rfl, by decide⟩ ((up2_a _ _ _ (by omega)).trans (h2)) ?_
  refine q_iload_n d_Model_push_18 rfl ?_
  refine j_iast (j := w) d_Model_push_19 (mT40 hM) (mN40 hM) (by omega) (by omega) (by omega) ?_
  refine q_aload_n d_Model_push_20 rfl ?_
  refine q_getR d_Model_push_21 fl_Model_79 hM.1 ⟨rfl, by decide⟩ (mR41 hM) ?_
  refine q_aload_n d_Model_push_24 rfl ?_
  refine j_getI (v := (cI (w : Int))) d_Model_push_25 fl_Model_582 hM.1 ⟨rfl, by decide⟩ ((up2_a _ _ _ (by omega)).trans ((up2_a _ _ _ (by omega)).trans (h2))) ?_
  refine q_iload_n d_Model_push_28 rfl ?_
  refine j_iast (j := w) d_Model_push_29 (mT41 hM) (mN41 hM) (by omega) (by omega) (by omega) ?_
  refine q_aload_n d_Model_push_30 rfl ?_
  refine q_getR d_Model_push_31 fl_Model_82 hM.1 ⟨rfl, by decide⟩ (mR42 hM) ?_
  refine q_aload_n d_Model_push_34 rfl ?_
  refine j_getI (v := (cI (w : Int))) d_Model_push_35 fl_Model_582 hM.1 ⟨rfl, by decide⟩ ((up2_a _ _ _ (by omega)).trans ((up2_a _ _ _ (by omega)).trans ((up2_a _ _ _ (by omega)).trans (h2)))) ?_
  refine q_iload d_Model_push_38 rfl ?_
  refine j_iast (j := w) d_Model_push_40 (mT42 hM) (mN42 hM) (by omega) (by omega) (by omega) ?_
  refine q_aload_n d_Model_push_41 rfl ?_
  refine q_dup d_Model_push_42 rfl ?_
  refine j_getI (v := (cI (w : Int))) d_Model_push_43 fl_Model_582 hM.1 ⟨rfl, by decide⟩ ((up2_a _ _ _ (by omega)).trans ((up2_a _ _ _ (by omega)).trans ((up2_a _ _ _ (by omega)).trans ((up2_a _ _ _ (by omega)).trans (h2))))) ?_
  refine j_iconst d_Model_push_46 ?_
  refine j_iadd d_Model_push_47 ?_
  refine q_putI d_Model_push_48 fl_Model_582 hM.1 ⟨rfl, by decide, rfl, rfl⟩ ?_
  refine q_return d_Model_push_51 rfl ?_
  refine hQ _ _ _ _ _ ?_
  refine ⟨rfl, ⟨⟨⟨?_, ?_, ?_, ?_⟩, h1.fx fun a k e1 e2 e3 => ?_⟩, ?_, ((((h3.tu (Or.inl ⟨by omega, by omega⟩)).tu (Or.inl ⟨by omega, by omega⟩)).tu (Or.inl ⟨by omega, by omega⟩)).tu (Or.inl ⟨by omega, by omega⟩)).tu (Or.inr ⟨rfl, rfl⟩)⟩, rfl, rfl, rfl⟩
  · rw [← hw, up2_a _ _ _ (by omega), up2_a _ _ _ (by omega), up2_a _ _ _ (by omega), up2_a _ _ _ (by omega), up2_s]
  · rw [← hw, up2_a _ _ _ (by omega), up2_a _ _ _ (by omega), up2_a _ _ _ (by omega), up2_s]
  · rw [← hw, up2_a _ _ _ (by omega), up2_a _ _ _ (by omega), up2_s]
  · rw [← hw, up2_a _ _ _ (by omega), up2_s]
  · rw [← hw] at e3
    have s1 : ∀ (f : M32) (b : Nat) (v : Int32), up2 f b w v a k = f a k := fun f b v => by
      by_cases e : a = b
      · subst e; rw [up2_k _ _ _ (by omega)]
      · rw [up2_row _ _ e]
    rw [up2_a _ _ _ (by omega), s1, s1, s1, s1]
  · rw [up2_s, List.length_cons, ← hw]; congr 1
/-- what link writes -/
def lkI (M : Nat) (I : M32) (u s c : Int) : M32 := if u = -1 then up2 I M 38 (cI c) else if s = 1 then up2 I (M + 10) u.toNat (cI c) else if s = 2 then up2 I (M + 11) u.toNat (cI c) else up2 I (M + 12) u.toNat (cI c)
theorem c_Model_link (d : Nat) {M : Nat} {u s c : Int} {I : M32} {L : M64} {R : MR} {T : SH} (hM : MdlS M R T) (hu : -1 ≤ u) (hu5 : u < 5100) (hs : inI s) : Call m_Model_link y_Model_link d 0 0 [.ref M, .int (cI u), .int (cI s), .int (cI c)] I L R T (rV fun I' L' R' T' => I' = lkI M I u s c ∧ L' = L ∧ R' = R ∧ T' = T) := by
  refine Call.ofRun (by decide) ⟨rfl, rfl⟩ (Nat.le_of_ble_eq_true rfl) ?_
  refine Run.gen fun Q hQ => ?_
  refine q_iload_n d_Model_link_0 rfl ?_
  refine j_iconst d_Model_link_1 ?_
  refine j_icmp_ne (tgt := 13) d_Model_link_2 (by decide) (by omega) (by omega) (fun hp1 => ?_) (fun hp1 => ?_)
  · refine q_iload_n d_Model_link_13 rfl ?_
    refine j_iconst d_Model_link_14 ?_
    refine j_icmp_ne (tgt := 28) d_Model_link_15 (by decide) (by omega) (by omega) (fun hp2 => ?_) (fun hp2 => ?_)
    · refine q_iload_n d_Model_link_28 rfl ?_
      refine j_iconst d_Model_link_29 ?_
      refine j_icmp_ne (tgt := 43) d_Model_link_30 (by decide) (by omega) (by omega) (fun hp3 => ?_) (fun hp3 => ?_)
      · refine q_aload_n d_Model_link_43 rfl ?_
        refine q_getR d_Model_link_44 fl_Model_45 hM.1 ⟨rfl, by decide⟩ (mR25 hM) ?_
        refine q_iload_n d_Model_link_47 rfl ?_
        refine q_iload_n d_Model_link_48 rfl ?_
        refine j_iast (j := u.toNat) d_Model_link_49 (mT25 hM) (mN25 hM) (by omega) (by omega) (by omega) ?_
        refine q_return d_Model_link_50 rfl ?_
        refine hQ _ _ _ _ _ ?_
        exact ⟨rfl, by unfold lkI; (repeat' split) <;> first | rfl | omega, rfl, rfl, rfl⟩
      · refine q_aload_n d_Model_link_33 rfl ?_
        refine q_getR d_Model_link_34 fl_Model_42 hM.1 ⟨rfl, by decide⟩ (mR24 hM) ?_
        refine q_iload_n d_Model_link_37 rfl ?_
        refine q_iload_n d_Model_link_38 rfl ?_
        refine j_iast (j := u.toNat) d_Model_link_39 (mT24 hM) (mN24 hM) (by omega) (by omega) (by omega) ?_
        refine q_goto (tgt := 50) d_Model_link_40 (by decide) ?_
        refine q_return d_Model_link_50 rfl ?_
        refine hQ _ _ _ _ _ ?_
        exact ⟨rfl, by unfold lkI; (repeat' split) <;> first | rfl | omega, rfl, rfl, rfl⟩
    · refine q_aload_n d_Model_link_18 rfl ?_
      refine q_getR d_Model_link_19 fl_Model_39 hM.1 ⟨rfl, by decide⟩ (mR23 hM) ?_
      refine q_iload_n d_Model_link_22 rfl ?_
      refine q_iload_n d_Model_link_23 rfl ?_
      refine j_iast (j := u.toNat) d_Model_link_24 (mT23 hM) (mN23 hM) (by omega) (by omega) (by omega) ?_
      refine q_goto (tgt := 50) d_Model_link_25 (by decide) ?_
      refine q_return d_Model_link_50 rfl ?_
      refine hQ _ _ _ _ _ ?_
      exact ⟨rfl, by unfold lkI; (repeat' split) <;> first | rfl | omega, rfl, rfl, rfl⟩
  · refine q_aload_n d_Model_link_5 rfl ?_
    refine q_iload_n d_Model_link_6 rfl ?_
    refine q_putI d_Model_link_7 fl_Model_585 hM.1 ⟨rfl, by decide, rfl, rfl⟩ ?_
    refine q_goto (tgt := 50) d_Model_link_10 (by decide) ?_
    refine q_return d_Model_link_50 rfl ?_
    refine hQ _ _ _ _ _ ?_
    exact ⟨rfl, by unfold lkI; (repeat' split) <;> first | rfl | omega, rfl, rfl, rfl⟩
/-- the cells of node n that node() writes -/
abbrev SNd (M n a k : Nat) : Prop := (a = M ∧ k = 37) ∨ (k = n ∧ (a = M + 6 ∨ (M + 10 ≤ a ∧ a ≤ M + 13) ∨ a = M + 16 ∨ a = M + 18))
abbrev SNl (M n a k : Nat) : Prop := k = n ∧ M + 7 ≤ a ∧ a ≤ M + 9
/-- a node of the reference: kind, one two three next, names, whether it asks, pairs -/
def NdM (I : M32) (L : M64) (M n : Nat) (kd a b c x : Int) (p q r : Int) (s : Int) (w : Int) : Prop := I (M + 6) n = cI kd ∧ I (M + 10) n = cI a ∧ I (M + 11) n = cI b ∧ I (M + 12) n = cI c ∧ I (M + 13) n = cI x ∧ L (M + 7) n = cL p ∧ L (M + 8) n = cL q ∧ L (M + 9) n = cL r ∧ I (M + 16) n = cI s ∧ I (M + 18) n = cI w
theorem c_Model_node (d : Nat) {M n g : Nat} {kd dep : Int} {I : M32} {L : M64} {R : MR} {T : SH} (hd : 1 ≤ d) (hM : MdlS M R T) (hn : I M 37 = cI n) (hg : I M 36 = cI g) (hgn : g ≤ n) (hn5 : n < 5100) (hdp : inI dep) (hF : I M 17 = cI 0) :
    Call m_Model_node y_Model_node d 0 0 [.ref M, .int (cI kd), .int (cI dep)] I L R T (rI fun r I' L' R' T' => ((100 < dep ∨ n - g = 1000) ∧ r = cI (-1) ∧ I' = up2 (up2 I M 17 (cI 7)) M 18 (I M 14) ∧ L' = L ∨ ¬ (100 < dep ∨ n - g = 1000) ∧ r = cI n ∧ NdM I' L' M n kd (-1) (-1) (-1) (-1) 0 0 0 0 0 ∧ I' M 37 = cI (n + 1 : Nat) ∧ Fx (SNd M n) I I' ∧ Fx (SNl M n) L L') ∧ R' = R ∧ T' = T) := by
  refine Call.ofRun (by decide) ⟨rfl, rfl⟩ (Nat.le_of_ble_eq_true rfl) ?_
  refine Run.gen fun Q hQ => ?_
  have bad : ∀ (h : 100 < dep ∨ n - g = 1000), True → Run m_Model_node d 0 0 21 [(0, .ref M), (1, .int (cI kd)), (2, .int (cI dep))] [] I L R T Q := by
    intro h _
    refine q_aload_n d_Model_node_21 rfl ?_
    refine j_bipush d_Model_node_22 (by decide) ?_
    refine q_callV (ci := 17) (rc := 0) (rs := 0) (rest := []) d_Model_node_24 ml_Model_573 ok_Model_fail rfl hM.1 (by decide) (c_Model_fail (d - 1) hM hF (by decide)) rfl rfl (by omega) (Nat.le_of_ble_eq_true rfl) (kr_V (fun I1 L1 R1 T1 hh => ?_)) kt_V
    obtain ⟨e1, e2, e3, e4⟩ := hh
    refine j_iconst d_Model_node_27 ?_
    refine q_ireturn d_Model_node_28 rfl rfl ?_
    refine hQ _ _ _ _ _ ?_
    exact ⟨_, rfl, Or.inl ⟨h, rfl, by rw [e1, if_pos rfl], e2⟩, e3, e4⟩
  refine q_iload_n d_Model_node_0 rfl ?_
  refine j_bipush d_Model_node_1 (by decide) ?_
  refine j_icmp_gt (tgt := 21) d_Model_node_3 (by decide) (by omega) (by omega) (fun h1 => ?_) (fun h1 => ?_)
  · skip
    exact bad (Or.inl (by omega)) trivial
  · skip
    refine q_aload_n d_Model_node_6 rfl ?_
    refine j_getI (v := (cI (n : Int))) d_Model_node_7 fl_Model_588 hM.1 ⟨rfl, by decide⟩ hn ?_
    refine q_aload_n d_Model_node_10 rfl ?_
    refine j_getI (v := (cI (g : Int))) d_Model_node_11 fl_Model_591 hM.1 ⟨rfl, by decide⟩ hg ?_
    refine j_isub d_Model_node_14 ?_
    refine j_sipush d_Model_node_15 (by decide) ?_
    refine j_icmp_ne (tgt := 29) d_Model_node_18 (by decide) (by omega) (by omega) (fun h2 => ?_) (fun h2 => ?_)
    · skip
      refine q_aload_n d_Model_node_29 rfl ?_
      refine j_getI (v := (cI (n : Int))) d_Model_node_30 fl_Model_588 hM.1 ⟨rfl, by decide⟩ hn ?_
      refine q_istore_n (lv' := [(3, .int (cI (n : Int))), (0, .ref M), (1, .int (cI kd)), (2, .int (cI dep))]) d_Model_node_33 (by decide) rfl ?_
      refine q_aload_n d_Model_node_34 rfl ?_
      refine q_dup d_Model_node_35 rfl ?_
      refine j_getI (v := (cI (n : Int))) d_Model_node_36 fl_Model_588 hM.1 ⟨rfl, by decide⟩ hn ?_
      refine j_iconst d_Model_node_39 ?_
      refine j_iadd d_Model_node_40 ?_
      refine q_putI d_Model_node_41 fl_Model_588 hM.1 ⟨rfl, by decide, rfl, rfl⟩ ?_
      refine q_aload_n d_Model_node_44 rfl ?_
      refine q_getR d_Model_node_45 fl_Model_26 hM.1 ⟨rfl, by decide⟩ (mR19 hM) ?_
      refine q_iload_n d_Model_node_48 rfl ?_
      refine q_iload_n d_Model_node_49 rfl ?_
      refine j_iast (j := n) d_Model_node_50 (mT19 hM) (mN19 hM) (by omega) (by omega) (by omega) ?_
      refine q_aload_n d_Model_node_51 rfl ?_
      refine q_getR d_Model_node_52 fl_Model_29 hM.1 ⟨rfl, by decide⟩ (mR20 hM) ?_
      refine q_iload_n d_Model_node_55 rfl ?_
      refine j_lconst (z := 0) d_Model_node_56 (by decide) ?_
      refine j_last (j := n) d_Model_node_57 (mT20 hM) (mN20 hM) (by omega) (by omega) (by omega) ?_
      refine q_aload_n d_Model_node_58 rfl ?_
      refine q_getR d_Model_node_59 fl_Model_33 hM.1 ⟨rfl, by decide⟩ (mR21 hM) ?_
      refine q_iload_n d_Model_node_62 rfl ?_
      refine j_lconst (z := 0) d_Model_node_63 (by decide) ?_
      refine j_last (j := n) d_Model_node_64 (mT21 hM) (mN21 hM) (by omega) (by omega) (by omega) ?_
      refine q_aload_n d_Model_node_65 rfl ?_
      refine q_getR d_Model_node_66 fl_Model_36 hM.1 ⟨rfl, by decide⟩ (mR22 hM) ?_
      refine q_iload_n d_Model_node_69 rfl ?_
      refine j_lconst (z := 0) d_Model_node_70 (by decide) ?_
      refine j_last (j := n) d_Model_node_71 (mT22 hM) (mN22 hM) (by omega) (by omega) (by omega) ?_
      refine q_aload_n d_Model_node_72 rfl ?_
      refine q_getR d_Model_node_73 fl_Model_39 hM.1 ⟨rfl, by decide⟩ (mR23 hM) ?_
      refine q_iload_n d_Model_node_76 rfl ?_
      refine j_iconst d_Model_node_77 ?_
      refine j_iast (j := n) d_Model_node_78 (mT23 hM) (mN23 hM) (by omega) (by omega) (by omega) ?_
      refine q_aload_n d_Model_node_79 rfl ?_
      refine q_getR d_Model_node_80 fl_Model_42 hM.1 ⟨rfl, by decide⟩ (mR24 hM) ?_
      refine q_iload_n d_Model_node_83 rfl ?_
      refine j_iconst d_Model_node_84 ?_
      refine j_iast (j := n) d_Model_node_85 (mT24 hM) (mN24 hM) (by omega) (by omega) (by omega) ?_
      refine q_aload_n d_Model_node_86 rfl ?_
      refine q_getR d_Model_node_87 fl_Model_45 hM.1 ⟨rfl, by decide⟩ (mR25 hM) ?_
      refine q_iload_n d_Model_node_90 rfl ?_
      refine j_iconst d_Model_node_91 ?_
      refine j_iast (j := n) d_Model_node_92 (mT25 hM) (mN25 hM) (by omega) (by omega) (by omega) ?_
      refine q_aload_n d_Model_node_93 rfl ?_
      refine q_getR d_Model_node_94 fl_Model_48 hM.1 ⟨rfl, by decide⟩ (mR26 hM) ?_
      refine q_iload_n d_Model_node_97 rfl ?_
      refine j_iconst d_Model_node_98 ?_
      refine j_iast (j := n) d_Model_node_99 (mT26 hM) (mN26 hM) (by omega) (by omega) (by omega) ?_
      refine q_aload_n d_Model_node_100 rfl ?_
      refine q_getR d_Model_node_101 fl_Model_57 hM.1 ⟨rfl, by decide⟩ (mR29 hM) ?_
      refine q_iload_n d_Model_node_104 rfl ?_
      refine j_iconst d_Model_node_105 ?_
      refine j_zast (j := n) d_Model_node_106 (mT29 hM) (mN29 hM) (by omega) (by omega) (by omega) (Or.inl rfl) ?_
      refine q_aload_n d_Model_node_107 rfl ?_
      refine q_getR d_Model_node_108 fl_Model_64 hM.1 ⟨rfl, by decide⟩ (mR31 hM) ?_
      refine q_iload_n d_Model_node_111 rfl ?_
      refine j_iconst d_Model_node_112 ?_
      refine j_iast (j := n) d_Model_node_113 (mT31 hM) (mN31 hM) (by omega) (by omega) (by omega) ?_
      refine q_iload_n d_Model_node_114 rfl ?_
      refine q_ireturn d_Model_node_115 rfl rfl ?_
      refine hQ _ _ _ _ _ ?_
      refine ⟨_, rfl, Or.inr ⟨by omega, rfl, ⟨?_, ?_, ?_, ?_, ?_, ?_, ?_, ?_, ?_, ?_⟩, ?_, ?_, ?_⟩, rfl, rfl⟩
      all_goals first | (simp only [up2_s, up2_a _ _ _ (show M + 6 ≠ M + 10 by omega), up2_a _ _ _ (show M + 6 ≠ M + 11 by omega), up2_a _ _ _ (show M + 6 ≠ M + 12 by omega), up2_a _ _ _ (show M + 6 ≠ M + 13 by omega), up2_a _ _ _ (show M + 6 ≠ M + 16 by omega), up2_a _ _ _ (show M + 6 ≠ M + 18 by omega), up2_a _ _ _ (show M + 10 ≠ M + 11 by omega), up2_a _ _ _ (show M + 10 ≠ M + 12 by omega), up2_a _ _ _ (show M + 10 ≠ M + 13 by omega), up2_a _ _ _ (show M + 10 ≠ M + 16 by omega), up2_a _ _ _ (show M + 10 ≠ M + 18 by omega), up2_a _ _ _ (show M + 11 ≠ M + 12 by omega), up2_a _ _ _ (show M + 11 ≠ M + 13 by omega), up2_a _ _ _ (show M + 11 ≠ M + 16 by omega), up2_a _ _ _ (show M + 11 ≠ M + 18 by omega), up2_a _ _ _ (show M + 12 ≠ M + 13 by omega), up2_a _ _ _ (show M + 12 ≠ M + 16 by omega), up2_a _ _ _ (show M + 12 ≠ M + 18 by omega), up2_a _ _ _ (show M + 13 ≠ M + 16 by omega), up2_a _ _ _ (show M + 13 ≠ M + 18 by omega), up2_a _ _ _ (show M + 16 ≠ M + 18 by omega), up2_a _ _ _ (show M + 7 ≠ M + 8 by omega), up2_a _ _ _ (show M + 7 ≠ M + 9 by omega), up2_a _ _ _ (show M + 8 ≠ M + 9 by omega)]; done) | skip
      · rw [up2_a _ _ _ (by omega), up2_a _ _ _ (by omega), up2_a _ _ _ (by omega), up2_a _ _ _ (by omega), up2_a _ _ _ (by omega), up2_a _ _ _ (by omega), up2_a _ _ _ (by omega), up2_s]; simp
      · exact (((((((Fx.up (Or.inl ⟨rfl, rfl⟩)).tu (Or.inr ⟨rfl, by omega⟩)).tu (Or.inr ⟨rfl, by omega⟩)).tu (Or.inr ⟨rfl, by omega⟩)).tu (Or.inr ⟨rfl, by omega⟩)).tu (Or.inr ⟨rfl, by omega⟩)).tu (Or.inr ⟨rfl, by omega⟩)).tu (Or.inr ⟨rfl, by omega⟩)
      · exact ((Fx.up ⟨rfl, by omega, by omega⟩).tu ⟨rfl, by omega, by omega⟩).tu ⟨rfl, by omega, by omega⟩
    · skip
      exact bad (Or.inr (by omega)) trivial

