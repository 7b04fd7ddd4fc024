/-! ===== 71 NODES: open, shut, node ===== -/
theorem d_Nodes_open_0 : decode m_Nodes_open.2.1 0 = .ok (.iconst 0, 1) := by decide +kernel
theorem d_Nodes_open_1 : decode m_Nodes_open.2.1 1 = .ok (.istore_n 1, 1) := by decide +kernel
theorem d_Nodes_open_2 : decode m_Nodes_open.2.1 2 = .ok (.aload_n 0, 1) := by decide +kernel
theorem d_Nodes_open_3 : decode m_Nodes_open.2.1 3 = .ok (.getfield 3, 3) := by decide +kernel
theorem d_Nodes_open_6 : decode m_Nodes_open.2.1 6 = .ok (.getfield 83, 3) := by decide +kernel
theorem d_Nodes_open_9 : decode m_Nodes_open.2.1 9 = .ok (.getfield 100, 3) := by decide +kernel
theorem d_Nodes_open_12 : decode m_Nodes_open.2.1 12 = .ok (.bipush 103, 2) := by decide +kernel
theorem d_Nodes_open_14 : decode m_Nodes_open.2.1 14 = .ok (.if_icmp .ne 19, 3) := by decide +kernel
theorem d_Nodes_open_17 : decode m_Nodes_open.2.1 17 = .ok (.aload_n 0, 1) := by decide +kernel
theorem d_Nodes_open_18 : decode m_Nodes_open.2.1 18 = .ok (.getfield 3, 3) := by decide +kernel
theorem d_Nodes_open_21 : decode m_Nodes_open.2.1 21 = .ok (.getfield 83, 3) := by decide +kernel
theorem d_Nodes_open_24 : decode m_Nodes_open.2.1 24 = .ok (.invokevirtual 103, 3) := by decide +kernel
theorem d_Nodes_open_27 : decode m_Nodes_open.2.1 27 = .ok (.iinc 1 1, 3) := by decide +kernel
theorem d_Nodes_open_30 : decode m_Nodes_open.2.1 30 = .ok (.goto (-28), 3) := by decide +kernel
theorem d_Nodes_open_33 : decode m_Nodes_open.2.1 33 = .ok (.aload_n 0, 1) := by decide +kernel
theorem d_Nodes_open_34 : decode m_Nodes_open.2.1 34 = .ok (.getfield 3, 3) := by decide +kernel
theorem d_Nodes_open_37 : decode m_Nodes_open.2.1 37 = .ok (.getfield 83, 3) := by decide +kernel
theorem d_Nodes_open_40 : decode m_Nodes_open.2.1 40 = .ok (.getfield 100, 3) := by decide +kernel
theorem d_Nodes_open_43 : decode m_Nodes_open.2.1 43 = .ok (.bipush 107, 2) := by decide +kernel
theorem d_Nodes_open_45 : decode m_Nodes_open.2.1 45 = .ok (.if_icmp .ne 14, 3) := by decide +kernel
theorem d_Nodes_open_48 : decode m_Nodes_open.2.1 48 = .ok (.aload_n 0, 1) := by decide +kernel
theorem d_Nodes_open_49 : decode m_Nodes_open.2.1 49 = .ok (.getfield 3, 3) := by decide +kernel
theorem d_Nodes_open_52 : decode m_Nodes_open.2.1 52 = .ok (.getfield 83, 3) := by decide +kernel
theorem d_Nodes_open_55 : decode m_Nodes_open.2.1 55 = .ok (.iconst 3, 1) := by decide +kernel
theorem d_Nodes_open_56 : decode m_Nodes_open.2.1 56 = .ok (.invokevirtual 87, 3) := by decide +kernel
theorem d_Nodes_open_59 : decode m_Nodes_open.2.1 59 = .ok (.iload_n 1, 1) := by decide +kernel
theorem d_Nodes_open_60 : decode m_Nodes_open.2.1 60 = .ok (.ireturn, 1) := by decide +kernel
theorem d_Nodes_shut_0 : decode m_Nodes_shut.2.1 0 = .ok (.iconst 0, 1) := by decide +kernel
theorem d_Nodes_shut_1 : decode m_Nodes_shut.2.1 1 = .ok (.istore_n 2, 1) := by decide +kernel
theorem d_Nodes_shut_2 : decode m_Nodes_shut.2.1 2 = .ok (.iload_n 2, 1) := by decide +kernel
theorem d_Nodes_shut_3 : decode m_Nodes_shut.2.1 3 = .ok (.iload_n 1, 1) := by decide +kernel
theorem d_Nodes_shut_4 : decode m_Nodes_shut.2.1 4 = .ok (.if_icmp .ge 21, 3) := by decide +kernel
theorem d_Nodes_shut_7 : decode m_Nodes_shut.2.1 7 = .ok (.aload_n 0, 1) := by decide +kernel
theorem d_Nodes_shut_8 : decode m_Nodes_shut.2.1 8 = .ok (.getfield 3, 3) := by decide +kernel
theorem d_Nodes_shut_11 : decode m_Nodes_shut.2.1 11 = .ok (.getfield 83, 3) := by decide +kernel
theorem d_Nodes_shut_14 : decode m_Nodes_shut.2.1 14 = .ok (.bipush 104, 2) := by decide +kernel
theorem d_Nodes_shut_16 : decode m_Nodes_shut.2.1 16 = .ok (.invokevirtual 105, 3) := by decide +kernel
theorem d_Nodes_shut_19 : decode m_Nodes_shut.2.1 19 = .ok (.iinc 2 1, 3) := by decide +kernel
theorem d_Nodes_shut_22 : decode m_Nodes_shut.2.1 22 = .ok (.goto (-20), 3) := by decide +kernel
theorem d_Nodes_shut_25 : decode m_Nodes_shut.2.1 25 = .ok (.return_, 1) := by decide +kernel
theorem d_Nodes_node_0 : decode m_Nodes_node.2.1 0 = .ok (.iload_n 2, 1) := by decide +kernel
theorem d_Nodes_node_1 : decode m_Nodes_node.2.1 1 = .ok (.bipush 100, 2) := by decide +kernel
theorem d_Nodes_node_3 : decode m_Nodes_node.2.1 3 = .ok (.if_icmp .gt 18, 3) := by decide +kernel
theorem d_Nodes_node_6 : decode m_Nodes_node.2.1 6 = .ok (.aload_n 0, 1) := by decide +kernel
theorem d_Nodes_node_7 : decode m_Nodes_node.2.1 7 = .ok (.getfield 77, 3) := by decide +kernel
theorem d_Nodes_node_10 : decode m_Nodes_node.2.1 10 = .ok (.aload_n 0, 1) := by decide +kernel
theorem d_Nodes_node_11 : decode m_Nodes_node.2.1 11 = .ok (.getfield 80, 3) := by decide +kernel
theorem d_Nodes_node_14 : decode m_Nodes_node.2.1 14 = .ok (.isub, 1) := by decide +kernel
theorem d_Nodes_node_15 : decode m_Nodes_node.2.1 15 = .ok (.sipush 1000, 3) := by decide +kernel
theorem d_Nodes_node_18 : decode m_Nodes_node.2.1 18 = .ok (.if_icmp .ne 15, 3) := by decide +kernel
theorem d_Nodes_node_21 : decode m_Nodes_node.2.1 21 = .ok (.aload_n 0, 1) := by decide +kernel
theorem d_Nodes_node_22 : decode m_Nodes_node.2.1 22 = .ok (.getfield 3, 3) := by decide +kernel
theorem d_Nodes_node_25 : decode m_Nodes_node.2.1 25 = .ok (.getfield 83, 3) := by decide +kernel
theorem d_Nodes_node_28 : decode m_Nodes_node.2.1 28 = .ok (.bipush 7, 2) := by decide +kernel
theorem d_Nodes_node_30 : decode m_Nodes_node.2.1 30 = .ok (.invokevirtual 87, 3) := by decide +kernel
theorem d_Nodes_node_33 : decode m_Nodes_node.2.1 33 = .ok (.aload_n 0, 1) := by decide +kernel
theorem d_Nodes_node_34 : decode m_Nodes_node.2.1 34 = .ok (.getfield 15, 3) := by decide +kernel
theorem d_Nodes_node_37 : decode m_Nodes_node.2.1 37 = .ok (.aload_n 0, 1) := by decide +kernel
theorem d_Nodes_node_38 : decode m_Nodes_node.2.1 38 = .ok (.getfield 77, 3) := by decide +kernel
theorem d_Nodes_node_41 : decode m_Nodes_node.2.1 41 = .ok (.iload_n 1, 1) := by decide +kernel
theorem d_Nodes_node_42 : decode m_Nodes_node.2.1 42 = .ok (.iastore, 1) := by decide +kernel
theorem d_Nodes_node_43 : decode m_Nodes_node.2.1 43 = .ok (.aload_n 0, 1) := by decide +kernel
theorem d_Nodes_node_44 : decode m_Nodes_node.2.1 44 = .ok (.getfield 19, 3) := by decide +kernel
theorem d_Nodes_node_47 : decode m_Nodes_node.2.1 47 = .ok (.aload_n 0, 1) := by decide +kernel
theorem d_Nodes_node_48 : decode m_Nodes_node.2.1 48 = .ok (.getfield 77, 3) := by decide +kernel
theorem d_Nodes_node_51 : decode m_Nodes_node.2.1 51 = .ok (.iconst (-1), 1) := by decide +kernel
theorem d_Nodes_node_52 : decode m_Nodes_node.2.1 52 = .ok (.iastore, 1) := by decide +kernel
theorem d_Nodes_node_53 : decode m_Nodes_node.2.1 53 = .ok (.aload_n 0, 1) := by decide +kernel
theorem d_Nodes_node_54 : decode m_Nodes_node.2.1 54 = .ok (.getfield 22, 3) := by decide +kernel
theorem d_Nodes_node_57 : decode m_Nodes_node.2.1 57 = .ok (.aload_n 0, 1) := by decide +kernel
theorem d_Nodes_node_58 : decode m_Nodes_node.2.1 58 = .ok (.getfield 77, 3) := by decide +kernel
theorem d_Nodes_node_61 : decode m_Nodes_node.2.1 61 = .ok (.iconst (-1), 1) := by decide +kernel
theorem d_Nodes_node_62 : decode m_Nodes_node.2.1 62 = .ok (.iastore, 1) := by decide +kernel
theorem d_Nodes_node_63 : decode m_Nodes_node.2.1 63 = .ok (.aload_n 0, 1) := by decide +kernel
theorem d_Nodes_node_64 : decode m_Nodes_node.2.1 64 = .ok (.getfield 25, 3) := by decide +kernel
theorem d_Nodes_node_67 : decode m_Nodes_node.2.1 67 = .ok (.aload_n 0, 1) := by decide +kernel
theorem d_Nodes_node_68 : decode m_Nodes_node.2.1 68 = .ok (.getfield 77, 3) := by decide +kernel
theorem d_Nodes_node_71 : decode m_Nodes_node.2.1 71 = .ok (.iconst (-1), 1) := by decide +kernel
theorem d_Nodes_node_72 : decode m_Nodes_node.2.1 72 = .ok (.iastore, 1) := by decide +kernel
theorem d_Nodes_node_73 : decode m_Nodes_node.2.1 73 = .ok (.aload_n 0, 1) := by decide +kernel
theorem d_Nodes_node_74 : decode m_Nodes_node.2.1 74 = .ok (.getfield 28, 3) := by decide +kernel
theorem d_Nodes_node_77 : decode m_Nodes_node.2.1 77 = .ok (.aload_n 0, 1) := by decide +kernel
theorem d_Nodes_node_78 : decode m_Nodes_node.2.1 78 = .ok (.getfield 77, 3) := by decide +kernel
theorem d_Nodes_node_81 : decode m_Nodes_node.2.1 81 = .ok (.iconst (-1), 1) := by decide +kernel
theorem d_Nodes_node_82 : decode m_Nodes_node.2.1 82 = .ok (.iastore, 1) := by decide +kernel
theorem d_Nodes_node_83 : decode m_Nodes_node.2.1 83 = .ok (.aload_n 0, 1) := by decide +kernel
theorem d_Nodes_node_84 : decode m_Nodes_node.2.1 84 = .ok (.getfield 31, 3) := by decide +kernel
theorem d_Nodes_node_87 : decode m_Nodes_node.2.1 87 = .ok (.aload_n 0, 1) := by decide +kernel
theorem d_Nodes_node_88 : decode m_Nodes_node.2.1 88 = .ok (.getfield 77, 3) := by decide +kernel
theorem d_Nodes_node_91 : decode m_Nodes_node.2.1 91 = .ok (.iconst (-1), 1) := by decide +kernel
theorem d_Nodes_node_92 : decode m_Nodes_node.2.1 92 = .ok (.iastore, 1) := by decide +kernel
theorem d_Nodes_node_93 : decode m_Nodes_node.2.1 93 = .ok (.aload_n 0, 1) := by decide +kernel
theorem d_Nodes_node_94 : decode m_Nodes_node.2.1 94 = .ok (.getfield 34, 3) := by decide +kernel
theorem d_Nodes_node_97 : decode m_Nodes_node.2.1 97 = .ok (.aload_n 0, 1) := by decide +kernel
theorem d_Nodes_node_98 : decode m_Nodes_node.2.1 98 = .ok (.getfield 77, 3) := by decide +kernel
theorem d_Nodes_node_101 : decode m_Nodes_node.2.1 101 = .ok (.iconst 0, 1) := by decide +kernel
theorem d_Nodes_node_102 : decode m_Nodes_node.2.1 102 = .ok (.iastore, 1) := by decide +kernel
theorem d_Nodes_node_103 : decode m_Nodes_node.2.1 103 = .ok (.aload_n 0, 1) := by decide +kernel
theorem d_Nodes_node_104 : decode m_Nodes_node.2.1 104 = .ok (.getfield 37, 3) := by decide +kernel
theorem d_Nodes_node_107 : decode m_Nodes_node.2.1 107 = .ok (.aload_n 0, 1) := by decide +kernel
theorem d_Nodes_node_108 : decode m_Nodes_node.2.1 108 = .ok (.getfield 77, 3) := by decide +kernel
theorem d_Nodes_node_111 : decode m_Nodes_node.2.1 111 = .ok (.lconst 0, 1) := by decide +kernel
theorem d_Nodes_node_112 : decode m_Nodes_node.2.1 112 = .ok (.lastore, 1) := by decide +kernel
theorem d_Nodes_node_113 : decode m_Nodes_node.2.1 113 = .ok (.aload_n 0, 1) := by decide +kernel
theorem d_Nodes_node_114 : decode m_Nodes_node.2.1 114 = .ok (.getfield 41, 3) := by decide +kernel
theorem d_Nodes_node_117 : decode m_Nodes_node.2.1 117 = .ok (.aload_n 0, 1) := by decide +kernel
theorem d_Nodes_node_118 : decode m_Nodes_node.2.1 118 = .ok (.getfield 77, 3) := by decide +kernel
theorem d_Nodes_node_121 : decode m_Nodes_node.2.1 121 = .ok (.lconst 0, 1) := by decide +kernel
theorem d_Nodes_node_122 : decode m_Nodes_node.2.1 122 = .ok (.lastore, 1) := by decide +kernel
theorem d_Nodes_node_123 : decode m_Nodes_node.2.1 123 = .ok (.aload_n 0, 1) := by decide +kernel
theorem d_Nodes_node_124 : decode m_Nodes_node.2.1 124 = .ok (.getfield 44, 3) := by decide +kernel
theorem d_Nodes_node_127 : decode m_Nodes_node.2.1 127 = .ok (.aload_n 0, 1) := by decide +kernel
theorem d_Nodes_node_128 : decode m_Nodes_node.2.1 128 = .ok (.getfield 77, 3) := by decide +kernel
theorem d_Nodes_node_131 : decode m_Nodes_node.2.1 131 = .ok (.lconst 0, 1) := by decide +kernel
theorem d_Nodes_node_132 : decode m_Nodes_node.2.1 132 = .ok (.lastore, 1) := by decide +kernel
theorem d_Nodes_node_133 : decode m_Nodes_node.2.1 133 = .ok (.aload_n 0, 1) := by decide +kernel
theorem d_Nodes_node_134 : decode m_Nodes_node.2.1 134 = .ok (.dup, 1) := by decide +kernel
theorem d_Nodes_node_135 : decode m_Nodes_node.2.1 135 = .ok (.getfield 77, 3) := by decide +kernel
theorem d_Nodes_node_138 : decode m_Nodes_node.2.1 138 = .ok (.dup_x1, 1) := by decide +kernel
theorem d_Nodes_node_139 : decode m_Nodes_node.2.1 139 = .ok (.iconst 1, 1) := by decide +kernel
theorem d_Nodes_node_140 : decode m_Nodes_node.2.1 140 = .ok (.iadd, 1) := by decide +kernel
theorem d_Nodes_node_141 : decode m_Nodes_node.2.1 141 = .ok (.putfield 77, 3) := by decide +kernel
theorem d_Nodes_node_144 : decode m_Nodes_node.2.1 144 = .ok (.ireturn, 1) := by decide +kernel
theorem d_Nodes_isValue_0 : decode m_Nodes_isValue.2.1 0 = .ok (.iload_n 0, 1) := by decide +kernel
theorem d_Nodes_isValue_1 : decode m_Nodes_isValue.2.1 1 = .ok (.bipush 100, 2) := by decide +kernel
theorem d_Nodes_isValue_3 : decode m_Nodes_isValue.2.1 3 = .ok (.if_icmp .eq 23, 3) := by decide +kernel
theorem d_Nodes_isValue_6 : decode m_Nodes_isValue.2.1 6 = .ok (.iload_n 0, 1) := by decide +kernel
theorem d_Nodes_isValue_7 : decode m_Nodes_isValue.2.1 7 = .ok (.bipush 102, 2) := by decide +kernel
theorem d_Nodes_isValue_9 : decode m_Nodes_isValue.2.1 9 = .ok (.if_icmp .eq 17, 3) := by decide +kernel
theorem d_Nodes_isValue_12 : decode m_Nodes_isValue.2.1 12 = .ok (.iload_n 0, 1) := by decide +kernel
theorem d_Nodes_isValue_13 : decode m_Nodes_isValue.2.1 13 = .ok (.i2l, 1) := by decide +kernel
theorem d_Nodes_isValue_14 : decode m_Nodes_isValue.2.1 14 = .ok (.ldc2_w 165, 3) := by decide +kernel
theorem d_Nodes_isValue_17 : decode m_Nodes_isValue.2.1 17 = .ok (.ldc2_w 167, 3) := by decide +kernel
theorem d_Nodes_isValue_20 : decode m_Nodes_isValue.2.1 20 = .ok (.invokestatic 169, 3) := by decide +kernel
theorem d_Nodes_isValue_23 : decode m_Nodes_isValue.2.1 23 = .ok (.ifCond .eq 7, 3) := by decide +kernel
theorem d_Nodes_isValue_26 : decode m_Nodes_isValue.2.1 26 = .ok (.iconst 1, 1) := by decide +kernel
theorem d_Nodes_isValue_27 : decode m_Nodes_isValue.2.1 27 = .ok (.goto 4, 3) := by decide +kernel
theorem d_Nodes_isValue_30 : decode m_Nodes_isValue.2.1 30 = .ok (.iconst 0, 1) := by decide +kernel
theorem d_Nodes_isValue_31 : decode m_Nodes_isValue.2.1 31 = .ok (.ireturn, 1) := by decide +kernel
/-- the rows of nodes at D: field, place, tag, length -/
def ndtab : List (Nat × Nat × Nat × Nat) := [(0, 1, 64, 5000), (1, 2, 64, 5000), (2, 3, 64, 5000), (3, 4, 64, 5000), (4, 5, 64, 5000), (5, 6, 64, 5000), (6, 7, 64, 5000), (7, 8, 65, 5000), (8, 9, 65, 5000), (9, 10, 65, 5000)]
def NdS (R : MR) (T : SH) (D P : Nat) : Prop := T.1 D = 6 + 1 ∧ (∀ q ∈ ndtab, R D q.1 = some (D + q.2.1) ∧ T.1 (D + q.2.1) = q.2.2.1 ∧ T.2.1 (D + q.2.1) = q.2.2.2) ∧ R D 14 = some P
theorem nR0 {R : MR} {T : SH} {D P : Nat} (h : NdS R T D P) : R D 0 = some (D + 1) := (h.2.1 (0, 1, 64, 5000) (by decide)).1
theorem nT0 {R : MR} {T : SH} {D P : Nat} (h : NdS R T D P) : T.1 (D + 1) = 64 := (h.2.1 (0, 1, 64, 5000) (by decide)).2.1
theorem nN0 {R : MR} {T : SH} {D P : Nat} (h : NdS R T D P) : T.2.1 (D + 1) = 5000 := (h.2.1 (0, 1, 64, 5000) (by decide)).2.2
theorem nR1 {R : MR} {T : SH} {D P : Nat} (h : NdS R T D P) : R D 1 = some (D + 2) := (h.2.1 (1, 2, 64, 5000) (by decide)).1
theorem nT1 {R : MR} {T : SH} {D P : Nat} (h : NdS R T D P) : T.1 (D + 2) = 64 := (h.2.1 (1, 2, 64, 5000) (by decide)).2.1
theorem nN1 {R : MR} {T : SH} {D P : Nat} (h : NdS R T D P) : T.2.1 (D + 2) = 5000 := (h.2.1 (1, 2, 64, 5000) (by decide)).2.2
theorem nR2 {R : MR} {T : SH} {D P : Nat} (h : NdS R T D P) : R D 2 = some (D + 3) := (h.2.1 (2, 3, 64, 5000) (by decide)).1
theorem nT2 {R : MR} {T : SH} {D P : Nat} (h : NdS R T D P) : T.1 (D + 3) = 64 := (h.2.1 (2, 3, 64, 5000) (by decide)).2.1
theorem nN2 {R : MR} {T : SH} {D P : Nat} (h : NdS R T D P) : T.2.1 (D + 3) = 5000 := (h.2.1 (2, 3, 64, 5000) (by decide)).2.2
theorem nR3 {R : MR} {T : SH} {D P : Nat} (h : NdS R T D P) : R D 3 = some (D + 4) := (h.2.1 (3, 4, 64, 5000) (by decide)).1
theorem nT3 {R : MR} {T : SH} {D P : Nat} (h : NdS R T D P) : T.1 (D + 4) = 64 := (h.2.1 (3, 4, 64, 5000) (by decide)).2.1
theorem nN3 {R : MR} {T : SH} {D P : Nat} (h : NdS R T D P) : T.2.1 (D + 4) = 5000 := (h.2.1 (3, 4, 64, 5000) (by decide)).2.2
theorem nR4 {R : MR} {T : SH} {D P : Nat} (h : NdS R T D P) : R D 4 = some (D + 5) := (h.2.1 (4, 5, 64, 5000) (by decide)).1
theorem nT4 {R : MR} {T : SH} {D P : Nat} (h : NdS R T D P) : T.1 (D + 5) = 64 := (h.2.1 (4, 5, 64, 5000) (by decide)).2.1
theorem nN4 {R : MR} {T : SH} {D P : Nat} (h : NdS R T D P) : T.2.1 (D + 5) = 5000 := (h.2.1 (4, 5, 64, 5000) (by decide)).2.2
theorem nR5 {R : MR} {T : SH} {D P : Nat} (h : NdS R T D P) : R D 5 = some (D + 6) := (h.2.1 (5, 6, 64, 5000) (by decide)).1
theorem nT5 {R : MR} {T : SH} {D P : Nat} (h : NdS R T D P) : T.1 (D + 6) = 64 := (h.2.1 (5, 6, 64, 5000) (by decide)).2.1
theorem nN5 {R : MR} {T : SH} {D P : Nat} (h : NdS R T D P) : T.2.1 (D + 6) = 5000 := (h.2.1 (5, 6, 64, 5000) (by decide)).2.2
theorem nR6 {R : MR} {T : SH} {D P : Nat} (h : NdS R T D P) : R D 6 = some (D + 7) := (h.2.1 (6, 7, 64, 5000) (by decide)).1
theorem nT6 {R : MR} {T : SH} {D P : Nat} (h : NdS R T D P) : T.1 (D + 7) = 64 := (h.2.1 (6, 7, 64, 5000) (by decide)).2.1
theorem nN6 {R : MR} {T : SH} {D P : Nat} (h : NdS R T D P) : T.2.1 (D + 7) = 5000 := (h.2.1 (6, 7, 64, 5000) (by decide)).2.2
theorem nR7 {R : MR} {T : SH} {D P : Nat} (h : NdS R T D P) : R D 7 = some (D + 8) := (h.2.1 (7, 8, 65, 5000) (by decide)).1
theorem nT7 {R : MR} {T : SH} {D P : Nat} (h : NdS R T D P) : T.1 (D + 8) = 65 := (h.2.1 (7, 8, 65, 5000) (by decide)).2.1
theorem nN7 {R : MR} {T : SH} {D P : Nat} (h : NdS R T D P) : T.2.1 (D + 8) = 5000 := (h.2.1 (7, 8, 65, 5000) (by decide)).2.2
theorem nR8 {R : MR} {T : SH} {D P : Nat} (h : NdS R T D P) : R D 8 = some (D + 9) := (h.2.1 (8, 9, 65, 5000) (by decide)).1
theorem nT8 {R : MR} {T : SH} {D P : Nat} (h : NdS R T D P) : T.1 (D + 9) = 65 := (h.2.1 (8, 9, 65, 5000) (by decide)).2.1
theorem nN8 {R : MR} {T : SH} {D P : Nat} (h : NdS R T D P) : T.2.1 (D + 9) = 5000 := (h.2.1 (8, 9, 65, 5000) (by decide)).2.2
theorem nR9 {R : MR} {T : SH} {D P : Nat} (h : NdS R T D P) : R D 9 = some (D + 10) := (h.2.1 (9, 10, 65, 5000) (by decide)).1
theorem nT9 {R : MR} {T : SH} {D P : Nat} (h : NdS R T D P) : T.1 (D + 10) = 65 := (h.2.1 (9, 10, 65, 5000) (by decide)).2.1
theorem nN9 {R : MR} {T : SH} {D P : Nat} (h : NdS R T D P) : T.2.1 (D + 10) = 5000 := (h.2.1 (9, 10, 65, 5000) (by decide)).2.2
/-- where the reader's parts are: the platform P, keywords w, tokens o, nodes D -/
def RdS (R : MR) (T : SH) (P w o D : Nat) : Prop := T.1 P = 16 + 1 ∧ R P 0 = some w ∧ R P 1 = some o ∧ KwS R T w ∧ TkS R T o P ∧ NdS R T D P
/-- what the reading comes to that answers r of the outcome -/
def tkQ {α : Type} (o N : Nat) (t : Nat → Nat) (v : α → Option Value) (p : α → Nat) (r : ER α) (I : M32) (L : M64) (R : MR) (T : SH) : QT := fun oc I' L' R' T' => (match r with
  | .ok x => oc = .returned (v x) ∧ CT o N (p x) t I' L'
  | .error e => oc = .threw (o + 4) ∧ I' (o + 4) 0 = cI e.1 ∧ I' (o + 4) 1 = cI e.2) ∧ Fx (STk o) I I' ∧ Fx (STl o) L L' ∧ R' = R ∧ T' = T
theorem nxT_ok {o N a1 : Nat} {t : Nat → Nat} {v : Option Value} {r : ER Nat} {oc : Outcome} {I I' : M32} {L L' : M64} {R R' : MR} {T T' : SH} (h : nxT o N t v r I L R T oc I' L' R' T') (he : r = .ok a1) : oc = .returned v ∧ CT o N a1 t I' L' := by rw [he] at h; exact h.1
theorem nxT_er {o N : Nat} {t : Nat → Nat} {v : Option Value} {r : ER Nat} {e : Int × Nat} {oc : Outcome} {I I' : M32} {L L' : M64} {R R' : MR} {T T' : SH} (h : nxT o N t v r I L R T oc I' L' R' T') (he : r = .error e) : oc = .threw (o + 4) ∧ I' (o + 4) 0 = cI e.1 ∧ I' (o + 4) 1 = cI e.2 := by rw [he] at h; exact h.1
theorem KwV.fx {w o : Nat} {L L' : M64} (h : KwV L w) (hL : Fx (STl o) L L') (hne : w + 1 ≠ o) : KwV L' w := fun k hk => by rw [hL _ _ (by omega)]; exact h k hk
theorem RdS.ne {R : MR} {T : SH} {P w o D : Nat} (h : RdS R T P w o D) : w + 1 ≠ o := fun e => by
  have h1 := h.2.2.2.1.2.2.1
  have h2 := h.2.2.2.2.1.1
  rw [e, h2] at h1
  cases h1
theorem c_Nodes_isValue (d : Nat) {k : Int} {I : M32} {L : M64} {R : MR} {T : SH} (hd : 1 ≤ d) (hk : inI k) : Call m_Nodes_isValue y_Nodes_isValue d 0 0 [.int (cI k)] I L R T (rI fun r I' L' R' T' => r = cI (bI (okS 2 k = true)) ∧ I' = I ∧ L' = L ∧ R' = R ∧ T' = T) := by
  refine Call.ofRun (by decide) ⟨rfl, rfl⟩ (Nat.le_of_ble_eq_true rfl) ?_
  refine Run.gen fun Q hQ => ?_
  have hv : okS 2 k = true ↔ (k = 100 ∨ k = 102 ∨ (12 ≤ k ∧ k ≤ 22)) := by unfold okS; rw [if_neg (by decide), if_pos rfl, decide_eq_true_eq]
  have yes : (k = 100 ∨ k = 102 ∨ (12 ≤ k ∧ k ≤ 22)) → bI (okS 2 k = true) = 1 := fun h => bI_t (hv.mpr h)
  have no : ¬ (k = 100 ∨ k = 102 ∨ (12 ≤ k ∧ k ≤ 22)) → bI (okS 2 k = true) = 0 := fun h => bI_f (fun q => h (hv.mp q))
  clear hv
  refine q_iload_n d_Nodes_isValue_0 rfl ?_
  refine j_bipush d_Nodes_isValue_1 (by decide) ?_
  refine j_icmp_eq (tgt := 26) d_Nodes_isValue_3 (by decide) (by omega) (by omega) (fun hp1 => ?_) (fun hp1 => ?_)
  · refine j_iconst d_Nodes_isValue_26 ?_
    refine q_goto (tgt := 31) d_Nodes_isValue_27 (by decide) ?_
    refine q_ireturn d_Nodes_isValue_31 rfl (narrow_z (Or.inr rfl)).1 ?_
    refine hQ _ _ _ _ _ ?_
    exact ⟨_, rfl, by first | rw [yes (by omega)] | rw [no (by omega)], rfl, rfl, rfl, rfl⟩
  · refine q_iload_n d_Nodes_isValue_6 rfl ?_
    refine j_bipush d_Nodes_isValue_7 (by decide) ?_
    refine j_icmp_eq (tgt := 26) d_Nodes_isValue_9 (by decide) (by omega) (by omega) (fun hp2 => ?_) (fun hp2 => ?_)
    · refine j_iconst d_Nodes_isValue_26 ?_
      refine q_goto (tgt := 31) d_Nodes_isValue_27 (by decide) ?_
      refine q_ireturn d_Nodes_isValue_31 rfl (narrow_z (Or.inr rfl)).1 ?_
      refine hQ _ _ _ _ _ ?_
      exact ⟨_, rfl, by first | rw [yes (by omega)] | rw [no (by omega)], rfl, rfl, rfl, rfl⟩
    · refine q_iload_n d_Nodes_isValue_12 rfl ?_
      refine j_i2l d_Nodes_isValue_13 (by omega) ?_
      refine j_ldc2 (z := 12) d_Nodes_isValue_14 (inT4 197 rfl) (by decide) ?_
      refine j_ldc2 (z := 22) d_Nodes_isValue_17 (inT4 198 rfl) (by decide) ?_
      refine q_callS (rc := 0) (rs := 0) (rest := []) d_Nodes_isValue_20 ml_Nodes_169 ok_Platform_within (c_Platform_within (d - 1) (by omega) (by omega) (by omega)) rfl rfl (by omega) (Nat.le_of_ble_eq_true rfl) (kp_I ?_) kt_I
      refine j_ifb_eq (tgt := 30) d_Nodes_isValue_23 (by decide) (fun hp3 => ?_) (fun hp3 => ?_)
      · refine j_iconst d_Nodes_isValue_30 ?_
        refine q_ireturn d_Nodes_isValue_31 rfl (narrow_z (Or.inl rfl)).1 ?_
        refine hQ _ _ _ _ _ ?_
        exact ⟨_, rfl, by first | rw [yes (by omega)] | rw [no (by omega)], rfl, rfl, rfl, rfl⟩
      · refine j_iconst d_Nodes_isValue_26 ?_
        refine q_goto (tgt := 31) d_Nodes_isValue_27 (by decide) ?_
        refine q_ireturn d_Nodes_isValue_31 rfl (narrow_z (Or.inr rfl)).1 ?_
        refine hQ _ _ _ _ _ ?_
        exact ⟨_, rfl, by first | rw [yes (by omega)] | rw [no (by omega)], rfl, rfl, rfl, rfl⟩
theorem c_Nodes_open (d : Nat) {P w o D N a F : Nat} {t : Nat → Nat} {I : M32} {L : M64} {R : MR} {T : SH} (hd : 4 ≤ d) (hS : RdS R T P w o D) (hKV : KwV L w) (hC : CT o N a t I L) (hN : N ≤ 16384) (hF : N - a < F) :
    Call m_Nodes_open y_Nodes_open d 0 0 [.ref D] I L R T (tkQ o N t (fun x : Nat × Nat => some (.int (cI x.1))) (fun x => x.2) (opn (tkP t N) F a) I L R T) := by
  refine Call.ofRun (by decide) ⟨rfl, rfl⟩ (Nat.le_of_ble_eq_true rfl) ?_
  refine Run.gen fun Q hQ => ?_
  have hne := hS.ne
  obtain ⟨s1, s2, s3, s4, s5, s6⟩ := id hS
  refine j_iconst d_Nodes_open_0 ?_
  refine q_istore_n (lv' := [(1, .int (cI 0)), (0, .ref D)]) d_Nodes_open_1 (by decide) rfl ?_
  have loop : ∀ (F' k b : Nat) (z : Int) (J : M32) (K : M64), N - b < F' → z = k → k ≤ b → CT o N b t J K → KwV K w → Fx (STk o) I J → Fx (STl o) L K → (bnd (opn (tkP t N) F' b) (fun p => .ok (p.1 + k, p.2)) = opn (tkP t N) F a) → Run m_Nodes_open d 0 0 2 [(0, .ref D), (1, .int (cI z))] [] J K R T Q := by
    intro F'
    induction F' with
    | zero => intro k b z J K h; omega
    | succ F' ih =>
    intro k b z J K hF' hz hkb hC hKV hFI hFL hres
    subst hz
    have hop : opn (tkP t N) (F' + 1) b = if tk (tkP t N) b = 103 then bnd (nx (tkP t N) b) fun a1 => bnd (opn (tkP t N) F' a1) fun p => .ok (p.1 + 1, p.2) else if tk (tkP t N) b = 107 then .error (3, tb (tkP t N) b) else .ok (0, b) := rfl
    rw [hop] at hres
    obtain ⟨c1, c2, c3, c4, c5, c6, c7, c8, c9⟩ := id hC
    have hkd := TokR.kd c1
    have hle := TokR.le c1
    refine q_aload_n d_Nodes_open_2 rfl ?_
    refine q_getR d_Nodes_open_3 fl_Nodes_3 s6.1 ⟨rfl, by decide⟩ s6.2.2 ?_
    refine q_getR d_Nodes_open_6 fl_Nodes_83 s1 ⟨rfl, by decide⟩ s3 ?_
    refine j_getI (v := (cI (tk (tkP t N) b))) d_Nodes_open_9 fl_Nodes_100 s5.1 ⟨rfl, by decide⟩ c5 ?_
    refine j_bipush d_Nodes_open_12 (by decide) ?_
    refine j_icmp_ne (tgt := 33) d_Nodes_open_14 (by decide) (by omega) (by omega) (fun h1 => ?_) (fun h1 => ?_)
    · skip
      rw [if_neg h1] at hres
      refine q_aload_n d_Nodes_open_33 rfl ?_
      refine q_getR d_Nodes_open_34 fl_Nodes_3 s6.1 ⟨rfl, by decide⟩ s6.2.2 ?_
      refine q_getR d_Nodes_open_37 fl_Nodes_83 s1 ⟨rfl, by decide⟩ s3 ?_
      refine j_getI (v := (cI (tk (tkP t N) b))) d_Nodes_open_40 fl_Nodes_100 s5.1 ⟨rfl, by decide⟩ c5 ?_
      refine j_bipush d_Nodes_open_43 (by decide) ?_
      refine j_icmp_ne (tgt := 59) d_Nodes_open_45 (by decide) (by omega) (by omega) (fun h2 => ?_) (fun h2 => ?_)
      · skip
        rw [if_neg h2] at hres
        simp only [bnd_ok, Nat.zero_add] at hres
        refine q_iload_n d_Nodes_open_59 rfl ?_
        refine q_ireturn d_Nodes_open_60 rfl rfl ?_
        refine hQ _ _ _ _ _ ?_
        rw [← hres]
        exact ⟨⟨rfl, hC⟩, hFI, hFL, rfl, rfl⟩
      · skip
        rw [if_pos h2] at hres
        refine q_aload_n d_Nodes_open_48 rfl ?_
        refine q_getR d_Nodes_open_49 fl_Nodes_3 s6.1 ⟨rfl, by decide⟩ s6.2.2 ?_
        refine q_getR d_Nodes_open_52 fl_Nodes_83 s1 ⟨rfl, by decide⟩ s3 ?_
        refine j_iconst d_Nodes_open_55 ?_
        refine q_callV (ci := 5) (rc := 0) (rs := 0) (rest := []) d_Nodes_open_56 ml_Nodes_87 ok_Tokens_fail rfl s5.1 (by decide) (c_Tokens_fail (d - 1) (by omega) s5 c6) rfl rfl (by omega) (Nat.le_of_ble_eq_true rfl) (fun v I' L' R' T' h => by cases h.1) (fun x I' L' R' T' h => ?_)
        obtain ⟨h0, rfl, rfl, rfl, rfl⟩ := h
        cases h0
        skip
        refine thr_out s5.tag (by decide) (by unfold Seek; rfl) (hQ _ _ _ _ _ ?_)
        rw [← hres]
        exact ⟨⟨rfl, by rw [up2_k _ _ _ (by decide), up2_s], by rw [up2_s]⟩, (hFI.tu (by omega)).tu (by omega), hFL, rfl, rfl⟩
    · skip
      rw [if_pos h1] at hres
      refine q_aload_n d_Nodes_open_17 rfl ?_
      refine q_getR d_Nodes_open_18 fl_Nodes_3 s6.1 ⟨rfl, by decide⟩ s6.2.2 ?_
      refine q_getR d_Nodes_open_21 fl_Nodes_83 s1 ⟨rfl, by decide⟩ s3 ?_
      refine q_callV (ci := 5) (rc := 0) (rs := 0) (rest := []) d_Nodes_open_24 ml_Nodes_103 ok_Tokens_next rfl s5.1 (by decide) (c_Tokens_nextT (d - 1) (by omega) s5 s1 s2 s4 hKV hC) rfl rfl (by omega) (Nat.le_of_ble_eq_true rfl) (fun v J1 K1 R1 T1 h => ?_) (fun y J1 K1 R1 T1 h => ?_)
      · skip
        cases hnx : nx (tkP t N) b with
        | error e => cases (nxT_er h hnx).1
        | ok b1 =>
        obtain ⟨hv, hC1⟩ := nxT_ok h hnx
        obtain ⟨-, g1, g2, rfl, rfl⟩ := h
        cases hv
        rw [hnx] at hres
        simp only [bnd_ok] at hres
        have hb1 : b1 = te (tkP t N) b := by
          unfold nx at hnx
          split at hnx
          · cases hnx
          · cases hnx; rfl
        have hlt := hle.2.2.2 (by omega)
        refine j_iinc (lv' := [(1, .int (cI ((k : Int) + 1))), (0, .ref D)]) d_Nodes_open_27 rfl (by decide) rfl ?_
        refine q_goto (tgt := 2) d_Nodes_open_30 (by decide) ?_
        refine Run.lv (lv' := [(0, .ref D), (1, .int (cI ((k : Int) + 1)))]) (by intro q hq; simp only [List.mem_cons, List.not_mem_nil, or_false] at hq ⊢; rcases hq with rfl | rfl <;> simp) ?_
        refine ih (k + 1) b1 _ J1 K1 (by omega) (by omega) (by omega) hC1 (hKV.fx g2 hne) (hFI.tr g1) (hFL.tr g2) ?_
        rw [← hres]
        cases opn (tkP t N) F' b1 with
        | error e => rfl
        | ok p => simp only [bnd_ok]; rw [show p.1 + 1 + k = p.1 + (k + 1) by omega]
      · cases hnx : nx (tkP t N) b with
        | ok b1 => cases (nxT_ok h hnx).1
        | error e =>
        obtain ⟨hv, e1, e2⟩ := nxT_er h hnx
        obtain ⟨-, g1, g2, rfl, rfl⟩ := h
        cases hv
        rw [hnx] at hres
        refine thr_out s5.tag (by decide) (by unfold Seek; rfl) (hQ _ _ _ _ _ ?_)
        rw [← hres]
        exact ⟨⟨rfl, e1, e2⟩, hFI.tr g1, hFL.tr g2, rfl, rfl⟩
  refine Run.lv (lv' := [(0, .ref D), (1, .int (cI 0))]) (by intro q hq; simp only [List.mem_cons, List.not_mem_nil, or_false] at hq ⊢; rcases hq with rfl | rfl <;> simp) ?_
  refine loop F 0 a 0 I L hF rfl (Nat.zero_le _) hC hKV Fx.rf Fx.rf ?_
  cases opn (tkP t N) F a with
  | error e => rfl
  | ok p => rfl
theorem c_Nodes_shut (d : Nat) {P w o D N a k : Nat} {t : Nat → Nat} {I : M32} {L : M64} {R : MR} {T : SH} (hd : 5 ≤ d) (hS : RdS R T P w o D) (hKV : KwV L w) (hC : CT o N a t I L) (hk : k ≤ 20000) :
    Call m_Nodes_shut y_Nodes_shut d 0 0 [.ref D, .int (cI k)] I L R T (tkQ o N t (fun _ : Nat => none) (fun x => x) (shu (tkP t N) k a) I L R T) := by
  refine Call.ofRun (by decide) ⟨rfl, rfl⟩ (Nat.le_of_ble_eq_true rfl) ?_
  refine Run.gen fun Q hQ => ?_
  have hne := hS.ne
  obtain ⟨s1, s2, s3, s4, s5, s6⟩ := id hS
  refine j_iconst d_Nodes_shut_0 ?_
  refine q_istore_n (lv' := [(2, .int (cI 0)), (0, .ref D), (1, .int (cI (k : Int)))]) d_Nodes_shut_1 (by decide) rfl ?_
  have loop : ∀ (c i b : Nat) (z : Int) (J : M32) (K : M64), i + c = k → z = i → CT o N b t J K → KwV K w → Fx (STk o) I J → Fx (STl o) L K → shu (tkP t N) c b = shu (tkP t N) k a → Run m_Nodes_shut d 0 0 2 [(0, .ref D), (1, .int (cI (k : Int))), (2, .int (cI z))] [] J K R T Q := by
    intro c
    induction c with
    | zero =>
      intro i b z J K hic hz hC hKV hFI hFL hres
      subst hz
      refine q_iload_n d_Nodes_shut_2 rfl ?_
      refine q_iload_n d_Nodes_shut_3 rfl ?_
      refine j_icmp_ge (tgt := 25) d_Nodes_shut_4 (by decide) (by omega) (by omega) (fun hx => ?_) (fun hx => by exfalso; omega)
      refine q_return d_Nodes_shut_25 rfl ?_
      refine hQ _ _ _ _ _ ?_
      rw [← hres]
      exact ⟨⟨rfl, hC⟩, hFI, hFL, rfl, rfl⟩
    | succ c ih =>
    intro i b z J K hic hz hC hKV hFI hFL hres
    subst hz
    have hsh : shu (tkP t N) (c + 1) b = bnd (wn (tkP t N) 104 b) (shu (tkP t N) c) := rfl
    rw [hsh] at hres
    refine q_iload_n d_Nodes_shut_2 rfl ?_
    refine q_iload_n d_Nodes_shut_3 rfl ?_
    refine j_icmp_ge (tgt := 25) d_Nodes_shut_4 (by decide) (by omega) (by omega) (fun hx => by exfalso; omega) (fun hx => ?_)
    refine q_aload_n d_Nodes_shut_7 rfl ?_
    refine q_getR d_Nodes_shut_8 fl_Nodes_3 s6.1 ⟨rfl, by decide⟩ s6.2.2 ?_
    refine q_getR d_Nodes_shut_11 fl_Nodes_83 s1 ⟨rfl, by decide⟩ s3 ?_
    refine j_bipush d_Nodes_shut_14 (by decide) ?_
    refine q_callV (ci := 5) (rc := 0) (rs := 0) (rest := []) d_Nodes_shut_16 ml_Nodes_105 ok_Tokens_want rfl s5.1 (by decide) (c_Tokens_wantT (d - 1) (by omega) s5 s1 s2 s4 hKV hC (by decide)) rfl rfl (by omega) (Nat.le_of_ble_eq_true rfl) (fun v J1 K1 R1 T1 h => ?_) (fun y J1 K1 R1 T1 h => ?_)
    · skip
      cases hnx : wn (tkP t N) 104 b with
      | error e => cases (nxT_er h hnx).1
      | ok b1 =>
      obtain ⟨hv, hC1⟩ := nxT_ok h hnx
      obtain ⟨-, g1, g2, rfl, rfl⟩ := h
      cases hv
      rw [hnx] at hres
      refine j_iinc (lv' := [(2, .int (cI ((i : Int) + 1))), (0, .ref D), (1, .int (cI (k : Int)))]) d_Nodes_shut_19 rfl (by decide) rfl ?_
      refine q_goto (tgt := 2) d_Nodes_shut_22 (by decide) ?_
      refine Run.lv (lv' := [(0, .ref D), (1, .int (cI (k : Int))), (2, .int (cI ((i : Int) + 1)))]) (by intro q hq; simp only [List.mem_cons, List.not_mem_nil, or_false] at hq ⊢; rcases hq with rfl | rfl | rfl <;> simp) ?_
      exact ih (i + 1) b1 _ J1 K1 (by omega) (by omega) hC1 (hKV.fx g2 hne) (hFI.tr g1) (hFL.tr g2) hres
    · cases hnx : wn (tkP t N) 104 b with
      | ok b1 => cases (nxT_ok h hnx).1
      | error e =>
      obtain ⟨hv, e1, e2⟩ := nxT_er h hnx
      obtain ⟨-, g1, g2, rfl, rfl⟩ := h
      cases hv
      rw [hnx] at hres
      refine thr_out s5.tag (by decide) (by unfold Seek; rfl) (hQ _ _ _ _ _ ?_)
      rw [← hres]
      exact ⟨⟨rfl, e1, e2⟩, hFI.tr g1, hFL.tr g2, rfl, rfl⟩
  refine Run.lv (lv' := [(0, .ref D), (1, .int (cI (k : Int))), (2, .int (cI 0))]) (by intro q hq; simp only [List.mem_cons, List.not_mem_nil, or_false] at hq ⊢; rcases hq with rfl | rfl | rfl <;> simp) ?_
  exact loop k 0 a 0 I L (by omega) rfl hC hKV Fx.rf Fx.rf rfl
/-- a row of nodes as the component has it -/
def RowC (I : M32) (L : M64) (D i : Nat) (r : Row) : Prop := I (D + 1) i = cI (r.getD 0 0) ∧ I (D + 2) i = cI (r.getD 1 0) ∧ I (D + 3) i = cI (r.getD 2 0) ∧ I (D + 4) i = cI (r.getD 3 0) ∧ I (D + 5) i = cI (r.getD 4 0) ∧ L (D + 8) i = cL (r.getD 5 0) ∧ L (D + 9) i = cL (r.getD 6 0) ∧ L (D + 10) i = cL (r.getD 7 0) ∧ I (D + 6) i = cI (r.getD 8 0) ∧ I (D + 7) i = cI (r.getD 9 0)
/-- the cells of row i -/
abbrev SRi (D i a k : Nat) : Prop := (a = D ∧ k = 10) ∨ (k = i ∧ D + 1 ≤ a ∧ a ≤ D + 7)
abbrev SRl (D i a k : Nat) : Prop := k = i ∧ D + 8 ≤ a ∧ a ≤ D + 10
theorem c_Nodes_node (d : Nat) {P w o D n g b : Nat} {kd dep : Int} {I : M32} {L : M64} {R : MR} {T : SH} (hd : 2 ≤ d) (hS : RdS R T P w o D) (hb : I o 4 = cI b) (hn : I D 10 = cI n) (hg : I D 13 = cI g) (hgn : g ≤ n) (hn5 : n < 5000 ∨ n - g = 1000) (hnn : n ≤ 5000) (hdp : inI dep) :
    Call m_Nodes_node y_Nodes_node d 0 0 [.ref D, .int (cI kd), .int (cI dep)] I L R T (fun oc I' L' R' T' => ((100 < dep ∨ n - g = 1000) ∧ badQ (o + 4) 7 b I L R T oc I' L' R' T') ∨ (¬ (100 < dep ∨ n - g = 1000) ∧ oc = .returned (some (.int (cI n))) ∧ RowC I' L' D n [kd, -1, -1, -1, -1, 0, 0, 0, -1, 0, dep] ∧ I' D 10 = cI (n + 1 : Nat) ∧ Fx (SRi D n) I I' ∧ Fx (SRl D n) L L' ∧ R' = R ∧ T' = T)) := by
  refine Call.ofRun (by decide) ⟨rfl, rfl⟩ (Nat.le_of_ble_eq_true rfl) ?_
  refine Run.gen fun Q hQ => ?_
  obtain ⟨s1, s2, s3, s4, s5, s6⟩ := id hS
  have bad : ∀ (h : 100 < dep ∨ n - g = 1000), True → Run m_Nodes_node d 0 0 21 [(0, .ref D), (1, .int (cI kd)), (2, .int (cI dep))] [] I L R T Q := by
    intro h _
    refine q_aload_n d_Nodes_node_21 rfl ?_
    refine q_getR d_Nodes_node_22 fl_Nodes_3 s6.1 ⟨rfl, by decide⟩ s6.2.2 ?_
    refine q_getR d_Nodes_node_25 fl_Nodes_83 s1 ⟨rfl, by decide⟩ s3 ?_
    refine j_bipush d_Nodes_node_28 (by decide) ?_
    refine q_callV (ci := 5) (rc := 0) (rs := 0) (rest := []) d_Nodes_node_30 ml_Nodes_87 ok_Tokens_fail rfl s5.1 (by decide) (c_Tokens_fail (d - 1) (by omega) s5 hb) rfl rfl (by omega) (Nat.le_of_ble_eq_true rfl) (fun v I' L' R' T' h => by cases h.1) (fun x I' L' R' T' h => ?_)
    obtain ⟨h0, rfl, rfl, rfl, rfl⟩ := h
    cases h0
    exact thr_out s5.tag (by decide) (by unfold Seek; rfl) (hQ _ _ _ _ _ (Or.inl ⟨h, rfl, rfl, rfl, rfl, rfl⟩))
  refine q_iload_n d_Nodes_node_0 rfl ?_
  refine j_bipush d_Nodes_node_1 (by decide) ?_
  refine j_icmp_gt (tgt := 21) d_Nodes_node_3 (by decide) (by omega) (by omega) (fun h1 => ?_) (fun h1 => ?_)
  · skip
    exact bad (Or.inl (by omega)) trivial
  · skip
    refine q_aload_n d_Nodes_node_6 rfl ?_
    refine j_getI (v := (cI (n : Int))) d_Nodes_node_7 fl_Nodes_77 s6.1 ⟨rfl, by decide⟩ hn ?_
    refine q_aload_n d_Nodes_node_10 rfl ?_
    refine j_getI (v := (cI (g : Int))) d_Nodes_node_11 fl_Nodes_80 s6.1 ⟨rfl, by decide⟩ hg ?_
    refine j_isub d_Nodes_node_14 ?_
    refine j_sipush d_Nodes_node_15 (by decide) ?_
    refine j_icmp_ne (tgt := 33) d_Nodes_node_18 (by decide) (by omega) (by omega) (fun h2 => ?_) (fun h2 => ?_)
    · skip
      have hn6 : n < 5000 := by omega
      refine q_aload_n d_Nodes_node_33 rfl ?_
      refine q_getR d_Nodes_node_34 fl_Nodes_15 s6.1 ⟨rfl, by decide⟩ (nR0 s6) ?_
      refine q_aload_n d_Nodes_node_37 rfl ?_
      refine j_getI (v := (cI (n : Int))) d_Nodes_node_38 fl_Nodes_77 s6.1 ⟨rfl, by decide⟩ hn ?_
      refine q_iload_n d_Nodes_node_41 rfl ?_
      refine j_iast (j := n) d_Nodes_node_42 (nT0 s6) (nN0 s6) (by omega) (by omega) (by omega) ?_
      refine q_aload_n d_Nodes_node_43 rfl ?_
      refine q_getR d_Nodes_node_44 fl_Nodes_19 s6.1 ⟨rfl, by decide⟩ (nR1 s6) ?_
      refine q_aload_n d_Nodes_node_47 rfl ?_
      refine j_getI (v := (cI (n : Int))) d_Nodes_node_48 fl_Nodes_77 s6.1 ⟨rfl, by decide⟩ ((up2_a _ _ _ (by omega)).trans (hn)) ?_
      refine j_iconst d_Nodes_node_51 ?_
      refine j_iast (j := n) d_Nodes_node_52 (nT1 s6) (nN1 s6) (by omega) (by omega) (by omega) ?_
      refine q_aload_n d_Nodes_node_53 rfl ?_
      refine q_getR d_Nodes_node_54 fl_Nodes_22 s6.1 ⟨rfl, by decide⟩ (nR2 s6) ?_
      refine q_aload_n d_Nodes_node_57 rfl ?_
      refine j_getI (v := (cI (n : Int))) d_Nodes_node_58 fl_Nodes_77 s6.1 ⟨rfl, by decide⟩ ((up2_a _ _ _ (by omega)).trans ((up2_a _ _ _ (by omega)).trans (hn))) ?_
      refine j_iconst d_Nodes_node_61 ?_
      refine j_iast (j := n) d_Nodes_node_62 (nT2 s6) (nN2 s6) (by omega) (by omega) (by omega) ?_
      refine q_aload_n d_Nodes_node_63 rfl ?_
      refine q_getR d_Nodes_node_64 fl_Nodes_25 s6.1 ⟨rfl, by decide⟩ (nR3 s6) ?_
      refine q_aload_n d_Nodes_node_67 rfl ?_
      refine j_getI (v := (cI (n : Int))) d_Nodes_node_68 fl_Nodes_77 s6.1 ⟨rfl, by decide⟩ ((up2_a _ _ _ (by omega)).trans ((up2_a _ _ _ (by omega)).trans ((up2_a _ _ _ (by omega)).trans (hn)))) ?_
      refine j_iconst d_Nodes_node_71 ?_
      refine j_iast (j := n) d_Nodes_node_72 (nT3 s6) (nN3 s6) (by omega) (by omega) (by omega) ?_
      refine q_aload_n d_Nodes_node_73 rfl ?_
      refine q_getR d_Nodes_node_74 fl_Nodes_28 s6.1 ⟨rfl, by decide⟩ (nR4 s6) ?_
      refine q_aload_n d_Nodes_node_77 rfl ?_
      refine j_getI (v := (cI (n : Int))) d_Nodes_node_78 fl_Nodes_77 s6.1 ⟨rfl, by decide⟩ ((up2_a _ _ _ (by omega)).trans ((up2_a _ _ _ (by omega)).trans ((up2_a _ _ _ (by omega)).trans ((up2_a _ _ _ (by omega)).trans (hn))))) ?_
      refine j_iconst d_Nodes_node_81 ?_
      refine j_iast (j := n) d_Nodes_node_82 (nT4 s6) (nN4 s6) (by omega) (by omega) (by omega) ?_
      refine q_aload_n d_Nodes_node_83 rfl ?_
      refine q_getR d_Nodes_node_84 fl_Nodes_31 s6.1 ⟨rfl, by decide⟩ (nR5 s6) ?_
      refine q_aload_n d_Nodes_node_87 rfl ?_
      refine j_getI (v := (cI (n : Int))) d_Nodes_node_88 fl_Nodes_77 s6.1 ⟨rfl, by decide⟩ ((up2_a _ _ _ (by omega)).trans ((up2_a _ _ _ (by omega)).trans ((up2_a _ _ _ (by omega)).trans ((up2_a _ _ _ (by omega)).trans ((up2_a _ _ _ (by omega)).trans (hn)))))) ?_
      refine j_iconst d_Nodes_node_91 ?_
      refine j_iast (j := n) d_Nodes_node_92 (nT5 s6) (nN5 s6) (by omega) (by omega) (by omega) ?_
      refine q_aload_n d_Nodes_node_93 rfl ?_
      refine q_getR d_Nodes_node_94 fl_Nodes_34 s6.1 ⟨rfl, by decide⟩ (nR6 s6) ?_
      refine q_aload_n d_Nodes_node_97 rfl ?_
      refine j_getI (v := (cI (n : Int))) d_Nodes_node_98 fl_Nodes_77 s6.1 ⟨rfl, by decide⟩ ((up2_a _ _ _ (by omega)).trans ((up2_a _ _ _ (by omega)).trans ((up2_a _ _ _ (by omega)).trans ((up2_a _ _ _ (by omega)).trans ((up2_a _ _ _ (by omega)).trans ((up2_a _ _ _ (by omega)).trans (hn))))))) ?_
      refine j_iconst d_Nodes_node_101 ?_
      refine j_iast (j := n) d_Nodes_node_102 (nT6 s6) (nN6 s6) (by omega) (by omega) (by omega) ?_
      refine q_aload_n d_Nodes_node_103 rfl ?_
      refine q_getR d_Nodes_node_104 fl_Nodes_37 s6.1 ⟨rfl, by decide⟩ (nR7 s6) ?_
      refine q_aload_n d_Nodes_node_107 rfl ?_
      refine j_getI (v := (cI (n : Int))) d_Nodes_node_108 fl_Nodes_77 s6.1 ⟨rfl, by decide⟩ ((up2_a _ _ _ (by omega)).trans ((up2_a _ _ _ (by omega)).trans ((up2_a _ _ _ (by omega)).trans ((up2_a _ _ _ (by omega)).trans ((up2_a _ _ _ (by omega)).trans ((up2_a _ _ _ (by omega)).trans ((up2_a _ _ _ (by omega)).trans (hn)))))))) ?_
      refine j_lconst (z := 0) d_Nodes_node_111 (by decide) ?_
      refine j_last (j := n) d_Nodes_node_112 (nT7 s6) (nN7 s6) (by omega) (by omega) (by omega) ?_
      refine q_aload_n d_Nodes_node_113 rfl ?_
      refine q_getR d_Nodes_node_114 fl_Nodes_41 s6.1 ⟨rfl, by decide⟩ (nR8 s6) ?_
      refine q_aload_n d_Nodes_node_117 rfl ?_
      refine j_getI (v := (cI (n : Int))) d_Nodes_node_118 fl_Nodes_77 s6.1 ⟨rfl, by decide⟩ ((up2_a _ _ _ (by omega)).trans ((up2_a _ _ _ (by omega)).trans ((up2_a _ _ _ (by omega)).trans ((up2_a _ _ _ (by omega)).trans ((up2_a _ _ _ (by omega)).trans ((up2_a _ _ _ (by omega)).trans ((up2_a _ _ _ (by omega)).trans (hn)))))))) ?_
      refine j_lconst (z := 0) d_Nodes_node_121 (by decide) ?_
      refine j_last (j := n) d_Nodes_node_122 (nT8 s6) (nN8 s6) (by omega) (by omega) (by omega) ?_
      refine q_aload_n d_Nodes_node_123 rfl ?_
      refine q_getR d_Nodes_node_124 fl_Nodes_44 s6.1 ⟨rfl, by decide⟩ (nR9 s6) ?_
      refine q_aload_n d_Nodes_node_127 rfl ?_
      refine j_getI (v := (cI (n : Int))) d_Nodes_node_128 fl_Nodes_77 s6.1 ⟨rfl, by decide⟩ ((up2_a _ _ _ (by omega)).trans ((up2_a _ _ _ (by omega)).trans ((up2_a _ _ _ (by omega)).trans ((up2_a _ _ _ (by omega)).trans ((up2_a _ _ _ (by omega)).trans ((up2_a _ _ _ (by omega)).trans ((up2_a _ _ _ (by omega)).trans (hn)))))))) ?_
      refine j_lconst (z := 0) d_Nodes_node_131 (by decide) ?_
      refine j_last (j := n) d_Nodes_node_132 (nT9 s6) (nN9 s6) (by omega) (by omega) (by omega) ?_
      refine q_aload_n d_Nodes_node_133 rfl ?_
      refine q_dup d_Nodes_node_134 rfl ?_
      refine j_getI (v := (cI (n : Int))) d_Nodes_node_135 fl_Nodes_77 s6.1 ⟨rfl, by decide⟩ ((up2_a _ _ _ (by omega)).trans ((up2_a _ _ _ (by omega)).trans ((up2_a _ _ _ (by omega)).trans ((up2_a _ _ _ (by omega)).trans ((up2_a _ _ _ (by omega)).trans ((up2_a _ _ _ (by omega)).trans ((up2_a _ _ _ (by omega)).trans (hn)))))))) ?_
      refine q_dup_x1 d_Nodes_node_138 rfl rfl ?_
      refine j_iconst d_Nodes_node_139 ?_
      refine j_iadd d_Nodes_node_140 ?_
      refine q_putI d_Nodes_node_141 fl_Nodes_77 s6.1 ⟨rfl, by decide, rfl, rfl⟩ ?_
      refine q_ireturn d_Nodes_node_144 rfl rfl ?_
      refine hQ _ _ _ _ _ ?_
      refine Or.inr ⟨by omega, rfl, ⟨?_, ?_, ?_, ?_, ?_, ?_, ?_, ?_, ?_, ?_⟩, ?_, ?_, ?_, rfl, rfl⟩
      · show _ = cI kd; rw [up2_a _ _ _ (by omega), up2_a _ _ _ (by omega), up2_a _ _ _ (by omega), up2_a _ _ _ (by omega), up2_a _ _ _ (by omega), up2_a _ _ _ (by omega), up2_a _ _ _ (by omega), up2_s]
      · show _ = cI (-1); rw [up2_a _ _ _ (by omega), up2_a _ _ _ (by omega), up2_a _ _ _ (by omega), up2_a _ _ _ (by omega), up2_a _ _ _ (by omega), up2_a _ _ _ (by omega), up2_s]
      · show _ = cI (-1); rw [up2_a _ _ _ (by omega), up2_a _ _ _ (by omega), up2_a _ _ _ (by omega), up2_a _ _ _ (by omega), up2_a _ _ _ (by omega), up2_s]
      · show _ = cI (-1); rw [up2_a _ _ _ (by omega), up2_a _ _ _ (by omega), up2_a _ _ _ (by omega), up2_a _ _ _ (by omega), up2_s]
      · show _ = cI (-1); rw [up2_a _ _ _ (by omega), up2_a _ _ _ (by omega), up2_a _ _ _ (by omega), up2_s]
      · show _ = cL 0; rw [up2_a _ _ _ (by omega), up2_a _ _ _ (by omega), up2_s]
      · show _ = cL 0; rw [up2_a _ _ _ (by omega), up2_s]
      · show _ = cL 0; rw [up2_s]
      · show _ = cI (-1); rw [up2_a _ _ _ (by omega), up2_a _ _ _ (by omega), up2_s]
      · show _ = cI 0; rw [up2_a _ _ _ (by omega), up2_s]
      · rw [up2_s]; simp
      · exact (((((((Fx.up (Or.inr ⟨rfl, by omega⟩)).tu (Or.inr ⟨rfl, by omega⟩)).tu (Or.inr ⟨rfl, by omega⟩)).tu (Or.inr ⟨rfl, by omega⟩)).tu (Or.inr ⟨rfl, by omega⟩)).tu (Or.inr ⟨rfl, by omega⟩)).tu (Or.inr ⟨rfl, by omega⟩)).tu (Or.inl ⟨rfl, rfl⟩)
      · exact ((Fx.up ⟨rfl, by omega⟩).tu ⟨rfl, by omega⟩).tu ⟨rfl, by omega⟩
    · skip
      exact bad (Or.inr (by omega)) trivial

