/-! ===== 60y CODES OF TOKENS ===== -/
theorem tkc_i {K : Int} : inI (tkc K) := by unfold tkc; (repeat' split) <;> decide
theorem tkc_1 {K : Int} : tkc K = 1 ↔ K = 100 := by unfold tkc; (repeat' split) <;> omega
theorem tkc_3 {K : Int} : tkc K = 3 ↔ K = 101 := by unfold tkc; (repeat' split) <;> omega
theorem tkc_4 {K : Int} : tkc K = 4 ↔ K = 102 := by unfold tkc; (repeat' split) <;> omega
theorem tkc_5 {K : Int} : tkc K = 5 ↔ K = 103 := by unfold tkc; (repeat' split) <;> omega
theorem tkc_6 {K : Int} : tkc K = 6 ↔ K = 104 := by unfold tkc; (repeat' split) <;> omega
theorem tkc_7 {K : Int} : tkc K = 7 ↔ K = 105 := by unfold tkc; (repeat' split) <;> omega
theorem tkc_8 {K : Int} : tkc K = 8 ↔ K = 106 := by unfold tkc; (repeat' split) <;> omega
theorem tkc_2 {K : Int} (h : -2 ≤ K ∧ K ≤ 107 ∧ (K < 34 ∨ 100 ≤ K)) : tkc K = 2 ↔ (0 ≤ K ∧ K < 100) := by unfold tkc; (repeat' split) <;> omega
theorem tkc_b {K : Int} (h : -2 ≤ K) (h2 : K < 0) : tkc K = 9 ∨ tkc K = 10 := by unfold tkc; (repeat' split) <;> omega

