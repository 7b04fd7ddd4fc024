/-! ===== 94 THE COMPONENT'S READER: when ===== -/
def prW (l : Option Nat) (row : Row) (v : Int) : Row := match l with | none => row.set 1 v | some _ => row
def plW (l : Option Nat) (rs : List Row) (v : Int) : List Row := match l with | none => rs | some j => rs.set j ((rs.getD j []).set 4 v)
/-- where the last case is -/
def lsW (l : Option Nat) (n : Nat) (row : Row) (rs : List Row) (zl : Int) : Prop := (l = none ∧ zl = -1 ∧ row.getD 1 0 = -1 ∧ rs = []) ∨ ∃ j, l = some j ∧ j < rs.length ∧ zl = ((n + j : Nat) : Int) ∧ (rs.getD j []).length = 11 ∧ (rs.getD j []).getD 4 0 = -1
theorem gset_id {r : Row} {s : Nat} {v : Int} (h : s < r.length) (hv : r.getD s 0 = v) : r.set s v = r := by
  subst hv
  rw [List.getD_eq_getElem?_getD, List.getElem?_eq_getElem h]
  exact List.set_getElem_self h
theorem plW_len {l : Option Nat} {rs : List Row} {v : Int} : (plW l rs v).length = rs.length := by
  cases l
  · rfl
  · exact List.length_set
theorem lsW_id {l : Option Nat} {n : Nat} {row : Row} {rs : List Row} {zl : Int} (h : lsW l n row rs zl) (hl : row.length = 11) : prW l row (-1) = row ∧ plW l rs (-1) = rs := by
  rcases h with ⟨rfl, -, h1, -⟩ | ⟨j, rfl, hj, -, h1, h2⟩
  · exact ⟨gset_id (by omega) h1, rfl⟩
  · refine ⟨rfl, ?_⟩
    show rs.set j ((rs.getD j []).set 4 (-1)) = rs
    rw [gset_id (by omega) h2, List.getD_eq_getElem?_getD, List.getElem?_eq_getElem hj]
    exact List.set_getElem_self hj
theorem plW_app {rs crs rest : List Row} {crow : Row} {v : Int} : plW (some rs.length) (rs ++ (crow :: crs)) v ++ rest = rs ++ (crow.set 4 v :: (crs ++ rest)) := by
  show (rs ++ (crow :: crs)).set rs.length (((rs ++ (crow :: crs)).getD rs.length []).set 4 v) ++ rest = _
  rw [List.getD_eq_getElem?_getD, List.getElem?_append_right (Nat.le_refl _), Nat.sub_self, List.set_append_right _ _ (Nat.le_refl _), Nat.sub_self]
  simp
/-- what is still to be read amidst the cases -/
def csH {α : Type} (n : Nat) (H : Row → List Row → List Int → Nat → CR α) (l : Option Nat) (row : Row) (rs : List Row) (ns : List Int) : Nat × List Row × List Int → CR α := fun r => H (prW l row (if r.2.1 = [] then -1 else ((n + rs.length : Nat) : Int))) (plW l rs (if r.2.1 = [] then -1 else ((n + rs.length : Nat) : Int)) ++ r.2.1) (ns ++ r.2.2) r.1
def CsR {α : Type} (tot : CR α) (τ : TkF) (g : Nat) (P : PTC) (dep n m : Nat) (H : Row → List Row → List Int → Nat → CR α) (k cnt : Nat) (l : Option Nat) (row : Row) (rs : List Row) (ns : List Int) (a : Nat) : Prop := tot = adC ns.length (bdC (casC τ g P dep k cnt (n + rs.length) (m + ns.length) a) (csH n H l row rs ns))
section
variable {α : Type} {tot : CR α} {τ : TkF} {g : Nat} {P : PTC} {dep n m k cnt a : Nat} {H : Row → List Row → List Int → Nat → CR α} {l : Option Nat} {row : Row} {rs : List Row} {ns : List Int}
theorem CsR.er {e : Int × Nat} (h : CsR tot τ g P dep n m H k cnt l row rs ns a) (he : casC τ g P dep k cnt (n + rs.length) (m + ns.length) a = erC e) : tot = (ns.length, .error e) := by
  unfold CsR at h
  rw [h, he]; rfl
theorem CsR.end {zl : Int} (h : CsR tot τ g P dep n m H (k + 1) cnt l row rs ns a) (h6 : tk τ a ≠ 6) (hl : lsW l n row rs zl) (h11 : row.length = 11) : tot = adC ns.length (H row rs ns a) := by
  unfold CsR at h
  rw [h, casC_0 h6, bdC_ok, adC_0]
  show adC ns.length (H (prW l row (if ([] : List Row) = [] then -1 else _)) (plW l rs (if ([] : List Row) = [] then -1 else _) ++ []) (ns ++ []) a) = _
  rw [if_pos rfl, (lsW_id hl h11).1, (lsW_id hl h11).2, List.append_nil, List.append_nil]
/-- the total seen from a case on -/
theorem csC_s (h : tk τ a = 6) (h2 : ¬ (100 < dep + 1 ∨ n - g = 1000)) (h3 : ¬ cnt = 8) {K : Nat × List Row × List Int → CR α} : bdC (casC τ g P dep (k + 1) cnt n m a) K = bdC (lfC (nx τ a)) fun a1 => bdC (itsC (itW τ P (dep + 1)) [(99, 0), (1, 2)] (caR (dep + 1)) (n + 1) m a1) fun q =>
    bdC (bdC (casC τ g P dep k (cnt + 1) (n + 1 + q.2.2.1.length) (m + q.2.2.2.length) q.1) fun r =>
    okC (r.1, q.2.1.set 4 (if r.2.1 = [] then -1 else ((n + 1 + q.2.2.1.length : Nat) : Int)) :: (q.2.2.1 ++ r.2.1), q.2.2.2 ++ r.2.2)) K := by
  rw [casC_s h h2 h3, bdC_bdC]
  congr 1
  funext a1
  rw [bdC_bdC]
/-- one more case -/
theorem CsR.go {crow : Row} {crs : List Row} {cns : List Int} {a' : Nat} {totc : CR α} (h : tot = adC ns.length totc)
    (ht : totc = adC cns.length (bdC (bdC (casC τ g P dep k (cnt + 1) (n + rs.length + 1 + crs.length) (m + ns.length + cns.length) a') fun r => okC (r.1, crow.set 4 (if r.2.1 = [] then -1 else ((n + rs.length + 1 + crs.length : Nat) : Int)) :: (crs ++ r.2.1), cns ++ r.2.2)) (csH n H l row rs ns))) :
    CsR tot τ g P dep n m H k (cnt + 1) (some rs.length) (prW l row ((n + rs.length : Nat) : Int)) (plW l rs ((n + rs.length : Nat) : Int) ++ (crow :: crs)) (ns ++ cns) a' := by
  unfold CsR
  rw [h, ht, adC_adC, bdC_bdC, List.length_append, List.length_append, plW_len, List.length_cons]
  congr 1
  rw [show n + rs.length + 1 + crs.length = n + (rs.length + (crs.length + 1)) by omega, Nat.add_assoc]
  congr 1
  funext r
  rw [bdC_ok, adC_0]
  unfold csH
  show H (prW l row (if (_ :: _ : List Row) = [] then -1 else _)) (plW l rs (if (_ :: _ : List Row) = [] then -1 else _) ++ (_ :: _)) _ _ = _
  rw [if_neg (List.cons_ne_nil _ _)]
  have e := @plW_app (plW l rs ((n + rs.length : Nat) : Int)) crs r.2.1 crow (if r.2.1 = [] then -1 else ((n + (rs.length + (crs.length + 1)) : Nat) : Int))
  rw [plW_len] at e
  rw [List.length_append, plW_len, List.length_cons, e, List.append_assoc]
  rfl
theorem plW_at {crow : Row} {crs : List Row} {v : Int} : (plW l rs v ++ (crow :: crs)).getD rs.length [] = crow := by
  rw [List.getD_eq_getElem?_getD, List.getElem?_append_right (by rw [plW_len]; exact Nat.le_refl _), plW_len, Nat.sub_self]; rfl
end
/-- what a when reads behind its cases -/
def whH (τ : TkF) (it : ITC) (n m : Nat) : Row → List Row → List Int → Nat → CR (Nat × Row × List Row × List Int) := fun row rs ns a => bdC (lfC (wn τ 106 a)) fun a' => bdC (itsC it [(9, 0), (1, 2)] row (n + rs.length) (m + ns.length) a') fun r => okC (r.1, r.2.1, rs ++ r.2.2.1, ns ++ r.2.2.2)

