set_option maxRecDepth 100000
theorem dt_26 : dM_dt 26 = 1 := rfl
theorem dt_27 : dM_dt 27 = 7 := rfl
theorem dt_28 : dM_dt 28 = 2 := rfl
theorem dt_29 : dM_dt 29 = 3 := rfl
theorem dt_30 : dM_dt 30 = 4 := rfl
theorem dt_31 : dM_dt 31 = 5 := rfl
theorem dt_32 : dM_dt 32 = 6 := rfl
theorem dt_33 : dM_dt 33 = 15 := rfl
theorem dt_34 : dM_dt 34 = 8 := rfl
theorem dt_35 : dM_dt 35 = 9 := rfl
theorem dt_36 : dM_dt 36 = 11 := rfl
theorem dt_37 : dM_dt 37 = 10 := rfl
theorem dt_38 : dM_dt 38 = 14 := rfl
theorem dt_39 : dM_dt 39 = 12 := rfl
theorem dt_40 : dM_dt 40 = 13 := rfl
theorem pt_9 : dM_pt 9 = 2 := rfl
theorem pt_10 : dM_pt 10 = 1 := rfl
theorem pt_12 : dM_pt 12 = 3 := rfl
theorem pt_14 : dM_pt 14 = 5 := rfl
theorem pt_15 : dM_pt 15 = 13 := rfl
theorem pt_16 : dM_pt 16 = 6 := rfl
theorem pt_17 : dM_pt 17 = 7 := rfl
theorem pt_18 : dM_pt 18 = 8 := rfl
theorem pt_19 : dM_pt 19 = 9 := rfl
theorem pt_20 : dM_pt 20 = 14 := rfl
theorem pt_21 : dM_pt 21 = 11 := rfl
theorem pt_22 : dM_pt 22 = 12 := rfl
theorem sc_2 : dM_sc 2 = 1 := rfl
theorem sc_3 : dM_sc 3 = 2 := rfl
theorem sc_4 : dM_sc 4 = 3 := rfl
theorem sc_5 : dM_sc 5 = 4 := rfl
theorem sc_6 : dM_sc 6 = 5 := rfl
theorem sc_7 : dM_sc 7 = 6 := rfl
theorem sc_41 : dM_sc 41 = 7 := rfl
/-! held: three rows of the model at once -/
section
variable {M : dm_M} {nP nD : Nat} {S : ds_S}
theorem dM_p34 {u w : Int32} {i a b : Nat} (h : ¬ (b = i ∧ (a = 11 ∨ a = 12 ∨ a = 13))) : (dM M nP nD (ds_upp (ds_upp S 3 i u) 4 i w)).1 a b = (dM M nP nD S).1 a b := by
  have r10 : ds_rows (ds_upp (ds_upp S 3 i u) 4 i w) nP = ds_rows S nP := ds_fold_congr (fun j _ x => rfl)
  by_cases hp : dM_pt a ≠ 0 ∧ b < nP
  · rw [xv_p hp.1 hp.2, xv_p hp.1 hp.2]
    show (if dM_pt a = 4 ∧ b = i then w else if dM_pt a = 3 ∧ b = i then u else ds_p S (dM_pt a) b) = _
    have h4 : dM_pt a ≠ 4 := by
      have := dM_ptb hp.1
      have key : ∀ x, x < 23 → dM_pt x ≠ 4 := by decide
      exact key a (by omega)
    have h3 : dM_pt a = 3 → a = 12 := fun q => dM_pti hp.1 (q.trans pt_12.symm)
    rw [if_neg (fun q => h4 q.1), if_neg (fun q => h ⟨q.2, Or.inr (Or.inl (h3 q.1))⟩)]
  · unfold dM
    dsimp only
    rw [if_neg hp, if_neg hp, r10]
    by_cases e : b = i
    · have n11 : ¬ a = 11 := fun q => h ⟨e, Or.inl q⟩
      have n13 : ¬ a = 13 := fun q => h ⟨e, Or.inr (Or.inr q)⟩
      simp only [n11, n13, false_and, if_false]
      rfl
    · have q3 : ds_p (ds_upp (ds_upp S 3 i u) 4 i w) 3 b = ds_p S 3 b := by simp only [sx_p_upp, e, and_false, if_false]
      have q4 : ds_p (ds_upp (ds_upp S 3 i u) 4 i w) 4 b = ds_p S 4 b := by simp only [sx_p_upp, e, and_false, if_false]
      rw [q3, q4]
      rfl
theorem y_34 {u w : Int32} {i : Nat} (hi : i < nP) : dm_set (dm_set (dm_set (dM M nP nD S) 11 i (if u = -1 then 0 else 1)) 12 i u) 13 i (if u = -1 then -1 else w) = dM M nP nD (ds_upp (ds_upp S 3 i u) 4 i w) := by
  refine dM_ext (fun a b => ?_) rfl
  show (if a = 13 ∧ b = i then (if u = -1 then -1 else w) else if a = 12 ∧ b = i then u else if a = 11 ∧ b = i then (if u = -1 then 0 else 1) else (dM M nP nD S).1 a b) = _
  have p3 : ds_p (ds_upp (ds_upp S 3 i u) 4 i w) 3 i = u := if_pos ⟨rfl, rfl⟩
  have p4 : ds_p (ds_upp (ds_upp S 3 i u) 4 i w) 4 i = w := if_pos ⟨rfl, rfl⟩
  by_cases h13 : a = 13 ∧ b = i
  · rw [if_pos h13, h13.1, h13.2]
    unfold dM
    dsimp only
    rw [p3, p4]
    simp [dM_sc, dM_pt, dM_dt, hi]
  · rw [if_neg h13]
    by_cases h12 : a = 12 ∧ b = i
    · rw [if_pos h12, h12.1, h12.2, xv_p (by decide) hi]
      exact p3.symm
    · rw [if_neg h12]
      by_cases h11 : a = 11 ∧ b = i
      · rw [if_pos h11, h11.1, h11.2]
        unfold dM
        dsimp only
        rw [p3]
        simp [dM_sc, dM_pt, dM_dt, hi]
      · rw [if_neg h11]
        exact (dM_p34 (fun q => by
          rcases q.2 with e | e | e
          · exact h11 ⟨e, q.1⟩
          · exact h12 ⟨e, q.1⟩
          · exact h13 ⟨e, q.1⟩)).symm
theorem y_room {w : Int32} {i : Nat} (hi : i < nP) (h : ¬ ds_p S 3 i = -1) : dm_set (dM M nP nD S) 13 i w = dM M nP nD (ds_upp S 4 i w) := by
  have e : ds_upp (ds_upp S 3 i (ds_p S 3 i)) 4 i w = ds_upp S 4 i w := by
    have : dg_up (dg_up (ds_p S) 3 i (ds_p S 3 i)) 4 i w = dg_up (ds_p S) 4 i w := by
      funext x y
      unfold dg_up
      by_cases q : x = 4 ∧ y = i
      · rw [if_pos q, if_pos q]
      · rw [if_neg q, if_neg q]
        by_cases q2 : x = 3 ∧ y = i
        · rw [if_pos q2, q2.1, q2.2]
        · rw [if_neg q2]
    show (_, dg_up (dg_up (ds_p S) 3 i (ds_p S 3 i)) 4 i w, _) = _
    rw [this]
    rfl
  rw [← e, ← y_34 hi]
  refine dM_ext (fun a b => ?_) rfl
  show (if a = 13 ∧ b = i then w else (dM M nP nD S).1 a b) = (if a = 13 ∧ b = i then (if ds_p S 3 i = -1 then -1 else w) else if a = 12 ∧ b = i then ds_p S 3 i else if a = 11 ∧ b = i then (if ds_p S 3 i = -1 then 0 else 1) else (dM M nP nD S).1 a b)
  rw [if_neg h, if_neg h]
  by_cases h13 : a = 13 ∧ b = i
  · rw [if_pos h13, if_pos h13]
  · rw [if_neg h13, if_neg h13]
    by_cases h12 : a = 12 ∧ b = i
    · rw [if_pos h12, h12.1, h12.2, xv_p (by decide) hi]
      rfl
    · rw [if_neg h12]
      by_cases h11 : a = 11 ∧ b = i
      · rw [if_pos h11, h11.1, h11.2]
        unfold dM
        simp [dM_sc, dM_pt, dM_dt, hi, h]
      · rw [if_neg h11]
end
