set_option maxRecDepth 100000
/-- what tests see is written -/
def dm_3 (M : dm_M) (t : Int32 × Int32 × Int32) : dm_M := dm_set (dm_set (dm_set M 70 0 t.1) 70 1 t.2.1) 70 2 t.2.2
def dm_seen (M : dm_M) (F : Nat → Int32) : dm_M := (fun a b => if a = 70 ∧ b < 8 then F b else M.1 a b, M.2)
theorem dm_3_0 (M : dm_M) (t : Int32 × Int32 × Int32) (v : Int32) : dm_set (dm_3 M t) 70 0 v = dm_3 M (v, t.2) := by
  refine dM_ext (fun a b => ?_) rfl
  show (if a = 70 ∧ b = 0 then v else if a = 70 ∧ b = 2 then t.2.2 else if a = 70 ∧ b = 1 then t.2.1 else if a = 70 ∧ b = 0 then t.1 else M.1 a b) = (if a = 70 ∧ b = 2 then t.2.2 else if a = 70 ∧ b = 1 then t.2.1 else if a = 70 ∧ b = 0 then v else M.1 a b)
  by_cases h : a = 70 ∧ b = 0
  · rw [if_pos h, if_neg (by omega), if_neg (by omega), if_pos h]
  · rw [if_neg h, if_neg h, if_neg h]
theorem dm_3_1 (M : dm_M) (t : Int32 × Int32 × Int32) (v : Int32) : dm_set (dm_3 M t) 70 1 v = dm_3 M (t.1, v, t.2.2) := by
  refine dM_ext (fun a b => ?_) rfl
  show (if a = 70 ∧ b = 1 then v else if a = 70 ∧ b = 2 then t.2.2 else if a = 70 ∧ b = 1 then t.2.1 else if a = 70 ∧ b = 0 then t.1 else M.1 a b) = (if a = 70 ∧ b = 2 then t.2.2 else if a = 70 ∧ b = 1 then v else if a = 70 ∧ b = 0 then t.1 else M.1 a b)
  by_cases h : a = 70 ∧ b = 1
  · rw [if_pos h, if_neg (by omega), if_pos h]
  · rw [if_neg h, if_neg h, if_neg h]
theorem dm_3_2 (M : dm_M) (t : Int32 × Int32 × Int32) (v : Int32) : dm_set (dm_3 M t) 70 2 v = dm_3 M (t.1, t.2.1, v) := by
  refine dM_ext (fun a b => ?_) rfl
  show (if a = 70 ∧ b = 2 then v else if a = 70 ∧ b = 2 then t.2.2 else _) = (if a = 70 ∧ b = 2 then v else _)
  by_cases h : a = 70 ∧ b = 2
  · rw [if_pos h, if_pos h]
  · rw [if_neg h, if_neg h, if_neg h]
theorem dm_seen_eq (M : dm_M) (F : Nat → Int32) : dm_set (dm_set (dm_set (dm_set (dm_set (dm_3 M (F 0, F 1, F 2)) 70 3 (F 3)) 70 4 (F 4)) 70 5 (F 5)) 70 6 (F 6)) 70 7 (F 7) = dm_seen M F := by
  refine dM_ext (fun a b => ?_) rfl
  show (if a = 70 ∧ b = 7 then F 7 else if a = 70 ∧ b = 6 then F 6 else if a = 70 ∧ b = 5 then F 5 else if a = 70 ∧ b = 4 then F 4 else if a = 70 ∧ b = 3 then F 3 else if a = 70 ∧ b = 2 then F 2 else if a = 70 ∧ b = 1 then F 1 else if a = 70 ∧ b = 0 then F 0 else M.1 a b) = if a = 70 ∧ b < 8 then F b else M.1 a b
  by_cases ha : a = 70
  · by_cases hb : b < 8
    · rw [if_pos (c := a = 70 ∧ b < 8) ⟨ha, hb⟩]
      rcases (show b = 0 ∨ b = 1 ∨ b = 2 ∨ b = 3 ∨ b = 4 ∨ b = 5 ∨ b = 6 ∨ b = 7 by omega) with rfl | rfl | rfl | rfl | rfl | rfl | rfl | rfl <;> simp [ha]
    · rw [if_neg (by omega), if_neg (by omega), if_neg (by omega), if_neg (by omega), if_neg (by omega), if_neg (by omega), if_neg (by omega), if_neg (by omega), if_neg (by omega)]
  · simp [ha]
section
variable {M : dm_M} {nP nD nA : Nat} {S : ds_S} {A : ds_A} {F : Nat → Int32}
end
