set_option maxRecDepth 100000
section
variable {M : dm_M} {nP nD nA : Nat} {S : ds_S} {A : ds_A} {F : Nat → Int32}
theorem dm_WA_dM (h : dm_WA M nA A) : dm_WA (dM M nP nD S) nA A := by
  unfold dm_WA
  simp only [xv_f (show (43 : Nat) = 0 ∨ 43 ≤ 43 from Or.inr (by decide)), xv_f (show (44 : Nat) = 0 ∨ 43 ≤ 44 from Or.inr (by decide)), xv_f (show (45 : Nat) = 0 ∨ 43 ≤ 45 from Or.inr (by decide)), xv_f (show (46 : Nat) = 0 ∨ 43 ≤ 46 from Or.inr (by decide)), xv_f (show (47 : Nat) = 0 ∨ 43 ≤ 47 from Or.inr (by decide)), xv_f (show (48 : Nat) = 0 ∨ 43 ≤ 48 from Or.inr (by decide)), xv_f (show (49 : Nat) = 0 ∨ 43 ≤ 49 from Or.inr (by decide)), xv_f (show (50 : Nat) = 0 ∨ 43 ≤ 50 from Or.inr (by decide)), xv_f (show (51 : Nat) = 0 ∨ 43 ≤ 51 from Or.inr (by decide)), xv_f (show (52 : Nat) = 0 ∨ 43 ≤ 52 from Or.inr (by decide))]
  exact h
theorem dm_seen_ne (M : dm_M) (F : Nat → Int32) {a : Nat} (h : a ≠ 70) (b : Nat) : (dm_seen M F).1 a b = M.1 a b := if_neg (fun q => h q.1)
theorem dm_WA_seen (h : dm_WA M nA A) : dm_WA (dm_seen M F) nA A := by
  unfold dm_WA
  simp only [dm_seen_ne M F (show (43 : Nat) ≠ 70 by decide), dm_seen_ne M F (show (44 : Nat) ≠ 70 by decide), dm_seen_ne M F (show (45 : Nat) ≠ 70 by decide), dm_seen_ne M F (show (46 : Nat) ≠ 70 by decide), dm_seen_ne M F (show (47 : Nat) ≠ 70 by decide), dm_seen_ne M F (show (48 : Nat) ≠ 70 by decide), dm_seen_ne M F (show (49 : Nat) ≠ 70 by decide), dm_seen_ne M F (show (50 : Nat) ≠ 70 by decide), dm_seen_ne M F (show (51 : Nat) ≠ 70 by decide), dm_seen_ne M F (show (52 : Nat) ≠ 70 by decide)]
  exact h
end
