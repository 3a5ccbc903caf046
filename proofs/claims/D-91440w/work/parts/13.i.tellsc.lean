set_option maxRecDepth 100000
def sp_tellsC (A : ds_A) (nP nA nD : Nat) (S : ds_S) (x1 x2 x3 : Int32) : Int32 :=
  if ds_in x1 0 (Int32.ofNat nP - 1) = 0 then -1 else if ds_in x2 0 8 = 0 then -1 else if ds_in x3 (-1) (Int32.ofNat nA - 1) = 0 then -1 else
  sp_tellsB A (sp_F S nD x1.toNatClampNeg) x2.toNatClampNeg (if x3 = -1 then sp_good A nA (ds_s S 4) (ds_s S 4) else x3)
theorem ds_in_m1 (x : Int32) {n : Nat} (hn : n < 2147483648) (h : ds_in x (-1) (Int32.ofNat n - 1) = 1) : ds_nn n x := by
  obtain ⟨h0, h1⟩ := ds_in_1 h
  by_cases e : x = -1
  · exact Or.inl e
  · have h2 : ¬ x < 0 := by
      intro q
      rw [Int32.lt_iff_toInt_lt] at h0 q
      have e1 : (-1 : Int32).toInt = -1 := by decide
      have e0 : (0 : Int32).toInt = 0 := by decide
      rw [e1] at h0
      rw [e0] at q
      exact e (Int32.toInt_inj.mp (by rw [e1]; omega))
    have : ds_in x 0 (Int32.ofNat n - 1) = 1 := by
      unfold ds_in
      rw [if_neg h2, if_neg h1]
    rcases ds_in_c x hn with q | ⟨-, i, hi, rfl⟩
    · rw [this] at q; exact absurd q i3_10
    · exact Or.inr ⟨i, hi, rfl⟩
theorem ds_in_8 (x : Int32) (h : ds_in x 0 8 = 1) : ∃ t, t < 9 ∧ x = Int32.ofNat t := by
  have : ds_in x 0 (Int32.ofNat 9 - 1) = 1 := h
  rcases ds_in_c x (n := 9) (by decide) with q | ⟨-, i, hi, rfl⟩
  · rw [this] at q; exact absurd q i3_10
  · exact ⟨i, hi, rfl⟩
