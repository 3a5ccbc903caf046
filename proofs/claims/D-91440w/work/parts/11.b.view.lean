set_option maxRecDepth 100000
/-! reads and writes of the house's memory, as equations -/
section
variable {G : dg_G} {nP nD nA : Nat} {S : ds_S}
theorem dG_FR {f j : Nat} (hf : f ≠ 415) : dg_FR (dG G nP nD S) f j = dg_FR G f j := if_neg (fun h => hf h.1)
theorem v_gR {ci k j r : Nat} (hf : 100 * ci + k ≠ 415) (hK : dg_K G j = ci + 1) (hr : dg_FR G (100 * ci + k) j = r) : dg_gR (dG G nP nD S) ci k j = some r := by
  unfold dg_gR
  rw [dG_FR hf, hr]
  exact if_pos hK
theorem v_is {ci j : Nat} (hK : dg_K G j = ci + 1) : dg_is (dG G nP nD S) ci j = some () := if_pos hK
theorem v_cast {ci j : Nat} (hK : dg_K G j = ci + 1) : dg_cast (dG G nP nD S) ci j = some () := if_pos (Or.inr hK)
theorem v_gI0 {ci k j : Nat} {v : Int32} (hK : dg_K G j = ci + 1) (hj : j ≠ 101) (hf : ci = 10 ∨ k = 0) (h1 : dg_FI G (100 * ci + k) j = v) (hk : k < 100) : dg_gI (dG G nP nD S) ci k j = some v := by
  unfold dg_gI
  refine (if_pos hK).trans (congrArg some ?_)
  show (if j = 101 ∧ 201 ≤ 100 * ci + k ∧ 100 * ci + k ≤ 207 then _ else if 301 ≤ 100 * ci + k ∧ 100 * ci + k ≤ 314 ∧ ds_ix G 104 nP j < nP then _ else if 401 ≤ 100 * ci + k ∧ 100 * ci + k ≤ 414 ∧ ds_ix G 106 nD j < nD then _ else dg_FI G (100 * ci + k) j) = v
  rw [if_neg (by omega), if_neg (by omega), if_neg (by omega), h1]
theorem v_h0 (hW : ds_W G nP nD nA) : dg_gR (dG G nP nD S) 1 0 100 = some 101 := v_gR (by decide) hW.2.1.1 hW.2.1.2.1
theorem v_h1 (hW : ds_W G nP nD nA) : dg_gR (dG G nP nD S) 1 1 100 = some 123 := v_gR (by decide) hW.2.1.1 hW.2.1.2.2.1
theorem v_h2 (hW : ds_W G nP nD nA) : dg_gR (dG G nP nD S) 1 2 100 = some 124 := v_gR (by decide) hW.2.1.1 hW.2.1.2.2.2.1
theorem v_h3 (hW : ds_W G nP nD nA) : dg_gR (dG G nP nD S) 1 3 100 = some 125 := v_gR (by decide) hW.2.1.1 hW.2.1.2.2.2.2.1
theorem v_h4 (hW : ds_W G nP nD nA) : dg_gR (dG G nP nD S) 1 4 100 = some 126 := v_gR (by decide) hW.2.1.1 hW.2.1.2.2.2.2.2.1
theorem v_h5 (hW : ds_W G nP nD nA) : dg_gR (dG G nP nD S) 1 5 100 = some 127 := v_gR (by decide) hW.2.1.1 hW.2.1.2.2.2.2.2.2.1
theorem v_h6 (hW : ds_W G nP nD nA) : dg_gR (dG G nP nD S) 1 6 100 = some 128 := v_gR (by decide) hW.2.1.1 hW.2.1.2.2.2.2.2.2.2.1
theorem v_h7 (hW : ds_W G nP nD nA) : dg_gR (dG G nP nD S) 1 7 100 = some 129 := v_gR (by decide) hW.2.1.1 hW.2.1.2.2.2.2.2.2.2.2.1
theorem v_h8 (hW : ds_W G nP nD nA) : dg_gR (dG G nP nD S) 1 8 100 = some 130 := v_gR (by decide) hW.2.1.1 hW.2.1.2.2.2.2.2.2.2.2.2.1
theorem v_h9 (hW : ds_W G nP nD nA) : dg_gR (dG G nP nD S) 1 9 100 = some 131 := v_gR (by decide) hW.2.1.1 hW.2.1.2.2.2.2.2.2.2.2.2.2
theorem v_s0 (hW : ds_W G nP nD nA) : dg_gR (dG G nP nD S) 2 0 101 = some 102 := v_gR (by decide) hW.2.2.2.1.1 hW.2.2.2.1.2.1
theorem v_s8 (hW : ds_W G nP nD nA) : dg_gR (dG G nP nD S) 2 8 101 = some 103 := v_gR (by decide) hW.2.2.2.1.1 hW.2.2.2.1.2.2.1
theorem v_s9 (hW : ds_W G nP nD nA) : dg_gR (dG G nP nD S) 2 9 101 = some 105 := v_gR (by decide) hW.2.2.2.1.1 hW.2.2.2.1.2.2.2.1
theorem v_s10 (hW : ds_W G nP nD nA) : dg_gR (dG G nP nD S) 2 10 101 = some 107 := v_gR (by decide) hW.2.2.2.1.1 hW.2.2.2.1.2.2.2.2.1
theorem v_s11 (hW : ds_W G nP nD nA) : dg_gR (dG G nP nD S) 2 11 101 = some 109 := v_gR (by decide) hW.2.2.2.1.1 hW.2.2.2.1.2.2.2.2.2.1
theorem v_s12 (hW : ds_W G nP nD nA) : dg_gR (dG G nP nD S) 2 12 101 = some 122 := v_gR (by decide) hW.2.2.2.1.1 hW.2.2.2.1.2.2.2.2.2.2
theorem v_i100 (hW : ds_W G nP nD nA) : dg_is (dG G nP nD S) 1 100 = some () := v_is hW.2.1.1
theorem v_i101 (hW : ds_W G nP nD nA) : dg_is (dG G nP nD S) 2 101 = some () := v_is hW.2.2.2.1.1
theorem v_i103 (hW : ds_W G nP nD nA) : dg_is (dG G nP nD S) 10 103 = some () := v_is hW.2.2.2.2.1.2.2.1
theorem v_i105 (hW : ds_W G nP nD nA) : dg_is (dG G nP nD S) 10 105 = some () := v_is hW.2.2.2.2.1.2.2.2.2.2.2.1
theorem v_i107 (hW : ds_W G nP nD nA) : dg_is (dG G nP nD S) 10 107 = some () := v_is hW.2.2.2.2.1.2.2.2.2.2.2.2.2.2.2.1
theorem v_n3 (hW : ds_W G nP nD nA) : gG_J2_size (dG G nP nD S) 103 = some (Int32.ofNat nP) := by
  unfold gG_J2_size
  rw [v_gI0 hW.2.2.2.2.1.2.2.1 (by decide) (Or.inl rfl) hW.2.2.2.2.2.2.1.1 (by decide)]
  rfl
theorem v_n5 (hW : ds_W G nP nD nA) : gG_J2_size (dG G nP nD S) 105 = some (Int32.ofNat nD) := by
  unfold gG_J2_size
  rw [v_gI0 hW.2.2.2.2.1.2.2.2.2.2.2.1 (by decide) (Or.inl rfl) hW.2.2.2.2.2.2.1.2.1 (by decide)]
  rfl
theorem v_n7 (hW : ds_W G nP nD nA) : gG_J2_size (dG G nP nD S) 107 = some (Int32.ofNat nA) := by
  unfold gG_J2_size
  rw [v_gI0 hW.2.2.2.2.1.2.2.2.2.2.2.2.2.2.2.1 (by decide) (Or.inl rfl) hW.2.2.2.2.2.2.1.2.2 (by decide)]
  rfl
theorem v_get (hW : ds_W G nP nD nA) {x a n κ i : Nat} (hx : dg_K G x = 11) (hx1 : x ≠ 101) (ha : dg_FR G 1001 x = a) (hn : dg_FI G 1002 x = Int32.ofNat n) (hK : dg_K G a = 54) (hL : dg_L G a = κ) (hnκ : n ≤ κ) (hκ : κ < 100) (hi : i < n) : gG_J2_get (dG G nP nD S) x (Int32.ofNat i) = some (dg_AR G a i) := by
  unfold gG_J2_get gG_J7_checkIndex gG_J8_checkIndex gG_J2_elementData
  rw [v_gI0 (ci := 10) (k := 2) hx hx1 (Or.inl rfl) hn (by decide), v_is (ci := 10) hx, v_gR (ci := 10) (k := 1) (by decide) hx ha]
  simp only [ds_bd]
  rw [if_neg (i3_nn (by omega)), if_pos ((i3_lt (by omega) (by omega)).mpr hi)]
  simp only [ds_bd]
  unfold dg_ldR
  rw [show dg_K (dG G nP nD S) a = 54 from hK, if_pos rfl, i3_nat (by omega), show dg_L (dG G nP nD S) a = κ from hL, if_neg (by
    intro h
    rcases h with h | h
    · exact i3_nn (by omega) h
    · omega)]
  rfl
theorem v_at (hW : ds_W G nP nD nA) {i : Nat} (hi : i < nP) : gG_X0_at (dG G nP nD S) 100 (Int32.ofNat i) = some (dg_AR G 104 i) := by
  unfold gG_X0_at
  have hP := hW.2.2.2.2.2.2.2.1 i hi
  rw [v_h0 hW]
  simp only [ds_bd]
  rw [v_s8 hW]
  simp only [ds_bd]
  rw [v_i103 hW]
  simp only [ds_bd]
  rw [v_get hW (κ := 12) hW.2.2.2.2.1.2.2.1 (by decide) hW.2.2.2.2.1.2.2.2.1 hW.2.2.2.2.2.2.1.1 hW.2.2.2.2.1.2.2.2.2.1 hW.2.2.2.2.1.2.2.2.2.2.1 hW.1.1 (by decide) hi]
  simp only [ds_bd]
  rw [v_cast (ci := 3) hP.1]
  rfl
theorem v_debtAt (hW : ds_W G nP nD nA) {i : Nat} (hi : i < nD) : gG_X0_debtAt (dG G nP nD S) 100 (Int32.ofNat i) = some (dg_AR G 106 i) := by
  unfold gG_X0_debtAt
  have hP := hW.2.2.2.2.2.2.2.2.2.1 i hi
  rw [v_h0 hW]
  simp only [ds_bd]
  rw [v_s9 hW]
  simp only [ds_bd]
  rw [v_i105 hW]
  simp only [ds_bd]
  rw [v_get hW (κ := 40) hW.2.2.2.2.1.2.2.2.2.2.2.1 (by decide) hW.2.2.2.2.1.2.2.2.2.2.2.2.1 hW.2.2.2.2.2.2.1.2.1 hW.2.2.2.2.1.2.2.2.2.2.2.2.2.1 hW.2.2.2.2.1.2.2.2.2.2.2.2.2.2.1 hW.1.2.1 (by decide) hi]
  simp only [ds_bd]
  rw [v_cast (ci := 4) hP]
  rfl
theorem v_ip (hW : ds_W G nP nD nA) {i : Nat} (hi : i < nP) : dg_is (dG G nP nD S) 3 (dg_AR G 104 i) = some () := v_is (hW.2.2.2.2.2.2.2.1 i hi).1
theorem v_id (hW : ds_W G nP nD nA) {i : Nat} (hi : i < nD) : dg_is (dG G nP nD S) 4 (dg_AR G 106 i) = some () := v_is (hW.2.2.2.2.2.2.2.2.2.1 i hi)
/-! fields -/
theorem v_s (hW : ds_W G nP nD nA) {k : Nat} (h1 : 1 ≤ k) (h7 : k ≤ 7) : dg_gI (dG G nP nD S) 2 k 101 = some (ds_s S k) := by
  unfold dg_gI
  refine (if_pos hW.2.2.2.1.1).trans (congrArg some ?_)
  show (if 101 = 101 ∧ 201 ≤ 100 * 2 + k ∧ 100 * 2 + k ≤ 207 then ds_s S (100 * 2 + k - 200) else _) = _
  rw [if_pos ⟨rfl, by omega, by omega⟩, show 100 * 2 + k - 200 = k by omega]
theorem v_p0 (hW : ds_W G nP nD nA) {i : Nat} (hi : i < nP) : dg_gI (dG G nP nD S) 3 0 (dg_AR G 104 i) = some (Int32.ofNat i) := by
  have hP := hW.2.2.2.2.2.2.2.1 i hi
  exact v_gI0 hP.1 (fun e => by rw [e, hW.2.2.2.1.1] at hP; exact absurd hP.1 (by decide)) (Or.inr rfl) hP.2 (by decide)
theorem v_p (hW : ds_W G nP nD nA) {k i : Nat} (h1 : 1 ≤ k) (h14 : k ≤ 14) (hi : i < nP) : dg_gI (dG G nP nD S) 3 k (dg_AR G 104 i) = some (ds_p S k i) := by
  unfold dg_gI
  refine (if_pos (hW.2.2.2.2.2.2.2.1 i hi).1).trans (congrArg some ?_)
  show (if dg_AR G 104 i = 101 ∧ 201 ≤ 100 * 3 + k ∧ 100 * 3 + k ≤ 207 then _ else if 301 ≤ 100 * 3 + k ∧ 100 * 3 + k ≤ 314 ∧ ds_ix G 104 nP (dg_AR G 104 i) < nP then ds_p S (100 * 3 + k - 300) (ds_ix G 104 nP (dg_AR G 104 i)) else _) = _
  rw [ds_ix_at hW.2.2.2.2.2.2.2.2.1 hi, if_neg (by omega), if_pos ⟨by omega, by omega, hi⟩, show 100 * 3 + k - 300 = k by omega]
theorem v_d (hW : ds_W G nP nD nA) {k i : Nat} (h1 : 1 ≤ k) (h14 : k ≤ 14) (hi : i < nD) : dg_gI (dG G nP nD S) 4 k (dg_AR G 106 i) = some (ds_d S k i) := by
  unfold dg_gI
  refine (if_pos (hW.2.2.2.2.2.2.2.2.2.1 i hi)).trans (congrArg some ?_)
  show (if dg_AR G 106 i = 101 ∧ 201 ≤ 100 * 4 + k ∧ 100 * 4 + k ≤ 207 then _ else if 301 ≤ 100 * 4 + k ∧ 100 * 4 + k ≤ 314 ∧ _ then _ else if 401 ≤ 100 * 4 + k ∧ 100 * 4 + k ≤ 414 ∧ ds_ix G 106 nD (dg_AR G 106 i) < nD then ds_d S (100 * 4 + k - 400) (ds_ix G 106 nD (dg_AR G 106 i)) else _) = _
  rw [ds_ix_at hW.2.2.2.2.2.2.2.2.2.2 hi, if_neg (by omega), if_neg (by omega), if_pos ⟨by omega, by omega, hi⟩, show 100 * 4 + k - 400 = k by omega]
theorem v_st (hW : ds_W G nP nD nA) {i : Nat} (hi : i < nD) : dg_gR (dG G nP nD S) 4 15 (dg_AR G 106 i) = some (21 + (ds_d S 15 i).toNatClampNeg) := by
  unfold dg_gR
  refine (if_pos (hW.2.2.2.2.2.2.2.2.2.1 i hi)).trans (congrArg some ?_)
  show (if 100 * 4 + 15 = 415 ∧ ds_ix G 106 nD (dg_AR G 106 i) < nD then _ else _) = _
  rw [ds_ix_at hW.2.2.2.2.2.2.2.2.2.2 hi, if_pos ⟨rfl, hi⟩]
theorem w_s (hW : ds_W G nP nD nA) {k : Nat} {v : Int32} (h1 : 1 ≤ k) (h7 : k ≤ 7) : dg_pI (dG G nP nD S) 2 k 101 v = some (dG G nP nD (ds_us S k v)) := by
  unfold dg_pI
  refine (if_pos hW.2.2.2.1.1).trans (congrArg some ?_)
  have hF : dg_up (dg_FI (dG G nP nD S)) (100 * 2 + k) 101 v = dg_FI (dG G nP nD (ds_us S k v)) := by
    funext f j
    unfold dg_up
    show (if f = 100 * 2 + k ∧ j = 101 then v else if j = 101 ∧ 201 ≤ f ∧ f ≤ 207 then ds_s S (f - 200) else _) = (if j = 101 ∧ 201 ≤ f ∧ f ≤ 207 then ds_up1 (ds_s S) k v (f - 200) else _)
    unfold ds_up1
    by_cases h : j = 101 ∧ 201 ≤ f ∧ f ≤ 207
    · rw [if_pos h, if_pos h]
      by_cases h2 : f = 100 * 2 + k
      · rw [if_pos ⟨h2, h.1⟩, if_pos (by omega)]
      · rw [if_neg (fun q => h2 q.1), if_neg (by omega)]
    · rw [if_neg h, if_neg h, if_neg (by omega)]
      rfl
  unfold dg_sFI
  rw [hF]
  rfl
theorem w_p (hW : ds_W G nP nD nA) {k i : Nat} {v : Int32} (h1 : 1 ≤ k) (h14 : k ≤ 14) (hi : i < nP) : dg_pI (dG G nP nD S) 3 k (dg_AR G 104 i) v = some (dG G nP nD (ds_upp S k i v)) := by
  unfold dg_pI
  refine (if_pos (hW.2.2.2.2.2.2.2.1 i hi).1).trans (congrArg some ?_)
  have hF : dg_up (dg_FI (dG G nP nD S)) (100 * 3 + k) (dg_AR G 104 i) v = dg_FI (dG G nP nD (ds_upp S k i v)) := by
    funext f j
    show (if f = 100 * 3 + k ∧ j = dg_AR G 104 i then v else if j = 101 ∧ 201 ≤ f ∧ f ≤ 207 then ds_s S (f - 200) else if 301 ≤ f ∧ f ≤ 314 ∧ ds_ix G 104 nP j < nP then ds_p S (f - 300) (ds_ix G 104 nP j) else _)
      = (if j = 101 ∧ 201 ≤ f ∧ f ≤ 207 then ds_s S (f - 200) else if 301 ≤ f ∧ f ≤ 314 ∧ ds_ix G 104 nP j < nP then (if f - 300 = k ∧ ds_ix G 104 nP j = i then v else ds_p S (f - 300) (ds_ix G 104 nP j)) else _)
    have hx : ds_ix G 104 nP j = i ↔ j = dg_AR G 104 i := ds_ix_ne hW.2.2.2.2.2.2.2.2.1 hi
    by_cases h0 : j = 101 ∧ 201 ≤ f ∧ f ≤ 207
    · rw [if_pos h0, if_pos h0, if_neg (by omega)]
    · rw [if_neg h0, if_neg h0]
      by_cases h : 301 ≤ f ∧ f ≤ 314 ∧ ds_ix G 104 nP j < nP
      · rw [if_pos h, if_pos h]
        by_cases h2 : f = 100 * 3 + k ∧ j = dg_AR G 104 i
        · rw [if_pos h2, if_pos ⟨by omega, hx.mpr h2.2⟩]
        · rw [if_neg h2, if_neg (fun q => h2 ⟨by omega, hx.mp q.2⟩)]
      · rw [if_neg h, if_neg h, if_neg (fun q => h ⟨by omega, by omega, by rw [hx.mpr q.2]; exact hi⟩)]
        rfl
  unfold dg_sFI
  rw [hF]
  rfl
theorem w_pZ (hW : ds_W G nP nD nA) {k i : Nat} {v : Int32} (hv : v = 0 ∨ v = 1) (h1 : 1 ≤ k) (h14 : k ≤ 14) (hi : i < nP) : dg_pZ (dG G nP nD S) 3 k (dg_AR G 104 i) v = some (dG G nP nD (ds_upp S k i v)) := by
  unfold dg_pZ
  rw [if_pos hv, w_p hW h1 h14 hi]
theorem w_d (hW : ds_W G nP nD nA) {k i : Nat} {v : Int32} (h1 : 1 ≤ k) (h14 : k ≤ 14) (hi : i < nD) : dg_pI (dG G nP nD S) 4 k (dg_AR G 106 i) v = some (dG G nP nD (ds_ud S k i v)) := by
  unfold dg_pI
  refine (if_pos (hW.2.2.2.2.2.2.2.2.2.1 i hi)).trans (congrArg some ?_)
  have hF : dg_up (dg_FI (dG G nP nD S)) (100 * 4 + k) (dg_AR G 106 i) v = dg_FI (dG G nP nD (ds_ud S k i v)) := by
    funext f j
    show (if f = 100 * 4 + k ∧ j = dg_AR G 106 i then v else if j = 101 ∧ 201 ≤ f ∧ f ≤ 207 then ds_s S (f - 200) else if 301 ≤ f ∧ f ≤ 314 ∧ ds_ix G 104 nP j < nP then ds_p S (f - 300) (ds_ix G 104 nP j) else if 401 ≤ f ∧ f ≤ 414 ∧ ds_ix G 106 nD j < nD then ds_d S (f - 400) (ds_ix G 106 nD j) else _)
      = (if j = 101 ∧ 201 ≤ f ∧ f ≤ 207 then ds_s S (f - 200) else if 301 ≤ f ∧ f ≤ 314 ∧ ds_ix G 104 nP j < nP then ds_p S (f - 300) (ds_ix G 104 nP j) else if 401 ≤ f ∧ f ≤ 414 ∧ ds_ix G 106 nD j < nD then (if f - 400 = k ∧ ds_ix G 106 nD j = i then v else ds_d S (f - 400) (ds_ix G 106 nD j)) else _)
    have hx : ds_ix G 106 nD j = i ↔ j = dg_AR G 106 i := ds_ix_ne hW.2.2.2.2.2.2.2.2.2.2 hi
    by_cases h0 : j = 101 ∧ 201 ≤ f ∧ f ≤ 207
    · rw [if_pos h0, if_pos h0, if_neg (by omega)]
    · rw [if_neg h0, if_neg h0]
      by_cases h3 : 301 ≤ f ∧ f ≤ 314 ∧ ds_ix G 104 nP j < nP
      · rw [if_pos h3, if_pos h3, if_neg (by omega)]
      · rw [if_neg h3, if_neg h3]
        by_cases h : 401 ≤ f ∧ f ≤ 414 ∧ ds_ix G 106 nD j < nD
        · rw [if_pos h, if_pos h]
          by_cases h2 : f = 100 * 4 + k ∧ j = dg_AR G 106 i
          · rw [if_pos h2, if_pos ⟨by omega, hx.mpr h2.2⟩]
          · rw [if_neg h2, if_neg (fun q => h2 ⟨by omega, hx.mp q.2⟩)]
        · rw [if_neg h, if_neg h, if_neg (fun q => h ⟨by omega, by omega, by rw [hx.mpr q.2]; exact hi⟩)]
  have hR : dg_FR (dG G nP nD S) = dg_FR (dG G nP nD (ds_ud S k i v)) := by
    funext f j
    show (if f = 415 ∧ ds_ix G 106 nD j < nD then 21 + (ds_d S 15 (ds_ix G 106 nD j)).toNatClampNeg else _) = (if f = 415 ∧ ds_ix G 106 nD j < nD then 21 + (if 15 = k ∧ ds_ix G 106 nD j = i then v else ds_d S 15 (ds_ix G 106 nD j)).toNatClampNeg else _)
    rw [if_neg (c := 15 = k ∧ _) (by omega)]
  unfold dg_sFI
  rw [hF, hR]
  rfl
theorem w_dZ (hW : ds_W G nP nD nA) {k i : Nat} {v : Int32} (hv : v = 0 ∨ v = 1) (h1 : 1 ≤ k) (h14 : k ≤ 14) (hi : i < nD) : dg_pZ (dG G nP nD S) 4 k (dg_AR G 106 i) v = some (dG G nP nD (ds_ud S k i v)) := by
  unfold dg_pZ
  rw [if_pos hv, w_d hW h1 h14 hi]
theorem w_st (hW : ds_W G nP nD nA) {i r n : Nat} (hr : r = 21 + n) (hn : n < 4) (hi : i < nD) : dg_pR (dG G nP nD S) 4 15 (dg_AR G 106 i) r = some (dG G nP nD (ds_ud S 15 i (Int32.ofNat n))) := by
  subst hr
  unfold dg_pR
  refine (if_pos (hW.2.2.2.2.2.2.2.2.2.1 i hi)).trans (congrArg some ?_)
  have hx : ∀ j, ds_ix G 106 nD j = i ↔ j = dg_AR G 106 i := fun j => ds_ix_ne hW.2.2.2.2.2.2.2.2.2.2 hi
  have hF : dg_FI (dG G nP nD S) = dg_FI (dG G nP nD (ds_ud S 15 i (Int32.ofNat n))) := by
    funext f j
    show (if j = 101 ∧ 201 ≤ f ∧ f ≤ 207 then _ else if 301 ≤ f ∧ f ≤ 314 ∧ ds_ix G 104 nP j < nP then _ else if 401 ≤ f ∧ f ≤ 414 ∧ ds_ix G 106 nD j < nD then ds_d S (f - 400) (ds_ix G 106 nD j) else _)
      = (if j = 101 ∧ 201 ≤ f ∧ f ≤ 207 then _ else if 301 ≤ f ∧ f ≤ 314 ∧ ds_ix G 104 nP j < nP then _ else if 401 ≤ f ∧ f ≤ 414 ∧ ds_ix G 106 nD j < nD then (if f - 400 = 15 ∧ ds_ix G 106 nD j = i then Int32.ofNat n else ds_d S (f - 400) (ds_ix G 106 nD j)) else _)
    by_cases h : 401 ≤ f ∧ f ≤ 414 ∧ ds_ix G 106 nD j < nD
    · rw [if_pos h, if_pos h, if_neg (c := f - 400 = 15 ∧ _) (by omega)]
      rfl
    · rw [if_neg h, if_neg h]
      rfl
  have hR : dg_up (dg_FR (dG G nP nD S)) (100 * 4 + 15) (dg_AR G 106 i) (21 + n) = dg_FR (dG G nP nD (ds_ud S 15 i (Int32.ofNat n))) := by
    funext f j
    show (if f = 415 ∧ j = dg_AR G 106 i then 21 + n else if f = 415 ∧ ds_ix G 106 nD j < nD then 21 + (ds_d S 15 (ds_ix G 106 nD j)).toNatClampNeg else _) = (if f = 415 ∧ ds_ix G 106 nD j < nD then 21 + (if 15 = 15 ∧ ds_ix G 106 nD j = i then Int32.ofNat n else ds_d S 15 (ds_ix G 106 nD j)).toNatClampNeg else _)
    by_cases h : f = 415 ∧ ds_ix G 106 nD j < nD
    · rw [if_pos h, if_pos h]
      by_cases h2 : j = dg_AR G 106 i
      · rw [if_pos ⟨h.1, h2⟩, if_pos ⟨rfl, (hx j).mpr h2⟩, i3_nat (by omega)]
      · rw [if_neg (fun q => h2 q.2), if_neg (fun q => h2 ((hx j).mp q.2))]
    · rw [if_neg h, if_neg h, if_neg (fun q => h ⟨q.1, by rw [(hx j).mpr q.2]; exact hi⟩)]
  unfold dg_sFR
  rw [hF, hR]
  rfl
end
