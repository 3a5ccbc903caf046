set_option maxRecDepth 100000
/-! persons, debts, what is due -/
def ds_in (a b c : Int32) : Int32 := if a < b then 0 else if c < a then 0 else 1
theorem ds_in_01 (a b c : Int32) : ds_in a b c = 0 ∨ ds_in a b c = 1 := by
  unfold ds_in
  split
  · exact Or.inl rfl
  · split
    · exact Or.inl rfl
    · exact Or.inr rfl
theorem ds_in_1 {a b c : Int32} (h : ds_in a b c = 1) : ¬ a < b ∧ ¬ c < a := by
  unfold ds_in at h
  split at h
  · exact absurd h (by decide)
  · split at h
    · exact absurd h (by decide)
    · rename_i h1 h2
      exact ⟨h1, h2⟩
theorem ds_in_c (x : Int32) {n : Nat} (hn : n < 2147483648) : ds_in x 0 (Int32.ofNat n - 1) = 0 ∨ ds_in x 0 (Int32.ofNat n - 1) = 1 ∧ ∃ i, i < n ∧ x = Int32.ofNat i := by
  rcases ds_in_01 x 0 (Int32.ofNat n - 1) with h | h
  · exact Or.inl h
  · refine Or.inr ⟨h, ?_⟩
    obtain ⟨h0, h1⟩ := ds_in_1 h
    refine i3_in hn h0 h1 ?_
    rcases Nat.eq_zero_or_pos n with e | e
    · exfalso
      subst e
      obtain ⟨m, hm, rfl⟩ := i3_of h0
      apply h1
      rw [Int32.lt_iff_toInt_lt, i3_int hm]
      show (-1 : Int) < _
      omega
    · exact e
theorem ds_in_i {n i : Nat} (hn : n < 2147483648) (hi : i < n) : ds_in (Int32.ofNat i) 0 (Int32.ofNat n - 1) = 1 := by
  obtain ⟨h0, h1⟩ := i3_out (x := Int32.ofNat i) hn rfl hi
  unfold ds_in
  rw [if_neg h0, if_neg h1]
theorem ds_bo_in (a b c : Int32) : dh_bo (ds_in a b c) = some () := if_pos (ds_in_01 a b c)
theorem e_in (G : dg_G) (a b c : Int32) : gG_X0_isIn G a b c = some (ds_in a b c) := by
  unfold gG_X0_isIn ds_in
  split
  · rfl
  · split <;> rfl
theorem em_in (M : dm_M) (a b c : Int32) : gM_in M a b c = some (ds_in a b c) := by
  unfold gM_in ds_in
  split
  · rfl
  · split <;> rfl
def ds_two (nP : Nat) (a b : Int32) : Int32 := if ds_in a 0 (Int32.ofNat nP - 1) = 0 then 0 else if ds_in b 0 (Int32.ofNat nP - 1) = 0 then 0 else if a = b then 0 else 1
theorem ds_two_c (a b : Int32) {nP : Nat} (hn : nP < 2147483648) : ds_two nP a b = 0 ∨ ds_two nP a b = 1 ∧ ∃ i j, i < nP ∧ j < nP ∧ a = Int32.ofNat i ∧ b = Int32.ofNat j ∧ i ≠ j := by
  unfold ds_two
  rcases ds_in_c a hn with h | ⟨h, i, hi, rfl⟩
  · rw [if_pos h]; exact Or.inl rfl
  · rw [if_neg (by rw [h]; decide)]
    rcases ds_in_c b hn with h' | ⟨h', j, hj, rfl⟩
    · rw [if_pos h']; exact Or.inl rfl
    · rw [if_neg (by rw [h']; decide)]
      by_cases e : Int32.ofNat i = Int32.ofNat j
      · rw [if_pos e]; exact Or.inl rfl
      · rw [if_neg e]
        exact Or.inr ⟨rfl, i, j, hi, hj, rfl, rfl, fun q => e (by rw [q])⟩
/-- what always holds of the numbers -/
def ds_Ok (nP nD : Nat) (S : ds_S) : Prop := ∀ i, i < nD → (∃ j, j < nP ∧ ds_d S 1 i = Int32.ofNat j) ∧ (∃ j, j < nP ∧ ds_d S 7 i = Int32.ofNat j) ∧ (∃ j, j < 4 ∧ ds_d S 15 i = Int32.ofNat j)
def sp_int (S : ds_S) (i : Nat) : Int32 := ds_d S 9 i + Int64.toInt32 ((((Int32.toInt64 (ds_d S 8 i)) * (Int32.toInt64 (ds_d S 4 i))) * (Int32.toInt64 (ds_s S 4 - ds_d S 11 i))) / 360000)
def sp_due (S : ds_S) (i : Nat) : Int32 := if ds_d S 15 i = 0 then (ds_d S 8 i + sp_int S i) + ds_d S 10 i else 0
def ds_live (nD : Nat) (S : ds_S) (x : Int32) : Int32 := if ds_in x 0 (Int32.ofNat nD - 1) = 0 then 0 else if ds_d S 15 x.toNatClampNeg = 0 then 1 else 0
theorem ds_live_c {nD : Nat} {S : ds_S} {x : Int32} (hn : nD < 2147483648) : ds_live nD S x = 0 ∨ ds_live nD S x = 1 ∧ ∃ i, i < nD ∧ x = Int32.ofNat i ∧ ds_d S 15 i = 0 := by
  unfold ds_live
  rcases ds_in_c x hn with h | ⟨h, i, hi, rfl⟩
  · rw [if_pos h]; exact Or.inl rfl
  · rw [if_neg (by rw [h]; decide), i3_nat (by omega)]
    by_cases e : ds_d S 15 i = 0
    · rw [if_pos e]; exact Or.inr ⟨rfl, i, hi, rfl, e⟩
    · rw [if_neg e]; exact Or.inl rfl
def sp_cred (S : ds_S) (nD : Nat) (p : Int32) : Int32 := ds_fold (fun d a => if ds_d S 15 d = 0 ∧ ds_d S 1 d = p then a ||| (1 <<< (ds_d S 7 d &&& 31)) else a) 0 nD
def sp_looks (nP nD : Nat) (S : ds_S) : ds_S := ds_fold (fun p S => ds_upp S 9 p (ds_p S 9 p &&& sp_cred S nD (Int32.ofNat p))) S nP
section
variable {G : dg_G} {nP nD nA : Nat} {S : ds_S} (hW : ds_W G nP nD nA)
theorem e_isPerson (hW : ds_W G nP nD nA) (x : Int32) : gG_X0_isPerson (dG G nP nD S) 100 x = some (ds_in x 0 (Int32.ofNat nP - 1)) := by
  unfold gG_X0_isPerson
  simp only [ds_bd, v_h0 hW, v_h1 hW, v_h2 hW, v_h3 hW, v_h4 hW, v_h5 hW, v_h6 hW, v_h7 hW, v_h8 hW, v_h9 hW, v_s0 hW, v_s8 hW, v_s9 hW, v_s10 hW, v_s11 hW, v_s12 hW, v_i100 hW, v_i101 hW, v_i103 hW, v_i105 hW, v_i107 hW, v_n3 hW, v_n5 hW, v_n7 hW, e_in, ds_bo_in]
theorem e_areTwo (hW : ds_W G nP nD nA) (a b : Int32) : gG_X0_areTwo (dG G nP nD S) 100 a b = some (ds_two nP a b) := by
  unfold gG_X0_areTwo ds_two
  simp only [ds_bd, v_h0 hW, v_h1 hW, v_h2 hW, v_h3 hW, v_h4 hW, v_h5 hW, v_h6 hW, v_h7 hW, v_h8 hW, v_h9 hW, v_s0 hW, v_s8 hW, v_s9 hW, v_s10 hW, v_s11 hW, v_s12 hW, v_i100 hW, v_i101 hW, v_i103 hW, v_i105 hW, v_i107 hW, v_n3 hW, v_n5 hW, v_n7 hW, e_in, e_isPerson hW]
  split
  · rfl
  · split
    · rfl
    · split <;> rfl
theorem e_live (hW : ds_W G nP nD nA) (hO : ds_Ok nP nD S) {i : Nat} (hi : i < nD) : gG_X4_isLive (dG G nP nD S) (dg_AR G 106 i) = some (if ds_d S 15 i = 0 then 1 else 0) := by
  obtain ⟨-, -, j, hj, e⟩ := hO i hi
  unfold gG_X4_isLive
  rw [v_st hW hi]
  simp only [ds_bd]
  rw [e, i3_nat (by omega), show dg_cmp (21 + j) 21 = some () from if_pos (by omega)]
  simp only [ds_bd]
  by_cases h : j = 0
  · subst h; rfl
  · rw [if_neg (by omega), if_neg (show ¬ Int32.ofNat j = 0 from fun q => h ((i3_eq (n := 0) (by omega) (by omega)).mp q))]
theorem e_isLive (hW : ds_W G nP nD nA) (hO : ds_Ok nP nD S) (x : Int32) : gG_X0_isLive (dG G nP nD S) 100 x = some (ds_live nD S x) := by
  have hn := hW.1.2.1
  unfold gG_X0_isLive ds_live
  simp only [ds_bd, v_h0 hW, v_h1 hW, v_h2 hW, v_h3 hW, v_h4 hW, v_h5 hW, v_h6 hW, v_h7 hW, v_h8 hW, v_h9 hW, v_s0 hW, v_s8 hW, v_s9 hW, v_s10 hW, v_s11 hW, v_s12 hW, v_i100 hW, v_i101 hW, v_i103 hW, v_i105 hW, v_i107 hW, v_n3 hW, v_n5 hW, v_n7 hW, e_in]
  rcases ds_in_c x (n := nD) (by omega) with h | ⟨h, i, hi, rfl⟩
  · rw [if_pos h, if_pos h]
  · rw [if_neg (by rw [h]; decide), if_neg (by rw [h]; decide), i3_nat (by omega)]
    simp only [ds_bd, v_h0 hW, v_h1 hW, v_h2 hW, v_h3 hW, v_h4 hW, v_h5 hW, v_h6 hW, v_h7 hW, v_h8 hW, v_h9 hW, v_s0 hW, v_s8 hW, v_s9 hW, v_s10 hW, v_s11 hW, v_s12 hW, v_i100 hW, v_i101 hW, v_i103 hW, v_i105 hW, v_i107 hW, v_n3 hW, v_n5 hW, v_n7 hW, e_in, v_debtAt hW hi, v_id hW hi, e_live hW hO hi]
    by_cases e : ds_d S 15 i = 0
    · simp only [e, if_true]; rfl
    · simp only [e, if_false]; rfl
theorem e_int (hW : ds_W G nP nD nA) {i : Nat} (hi : i < nD) : gG_X4_interestOn (dG G nP nD S) (dg_AR G 106 i) (ds_s S 4) = some (sp_int S i) := by
  unfold gG_X4_interestOn sp_int
  rw [v_d hW (k := 9) (by decide) (by decide) hi, v_d hW (k := 8) (by decide) (by decide) hi, v_d hW (k := 4) (by decide) (by decide) hi, v_d hW (k := 11) (by decide) (by decide) hi]
  rfl
theorem e_X4due (hW : ds_W G nP nD nA) (hO : ds_Ok nP nD S) {i : Nat} (hi : i < nD) : gG_X4_due (dG G nP nD S) (dg_AR G 106 i) (ds_s S 4) = some (sp_due S i) := by
  unfold gG_X4_due sp_due
  simp only [ds_bd, v_id hW hi, e_live hW hO hi, v_d hW (k := 8) (by decide) (by decide) hi, v_d hW (k := 10) (by decide) (by decide) hi, e_int hW hi]
  by_cases e : ds_d S 15 i = 0
  · simp only [e, if_true]; rfl
  · simp only [e, if_false]; rfl
theorem e_due (hW : ds_W G nP nD nA) (hO : ds_Ok nP nD S) {i : Nat} (hi : i < nD) : gG_X0_due (dG G nP nD S) 100 (Int32.ofNat i) = some (sp_due S i) := by
  unfold gG_X0_due
  simp only [ds_bd, v_h0 hW, v_h1 hW, v_h2 hW, v_h3 hW, v_h4 hW, v_h5 hW, v_h6 hW, v_h7 hW, v_h8 hW, v_h9 hW, v_s0 hW, v_s8 hW, v_s9 hW, v_s10 hW, v_s11 hW, v_s12 hW, v_i100 hW, v_i101 hW, v_i103 hW, v_i105 hW, v_i107 hW, v_n3 hW, v_n5 hW, v_n7 hW, e_in, v_debtAt hW hi, v_id hW hi, v_s hW (k := 4) (by decide) (by decide), e_X4due hW hO hi]
theorem e_cred (hW : ds_W G nP nD nA) (hO : ds_Ok nP nD S) (p : Int32) : gG_X0_creditorsOf (dG G nP nD S) 100 p = some (sp_cred S nD p) := by
  have hn := hW.1.2.1
  unfold gG_X0_creditorsOf sp_cred
  refine ds_loopT (L := fun n i a => gG_X0_creditorsOf_L4 (dG G nP nD S) n 100 p a (Int32.ofNat i)) (N := nD) (fin := fun a => some a) (fun n i a hi => ?_) (fun n a => ?_) (ds_fu (by omega))
  · show gG_X0_creditorsOf_L4_F _ _ _ _ _ _ = _
    unfold gG_X0_creditorsOf_L4_F
    simp only [ds_bd, v_h0 hW, v_h1 hW, v_h2 hW, v_h3 hW, v_h4 hW, v_h5 hW, v_h6 hW, v_h7 hW, v_h8 hW, v_h9 hW, v_s0 hW, v_s8 hW, v_s9 hW, v_s10 hW, v_s11 hW, v_s12 hW, v_i100 hW, v_i101 hW, v_i103 hW, v_i105 hW, v_i107 hW, v_n3 hW, v_n5 hW, v_n7 hW, e_in, v_debtAt hW hi, v_id hW hi, e_live hW hO hi, v_d hW (k := 1) (by decide) (by decide) hi, v_d hW (k := 7) (by decide) (by decide) hi, i3_succ]
    rw [if_neg ((not_congr (i3_le (by omega) (by omega))).mpr (by omega))]
    by_cases e : ds_d S 15 i = 0
    · by_cases e2 : ds_d S 1 i = p
      · rw [if_pos e, if_neg (by decide), if_pos e2, if_pos ⟨e, e2⟩]
      · rw [if_pos e, if_neg (by decide), if_neg e2, if_neg (fun q => e2 q.2)]
    · rw [if_neg e, if_pos rfl, if_neg (fun q => e q.1)]
  · show gG_X0_creditorsOf_L4_F _ _ _ _ _ _ = _
    unfold gG_X0_creditorsOf_L4_F
    simp only [ds_bd, v_h0 hW, v_h1 hW, v_h2 hW, v_h3 hW, v_h4 hW, v_h5 hW, v_h6 hW, v_h7 hW, v_h8 hW, v_h9 hW, v_s0 hW, v_s8 hW, v_s9 hW, v_s10 hW, v_s11 hW, v_s12 hW, v_i100 hW, v_i101 hW, v_i103 hW, v_i105 hW, v_i107 hW, v_n3 hW, v_n5 hW, v_n7 hW, e_in]
    rw [if_pos ((i3_le (by omega) (by omega)).mpr (Nat.le_refl _))]
theorem ds_Ok_upp {nP nD k i : Nat} {v : Int32} {S : ds_S} (h : ds_Ok nP nD S) : ds_Ok nP nD (ds_upp S k i v) := h
theorem e_looks (hW : ds_W G nP nD nA) (hO : ds_Ok nP nD S) : gG_X0_looks (dG G nP nD S) 100 = some (dG G nP nD (sp_looks nP nD S)) := by
  have hn := hW.1.1
  unfold gG_X0_looks sp_looks
  refine ds_loop0 (L := fun n i (S : ds_S) => gG_X0_looks_L2 n (dG G nP nD S) 100 (Int32.ofNat i)) (N := nP) (fin := fun S => some (dG G nP nD S)) (fun _ S => ds_Ok nP nD S) (fun n i S hi hO => ⟨?_, ds_Ok_upp hO⟩) (fun n S hO => ?_) (ds_fu (by omega)) hO
  · show gG_X0_looks_L2_F _ _ _ _ = _
    unfold gG_X0_looks_L2_F
    simp only [ds_bd, v_h0 hW, v_h1 hW, v_h2 hW, v_h3 hW, v_h4 hW, v_h5 hW, v_h6 hW, v_h7 hW, v_h8 hW, v_h9 hW, v_s0 hW, v_s8 hW, v_s9 hW, v_s10 hW, v_s11 hW, v_s12 hW, v_i100 hW, v_i101 hW, v_i103 hW, v_i105 hW, v_i107 hW, v_n3 hW, v_n5 hW, v_n7 hW, e_in, v_at hW hi, v_ip hW hi, e_cred hW hO, v_p hW (k := 9) (by decide) (by decide) hi, w_p hW (k := 9) (by decide) (by decide) hi, i3_succ]
    rw [if_neg ((not_congr (i3_le (by omega) (by omega))).mpr (by omega))]
  · show gG_X0_looks_L2_F _ _ _ _ = _
    unfold gG_X0_looks_L2_F
    simp only [ds_bd, v_h0 hW, v_h1 hW, v_h2 hW, v_h3 hW, v_h4 hW, v_h5 hW, v_h6 hW, v_h7 hW, v_h8 hW, v_h9 hW, v_s0 hW, v_s8 hW, v_s9 hW, v_s10 hW, v_s11 hW, v_s12 hW, v_i100 hW, v_i101 hW, v_i103 hW, v_i105 hW, v_i107 hW, v_n3 hW, v_n5 hW, v_n7 hW, e_in]
    rw [if_pos ((i3_le (by omega) (by omega)).mpr (Nat.le_refl _))]
end
section
variable {M : dm_M} {nP nD : Nat} {S : ds_S}
theorem em_isPerson (hM : ds_lim nP nD) (x : Int32) : gM_isPerson (dM M nP nD S) x = some (ds_in x 0 (Int32.ofNat nP - 1)) := by
  unfold gM_isPerson
  simp only [ds_bd, em_in, x_np hM, x_nd hM, ds_bo_in]
theorem em_isDebt (hM : ds_lim nP nD) (x : Int32) : gM_isDebt (dM M nP nD S) x = some (ds_in x 0 (Int32.ofNat nD - 1)) := by
  unfold gM_isDebt
  simp only [ds_bd, em_in, x_np hM, x_nd hM, ds_bo_in]
theorem em_areTwo (hM : ds_lim nP nD) (a b : Int32) : gM_areTwo (dM M nP nD S) a b = some (ds_two nP a b) := by
  unfold gM_areTwo ds_two
  simp only [ds_bd, em_in, x_np hM, x_nd hM, em_isPerson hM]
  split
  · rfl
  · split
    · rfl
    · split <;> rfl
theorem em_isLive (hM : ds_lim nP nD) (x : Int32) : gM_isLive (dM M nP nD S) x = some (ds_live nD S x) := by
  have hn := hM.2
  unfold gM_isLive ds_live
  simp only [ds_bd, em_in, x_np hM, x_nd hM, em_isDebt hM]
  rcases ds_in_c x (n := nD) (by omega) with h | ⟨h, i, hi, rfl⟩
  · rw [if_pos h, if_pos h]
  · rw [if_neg (by rw [h]; decide), if_neg (by rw [h]; decide), i3_nat (by omega)]
    simp only [ds_bd, em_in, x_np hM, x_nd hM, x_d hM (k := 33) (by decide) hi]
    show (if ds_d S 15 i = 0 then some (1 : Int32) else some 0) = _
    split <;> rfl
theorem em_int (hM : ds_lim nP nD) {i : Nat} (hi : i < nD) : gM_interestOf (dM M nP nD S) (Int32.ofNat i) = some (sp_int S i) := by
  unfold gM_interestOf sp_int
  rw [x_d hM (k := 35) (by decide) hi, x_d hM (k := 34) (by decide) hi, x_d hM (k := 30) (by decide) hi, x_s hM (k := 5) (by decide), x_d hM (k := 36) (by decide) hi]
  rfl
theorem em_due (hM : ds_lim nP nD) {i : Nat} (hi : i < nD) : gM_dueOf (dM M nP nD S) (Int32.ofNat i) = some (sp_due S i) := by
  unfold gM_dueOf sp_due
  rw [x_d hM (k := 33) (by decide) hi, x_d hM (k := 37) (by decide) hi, em_int hM hi, x_d hM (k := 34) (by decide) hi]
  simp only [ds_bd]
  show (if ds_d S 15 i = 0 then some ((ds_d S 10 i + sp_int S i) + ds_d S 8 i) else some 0) = some (if ds_d S 15 i = 0 then (ds_d S 8 i + sp_int S i) + ds_d S 10 i else 0)
  split
  · refine congrArg some ?_
    rw [Int32.add_comm (ds_d S 8 i), Int32.add_comm (ds_d S 10 i), Int32.add_assoc, Int32.add_assoc, Int32.add_comm (ds_d S 10 i)]
  · rfl
theorem em_letGo (hM : ds_lim nP nD) : gM_letGo (dM M nP nD S) = some (dM M nP nD (sp_looks nP nD S)) := by
  have hn := hM.1
  have hn' := hM.2
  unfold gM_letGo sp_looks
  refine ds_loopT (L := fun n i (S : ds_S) => gM_letGo_L2 n (dM M nP nD S) (Int32.ofNat i)) (N := nP) (fin := fun S => some (dM M nP nD S)) (fun n i S hi => ?_) (fun n S => ?_) (ds_fu (by omega))
  · show gM_letGo_L2_F _ _ _ = _
    unfold gM_letGo_L2_F
    simp only [ds_bd, em_in, x_np hM, x_nd hM]
    rw [if_neg ((not_congr (i3_le (by omega) (by omega))).mpr (by omega))]
    have key := ds_loopT (L := fun m d (a : Int32) => gM_letGo_L16 (gM_letGo_L2 n) m (dM M nP nD S) (Int32.ofNat i) a (Int32.ofNat d)) (N := nD) (f := fun d a => if ds_d S 15 d = 0 ∧ ds_d S 1 d = Int32.ofNat i then a ||| (1 <<< (ds_d S 7 d &&& 31)) else a) (fin := fun a => gM_letGo_L2 n (dM M nP nD (ds_upp S 9 i (ds_p S 9 i &&& a))) (Int32.ofNat (i + 1))) (fun m d a hd => by
      show gM_letGo_L16_F _ _ _ _ _ _ = _
      unfold gM_letGo_L16_F
      simp only [ds_bd, em_in, x_np hM, x_nd hM, x_d hM (k := 33) (by decide) hd, x_d hM (k := 26) (by decide) hd, x_d hM (k := 27) (by decide) hd, i3_succ]
      rw [if_neg ((not_congr (i3_le (by omega) (by omega))).mpr (by omega))]
      show (if ds_d S 15 d = 0 then (if ds_d S 1 d = Int32.ofNat i then gM_letGo_L16 (gM_letGo_L2 n) m (dM M nP nD S) (Int32.ofNat i) (a ||| (1 <<< (ds_d S 7 d &&& 31))) (Int32.ofNat (d + 1)) else _) else _) = _
      by_cases e : ds_d S 15 d = 0
      · by_cases e2 : ds_d S 1 d = Int32.ofNat i
        · rw [if_pos e, if_pos e2, if_pos ⟨e, e2⟩]
        · rw [if_pos e, if_neg e2, if_neg (fun q => e2 q.2), Int32.or_zero]
      · rw [if_neg e, if_neg (fun q => e q.1), Int32.or_zero]) (fun m a => by
      show gM_letGo_L16_F _ _ _ _ _ _ = _
      unfold gM_letGo_L16_F
      simp only [ds_bd, em_in, x_np hM, x_nd hM, x_p hM (k := 19) (by decide) hi, y_p hM (k := 19) (by decide) (by decide) hi, i3_succ]
      rw [if_pos ((i3_le (by omega) (by omega)).mpr (Nat.le_refl _))]
      rfl) (a := 0) (n := dh_fu) (ds_fu (by omega))
    exact key
  · show gM_letGo_L2_F _ _ _ = _
    unfold gM_letGo_L2_F
    simp only [ds_bd, em_in, x_np hM, x_nd hM]
    rw [if_pos ((i3_le (by omega) (by omega)).mpr (Nat.le_refl _))]
end
