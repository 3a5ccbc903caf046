set_option maxRecDepth 100000
/-! books, counts, rows, the tape, buying -/
theorem ds_min_comm (x y : Int32) : ds_min x y = ds_min y x := by
  unfold ds_min
  by_cases h1 : y < x
  · rw [if_pos h1, if_neg (by rw [Int32.lt_iff_toInt_lt] at h1 ⊢; omega)]
  · rw [if_neg h1]
    by_cases h2 : x < y
    · rw [if_pos h2]
    · rw [if_neg h2]
      apply Int32.toInt_inj.mp
      rw [Int32.lt_iff_toInt_lt] at h1 h2
      omega
theorem ds_rows_up {S : ds_S} {i n : Nat} (hi : i < n) : ds_rows (ds_upp S 10 i (ds_p S 10 i + 1)) n = ds_rows S n + 1 := by
  unfold ds_rows
  have key : ∀ m, ds_fold (fun j a => a + ds_p (ds_upp S 10 i (ds_p S 10 i + 1)) 10 j) 0 m = if i < m then ds_fold (fun j a => a + ds_p S 10 j) 0 m + 1 else ds_fold (fun j a => a + ds_p S 10 j) 0 m := by
    intro m
    induction m with
    | zero => rfl
    | succ m ih =>
      show ds_fold _ 0 m + (if 10 = 10 ∧ m = i then ds_p S 10 i + 1 else ds_p S 10 m) = _
      rw [ih]
      show _ = if i < m + 1 then (ds_fold (fun j a => a + ds_p S 10 j) 0 m + ds_p S 10 m) + 1 else _
      by_cases h : m = i
      · subst h
        rw [if_neg (Nat.lt_irrefl m), if_pos ⟨rfl, rfl⟩, if_pos (by omega), Int32.add_assoc]
      · rw [if_neg (c := 10 = 10 ∧ m = i) (fun q => h q.2)]
        by_cases h2 : i < m
        · rw [if_pos h2, if_pos (by omega), Int32.add_assoc, Int32.add_comm 1, ← Int32.add_assoc]
        · rw [if_neg h2, if_neg (by omega)]
          rfl
  rw [key, if_pos hi]
def sp_book (nP : Nat) (S : ds_S) (x1 x2 : Int32) : Int32 × ds_S :=
  if ds_in x1 0 (Int32.ofNat nP - 1) = 0 ∨ x2 = 0 ∨ ds_in x2 (-100000) 100000 = 0 ∨ ds_rows S nP = 60 then (-1, S) else
  let i := x1.toNatClampNeg
  (-(ds_min (ds_p S 12 i) (ds_p S 11 i + x2)), ds_upp (ds_upp (ds_upp S 10 i (ds_p S 10 i + 1)) 11 i (ds_p S 11 i + x2)) 12 i (ds_min (ds_p S 12 i) (ds_p S 11 i + x2)))
def sp_liveN (S : ds_S) (n : Nat) : Int32 := ds_fold (fun d a => a + if ds_d S 15 d = 0 then 1 else 0) 0 n
def sp_allD (S : ds_S) (n : Nat) : Int32 := ds_fold (fun d a => a + sp_due S d) 0 n
def sp_heldN (S : ds_S) (n : Nat) : Int32 := ds_fold (fun d a => a + if ds_p S 3 d = -1 then 0 else 1) 0 n
def sp_coinsN (S : ds_S) (n : Nat) : Int32 := ds_fold (fun d a => a + ds_p S 2 d) 0 n
def sp_count (nP nD nA : Nat) (S : ds_S) (x1 : Int32) : Int32 :=
  if x1 = 0 then Int32.ofNat nP else if x1 = 1 then Int32.ofNat nD else if x1 = 2 then sp_liveN S nD else if x1 = 3 then Int32.ofNat nA else if x1 = 4 then ds_s S 4 else if x1 = 5 then ds_s S 5 else if x1 = 6 then sp_heldN S nP
  else if x1 = 7 then ds_s S 7 else if x1 = 8 then ds_s S 6 else if x1 = 9 then sp_coinsN S nP else if x1 = 10 then sp_allD S nD else if x1 = 11 then ds_rows S nP else -1
def sp_row (S : ds_S) (x1 : Int32) : Int32 := if ds_in x1 0 (ds_s S 7 - 1) = 0 then -1 else ds_r S x1.toNatClampNeg
def sp_put (S : ds_S) (v sh : Int32) : ds_S := ds_us (ds_ut S (ds_s S 1).toNatClampNeg (vp_nar .byte (Int8.toInt32 (Int32.toInt8 (v >>> (sh &&& 31)))))) 1 (ds_s S 1 + 1)
def sp_four (S : ds_S) (v : Int32) : ds_S := sp_put (sp_put (sp_put (sp_put S v 24) v 16) v 8) v 0
def sp_feed (S : ds_S) (a b c d e : Int32) : Int32 × ds_S :=
  if ds_s S 1 + 20 ≤ 600 then (ds_s (sp_four (sp_four (sp_four (sp_four (sp_four S a) b) c) d) e) 1, sp_four (sp_four (sp_four (sp_four (sp_four S a) b) c) d) e) else (-1, S)
def sp_buy (nP nD : Nat) (S : ds_S) (x1 x2 x3 : Int32) : Int32 × ds_S :=
  let i := x1.toNatClampNeg
  let b := x2.toNatClampNeg
  let c := (ds_d S 7 i).toNatClampNeg
  if ds_live nD S x1 = 0 ∨ ds_in x2 0 (Int32.ofNat nP - 1) = 0 ∨ ds_in x3 0 100000 = 0 ∨ ¬ (x3 ≤ ds_p S 2 b) ∨ ds_d S 1 i = x2 ∨ ds_d S 7 i = x2 then (0, S) else
  let S1 := ds_upp S 2 b (ds_p S 2 b - x3)
  let S2 := ds_upp S1 2 c (ds_p S1 2 c + x3)
  (1, sp_looks nP nD (ds_ud (ds_ud S2 7 i x2) 14 i 1))
theorem ds_Ok_cr {nP nD i j : Nat} {S : ds_S} (h : ds_Ok nP nD S) (hj : j < nP) : ds_Ok nP nD (ds_ud S 7 i (Int32.ofNat j)) := by
  intro m hm
  obtain ⟨h1, h2, h3⟩ := h m hm
  have e : ∀ a, a ≠ 7 → ds_d (ds_ud S 7 i (Int32.ofNat j)) a m = ds_d S a m := fun a ha => if_neg (fun q => ha q.1)
  rw [e 1 (by omega), e 15 (by omega)]
  refine ⟨h1, ?_, h3⟩
  by_cases hij : m = i
  · exact ⟨j, hj, if_pos ⟨rfl, hij⟩⟩
  · rw [show ds_d (ds_ud S 7 i (Int32.ofNat j)) 7 m = ds_d S 7 m from if_neg (fun q => hij q.2)]
    exact h2
/-- which of five, how far -/
def ds_w5 (a b c d e : Int32) (n : Nat) : Int32 := if n < 4 then a else if n < 8 then b else if n < 12 then c else if n < 16 then d else e
def ds_sh (n : Nat) : Int32 := 24 - 8 * (Int32.ofNat n &&& 3)
theorem ds_feed_eq (S : ds_S) (a b c d e : Int32) : ds_fold (fun n S => sp_put S (ds_w5 a b c d e n) (ds_sh n)) S 20 = sp_four (sp_four (sp_four (sp_four (sp_four S a) b) c) d) e := by
  have s0 : ∀ n, n < 20 → ds_sh n = if n % 4 = 0 then 24 else if n % 4 = 1 then 16 else if n % 4 = 2 then 8 else 0 := by decide
  simp only [ds_fold, ds_w5, Nat.reduceLT, if_true, if_false, s0 0 (by decide), s0 1 (by decide), s0 2 (by decide), s0 3 (by decide), s0 4 (by decide), s0 5 (by decide), s0 6 (by decide), s0 7 (by decide), s0 8 (by decide), s0 9 (by decide), s0 10 (by decide), s0 11 (by decide), s0 12 (by decide), s0 13 (by decide), s0 14 (by decide), s0 15 (by decide), s0 16 (by decide), s0 17 (by decide), s0 18 (by decide), s0 19 (by decide), Nat.reduceMod, Nat.reduceEqDiff, reduceIte]
  rfl
section
variable {G : dg_G} {nP nD nA : Nat} {S : ds_S}
theorem e_book (hW : ds_W G nP nD nA) (x1 x2 : Int32) : gG_X0_book (dG G nP nD S) 100 x1 x2 = some ((sp_book nP S x1 x2).1, dG G nP nD (sp_book nP S x1 x2).2) := by
  have hn := hW.1.1
  unfold gG_X0_book sp_book gG_X3_writes
  simp only [ds_bd, v_h0 hW, v_h1 hW, v_h2 hW, v_h3 hW, v_h4 hW, v_h5 hW, v_h6 hW, v_h7 hW, v_h8 hW, v_h9 hW, v_s0 hW, v_s8 hW, v_s9 hW, v_s10 hW, v_s11 hW, v_s12 hW, v_i100 hW, v_i101 hW, v_i103 hW, v_i105 hW, v_i107 hW, v_n3 hW, v_n5 hW, v_n7 hW, e_in, e_isPerson hW, e_rows hW]
  rcases ds_in_c x1 (n := nP) (by omega) with h | ⟨h, i, hi, rfl⟩
  · simp only [h, if_true, true_or]
  · simp only [h, i3_10, if_false, false_or, i3_nat (show i < 2147483648 by omega)]
    by_cases c1 : x2 = 0
    · simp only [c1, if_true, true_or]
    · rcases ds_in_01 x2 (-100000) 100000 with h2 | h2
      · simp only [c1, h2, if_true, if_false, true_or, false_or]
      · by_cases c3 : ds_rows S nP = 60
        · simp only [c1, h2, c3, if_true, if_false, i3_10, true_or, false_or]
        · simp only [c1, h2, c3, if_false, i3_10, false_or, ds_bd, v_h0 hW, v_h1 hW, v_h2 hW, v_h3 hW, v_h4 hW, v_h5 hW, v_h6 hW, v_h7 hW, v_h8 hW, v_h9 hW, v_s0 hW, v_s8 hW, v_s9 hW, v_s10 hW, v_s11 hW, v_s12 hW, v_i100 hW, v_i101 hW, v_i103 hW, v_i105 hW, v_i107 hW, v_n3 hW, v_n5 hW, v_n7 hW, e_in, v_at hW hi, v_ip hW hi, v_p hW (k := 1) (by decide) (by decide) hi, v_p hW (k := 2) (by decide) (by decide) hi, v_p hW (k := 3) (by decide) (by decide) hi, v_p hW (k := 4) (by decide) (by decide) hi, v_p hW (k := 5) (by decide) (by decide) hi, v_p hW (k := 6) (by decide) (by decide) hi, v_p hW (k := 7) (by decide) (by decide) hi, v_p hW (k := 8) (by decide) (by decide) hi, v_p hW (k := 9) (by decide) (by decide) hi, v_p hW (k := 10) (by decide) (by decide) hi, v_p hW (k := 11) (by decide) (by decide) hi, v_p hW (k := 12) (by decide) (by decide) hi, v_p hW (k := 13) (by decide) (by decide) hi, v_p hW (k := 14) (by decide) (by decide) hi, w_p hW (k := 1) (by decide) (by decide) hi, w_p hW (k := 2) (by decide) (by decide) hi, w_p hW (k := 3) (by decide) (by decide) hi, w_p hW (k := 4) (by decide) (by decide) hi, w_p hW (k := 5) (by decide) (by decide) hi, w_p hW (k := 6) (by decide) (by decide) hi, w_p hW (k := 7) (by decide) (by decide) hi, w_p hW (k := 8) (by decide) (by decide) hi, w_p hW (k := 9) (by decide) (by decide) hi, w_p hW (k := 10) (by decide) (by decide) hi, w_p hW (k := 11) (by decide) (by decide) hi, w_p hW (k := 12) (by decide) (by decide) hi, w_p hW (k := 13) (by decide) (by decide) hi, w_p hW (k := 14) (by decide) (by decide) hi, e_min, sx_s_us, sx_p_us, sx_d_us, sx_l_us, sx_t_us, sx_r_us, sx_a_us, sx_b_us, sx_s_upp, sx_p_upp, sx_d_upp, sx_l_upp, sx_t_upp, sx_r_upp, sx_a_upp, sx_b_upp, sx_s_ud, sx_p_ud, sx_d_ud, sx_l_ud, sx_t_ud, sx_r_ud, sx_a_ud, sx_b_ud, sx_s_ul, sx_p_ul, sx_d_ul, sx_l_ul, sx_t_ul, sx_r_ul, sx_a_ul, sx_b_ul, sx_s_ut, sx_p_ut, sx_d_ut, sx_l_ut, sx_t_ut, sx_r_ut, sx_a_ut, sx_b_ut, sx_s_ur, sx_p_ur, sx_d_ur, sx_l_ur, sx_t_ur, sx_r_ur, sx_a_ur, sx_b_ur, sx_s_ua, sx_p_ua, sx_d_ua, sx_l_ua, sx_t_ua, sx_r_ua, sx_a_ua, sx_b_ua, sx_s_ub, sx_p_ub, sx_d_ub, sx_l_ub, sx_t_ub, sx_r_ub, sx_a_ub, sx_b_ub, sx_s_fa, sx_p_fa, sx_d_fa, sx_l_fa, sx_t_fa, sx_r_fa, sx_a_fa, sx_b_fa, sx_s_fb, sx_p_fb, sx_d_fb, sx_l_fb, sx_t_fb, sx_r_fb, sx_a_fb, sx_b_fb, reduceIte, false_and, true_and, and_true, and_false, and_self, if_true, if_false, Nat.reduceEqDiff]
theorem e_count (hW : ds_W G nP nD nA) (hO : ds_Ok nP nD S) (x1 : Int32) : gG_X0_count (dG G nP nD S) 100 x1 = some (sp_count nP nD nA S x1) := by
  have hn := hW.1.1
  have hn' := hW.1.2.1
  unfold gG_X0_count
  have e1 := ds_loopT (L := fun n i (a : Int32 × Int32) => gG_X0_count_L13 (dG G nP nD S) n 100 x1 a.1 0 0 a.2 (Int32.ofNat i)) (N := nD) (f := fun d a => (a.1 + (if ds_d S 15 d = 0 then 1 else 0), a.2 + sp_due S d)) (fin := fun a => gG_X0_count_L68 (dG G nP nD S) dh_fu 100 x1 a.1 0 0 a.2 0) (fun n i a hi => by
    show gG_X0_count_L13_F _ _ _ _ _ _ _ _ _ = _
    unfold gG_X0_count_L13_F
    simp only [ds_bd, v_h0 hW, v_h1 hW, v_h2 hW, v_h3 hW, v_h4 hW, v_h5 hW, v_h6 hW, v_h7 hW, v_h8 hW, v_h9 hW, v_s0 hW, v_s8 hW, v_s9 hW, v_s10 hW, v_s11 hW, v_s12 hW, v_i100 hW, v_i101 hW, v_i103 hW, v_i105 hW, v_i107 hW, v_n3 hW, v_n5 hW, v_n7 hW, e_in, v_debtAt hW hi, v_id hW hi, e_live hW hO hi, e_due hW hO hi, i3_succ]
    rw [if_neg ((not_congr (i3_le (by omega) (by omega))).mpr (by omega))]
    by_cases e : ds_d S 15 i = 0
    · simp only [e, if_true, i3_10, if_false]
    · simp only [e, if_true, if_false]) (fun n a => by
    show gG_X0_count_L13_F _ _ _ _ _ _ _ _ _ = _
    unfold gG_X0_count_L13_F
    simp only [ds_bd, v_h0 hW, v_h1 hW, v_h2 hW, v_h3 hW, v_h4 hW, v_h5 hW, v_h6 hW, v_h7 hW, v_h8 hW, v_h9 hW, v_s0 hW, v_s8 hW, v_s9 hW, v_s10 hW, v_s11 hW, v_s12 hW, v_i100 hW, v_i101 hW, v_i103 hW, v_i105 hW, v_i107 hW, v_n3 hW, v_n5 hW, v_n7 hW, e_in]
    rw [if_pos ((i3_le (by omega) (by omega)).mpr (Nat.le_refl _))]) (a := (0, 0)) (n := dh_fu) (ds_fu (by omega))
  have f1 : ∀ n, ds_fold (fun d (a : Int32 × Int32) => (a.1 + (if ds_d S 15 d = 0 then 1 else 0), a.2 + sp_due S d)) (0, 0) n = (sp_liveN S n, sp_allD S n) := by
    intro n
    induction n with
    | zero => rfl
    | succ n ih =>
      show ((ds_fold _ (0, 0) n).1 + _, (ds_fold _ (0, 0) n).2 + _) = _
      rw [ih]
      rfl
  have e2 := ds_loopT (L := fun n i (a : Int32 × Int32) => gG_X0_count_L68 (dG G nP nD S) n 100 x1 (sp_liveN S nD) a.1 a.2 (sp_allD S nD) (Int32.ofNat i)) (N := nP) (f := fun d a => (a.1 + (if ds_p S 3 d = -1 then 0 else 1), a.2 + ds_p S 2 d)) (fin := fun a => some (if x1 = 0 then Int32.ofNat nP else if x1 = 1 then Int32.ofNat nD else if x1 = 2 then sp_liveN S nD else if x1 = 3 then Int32.ofNat nA else if x1 = 4 then ds_s S 4 else if x1 = 5 then ds_s S 5 else if x1 = 6 then a.1 else if x1 = 7 then ds_s S 7 else if x1 = 8 then ds_s S 6 else if x1 = 9 then a.2 else if x1 = 10 then sp_allD S nD else if x1 = 11 then ds_rows S nP else -1)) (fun n i a hi => by
    show gG_X0_count_L68_F _ _ _ _ _ _ _ _ _ = _
    unfold gG_X0_count_L68_F
    simp only [ds_bd, v_h0 hW, v_h1 hW, v_h2 hW, v_h3 hW, v_h4 hW, v_h5 hW, v_h6 hW, v_h7 hW, v_h8 hW, v_h9 hW, v_s0 hW, v_s8 hW, v_s9 hW, v_s10 hW, v_s11 hW, v_s12 hW, v_i100 hW, v_i101 hW, v_i103 hW, v_i105 hW, v_i107 hW, v_n3 hW, v_n5 hW, v_n7 hW, e_in, v_at hW hi, v_ip hW hi, e_X3held hW hi, v_p hW (k := 1) (by decide) (by decide) hi, v_p hW (k := 2) (by decide) (by decide) hi, v_p hW (k := 3) (by decide) (by decide) hi, v_p hW (k := 4) (by decide) (by decide) hi, v_p hW (k := 5) (by decide) (by decide) hi, v_p hW (k := 6) (by decide) (by decide) hi, v_p hW (k := 7) (by decide) (by decide) hi, v_p hW (k := 8) (by decide) (by decide) hi, v_p hW (k := 9) (by decide) (by decide) hi, v_p hW (k := 10) (by decide) (by decide) hi, v_p hW (k := 11) (by decide) (by decide) hi, v_p hW (k := 12) (by decide) (by decide) hi, v_p hW (k := 13) (by decide) (by decide) hi, v_p hW (k := 14) (by decide) (by decide) hi, i3_succ]
    rw [if_pos ((not_congr (i3_le (by omega) (by omega))).mpr (by omega))]
    by_cases e : ds_p S 3 i = -1
    · simp only [e, if_true]
    · simp only [e, if_false, i3_10]) (fun n a => by
    show gG_X0_count_L68_F _ _ _ _ _ _ _ _ _ = _
    unfold gG_X0_count_L68_F
    simp only [ds_bd, v_h0 hW, v_h1 hW, v_h2 hW, v_h3 hW, v_h4 hW, v_h5 hW, v_h6 hW, v_h7 hW, v_h8 hW, v_h9 hW, v_s0 hW, v_s8 hW, v_s9 hW, v_s10 hW, v_s11 hW, v_s12 hW, v_i100 hW, v_i101 hW, v_i103 hW, v_i105 hW, v_i107 hW, v_n3 hW, v_n5 hW, v_n7 hW, e_in, v_s hW (k := 1) (by decide) (by decide), v_s hW (k := 2) (by decide) (by decide), v_s hW (k := 3) (by decide) (by decide), v_s hW (k := 4) (by decide) (by decide), v_s hW (k := 5) (by decide) (by decide), v_s hW (k := 6) (by decide) (by decide), v_s hW (k := 7) (by decide) (by decide), e_rows hW, ds_sif]
    rw [if_neg (fun q => q ((i3_le (by omega) (by omega)).mpr (Nat.le_refl _)))]) (a := (0, 0)) (n := dh_fu) (ds_fu (by omega))
  have f2 : ∀ n, ds_fold (fun d (a : Int32 × Int32) => (a.1 + (if ds_p S 3 d = -1 then 0 else 1), a.2 + ds_p S 2 d)) (0, 0) n = (sp_heldN S n, sp_coinsN S n) := by
    intro n
    induction n with
    | zero => rfl
    | succ n ih =>
      show ((ds_fold _ (0, 0) n).1 + _, (ds_fold _ (0, 0) n).2 + _) = _
      rw [ih]
      rfl
  rw [f1] at e1
  rw [f2] at e2
  refine e1.trans ?_
  exact e2
theorem e_row (hW : ds_W G nP nD nA) {m : Nat} (hm : m ≤ 12) (h7 : ds_s S 7 = Int32.ofNat m) (x1 : Int32) : gG_X0_row (dG G nP nD S) 100 x1 = some (sp_row S x1) := by
  unfold gG_X0_row sp_row
  simp only [ds_bd, v_h0 hW, v_h1 hW, v_h2 hW, v_h3 hW, v_h4 hW, v_h5 hW, v_h6 hW, v_h7 hW, v_h8 hW, v_h9 hW, v_s0 hW, v_s8 hW, v_s9 hW, v_s10 hW, v_s11 hW, v_s12 hW, v_i100 hW, v_i101 hW, v_i103 hW, v_i105 hW, v_i107 hW, v_n3 hW, v_n5 hW, v_n7 hW, e_in, v_s hW (k := 1) (by decide) (by decide), v_s hW (k := 2) (by decide) (by decide), v_s hW (k := 3) (by decide) (by decide), v_s hW (k := 4) (by decide) (by decide), v_s hW (k := 5) (by decide) (by decide), v_s hW (k := 6) (by decide) (by decide), v_s hW (k := 7) (by decide) (by decide), h7]
  rcases ds_in_c x1 (n := m) (by omega) with h | ⟨h, i, hi, rfl⟩
  · simp only [h, if_true]
  · simp only [h, i3_10, if_false, i3_nat (show i < 2147483648 by omega), ds_bd, v_h0 hW, v_h1 hW, v_h2 hW, v_h3 hW, v_h4 hW, v_h5 hW, v_h6 hW, v_h7 hW, v_h8 hW, v_h9 hW, v_s0 hW, v_s8 hW, v_s9 hW, v_s10 hW, v_s11 hW, v_s12 hW, v_i100 hW, v_i101 hW, v_i103 hW, v_i105 hW, v_i107 hW, v_n3 hW, v_n5 hW, v_n7 hW, e_in, v_ldr hW (show i < 12 by omega)]
theorem e_feed (hW : ds_W G nP nD nA) {t : Nat} (ht : t ≤ 600) (h1 : ds_s S 1 = Int32.ofNat t) (a b c d e : Int32) : gG_X0_feed (dG G nP nD S) 100 a b c d e = some ((sp_feed S a b c d e).1, dG G nP nD (sp_feed S a b c d e).2) := by
  unfold gG_X0_feed sp_feed
  simp only [ds_bd, v_h0 hW, v_h1 hW, v_h2 hW, v_h3 hW, v_h4 hW, v_h5 hW, v_h6 hW, v_h7 hW, v_h8 hW, v_h9 hW, v_s0 hW, v_s8 hW, v_s9 hW, v_s10 hW, v_s11 hW, v_s12 hW, v_i100 hW, v_i101 hW, v_i103 hW, v_i105 hW, v_i107 hW, v_n3 hW, v_n5 hW, v_n7 hW, e_in, v_s hW (k := 1) (by decide) (by decide), v_s hW (k := 2) (by decide) (by decide), v_s hW (k := 3) (by decide) (by decide), v_s hW (k := 4) (by decide) (by decide), v_s hW (k := 5) (by decide) (by decide), v_s hW (k := 6) (by decide) (by decide), v_s hW (k := 7) (by decide) (by decide)]
  by_cases hc : ds_s S 1 + 20 ≤ 600
  · simp only [hc, if_true]
    have ht2 : t + 20 ≤ 600 := by
      rw [h1, show (20 : Int32) = Int32.ofNat 20 from rfl, i3_add, show (600 : Int32) = Int32.ofNat 600 from rfl, i3_le (by omega) (by omega)] at hc
      exact hc
    have key := ds_loop0 (L := fun n i (S : ds_S) => gG_X0_feed_L21 n (dG G nP nD S) 100 a b c d e (Int32.ofNat i)) (N := 20) (f := fun n S => sp_put S (ds_w5 a b c d e n) (ds_sh n)) (fin := fun S => some (ds_s S 1, dG G nP nD S)) (fun i S => ds_s S 1 = Int32.ofNat (t + i)) (fun n i S hi hI => by
      refine ⟨?_, ?_⟩
      · have step : ∀ v, gG_X0_feed_b74 (gG_X0_feed_L21 n) (dG G nP nD S) 100 a b c d e (Int32.ofNat i) v = gG_X0_feed_L21 n (dG G nP nD (sp_put S v (ds_sh i))) 100 a b c d e (Int32.ofNat (i + 1)) := by
          intro v
          unfold gG_X0_feed_b74 sp_put ds_sh
          simp only [ds_bd, v_h0 hW, v_h1 hW, v_h2 hW, v_h3 hW, v_h4 hW, v_h5 hW, v_h6 hW, v_h7 hW, v_h8 hW, v_h9 hW, v_s0 hW, v_s8 hW, v_s9 hW, v_s10 hW, v_s11 hW, v_s12 hW, v_i100 hW, v_i101 hW, v_i103 hW, v_i105 hW, v_i107 hW, v_n3 hW, v_n5 hW, v_n7 hW, e_in, v_s hW (k := 1) (by decide) (by decide), v_s hW (k := 2) (by decide) (by decide), v_s hW (k := 3) (by decide) (by decide), v_s hW (k := 4) (by decide) (by decide), v_s hW (k := 5) (by decide) (by decide), v_s hW (k := 6) (by decide) (by decide), v_s hW (k := 7) (by decide) (by decide), hI, w_stt hW (show t + i < 600 by omega), w_s hW (k := 1) (by decide) (by decide), w_s hW (k := 2) (by decide) (by decide), w_s hW (k := 3) (by decide) (by decide), w_s hW (k := 4) (by decide) (by decide), w_s hW (k := 5) (by decide) (by decide), w_s hW (k := 6) (by decide) (by decide), w_s hW (k := 7) (by decide) (by decide), sx_s_ut, i3_succ, i3_nat (show t + i < 2147483648 by omega)]
        show gG_X0_feed_L21_F _ _ _ _ _ _ _ _ _ = _
        unfold gG_X0_feed_L21_F
        simp only [step]
        have k20 : ¬ (20 : Int32) ≤ Int32.ofNat i := (not_congr (i3_le (m := 20) (by omega) (by omega))).mpr (by omega)
        have k4 : (4 : Int32) ≤ Int32.ofNat i ↔ 4 ≤ i := i3_le (m := 4) (by omega) (by omega)
        have k8 : (8 : Int32) ≤ Int32.ofNat i ↔ 8 ≤ i := i3_le (m := 8) (by omega) (by omega)
        have k12 : (12 : Int32) ≤ Int32.ofNat i ↔ 12 ≤ i := i3_le (m := 12) (by omega) (by omega)
        have k16 : (16 : Int32) ≤ Int32.ofNat i ↔ 16 ≤ i := i3_le (m := 16) (by omega) (by omega)
        rw [if_neg k20]
        unfold ds_w5
        by_cases c4 : i < 4
        · rw [if_pos (fun q => by have := k4.mp q; omega), if_pos c4]
        · rw [if_neg (fun q => q (k4.mpr (by omega))), if_neg c4]
          by_cases c8 : i < 8
          · rw [if_pos (fun q => by have := k8.mp q; omega), if_pos c8]
          · rw [if_neg (fun q => q (k8.mpr (by omega))), if_neg c8]
            by_cases c12 : i < 12
            · rw [if_pos (fun q => by have := k12.mp q; omega), if_pos c12]
            · rw [if_neg (fun q => q (k12.mpr (by omega))), if_neg c12]
              by_cases c16 : i < 16
              · rw [if_neg (fun q => by have := k16.mp q; omega), if_pos c16]
              · rw [if_pos (k16.mpr (by omega)), if_neg c16]
      · unfold sp_put
        simp only [sx_s_us, sx_p_us, sx_d_us, sx_l_us, sx_t_us, sx_r_us, sx_a_us, sx_b_us, sx_s_upp, sx_p_upp, sx_d_upp, sx_l_upp, sx_t_upp, sx_r_upp, sx_a_upp, sx_b_upp, sx_s_ud, sx_p_ud, sx_d_ud, sx_l_ud, sx_t_ud, sx_r_ud, sx_a_ud, sx_b_ud, sx_s_ul, sx_p_ul, sx_d_ul, sx_l_ul, sx_t_ul, sx_r_ul, sx_a_ul, sx_b_ul, sx_s_ut, sx_p_ut, sx_d_ut, sx_l_ut, sx_t_ut, sx_r_ut, sx_a_ut, sx_b_ut, sx_s_ur, sx_p_ur, sx_d_ur, sx_l_ur, sx_t_ur, sx_r_ur, sx_a_ur, sx_b_ur, sx_s_ua, sx_p_ua, sx_d_ua, sx_l_ua, sx_t_ua, sx_r_ua, sx_a_ua, sx_b_ua, sx_s_ub, sx_p_ub, sx_d_ub, sx_l_ub, sx_t_ub, sx_r_ub, sx_a_ub, sx_b_ub, sx_s_fa, sx_p_fa, sx_d_fa, sx_l_fa, sx_t_fa, sx_r_fa, sx_a_fa, sx_b_fa, sx_s_fb, sx_p_fb, sx_d_fb, sx_l_fb, sx_t_fb, sx_r_fb, sx_a_fb, sx_b_fb, reduceIte, false_and, true_and, and_true, and_false, and_self, if_true, if_false, Nat.reduceEqDiff, hI, i3_succ]
        rfl) (fun n S hI => by
      show gG_X0_feed_L21_F _ _ _ _ _ _ _ _ _ = _
      unfold gG_X0_feed_L21_F
      rw [if_pos (show (20 : Int32) ≤ Int32.ofNat 20 from (i3_le (m := 20) (by omega) (by omega)).mpr (Nat.le_refl _))]
      simp only [ds_bd, v_h0 hW, v_h1 hW, v_h2 hW, v_h3 hW, v_h4 hW, v_h5 hW, v_h6 hW, v_h7 hW, v_h8 hW, v_h9 hW, v_s0 hW, v_s8 hW, v_s9 hW, v_s10 hW, v_s11 hW, v_s12 hW, v_i100 hW, v_i101 hW, v_i103 hW, v_i105 hW, v_i107 hW, v_n3 hW, v_n5 hW, v_n7 hW, e_in, v_s hW (k := 1) (by decide) (by decide), v_s hW (k := 2) (by decide) (by decide), v_s hW (k := 3) (by decide) (by decide), v_s hW (k := 4) (by decide) (by decide), v_s hW (k := 5) (by decide) (by decide), v_s hW (k := 6) (by decide) (by decide), v_s hW (k := 7) (by decide) (by decide)]) (a := S) (n := dh_fu) (ds_fu (by omega)) h1
    rw [ds_feed_eq] at key
    exact key
  · simp only [hc, if_false]
theorem e_buy (hW : ds_W G nP nD nA) (hO : ds_Ok nP nD S) (x1 x2 x3 : Int32) : gG_X0_buy (dG G nP nD S) 100 x1 x2 x3 = some ((sp_buy nP nD S x1 x2 x3).1, dG G nP nD (sp_buy nP nD S x1 x2 x3).2) := by
  have hn := hW.1.2.1
  have hp := hW.1.1
  unfold gG_X0_buy sp_buy
  simp only [ds_bd, v_h0 hW, v_h1 hW, v_h2 hW, v_h3 hW, v_h4 hW, v_h5 hW, v_h6 hW, v_h7 hW, v_h8 hW, v_h9 hW, v_s0 hW, v_s8 hW, v_s9 hW, v_s10 hW, v_s11 hW, v_s12 hW, v_i100 hW, v_i101 hW, v_i103 hW, v_i105 hW, v_i107 hW, v_n3 hW, v_n5 hW, v_n7 hW, e_in, e_isLive hW hO, e_isPerson hW]
  rcases ds_live_c (nD := nD) (S := S) (x := x1) (by omega) with h | ⟨h, i, hi, rfl, hl⟩
  · simp only [h, if_true, true_or]
  · rcases ds_in_c x2 (n := nP) (by omega) with h2 | ⟨h2, b, hb, rfl⟩
    · simp only [h, h2, i3_10, if_false, if_true, true_or, false_or]
    · rcases ds_in_01 x3 0 100000 with h3 | h3
      · simp only [h, h2, h3, i3_10, if_false, if_true, true_or, false_or]
      · obtain ⟨⟨a, ha, ea⟩, ⟨c, hc, ec⟩, -⟩ := hO i hi
        simp only [h, h2, h3, i3_10, if_false, false_or, i3_nat (show i < 2147483648 by omega), i3_nat (show b < 2147483648 by omega), ds_bd, v_h0 hW, v_h1 hW, v_h2 hW, v_h3 hW, v_h4 hW, v_h5 hW, v_h6 hW, v_h7 hW, v_h8 hW, v_h9 hW, v_s0 hW, v_s8 hW, v_s9 hW, v_s10 hW, v_s11 hW, v_s12 hW, v_i100 hW, v_i101 hW, v_i103 hW, v_i105 hW, v_i107 hW, v_n3 hW, v_n5 hW, v_n7 hW, e_in, v_at hW hb, v_p hW (k := 1) (by decide) (by decide) hb, v_p hW (k := 2) (by decide) (by decide) hb, v_p hW (k := 3) (by decide) (by decide) hb, v_p hW (k := 4) (by decide) (by decide) hb, v_p hW (k := 5) (by decide) (by decide) hb, v_p hW (k := 6) (by decide) (by decide) hb, v_p hW (k := 7) (by decide) (by decide) hb, v_p hW (k := 8) (by decide) (by decide) hb, v_p hW (k := 9) (by decide) (by decide) hb, v_p hW (k := 10) (by decide) (by decide) hb, v_p hW (k := 11) (by decide) (by decide) hb, v_p hW (k := 12) (by decide) (by decide) hb, v_p hW (k := 13) (by decide) (by decide) hb, v_p hW (k := 14) (by decide) (by decide) hb, v_debtAt hW hi, v_d hW (k := 1) (by decide) (by decide) hi, v_d hW (k := 2) (by decide) (by decide) hi, v_d hW (k := 3) (by decide) (by decide) hi, v_d hW (k := 4) (by decide) (by decide) hi, v_d hW (k := 5) (by decide) (by decide) hi, v_d hW (k := 6) (by decide) (by decide) hi, v_d hW (k := 7) (by decide) (by decide) hi, v_d hW (k := 8) (by decide) (by decide) hi, v_d hW (k := 9) (by decide) (by decide) hi, v_d hW (k := 10) (by decide) (by decide) hi, v_d hW (k := 11) (by decide) (by decide) hi, v_d hW (k := 12) (by decide) (by decide) hi, v_d hW (k := 13) (by decide) (by decide) hi, v_d hW (k := 14) (by decide) (by decide) hi]
        by_cases c1 : x3 ≤ ds_p S 2 b
        · by_cases c2 : ds_d S 1 i = Int32.ofNat b
          · simp only [c1, c2, not_true_eq_false, if_false, if_true, true_or, false_or]
          · by_cases c3 : ds_d S 7 i = Int32.ofNat b
            · simp only [c1, c2, c3, not_true_eq_false, if_false, if_true, or_true]
            · have hO3 : ds_Ok nP nD (ds_ud (ds_ud (ds_upp (ds_upp S 2 b (ds_p S 2 b - x3)) 2 c (ds_p (ds_upp S 2 b (ds_p S 2 b - x3)) 2 c + x3)) 7 i (Int32.ofNat b)) 14 i 1) :=
                ds_Ok_ud (ds_Ok_cr (ds_Ok_upp (ds_Ok_upp hO)) hb) (by decide)
              simp only [c1, c2, c3, not_true_eq_false, if_false, false_or, or_false, w_p hW (k := 1) (by decide) (by decide) hb, w_p hW (k := 2) (by decide) (by decide) hb, w_p hW (k := 3) (by decide) (by decide) hb, w_p hW (k := 4) (by decide) (by decide) hb, w_p hW (k := 5) (by decide) (by decide) hb, w_p hW (k := 6) (by decide) (by decide) hb, w_p hW (k := 7) (by decide) (by decide) hb, w_p hW (k := 8) (by decide) (by decide) hb, w_p hW (k := 9) (by decide) (by decide) hb, w_p hW (k := 10) (by decide) (by decide) hb, w_p hW (k := 11) (by decide) (by decide) hb, w_p hW (k := 12) (by decide) (by decide) hb, w_p hW (k := 13) (by decide) (by decide) hb, w_p hW (k := 14) (by decide) (by decide) hb, ds_bd, v_h0 hW, v_h1 hW, v_h2 hW, v_h3 hW, v_h4 hW, v_h5 hW, v_h6 hW, v_h7 hW, v_h8 hW, v_h9 hW, v_s0 hW, v_s8 hW, v_s9 hW, v_s10 hW, v_s11 hW, v_s12 hW, v_i100 hW, v_i101 hW, v_i103 hW, v_i105 hW, v_i107 hW, v_n3 hW, v_n5 hW, v_n7 hW, e_in, v_d hW (k := 1) (by decide) (by decide) hi, v_d hW (k := 2) (by decide) (by decide) hi, v_d hW (k := 3) (by decide) (by decide) hi, v_d hW (k := 4) (by decide) (by decide) hi, v_d hW (k := 5) (by decide) (by decide) hi, v_d hW (k := 6) (by decide) (by decide) hi, v_d hW (k := 7) (by decide) (by decide) hi, v_d hW (k := 8) (by decide) (by decide) hi, v_d hW (k := 9) (by decide) (by decide) hi, v_d hW (k := 10) (by decide) (by decide) hi, v_d hW (k := 11) (by decide) (by decide) hi, v_d hW (k := 12) (by decide) (by decide) hi, v_d hW (k := 13) (by decide) (by decide) hi, v_d hW (k := 14) (by decide) (by decide) hi, sx_d_upp]
              rw [ec]
              simp only [i3_nat (show c < 2147483648 by omega), v_at hW hc, ds_bd, v_p hW (k := 1) (by decide) (by decide) hc, v_p hW (k := 2) (by decide) (by decide) hc, v_p hW (k := 3) (by decide) (by decide) hc, v_p hW (k := 4) (by decide) (by decide) hc, v_p hW (k := 5) (by decide) (by decide) hc, v_p hW (k := 6) (by decide) (by decide) hc, v_p hW (k := 7) (by decide) (by decide) hc, v_p hW (k := 8) (by decide) (by decide) hc, v_p hW (k := 9) (by decide) (by decide) hc, v_p hW (k := 10) (by decide) (by decide) hc, v_p hW (k := 11) (by decide) (by decide) hc, v_p hW (k := 12) (by decide) (by decide) hc, v_p hW (k := 13) (by decide) (by decide) hc, v_p hW (k := 14) (by decide) (by decide) hc, w_p hW (k := 1) (by decide) (by decide) hc, w_p hW (k := 2) (by decide) (by decide) hc, w_p hW (k := 3) (by decide) (by decide) hc, w_p hW (k := 4) (by decide) (by decide) hc, w_p hW (k := 5) (by decide) (by decide) hc, w_p hW (k := 6) (by decide) (by decide) hc, w_p hW (k := 7) (by decide) (by decide) hc, w_p hW (k := 8) (by decide) (by decide) hc, w_p hW (k := 9) (by decide) (by decide) hc, w_p hW (k := 10) (by decide) (by decide) hc, w_p hW (k := 11) (by decide) (by decide) hc, w_p hW (k := 12) (by decide) (by decide) hc, w_p hW (k := 13) (by decide) (by decide) hc, w_p hW (k := 14) (by decide) (by decide) hc, w_d hW (k := 1) (by decide) (by decide) hi, w_d hW (k := 2) (by decide) (by decide) hi, w_d hW (k := 3) (by decide) (by decide) hi, w_d hW (k := 4) (by decide) (by decide) hi, w_d hW (k := 5) (by decide) (by decide) hi, w_d hW (k := 6) (by decide) (by decide) hi, w_d hW (k := 7) (by decide) (by decide) hi, w_d hW (k := 8) (by decide) (by decide) hi, w_d hW (k := 9) (by decide) (by decide) hi, w_d hW (k := 10) (by decide) (by decide) hi, w_d hW (k := 11) (by decide) (by decide) hi, w_d hW (k := 12) (by decide) (by decide) hi, w_d hW (k := 13) (by decide) (by decide) hi, w_d hW (k := 14) (by decide) (by decide) hi, w_dZ hW (k := 14) (Or.inr rfl) (by decide) (by decide) hi, v_i100 hW, e_looks hW hO3]
        · simp only [c1, not_false_eq_true, if_true, true_or]
end
section
variable {M : dm_M} {nP nD : Nat} {S : ds_S}
theorem dM_p10 {i : Nat} (hi : i < nP) : dm_set (dM M nP nD S) 23 0 (ds_rows S nP + 1) = dM M nP nD (ds_upp S 10 i (ds_p S 10 i + 1)) := by
  refine dM_ext (fun a b => ?_) rfl
  show (if a = 23 ∧ b = 0 then ds_rows S nP + 1 else (dM M nP nD S).1 a b) = _
  by_cases hp : dM_pt a ≠ 0 ∧ b < nP
  · have := dM_ptb hp.1
    have h10 : dM_pt a ≠ 10 := by
      have key : ∀ x, x < 23 → dM_pt x ≠ 10 := by decide
      exact key a (by omega)
    rw [if_neg (by omega), xv_p hp.1 hp.2, xv_p hp.1 hp.2]
    exact (if_neg (fun q => h10 q.1)).symm
  · unfold dM
    dsimp only
    rw [if_neg hp, if_neg hp, ds_rows_up hi]
    by_cases h : a = 23 ∧ b = 0
    · rw [if_pos h]
      simp [h.1, h.2, dM_sc, dM_dt]
    · rw [if_neg h]
      simp only [h, if_false]
      rfl
theorem em_book (hM : ds_lim nP nD) (x1 x2 : Int32) : gM_book (dM M nP nD S) x1 x2 = some ((sp_book nP S x1 x2).1, dM (dm_set M 0 0 0) nP nD (sp_book nP S x1 x2).2) := by
  have hn := hM.1
  unfold gM_book sp_book
  simp only [ds_bd, em_in, x_np hM, x_nd hM, em_code, em_isPerson hM, x_rows hM]
  rcases ds_in_c x1 (n := nP) (by omega) with h | ⟨h, i, hi, rfl⟩
  · simp only [h, if_true, true_or]
  · simp only [h, i3_10, if_false, false_or, i3_nat (show i < 2147483648 by omega)]
    by_cases c3 : ds_rows S nP = 60
    · simp only [c3, if_true, or_true]
    · by_cases c1 : x2 = 0
      · simp only [c1, c3, if_true, true_or, if_false]
      · rcases ds_in_01 x2 (-100000) 100000 with h2 | h2
        · simp only [c1, h2, c3, if_true, if_false, true_or, false_or]
        · have e1 : dm_wr (dM (dm_set M 0 0 0) nP nD S) 23 0 (ds_rows S nP + 1) = some (dM (dm_set M 0 0 0) nP nD (ds_upp S 10 i (ds_p S 10 i + 1))) := by
            rw [← dM_p10 hi]
            exact x_wr (i := 0) (k := 23) (by decide) (by decide)
          simp only [c1, h2, c3, if_false, i3_10, false_or, e1, ds_bd, em_in, x_np hM, x_nd hM, x_p hM (k := 9) (by decide) hi, x_p hM (k := 10) (by decide) hi, x_p hM (k := 12) (by decide) hi, x_p hM (k := 14) (by decide) hi, x_p hM (k := 15) (by decide) hi, x_p hM (k := 16) (by decide) hi, x_p hM (k := 17) (by decide) hi, x_p hM (k := 18) (by decide) hi, x_p hM (k := 19) (by decide) hi, x_p hM (k := 20) (by decide) hi, x_p hM (k := 21) (by decide) hi, x_p hM (k := 22) (by decide) hi, dt_26, dt_27, dt_28, dt_29, dt_30, dt_31, dt_32, dt_33, dt_34, dt_35, dt_36, dt_37, dt_38, dt_39, dt_40, pt_9, pt_10, pt_12, pt_14, pt_15, pt_16, pt_17, pt_18, pt_19, pt_20, pt_21, pt_22, sc_2, sc_3, sc_4, sc_5, sc_6, sc_7, sc_41, y_p hM (k := 9) (by decide) (by decide) hi, y_p hM (k := 10) (by decide) (by decide) hi, y_p hM (k := 14) (by decide) (by decide) hi, y_p hM (k := 15) (by decide) (by decide) hi, y_p hM (k := 16) (by decide) (by decide) hi, y_p hM (k := 17) (by decide) (by decide) hi, y_p hM (k := 18) (by decide) (by decide) hi, y_p hM (k := 19) (by decide) (by decide) hi, y_p hM (k := 20) (by decide) (by decide) hi, y_p hM (k := 21) (by decide) (by decide) hi, y_p hM (k := 22) (by decide) (by decide) hi, dt_26, dt_27, dt_28, dt_29, dt_30, dt_31, dt_32, dt_33, dt_34, dt_35, dt_36, dt_37, dt_38, dt_39, dt_40, pt_9, pt_10, pt_12, pt_14, pt_15, pt_16, pt_17, pt_18, pt_19, pt_20, pt_21, pt_22, sc_2, sc_3, sc_4, sc_5, sc_6, sc_7, sc_41, sx_s_us, sx_p_us, sx_d_us, sx_l_us, sx_t_us, sx_r_us, sx_a_us, sx_b_us, sx_s_upp, sx_p_upp, sx_d_upp, sx_l_upp, sx_t_upp, sx_r_upp, sx_a_upp, sx_b_upp, sx_s_ud, sx_p_ud, sx_d_ud, sx_l_ud, sx_t_ud, sx_r_ud, sx_a_ud, sx_b_ud, sx_s_ul, sx_p_ul, sx_d_ul, sx_l_ul, sx_t_ul, sx_r_ul, sx_a_ul, sx_b_ul, sx_s_ut, sx_p_ut, sx_d_ut, sx_l_ut, sx_t_ut, sx_r_ut, sx_a_ut, sx_b_ut, sx_s_ur, sx_p_ur, sx_d_ur, sx_l_ur, sx_t_ur, sx_r_ur, sx_a_ur, sx_b_ur, sx_s_ua, sx_p_ua, sx_d_ua, sx_l_ua, sx_t_ua, sx_r_ua, sx_a_ua, sx_b_ua, sx_s_ub, sx_p_ub, sx_d_ub, sx_l_ub, sx_t_ub, sx_r_ub, sx_a_ub, sx_b_ub, sx_s_fa, sx_p_fa, sx_d_fa, sx_l_fa, sx_t_fa, sx_r_fa, sx_a_fa, sx_b_fa, sx_s_fb, sx_p_fb, sx_d_fb, sx_l_fb, sx_t_fb, sx_r_fb, sx_a_fb, sx_b_fb, reduceIte, false_and, true_and, and_true, and_false, and_self, if_true, if_false, Nat.reduceEqDiff]
          have e2 := ds_min_le (ds_p S 11 i + x2) (ds_p S 12 i)
          rw [ds_min_comm] at e2
          by_cases c : ds_p S 12 i ≤ ds_p S 11 i + x2
          · rw [if_pos c] at e2
            simp only [c, if_true, y_p hM (k := 9) (by decide) (by decide) hi, y_p hM (k := 10) (by decide) (by decide) hi, y_p hM (k := 14) (by decide) (by decide) hi, y_p hM (k := 15) (by decide) (by decide) hi, y_p hM (k := 16) (by decide) (by decide) hi, y_p hM (k := 17) (by decide) (by decide) hi, y_p hM (k := 18) (by decide) (by decide) hi, y_p hM (k := 19) (by decide) (by decide) hi, y_p hM (k := 20) (by decide) (by decide) hi, y_p hM (k := 21) (by decide) (by decide) hi, y_p hM (k := 22) (by decide) (by decide) hi, dt_26, dt_27, dt_28, dt_29, dt_30, dt_31, dt_32, dt_33, dt_34, dt_35, dt_36, dt_37, dt_38, dt_39, dt_40, pt_9, pt_10, pt_12, pt_14, pt_15, pt_16, pt_17, pt_18, pt_19, pt_20, pt_21, pt_22, sc_2, sc_3, sc_4, sc_5, sc_6, sc_7, sc_41, ds_bd, x_p hM (k := 9) (by decide) hi, x_p hM (k := 10) (by decide) hi, x_p hM (k := 12) (by decide) hi, x_p hM (k := 14) (by decide) hi, x_p hM (k := 15) (by decide) hi, x_p hM (k := 16) (by decide) hi, x_p hM (k := 17) (by decide) hi, x_p hM (k := 18) (by decide) hi, x_p hM (k := 19) (by decide) hi, x_p hM (k := 20) (by decide) hi, x_p hM (k := 21) (by decide) hi, x_p hM (k := 22) (by decide) hi, dt_26, dt_27, dt_28, dt_29, dt_30, dt_31, dt_32, dt_33, dt_34, dt_35, dt_36, dt_37, dt_38, dt_39, dt_40, pt_9, pt_10, pt_12, pt_14, pt_15, pt_16, pt_17, pt_18, pt_19, pt_20, pt_21, pt_22, sc_2, sc_3, sc_4, sc_5, sc_6, sc_7, sc_41, sx_s_us, sx_p_us, sx_d_us, sx_l_us, sx_t_us, sx_r_us, sx_a_us, sx_b_us, sx_s_upp, sx_p_upp, sx_d_upp, sx_l_upp, sx_t_upp, sx_r_upp, sx_a_upp, sx_b_upp, sx_s_ud, sx_p_ud, sx_d_ud, sx_l_ud, sx_t_ud, sx_r_ud, sx_a_ud, sx_b_ud, sx_s_ul, sx_p_ul, sx_d_ul, sx_l_ul, sx_t_ul, sx_r_ul, sx_a_ul, sx_b_ul, sx_s_ut, sx_p_ut, sx_d_ut, sx_l_ut, sx_t_ut, sx_r_ut, sx_a_ut, sx_b_ut, sx_s_ur, sx_p_ur, sx_d_ur, sx_l_ur, sx_t_ur, sx_r_ur, sx_a_ur, sx_b_ur, sx_s_ua, sx_p_ua, sx_d_ua, sx_l_ua, sx_t_ua, sx_r_ua, sx_a_ua, sx_b_ua, sx_s_ub, sx_p_ub, sx_d_ub, sx_l_ub, sx_t_ub, sx_r_ub, sx_a_ub, sx_b_ub, sx_s_fa, sx_p_fa, sx_d_fa, sx_l_fa, sx_t_fa, sx_r_fa, sx_a_fa, sx_b_fa, sx_s_fb, sx_p_fb, sx_d_fb, sx_l_fb, sx_t_fb, sx_r_fb, sx_a_fb, sx_b_fb, reduceIte, false_and, true_and, and_true, and_false, and_self, if_true, if_false, Nat.reduceEqDiff]
            rw [← e2]
          · rw [if_neg c] at e2
            simp only [c, if_false, y_p hM (k := 9) (by decide) (by decide) hi, y_p hM (k := 10) (by decide) (by decide) hi, y_p hM (k := 14) (by decide) (by decide) hi, y_p hM (k := 15) (by decide) (by decide) hi, y_p hM (k := 16) (by decide) (by decide) hi, y_p hM (k := 17) (by decide) (by decide) hi, y_p hM (k := 18) (by decide) (by decide) hi, y_p hM (k := 19) (by decide) (by decide) hi, y_p hM (k := 20) (by decide) (by decide) hi, y_p hM (k := 21) (by decide) (by decide) hi, y_p hM (k := 22) (by decide) (by decide) hi, dt_26, dt_27, dt_28, dt_29, dt_30, dt_31, dt_32, dt_33, dt_34, dt_35, dt_36, dt_37, dt_38, dt_39, dt_40, pt_9, pt_10, pt_12, pt_14, pt_15, pt_16, pt_17, pt_18, pt_19, pt_20, pt_21, pt_22, sc_2, sc_3, sc_4, sc_5, sc_6, sc_7, sc_41, ds_bd, x_p hM (k := 9) (by decide) hi, x_p hM (k := 10) (by decide) hi, x_p hM (k := 12) (by decide) hi, x_p hM (k := 14) (by decide) hi, x_p hM (k := 15) (by decide) hi, x_p hM (k := 16) (by decide) hi, x_p hM (k := 17) (by decide) hi, x_p hM (k := 18) (by decide) hi, x_p hM (k := 19) (by decide) hi, x_p hM (k := 20) (by decide) hi, x_p hM (k := 21) (by decide) hi, x_p hM (k := 22) (by decide) hi, dt_26, dt_27, dt_28, dt_29, dt_30, dt_31, dt_32, dt_33, dt_34, dt_35, dt_36, dt_37, dt_38, dt_39, dt_40, pt_9, pt_10, pt_12, pt_14, pt_15, pt_16, pt_17, pt_18, pt_19, pt_20, pt_21, pt_22, sc_2, sc_3, sc_4, sc_5, sc_6, sc_7, sc_41, sx_s_us, sx_p_us, sx_d_us, sx_l_us, sx_t_us, sx_r_us, sx_a_us, sx_b_us, sx_s_upp, sx_p_upp, sx_d_upp, sx_l_upp, sx_t_upp, sx_r_upp, sx_a_upp, sx_b_upp, sx_s_ud, sx_p_ud, sx_d_ud, sx_l_ud, sx_t_ud, sx_r_ud, sx_a_ud, sx_b_ud, sx_s_ul, sx_p_ul, sx_d_ul, sx_l_ul, sx_t_ul, sx_r_ul, sx_a_ul, sx_b_ul, sx_s_ut, sx_p_ut, sx_d_ut, sx_l_ut, sx_t_ut, sx_r_ut, sx_a_ut, sx_b_ut, sx_s_ur, sx_p_ur, sx_d_ur, sx_l_ur, sx_t_ur, sx_r_ur, sx_a_ur, sx_b_ur, sx_s_ua, sx_p_ua, sx_d_ua, sx_l_ua, sx_t_ua, sx_r_ua, sx_a_ua, sx_b_ua, sx_s_ub, sx_p_ub, sx_d_ub, sx_l_ub, sx_t_ub, sx_r_ub, sx_a_ub, sx_b_ub, sx_s_fa, sx_p_fa, sx_d_fa, sx_l_fa, sx_t_fa, sx_r_fa, sx_a_fa, sx_b_fa, sx_s_fb, sx_p_fb, sx_d_fb, sx_l_fb, sx_t_fb, sx_r_fb, sx_a_fb, sx_b_fb, reduceIte, false_and, true_and, and_true, and_false, and_self, if_true, if_false, Nat.reduceEqDiff]
            rw [← e2]
theorem em_count (hM : ds_lim nP nD) {nA : Nat} (hA : M.1 43 0 = Int32.ofNat nA) (x1 : Int32) : gM_count (dM M nP nD S) x1 = some (sp_count nP nD nA S x1, dM (dm_set M 0 0 0) nP nD S) := by
  have hn := hM.1
  have hn' := hM.2
  unfold gM_count sp_count
  simp only [ds_bd, em_in, x_np hM, x_nd hM, em_code, x_s hM (k := 2) (by decide), x_s hM (k := 3) (by decide), x_s hM (k := 4) (by decide), x_s hM (k := 5) (by decide), x_s hM (k := 6) (by decide), x_s hM (k := 7) (by decide), x_s hM (k := 41) (by decide), dt_26, dt_27, dt_28, dt_29, dt_30, dt_31, dt_32, dt_33, dt_34, dt_35, dt_36, dt_37, dt_38, dt_39, dt_40, pt_9, pt_10, pt_12, pt_14, pt_15, pt_16, pt_17, pt_18, pt_19, pt_20, pt_21, pt_22, sc_2, sc_3, sc_4, sc_5, sc_6, sc_7, sc_41, x_rows hM]
  have e43 : dm_rd (dM (dm_set M 0 0 0) nP nD S) 43 0 = some (Int32.ofNat nA) := by
    refine (x_rd (i := 0) (k := 43) (by decide) (by decide)).trans ?_
    rw [xv_f (Or.inr (by decide)), show (dm_set M 0 0 0).1 43 0 = M.1 43 0 from rfl, hA]
  have l1 : gM_count_L88 dh_fu (dM (dm_set M 0 0 0) nP nD S) 0 0 = some (sp_liveN S nD, dM (dm_set M 0 0 0) nP nD S) := ds_loopT (L := fun n i a => gM_count_L88 n (dM (dm_set M 0 0 0) nP nD S) a (Int32.ofNat i)) (N := nD) (f := fun d a => a + if ds_d S 15 d = 0 then 1 else 0) (fin := fun a => some (a, dM (dm_set M 0 0 0) nP nD S)) (fun n i a hi => by
    show gM_count_L88_F _ _ _ _ = _
    unfold gM_count_L88_F
    simp only [ds_bd, em_in, x_np hM, x_nd hM, x_d hM (k := 26) (by decide) hi, x_d hM (k := 27) (by decide) hi, x_d hM (k := 28) (by decide) hi, x_d hM (k := 29) (by decide) hi, x_d hM (k := 30) (by decide) hi, x_d hM (k := 31) (by decide) hi, x_d hM (k := 32) (by decide) hi, x_d hM (k := 33) (by decide) hi, x_d hM (k := 34) (by decide) hi, x_d hM (k := 35) (by decide) hi, x_d hM (k := 36) (by decide) hi, x_d hM (k := 37) (by decide) hi, x_d hM (k := 38) (by decide) hi, x_d hM (k := 39) (by decide) hi, x_d hM (k := 40) (by decide) hi, dt_26, dt_27, dt_28, dt_29, dt_30, dt_31, dt_32, dt_33, dt_34, dt_35, dt_36, dt_37, dt_38, dt_39, dt_40, pt_9, pt_10, pt_12, pt_14, pt_15, pt_16, pt_17, pt_18, pt_19, pt_20, pt_21, pt_22, sc_2, sc_3, sc_4, sc_5, sc_6, sc_7, sc_41, i3_succ]
    rw [if_neg ((not_congr (i3_le (by omega) (by omega))).mpr (by omega))]
    by_cases e : ds_d S 15 i = 0
    · simp only [e, if_true]
    · simp only [e, if_false]) (fun n a => by
    show gM_count_L88_F _ _ _ _ = _
    unfold gM_count_L88_F
    simp only [ds_bd, em_in, x_np hM, x_nd hM]
    rw [if_pos ((i3_le (by omega) (by omega)).mpr (Nat.le_refl _))]) (ds_fu (by omega))
  have l2 : gM_count_L146 dh_fu (dM (dm_set M 0 0 0) nP nD S) 0 0 = some (sp_heldN S nP, dM (dm_set M 0 0 0) nP nD S) := ds_loopT (L := fun n i a => gM_count_L146 n (dM (dm_set M 0 0 0) nP nD S) a (Int32.ofNat i)) (N := nP) (f := fun d a => a + if ds_p S 3 d = -1 then 0 else 1) (fin := fun a => some (a, dM (dm_set M 0 0 0) nP nD S)) (fun n i a hi => by
    show gM_count_L146_F _ _ _ _ = _
    unfold gM_count_L146_F
    simp only [ds_bd, em_in, x_np hM, x_nd hM, x_held hM hi, i3_succ]
    rw [if_neg ((not_congr (i3_le (by omega) (by omega))).mpr (by omega))]
    by_cases e : ds_p S 3 i = -1
    · simp only [e, if_true]
    · simp only [e, if_false, i3_10]) (fun n a => by
    show gM_count_L146_F _ _ _ _ = _
    unfold gM_count_L146_F
    simp only [ds_bd, em_in, x_np hM, x_nd hM]
    rw [if_pos ((i3_le (by omega) (by omega)).mpr (Nat.le_refl _))]) (ds_fu (by omega))
  have l3 : gM_count_L197 dh_fu (dM (dm_set M 0 0 0) nP nD S) 0 0 = some (sp_coinsN S nP, dM (dm_set M 0 0 0) nP nD S) := ds_loopT (L := fun n i a => gM_count_L197 n (dM (dm_set M 0 0 0) nP nD S) a (Int32.ofNat i)) (N := nP) (f := fun d a => a + ds_p S 2 d) (fin := fun a => some (a, dM (dm_set M 0 0 0) nP nD S)) (fun n i a hi => by
    show gM_count_L197_F _ _ _ _ = _
    unfold gM_count_L197_F
    simp only [ds_bd, em_in, x_np hM, x_nd hM, x_p hM (k := 9) (by decide) hi, x_p hM (k := 10) (by decide) hi, x_p hM (k := 12) (by decide) hi, x_p hM (k := 14) (by decide) hi, x_p hM (k := 15) (by decide) hi, x_p hM (k := 16) (by decide) hi, x_p hM (k := 17) (by decide) hi, x_p hM (k := 18) (by decide) hi, x_p hM (k := 19) (by decide) hi, x_p hM (k := 20) (by decide) hi, x_p hM (k := 21) (by decide) hi, x_p hM (k := 22) (by decide) hi, dt_26, dt_27, dt_28, dt_29, dt_30, dt_31, dt_32, dt_33, dt_34, dt_35, dt_36, dt_37, dt_38, dt_39, dt_40, pt_9, pt_10, pt_12, pt_14, pt_15, pt_16, pt_17, pt_18, pt_19, pt_20, pt_21, pt_22, sc_2, sc_3, sc_4, sc_5, sc_6, sc_7, sc_41, i3_succ]
    rw [if_neg ((not_congr (i3_le (by omega) (by omega))).mpr (by omega))]) (fun n a => by
    show gM_count_L197_F _ _ _ _ = _
    unfold gM_count_L197_F
    simp only [ds_bd, em_in, x_np hM, x_nd hM]
    rw [if_pos ((i3_le (by omega) (by omega)).mpr (Nat.le_refl _))]) (ds_fu (by omega))
  have l4 : gM_count_L226 dh_fu (dM (dm_set M 0 0 0) nP nD S) 0 0 = some (sp_allD S nD, dM (dm_set M 0 0 0) nP nD S) := ds_loopT (L := fun n i a => gM_count_L226 n (dM (dm_set M 0 0 0) nP nD S) a (Int32.ofNat i)) (N := nD) (f := fun d a => a + sp_due S d) (fin := fun a => some (a, dM (dm_set M 0 0 0) nP nD S)) (fun n i a hi => by
    show gM_count_L226_F _ _ _ _ = _
    unfold gM_count_L226_F
    simp only [ds_bd, em_in, x_np hM, x_nd hM, em_due hM hi, i3_succ]
    rw [if_neg ((not_congr (i3_le (by omega) (by omega))).mpr (by omega))]) (fun n a => by
    show gM_count_L226_F _ _ _ _ = _
    unfold gM_count_L226_F
    simp only [ds_bd, em_in, x_np hM, x_nd hM]
    rw [if_pos ((i3_le (by omega) (by omega)).mpr (Nat.le_refl _))]) (ds_fu (by omega))
  simp only [e43, l1, l2, l3, l4, ds_bd, ds_sif2]
theorem x_hand {m i : Nat} (hm : m ≤ 12) (h7 : ds_s S 7 = Int32.ofNat m) (hi : i < m) : dm_rd (dM M nP nD S) 42 (Int32.ofNat i) = some (ds_r S i) := by
  rw [x_rd (k := 42) (show i < dm_len 42 by show i < 48; omega) (by decide)]
  have e : i < (ds_s S 7).toNatClampNeg := by rw [h7, i3_nat (by omega)]; exact hi
  have e2 : i < 12 := by omega
  simp [dM, dM_sc, dM_pt, dM_dt, e, e2]
theorem em_row (hM : ds_lim nP nD) {m : Nat} (hm : m ≤ 12) (h7 : ds_s S 7 = Int32.ofNat m) (x1 : Int32) : gM_row (dM M nP nD S) x1 = some (sp_row S x1, dM (dm_set M 0 0 0) nP nD S) := by
  unfold gM_row sp_row
  simp only [ds_bd, em_in, x_np hM, x_nd hM, em_code, x_s hM (k := 2) (by decide), x_s hM (k := 3) (by decide), x_s hM (k := 4) (by decide), x_s hM (k := 5) (by decide), x_s hM (k := 6) (by decide), x_s hM (k := 7) (by decide), x_s hM (k := 41) (by decide), dt_26, dt_27, dt_28, dt_29, dt_30, dt_31, dt_32, dt_33, dt_34, dt_35, dt_36, dt_37, dt_38, dt_39, dt_40, pt_9, pt_10, pt_12, pt_14, pt_15, pt_16, pt_17, pt_18, pt_19, pt_20, pt_21, pt_22, sc_2, sc_3, sc_4, sc_5, sc_6, sc_7, sc_41, h7]
  rcases ds_in_c x1 (n := m) (by omega) with h | ⟨h, i, hi, rfl⟩
  · simp only [h, if_true]
  · simp only [h, i3_10, if_false, i3_nat (show i < 2147483648 by omega), x_hand hm h7 hi, ds_bd]
theorem em_four (hM : ds_lim nP nD) {t : Nat} (ht : t + 4 ≤ 600) (h1 : ds_s S 1 = Int32.ofNat t) (v : Int32) : gM_four (dM M nP nD S) v = some (dM M nP nD (sp_four S v)) ∧ ds_s (sp_four S v) 1 = Int32.ofNat (t + 4) := by
  have put1 : ∀ (S : ds_S) (t : Nat) (sh : Int32), t < 600 → ds_s S 1 = Int32.ofNat t → ds_s (sp_put S v sh) 1 = Int32.ofNat (t + 1) := by
    intro S t sh _ h
    unfold sp_put
    simp only [sx_s_us, sx_p_us, sx_d_us, sx_l_us, sx_t_us, sx_r_us, sx_a_us, sx_b_us, sx_s_upp, sx_p_upp, sx_d_upp, sx_l_upp, sx_t_upp, sx_r_upp, sx_a_upp, sx_b_upp, sx_s_ud, sx_p_ud, sx_d_ud, sx_l_ud, sx_t_ud, sx_r_ud, sx_a_ud, sx_b_ud, sx_s_ul, sx_p_ul, sx_d_ul, sx_l_ul, sx_t_ul, sx_r_ul, sx_a_ul, sx_b_ul, sx_s_ut, sx_p_ut, sx_d_ut, sx_l_ut, sx_t_ut, sx_r_ut, sx_a_ut, sx_b_ut, sx_s_ur, sx_p_ur, sx_d_ur, sx_l_ur, sx_t_ur, sx_r_ur, sx_a_ur, sx_b_ur, sx_s_ua, sx_p_ua, sx_d_ua, sx_l_ua, sx_t_ua, sx_r_ua, sx_a_ua, sx_b_ua, sx_s_ub, sx_p_ub, sx_d_ub, sx_l_ub, sx_t_ub, sx_r_ub, sx_a_ub, sx_b_ub, sx_s_fa, sx_p_fa, sx_d_fa, sx_l_fa, sx_t_fa, sx_r_fa, sx_a_fa, sx_b_fa, sx_s_fb, sx_p_fb, sx_d_fb, sx_l_fb, sx_t_fb, sx_r_fb, sx_a_fb, sx_b_fb, reduceIte, false_and, true_and, and_true, and_false, and_self, if_true, if_false, Nat.reduceEqDiff, h, i3_succ]
  have step : ∀ (n : Nat) (S : ds_S) (t : Nat) (sh : Int32), t < 600 → ds_s S 1 = Int32.ofNat t → ¬ sh < 0 → gM_four_L3 (n + 1) (dM M nP nD S) v sh = gM_four_L3 n (dM M nP nD (sp_put S v sh)) v (sh + (-8)) := by
    intro n S t sh ht h hs
    show gM_four_L3_F _ _ _ _ = _
    unfold gM_four_L3_F sp_put
    simp only [hs, if_false, x_s hM (k := 2) (by decide), x_s hM (k := 3) (by decide), x_s hM (k := 4) (by decide), x_s hM (k := 5) (by decide), x_s hM (k := 6) (by decide), x_s hM (k := 7) (by decide), x_s hM (k := 41) (by decide), dt_26, dt_27, dt_28, dt_29, dt_30, dt_31, dt_32, dt_33, dt_34, dt_35, dt_36, dt_37, dt_38, dt_39, dt_40, pt_9, pt_10, pt_12, pt_14, pt_15, pt_16, pt_17, pt_18, pt_19, pt_20, pt_21, pt_22, sc_2, sc_3, sc_4, sc_5, sc_6, sc_7, sc_41, ds_bd, h, y_tape ht, y_s hM (k := 2) (by decide) (by decide), y_s hM (k := 3) (by decide) (by decide), y_s hM (k := 4) (by decide) (by decide), y_s hM (k := 5) (by decide) (by decide), y_s hM (k := 6) (by decide) (by decide), y_s hM (k := 7) (by decide) (by decide), dt_26, dt_27, dt_28, dt_29, dt_30, dt_31, dt_32, dt_33, dt_34, dt_35, dt_36, dt_37, dt_38, dt_39, dt_40, pt_9, pt_10, pt_12, pt_14, pt_15, pt_16, pt_17, pt_18, pt_19, pt_20, pt_21, pt_22, sc_2, sc_3, sc_4, sc_5, sc_6, sc_7, sc_41, sx_s_ut, i3_nat (show t < 2147483648 by omega)]
  have h2 := put1 S t 24 (by omega) h1
  have h3 := put1 _ (t + 1) 16 (by omega) h2
  have h4 := put1 _ (t + 2) 8 (by omega) h3
  have h5 := put1 _ (t + 3) 0 (by omega) h4
  refine ⟨?_, h5⟩
  obtain ⟨m, hm⟩ : ∃ m, dh_fu = m + 1 + 1 + 1 + 1 + 1 := ⟨dh_fu - 5, by have := ds_fu (N := 5) (by decide); omega⟩
  unfold gM_four
  rw [hm, step _ S t 24 (by omega) h1 (by decide), show (24 : Int32) + (-8) = 16 by decide, step _ _ (t + 1) 16 (by omega) h2 (by decide), show (16 : Int32) + (-8) = 8 by decide, step _ _ (t + 2) 8 (by omega) h3 (by decide), show (8 : Int32) + (-8) = 0 by decide, step _ _ (t + 3) 0 (by omega) h4 (by decide)]
  show gM_four_L3_F _ _ _ _ = _
  unfold gM_four_L3_F
  rw [if_pos (by decide)]
  rfl
theorem em_feed (hM : ds_lim nP nD) {t : Nat} (ht : t ≤ 600) (h1 : ds_s S 1 = Int32.ofNat t) (a b c d e : Int32) : gM_feed (dM M nP nD S) a b c d e = some ((sp_feed S a b c d e).1, dM (dm_set M 0 0 0) nP nD (sp_feed S a b c d e).2) := by
  unfold gM_feed sp_feed
  simp only [ds_bd, em_in, x_np hM, x_nd hM, em_code, x_s hM (k := 2) (by decide), x_s hM (k := 3) (by decide), x_s hM (k := 4) (by decide), x_s hM (k := 5) (by decide), x_s hM (k := 6) (by decide), x_s hM (k := 7) (by decide), x_s hM (k := 41) (by decide), dt_26, dt_27, dt_28, dt_29, dt_30, dt_31, dt_32, dt_33, dt_34, dt_35, dt_36, dt_37, dt_38, dt_39, dt_40, pt_9, pt_10, pt_12, pt_14, pt_15, pt_16, pt_17, pt_18, pt_19, pt_20, pt_21, pt_22, sc_2, sc_3, sc_4, sc_5, sc_6, sc_7, sc_41]
  by_cases hc : ds_s S 1 + 20 ≤ 600
  · have ht2 : t + 20 ≤ 600 := by
      rw [h1, show (20 : Int32) = Int32.ofNat 20 from rfl, i3_add, show (600 : Int32) = Int32.ofNat 600 from rfl, i3_le (by omega) (by omega)] at hc
      exact hc
    obtain ⟨g1, s1⟩ := em_four (M := dm_set M 0 0 0) hM (show t + 4 ≤ 600 by omega) h1 a
    obtain ⟨g2, s2⟩ := em_four (M := dm_set M 0 0 0) hM (show t + 4 + 4 ≤ 600 by omega) s1 b
    obtain ⟨g3, s3⟩ := em_four (M := dm_set M 0 0 0) hM (show t + 4 + 4 + 4 ≤ 600 by omega) s2 c
    obtain ⟨g4, s4⟩ := em_four (M := dm_set M 0 0 0) hM (show t + 4 + 4 + 4 + 4 ≤ 600 by omega) s3 d
    obtain ⟨g5, s5⟩ := em_four (M := dm_set M 0 0 0) hM (show t + 4 + 4 + 4 + 4 + 4 ≤ 600 by omega) s4 e
    simp only [hc, not_true_eq_false, if_false, if_true, g1, g2, g3, g4, g5, ds_bd, x_s hM (k := 2) (by decide), x_s hM (k := 3) (by decide), x_s hM (k := 4) (by decide), x_s hM (k := 5) (by decide), x_s hM (k := 6) (by decide), x_s hM (k := 7) (by decide), x_s hM (k := 41) (by decide), dt_26, dt_27, dt_28, dt_29, dt_30, dt_31, dt_32, dt_33, dt_34, dt_35, dt_36, dt_37, dt_38, dt_39, dt_40, pt_9, pt_10, pt_12, pt_14, pt_15, pt_16, pt_17, pt_18, pt_19, pt_20, pt_21, pt_22, sc_2, sc_3, sc_4, sc_5, sc_6, sc_7, sc_41]
  · simp only [hc, not_false_eq_true, if_true, if_false]
theorem em_buy (hM : ds_lim nP nD) (hO : ds_Ok nP nD S) (x1 x2 x3 : Int32) : gM_buy (dM M nP nD S) x1 x2 x3 = some ((sp_buy nP nD S x1 x2 x3).1, dM (dm_set M 0 0 0) nP nD (sp_buy nP nD S x1 x2 x3).2) := by
  have hn := hM.2
  have hp := hM.1
  unfold gM_buy sp_buy
  simp only [ds_bd, em_in, x_np hM, x_nd hM, em_code, em_isLive hM, em_isPerson hM]
  rcases ds_live_c (nD := nD) (S := S) (x := x1) (by omega) with h | ⟨h, i, hi, rfl, hl⟩
  · simp only [h, if_true, true_or]
  · rcases ds_in_c x2 (n := nP) (by omega) with h2 | ⟨h2, b, hb, rfl⟩
    · simp only [h, h2, i3_10, if_false, if_true, true_or, false_or]
    · obtain ⟨⟨a, ha, ea⟩, ⟨c, hc, ec⟩, -⟩ := hO i hi
      simp only [h, h2, i3_10, if_false, false_or, i3_nat (show i < 2147483648 by omega), i3_nat (show b < 2147483648 by omega), ds_bd, em_in, x_np hM, x_nd hM, x_d hM (k := 26) (by decide) hi, x_d hM (k := 27) (by decide) hi, x_d hM (k := 28) (by decide) hi, x_d hM (k := 29) (by decide) hi, x_d hM (k := 30) (by decide) hi, x_d hM (k := 31) (by decide) hi, x_d hM (k := 32) (by decide) hi, x_d hM (k := 33) (by decide) hi, x_d hM (k := 34) (by decide) hi, x_d hM (k := 35) (by decide) hi, x_d hM (k := 36) (by decide) hi, x_d hM (k := 37) (by decide) hi, x_d hM (k := 38) (by decide) hi, x_d hM (k := 39) (by decide) hi, x_d hM (k := 40) (by decide) hi, dt_26, dt_27, dt_28, dt_29, dt_30, dt_31, dt_32, dt_33, dt_34, dt_35, dt_36, dt_37, dt_38, dt_39, dt_40, pt_9, pt_10, pt_12, pt_14, pt_15, pt_16, pt_17, pt_18, pt_19, pt_20, pt_21, pt_22, sc_2, sc_3, sc_4, sc_5, sc_6, sc_7, sc_41, x_p hM (k := 9) (by decide) hb, x_p hM (k := 10) (by decide) hb, x_p hM (k := 12) (by decide) hb, x_p hM (k := 14) (by decide) hb, x_p hM (k := 15) (by decide) hb, x_p hM (k := 16) (by decide) hb, x_p hM (k := 17) (by decide) hb, x_p hM (k := 18) (by decide) hb, x_p hM (k := 19) (by decide) hb, x_p hM (k := 20) (by decide) hb, x_p hM (k := 21) (by decide) hb, x_p hM (k := 22) (by decide) hb, dt_26, dt_27, dt_28, dt_29, dt_30, dt_31, dt_32, dt_33, dt_34, dt_35, dt_36, dt_37, dt_38, dt_39, dt_40, pt_9, pt_10, pt_12, pt_14, pt_15, pt_16, pt_17, pt_18, pt_19, pt_20, pt_21, pt_22, sc_2, sc_3, sc_4, sc_5, sc_6, sc_7, sc_41]
      by_cases c2 : ds_d S 1 i = Int32.ofNat b
      · simp only [c2, if_true, true_or, or_true]
      · have c2' : ¬ Int32.ofNat b = ds_d S 1 i := fun q => c2 q.symm
        by_cases c3 : ds_d S 7 i = Int32.ofNat b
        · simp only [c2, c2', c3, if_true, if_false, or_true]
        · have c3' : ¬ Int32.ofNat b = ds_d S 7 i := fun q => c3 q.symm
          rcases ds_in_01 x3 0 100000 with h3 | h3
          · simp only [c2, c2', c3, c3', h3, if_true, if_false, true_or]
          · by_cases c1 : x3 ≤ ds_p S 2 b
            · simp only [c1, c2, c2', c3, c3', h3, i3_10, not_true_eq_false, if_false, false_or, or_false, y_p hM (k := 9) (by decide) (by decide) hb, y_p hM (k := 10) (by decide) (by decide) hb, y_p hM (k := 14) (by decide) (by decide) hb, y_p hM (k := 15) (by decide) (by decide) hb, y_p hM (k := 16) (by decide) (by decide) hb, y_p hM (k := 17) (by decide) (by decide) hb, y_p hM (k := 18) (by decide) (by decide) hb, y_p hM (k := 19) (by decide) (by decide) hb, y_p hM (k := 20) (by decide) (by decide) hb, y_p hM (k := 21) (by decide) (by decide) hb, y_p hM (k := 22) (by decide) (by decide) hb, dt_26, dt_27, dt_28, dt_29, dt_30, dt_31, dt_32, dt_33, dt_34, dt_35, dt_36, dt_37, dt_38, dt_39, dt_40, pt_9, pt_10, pt_12, pt_14, pt_15, pt_16, pt_17, pt_18, pt_19, pt_20, pt_21, pt_22, sc_2, sc_3, sc_4, sc_5, sc_6, sc_7, sc_41, ds_bd, em_in, x_np hM, x_nd hM, x_d hM (k := 26) (by decide) hi, x_d hM (k := 27) (by decide) hi, x_d hM (k := 28) (by decide) hi, x_d hM (k := 29) (by decide) hi, x_d hM (k := 30) (by decide) hi, x_d hM (k := 31) (by decide) hi, x_d hM (k := 32) (by decide) hi, x_d hM (k := 33) (by decide) hi, x_d hM (k := 34) (by decide) hi, x_d hM (k := 35) (by decide) hi, x_d hM (k := 36) (by decide) hi, x_d hM (k := 37) (by decide) hi, x_d hM (k := 38) (by decide) hi, x_d hM (k := 39) (by decide) hi, x_d hM (k := 40) (by decide) hi, dt_26, dt_27, dt_28, dt_29, dt_30, dt_31, dt_32, dt_33, dt_34, dt_35, dt_36, dt_37, dt_38, dt_39, dt_40, pt_9, pt_10, pt_12, pt_14, pt_15, pt_16, pt_17, pt_18, pt_19, pt_20, pt_21, pt_22, sc_2, sc_3, sc_4, sc_5, sc_6, sc_7, sc_41, sx_d_upp]
              rw [ec]
              simp only [i3_nat (show c < 2147483648 by omega), ds_bd, x_p hM (k := 9) (by decide) hc, x_p hM (k := 10) (by decide) hc, x_p hM (k := 12) (by decide) hc, x_p hM (k := 14) (by decide) hc, x_p hM (k := 15) (by decide) hc, x_p hM (k := 16) (by decide) hc, x_p hM (k := 17) (by decide) hc, x_p hM (k := 18) (by decide) hc, x_p hM (k := 19) (by decide) hc, x_p hM (k := 20) (by decide) hc, x_p hM (k := 21) (by decide) hc, x_p hM (k := 22) (by decide) hc, dt_26, dt_27, dt_28, dt_29, dt_30, dt_31, dt_32, dt_33, dt_34, dt_35, dt_36, dt_37, dt_38, dt_39, dt_40, pt_9, pt_10, pt_12, pt_14, pt_15, pt_16, pt_17, pt_18, pt_19, pt_20, pt_21, pt_22, sc_2, sc_3, sc_4, sc_5, sc_6, sc_7, sc_41, y_p hM (k := 9) (by decide) (by decide) hc, y_p hM (k := 10) (by decide) (by decide) hc, y_p hM (k := 14) (by decide) (by decide) hc, y_p hM (k := 15) (by decide) (by decide) hc, y_p hM (k := 16) (by decide) (by decide) hc, y_p hM (k := 17) (by decide) (by decide) hc, y_p hM (k := 18) (by decide) (by decide) hc, y_p hM (k := 19) (by decide) (by decide) hc, y_p hM (k := 20) (by decide) (by decide) hc, y_p hM (k := 21) (by decide) (by decide) hc, y_p hM (k := 22) (by decide) (by decide) hc, dt_26, dt_27, dt_28, dt_29, dt_30, dt_31, dt_32, dt_33, dt_34, dt_35, dt_36, dt_37, dt_38, dt_39, dt_40, pt_9, pt_10, pt_12, pt_14, pt_15, pt_16, pt_17, pt_18, pt_19, pt_20, pt_21, pt_22, sc_2, sc_3, sc_4, sc_5, sc_6, sc_7, sc_41, y_d hM (k := 26) (by decide) hi, y_d hM (k := 27) (by decide) hi, y_d hM (k := 28) (by decide) hi, y_d hM (k := 29) (by decide) hi, y_d hM (k := 30) (by decide) hi, y_d hM (k := 31) (by decide) hi, y_d hM (k := 32) (by decide) hi, y_d hM (k := 33) (by decide) hi, y_d hM (k := 34) (by decide) hi, y_d hM (k := 35) (by decide) hi, y_d hM (k := 36) (by decide) hi, y_d hM (k := 37) (by decide) hi, y_d hM (k := 38) (by decide) hi, y_d hM (k := 39) (by decide) hi, y_d hM (k := 40) (by decide) hi, dt_26, dt_27, dt_28, dt_29, dt_30, dt_31, dt_32, dt_33, dt_34, dt_35, dt_36, dt_37, dt_38, dt_39, dt_40, pt_9, pt_10, pt_12, pt_14, pt_15, pt_16, pt_17, pt_18, pt_19, pt_20, pt_21, pt_22, sc_2, sc_3, sc_4, sc_5, sc_6, sc_7, sc_41, vp_b1, em_letGo hM]
            · simp only [c1, c2, c2', c3, c3', h3, i3_10, not_false_eq_true, if_true, if_false, true_or, false_or]
end
