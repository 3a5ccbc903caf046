set_option maxRecDepth 100000
/-! the house: simple calls -/
def sp_owedBy (S : ds_S) (nD : Nat) (p : Int32) : Int32 := ds_fold (fun d a => a + if ds_d S 1 d = p then sp_due S d else 0) 0 nD
def sp_owedTo (S : ds_S) (nD : Nat) (p : Int32) : Int32 := ds_fold (fun d a => a + if ds_d S 7 d = p then sp_due S d else 0) 0 nD
def sp_turnF (S : ds_S) (i : Nat) (best : Int32) : Int32 :=
  if ds_p S 3 i = -1 then best else if best = -1 then Int32.ofNat i else if ds_p S 7 i < ds_p S 7 best.toNatClampNeg then Int32.ofNat i
  else if ds_p S 7 i = ds_p S 7 best.toNatClampNeg then (if ds_p S 3 best.toNatClampNeg ≤ ds_p S 3 i then best else Int32.ofNat i) else best
def sp_turn (S : ds_S) (nP : Nat) : Int32 := ds_fold (sp_turnF S) (-1) nP
def ds_nn (nP : Nat) (b : Int32) : Prop := b = -1 ∨ ∃ j, j < nP ∧ b = Int32.ofNat j
theorem ds_nn_F {S : ds_S} {nP i : Nat} {b : Int32} (hi : i < nP) (h : ds_nn nP b) : ds_nn nP (sp_turnF S i b) := by
  unfold sp_turnF
  repeat' split
  all_goals first | exact h | exact Or.inr ⟨i, hi, rfl⟩
theorem ds_fold_invN {α : Type} {f : Nat → α → α} {a : α} (P : α → Prop) (n : Nat) (h0 : P a) (hs : ∀ i x, i < n → P x → P (f i x)) : P (ds_fold f a n) := by
  induction n with
  | zero => exact h0
  | succ n ih => exact hs n _ (by omega) (ih (fun i x hi => hs i x (by omega)))
theorem ds_nn_turn {S : ds_S} {nP : Nat} : ds_nn nP (sp_turn S nP) := ds_fold_invN (ds_nn nP) nP (Or.inl rfl) (fun i x hi hx => ds_nn_F hi hx)
theorem i3_m1 {j : Nat} (h : j < 2147483648) : ¬ Int32.ofNat j = -1 := fun q => by
  have := i3_int h
  rw [q] at this
  have e : (-1 : Int32).toInt = -1 := by decide
  rw [e] at this
  omega
def sp_goes (S : ds_S) (i : Nat) : ds_S := ds_upp (ds_upp (ds_upp (ds_upp (ds_upp S 3 i (-1)) 4 i 0) 5 i 0) 9 i 0) 13 i 0
def sp_tire (nP : Nat) (S : ds_S) (x1 x2 : Int32) : Int32 × ds_S :=
  if ds_two nP x1 x2 = 0 then (0, S) else if ((ds_p S 9 x2.toNatClampNeg >>> (x1 &&& 31)) &&& 1) = 0 then (0, S) else
  (1, ds_upp S 9 x2.toNatClampNeg (ds_p S 9 x2.toNatClampNeg &&& ((1 <<< (x1 &&& 31)) ^^^ (-1))))
def sp_leave (nP : Nat) (S : ds_S) (x1 : Int32) : Int32 × ds_S :=
  if ds_in x1 0 (Int32.ofNat nP - 1) = 0 then (0, S) else
  let i := x1.toNatClampNeg
  if ds_p S 3 i = -1 then (0, S) else if ¬ ds_p S 9 i = 0 then (0, S) else if ¬ ds_p S 13 i = 0 then (0, S) else if ¬ ds_p S 5 i ≤ ds_p S 2 i then (0, S) else
  (1, sp_goes (ds_us (ds_upp S 2 i (ds_p S 2 i - ds_p S 5 i)) 6 (ds_s S 6 + ds_p S 5 i)) i)
def sp_room (nP : Nat) (S : ds_S) (x1 x2 : Int32) : Int32 × ds_S :=
  if ds_in x1 0 (Int32.ofNat nP - 1) = 0 then (0, S) else if ds_p S 3 x1.toNatClampNeg = -1 then (0, S) else if ds_in x2 0 3 = 0 then (0, S) else
  (1, ds_upp S 4 x1.toNatClampNeg x2)
def sp_alms (nP : Nat) (S : ds_S) (x1 : Int32) : Int32 × ds_S :=
  if sp_turn S nP = -1 then (-1, S) else if ds_in x1 1 10000 = 0 then (-1, S) else
  (sp_turn S nP, ds_upp S 2 (sp_turn S nP).toNatClampNeg (ds_p S 2 (sp_turn S nP).toNatClampNeg + x1))
def sp_tell (nP nD : Nat) (S : ds_S) (x1 x2 : Int32) : Int32 :=
  if ds_in x1 0 (Int32.ofNat nP - 1) = 0 then -100 else
  let i := x1.toNatClampNeg
  if x2 = 0 then ds_p S 2 i else if x2 = 1 then ds_p S 1 i else if x2 = 2 then (if ds_p S 3 i = -1 then 0 else 1) else if x2 = 3 then ds_p S 3 i else if x2 = 4 then (if ds_p S 3 i = -1 then -1 else ds_p S 4 i) else if x2 = 5 then ds_p S 5 i
  else if x2 = 6 then (if ds_p S 13 i = 0 then 0 else 1) else if x2 = 7 then ds_p S 6 i else if x2 = 8 then ds_p S 7 i else if x2 = 9 then ds_p S 8 i else if x2 = 10 then ds_p S 9 i else if x2 = 11 then sp_owedBy S nD x1 else if x2 = 12 then sp_owedTo S nD x1
  else if x2 = 13 then (if ds_p S 14 i = 0 then 0 else 1) else if x2 = 14 then -ds_p S 12 i else -100
def sp_least (nP : Nat) (S : ds_S) (x1 x2 x3 : Int32) : Int32 × ds_S :=
  if ds_two nP x1 x2 = 0 then (0, S) else if ds_in x3 0 1000 = 0 then (0, S) else (1, ds_ul S x1.toNatClampNeg x2.toNatClampNeg x3)
def sp_end (S : ds_S) (x1 : Int32) : Int32 × ds_S := if ds_in x1 0 (ds_s S 1) = 0 then (-1, S) else (x1, ds_us S 1 x1)
def sp_fault (S : ds_S) (x1 : Int32) : Int32 := if x1 = 0 then ds_s S 2 else if x1 = 1 then ds_s S 3 else -1
section
variable {G : dg_G} {nP nD nA : Nat} {S : ds_S}
theorem e_X3held (hW : ds_W G nP nD nA) {i : Nat} (hi : i < nP) : gG_X3_isHeld (dG G nP nD S) (dg_AR G 104 i) = some (if ds_p S 3 i = -1 then 0 else 1) := by
  unfold gG_X3_isHeld
  simp only [ds_bd, v_p hW (k := 1) (by decide) (by decide) hi, v_p hW (k := 2) (by decide) (by decide) hi, v_p hW (k := 3) (by decide) (by decide) hi, v_p hW (k := 4) (by decide) (by decide) hi, v_p hW (k := 5) (by decide) (by decide) hi, v_p hW (k := 6) (by decide) (by decide) hi, v_p hW (k := 7) (by decide) (by decide) hi, v_p hW (k := 8) (by decide) (by decide) hi, v_p hW (k := 9) (by decide) (by decide) hi, v_p hW (k := 10) (by decide) (by decide) hi, v_p hW (k := 11) (by decide) (by decide) hi, v_p hW (k := 12) (by decide) (by decide) hi, v_p hW (k := 13) (by decide) (by decide) hi, v_p hW (k := 14) (by decide) (by decide) hi, ds_sif]
theorem e_isHeld (hW : ds_W G nP nD nA) (x : Int32) : gG_X0_isHeld (dG G nP nD S) 100 x = some (if ds_in x 0 (Int32.ofNat nP - 1) = 0 then 0 else if ds_p S 3 x.toNatClampNeg = -1 then 0 else 1) := by
  have hn := hW.1.1
  unfold gG_X0_isHeld
  simp only [ds_bd, v_h0 hW, v_h1 hW, v_h2 hW, v_h3 hW, v_h4 hW, v_h5 hW, v_h6 hW, v_h7 hW, v_h8 hW, v_h9 hW, v_s0 hW, v_s8 hW, v_s9 hW, v_s10 hW, v_s11 hW, v_s12 hW, v_i100 hW, v_i101 hW, v_i103 hW, v_i105 hW, v_i107 hW, v_n3 hW, v_n5 hW, v_n7 hW, e_in, e_isPerson hW]
  rcases ds_in_c x (n := nP) (by omega) with h | ⟨h, i, hi, rfl⟩
  · simp only [h, if_true]
  · simp only [h, i3_10, if_false, i3_nat (show i < 2147483648 by omega), ds_bd, v_h0 hW, v_h1 hW, v_h2 hW, v_h3 hW, v_h4 hW, v_h5 hW, v_h6 hW, v_h7 hW, v_h8 hW, v_h9 hW, v_s0 hW, v_s8 hW, v_s9 hW, v_s10 hW, v_s11 hW, v_s12 hW, v_i100 hW, v_i101 hW, v_i103 hW, v_i105 hW, v_i107 hW, v_n3 hW, v_n5 hW, v_n7 hW, e_in, v_at hW hi, v_ip hW hi, e_X3held hW hi]
    by_cases e : ds_p S 3 i = -1
    · simp only [e, if_true]
    · simp only [e, if_false, i3_10]
theorem e_owedBy (hW : ds_W G nP nD nA) (hO : ds_Ok nP nD S) (p : Int32) : gG_X0_owedBy (dG G nP nD S) 100 p = some (sp_owedBy S nD p) := by
  have hn := hW.1.2.1
  unfold gG_X0_owedBy sp_owedBy
  refine ds_loopT (L := fun n i a => gG_X0_owedBy_L4 (dG G nP nD S) n 100 p a (Int32.ofNat i)) (N := nD) (fin := fun a => some a) (fun n i a hi => ?_) (fun n a => ?_) (ds_fu (by omega))
  · show gG_X0_owedBy_L4_F _ _ _ _ _ _ = _
    unfold gG_X0_owedBy_L4_F
    simp only [ds_bd, v_h0 hW, v_h1 hW, v_h2 hW, v_h3 hW, v_h4 hW, v_h5 hW, v_h6 hW, v_h7 hW, v_h8 hW, v_h9 hW, v_s0 hW, v_s8 hW, v_s9 hW, v_s10 hW, v_s11 hW, v_s12 hW, v_i100 hW, v_i101 hW, v_i103 hW, v_i105 hW, v_i107 hW, v_n3 hW, v_n5 hW, v_n7 hW, e_in, v_debtAt hW hi, v_d hW (k := 1) (by decide) (by decide) hi, v_d hW (k := 2) (by decide) (by decide) hi, v_d hW (k := 3) (by decide) (by decide) hi, v_d hW (k := 4) (by decide) (by decide) hi, v_d hW (k := 5) (by decide) (by decide) hi, v_d hW (k := 6) (by decide) (by decide) hi, v_d hW (k := 7) (by decide) (by decide) hi, v_d hW (k := 8) (by decide) (by decide) hi, v_d hW (k := 9) (by decide) (by decide) hi, v_d hW (k := 10) (by decide) (by decide) hi, v_d hW (k := 11) (by decide) (by decide) hi, v_d hW (k := 12) (by decide) (by decide) hi, v_d hW (k := 13) (by decide) (by decide) hi, v_d hW (k := 14) (by decide) (by decide) hi, e_due hW hO hi, i3_succ]
    rw [if_neg ((not_congr (i3_le (by omega) (by omega))).mpr (by omega))]
    by_cases e2 : ds_d S 1 i = p
    · simp only [e2, if_true]
    · simp only [e2, if_false]
  · show gG_X0_owedBy_L4_F _ _ _ _ _ _ = _
    unfold gG_X0_owedBy_L4_F
    simp only [ds_bd, v_h0 hW, v_h1 hW, v_h2 hW, v_h3 hW, v_h4 hW, v_h5 hW, v_h6 hW, v_h7 hW, v_h8 hW, v_h9 hW, v_s0 hW, v_s8 hW, v_s9 hW, v_s10 hW, v_s11 hW, v_s12 hW, v_i100 hW, v_i101 hW, v_i103 hW, v_i105 hW, v_i107 hW, v_n3 hW, v_n5 hW, v_n7 hW, e_in]
    rw [if_pos ((i3_le (by omega) (by omega)).mpr (Nat.le_refl _))]
theorem e_owedTo (hW : ds_W G nP nD nA) (hO : ds_Ok nP nD S) (p : Int32) : gG_X0_owedTo (dG G nP nD S) 100 p = some (sp_owedTo S nD p) := by
  have hn := hW.1.2.1
  unfold gG_X0_owedTo sp_owedTo
  refine ds_loopT (L := fun n i a => gG_X0_owedTo_L4 (dG G nP nD S) n 100 p a (Int32.ofNat i)) (N := nD) (fin := fun a => some a) (fun n i a hi => ?_) (fun n a => ?_) (ds_fu (by omega))
  · show gG_X0_owedTo_L4_F _ _ _ _ _ _ = _
    unfold gG_X0_owedTo_L4_F
    simp only [ds_bd, v_h0 hW, v_h1 hW, v_h2 hW, v_h3 hW, v_h4 hW, v_h5 hW, v_h6 hW, v_h7 hW, v_h8 hW, v_h9 hW, v_s0 hW, v_s8 hW, v_s9 hW, v_s10 hW, v_s11 hW, v_s12 hW, v_i100 hW, v_i101 hW, v_i103 hW, v_i105 hW, v_i107 hW, v_n3 hW, v_n5 hW, v_n7 hW, e_in, v_debtAt hW hi, v_d hW (k := 1) (by decide) (by decide) hi, v_d hW (k := 2) (by decide) (by decide) hi, v_d hW (k := 3) (by decide) (by decide) hi, v_d hW (k := 4) (by decide) (by decide) hi, v_d hW (k := 5) (by decide) (by decide) hi, v_d hW (k := 6) (by decide) (by decide) hi, v_d hW (k := 7) (by decide) (by decide) hi, v_d hW (k := 8) (by decide) (by decide) hi, v_d hW (k := 9) (by decide) (by decide) hi, v_d hW (k := 10) (by decide) (by decide) hi, v_d hW (k := 11) (by decide) (by decide) hi, v_d hW (k := 12) (by decide) (by decide) hi, v_d hW (k := 13) (by decide) (by decide) hi, v_d hW (k := 14) (by decide) (by decide) hi, e_due hW hO hi, i3_succ]
    rw [if_neg ((not_congr (i3_le (by omega) (by omega))).mpr (by omega))]
    by_cases e2 : ds_d S 7 i = p
    · simp only [e2, if_true]
    · simp only [e2, if_false]
  · show gG_X0_owedTo_L4_F _ _ _ _ _ _ = _
    unfold gG_X0_owedTo_L4_F
    simp only [ds_bd, v_h0 hW, v_h1 hW, v_h2 hW, v_h3 hW, v_h4 hW, v_h5 hW, v_h6 hW, v_h7 hW, v_h8 hW, v_h9 hW, v_s0 hW, v_s8 hW, v_s9 hW, v_s10 hW, v_s11 hW, v_s12 hW, v_i100 hW, v_i101 hW, v_i103 hW, v_i105 hW, v_i107 hW, v_n3 hW, v_n5 hW, v_n7 hW, e_in]
    rw [if_pos ((i3_le (by omega) (by omega)).mpr (Nat.le_refl _))]
theorem e_rows (hW : ds_W G nP nD nA) : gG_X0_rows (dG G nP nD S) 100 = some (ds_rows S nP) := by
  have hn := hW.1.1
  unfold gG_X0_rows ds_rows
  refine ds_loopT (L := fun n i a => gG_X0_rows_L4 (dG G nP nD S) n 100 a (Int32.ofNat i)) (N := nP) (fin := fun a => some a) (fun n i a hi => ?_) (fun n a => ?_) (ds_fu (by omega))
  · show gG_X0_rows_L4_F _ _ _ _ _ = _
    unfold gG_X0_rows_L4_F
    simp only [ds_bd, v_h0 hW, v_h1 hW, v_h2 hW, v_h3 hW, v_h4 hW, v_h5 hW, v_h6 hW, v_h7 hW, v_h8 hW, v_h9 hW, v_s0 hW, v_s8 hW, v_s9 hW, v_s10 hW, v_s11 hW, v_s12 hW, v_i100 hW, v_i101 hW, v_i103 hW, v_i105 hW, v_i107 hW, v_n3 hW, v_n5 hW, v_n7 hW, e_in, v_at hW hi, v_p hW (k := 1) (by decide) (by decide) hi, v_p hW (k := 2) (by decide) (by decide) hi, v_p hW (k := 3) (by decide) (by decide) hi, v_p hW (k := 4) (by decide) (by decide) hi, v_p hW (k := 5) (by decide) (by decide) hi, v_p hW (k := 6) (by decide) (by decide) hi, v_p hW (k := 7) (by decide) (by decide) hi, v_p hW (k := 8) (by decide) (by decide) hi, v_p hW (k := 9) (by decide) (by decide) hi, v_p hW (k := 10) (by decide) (by decide) hi, v_p hW (k := 11) (by decide) (by decide) hi, v_p hW (k := 12) (by decide) (by decide) hi, v_p hW (k := 13) (by decide) (by decide) hi, v_p hW (k := 14) (by decide) (by decide) hi, i3_succ]
    rw [if_neg ((not_congr (i3_le (by omega) (by omega))).mpr (by omega))]
  · show gG_X0_rows_L4_F _ _ _ _ _ = _
    unfold gG_X0_rows_L4_F
    simp only [ds_bd, v_h0 hW, v_h1 hW, v_h2 hW, v_h3 hW, v_h4 hW, v_h5 hW, v_h6 hW, v_h7 hW, v_h8 hW, v_h9 hW, v_s0 hW, v_s8 hW, v_s9 hW, v_s10 hW, v_s11 hW, v_s12 hW, v_i100 hW, v_i101 hW, v_i103 hW, v_i105 hW, v_i107 hW, v_n3 hW, v_n5 hW, v_n7 hW, e_in]
    rw [if_pos ((i3_le (by omega) (by omega)).mpr (Nat.le_refl _))]
theorem e_turn (hW : ds_W G nP nD nA) : gG_X0_turn (dG G nP nD S) 100 = some (sp_turn S nP) := by
  have hn := hW.1.1
  unfold gG_X0_turn sp_turn
  refine ds_loop0 (L := fun n i a => gG_X0_turn_L4 (dG G nP nD S) n 100 a (Int32.ofNat i)) (N := nP) (fin := fun a => some a) (fun _ a => ds_nn nP a) (fun n i a hi hI => ⟨?_, ds_nn_F hi hI⟩) (fun n a _ => ?_) (ds_fu (by omega)) (Or.inl rfl)
  · show gG_X0_turn_L4_F _ _ _ _ _ = _
    unfold gG_X0_turn_L4_F sp_turnF
    simp only [ds_bd, v_h0 hW, v_h1 hW, v_h2 hW, v_h3 hW, v_h4 hW, v_h5 hW, v_h6 hW, v_h7 hW, v_h8 hW, v_h9 hW, v_s0 hW, v_s8 hW, v_s9 hW, v_s10 hW, v_s11 hW, v_s12 hW, v_i100 hW, v_i101 hW, v_i103 hW, v_i105 hW, v_i107 hW, v_n3 hW, v_n5 hW, v_n7 hW, e_in, v_at hW hi, v_ip hW hi, v_p hW (k := 1) (by decide) (by decide) hi, v_p hW (k := 2) (by decide) (by decide) hi, v_p hW (k := 3) (by decide) (by decide) hi, v_p hW (k := 4) (by decide) (by decide) hi, v_p hW (k := 5) (by decide) (by decide) hi, v_p hW (k := 6) (by decide) (by decide) hi, v_p hW (k := 7) (by decide) (by decide) hi, v_p hW (k := 8) (by decide) (by decide) hi, v_p hW (k := 9) (by decide) (by decide) hi, v_p hW (k := 10) (by decide) (by decide) hi, v_p hW (k := 11) (by decide) (by decide) hi, v_p hW (k := 12) (by decide) (by decide) hi, v_p hW (k := 13) (by decide) (by decide) hi, v_p hW (k := 14) (by decide) (by decide) hi, e_X3held hW hi, i3_succ]
    rw [if_neg ((not_congr (i3_le (by omega) (by omega))).mpr (by omega))]
    by_cases c1 : ds_p S 3 i = -1
    · simp only [c1, if_true]
    · simp only [c1, if_false, i3_10]
      rcases hI with rfl | ⟨j, hj, rfl⟩
      · simp only [if_true]
      · simp only [i3_m1 (show j < 2147483648 by omega), if_false, v_at hW hj, v_p hW (k := 1) (by decide) (by decide) hj, v_p hW (k := 2) (by decide) (by decide) hj, v_p hW (k := 3) (by decide) (by decide) hj, v_p hW (k := 4) (by decide) (by decide) hj, v_p hW (k := 5) (by decide) (by decide) hj, v_p hW (k := 6) (by decide) (by decide) hj, v_p hW (k := 7) (by decide) (by decide) hj, v_p hW (k := 8) (by decide) (by decide) hj, v_p hW (k := 9) (by decide) (by decide) hj, v_p hW (k := 10) (by decide) (by decide) hj, v_p hW (k := 11) (by decide) (by decide) hj, v_p hW (k := 12) (by decide) (by decide) hj, v_p hW (k := 13) (by decide) (by decide) hj, v_p hW (k := 14) (by decide) (by decide) hj, ds_bd, i3_nat (show j < 2147483648 by omega)]
        repeat' split
        all_goals first | rfl | contradiction
  · show gG_X0_turn_L4_F _ _ _ _ _ = _
    unfold gG_X0_turn_L4_F
    simp only [ds_bd, v_h0 hW, v_h1 hW, v_h2 hW, v_h3 hW, v_h4 hW, v_h5 hW, v_h6 hW, v_h7 hW, v_h8 hW, v_h9 hW, v_s0 hW, v_s8 hW, v_s9 hW, v_s10 hW, v_s11 hW, v_s12 hW, v_i100 hW, v_i101 hW, v_i103 hW, v_i105 hW, v_i107 hW, v_n3 hW, v_n5 hW, v_n7 hW, e_in]
    rw [if_pos ((i3_le (by omega) (by omega)).mpr (Nat.le_refl _))]
theorem e_alms (hW : ds_W G nP nD nA) (x1 : Int32) : gG_X0_alms (dG G nP nD S) 100 x1 = some ((sp_alms nP S x1).1, dG G nP nD (sp_alms nP S x1).2) := by
  have hn := hW.1.1
  unfold gG_X0_alms sp_alms
  simp only [ds_bd, v_h0 hW, v_h1 hW, v_h2 hW, v_h3 hW, v_h4 hW, v_h5 hW, v_h6 hW, v_h7 hW, v_h8 hW, v_h9 hW, v_s0 hW, v_s8 hW, v_s9 hW, v_s10 hW, v_s11 hW, v_s12 hW, v_i100 hW, v_i101 hW, v_i103 hW, v_i105 hW, v_i107 hW, v_n3 hW, v_n5 hW, v_n7 hW, e_in, e_turn hW]
  rcases ds_nn_turn (S := S) (nP := nP) with h | ⟨j, hj, h⟩
  · simp only [h, if_true]
  · simp only [h, i3_m1 (show j < 2147483648 by omega), if_false, i3_nat (show j < 2147483648 by omega)]
    rcases ds_in_01 x1 1 10000 with h2 | h2
    · simp only [h2, if_true]
    · simp only [h2, i3_10, if_false, ds_bd, v_h0 hW, v_h1 hW, v_h2 hW, v_h3 hW, v_h4 hW, v_h5 hW, v_h6 hW, v_h7 hW, v_h8 hW, v_h9 hW, v_s0 hW, v_s8 hW, v_s9 hW, v_s10 hW, v_s11 hW, v_s12 hW, v_i100 hW, v_i101 hW, v_i103 hW, v_i105 hW, v_i107 hW, v_n3 hW, v_n5 hW, v_n7 hW, e_in, v_at hW hj, v_p hW (k := 1) (by decide) (by decide) hj, v_p hW (k := 2) (by decide) (by decide) hj, v_p hW (k := 3) (by decide) (by decide) hj, v_p hW (k := 4) (by decide) (by decide) hj, v_p hW (k := 5) (by decide) (by decide) hj, v_p hW (k := 6) (by decide) (by decide) hj, v_p hW (k := 7) (by decide) (by decide) hj, v_p hW (k := 8) (by decide) (by decide) hj, v_p hW (k := 9) (by decide) (by decide) hj, v_p hW (k := 10) (by decide) (by decide) hj, v_p hW (k := 11) (by decide) (by decide) hj, v_p hW (k := 12) (by decide) (by decide) hj, v_p hW (k := 13) (by decide) (by decide) hj, v_p hW (k := 14) (by decide) (by decide) hj, w_p hW (k := 1) (by decide) (by decide) hj, w_p hW (k := 2) (by decide) (by decide) hj, w_p hW (k := 3) (by decide) (by decide) hj, w_p hW (k := 4) (by decide) (by decide) hj, w_p hW (k := 5) (by decide) (by decide) hj, w_p hW (k := 6) (by decide) (by decide) hj, w_p hW (k := 7) (by decide) (by decide) hj, w_p hW (k := 8) (by decide) (by decide) hj, w_p hW (k := 9) (by decide) (by decide) hj, w_p hW (k := 10) (by decide) (by decide) hj, w_p hW (k := 11) (by decide) (by decide) hj, w_p hW (k := 12) (by decide) (by decide) hj, w_p hW (k := 13) (by decide) (by decide) hj, w_p hW (k := 14) (by decide) (by decide) hj]
theorem e_goes (hW : ds_W G nP nD nA) {i : Nat} (hi : i < nP) : gG_X3_goes (dG G nP nD S) (dg_AR G 104 i) = some (dG G nP nD (sp_goes S i)) := by
  unfold gG_X3_goes sp_goes
  simp only [ds_bd, w_p hW (k := 1) (by decide) (by decide) hi, w_p hW (k := 2) (by decide) (by decide) hi, w_p hW (k := 3) (by decide) (by decide) hi, w_p hW (k := 4) (by decide) (by decide) hi, w_p hW (k := 5) (by decide) (by decide) hi, w_p hW (k := 6) (by decide) (by decide) hi, w_p hW (k := 7) (by decide) (by decide) hi, w_p hW (k := 8) (by decide) (by decide) hi, w_p hW (k := 9) (by decide) (by decide) hi, w_p hW (k := 10) (by decide) (by decide) hi, w_p hW (k := 11) (by decide) (by decide) hi, w_p hW (k := 12) (by decide) (by decide) hi, w_p hW (k := 13) (by decide) (by decide) hi, w_p hW (k := 14) (by decide) (by decide) hi, w_pZ hW (k := 13) (Or.inl rfl) (by decide) (by decide) hi]
theorem e_tire (hW : ds_W G nP nD nA) (x1 x2 : Int32) : gG_X0_tire (dG G nP nD S) 100 x1 x2 = some ((sp_tire nP S x1 x2).1, dG G nP nD (sp_tire nP S x1 x2).2) := by
  have hn := hW.1.1
  unfold gG_X0_tire sp_tire
  simp only [ds_bd, v_h0 hW, v_h1 hW, v_h2 hW, v_h3 hW, v_h4 hW, v_h5 hW, v_h6 hW, v_h7 hW, v_h8 hW, v_h9 hW, v_s0 hW, v_s8 hW, v_s9 hW, v_s10 hW, v_s11 hW, v_s12 hW, v_i100 hW, v_i101 hW, v_i103 hW, v_i105 hW, v_i107 hW, v_n3 hW, v_n5 hW, v_n7 hW, e_in, e_areTwo hW]
  rcases ds_two_c x1 x2 (nP := nP) (by omega) with h | ⟨h, i, j, hi, hj, rfl, rfl, hij⟩
  · simp only [h, if_true]
  · simp only [h, i3_10, if_false, i3_nat (show j < 2147483648 by omega), ds_bd, v_h0 hW, v_h1 hW, v_h2 hW, v_h3 hW, v_h4 hW, v_h5 hW, v_h6 hW, v_h7 hW, v_h8 hW, v_h9 hW, v_s0 hW, v_s8 hW, v_s9 hW, v_s10 hW, v_s11 hW, v_s12 hW, v_i100 hW, v_i101 hW, v_i103 hW, v_i105 hW, v_i107 hW, v_n3 hW, v_n5 hW, v_n7 hW, e_in, v_at hW hj, v_p hW (k := 1) (by decide) (by decide) hj, v_p hW (k := 2) (by decide) (by decide) hj, v_p hW (k := 3) (by decide) (by decide) hj, v_p hW (k := 4) (by decide) (by decide) hj, v_p hW (k := 5) (by decide) (by decide) hj, v_p hW (k := 6) (by decide) (by decide) hj, v_p hW (k := 7) (by decide) (by decide) hj, v_p hW (k := 8) (by decide) (by decide) hj, v_p hW (k := 9) (by decide) (by decide) hj, v_p hW (k := 10) (by decide) (by decide) hj, v_p hW (k := 11) (by decide) (by decide) hj, v_p hW (k := 12) (by decide) (by decide) hj, v_p hW (k := 13) (by decide) (by decide) hj, v_p hW (k := 14) (by decide) (by decide) hj, w_p hW (k := 1) (by decide) (by decide) hj, w_p hW (k := 2) (by decide) (by decide) hj, w_p hW (k := 3) (by decide) (by decide) hj, w_p hW (k := 4) (by decide) (by decide) hj, w_p hW (k := 5) (by decide) (by decide) hj, w_p hW (k := 6) (by decide) (by decide) hj, w_p hW (k := 7) (by decide) (by decide) hj, w_p hW (k := 8) (by decide) (by decide) hj, w_p hW (k := 9) (by decide) (by decide) hj, w_p hW (k := 10) (by decide) (by decide) hj, w_p hW (k := 11) (by decide) (by decide) hj, w_p hW (k := 12) (by decide) (by decide) hj, w_p hW (k := 13) (by decide) (by decide) hj, w_p hW (k := 14) (by decide) (by decide) hj]
    split <;> rfl
theorem e_leave (hW : ds_W G nP nD nA) (x1 : Int32) : gG_X0_leave (dG G nP nD S) 100 x1 = some ((sp_leave nP S x1).1, dG G nP nD (sp_leave nP S x1).2) := by
  have hn := hW.1.1
  unfold gG_X0_leave sp_leave
  simp only [ds_bd, v_h0 hW, v_h1 hW, v_h2 hW, v_h3 hW, v_h4 hW, v_h5 hW, v_h6 hW, v_h7 hW, v_h8 hW, v_h9 hW, v_s0 hW, v_s8 hW, v_s9 hW, v_s10 hW, v_s11 hW, v_s12 hW, v_i100 hW, v_i101 hW, v_i103 hW, v_i105 hW, v_i107 hW, v_n3 hW, v_n5 hW, v_n7 hW, e_in, e_isHeld hW]
  rcases ds_in_c x1 (n := nP) (by omega) with h | ⟨h, i, hi, rfl⟩
  · simp only [h, if_true]
  · simp only [h, i3_10, if_false, i3_nat (show i < 2147483648 by omega)]
    by_cases e : ds_p S 3 i = -1
    · simp only [e, if_true]
    · simp only [e, if_false, i3_10, ds_bd, v_h0 hW, v_h1 hW, v_h2 hW, v_h3 hW, v_h4 hW, v_h5 hW, v_h6 hW, v_h7 hW, v_h8 hW, v_h9 hW, v_s0 hW, v_s8 hW, v_s9 hW, v_s10 hW, v_s11 hW, v_s12 hW, v_i100 hW, v_i101 hW, v_i103 hW, v_i105 hW, v_i107 hW, v_n3 hW, v_n5 hW, v_n7 hW, e_in, v_at hW hi, v_ip hW hi, v_p hW (k := 1) (by decide) (by decide) hi, v_p hW (k := 2) (by decide) (by decide) hi, v_p hW (k := 3) (by decide) (by decide) hi, v_p hW (k := 4) (by decide) (by decide) hi, v_p hW (k := 5) (by decide) (by decide) hi, v_p hW (k := 6) (by decide) (by decide) hi, v_p hW (k := 7) (by decide) (by decide) hi, v_p hW (k := 8) (by decide) (by decide) hi, v_p hW (k := 9) (by decide) (by decide) hi, v_p hW (k := 10) (by decide) (by decide) hi, v_p hW (k := 11) (by decide) (by decide) hi, v_p hW (k := 12) (by decide) (by decide) hi, v_p hW (k := 13) (by decide) (by decide) hi, v_p hW (k := 14) (by decide) (by decide) hi]
      by_cases c1 : ds_p S 9 i = 0
      · by_cases c2 : ds_p S 13 i = 0
        · by_cases c3 : ds_p S 5 i ≤ ds_p S 2 i
          · simp only [c1, c2, c3, if_true, not_true_eq_false, if_false, w_p hW (k := 1) (by decide) (by decide) hi, w_p hW (k := 2) (by decide) (by decide) hi, w_p hW (k := 3) (by decide) (by decide) hi, w_p hW (k := 4) (by decide) (by decide) hi, w_p hW (k := 5) (by decide) (by decide) hi, w_p hW (k := 6) (by decide) (by decide) hi, w_p hW (k := 7) (by decide) (by decide) hi, w_p hW (k := 8) (by decide) (by decide) hi, w_p hW (k := 9) (by decide) (by decide) hi, w_p hW (k := 10) (by decide) (by decide) hi, w_p hW (k := 11) (by decide) (by decide) hi, w_p hW (k := 12) (by decide) (by decide) hi, w_p hW (k := 13) (by decide) (by decide) hi, w_p hW (k := 14) (by decide) (by decide) hi, ds_bd, v_h0 hW, v_h1 hW, v_h2 hW, v_h3 hW, v_h4 hW, v_h5 hW, v_h6 hW, v_h7 hW, v_h8 hW, v_h9 hW, v_s0 hW, v_s8 hW, v_s9 hW, v_s10 hW, v_s11 hW, v_s12 hW, v_i100 hW, v_i101 hW, v_i103 hW, v_i105 hW, v_i107 hW, v_n3 hW, v_n5 hW, v_n7 hW, e_in, v_s hW (k := 1) (by decide) (by decide), v_s hW (k := 2) (by decide) (by decide), v_s hW (k := 3) (by decide) (by decide), v_s hW (k := 4) (by decide) (by decide), v_s hW (k := 5) (by decide) (by decide), v_s hW (k := 6) (by decide) (by decide), v_s hW (k := 7) (by decide) (by decide), v_p hW (k := 1) (by decide) (by decide) hi, v_p hW (k := 2) (by decide) (by decide) hi, v_p hW (k := 3) (by decide) (by decide) hi, v_p hW (k := 4) (by decide) (by decide) hi, v_p hW (k := 5) (by decide) (by decide) hi, v_p hW (k := 6) (by decide) (by decide) hi, v_p hW (k := 7) (by decide) (by decide) hi, v_p hW (k := 8) (by decide) (by decide) hi, v_p hW (k := 9) (by decide) (by decide) hi, v_p hW (k := 10) (by decide) (by decide) hi, v_p hW (k := 11) (by decide) (by decide) hi, v_p hW (k := 12) (by decide) (by decide) hi, v_p hW (k := 13) (by decide) (by decide) hi, v_p hW (k := 14) (by decide) (by decide) hi, w_s hW (k := 1) (by decide) (by decide), w_s hW (k := 2) (by decide) (by decide), w_s hW (k := 3) (by decide) (by decide), w_s hW (k := 4) (by decide) (by decide), w_s hW (k := 5) (by decide) (by decide), w_s hW (k := 6) (by decide) (by decide), w_s hW (k := 7) (by decide) (by decide), v_ip hW hi, e_goes hW hi, sx_s_us, sx_p_us, sx_d_us, sx_l_us, sx_t_us, sx_r_us, sx_a_us, sx_b_us, sx_s_upp, sx_p_upp, sx_d_upp, sx_l_upp, sx_t_upp, sx_r_upp, sx_a_upp, sx_b_upp, sx_s_ud, sx_p_ud, sx_d_ud, sx_l_ud, sx_t_ud, sx_r_ud, sx_a_ud, sx_b_ud, sx_s_ul, sx_p_ul, sx_d_ul, sx_l_ul, sx_t_ul, sx_r_ul, sx_a_ul, sx_b_ul, sx_s_ut, sx_p_ut, sx_d_ut, sx_l_ut, sx_t_ut, sx_r_ut, sx_a_ut, sx_b_ut, sx_s_ur, sx_p_ur, sx_d_ur, sx_l_ur, sx_t_ur, sx_r_ur, sx_a_ur, sx_b_ur, sx_s_ua, sx_p_ua, sx_d_ua, sx_l_ua, sx_t_ua, sx_r_ua, sx_a_ua, sx_b_ua, sx_s_ub, sx_p_ub, sx_d_ub, sx_l_ub, sx_t_ub, sx_r_ub, sx_a_ub, sx_b_ub, sx_s_fa, sx_p_fa, sx_d_fa, sx_l_fa, sx_t_fa, sx_r_fa, sx_a_fa, sx_b_fa, sx_s_fb, sx_p_fb, sx_d_fb, sx_l_fb, sx_t_fb, sx_r_fb, sx_a_fb, sx_b_fb, reduceIte, false_and, true_and, and_true, and_false, and_self, if_true, if_false, Nat.reduceEqDiff]
          · simp only [c1, c2, c3, if_true, not_true_eq_false, not_false_eq_true, if_false]
        · simp only [c1, c2, if_true, not_true_eq_false, not_false_eq_true, if_false]
      · simp only [c1, if_true, not_true_eq_false, not_false_eq_true, if_false]
theorem e_room (hW : ds_W G nP nD nA) (x1 x2 : Int32) : gG_X0_room (dG G nP nD S) 100 x1 x2 = some ((sp_room nP S x1 x2).1, dG G nP nD (sp_room nP S x1 x2).2) := by
  have hn := hW.1.1
  unfold gG_X0_room sp_room
  simp only [ds_bd, v_h0 hW, v_h1 hW, v_h2 hW, v_h3 hW, v_h4 hW, v_h5 hW, v_h6 hW, v_h7 hW, v_h8 hW, v_h9 hW, v_s0 hW, v_s8 hW, v_s9 hW, v_s10 hW, v_s11 hW, v_s12 hW, v_i100 hW, v_i101 hW, v_i103 hW, v_i105 hW, v_i107 hW, v_n3 hW, v_n5 hW, v_n7 hW, e_in, e_isHeld hW]
  rcases ds_in_c x1 (n := nP) (by omega) with h | ⟨h, i, hi, rfl⟩
  · simp only [h, if_true]
  · simp only [h, i3_10, if_false, i3_nat (show i < 2147483648 by omega)]
    by_cases e : ds_p S 3 i = -1
    · simp only [e, if_true]
    · simp only [e, if_false, i3_10]
      rcases ds_in_01 x2 0 3 with h2 | h2
      · simp only [h2, if_true]
      · simp only [h2, i3_10, if_false, ds_bd, v_h0 hW, v_h1 hW, v_h2 hW, v_h3 hW, v_h4 hW, v_h5 hW, v_h6 hW, v_h7 hW, v_h8 hW, v_h9 hW, v_s0 hW, v_s8 hW, v_s9 hW, v_s10 hW, v_s11 hW, v_s12 hW, v_i100 hW, v_i101 hW, v_i103 hW, v_i105 hW, v_i107 hW, v_n3 hW, v_n5 hW, v_n7 hW, e_in, v_at hW hi, w_p hW (k := 1) (by decide) (by decide) hi, w_p hW (k := 2) (by decide) (by decide) hi, w_p hW (k := 3) (by decide) (by decide) hi, w_p hW (k := 4) (by decide) (by decide) hi, w_p hW (k := 5) (by decide) (by decide) hi, w_p hW (k := 6) (by decide) (by decide) hi, w_p hW (k := 7) (by decide) (by decide) hi, w_p hW (k := 8) (by decide) (by decide) hi, w_p hW (k := 9) (by decide) (by decide) hi, w_p hW (k := 10) (by decide) (by decide) hi, w_p hW (k := 11) (by decide) (by decide) hi, w_p hW (k := 12) (by decide) (by decide) hi, w_p hW (k := 13) (by decide) (by decide) hi, w_p hW (k := 14) (by decide) (by decide) hi]
theorem e_tell (hW : ds_W G nP nD nA) (hO : ds_Ok nP nD S) (x1 x2 : Int32) : gG_X0_tell (dG G nP nD S) 100 x1 x2 = some (sp_tell nP nD S x1 x2) := by
  have hn := hW.1.1
  unfold gG_X0_tell sp_tell
  simp only [ds_bd, v_h0 hW, v_h1 hW, v_h2 hW, v_h3 hW, v_h4 hW, v_h5 hW, v_h6 hW, v_h7 hW, v_h8 hW, v_h9 hW, v_s0 hW, v_s8 hW, v_s9 hW, v_s10 hW, v_s11 hW, v_s12 hW, v_i100 hW, v_i101 hW, v_i103 hW, v_i105 hW, v_i107 hW, v_n3 hW, v_n5 hW, v_n7 hW, e_in, e_isPerson hW]
  rcases ds_in_c x1 (n := nP) (by omega) with h | ⟨h, i, hi, rfl⟩
  · simp only [h, if_true]
  · simp only [h, i3_10, if_false, i3_nat (show i < 2147483648 by omega), ds_bd, v_h0 hW, v_h1 hW, v_h2 hW, v_h3 hW, v_h4 hW, v_h5 hW, v_h6 hW, v_h7 hW, v_h8 hW, v_h9 hW, v_s0 hW, v_s8 hW, v_s9 hW, v_s10 hW, v_s11 hW, v_s12 hW, v_i100 hW, v_i101 hW, v_i103 hW, v_i105 hW, v_i107 hW, v_n3 hW, v_n5 hW, v_n7 hW, e_in, v_at hW hi, v_ip hW hi, v_p hW (k := 1) (by decide) (by decide) hi, v_p hW (k := 2) (by decide) (by decide) hi, v_p hW (k := 3) (by decide) (by decide) hi, v_p hW (k := 4) (by decide) (by decide) hi, v_p hW (k := 5) (by decide) (by decide) hi, v_p hW (k := 6) (by decide) (by decide) hi, v_p hW (k := 7) (by decide) (by decide) hi, v_p hW (k := 8) (by decide) (by decide) hi, v_p hW (k := 9) (by decide) (by decide) hi, v_p hW (k := 10) (by decide) (by decide) hi, v_p hW (k := 11) (by decide) (by decide) hi, v_p hW (k := 12) (by decide) (by decide) hi, v_p hW (k := 13) (by decide) (by decide) hi, v_p hW (k := 14) (by decide) (by decide) hi, e_X3held hW hi, e_owedBy hW hO, e_owedTo hW hO]
    by_cases e : ds_p S 3 i = -1
    · simp only [e, if_true, ds_sif]
    · simp only [e, if_false, i3_10, ds_sif]
theorem e_least (hW : ds_W G nP nD nA) (x1 x2 x3 : Int32) : gG_X0_least (dG G nP nD S) 100 x1 x2 x3 = some ((sp_least nP S x1 x2 x3).1, dG G nP nD (sp_least nP S x1 x2 x3).2) := by
  have hn := hW.1.1
  unfold gG_X0_least sp_least
  simp only [ds_bd, v_h0 hW, v_h1 hW, v_h2 hW, v_h3 hW, v_h4 hW, v_h5 hW, v_h6 hW, v_h7 hW, v_h8 hW, v_h9 hW, v_s0 hW, v_s8 hW, v_s9 hW, v_s10 hW, v_s11 hW, v_s12 hW, v_i100 hW, v_i101 hW, v_i103 hW, v_i105 hW, v_i107 hW, v_n3 hW, v_n5 hW, v_n7 hW, e_in, e_areTwo hW]
  rcases ds_two_c x1 x2 (nP := nP) (by omega) with h | ⟨h, i, j, hi, hj, rfl, rfl, hij⟩
  · simp only [h, if_true]
  · simp only [h, i3_10, if_false, i3_nat (show j < 2147483648 by omega), i3_nat (show i < 2147483648 by omega)]
    rcases ds_in_01 x3 0 1000 with h2 | h2
    · simp only [h2, if_true]
    · simp only [h2, i3_10, if_false, ds_bd, v_h0 hW, v_h1 hW, v_h2 hW, v_h3 hW, v_h4 hW, v_h5 hW, v_h6 hW, v_h7 hW, v_h8 hW, v_h9 hW, v_s0 hW, v_s8 hW, v_s9 hW, v_s10 hW, v_s11 hW, v_s12 hW, v_i100 hW, v_i101 hW, v_i103 hW, v_i105 hW, v_i107 hW, v_n3 hW, v_n5 hW, v_n7 hW, e_in, v_row hW (show i < 12 by omega), w_stl hW (show i < 12 by omega) (show j < 12 by omega)]
theorem e_end (hW : ds_W G nP nD nA) (x1 : Int32) : gG_X0_end (dG G nP nD S) 100 x1 = some ((sp_end S x1).1, dG G nP nD (sp_end S x1).2) := by
  unfold gG_X0_end sp_end ds_in
  simp only [ds_bd, v_h0 hW, v_h1 hW, v_h2 hW, v_h3 hW, v_h4 hW, v_h5 hW, v_h6 hW, v_h7 hW, v_h8 hW, v_h9 hW, v_s0 hW, v_s8 hW, v_s9 hW, v_s10 hW, v_s11 hW, v_s12 hW, v_i100 hW, v_i101 hW, v_i103 hW, v_i105 hW, v_i107 hW, v_n3 hW, v_n5 hW, v_n7 hW, e_in, v_s hW (k := 1) (by decide) (by decide), v_s hW (k := 2) (by decide) (by decide), v_s hW (k := 3) (by decide) (by decide), v_s hW (k := 4) (by decide) (by decide), v_s hW (k := 5) (by decide) (by decide), v_s hW (k := 6) (by decide) (by decide), v_s hW (k := 7) (by decide) (by decide), w_s hW (k := 1) (by decide) (by decide), w_s hW (k := 2) (by decide) (by decide), w_s hW (k := 3) (by decide) (by decide), w_s hW (k := 4) (by decide) (by decide), w_s hW (k := 5) (by decide) (by decide), w_s hW (k := 6) (by decide) (by decide), w_s hW (k := 7) (by decide) (by decide)]
  by_cases c1 : x1 < 0
  · simp only [c1, if_true]
  · by_cases c2 : x1 ≤ ds_s S 1
    · have c3 : ¬ ds_s S 1 < x1 := fun q => i3_nle.mpr q c2
      simp only [c1, c2, c3, if_false, not_true_eq_false, i3_10]
    · have c3 : ds_s S 1 < x1 := i3_nle.mp c2
      simp only [c1, c2, c3, if_false, if_true, not_false_eq_true]
theorem e_fault (hW : ds_W G nP nD nA) (x1 : Int32) : gG_X0_fault (dG G nP nD S) 100 x1 = some (sp_fault S x1) := by
  unfold gG_X0_fault sp_fault
  simp only [ds_bd, v_h0 hW, v_h1 hW, v_h2 hW, v_h3 hW, v_h4 hW, v_h5 hW, v_h6 hW, v_h7 hW, v_h8 hW, v_h9 hW, v_s0 hW, v_s8 hW, v_s9 hW, v_s10 hW, v_s11 hW, v_s12 hW, v_i100 hW, v_i101 hW, v_i103 hW, v_i105 hW, v_i107 hW, v_n3 hW, v_n5 hW, v_n7 hW, e_in, v_s hW (k := 1) (by decide) (by decide), v_s hW (k := 2) (by decide) (by decide), v_s hW (k := 3) (by decide) (by decide), v_s hW (k := 4) (by decide) (by decide), v_s hW (k := 5) (by decide) (by decide), v_s hW (k := 6) (by decide) (by decide), v_s hW (k := 7) (by decide) (by decide), ds_sif]
end
