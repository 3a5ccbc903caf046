set_option maxRecDepth 100000
/-! costs, payments, what is told of a debt -/
theorem ds_ud_ud (S : ds_S) (k i : Nat) (a b : Int32) : ds_ud (ds_ud S k i a) k i b = ds_ud S k i b := by
  have : dg_up (dg_up (ds_d S) k i a) k i b = dg_up (ds_d S) k i b := by
    funext x y
    unfold dg_up
    by_cases h : x = k ∧ y = i
    · rw [if_pos h, if_pos h]
    · rw [if_neg h, if_neg h, if_neg h]
  show (_, _, dg_up (dg_up (ds_d S) k i a) k i b, _) = _
  rw [this]
  rfl
theorem ds_ud_comm (S : ds_S) {k k' : Nat} (i j : Nat) (a b : Int32) (h : k ≠ k') : ds_ud (ds_ud S k i a) k' j b = ds_ud (ds_ud S k' j b) k i a := by
  have : dg_up (dg_up (ds_d S) k i a) k' j b = dg_up (dg_up (ds_d S) k' j b) k i a := by
    funext x y
    unfold dg_up
    by_cases h1 : x = k ∧ y = i
    · rw [if_pos h1, if_neg (fun q => h (h1.1.symm.trans q.1)), if_pos h1]
    · rw [if_neg h1, if_neg h1]
  show (_, _, dg_up (dg_up (ds_d S) k i a) k' j b, _) = _
  rw [this]
  rfl
def ds_min (x y : Int32) : Int32 := if y < x then y else x
theorem e_min (G : dg_G) (x y : Int32) : gG_J5_min G x y = some (ds_min x y) := by
  unfold gG_J5_min ds_min
  split <;> rfl
theorem ds_sif {α : Type} {c : Prop} [Decidable c] (a b : α) : some (if c then a else b) = if c then some a else some b := by split <;> rfl
theorem ds_sif2 {α β : Type} {c : Prop} [Decidable c] (a b : α) (m : β) : some ((if c then a else b), m) = if c then some (a, m) else some (b, m) := by split <;> rfl
theorem i3_10 : ¬ (1 : Int32) = 0 := by decide
theorem i3_nle {x y : Int32} : ¬ x ≤ y ↔ y < x := by
  rw [Int32.le_iff_toInt_le, Int32.lt_iff_toInt_lt]
  omega
theorem ds_min_le (x y : Int32) : (if y ≤ x then y else x) = ds_min x y := by
  unfold ds_min
  by_cases h : y < x
  · rw [if_pos h, if_pos (by rw [Int32.lt_iff_toInt_lt] at h; rw [Int32.le_iff_toInt_le]; omega)]
  · rw [if_neg h]
    by_cases h2 : y ≤ x
    · rw [if_pos h2]
      apply Int32.toInt_inj.mp
      rw [Int32.lt_iff_toInt_lt] at h
      rw [Int32.le_iff_toInt_le] at h2
      omega
    · rw [if_neg h2]
def sp_less (S : ds_S) (i : Nat) (x : Int32) : ds_S :=
  let v := ds_min x (ds_d S 10 i)
  let w := ds_min (x - v) (sp_int S i)
  let S5 := ds_ud (ds_ud (ds_ud (ds_ud S 11 i (ds_s S 4)) 10 i (ds_d S 10 i - v)) 9 i (sp_int S i - w)) 8 i (ds_d S 8 i - ((x - v) - w))
  if ((ds_d S 10 i - v) + (sp_int S i - w)) + (ds_d S 8 i - ((x - v) - w)) = 0 then ds_ud (ds_ud S5 15 i 1) 13 i (ds_s S 4) else S5
def sp_costs (nD : Nat) (S : ds_S) (x1 x2 : Int32) : Int32 × ds_S :=
  if ds_live nD S x1 = 0 then (-1, S) else if ds_in x2 1 10000 = 0 then (-1, S) else
  (sp_due (ds_ud S 10 x1.toNatClampNeg (ds_d S 10 x1.toNatClampNeg + x2)) x1.toNatClampNeg, ds_ud S 10 x1.toNatClampNeg (ds_d S 10 x1.toNatClampNeg + x2))
def sp_pay (nP nD : Nat) (S : ds_S) (x1 x2 : Int32) : Int32 × ds_S :=
  if ds_live nD S x1 = 0 then (-1, S) else
  let i := x1.toNatClampNeg
  let a := (ds_d S 1 i).toNatClampNeg
  let b := (ds_d S 7 i).toNatClampNeg
  if ds_in x2 1 (sp_due S i) = 0 then (-1, S) else if ¬ (x2 ≤ ds_p S 2 a) then (-1, S) else
  let S1 := ds_upp S 2 a (ds_p S 2 a - x2)
  let S2 := ds_upp S1 2 b (ds_p S1 2 b + x2)
  let S3 := sp_looks nP nD (sp_less S2 i x2)
  (sp_due S3 i, S3)
def sp_about (nD : Nat) (S : ds_S) (x1 x2 : Int32) : Int32 :=
  if ds_in x1 0 (Int32.ofNat nD - 1) = 0 then -100 else
  let i := x1.toNatClampNeg
  if x2 = 0 then ds_d S 1 i else if x2 = 1 then ds_d S 7 i else if x2 = 2 then ds_d S 2 i else if x2 = 3 then ds_d S 3 i else if x2 = 4 then ds_d S 4 i else if x2 = 5 then ds_d S 5 i else if x2 = 6 then ds_d S 6 i else if x2 = 7 then ds_d S 15 i
  else if x2 = 8 then (if ds_d S 15 i = 0 then ds_d S 8 i else 0) else if x2 = 9 then (if ds_d S 15 i = 0 then sp_int S i else 0) else if x2 = 10 then (if ds_d S 15 i = 0 then ds_d S 10 i else 0) else if x2 = 11 then sp_due S i
  else if x2 = 12 then (if ds_d S 14 i = 0 then 0 else 1) else if x2 = 13 then ds_d S 12 i else if x2 = 14 then ds_d S 13 i else -100
theorem ds_Ok_ud {nP nD k i : Nat} {v : Int32} {S : ds_S} (h : ds_Ok nP nD S) (hk : k ≠ 1 ∧ k ≠ 7 ∧ k ≠ 15) : ds_Ok nP nD (ds_ud S k i v) := by
  intro j hj
  obtain ⟨h1, h2, h3⟩ := h j hj
  have e : ∀ a, a ≠ k → ds_d (ds_ud S k i v) a j = ds_d S a j := fun a ha => if_neg (fun q => ha q.1)
  rw [e 1 (by omega), e 7 (by omega), e 15 (by omega)]
  exact ⟨h1, h2, h3⟩
theorem ds_Ok_st {nP nD i n : Nat} {S : ds_S} (h : ds_Ok nP nD S) (hn : n < 4) : ds_Ok nP nD (ds_ud S 15 i (Int32.ofNat n)) := by
  intro j hj
  obtain ⟨h1, h2, h3⟩ := h j hj
  have e : ∀ a, a ≠ 15 → ds_d (ds_ud S 15 i (Int32.ofNat n)) a j = ds_d S a j := fun a ha => if_neg (fun q => ha q.1)
  rw [e 1 (by omega), e 7 (by omega)]
  refine ⟨h1, h2, ?_⟩
  by_cases hij : j = i
  · exact ⟨n, hn, if_pos ⟨rfl, hij⟩⟩
  · rw [show ds_d (ds_ud S 15 i (Int32.ofNat n)) 15 j = ds_d S 15 j from if_neg (fun q => hij q.2)]
    exact h3
theorem ds_Ok_less {nP nD i : Nat} {x : Int32} {S : ds_S} (h : ds_Ok nP nD S) : ds_Ok nP nD (sp_less S i x) := by
  unfold sp_less
  dsimp only
  have h5 := ds_Ok_ud (k := 8) (i := i) (v := ds_d S 8 i - ((x - ds_min x (ds_d S 10 i)) - ds_min (x - ds_min x (ds_d S 10 i)) (sp_int S i))) (ds_Ok_ud (k := 9) (i := i) (v := sp_int S i - ds_min (x - ds_min x (ds_d S 10 i)) (sp_int S i)) (ds_Ok_ud (k := 10) (i := i) (v := ds_d S 10 i - ds_min x (ds_d S 10 i)) (ds_Ok_ud (k := 11) (i := i) (v := ds_s S 4) h (by decide)) (by decide)) (by decide)) (by decide)
  split
  · exact ds_Ok_ud (ds_Ok_st (n := 1) h5 (by decide)) (by decide)
  · exact h5
theorem ds_fold_inv {α : Type} {f : Nat → α → α} {a : α} (P : α → Prop) (h0 : P a) (hs : ∀ i x, P x → P (f i x)) (n : Nat) : P (ds_fold f a n) := by
  induction n with
  | zero => exact h0
  | succ n ih => exact hs n _ ih
theorem ds_Ok_looks {nP nD : Nat} {S : ds_S} (h : ds_Ok nP nD S) : ds_Ok nP nD (sp_looks nP nD S) := ds_fold_inv (fun S => ds_Ok nP nD S) h (fun _ _ q => ds_Ok_upp q) _
section
variable {G : dg_G} {nP nD nA : Nat} {S : ds_S}
theorem e_costs (hW : ds_W G nP nD nA) (hO : ds_Ok nP nD S) (x1 x2 : Int32) : gG_X0_costs (dG G nP nD S) 100 x1 x2 = some ((sp_costs nD S x1 x2).1, dG G nP nD (sp_costs nD S x1 x2).2) := by
  have hn := hW.1.2.1
  unfold gG_X0_costs sp_costs
  simp only [ds_bd, v_h0 hW, v_h1 hW, v_h2 hW, v_h3 hW, v_h4 hW, v_h5 hW, v_h6 hW, v_h7 hW, v_h8 hW, v_h9 hW, v_s0 hW, v_s8 hW, v_s9 hW, v_s10 hW, v_s11 hW, v_s12 hW, v_i100 hW, v_i101 hW, v_i103 hW, v_i105 hW, v_i107 hW, v_n3 hW, v_n5 hW, v_n7 hW, e_in, e_isLive hW hO]
  rcases ds_live_c (nD := nD) (S := S) (x := x1) (by omega) with h | ⟨h, i, hi, rfl, hl⟩
  · simp only [h, if_true]
  · simp only [h, i3_10, if_false, i3_nat (show i < 2147483648 by omega)]
    rcases ds_in_01 x2 1 10000 with h2 | h2
    · simp only [h2, if_true]
    · simp only [h2, i3_10, if_false]
      have hO2 := ds_Ok_ud (k := 10) (i := i) (v := ds_d S 10 i + x2) hO (by decide)
      simp only [ds_bd, v_h0 hW, v_h1 hW, v_h2 hW, v_h3 hW, v_h4 hW, v_h5 hW, v_h6 hW, v_h7 hW, v_h8 hW, v_h9 hW, v_s0 hW, v_s8 hW, v_s9 hW, v_s10 hW, v_s11 hW, v_s12 hW, v_i100 hW, v_i101 hW, v_i103 hW, v_i105 hW, v_i107 hW, v_n3 hW, v_n5 hW, v_n7 hW, e_in, v_debtAt hW hi, v_d hW (k := 10) (by decide) (by decide) hi, w_d hW (k := 10) (by decide) (by decide) hi, e_due hW hO2 hi]
theorem e_less (hW : ds_W G nP nD nA) {i : Nat} {x : Int32} (hi : i < nD) : gG_X4_less (dG G nP nD S) (dg_AR G 106 i) x (ds_s S 4) = some (dG G nP nD (sp_less S i x)) := by
  unfold gG_X4_less gG_X4_ends
  simp only [ds_bd, v_id hW hi, e_int hW hi, e_min, v_d hW (k := 10) (by decide) (by decide) hi, v_d hW (k := 9) (by decide) (by decide) hi, v_d hW (k := 8) (by decide) (by decide) hi, w_d hW (k := 9) (by decide) (by decide) hi, w_d hW (k := 8) (by decide) (by decide) hi, w_d hW (k := 10) (by decide) (by decide) hi, w_d hW (k := 11) (by decide) (by decide) hi, w_d hW (k := 13) (by decide) (by decide) hi, w_st hW (r := 22) (n := 1) rfl (by decide) hi, sx_s_us, sx_p_us, sx_d_us, sx_l_us, sx_t_us, sx_r_us, sx_a_us, sx_b_us, sx_s_upp, sx_p_upp, sx_d_upp, sx_l_upp, sx_t_upp, sx_r_upp, sx_a_upp, sx_b_upp, sx_s_ud, sx_p_ud, sx_d_ud, sx_l_ud, sx_t_ud, sx_r_ud, sx_a_ud, sx_b_ud, sx_s_ul, sx_p_ul, sx_d_ul, sx_l_ul, sx_t_ul, sx_r_ul, sx_a_ul, sx_b_ul, sx_s_ut, sx_p_ut, sx_d_ut, sx_l_ut, sx_t_ut, sx_r_ut, sx_a_ut, sx_b_ut, sx_s_ur, sx_p_ur, sx_d_ur, sx_l_ur, sx_t_ur, sx_r_ur, sx_a_ur, sx_b_ur, sx_s_ua, sx_p_ua, sx_d_ua, sx_l_ua, sx_t_ua, sx_r_ua, sx_a_ua, sx_b_ua, sx_s_ub, sx_p_ub, sx_d_ub, sx_l_ub, sx_t_ub, sx_r_ub, sx_a_ub, sx_b_ub, sx_s_fa, sx_p_fa, sx_d_fa, sx_l_fa, sx_t_fa, sx_r_fa, sx_a_fa, sx_b_fa, sx_s_fb, sx_p_fb, sx_d_fb, sx_l_fb, sx_t_fb, sx_r_fb, sx_a_fb, sx_b_fb, reduceIte, false_and, true_and, and_true, and_false, and_self, if_true, if_false, Nat.reduceEqDiff]
  have e : ∀ a b c d : Int32, ds_ud (ds_ud (ds_ud (ds_ud (ds_ud S 9 i (sp_int S i)) 11 i a) 10 i b) 9 i c) 8 i d = ds_ud (ds_ud (ds_ud (ds_ud S 11 i a) 10 i b) 9 i c) 8 i d := by
    intro a b c d
    rw [ds_ud_comm S (k := 9) (k' := 11) i i _ _ (by decide), ds_ud_comm _ (k := 9) (k' := 10) i i _ _ (by decide), ds_ud_ud]
  rw [e]
  unfold sp_less
  dsimp only
  split
  · rfl
  · rfl
theorem e_pay (hW : ds_W G nP nD nA) (hO : ds_Ok nP nD S) (x1 x2 : Int32) : gG_X0_pay (dG G nP nD S) 100 x1 x2 = some ((sp_pay nP nD S x1 x2).1, dG G nP nD (sp_pay nP nD S x1 x2).2) := by
  have hn := hW.1.2.1
  have hp := hW.1.1
  unfold gG_X0_pay sp_pay
  simp only [ds_bd, v_h0 hW, v_h1 hW, v_h2 hW, v_h3 hW, v_h4 hW, v_h5 hW, v_h6 hW, v_h7 hW, v_h8 hW, v_h9 hW, v_s0 hW, v_s8 hW, v_s9 hW, v_s10 hW, v_s11 hW, v_s12 hW, v_i100 hW, v_i101 hW, v_i103 hW, v_i105 hW, v_i107 hW, v_n3 hW, v_n5 hW, v_n7 hW, e_in, e_isLive hW hO]
  rcases ds_live_c (nD := nD) (S := S) (x := x1) (by omega) with h | ⟨h, i, hi, rfl, hl⟩
  · simp only [h, if_true]
  · simp only [h, i3_10, if_false, i3_nat (show i < 2147483648 by omega), e_due hW hO hi, ds_bd]
    rcases ds_in_01 x2 1 (sp_due S i) with h2 | h2
    · simp only [h2, if_true]
    · simp only [h2, i3_10, if_false]
      obtain ⟨⟨a, ha, ea⟩, ⟨b, hb, eb⟩, -⟩ := hO i hi
      simp only [ds_bd, v_h0 hW, v_h1 hW, v_h2 hW, v_h3 hW, v_h4 hW, v_h5 hW, v_h6 hW, v_h7 hW, v_h8 hW, v_h9 hW, v_s0 hW, v_s8 hW, v_s9 hW, v_s10 hW, v_s11 hW, v_s12 hW, v_i100 hW, v_i101 hW, v_i103 hW, v_i105 hW, v_i107 hW, v_n3 hW, v_n5 hW, v_n7 hW, e_in, v_debtAt hW hi, v_d hW (k := 1) (by decide) (by decide) hi, ea, eb, i3_nat (show a < 2147483648 by omega), i3_nat (show b < 2147483648 by omega), v_at hW ha, v_p hW (k := 2) (by decide) (by decide) ha]
      by_cases h3 : x2 ≤ ds_p S 2 a
      · simp only [h3, not_true_eq_false, if_false]
        simp only [w_p hW (k := 2) (by decide) (by decide) ha, ds_bd, ds_bd, v_h0 hW, v_h1 hW, v_h2 hW, v_h3 hW, v_h4 hW, v_h5 hW, v_h6 hW, v_h7 hW, v_h8 hW, v_h9 hW, v_s0 hW, v_s8 hW, v_s9 hW, v_s10 hW, v_s11 hW, v_s12 hW, v_i100 hW, v_i101 hW, v_i103 hW, v_i105 hW, v_i107 hW, v_n3 hW, v_n5 hW, v_n7 hW, e_in, v_d hW (k := 7) (by decide) (by decide) hi, sx_d_upp, eb, v_at hW hb, v_p hW (k := 2) (by decide) (by decide) hb, w_p hW (k := 2) (by decide) (by decide) hb, v_s hW (k := 4) (by decide) (by decide), sx_s_upp, v_id hW hi]
        have e1 := e_less hW (S := ds_upp (ds_upp S 2 a (ds_p S 2 a - x2)) 2 b (ds_p (ds_upp S 2 a (ds_p S 2 a - x2)) 2 b + x2)) (i := i) (x := x2) hi
        simp only [sx_s_upp] at e1
        have hO3 := ds_Ok_less (i := i) (x := x2) (ds_Ok_upp (k := 2) (i := b) (v := ds_p (ds_upp S 2 a (ds_p S 2 a - x2)) 2 b + x2) (ds_Ok_upp (k := 2) (i := a) (v := ds_p S 2 a - x2) hO))
        simp only [e1, ds_bd, ds_bd, v_h0 hW, v_h1 hW, v_h2 hW, v_h3 hW, v_h4 hW, v_h5 hW, v_h6 hW, v_h7 hW, v_h8 hW, v_h9 hW, v_s0 hW, v_s8 hW, v_s9 hW, v_s10 hW, v_s11 hW, v_s12 hW, v_i100 hW, v_i101 hW, v_i103 hW, v_i105 hW, v_i107 hW, v_n3 hW, v_n5 hW, v_n7 hW, e_in, e_looks hW hO3, e_due hW (ds_Ok_looks hO3) hi]
      · simp only [h3, not_false_eq_true, if_true]
theorem e_about (hW : ds_W G nP nD nA) (hO : ds_Ok nP nD S) (x1 x2 : Int32) : gG_X0_about (dG G nP nD S) 100 x1 x2 = some (sp_about nD S x1 x2) := by
  have hn := hW.1.2.1
  unfold gG_X0_about sp_about
  simp only [ds_bd, v_h0 hW, v_h1 hW, v_h2 hW, v_h3 hW, v_h4 hW, v_h5 hW, v_h6 hW, v_h7 hW, v_h8 hW, v_h9 hW, v_s0 hW, v_s8 hW, v_s9 hW, v_s10 hW, v_s11 hW, v_s12 hW, v_i100 hW, v_i101 hW, v_i103 hW, v_i105 hW, v_i107 hW, v_n3 hW, v_n5 hW, v_n7 hW, e_in]
  rcases ds_in_c x1 (n := nD) (by omega) with h | ⟨h, i, hi, rfl⟩
  · simp only [h, if_true]
  · simp only [h, i3_10, if_false, i3_nat (show i < 2147483648 by omega)]
    obtain ⟨-, -, j, hj, ej⟩ := hO i hi
    have hord : (do_isS (21 + (ds_d S 15 i).toNatClampNeg)).bind (fun _ => (gG_J6_ordinal (dG G nP nD S) (21 + (ds_d S 15 i).toNatClampNeg)).bind fun p26 => some p26) = some (ds_d S 15 i) := by
      rw [ej, i3_nat (by omega), show do_isS (21 + j) = some () from if_pos (by omega)]
      simp only [ds_bd]
      unfold gG_J6_ordinal do_ord
      rw [if_neg (by omega), if_pos (by omega), show 21 + j - 21 = j by omega]
      rfl
    simp only [ds_bd, v_h0 hW, v_h1 hW, v_h2 hW, v_h3 hW, v_h4 hW, v_h5 hW, v_h6 hW, v_h7 hW, v_h8 hW, v_h9 hW, v_s0 hW, v_s8 hW, v_s9 hW, v_s10 hW, v_s11 hW, v_s12 hW, v_i100 hW, v_i101 hW, v_i103 hW, v_i105 hW, v_i107 hW, v_n3 hW, v_n5 hW, v_n7 hW, e_in, v_debtAt hW hi, v_id hW hi, v_st hW hi, e_live hW hO hi, e_due hW hO hi, e_int hW hi, v_s hW (k := 4) (by decide) (by decide), v_d hW (k := 1) (by decide) (by decide) hi, v_d hW (k := 2) (by decide) (by decide) hi, v_d hW (k := 3) (by decide) (by decide) hi, v_d hW (k := 4) (by decide) (by decide) hi, v_d hW (k := 5) (by decide) (by decide) hi, v_d hW (k := 6) (by decide) (by decide) hi, v_d hW (k := 7) (by decide) (by decide) hi, v_d hW (k := 8) (by decide) (by decide) hi, v_d hW (k := 10) (by decide) (by decide) hi, v_d hW (k := 12) (by decide) (by decide) hi, v_d hW (k := 13) (by decide) (by decide) hi, v_d hW (k := 14) (by decide) (by decide) hi]
    rw [hord]
    by_cases el : ds_d S 15 i = 0
    · simp only [el, if_true, i3_10, if_false, ds_sif]
    · simp only [el, if_false, if_true, ds_sif]
end
/-- nothing is left if and only if nothing of each is left -/
def sp_z (S : ds_S) (i : Nat) (x : Int32) : Prop :=
  ((ds_d S 10 i - ds_min x (ds_d S 10 i)) + (sp_int S i - ds_min (x - ds_min x (ds_d S 10 i)) (sp_int S i))) + (ds_d S 8 i - ((x - ds_min x (ds_d S 10 i)) - ds_min (x - ds_min x (ds_d S 10 i)) (sp_int S i))) = 0 ↔
  ds_d S 10 i - ds_min x (ds_d S 10 i) = 0 ∧ sp_int S i - ds_min (x - ds_min x (ds_d S 10 i)) (sp_int S i) = 0 ∧ ds_d S 8 i - ((x - ds_min x (ds_d S 10 i)) - ds_min (x - ds_min x (ds_d S 10 i)) (sp_int S i)) = 0
section
variable {M : dm_M} {nP nD : Nat} {S : ds_S}
theorem em_code : dm_set (dM M nP nD S) 0 0 0 = dM (dm_set M 0 0 0) nP nD S := y_f (Or.inl rfl)
theorem em_costs (hM : ds_lim nP nD) (x1 x2 : Int32) : gM_costs (dM M nP nD S) x1 x2 = some ((sp_costs nD S x1 x2).1, dM (dm_set M 0 0 0) nP nD (sp_costs nD S x1 x2).2) := by
  have hn := hM.2
  unfold gM_costs sp_costs
  simp only [ds_bd, em_in, x_np hM, x_nd hM, em_code, em_isLive hM]
  rcases ds_live_c (nD := nD) (S := S) (x := x1) (by omega) with h | ⟨h, i, hi, rfl, hl⟩
  · simp only [h, if_true]
  · simp only [h, i3_10, if_false, i3_nat (show i < 2147483648 by omega)]
    rcases ds_in_01 x2 1 10000 with h2 | h2
    · simp only [h2, if_true]
    · simp only [h2, i3_10, if_false]
      simp only [ds_bd, em_in, x_np hM, x_nd hM, x_d hM (k := 37) (by decide) hi, y_d hM (k := 37) (by decide) hi]
      simp only [show dM_dt 37 = 10 from rfl, em_due hM hi, ds_bd]
theorem em_take (hM : ds_lim nP nD) {i : Nat} {x : Int32} (hi : i < nD) (hz : sp_z S i x) : gM_takeOff (dM M nP nD S) (Int32.ofNat i) x = some (dM M nP nD (sp_less S i x)) := by
  have d33 : dM_dt 33 = 15 := rfl
  have d34 : dM_dt 34 = 8 := rfl
  have d35 : dM_dt 35 = 9 := rfl
  have d36 : dM_dt 36 = 11 := rfl
  have d37 : dM_dt 37 = 10 := rfl
  have d40 : dM_dt 40 = 13 := rfl
  have s5 : dM_sc 5 = 4 := rfl
  have k1 : ∀ (S' : ds_S) (v : Int32), dm_wr (dM M nP nD S') 36 (Int32.ofNat i) v = some (dM M nP nD (ds_ud S' 11 i v)) := fun S' v => y_d hM (k := 36) (by decide) hi
  have step : gM_takeOff (dM M nP nD S) (Int32.ofNat i) x = gM_takeOff_b43 (dM M nP nD (ds_ud S 11 i (ds_s S 4))) (Int32.ofNat i) (sp_int S i) x (ds_min x (ds_d S 10 i)) := by
    unfold gM_takeOff
    simp only [em_int hM hi, ds_bd, x_s hM (k := 5) (by decide), s5, k1, x_d hM (k := 37) (by decide) hi, d37, sx_s_us, sx_p_us, sx_d_us, sx_l_us, sx_t_us, sx_r_us, sx_a_us, sx_b_us, sx_s_upp, sx_p_upp, sx_d_upp, sx_l_upp, sx_t_upp, sx_r_upp, sx_a_upp, sx_b_upp, sx_s_ud, sx_p_ud, sx_d_ud, sx_l_ud, sx_t_ud, sx_r_ud, sx_a_ud, sx_b_ud, sx_s_ul, sx_p_ul, sx_d_ul, sx_l_ul, sx_t_ul, sx_r_ul, sx_a_ul, sx_b_ul, sx_s_ut, sx_p_ut, sx_d_ut, sx_l_ut, sx_t_ut, sx_r_ut, sx_a_ut, sx_b_ut, sx_s_ur, sx_p_ur, sx_d_ur, sx_l_ur, sx_t_ur, sx_r_ur, sx_a_ur, sx_b_ur, sx_s_ua, sx_p_ua, sx_d_ua, sx_l_ua, sx_t_ua, sx_r_ua, sx_a_ua, sx_b_ua, sx_s_ub, sx_p_ub, sx_d_ub, sx_l_ub, sx_t_ub, sx_r_ub, sx_a_ub, sx_b_ub, sx_s_fa, sx_p_fa, sx_d_fa, sx_l_fa, sx_t_fa, sx_r_fa, sx_a_fa, sx_b_fa, sx_s_fb, sx_p_fb, sx_d_fb, sx_l_fb, sx_t_fb, sx_r_fb, sx_a_fb, sx_b_fb, reduceIte, false_and, true_and, and_true, and_false, and_self, if_true, if_false, Nat.reduceEqDiff]
    by_cases h : ds_d S 10 i ≤ x
    · simp only [h, not_true_eq_false, if_false]
      rw [← ds_min_le, if_pos h]
    · simp only [h, not_false_eq_true, if_true]
      rw [← ds_min_le, if_neg h]
  rw [step]
  have step2 : gM_takeOff_b43 (dM M nP nD (ds_ud S 11 i (ds_s S 4))) (Int32.ofNat i) (sp_int S i) x (ds_min x (ds_d S 10 i)) = gM_takeOff_b75 (dM M nP nD (ds_ud (ds_ud S 11 i (ds_s S 4)) 10 i (ds_d S 10 i - ds_min x (ds_d S 10 i)))) (Int32.ofNat i) (sp_int S i) (x - ds_min x (ds_d S 10 i)) (ds_min (x - ds_min x (ds_d S 10 i)) (sp_int S i)) := by
    unfold gM_takeOff_b43
    simp only [ds_bd, x_d hM (k := 37) (by decide) hi, y_d hM (k := 37) (by decide) hi, d37, sx_s_us, sx_p_us, sx_d_us, sx_l_us, sx_t_us, sx_r_us, sx_a_us, sx_b_us, sx_s_upp, sx_p_upp, sx_d_upp, sx_l_upp, sx_t_upp, sx_r_upp, sx_a_upp, sx_b_upp, sx_s_ud, sx_p_ud, sx_d_ud, sx_l_ud, sx_t_ud, sx_r_ud, sx_a_ud, sx_b_ud, sx_s_ul, sx_p_ul, sx_d_ul, sx_l_ul, sx_t_ul, sx_r_ul, sx_a_ul, sx_b_ul, sx_s_ut, sx_p_ut, sx_d_ut, sx_l_ut, sx_t_ut, sx_r_ut, sx_a_ut, sx_b_ut, sx_s_ur, sx_p_ur, sx_d_ur, sx_l_ur, sx_t_ur, sx_r_ur, sx_a_ur, sx_b_ur, sx_s_ua, sx_p_ua, sx_d_ua, sx_l_ua, sx_t_ua, sx_r_ua, sx_a_ua, sx_b_ua, sx_s_ub, sx_p_ub, sx_d_ub, sx_l_ub, sx_t_ub, sx_r_ub, sx_a_ub, sx_b_ub, sx_s_fa, sx_p_fa, sx_d_fa, sx_l_fa, sx_t_fa, sx_r_fa, sx_a_fa, sx_b_fa, sx_s_fb, sx_p_fb, sx_d_fb, sx_l_fb, sx_t_fb, sx_r_fb, sx_a_fb, sx_b_fb, reduceIte, false_and, true_and, and_true, and_false, and_self, if_true, if_false, Nat.reduceEqDiff]
    by_cases h : sp_int S i ≤ x - ds_min x (ds_d S 10 i)
    · simp only [h, if_true]
      rw [← ds_min_le (x - _), if_pos h]
    · simp only [h, if_false]
      rw [← ds_min_le (x - _), if_neg h]
  rw [step2]
  unfold gM_takeOff_b75 gM_ends sp_less
  simp only [ds_bd, x_d hM (k := 34) (by decide) hi, x_d hM (k := 35) (by decide) hi, x_d hM (k := 37) (by decide) hi, y_d hM (k := 34) (by decide) hi, y_d hM (k := 35) (by decide) hi, y_d hM (k := 33) (by decide) hi, y_d hM (k := 40) (by decide) hi, x_s hM (k := 5) (by decide), d33, d34, d35, d37, d40, s5, sx_s_us, sx_p_us, sx_d_us, sx_l_us, sx_t_us, sx_r_us, sx_a_us, sx_b_us, sx_s_upp, sx_p_upp, sx_d_upp, sx_l_upp, sx_t_upp, sx_r_upp, sx_a_upp, sx_b_upp, sx_s_ud, sx_p_ud, sx_d_ud, sx_l_ud, sx_t_ud, sx_r_ud, sx_a_ud, sx_b_ud, sx_s_ul, sx_p_ul, sx_d_ul, sx_l_ul, sx_t_ul, sx_r_ul, sx_a_ul, sx_b_ul, sx_s_ut, sx_p_ut, sx_d_ut, sx_l_ut, sx_t_ut, sx_r_ut, sx_a_ut, sx_b_ut, sx_s_ur, sx_p_ur, sx_d_ur, sx_l_ur, sx_t_ur, sx_r_ur, sx_a_ur, sx_b_ur, sx_s_ua, sx_p_ua, sx_d_ua, sx_l_ua, sx_t_ua, sx_r_ua, sx_a_ua, sx_b_ua, sx_s_ub, sx_p_ub, sx_d_ub, sx_l_ub, sx_t_ub, sx_r_ub, sx_a_ub, sx_b_ub, sx_s_fa, sx_p_fa, sx_d_fa, sx_l_fa, sx_t_fa, sx_r_fa, sx_a_fa, sx_b_fa, sx_s_fb, sx_p_fb, sx_d_fb, sx_l_fb, sx_t_fb, sx_r_fb, sx_a_fb, sx_b_fb, reduceIte, false_and, true_and, and_true, and_false, and_self, if_true, if_false, Nat.reduceEqDiff]
  unfold sp_z at hz
  by_cases c1 : ds_d S 10 i - ds_min x (ds_d S 10 i) = 0
  · by_cases c2 : sp_int S i - ds_min (x - ds_min x (ds_d S 10 i)) (sp_int S i) = 0
    · by_cases c3 : ds_d S 8 i - ((x - ds_min x (ds_d S 10 i)) - ds_min (x - ds_min x (ds_d S 10 i)) (sp_int S i)) = 0
      · rw [if_pos c1, if_pos c2, if_pos c3, if_pos (hz.mpr ⟨c1, c2, c3⟩)]
      · rw [if_pos c1, if_pos c2, if_neg c3, if_neg (fun q => c3 (hz.mp q).2.2)]
    · rw [if_pos c1, if_neg c2, if_neg (fun q => c2 (hz.mp q).2.1)]
  · rw [if_neg c1, if_neg (fun q => c1 (hz.mp q).1)]
theorem em_pay (hM : ds_lim nP nD) (hO : ds_Ok nP nD S) (x1 x2 : Int32) (hz : ∀ i, i < nD → x1 = Int32.ofNat i → ds_d S 15 i = 0 → ds_in x2 1 (sp_due S i) = 1 → sp_z S i x2) : gM_pay (dM M nP nD S) x1 x2 = some ((sp_pay nP nD S x1 x2).1, dM (dm_set M 0 0 0) nP nD (sp_pay nP nD S x1 x2).2) := by
  have hn := hM.2
  have hp := hM.1
  unfold gM_pay sp_pay
  simp only [ds_bd, em_in, x_np hM, x_nd hM, em_code, em_isLive hM]
  rcases ds_live_c (nD := nD) (S := S) (x := x1) (by omega) with h | ⟨h, i, hi, rfl, hl⟩
  · simp only [h, if_true]
  · simp only [h, i3_10, if_false, i3_nat (show i < 2147483648 by omega), em_due hM hi, ds_bd]
    obtain ⟨⟨a, ha, ea⟩, ⟨b, hb, eb⟩, -⟩ := hO i hi
    have d26 : dM_dt 26 = 1 := rfl
    have d27 : dM_dt 27 = 7 := rfl
    have p9 : dM_pt 9 = 2 := rfl
    simp only [ds_bd, em_in, x_np hM, x_nd hM, x_d hM (k := 26) (by decide) hi, d26, ea, eb, i3_nat (show a < 2147483648 by omega), i3_nat (show b < 2147483648 by omega), x_p hM (k := 9) (by decide) ha, p9]
    rcases ds_in_01 x2 1 (sp_due S i) with h2 | h2
    · simp only [h2, if_true]
      by_cases c1 : x2 < 1
      · rw [if_pos c1]
      · rw [if_neg c1]
        have c2 : ¬ x2 ≤ sp_due S i := by
          unfold ds_in at h2
          rw [if_neg c1] at h2
          split at h2
          · rename_i q
            exact i3_nle.mpr q
          · exact absurd h2 (by decide)
        simp only [c2, not_false_eq_true, if_true]
        split <;> rfl
    · obtain ⟨c1, c2⟩ := ds_in_1 h2
      have c3 : x2 ≤ sp_due S i := Classical.not_not.mp (fun q => c2 (i3_nle.mp q))
      simp only [h2, i3_10, if_false, c1, c3, not_true_eq_false]
      by_cases h3 : x2 ≤ ds_p S 2 a
      · have h4 : ¬ ds_p S 2 a < x2 := fun q => i3_nle.mpr q h3
        have hz' := hz i hi rfl hl h2
        have hz2 : sp_z (ds_upp (ds_upp S 2 a (ds_p S 2 a - x2)) 2 b (ds_p (ds_upp S 2 a (ds_p S 2 a - x2)) 2 b + x2)) i x2 := hz'
        simp only [h3, h4, not_true_eq_false, if_false]
        simp only [y_p hM (k := 9) (by decide) (by decide) ha, p9, ds_bd, em_in, x_np hM, x_nd hM, x_d hM (k := 27) (by decide) hi, d27, sx_d_upp, eb, x_p hM (k := 9) (by decide) hb, y_p hM (k := 9) (by decide) (by decide) hb, em_take hM hi hz2, em_letGo hM, em_due hM hi]
      · have h4 : ds_p S 2 a < x2 := i3_nle.mp h3
        simp only [h3, h4, not_false_eq_true, if_true]
theorem em_about (hM : ds_lim nP nD) (x1 x2 : Int32) : gM_about (dM M nP nD S) x1 x2 = some (sp_about nD S x1 x2, dM (dm_set M 0 0 0) nP nD S) := by
  have hn := hM.2
  unfold gM_about sp_about
  simp only [ds_bd, em_in, x_np hM, x_nd hM, em_code, em_isDebt hM]
  rcases ds_in_c x1 (n := nD) (by omega) with h | ⟨h, i, hi, rfl⟩
  · simp only [h, if_true]
  · simp only [h, i3_10, if_false, i3_nat (show i < 2147483648 by omega)]
    have e1 : dM_dt 26 = 1 ∧ dM_dt 27 = 7 ∧ dM_dt 28 = 2 ∧ dM_dt 29 = 3 ∧ dM_dt 30 = 4 ∧ dM_dt 31 = 5 ∧ dM_dt 32 = 6 ∧ dM_dt 33 = 15 ∧ dM_dt 34 = 8 ∧ dM_dt 37 = 10 ∧ dM_dt 38 = 14 ∧ dM_dt 39 = 12 ∧ dM_dt 40 = 13 := by decide
    obtain ⟨a1, a2, a3, a4, a5, a6, a7, a8, a9, a10, a11, a12, a13⟩ := e1
    unfold gM_about_b30
    simp only [ds_bd, em_in, x_np hM, x_nd hM, x_d hM (k := 26) (by decide) hi, x_d hM (k := 27) (by decide) hi, x_d hM (k := 28) (by decide) hi, x_d hM (k := 29) (by decide) hi, x_d hM (k := 30) (by decide) hi, x_d hM (k := 31) (by decide) hi, x_d hM (k := 32) (by decide) hi, x_d hM (k := 33) (by decide) hi, x_d hM (k := 34) (by decide) hi, x_d hM (k := 37) (by decide) hi, x_d hM (k := 38) (by decide) hi, x_d hM (k := 39) (by decide) hi, x_d hM (k := 40) (by decide) hi, em_int hM hi, em_due hM hi, a1, a2, a3, a4, a5, a6, a7, a8, a9, a10, a11, a12, a13]
    by_cases el : ds_d S 15 i = 0
    · simp only [el, if_true, i3_10, if_false, ds_sif2]
    · simp only [el, if_false, if_true, ds_sif2]
end
