set_option maxRecDepth 100000
/-! the model: the same simple calls -/
section
variable {M : dm_M} {nP nD : Nat} {S : ds_S}
theorem em_dueFrom (hM : ds_lim nP nD) (p : Int32) : gM_dueFrom (dM M nP nD S) p = some (sp_owedBy S nD p) := by
  have hn := hM.2
  unfold gM_dueFrom sp_owedBy
  refine ds_loopT (L := fun n i a => gM_dueFrom_L4 (dM M nP nD S) n p a (Int32.ofNat i)) (N := nD) (fin := fun a => some a) (fun n i a hi => ?_) (fun n a => ?_) (ds_fu (by omega))
  · show gM_dueFrom_L4_F _ _ _ _ _ = _
    unfold gM_dueFrom_L4_F
    simp only [ds_bd, em_in, x_np hM, x_nd hM, x_d hM (k := 26) (by decide) hi, x_d hM (k := 27) (by decide) hi, x_d hM (k := 28) (by decide) hi, x_d hM (k := 29) (by decide) hi, x_d hM (k := 30) (by decide) hi, x_d hM (k := 31) (by decide) hi, x_d hM (k := 32) (by decide) hi, x_d hM (k := 33) (by decide) hi, x_d hM (k := 34) (by decide) hi, x_d hM (k := 35) (by decide) hi, x_d hM (k := 36) (by decide) hi, x_d hM (k := 37) (by decide) hi, x_d hM (k := 38) (by decide) hi, x_d hM (k := 39) (by decide) hi, x_d hM (k := 40) (by decide) hi, dt_26, dt_27, dt_28, dt_29, dt_30, dt_31, dt_32, dt_33, dt_34, dt_35, dt_36, dt_37, dt_38, dt_39, dt_40, pt_9, pt_10, pt_12, pt_14, pt_15, pt_16, pt_17, pt_18, pt_19, pt_20, pt_21, pt_22, sc_2, sc_3, sc_4, sc_5, sc_6, sc_7, sc_41, em_due hM hi, i3_succ]
    rw [if_neg ((not_congr (i3_le (by omega) (by omega))).mpr (by omega))]
    by_cases e2 : ds_d S 1 i = p
    · simp only [e2, if_true]
    · simp only [e2, if_false]
  · show gM_dueFrom_L4_F _ _ _ _ _ = _
    unfold gM_dueFrom_L4_F
    simp only [ds_bd, em_in, x_np hM, x_nd hM]
    rw [if_pos ((i3_le (by omega) (by omega)).mpr (Nat.le_refl _))]
theorem em_dueTo (hM : ds_lim nP nD) (p : Int32) : gM_dueTo (dM M nP nD S) p = some (sp_owedTo S nD p) := by
  have hn := hM.2
  unfold gM_dueTo sp_owedTo
  refine ds_loopT (L := fun n i a => gM_dueTo_L4 (dM M nP nD S) n p a (Int32.ofNat i)) (N := nD) (fin := fun a => some a) (fun n i a hi => ?_) (fun n a => ?_) (ds_fu (by omega))
  · show gM_dueTo_L4_F _ _ _ _ _ = _
    unfold gM_dueTo_L4_F
    simp only [ds_bd, em_in, x_np hM, x_nd hM, x_d hM (k := 26) (by decide) hi, x_d hM (k := 27) (by decide) hi, x_d hM (k := 28) (by decide) hi, x_d hM (k := 29) (by decide) hi, x_d hM (k := 30) (by decide) hi, x_d hM (k := 31) (by decide) hi, x_d hM (k := 32) (by decide) hi, x_d hM (k := 33) (by decide) hi, x_d hM (k := 34) (by decide) hi, x_d hM (k := 35) (by decide) hi, x_d hM (k := 36) (by decide) hi, x_d hM (k := 37) (by decide) hi, x_d hM (k := 38) (by decide) hi, x_d hM (k := 39) (by decide) hi, x_d hM (k := 40) (by decide) hi, dt_26, dt_27, dt_28, dt_29, dt_30, dt_31, dt_32, dt_33, dt_34, dt_35, dt_36, dt_37, dt_38, dt_39, dt_40, pt_9, pt_10, pt_12, pt_14, pt_15, pt_16, pt_17, pt_18, pt_19, pt_20, pt_21, pt_22, sc_2, sc_3, sc_4, sc_5, sc_6, sc_7, sc_41, em_due hM hi, i3_succ]
    rw [if_neg ((not_congr (i3_le (by omega) (by omega))).mpr (by omega))]
    by_cases e2 : ds_d S 7 i = p
    · simp only [e2, if_true]
    · simp only [e2, if_false]
  · show gM_dueTo_L4_F _ _ _ _ _ = _
    unfold gM_dueTo_L4_F
    simp only [ds_bd, em_in, x_np hM, x_nd hM]
    rw [if_pos ((i3_le (by omega) (by omega)).mpr (Nat.le_refl _))]
theorem em_theTurn (hM : ds_lim nP nD) : gM_theTurn (dM M nP nD S) = some (sp_turn S nP) := by
  have hn := hM.1
  unfold gM_theTurn sp_turn
  refine ds_loop0 (L := fun n i a => gM_theTurn_L4 (dM M nP nD S) n a (Int32.ofNat i)) (N := nP) (fin := fun a => some a) (fun _ a => ds_nn nP a) (fun n i a hi hI => ⟨?_, ds_nn_F hi hI⟩) (fun n a _ => ?_) (ds_fu (by omega)) (Or.inl rfl)
  · show gM_theTurn_L4_F _ _ _ _ = _
    unfold gM_theTurn_L4_F sp_turnF gM_theTurn_b81
    simp only [ds_bd, em_in, x_np hM, x_nd hM, x_p hM (k := 9) (by decide) hi, x_p hM (k := 10) (by decide) hi, x_p hM (k := 12) (by decide) hi, x_p hM (k := 14) (by decide) hi, x_p hM (k := 15) (by decide) hi, x_p hM (k := 16) (by decide) hi, x_p hM (k := 17) (by decide) hi, x_p hM (k := 18) (by decide) hi, x_p hM (k := 19) (by decide) hi, x_p hM (k := 20) (by decide) hi, x_p hM (k := 21) (by decide) hi, x_p hM (k := 22) (by decide) hi, dt_26, dt_27, dt_28, dt_29, dt_30, dt_31, dt_32, dt_33, dt_34, dt_35, dt_36, dt_37, dt_38, dt_39, dt_40, pt_9, pt_10, pt_12, pt_14, pt_15, pt_16, pt_17, pt_18, pt_19, pt_20, pt_21, pt_22, sc_2, sc_3, sc_4, sc_5, sc_6, sc_7, sc_41, x_held hM hi, i3_succ, i3_10, if_false, if_true]
    rw [if_neg ((not_congr (i3_le (by omega) (by omega))).mpr (by omega))]
    by_cases c1 : ds_p S 3 i = -1
    · simp only [c1, if_true]
    · simp only [c1, if_false, i3_10]
      rcases hI with rfl | ⟨j, hj, rfl⟩
      · simp only [if_true]
      · simp only [i3_m1 (show j < 2147483648 by omega), if_false, x_p hM (k := 9) (by decide) hj, x_p hM (k := 10) (by decide) hj, x_p hM (k := 12) (by decide) hj, x_p hM (k := 14) (by decide) hj, x_p hM (k := 15) (by decide) hj, x_p hM (k := 16) (by decide) hj, x_p hM (k := 17) (by decide) hj, x_p hM (k := 18) (by decide) hj, x_p hM (k := 19) (by decide) hj, x_p hM (k := 20) (by decide) hj, x_p hM (k := 21) (by decide) hj, x_p hM (k := 22) (by decide) hj, dt_26, dt_27, dt_28, dt_29, dt_30, dt_31, dt_32, dt_33, dt_34, dt_35, dt_36, dt_37, dt_38, dt_39, dt_40, pt_9, pt_10, pt_12, pt_14, pt_15, pt_16, pt_17, pt_18, pt_19, pt_20, pt_21, pt_22, sc_2, sc_3, sc_4, sc_5, sc_6, sc_7, sc_41, ds_bd, i3_nat (show j < 2147483648 by omega)]
        repeat' split
        all_goals first | rfl | contradiction
  · show gM_theTurn_L4_F _ _ _ _ = _
    unfold gM_theTurn_L4_F
    simp only [ds_bd, em_in, x_np hM, x_nd hM]
    rw [if_pos ((i3_le (by omega) (by omega)).mpr (Nat.le_refl _))]
theorem em_turn (hM : ds_lim nP nD) : gM_turn (dM M nP nD S) = some (sp_turn S nP, dM (dm_set M 0 0 0) nP nD S) := by
  unfold gM_turn
  simp only [ds_bd, em_in, x_np hM, x_nd hM, em_code, em_theTurn hM]
theorem em_alms (hM : ds_lim nP nD) (x1 : Int32) : gM_alms (dM M nP nD S) x1 = some ((sp_alms nP S x1).1, dM (dm_set M 0 0 0) nP nD (sp_alms nP S x1).2) := by
  have hn := hM.1
  unfold gM_alms sp_alms
  simp only [ds_bd, em_in, x_np hM, x_nd hM, em_code, em_theTurn hM]
  rcases ds_nn_turn (S := S) (nP := nP) with h | ⟨j, hj, h⟩
  · simp only [h, if_true]
  · simp only [h, i3_m1 (show j < 2147483648 by omega), if_false, i3_nat (show j < 2147483648 by omega)]
    rcases ds_in_01 x1 1 10000 with h2 | h2
    · simp only [h2, if_true]
    · simp only [h2, i3_10, if_false, ds_bd, em_in, x_np hM, x_nd hM, x_p hM (k := 9) (by decide) hj, x_p hM (k := 10) (by decide) hj, x_p hM (k := 12) (by decide) hj, x_p hM (k := 14) (by decide) hj, x_p hM (k := 15) (by decide) hj, x_p hM (k := 16) (by decide) hj, x_p hM (k := 17) (by decide) hj, x_p hM (k := 18) (by decide) hj, x_p hM (k := 19) (by decide) hj, x_p hM (k := 20) (by decide) hj, x_p hM (k := 21) (by decide) hj, x_p hM (k := 22) (by decide) hj, dt_26, dt_27, dt_28, dt_29, dt_30, dt_31, dt_32, dt_33, dt_34, dt_35, dt_36, dt_37, dt_38, dt_39, dt_40, pt_9, pt_10, pt_12, pt_14, pt_15, pt_16, pt_17, pt_18, pt_19, pt_20, pt_21, pt_22, sc_2, sc_3, sc_4, sc_5, sc_6, sc_7, sc_41, y_p hM (k := 9) (by decide) (by decide) hj, y_p hM (k := 10) (by decide) (by decide) hj, y_p hM (k := 14) (by decide) (by decide) hj, y_p hM (k := 15) (by decide) (by decide) hj, y_p hM (k := 16) (by decide) (by decide) hj, y_p hM (k := 17) (by decide) (by decide) hj, y_p hM (k := 18) (by decide) (by decide) hj, y_p hM (k := 19) (by decide) (by decide) hj, y_p hM (k := 20) (by decide) (by decide) hj, y_p hM (k := 21) (by decide) (by decide) hj, y_p hM (k := 22) (by decide) (by decide) hj, dt_26, dt_27, dt_28, dt_29, dt_30, dt_31, dt_32, dt_33, dt_34, dt_35, dt_36, dt_37, dt_38, dt_39, dt_40, pt_9, pt_10, pt_12, pt_14, pt_15, pt_16, pt_17, pt_18, pt_19, pt_20, pt_21, pt_22, sc_2, sc_3, sc_4, sc_5, sc_6, sc_7, sc_41]
theorem vp_b0 : vp_nar .boolean 0 = 0 := by decide
theorem vp_b1 : vp_nar .boolean 1 = 1 := by decide
theorem em_goes (hM : ds_lim nP nD) {i : Nat} (hi : i < nP) : gM_goes (dM M nP nD S) (Int32.ofNat i) = some (dM M nP nD (sp_goes S i)) := by
  have hn := hM.1
  unfold gM_goes sp_goes
  have k := y_34 (M := M) (nD := nD) (S := S) (u := -1) (w := 0) hi
  simp only [if_true] at k
  simp only [vp_b0]
  rw [x_wr (k := 11) (show i < dm_len 11 by show i < 48; omega) (by decide)]
  simp only [ds_bd]
  rw [x_wr (k := 12) (show i < dm_len 12 by show i < 48; omega) (by decide)]
  simp only [ds_bd]
  rw [x_wr (k := 13) (show i < dm_len 13 by show i < 48; omega) (by decide)]
  simp only [ds_bd]
  rw [k]
  simp only [y_p hM (k := 9) (by decide) (by decide) hi, y_p hM (k := 10) (by decide) (by decide) hi, y_p hM (k := 14) (by decide) (by decide) hi, y_p hM (k := 15) (by decide) (by decide) hi, y_p hM (k := 16) (by decide) (by decide) hi, y_p hM (k := 17) (by decide) (by decide) hi, y_p hM (k := 18) (by decide) (by decide) hi, y_p hM (k := 19) (by decide) (by decide) hi, y_p hM (k := 20) (by decide) (by decide) hi, y_p hM (k := 21) (by decide) (by decide) hi, y_p hM (k := 22) (by decide) (by decide) hi, dt_26, dt_27, dt_28, dt_29, dt_30, dt_31, dt_32, dt_33, dt_34, dt_35, dt_36, dt_37, dt_38, dt_39, dt_40, pt_9, pt_10, pt_12, pt_14, pt_15, pt_16, pt_17, pt_18, pt_19, pt_20, pt_21, pt_22, sc_2, sc_3, sc_4, sc_5, sc_6, sc_7, sc_41, ds_bd]
  have e : ∀ (T : ds_S) (a b c : Int32), ds_upp (ds_upp (ds_upp T 5 i a) 13 i b) 9 i c = ds_upp (ds_upp (ds_upp T 5 i a) 9 i c) 13 i b := by
    intro T a b c
    have : dg_up (dg_up (ds_p (ds_upp T 5 i a)) 13 i b) 9 i c = dg_up (dg_up (ds_p (ds_upp T 5 i a)) 9 i c) 13 i b := by
      funext x y
      unfold dg_up
      by_cases h1 : x = 9 ∧ y = i
      · rw [if_pos h1, if_neg (by omega), if_pos h1]
      · rw [if_neg h1, if_neg h1]
    show (_, dg_up (dg_up (ds_p (ds_upp T 5 i a)) 13 i b) 9 i c, _) = _
    rw [this]
    rfl
  rw [e]
theorem em_tire (hM : ds_lim nP nD) (x1 x2 : Int32) : gM_tire (dM M nP nD S) x1 x2 = some ((sp_tire nP S x1 x2).1, dM (dm_set M 0 0 0) nP nD (sp_tire nP S x1 x2).2) := by
  have hn := hM.1
  unfold gM_tire sp_tire
  simp only [ds_bd, em_in, x_np hM, x_nd hM, em_code, em_areTwo hM]
  rcases ds_two_c x1 x2 (nP := nP) (by omega) with h | ⟨h, i, j, hi, hj, rfl, rfl, hij⟩
  · simp only [h, if_true]
  · simp only [h, i3_10, if_false, i3_nat (show j < 2147483648 by omega), ds_bd, em_in, x_np hM, x_nd hM, x_p hM (k := 9) (by decide) hj, x_p hM (k := 10) (by decide) hj, x_p hM (k := 12) (by decide) hj, x_p hM (k := 14) (by decide) hj, x_p hM (k := 15) (by decide) hj, x_p hM (k := 16) (by decide) hj, x_p hM (k := 17) (by decide) hj, x_p hM (k := 18) (by decide) hj, x_p hM (k := 19) (by decide) hj, x_p hM (k := 20) (by decide) hj, x_p hM (k := 21) (by decide) hj, x_p hM (k := 22) (by decide) hj, dt_26, dt_27, dt_28, dt_29, dt_30, dt_31, dt_32, dt_33, dt_34, dt_35, dt_36, dt_37, dt_38, dt_39, dt_40, pt_9, pt_10, pt_12, pt_14, pt_15, pt_16, pt_17, pt_18, pt_19, pt_20, pt_21, pt_22, sc_2, sc_3, sc_4, sc_5, sc_6, sc_7, sc_41, y_p hM (k := 9) (by decide) (by decide) hj, y_p hM (k := 10) (by decide) (by decide) hj, y_p hM (k := 14) (by decide) (by decide) hj, y_p hM (k := 15) (by decide) (by decide) hj, y_p hM (k := 16) (by decide) (by decide) hj, y_p hM (k := 17) (by decide) (by decide) hj, y_p hM (k := 18) (by decide) (by decide) hj, y_p hM (k := 19) (by decide) (by decide) hj, y_p hM (k := 20) (by decide) (by decide) hj, y_p hM (k := 21) (by decide) (by decide) hj, y_p hM (k := 22) (by decide) (by decide) hj, dt_26, dt_27, dt_28, dt_29, dt_30, dt_31, dt_32, dt_33, dt_34, dt_35, dt_36, dt_37, dt_38, dt_39, dt_40, pt_9, pt_10, pt_12, pt_14, pt_15, pt_16, pt_17, pt_18, pt_19, pt_20, pt_21, pt_22, sc_2, sc_3, sc_4, sc_5, sc_6, sc_7, sc_41]
    split <;> rfl
theorem em_leave (hM : ds_lim nP nD) (x1 : Int32) : gM_leave (dM M nP nD S) x1 = some ((sp_leave nP S x1).1, dM (dm_set M 0 0 0) nP nD (sp_leave nP S x1).2) := by
  have hn := hM.1
  unfold gM_leave sp_leave
  simp only [ds_bd, em_in, x_np hM, x_nd hM, em_code, em_isPerson hM]
  rcases ds_in_c x1 (n := nP) (by omega) with h | ⟨h, i, hi, rfl⟩
  · simp only [h, if_true]
  · simp only [h, i3_10, if_false, i3_nat (show i < 2147483648 by omega), x_held hM hi, ds_bd]
    by_cases e : ds_p S 3 i = -1
    · simp only [e, if_true]
    · simp only [e, if_false, i3_10, ds_bd, em_in, x_np hM, x_nd hM, x_p hM (k := 9) (by decide) hi, x_p hM (k := 10) (by decide) hi, x_p hM (k := 12) (by decide) hi, x_p hM (k := 14) (by decide) hi, x_p hM (k := 15) (by decide) hi, x_p hM (k := 16) (by decide) hi, x_p hM (k := 17) (by decide) hi, x_p hM (k := 18) (by decide) hi, x_p hM (k := 19) (by decide) hi, x_p hM (k := 20) (by decide) hi, x_p hM (k := 21) (by decide) hi, x_p hM (k := 22) (by decide) hi, dt_26, dt_27, dt_28, dt_29, dt_30, dt_31, dt_32, dt_33, dt_34, dt_35, dt_36, dt_37, dt_38, dt_39, dt_40, pt_9, pt_10, pt_12, pt_14, pt_15, pt_16, pt_17, pt_18, pt_19, pt_20, pt_21, pt_22, sc_2, sc_3, sc_4, sc_5, sc_6, sc_7, sc_41]
      by_cases c1 : ds_p S 9 i = 0
      · by_cases c2 : ds_p S 13 i = 0
        · by_cases c3 : ds_p S 5 i ≤ ds_p S 2 i
          · simp only [c1, c2, c3, if_true, not_true_eq_false, if_false, y_p hM (k := 9) (by decide) (by decide) hi, y_p hM (k := 10) (by decide) (by decide) hi, y_p hM (k := 14) (by decide) (by decide) hi, y_p hM (k := 15) (by decide) (by decide) hi, y_p hM (k := 16) (by decide) (by decide) hi, y_p hM (k := 17) (by decide) (by decide) hi, y_p hM (k := 18) (by decide) (by decide) hi, y_p hM (k := 19) (by decide) (by decide) hi, y_p hM (k := 20) (by decide) (by decide) hi, y_p hM (k := 21) (by decide) (by decide) hi, y_p hM (k := 22) (by decide) (by decide) hi, dt_26, dt_27, dt_28, dt_29, dt_30, dt_31, dt_32, dt_33, dt_34, dt_35, dt_36, dt_37, dt_38, dt_39, dt_40, pt_9, pt_10, pt_12, pt_14, pt_15, pt_16, pt_17, pt_18, pt_19, pt_20, pt_21, pt_22, sc_2, sc_3, sc_4, sc_5, sc_6, sc_7, sc_41, ds_bd, em_in, x_np hM, x_nd hM, x_s hM (k := 2) (by decide), x_s hM (k := 3) (by decide), x_s hM (k := 4) (by decide), x_s hM (k := 5) (by decide), x_s hM (k := 6) (by decide), x_s hM (k := 7) (by decide), x_s hM (k := 41) (by decide), dt_26, dt_27, dt_28, dt_29, dt_30, dt_31, dt_32, dt_33, dt_34, dt_35, dt_36, dt_37, dt_38, dt_39, dt_40, pt_9, pt_10, pt_12, pt_14, pt_15, pt_16, pt_17, pt_18, pt_19, pt_20, pt_21, pt_22, sc_2, sc_3, sc_4, sc_5, sc_6, sc_7, sc_41, x_p hM (k := 9) (by decide) hi, x_p hM (k := 10) (by decide) hi, x_p hM (k := 12) (by decide) hi, x_p hM (k := 14) (by decide) hi, x_p hM (k := 15) (by decide) hi, x_p hM (k := 16) (by decide) hi, x_p hM (k := 17) (by decide) hi, x_p hM (k := 18) (by decide) hi, x_p hM (k := 19) (by decide) hi, x_p hM (k := 20) (by decide) hi, x_p hM (k := 21) (by decide) hi, x_p hM (k := 22) (by decide) hi, dt_26, dt_27, dt_28, dt_29, dt_30, dt_31, dt_32, dt_33, dt_34, dt_35, dt_36, dt_37, dt_38, dt_39, dt_40, pt_9, pt_10, pt_12, pt_14, pt_15, pt_16, pt_17, pt_18, pt_19, pt_20, pt_21, pt_22, sc_2, sc_3, sc_4, sc_5, sc_6, sc_7, sc_41, y_s hM (k := 2) (by decide) (by decide), y_s hM (k := 3) (by decide) (by decide), y_s hM (k := 4) (by decide) (by decide), y_s hM (k := 5) (by decide) (by decide), y_s hM (k := 6) (by decide) (by decide), y_s hM (k := 7) (by decide) (by decide), dt_26, dt_27, dt_28, dt_29, dt_30, dt_31, dt_32, dt_33, dt_34, dt_35, dt_36, dt_37, dt_38, dt_39, dt_40, pt_9, pt_10, pt_12, pt_14, pt_15, pt_16, pt_17, pt_18, pt_19, pt_20, pt_21, pt_22, sc_2, sc_3, sc_4, sc_5, sc_6, sc_7, sc_41, em_goes hM hi, sx_s_us, sx_p_us, sx_d_us, sx_l_us, sx_t_us, sx_r_us, sx_a_us, sx_b_us, sx_s_upp, sx_p_upp, sx_d_upp, sx_l_upp, sx_t_upp, sx_r_upp, sx_a_upp, sx_b_upp, sx_s_ud, sx_p_ud, sx_d_ud, sx_l_ud, sx_t_ud, sx_r_ud, sx_a_ud, sx_b_ud, sx_s_ul, sx_p_ul, sx_d_ul, sx_l_ul, sx_t_ul, sx_r_ul, sx_a_ul, sx_b_ul, sx_s_ut, sx_p_ut, sx_d_ut, sx_l_ut, sx_t_ut, sx_r_ut, sx_a_ut, sx_b_ut, sx_s_ur, sx_p_ur, sx_d_ur, sx_l_ur, sx_t_ur, sx_r_ur, sx_a_ur, sx_b_ur, sx_s_ua, sx_p_ua, sx_d_ua, sx_l_ua, sx_t_ua, sx_r_ua, sx_a_ua, sx_b_ua, sx_s_ub, sx_p_ub, sx_d_ub, sx_l_ub, sx_t_ub, sx_r_ub, sx_a_ub, sx_b_ub, sx_s_fa, sx_p_fa, sx_d_fa, sx_l_fa, sx_t_fa, sx_r_fa, sx_a_fa, sx_b_fa, sx_s_fb, sx_p_fb, sx_d_fb, sx_l_fb, sx_t_fb, sx_r_fb, sx_a_fb, sx_b_fb, reduceIte, false_and, true_and, and_true, and_false, and_self, if_true, if_false, Nat.reduceEqDiff]
          · simp only [c1, c2, c3, if_true, not_true_eq_false, not_false_eq_true, if_false]
        · simp only [c1, c2, if_true, not_true_eq_false, not_false_eq_true, if_false]
      · simp only [c1, if_true, not_true_eq_false, not_false_eq_true, if_false]
theorem em_room (hM : ds_lim nP nD) (x1 x2 : Int32) : gM_room (dM M nP nD S) x1 x2 = some ((sp_room nP S x1 x2).1, dM (dm_set M 0 0 0) nP nD (sp_room nP S x1 x2).2) := by
  have hn := hM.1
  unfold gM_room sp_room
  simp only [ds_bd, em_in, x_np hM, x_nd hM, em_code, em_isPerson hM]
  rcases ds_in_c x1 (n := nP) (by omega) with h | ⟨h, i, hi, rfl⟩
  · simp only [h, if_true]
  · simp only [h, i3_10, if_false, i3_nat (show i < 2147483648 by omega), x_held hM hi, ds_bd]
    by_cases e : ds_p S 3 i = -1
    · simp only [e, if_true]
    · simp only [e, if_false, i3_10]
      rcases ds_in_01 x2 0 3 with h2 | h2
      · simp only [h2, if_true]
      · simp only [h2, i3_10, if_false]
        rw [x_wr (k := 13) (show i < dm_len 13 by show i < 48; omega) (by decide), y_room hi e]
        rfl
theorem em_tell (hM : ds_lim nP nD) (x1 x2 : Int32) : gM_tell (dM M nP nD S) x1 x2 = some (sp_tell nP nD S x1 x2, dM (dm_set M 0 0 0) nP nD S) := by
  have hn := hM.1
  unfold gM_tell sp_tell
  simp only [ds_bd, em_in, x_np hM, x_nd hM, em_code, em_isPerson hM]
  rcases ds_in_c x1 (n := nP) (by omega) with h | ⟨h, i, hi, rfl⟩
  · simp only [h, if_true]
  · simp only [h, i3_10, if_false, i3_nat (show i < 2147483648 by omega), ds_bd, em_in, x_np hM, x_nd hM, x_p hM (k := 9) (by decide) hi, x_p hM (k := 10) (by decide) hi, x_p hM (k := 12) (by decide) hi, x_p hM (k := 14) (by decide) hi, x_p hM (k := 15) (by decide) hi, x_p hM (k := 16) (by decide) hi, x_p hM (k := 17) (by decide) hi, x_p hM (k := 18) (by decide) hi, x_p hM (k := 19) (by decide) hi, x_p hM (k := 20) (by decide) hi, x_p hM (k := 21) (by decide) hi, x_p hM (k := 22) (by decide) hi, dt_26, dt_27, dt_28, dt_29, dt_30, dt_31, dt_32, dt_33, dt_34, dt_35, dt_36, dt_37, dt_38, dt_39, dt_40, pt_9, pt_10, pt_12, pt_14, pt_15, pt_16, pt_17, pt_18, pt_19, pt_20, pt_21, pt_22, sc_2, sc_3, sc_4, sc_5, sc_6, sc_7, sc_41, x_held hM hi, x_room hM hi, em_dueFrom hM, em_dueTo hM]
    by_cases e : ds_p S 3 i = -1
    · simp only [e, if_true, ds_sif2]
    · simp only [e, if_false, i3_10, ds_sif2]
theorem em_least (hM : ds_lim nP nD) (x1 x2 x3 : Int32) : gM_least (dM M nP nD S) x1 x2 x3 = some ((sp_least nP S x1 x2 x3).1, dM (dm_set M 0 0 0) nP nD (sp_least nP S x1 x2 x3).2) := by
  have hn := hM.1
  unfold gM_least sp_least
  simp only [ds_bd, em_in, x_np hM, x_nd hM, em_code, em_areTwo hM]
  rcases ds_two_c x1 x2 (nP := nP) (by omega) with h | ⟨h, i, j, hi, hj, rfl, rfl, hij⟩
  · simp only [h, if_true]
  · simp only [h, i3_10, if_false, i3_nat (show j < 2147483648 by omega), i3_nat (show i < 2147483648 by omega)]
    rcases ds_in_01 x3 0 1000 with h2 | h2
    · simp only [h2, if_true]
    · simp only [h2, i3_10, if_false, ds_bd, em_in, x_np hM, x_nd hM, y_l hM hi hj]
theorem em_end (hM : ds_lim nP nD) (x1 : Int32) : gM_end (dM M nP nD S) x1 = some ((sp_end S x1).1, dM (dm_set M 0 0 0) nP nD (sp_end S x1).2) := by
  unfold gM_end sp_end
  simp only [ds_bd, em_in, x_np hM, x_nd hM, em_code, x_s hM (k := 2) (by decide), x_s hM (k := 3) (by decide), x_s hM (k := 4) (by decide), x_s hM (k := 5) (by decide), x_s hM (k := 6) (by decide), x_s hM (k := 7) (by decide), x_s hM (k := 41) (by decide), dt_26, dt_27, dt_28, dt_29, dt_30, dt_31, dt_32, dt_33, dt_34, dt_35, dt_36, dt_37, dt_38, dt_39, dt_40, pt_9, pt_10, pt_12, pt_14, pt_15, pt_16, pt_17, pt_18, pt_19, pt_20, pt_21, pt_22, sc_2, sc_3, sc_4, sc_5, sc_6, sc_7, sc_41, y_s hM (k := 2) (by decide) (by decide), y_s hM (k := 3) (by decide) (by decide), y_s hM (k := 4) (by decide) (by decide), y_s hM (k := 5) (by decide) (by decide), y_s hM (k := 6) (by decide) (by decide), y_s hM (k := 7) (by decide) (by decide), dt_26, dt_27, dt_28, dt_29, dt_30, dt_31, dt_32, dt_33, dt_34, dt_35, dt_36, dt_37, dt_38, dt_39, dt_40, pt_9, pt_10, pt_12, pt_14, pt_15, pt_16, pt_17, pt_18, pt_19, pt_20, pt_21, pt_22, sc_2, sc_3, sc_4, sc_5, sc_6, sc_7, sc_41]
  rcases ds_in_01 x1 0 (ds_s S 1) with h2 | h2
  · simp only [h2, if_true]
  · simp only [h2, i3_10, if_false]
theorem em_fault (hM : ds_lim nP nD) (x1 : Int32) : gM_fault (dM M nP nD S) x1 = some (sp_fault S x1, dM (dm_set M 0 0 0) nP nD S) := by
  unfold gM_fault sp_fault
  simp only [ds_bd, em_in, x_np hM, x_nd hM, em_code, x_s hM (k := 2) (by decide), x_s hM (k := 3) (by decide), x_s hM (k := 4) (by decide), x_s hM (k := 5) (by decide), x_s hM (k := 6) (by decide), x_s hM (k := 7) (by decide), x_s hM (k := 41) (by decide), dt_26, dt_27, dt_28, dt_29, dt_30, dt_31, dt_32, dt_33, dt_34, dt_35, dt_36, dt_37, dt_38, dt_39, dt_40, pt_9, pt_10, pt_12, pt_14, pt_15, pt_16, pt_17, pt_18, pt_19, pt_20, pt_21, pt_22, sc_2, sc_3, sc_4, sc_5, sc_6, sc_7, sc_41, ds_sif2]
end
