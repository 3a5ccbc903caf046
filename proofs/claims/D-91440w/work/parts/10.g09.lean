set_option maxRecDepth 100000
/-! DebtorsHouse.pay(II)I -/
abbrev tG_X0_pay : dg_T := (cX0_pay, 4, RX0, (some .int), 6, 129, "pay", [])
def gG_X0_pay (G : dg_G) (x0 : Nat) (x1 : Int32) (x2 : Int32) : Option (Int32 × dg_G) :=
  (dg_is G 1 x0).bind fun u1 =>
  (gG_X0_isLive G x0 x1).bind fun p2 =>
  if p2 = 0 then (
    some ((-1), G))
  else
  (dg_is G 1 x0).bind fun u4 =>
  (gG_X0_due G x0 x1).bind fun p5 =>
  (gG_X0_isIn G x2 1 p5).bind fun p6 =>
  if p6 = 0 then (
    some ((-1), G))
  else
  (dg_is G 1 x0).bind fun u8 =>
  (gG_X0_debtAt G x0 x1).bind fun p9 =>
  (dg_gI G 4 1 p9).bind fun v10 =>
  (dg_is G 1 x0).bind fun u11 =>
  (gG_X0_at G x0 v10).bind fun p12 =>
  (dg_gI G 3 2 p12).bind fun v13 =>
  if ¬ (x2 ≤ v13) then (
    some ((-1), G))
  else
  (dg_is G 1 x0).bind fun u15 =>
  (gG_X0_debtAt G x0 x1).bind fun p16 =>
  (dg_gI G 4 1 p16).bind fun v17 =>
  (dg_is G 1 x0).bind fun u18 =>
  (gG_X0_at G x0 v17).bind fun p19 =>
  (dg_gI G 3 2 p19).bind fun v20 =>
  (dg_pI G 3 2 p19 (v20 - x2)).bind fun G21 =>
  (dg_gI G21 4 7 p16).bind fun v22 =>
  (dg_is G21 1 x0).bind fun u23 =>
  (gG_X0_at G21 x0 v22).bind fun p24 =>
  (dg_gI G21 3 2 p24).bind fun v25 =>
  (dg_pI G21 3 2 p24 (v25 + x2)).bind fun G26 =>
  (dg_gR G26 1 0 x0).bind fun v27 =>
  (dg_gI G26 2 4 v27).bind fun v28 =>
  (dg_is G26 4 p16).bind fun u29 =>
  (gG_X4_less G26 p16 x2 v28).bind fun p30 =>
  (dg_is p30 1 x0).bind fun u31 =>
  (gG_X0_looks p30 x0).bind fun p32 =>
  (dg_is p32 1 x0).bind fun u33 =>
  (gG_X0_due p32 x0 x1).bind fun p34 =>
  some (p34, p32)
theorem wG_X0_pay {l : Launch} {E : dj_E} {Mo : Option dm_M} {r : Int32} {G' : dg_G} (G : dg_G) (x0 : Nat) (x1 : Int32) (x2 : Int32) (hf : gG_X0_pay G x0 x1 x2 = some (r, G')) : dgW tG_X0_pay l E Mo G' (.inr (some (.int r))) G 0 [(0, dj_v E x0), (1, .int x1), (2, .int x2)] [] := by
  unfold gG_X0_pay at hf
  refine g_aload_n dX0_pay_0 rfl (j := 0) rfl ?_
  refine dg_l (fun _ _ _ _ _ _ _ hC => r_iload_n hC dX0_pay_1 rfl (j := 1) rfl) ?_
  obtain ⟨u1, h1, hf⟩ := dh_bd hf
  obtain ⟨p2, h2, hf⟩ := dh_bd hf
  refine g_callV (rc_O (ci := 1) rfl h1) (cG_X0_isLive _ E Mo G x0 x1 h2) q481 qG_X0_isLive (Nat.le_of_ble_eq_true rfl) (Nat.le_of_ble_eq_true rfl) rfl (dj_cat8 (Nat.le_of_ble_eq_true rfl)) dX0_pay_2 ?_
  refine dg_b (fun _ _ _ _ _ _ _ hC => r_if_eq hC dX0_pay_5 (tgt := 40) (by decide)) (fun c3 => ?_) (fun c3 => ?_)
  · have hf := dh_if hf c3
    refine dg_l (fun _ _ _ _ _ _ _ hC => r_iconst hC dX0_pay_40 ki_m1) ?_
    exact g_iret dX0_pay_41 rfl hf
  · have hf := dh_el hf c3
    refine dg_l (fun _ _ _ _ _ _ _ hC => r_iload_n hC dX0_pay_8 rfl (j := 2) rfl) ?_
    refine dg_l (fun _ _ _ _ _ _ _ hC => r_iconst hC dX0_pay_9 ki_1) ?_
    refine g_aload_n dX0_pay_10 rfl (j := 0) rfl ?_
    refine dg_l (fun _ _ _ _ _ _ _ hC => r_iload_n hC dX0_pay_11 rfl (j := 1) rfl) ?_
    obtain ⟨u4, h4, hf⟩ := dh_bd hf
    obtain ⟨p5, h5, hf⟩ := dh_bd hf
    refine g_callV (rc_O (ci := 1) rfl h4) (cG_X0_due _ E Mo G x0 x1 h5) q507 qG_X0_due (Nat.le_of_ble_eq_true rfl) (Nat.le_of_ble_eq_true rfl) rfl (dj_cat8 (Nat.le_of_ble_eq_true rfl)) dX0_pay_12 ?_
    obtain ⟨p6, h6, hf⟩ := dh_bd hf
    refine g_callS (cG_X0_isIn _ E Mo G x2 1 p5 h6) q261 qG_X0_isIn (Nat.le_of_ble_eq_true rfl) (Nat.le_of_ble_eq_true rfl) rfl (dj_cat8 (Nat.le_of_ble_eq_true rfl)) dX0_pay_15 ?_
    refine dg_b (fun _ _ _ _ _ _ _ hC => r_if_eq hC dX0_pay_18 (tgt := 40) (by decide)) (fun c7 => ?_) (fun c7 => ?_)
    · have hf := dh_if hf c7
      refine dg_l (fun _ _ _ _ _ _ _ hC => r_iconst hC dX0_pay_40 ki_m1) ?_
      exact g_iret dX0_pay_41 rfl hf
    · have hf := dh_el hf c7
      refine g_aload_n dX0_pay_21 rfl (j := 0) rfl ?_
      refine g_aload_n dX0_pay_22 rfl (j := 0) rfl ?_
      refine dg_l (fun _ _ _ _ _ _ _ hC => r_iload_n hC dX0_pay_23 rfl (j := 1) rfl) ?_
      obtain ⟨u8, h8, hf⟩ := dh_bd hf
      obtain ⟨p9, h9, hf⟩ := dh_bd hf
      refine g_callV (rc_O (ci := 1) rfl h8) (cG_X0_debtAt _ E Mo G x0 x1 h9) q485 qG_X0_debtAt (Nat.le_of_ble_eq_true rfl) (Nat.le_of_ble_eq_true rfl) rfl (dj_cat8 (Nat.le_of_ble_eq_true rfl)) dX0_pay_24 ?_
      obtain ⟨v10, h10, hf⟩ := dh_bd hf
      refine g_getI fR_X0_128 (by decide) h10 dX0_pay_27 ?_
      obtain ⟨u11, h11, hf⟩ := dh_bd hf
      obtain ⟨p12, h12, hf⟩ := dh_bd hf
      refine g_callV (rc_O (ci := 1) rfl h11) (cG_X0_at _ E Mo G x0 v10 h12) q525 qG_X0_at (Nat.le_of_ble_eq_true rfl) (Nat.le_of_ble_eq_true rfl) rfl (dj_cat8 (Nat.le_of_ble_eq_true rfl)) dX0_pay_30 ?_
      obtain ⟨v13, h13, hf⟩ := dh_bd hf
      refine g_getI fR_X0_134 (by decide) h13 dX0_pay_33 ?_
      refine dg_l (fun _ _ _ _ _ _ _ hC => r_iload_n hC dX0_pay_36 rfl (j := 2) rfl) ?_
      refine dg_b (fun _ _ _ _ _ _ _ hC => r_icmp_ge hC dX0_pay_37 (tgt := 42) (by decide)) (fun c14 => ?_) (fun c14 => ?_)
      · have hf := dh_el hf (fun q => q c14)
        refine g_aload_n dX0_pay_42 rfl (j := 0) rfl ?_
        refine dg_l (fun _ _ _ _ _ _ _ hC => r_iload_n hC dX0_pay_43 rfl (j := 1) rfl) ?_
        obtain ⟨u15, h15, hf⟩ := dh_bd hf
        obtain ⟨p16, h16, hf⟩ := dh_bd hf
        refine g_callV (rc_O (ci := 1) rfl h15) (cG_X0_debtAt _ E Mo G x0 x1 h16) q485 qG_X0_debtAt (Nat.le_of_ble_eq_true rfl) (Nat.le_of_ble_eq_true rfl) rfl (dj_cat8 (Nat.le_of_ble_eq_true rfl)) dX0_pay_44 ?_
        refine g_astore_n (i := 3) (lv1 := [(3, dj_v E p16), (0, dj_v E x0), (1, .int x1), (2, .int x2)]) dX0_pay_47 rfl (Nat.le_of_ble_eq_true rfl) rfl ?_
        refine g_aload_n dX0_pay_48 rfl (j := 1) rfl ?_
        refine g_aload_n dX0_pay_49 rfl (j := 0) rfl ?_
        obtain ⟨v17, h17, hf⟩ := dh_bd hf
        refine g_getI fR_X0_128 (by decide) h17 dX0_pay_50 ?_
        obtain ⟨u18, h18, hf⟩ := dh_bd hf
        obtain ⟨p19, h19, hf⟩ := dh_bd hf
        refine g_callV (rc_O (ci := 1) rfl h18) (cG_X0_at _ E Mo G x0 v17 h19) q525 qG_X0_at (Nat.le_of_ble_eq_true rfl) (Nat.le_of_ble_eq_true rfl) rfl (dj_cat8 (Nat.le_of_ble_eq_true rfl)) dX0_pay_53 ?_
        refine g_dup dX0_pay_56 ?_
        obtain ⟨v20, h20, hf⟩ := dh_bd hf
        refine g_getI fR_X0_134 (by decide) h20 dX0_pay_57 ?_
        refine dg_l (fun _ _ _ _ _ _ _ hC => r_iload_n hC dX0_pay_60 rfl (j := 3) rfl) ?_
        refine dg_l (fun _ _ _ _ _ _ _ hC => r_isub hC dX0_pay_61) ?_
        obtain ⟨G21, h21, hf⟩ := dh_bd hf
        refine g_putI fF_X0_134 (fun q => by cases q) (by decide) h21 dX0_pay_62 ?_
        refine g_aload_n dX0_pay_65 rfl (j := 1) rfl ?_
        refine g_aload_n dX0_pay_66 rfl (j := 0) rfl ?_
        obtain ⟨v22, h22, hf⟩ := dh_bd hf
        refine g_getI fR_X0_131 (by decide) h22 dX0_pay_67 ?_
        obtain ⟨u23, h23, hf⟩ := dh_bd hf
        obtain ⟨p24, h24, hf⟩ := dh_bd hf
        refine g_callV (rc_O (ci := 1) rfl h23) (cG_X0_at _ E Mo G21 x0 v22 h24) q525 qG_X0_at (Nat.le_of_ble_eq_true rfl) (Nat.le_of_ble_eq_true rfl) rfl (dj_cat8 (Nat.le_of_ble_eq_true rfl)) dX0_pay_70 ?_
        refine g_dup dX0_pay_73 ?_
        obtain ⟨v25, h25, hf⟩ := dh_bd hf
        refine g_getI fR_X0_134 (by decide) h25 dX0_pay_74 ?_
        refine dg_l (fun _ _ _ _ _ _ _ hC => r_iload_n hC dX0_pay_77 rfl (j := 3) rfl) ?_
        refine dg_l (fun _ _ _ _ _ _ _ hC => r_iadd hC dX0_pay_78) ?_
        obtain ⟨G26, h26, hf⟩ := dh_bd hf
        refine g_putI fF_X0_134 (fun q => by cases q) (by decide) h26 dX0_pay_79 ?_
        refine g_aload_n dX0_pay_82 rfl (j := 0) rfl ?_
        refine dg_l (fun _ _ _ _ _ _ _ hC => r_iload_n hC dX0_pay_83 rfl (j := 3) rfl) ?_
        refine g_aload_n dX0_pay_84 rfl (j := 1) rfl ?_
        obtain ⟨v27, h27, hf⟩ := dh_bd hf
        refine g_getR fR_X0_10 (by decide) h27 dX0_pay_85 ?_
        obtain ⟨v28, h28, hf⟩ := dh_bd hf
        refine g_getI fR_X0_88 (by decide) h28 dX0_pay_88 ?_
        obtain ⟨u29, h29, hf⟩ := dh_bd hf
        obtain ⟨p30, h30, hf⟩ := dh_bd hf
        refine g_callV (rc_O (ci := 4) rfl h29) (cG_X4_less _ E Mo G26 p16 x2 v28 h30) q529 qG_X4_less (Nat.le_of_ble_eq_true rfl) (Nat.le_of_ble_eq_true rfl) rfl (dj_cat8 (Nat.le_of_ble_eq_true rfl)) dX0_pay_91 ?_
        refine g_aload_n dX0_pay_94 rfl (j := 1) rfl ?_
        obtain ⟨u31, h31, hf⟩ := dh_bd hf
        obtain ⟨p32, h32, hf⟩ := dh_bd hf
        refine g_callV (rc_O (ci := 1) rfl h31) (cG_X0_looks _ E Mo p30 x0 h32) q540 qG_X0_looks (Nat.le_of_ble_eq_true rfl) (Nat.le_of_ble_eq_true rfl) rfl (dj_cat8 (Nat.le_of_ble_eq_true rfl)) dX0_pay_95 ?_
        refine g_aload_n dX0_pay_98 rfl (j := 1) rfl ?_
        refine dg_l (fun _ _ _ _ _ _ _ hC => r_iload_n hC dX0_pay_99 rfl (j := 2) rfl) ?_
        obtain ⟨u33, h33, hf⟩ := dh_bd hf
        obtain ⟨p34, h34, hf⟩ := dh_bd hf
        refine g_callV (rc_O (ci := 1) rfl h33) (cG_X0_due _ E Mo p32 x0 x1 h34) q507 qG_X0_due (Nat.le_of_ble_eq_true rfl) (Nat.le_of_ble_eq_true rfl) rfl (dj_cat8 (Nat.le_of_ble_eq_true rfl)) dX0_pay_100 ?_
        exact g_iret dX0_pay_103 rfl hf
      · have hf := dh_if hf c14
        refine dg_l (fun _ _ _ _ _ _ _ hC => r_iconst hC dX0_pay_40 ki_m1) ?_
        exact g_iret dX0_pay_41 rfl hf
theorem cG_X0_pay (l : Launch) (E : dj_E) (Mo : Option dm_M) (G : dg_G) (x0 : Nat) (x1 : Int32) (x2 : Int32) {p : Int32 × dg_G} (h : gG_X0_pay G x0 x1 x2 = some p) : dg_Met l yX0_pay cX0_pay 4 (some .int) 6 129 E Mo [dj_v E x0, .int x1, .int x2] G (some (.int p.1)) p.2 :=
  dg_met (plainFor_of_name (by decide)) (by simp only [lg_sl_ref, lg_sl_int, lg_sl_long, lg_sl_nil]; decide) (by simp only [lv_args_ref, lv_args_int, lv_args_long, lv_args_nil]) (wG_X0_pay G x0 x1 x2 h)
theorem qG_X0_pay : dg_cV "DebtorsHouse" yX0_pay cX0_pay 4 (some .int) 2 := ⟨q522, Or.inl q523, q81, q524, by decide, by decide, by decide +kernel⟩
/-! DebtorsHouse.about(II)I -/
abbrev tG_X0_about : dg_T := (cX0_about, 4, RX0, (some .int), 5, 106, "about", [])
def gG_X0_about (G : dg_G) (x0 : Nat) (x1 : Int32) (x2 : Int32) : Option Int32 :=
  (dg_gR G 1 0 x0).bind fun v1 =>
  (dg_gR G 2 9 v1).bind fun v2 =>
  (dg_is G 10 v2).bind fun u3 =>
  (gG_J2_size G v2).bind fun p4 =>
  (gG_X0_isIn G x1 0 (p4 - 1)).bind fun p5 =>
  if p5 = 0 then (
    some (-100))
  else
  (dg_is G 1 x0).bind fun u7 =>
  (gG_X0_debtAt G x0 x1).bind fun p8 =>
  if x2 = 0 then (
    (dg_gI G 4 1 p8).bind fun v10 =>
    some v10)
  else
  if x2 = 1 then (
    (dg_gI G 4 7 p8).bind fun v12 =>
    some v12)
  else
  if x2 = 2 then (
    (dg_gI G 4 2 p8).bind fun v14 =>
    some v14)
  else
  if x2 = 3 then (
    (dg_gI G 4 3 p8).bind fun v16 =>
    some v16)
  else
  if x2 = 4 then (
    (dg_gI G 4 4 p8).bind fun v18 =>
    some v18)
  else
  if x2 = 5 then (
    (dg_gI G 4 5 p8).bind fun v20 =>
    some v20)
  else
  if x2 = 6 then (
    (dg_gI G 4 6 p8).bind fun v22 =>
    some v22)
  else
  if x2 = 7 then (
    (dg_gR G 4 15 p8).bind fun v24 =>
    (do_isS v24).bind fun u25 =>
    (gG_J6_ordinal G v24).bind fun p26 =>
    some p26)
  else
  if x2 = 8 then (
    (dg_is G 4 p8).bind fun u28 =>
    (gG_X4_isLive G p8).bind fun p29 =>
    if p29 = 0 then (
      some 0)
    else
    (dg_gI G 4 8 p8).bind fun v31 =>
    some v31)
  else
  if x2 = 9 then (
    (dg_is G 4 p8).bind fun u33 =>
    (gG_X4_isLive G p8).bind fun p34 =>
    if p34 = 0 then (
      some 0)
    else
    (dg_gR G 1 0 x0).bind fun v36 =>
    (dg_gI G 2 4 v36).bind fun v37 =>
    (dg_is G 4 p8).bind fun u38 =>
    (gG_X4_interestOn G p8 v37).bind fun p39 =>
    some p39)
  else
  if x2 = 10 then (
    (dg_is G 4 p8).bind fun u41 =>
    (gG_X4_isLive G p8).bind fun p42 =>
    if p42 = 0 then (
      some 0)
    else
    (dg_gI G 4 10 p8).bind fun v44 =>
    some v44)
  else
  if x2 = 11 then (
    (dg_is G 1 x0).bind fun u46 =>
    (gG_X0_due G x0 x1).bind fun p47 =>
    some p47)
  else
  if x2 = 12 then (
    (dg_gI G 4 14 p8).bind fun v49 =>
    if v49 = 0 then (
      some 0)
    else
    some 1)
  else
  if x2 = 13 then (
    (dg_gI G 4 12 p8).bind fun v52 =>
    some v52)
  else
  if x2 = 14 then (
    (dg_gI G 4 13 p8).bind fun v54 =>
    some v54)
  else
  some (-100)
theorem wG_X0_about {l : Launch} {E : dj_E} {Mo : Option dm_M} {r : Int32} (G : dg_G) (x0 : Nat) (x1 : Int32) (x2 : Int32) (hf : gG_X0_about G x0 x1 x2 = some r) : dgW tG_X0_about l E Mo G (.inr (some (.int r))) G 0 [(0, dj_v E x0), (1, .int x1), (2, .int x2)] [] := by
  unfold gG_X0_about at hf
  refine dg_l (fun _ _ _ _ _ _ _ hC => r_iload_n hC dX0_about_0 rfl (j := 1) rfl) ?_
  refine dg_l (fun _ _ _ _ _ _ _ hC => r_iconst hC dX0_about_1 ki_0) ?_
  refine g_aload_n dX0_about_2 rfl (j := 0) rfl ?_
  obtain ⟨v1, h1, hf⟩ := dh_bd hf
  refine g_getR fR_X0_10 (by decide) h1 dX0_about_3 ?_
  obtain ⟨v2, h2, hf⟩ := dh_bd hf
  refine g_getR fR_X0_63 (by decide) h2 dX0_about_6 ?_
  obtain ⟨u3, h3, hf⟩ := dh_bd hf
  obtain ⟨p4, h4, hf⟩ := dh_bd hf
  refine g_callV (rc_O (ci := 10) rfl h3) (cG_J2_size _ E Mo G v2 h4) q256 qG_J2_size (Nat.le_of_ble_eq_true rfl) (Nat.le_of_ble_eq_true rfl) rfl (dj_cat8 (Nat.le_of_ble_eq_true rfl)) dX0_about_9 ?_
  refine dg_l (fun _ _ _ _ _ _ _ hC => r_iconst hC dX0_about_12 ki_1) ?_
  refine dg_l (fun _ _ _ _ _ _ _ hC => r_isub hC dX0_about_13) ?_
  obtain ⟨p5, h5, hf⟩ := dh_bd hf
  refine g_callS (cG_X0_isIn _ E Mo G x1 0 (p4 - 1) h5) q261 qG_X0_isIn (Nat.le_of_ble_eq_true rfl) (Nat.le_of_ble_eq_true rfl) rfl (dj_cat8 (Nat.le_of_ble_eq_true rfl)) dX0_about_14 ?_
  refine dg_bn (fun _ _ _ _ _ _ _ hC => r_if_ne hC dX0_about_17 (tgt := 23) (by decide)) (fun c6 => ?_) (fun c6 => ?_)
  · have hf := dh_el hf c6
    refine g_aload_n dX0_about_23 rfl (j := 0) rfl ?_
    refine dg_l (fun _ _ _ _ _ _ _ hC => r_iload_n hC dX0_about_24 rfl (j := 1) rfl) ?_
    obtain ⟨u7, h7, hf⟩ := dh_bd hf
    obtain ⟨p8, h8, hf⟩ := dh_bd hf
    refine g_callV (rc_O (ci := 1) rfl h7) (cG_X0_debtAt _ E Mo G x0 x1 h8) q485 qG_X0_debtAt (Nat.le_of_ble_eq_true rfl) (Nat.le_of_ble_eq_true rfl) rfl (dj_cat8 (Nat.le_of_ble_eq_true rfl)) dX0_about_25 ?_
    refine g_astore_n (i := 3) (lv1 := [(3, dj_v E p8), (0, dj_v E x0), (1, .int x1), (2, .int x2)]) dX0_about_28 rfl (Nat.le_of_ble_eq_true rfl) rfl ?_
    refine dg_l (fun _ _ _ _ _ _ _ hC => r_iload_n hC dX0_about_29 rfl (j := 3) rfl) ?_
    by_cases c9 : x2 = 0
    · have hf := dh_if hf c9
      refine dg_l (fun _ _ _ _ _ _ _ hC => r_tableAt hC dX0_about_30 (tgt := 104) 0 (by rw [c9]; rfl) (by decide) (by decide) rfl (by decide)) ?_
      refine g_aload_n dX0_about_104 rfl (j := 0) rfl ?_
      obtain ⟨v10, h10, hf⟩ := dh_bd hf
      refine g_getI fR_X0_128 (by decide) h10 dX0_about_105 ?_
      exact g_iret1 dX0_about_108 rfl hf
    have hf := dh_el hf c9
    by_cases c11 : x2 = 1
    · have hf := dh_if hf c11
      refine dg_l (fun _ _ _ _ _ _ _ hC => r_tableAt hC dX0_about_30 (tgt := 109) 1 (by rw [c11]; rfl) (by decide) (by decide) rfl (by decide)) ?_
      refine g_aload_n dX0_about_109 rfl (j := 0) rfl ?_
      obtain ⟨v12, h12, hf⟩ := dh_bd hf
      refine g_getI fR_X0_131 (by decide) h12 dX0_about_110 ?_
      exact g_iret1 dX0_about_113 rfl hf
    have hf := dh_el hf c11
    by_cases c13 : x2 = 2
    · have hf := dh_if hf c13
      refine dg_l (fun _ _ _ _ _ _ _ hC => r_tableAt hC dX0_about_30 (tgt := 114) 2 (by rw [c13]; rfl) (by decide) (by decide) rfl (by decide)) ?_
      refine g_aload_n dX0_about_114 rfl (j := 0) rfl ?_
      obtain ⟨v14, h14, hf⟩ := dh_bd hf
      refine g_getI fR_X0_144 (by decide) h14 dX0_about_115 ?_
      exact g_iret1 dX0_about_118 rfl hf
    have hf := dh_el hf c13
    by_cases c15 : x2 = 3
    · have hf := dh_if hf c15
      refine dg_l (fun _ _ _ _ _ _ _ hC => r_tableAt hC dX0_about_30 (tgt := 119) 3 (by rw [c15]; rfl) (by decide) (by decide) rfl (by decide)) ?_
      refine g_aload_n dX0_about_119 rfl (j := 0) rfl ?_
      obtain ⟨v16, h16, hf⟩ := dh_bd hf
      refine g_getI fR_X0_147 (by decide) h16 dX0_about_120 ?_
      exact g_iret1 dX0_about_123 rfl hf
    have hf := dh_el hf c15
    by_cases c17 : x2 = 4
    · have hf := dh_if hf c17
      refine dg_l (fun _ _ _ _ _ _ _ hC => r_tableAt hC dX0_about_30 (tgt := 124) 4 (by rw [c17]; rfl) (by decide) (by decide) rfl (by decide)) ?_
      refine g_aload_n dX0_about_124 rfl (j := 0) rfl ?_
      obtain ⟨v18, h18, hf⟩ := dh_bd hf
      refine g_getI fR_X0_150 (by decide) h18 dX0_about_125 ?_
      exact g_iret1 dX0_about_128 rfl hf
    have hf := dh_el hf c17
    by_cases c19 : x2 = 5
    · have hf := dh_if hf c19
      refine dg_l (fun _ _ _ _ _ _ _ hC => r_tableAt hC dX0_about_30 (tgt := 129) 5 (by rw [c19]; rfl) (by decide) (by decide) rfl (by decide)) ?_
      refine g_aload_n dX0_about_129 rfl (j := 0) rfl ?_
      obtain ⟨v20, h20, hf⟩ := dh_bd hf
      refine g_getI fR_X0_153 (by decide) h20 dX0_about_130 ?_
      exact g_iret1 dX0_about_133 rfl hf
    have hf := dh_el hf c19
    by_cases c21 : x2 = 6
    · have hf := dh_if hf c21
      refine dg_l (fun _ _ _ _ _ _ _ hC => r_tableAt hC dX0_about_30 (tgt := 134) 6 (by rw [c21]; rfl) (by decide) (by decide) rfl (by decide)) ?_
      refine g_aload_n dX0_about_134 rfl (j := 0) rfl ?_
      obtain ⟨v22, h22, hf⟩ := dh_bd hf
      refine g_getI fR_X0_156 (by decide) h22 dX0_about_135 ?_
      exact g_iret1 dX0_about_138 rfl hf
    have hf := dh_el hf c21
    by_cases c23 : x2 = 7
    · have hf := dh_if hf c23
      refine dg_l (fun _ _ _ _ _ _ _ hC => r_tableAt hC dX0_about_30 (tgt := 139) 7 (by rw [c23]; rfl) (by decide) (by decide) rfl (by decide)) ?_
      refine g_aload_n dX0_about_139 rfl (j := 0) rfl ?_
      obtain ⟨v24, h24, hf⟩ := dh_bd hf
      refine g_getR fR_X0_159 (by decide) h24 dX0_about_140 ?_
      obtain ⟨u25, h25, hf⟩ := dh_bd hf
      obtain ⟨p26, h26, hf⟩ := dh_bd hf
      refine g_callU (rc_St h25) (cG_J6_ordinal _ E Mo G v24 h26) q552 q553 q555 q556 q93 q557 rfl ⟨by decide, by decide, by decide +kernel⟩ (Nat.le_of_ble_eq_true rfl) (Nat.le_of_ble_eq_true rfl) rfl (dj_cat8 (Nat.le_of_ble_eq_true rfl)) dX0_about_143 ?_
      exact g_iret1 dX0_about_146 rfl hf
    have hf := dh_el hf c23
    by_cases c27 : x2 = 8
    · have hf := dh_if hf c27
      refine dg_l (fun _ _ _ _ _ _ _ hC => r_tableAt hC dX0_about_30 (tgt := 147) 8 (by rw [c27]; rfl) (by decide) (by decide) rfl (by decide)) ?_
      refine g_aload_n dX0_about_147 rfl (j := 0) rfl ?_
      obtain ⟨u28, h28, hf⟩ := dh_bd hf
      obtain ⟨p29, h29, hf⟩ := dh_bd hf
      refine g_callV (rc_O (ci := 4) rfl h28) (cG_X4_isLive _ E Mo G p8 h29) q503 qG_X4_isLive (Nat.le_of_ble_eq_true rfl) (Nat.le_of_ble_eq_true rfl) rfl (dj_cat8 (Nat.le_of_ble_eq_true rfl)) dX0_about_148 ?_
      refine dg_b (fun _ _ _ _ _ _ _ hC => r_if_eq hC dX0_about_151 (tgt := 161) (by decide)) (fun c30 => ?_) (fun c30 => ?_)
      · have hf := dh_if hf c30
        refine dg_l (fun _ _ _ _ _ _ _ hC => r_iconst hC dX0_about_161 ki_0) ?_
        exact g_iret1 dX0_about_162 rfl hf
      · have hf := dh_el hf c30
        refine g_aload_n dX0_about_154 rfl (j := 0) rfl ?_
        obtain ⟨v31, h31, hf⟩ := dh_bd hf
        refine g_getI fR_X0_168 (by decide) h31 dX0_about_155 ?_
        refine dg_l (fun _ _ _ _ _ _ _ hC => r_goto hC dX0_about_158 (tgt := 162) (by decide)) ?_
        exact g_iret1 dX0_about_162 rfl hf
    have hf := dh_el hf c27
    by_cases c32 : x2 = 9
    · have hf := dh_if hf c32
      refine dg_l (fun _ _ _ _ _ _ _ hC => r_tableAt hC dX0_about_30 (tgt := 163) 9 (by rw [c32]; rfl) (by decide) (by decide) rfl (by decide)) ?_
      refine g_aload_n dX0_about_163 rfl (j := 0) rfl ?_
      obtain ⟨u33, h33, hf⟩ := dh_bd hf
      obtain ⟨p34, h34, hf⟩ := dh_bd hf
      refine g_callV (rc_O (ci := 4) rfl h33) (cG_X4_isLive _ E Mo G p8 h34) q503 qG_X4_isLive (Nat.le_of_ble_eq_true rfl) (Nat.le_of_ble_eq_true rfl) rfl (dj_cat8 (Nat.le_of_ble_eq_true rfl)) dX0_about_164 ?_
      refine dg_b (fun _ _ _ _ _ _ _ hC => r_if_eq hC dX0_about_167 (tgt := 184) (by decide)) (fun c35 => ?_) (fun c35 => ?_)
      · have hf := dh_if hf c35
        refine dg_l (fun _ _ _ _ _ _ _ hC => r_iconst hC dX0_about_184 ki_0) ?_
        exact g_iret1 dX0_about_185 rfl hf
      · have hf := dh_el hf c35
        refine g_aload_n dX0_about_170 rfl (j := 0) rfl ?_
        refine g_aload_n dX0_about_171 rfl (j := 1) rfl ?_
        obtain ⟨v36, h36, hf⟩ := dh_bd hf
        refine g_getR fR_X0_10 (by decide) h36 dX0_about_172 ?_
        obtain ⟨v37, h37, hf⟩ := dh_bd hf
        refine g_getI fR_X0_88 (by decide) h37 dX0_about_175 ?_
        obtain ⟨u38, h38, hf⟩ := dh_bd hf
        obtain ⟨p39, h39, hf⟩ := dh_bd hf
        refine g_callV (rc_O (ci := 4) rfl h38) (cG_X4_interestOn _ E Mo G p8 v37 h39) q558 qG_X4_interestOn (Nat.le_of_ble_eq_true rfl) (Nat.le_of_ble_eq_true rfl) rfl (dj_cat8 (Nat.le_of_ble_eq_true rfl)) dX0_about_178 ?_
        refine dg_l (fun _ _ _ _ _ _ _ hC => r_goto hC dX0_about_181 (tgt := 185) (by decide)) ?_
        exact g_iret1 dX0_about_185 rfl hf
    have hf := dh_el hf c32
    by_cases c40 : x2 = 10
    · have hf := dh_if hf c40
      refine dg_l (fun _ _ _ _ _ _ _ hC => r_tableAt hC dX0_about_30 (tgt := 186) 10 (by rw [c40]; rfl) (by decide) (by decide) rfl (by decide)) ?_
      refine g_aload_n dX0_about_186 rfl (j := 0) rfl ?_
      obtain ⟨u41, h41, hf⟩ := dh_bd hf
      obtain ⟨p42, h42, hf⟩ := dh_bd hf
      refine g_callV (rc_O (ci := 4) rfl h41) (cG_X4_isLive _ E Mo G p8 h42) q503 qG_X4_isLive (Nat.le_of_ble_eq_true rfl) (Nat.le_of_ble_eq_true rfl) rfl (dj_cat8 (Nat.le_of_ble_eq_true rfl)) dX0_about_187 ?_
      refine dg_b (fun _ _ _ _ _ _ _ hC => r_if_eq hC dX0_about_190 (tgt := 200) (by decide)) (fun c43 => ?_) (fun c43 => ?_)
      · have hf := dh_if hf c43
        refine dg_l (fun _ _ _ _ _ _ _ hC => r_iconst hC dX0_about_200 ki_0) ?_
        exact g_iret1 dX0_about_201 rfl hf
      · have hf := dh_el hf c43
        refine g_aload_n dX0_about_193 rfl (j := 0) rfl ?_
        obtain ⟨v44, h44, hf⟩ := dh_bd hf
        refine g_getI fR_X0_114 (by decide) h44 dX0_about_194 ?_
        refine dg_l (fun _ _ _ _ _ _ _ hC => r_goto hC dX0_about_197 (tgt := 201) (by decide)) ?_
        exact g_iret1 dX0_about_201 rfl hf
    have hf := dh_el hf c40
    by_cases c45 : x2 = 11
    · have hf := dh_if hf c45
      refine dg_l (fun _ _ _ _ _ _ _ hC => r_tableAt hC dX0_about_30 (tgt := 202) 11 (by rw [c45]; rfl) (by decide) (by decide) rfl (by decide)) ?_
      refine g_aload_n dX0_about_202 rfl (j := 1) rfl ?_
      refine dg_l (fun _ _ _ _ _ _ _ hC => r_iload_n hC dX0_about_203 rfl (j := 2) rfl) ?_
      obtain ⟨u46, h46, hf⟩ := dh_bd hf
      obtain ⟨p47, h47, hf⟩ := dh_bd hf
      refine g_callV (rc_O (ci := 1) rfl h46) (cG_X0_due _ E Mo G x0 x1 h47) q507 qG_X0_due (Nat.le_of_ble_eq_true rfl) (Nat.le_of_ble_eq_true rfl) rfl (dj_cat8 (Nat.le_of_ble_eq_true rfl)) dX0_about_204 ?_
      exact g_iret1 dX0_about_207 rfl hf
    have hf := dh_el hf c45
    by_cases c48 : x2 = 12
    · have hf := dh_if hf c48
      refine dg_l (fun _ _ _ _ _ _ _ hC => r_tableAt hC dX0_about_30 (tgt := 208) 12 (by rw [c48]; rfl) (by decide) (by decide) rfl (by decide)) ?_
      refine g_aload_n dX0_about_208 rfl (j := 0) rfl ?_
      obtain ⟨v49, h49, hf⟩ := dh_bd hf
      refine g_getI fR_X0_174 (by decide) h49 dX0_about_209 ?_
      refine dg_b (fun _ _ _ _ _ _ _ hC => r_if_eq hC dX0_about_212 (tgt := 219) (by decide)) (fun c50 => ?_) (fun c50 => ?_)
      · have hf := dh_if hf c50
        refine dg_l (fun _ _ _ _ _ _ _ hC => r_iconst hC dX0_about_219 ki_0) ?_
        exact g_iret1 dX0_about_220 rfl hf
      · have hf := dh_el hf c50
        refine dg_l (fun _ _ _ _ _ _ _ hC => r_iconst hC dX0_about_215 ki_1) ?_
        refine dg_l (fun _ _ _ _ _ _ _ hC => r_goto hC dX0_about_216 (tgt := 220) (by decide)) ?_
        exact g_iret1 dX0_about_220 rfl hf
    have hf := dh_el hf c48
    by_cases c51 : x2 = 13
    · have hf := dh_if hf c51
      refine dg_l (fun _ _ _ _ _ _ _ hC => r_tableAt hC dX0_about_30 (tgt := 221) 13 (by rw [c51]; rfl) (by decide) (by decide) rfl (by decide)) ?_
      refine g_aload_n dX0_about_221 rfl (j := 0) rfl ?_
      obtain ⟨v52, h52, hf⟩ := dh_bd hf
      refine g_getI fR_X0_178 (by decide) h52 dX0_about_222 ?_
      exact g_iret1 dX0_about_225 rfl hf
    have hf := dh_el hf c51
    by_cases c53 : x2 = 14
    · have hf := dh_if hf c53
      refine dg_l (fun _ _ _ _ _ _ _ hC => r_tableAt hC dX0_about_30 (tgt := 226) 14 (by rw [c53]; rfl) (by decide) (by decide) rfl (by decide)) ?_
      refine g_aload_n dX0_about_226 rfl (j := 0) rfl ?_
      obtain ⟨v54, h54, hf⟩ := dh_bd hf
      refine g_getI fR_X0_181 (by decide) h54 dX0_about_227 ?_
      exact g_iret1 dX0_about_230 rfl hf
    have hf := dh_el hf c53
    refine dg_l (fun _ _ _ _ _ _ _ hC => r_tableOut hC dX0_about_30 (tgt := 231) (by have := lv_neT c9 (a := 0) rfl; have := lv_neT c11 (a := 1) rfl; have := lv_neT c13 (a := 2) rfl; have := lv_neT c15 (a := 3) rfl; have := lv_neT c17 (a := 4) rfl; have := lv_neT c19 (a := 5) rfl; have := lv_neT c21 (a := 6) rfl; have := lv_neT c23 (a := 7) rfl; have := lv_neT c27 (a := 8) rfl; have := lv_neT c32 (a := 9) rfl; have := lv_neT c40 (a := 10) rfl; have := lv_neT c45 (a := 11) rfl; have := lv_neT c48 (a := 12) rfl; have := lv_neT c51 (a := 13) rfl; have := lv_neT c53 (a := 14) rfl; omega) (by decide)) ?_
    refine dg_l (fun _ _ _ _ _ _ _ hC => r_bipush hC dX0_about_231 kb_m100) ?_
    exact g_iret1 dX0_about_233 rfl hf
  · have hf := dh_if hf c6
    refine dg_l (fun _ _ _ _ _ _ _ hC => r_bipush hC dX0_about_20 kb_m100) ?_
    exact g_iret1 dX0_about_22 rfl hf
theorem cG_X0_about (l : Launch) (E : dj_E) (Mo : Option dm_M) (G : dg_G) (x0 : Nat) (x1 : Int32) (x2 : Int32) {r : Int32} (h : gG_X0_about G x0 x1 x2 = some r) : dg_Met l yX0_about cX0_about 4 (some .int) 5 106 E Mo [dj_v E x0, .int x1, .int x2] G (some (.int r)) G :=
  dg_met (plainFor_of_name (by decide)) (by simp only [lg_sl_ref, lg_sl_int, lg_sl_long, lg_sl_nil]; decide) (by simp only [lv_args_ref, lv_args_int, lv_args_long, lv_args_nil]) (wG_X0_about G x0 x1 x2 h)
theorem qG_X0_about : dg_cV "DebtorsHouse" yX0_about cX0_about 4 (some .int) 2 := ⟨q549, Or.inl q550, q81, q551, by decide, by decide, by decide +kernel⟩
/-! DebtorsHouse.distances(I)V -/
abbrev tG_X0_distances : dg_T := (cX0_distances, 6, RX0, none, 4, 85, "distances", [])
def gG_X0_distances_L37_F (k26 : (dg_G → Nat → Int32 → Int32 → Int32 → Option dg_G)) (k37 : (dg_G → Nat → Int32 → Int32 → Int32 → Int32 → Option dg_G)) (G : dg_G) (x0 : Nat) (x1 : Int32) (x2 : Int32) (x3 : Int32) (x4 : Int32) : Option dg_G :=
  (dg_gR G 1 0 x0).bind fun v9 =>
  (dg_gR G 2 9 v9).bind fun v10 =>
  (dg_is G 10 v10).bind fun u11 =>
  (gG_J2_size G v10).bind fun p12 =>
  if p12 ≤ x4 then (
    k26 G x0 x1 x2 (x3 + 1))
  else
  (dg_is G 1 x0).bind fun u14 =>
  (gG_X0_debtAt G x0 x4).bind fun p15 =>
  (dg_is G 4 p15).bind fun u16 =>
  (gG_X4_isLive G p15).bind fun p17 =>
  if p17 = 0 then (
    k37 G x0 x1 x2 x3 (x4 + 1))
  else
  (dg_gR G 1 3 x0).bind fun v19 =>
  (dg_gI G 4 1 p15).bind fun v20 =>
  (dg_ld G 50 v19 v20).bind fun v21 =>
  if v21 = (-1) then (
    (dg_gR G 1 3 x0).bind fun v23 =>
    (dg_gI G 4 7 p15).bind fun v24 =>
    (dg_ld G 50 v23 v24).bind fun v25 =>
    if ¬ (v25 = (x3 - 1)) then (
      k37 G x0 x1 x2 x3 (x4 + 1))
    else
    (dg_gR G 1 3 x0).bind fun v27 =>
    (dg_gI G 4 1 p15).bind fun v28 =>
    (dg_st G 50 v27 v28 x3).bind fun G29 =>
    k37 G29 x0 x1 1 x3 (x4 + 1))
  else
  k37 G x0 x1 x2 x3 (x4 + 1)
theorem wG_X0_distances_L37_F {l : Launch} {E : dj_E} {Mo : Option dm_M} {G' : dg_G} (k26 : (dg_G → Nat → Int32 → Int32 → Int32 → Option dg_G)) (hk26 : ∀ (G : dg_G) (x0 : Nat) (x1 : Int32) (x2 : Int32) (x3 : Int32), k26 G x0 x1 x2 x3 = some G' → dgW tG_X0_distances l E Mo G' (.inr none) G 26 [(0, dj_v E x0), (1, .int x1), (2, .int x2), (3, .int x3)] []) (k37 : (dg_G → Nat → Int32 → Int32 → Int32 → Int32 → Option dg_G)) (hk37 : ∀ (G : dg_G) (x0 : Nat) (x1 : Int32) (x2 : Int32) (x3 : Int32) (x4 : Int32), k37 G x0 x1 x2 x3 x4 = some G' → dgW tG_X0_distances l E Mo G' (.inr none) G 37 [(0, dj_v E x0), (1, .int x1), (2, .int x2), (3, .int x3), (4, .int x4)] []) (G : dg_G) (x0 : Nat) (x1 : Int32) (x2 : Int32) (x3 : Int32) (x4 : Int32) (hf : gG_X0_distances_L37_F k26 k37 G x0 x1 x2 x3 x4 = some G') : dgW tG_X0_distances l E Mo G' (.inr none) G 37 [(0, dj_v E x0), (1, .int x1), (2, .int x2), (3, .int x3), (4, .int x4)] [] := by
  unfold gG_X0_distances_L37_F at hf
  refine dg_l (fun _ _ _ _ _ _ _ hC => r_iload hC dX0_distances_37 (j := 4) rfl) ?_
  refine g_aload_n dX0_distances_39 rfl (j := 0) rfl ?_
  obtain ⟨v9, h9, hf⟩ := dh_bd hf
  refine g_getR fR_X0_10 (by decide) h9 dX0_distances_40 ?_
  obtain ⟨v10, h10, hf⟩ := dh_bd hf
  refine g_getR fR_X0_63 (by decide) h10 dX0_distances_43 ?_
  obtain ⟨u11, h11, hf⟩ := dh_bd hf
  obtain ⟨p12, h12, hf⟩ := dh_bd hf
  refine g_callV (rc_O (ci := 10) rfl h11) (cG_J2_size _ E Mo G v10 h12) q256 qG_J2_size (Nat.le_of_ble_eq_true rfl) (Nat.le_of_ble_eq_true rfl) rfl (dj_cat8 (Nat.le_of_ble_eq_true rfl)) dX0_distances_46 ?_
  refine dg_b (fun _ _ _ _ _ _ _ hC => r_icmp_ge hC dX0_distances_49 (tgt := 120) (by decide)) (fun c13 => ?_) (fun c13 => ?_)
  · have hf := dh_if hf c13
    refine dg_l (fun _ _ _ _ _ _ _ hC => r_iinc (lv' := [(3, .int (x3 + 1)), (0, dj_v E x0), (1, .int x1), (2, .int x2), (4, .int x4)]) hC dX0_distances_120 (j := 3) rfl (congrArg _ ki_1) (Nat.le_of_ble_eq_true rfl) rfl) ?_
    refine dg_l (fun _ _ _ _ _ _ _ hC => r_goto hC dX0_distances_123 (tgt := 26) (by decide)) ?_
    exact g_sub [1, 2, 3, 0] rfl (hk26 G x0 x1 x2 (x3 + 1) hf)
  · have hf := dh_el hf c13
    refine g_aload_n dX0_distances_52 rfl (j := 0) rfl ?_
    refine dg_l (fun _ _ _ _ _ _ _ hC => r_iload hC dX0_distances_53 (j := 4) rfl) ?_
    obtain ⟨u14, h14, hf⟩ := dh_bd hf
    obtain ⟨p15, h15, hf⟩ := dh_bd hf
    refine g_callV (rc_O (ci := 1) rfl h14) (cG_X0_debtAt _ E Mo G x0 x4 h15) q485 qG_X0_debtAt (Nat.le_of_ble_eq_true rfl) (Nat.le_of_ble_eq_true rfl) rfl (dj_cat8 (Nat.le_of_ble_eq_true rfl)) dX0_distances_55 ?_
    refine g_astore (i := 5) (lv1 := [(5, dj_v E p15), (0, dj_v E x0), (1, .int x1), (2, .int x2), (3, .int x3), (4, .int x4)]) dX0_distances_58 (Nat.le_of_ble_eq_true rfl) rfl ?_
    refine g_aload dX0_distances_60 (j := 0) rfl ?_
    obtain ⟨u16, h16, hf⟩ := dh_bd hf
    obtain ⟨p17, h17, hf⟩ := dh_bd hf
    refine g_callV (rc_O (ci := 4) rfl h16) (cG_X4_isLive _ E Mo G p15 h17) q503 qG_X4_isLive (Nat.le_of_ble_eq_true rfl) (Nat.le_of_ble_eq_true rfl) rfl (dj_cat8 (Nat.le_of_ble_eq_true rfl)) dX0_distances_62 ?_
    refine dg_b (fun _ _ _ _ _ _ _ hC => r_if_eq hC dX0_distances_65 (tgt := 114) (by decide)) (fun c18 => ?_) (fun c18 => ?_)
    · have hf := dh_if hf c18
      refine dg_l (fun _ _ _ _ _ _ _ hC => r_iinc (lv' := [(4, .int (x4 + 1)), (5, dj_v E p15), (0, dj_v E x0), (1, .int x1), (2, .int x2), (3, .int x3)]) hC dX0_distances_114 (j := 5) rfl (congrArg _ ki_1) (Nat.le_of_ble_eq_true rfl) rfl) ?_
      refine dg_l (fun _ _ _ _ _ _ _ hC => r_goto hC dX0_distances_117 (tgt := 37) (by decide)) ?_
      exact g_sub [2, 3, 4, 5, 0] rfl (hk37 G x0 x1 x2 x3 (x4 + 1) hf)
    · have hf := dh_el hf c18
      refine g_aload_n dX0_distances_68 rfl (j := 1) rfl ?_
      obtain ⟨v19, h19, hf⟩ := dh_bd hf
      refine g_getR fR_X0_28 (by decide) h19 dX0_distances_69 ?_
      refine g_aload dX0_distances_72 (j := 0) rfl ?_
      obtain ⟨v20, h20, hf⟩ := dh_bd hf
      refine g_getI fR_X0_128 (by decide) h20 dX0_distances_74 ?_
      obtain ⟨v21, h21, hf⟩ := dh_bd hf
      refine g_iald h21 dX0_distances_77 ?_
      refine dg_l (fun _ _ _ _ _ _ _ hC => r_iconst hC dX0_distances_78 ki_m1) ?_
      refine dg_bn (fun _ _ _ _ _ _ _ hC => r_icmp_ne hC dX0_distances_79 (tgt := 114) (by decide)) (fun c22 => ?_) (fun c22 => ?_)
      · have hf := dh_el hf c22
        refine dg_l (fun _ _ _ _ _ _ _ hC => r_iinc (lv' := [(4, .int (x4 + 1)), (5, dj_v E p15), (0, dj_v E x0), (1, .int x1), (2, .int x2), (3, .int x3)]) hC dX0_distances_114 (j := 5) rfl (congrArg _ ki_1) (Nat.le_of_ble_eq_true rfl) rfl) ?_
        refine dg_l (fun _ _ _ _ _ _ _ hC => r_goto hC dX0_distances_117 (tgt := 37) (by decide)) ?_
        exact g_sub [2, 3, 4, 5, 0] rfl (hk37 G x0 x1 x2 x3 (x4 + 1) hf)
      · have hf := dh_if hf c22
        refine g_aload_n dX0_distances_82 rfl (j := 1) rfl ?_
        obtain ⟨v23, h23, hf⟩ := dh_bd hf
        refine g_getR fR_X0_28 (by decide) h23 dX0_distances_83 ?_
        refine g_aload dX0_distances_86 (j := 0) rfl ?_
        obtain ⟨v24, h24, hf⟩ := dh_bd hf
        refine g_getI fR_X0_131 (by decide) h24 dX0_distances_88 ?_
        obtain ⟨v25, h25, hf⟩ := dh_bd hf
        refine g_iald h25 dX0_distances_91 ?_
        refine dg_l (fun _ _ _ _ _ _ _ hC => r_iload_n hC dX0_distances_92 rfl (j := 4) rfl) ?_
        refine dg_l (fun _ _ _ _ _ _ _ hC => r_iconst hC dX0_distances_93 ki_1) ?_
        refine dg_l (fun _ _ _ _ _ _ _ hC => r_isub hC dX0_distances_94) ?_
        refine dg_b (fun _ _ _ _ _ _ _ hC => r_icmp_eq hC dX0_distances_95 (tgt := 101) (by decide)) (fun c26 => ?_) (fun c26 => ?_)
        · have hf := dh_el hf (fun q => q c26)
          refine g_aload_n dX0_distances_101 rfl (j := 1) rfl ?_
          obtain ⟨v27, h27, hf⟩ := dh_bd hf
          refine g_getR fR_X0_28 (by decide) h27 dX0_distances_102 ?_
          refine g_aload dX0_distances_105 (j := 0) rfl ?_
          obtain ⟨v28, h28, hf⟩ := dh_bd hf
          refine g_getI fR_X0_128 (by decide) h28 dX0_distances_107 ?_
          refine dg_l (fun _ _ _ _ _ _ _ hC => r_iload_n hC dX0_distances_110 rfl (j := 4) rfl) ?_
          obtain ⟨G29, h29, hf⟩ := dh_bd hf
          refine g_iast h29 dX0_distances_111 ?_
          refine dg_l (fun _ _ _ _ _ _ _ hC => r_iconst hC dX0_distances_112 ki_1) ?_
          refine dg_l (fun _ _ _ _ _ _ _ hC => r_istore_n (lv' := [(2, .int 1), (5, dj_v E p15), (0, dj_v E x0), (1, .int x1), (3, .int x3), (4, .int x4)]) hC dX0_distances_113 rfl (Nat.le_of_ble_eq_true rfl) rfl) ?_
          refine dg_l (fun _ _ _ _ _ _ _ hC => r_iinc (lv' := [(4, .int (x4 + 1)), (2, .int 1), (5, dj_v E p15), (0, dj_v E x0), (1, .int x1), (3, .int x3)]) hC dX0_distances_114 (j := 5) rfl (congrArg _ ki_1) (Nat.le_of_ble_eq_true rfl) rfl) ?_
          refine dg_l (fun _ _ _ _ _ _ _ hC => r_goto hC dX0_distances_117 (tgt := 37) (by decide)) ?_
          exact g_sub [3, 4, 1, 5, 0] rfl (hk37 G29 x0 x1 1 x3 (x4 + 1) hf)
        · have hf := dh_if hf c26
          refine dg_l (fun _ _ _ _ _ _ _ hC => r_goto hC dX0_distances_98 (tgt := 114) (by decide)) ?_
          refine dg_l (fun _ _ _ _ _ _ _ hC => r_iinc (lv' := [(4, .int (x4 + 1)), (5, dj_v E p15), (0, dj_v E x0), (1, .int x1), (2, .int x2), (3, .int x3)]) hC dX0_distances_114 (j := 5) rfl (congrArg _ ki_1) (Nat.le_of_ble_eq_true rfl) rfl) ?_
          refine dg_l (fun _ _ _ _ _ _ _ hC => r_goto hC dX0_distances_117 (tgt := 37) (by decide)) ?_
          exact g_sub [2, 3, 4, 5, 0] rfl (hk37 G x0 x1 x2 x3 (x4 + 1) hf)
def gG_X0_distances_L37 (k26 : (dg_G → Nat → Int32 → Int32 → Int32 → Option dg_G)) : Nat → dg_G → Nat → Int32 → Int32 → Int32 → Int32 → Option dg_G
  | 0 => fun _ _ _ _ _ _ => none
  | n + 1 => gG_X0_distances_L37_F k26 (gG_X0_distances_L37 k26 n)
theorem wG_X0_distances_L37 {l : Launch} {E : dj_E} {Mo : Option dm_M} {G' : dg_G} (k26 : (dg_G → Nat → Int32 → Int32 → Int32 → Option dg_G)) (hk26 : ∀ (G : dg_G) (x0 : Nat) (x1 : Int32) (x2 : Int32) (x3 : Int32), k26 G x0 x1 x2 x3 = some G' → dgW tG_X0_distances l E Mo G' (.inr none) G 26 [(0, dj_v E x0), (1, .int x1), (2, .int x2), (3, .int x3)] []) : ∀ (n : Nat) (G : dg_G) (x0 : Nat) (x1 : Int32) (x2 : Int32) (x3 : Int32) (x4 : Int32) (_ : gG_X0_distances_L37 k26 n G x0 x1 x2 x3 x4 = some G'), dgW tG_X0_distances l E Mo G' (.inr none) G 37 [(0, dj_v E x0), (1, .int x1), (2, .int x2), (3, .int x3), (4, .int x4)] [] := by
  intro n
  induction n with
  | zero => intro G x0 x1 x2 x3 x4 hf; exact dh_no hf
  | succ n ih => intro G x0 x1 x2 x3 x4 hf; exact wG_X0_distances_L37_F k26 hk26 (gG_X0_distances_L37 k26 n) ih G x0 x1 x2 x3 x4 hf
def gG_X0_distances_L26_F (k26 : (dg_G → Nat → Int32 → Int32 → Int32 → Option dg_G)) (G : dg_G) (x0 : Nat) (x1 : Int32) (x2 : Int32) (x3 : Int32) : Option dg_G :=
  if x2 = 0 then (
    some G)
  else
  gG_X0_distances_L37 k26 dh_fu G x0 x1 0 x3 (x1 + 1)
theorem wG_X0_distances_L26_F {l : Launch} {E : dj_E} {Mo : Option dm_M} {G' : dg_G} (k26 : (dg_G → Nat → Int32 → Int32 → Int32 → Option dg_G)) (hk26 : ∀ (G : dg_G) (x0 : Nat) (x1 : Int32) (x2 : Int32) (x3 : Int32), k26 G x0 x1 x2 x3 = some G' → dgW tG_X0_distances l E Mo G' (.inr none) G 26 [(0, dj_v E x0), (1, .int x1), (2, .int x2), (3, .int x3)] []) (G : dg_G) (x0 : Nat) (x1 : Int32) (x2 : Int32) (x3 : Int32) (hf : gG_X0_distances_L26_F k26 G x0 x1 x2 x3 = some G') : dgW tG_X0_distances l E Mo G' (.inr none) G 26 [(0, dj_v E x0), (1, .int x1), (2, .int x2), (3, .int x3)] [] := by
  unfold gG_X0_distances_L26_F at hf
  refine dg_l (fun _ _ _ _ _ _ _ hC => r_iload_n hC dX0_distances_26 rfl (j := 2) rfl) ?_
  refine dg_b (fun _ _ _ _ _ _ _ hC => r_if_eq hC dX0_distances_27 (tgt := 126) (by decide)) (fun c8 => ?_) (fun c8 => ?_)
  · have hf := dh_if hf c8
    exact g_vret dX0_distances_126 rfl hf
  · have hf := dh_el hf c8
    refine dg_l (fun _ _ _ _ _ _ _ hC => r_iconst hC dX0_distances_30 ki_0) ?_
    refine dg_l (fun _ _ _ _ _ _ _ hC => r_istore_n (lv' := [(2, .int 0), (0, dj_v E x0), (1, .int x1), (3, .int x3)]) hC dX0_distances_31 rfl (Nat.le_of_ble_eq_true rfl) rfl) ?_
    refine dg_l (fun _ _ _ _ _ _ _ hC => r_iload_n hC dX0_distances_32 rfl (j := 2) rfl) ?_
    refine dg_l (fun _ _ _ _ _ _ _ hC => r_iconst hC dX0_distances_33 ki_1) ?_
    refine dg_l (fun _ _ _ _ _ _ _ hC => r_iadd hC dX0_distances_34) ?_
    refine dg_l (fun _ _ _ _ _ _ _ hC => r_istore (lv' := [(4, .int (x1 + 1)), (2, .int 0), (0, dj_v E x0), (1, .int x1), (3, .int x3)]) hC dX0_distances_35 (Nat.le_of_ble_eq_true rfl) rfl) ?_
    exact g_sub [2, 3, 1, 4, 0] rfl (wG_X0_distances_L37 k26 hk26 dh_fu G x0 x1 0 x3 (x1 + 1) hf)
def gG_X0_distances_L26 : Nat → dg_G → Nat → Int32 → Int32 → Int32 → Option dg_G
  | 0 => fun _ _ _ _ _ => none
  | n + 1 => gG_X0_distances_L26_F (gG_X0_distances_L26 n)
theorem wG_X0_distances_L26 {l : Launch} {E : dj_E} {Mo : Option dm_M} {G' : dg_G} : ∀ (n : Nat) (G : dg_G) (x0 : Nat) (x1 : Int32) (x2 : Int32) (x3 : Int32) (_ : gG_X0_distances_L26 n G x0 x1 x2 x3 = some G'), dgW tG_X0_distances l E Mo G' (.inr none) G 26 [(0, dj_v E x0), (1, .int x1), (2, .int x2), (3, .int x3)] [] := by
  intro n
  induction n with
  | zero => intro G x0 x1 x2 x3 hf; exact dh_no hf
  | succ n ih => intro G x0 x1 x2 x3 hf; exact wG_X0_distances_L26_F (gG_X0_distances_L26 n) ih G x0 x1 x2 x3 hf
def gG_X0_distances (G : dg_G) (x0 : Nat) (x1 : Int32) : Option dg_G :=
  (dg_gR G 1 3 x0).bind fun v1 =>
  (gG_J3_fill G v1 (-1)).bind fun p2 =>
  (dg_gR p2 1 3 x0).bind fun v3 =>
  (dg_is p2 1 x0).bind fun u4 =>
  (gG_X0_debtAt p2 x0 x1).bind fun p5 =>
  (dg_gI p2 4 1 p5).bind fun v6 =>
  (dg_st p2 50 v3 v6 0).bind fun G7 =>
  gG_X0_distances_L26 dh_fu G7 x0 x1 1 1
theorem wG_X0_distances {l : Launch} {E : dj_E} {Mo : Option dm_M} {G' : dg_G} (G : dg_G) (x0 : Nat) (x1 : Int32) (hf : gG_X0_distances G x0 x1 = some G') : dgW tG_X0_distances l E Mo G' (.inr none) G 0 [(0, dj_v E x0), (1, .int x1)] [] := by
  unfold gG_X0_distances at hf
  refine g_aload_n dX0_distances_0 rfl (j := 0) rfl ?_
  obtain ⟨v1, h1, hf⟩ := dh_bd hf
  refine g_getR fR_X0_28 (by decide) h1 dX0_distances_1 ?_
  refine dg_l (fun _ _ _ _ _ _ _ hC => r_iconst hC dX0_distances_4 ki_m1) ?_
  obtain ⟨p2, h2, hf⟩ := dh_bd hf
  refine g_callS (cG_J3_fill _ E Mo G v1 (-1) h2) q567 qG_J3_fill (Nat.le_of_ble_eq_true rfl) (Nat.le_of_ble_eq_true rfl) rfl (dj_cat8 (Nat.le_of_ble_eq_true rfl)) dX0_distances_5 ?_
  refine g_aload_n dX0_distances_8 rfl (j := 0) rfl ?_
  obtain ⟨v3, h3, hf⟩ := dh_bd hf
  refine g_getR fR_X0_28 (by decide) h3 dX0_distances_9 ?_
  refine g_aload_n dX0_distances_12 rfl (j := 0) rfl ?_
  refine dg_l (fun _ _ _ _ _ _ _ hC => r_iload_n hC dX0_distances_13 rfl (j := 1) rfl) ?_
  obtain ⟨u4, h4, hf⟩ := dh_bd hf
  obtain ⟨p5, h5, hf⟩ := dh_bd hf
  refine g_callV (rc_O (ci := 1) rfl h4) (cG_X0_debtAt _ E Mo p2 x0 x1 h5) q485 qG_X0_debtAt (Nat.le_of_ble_eq_true rfl) (Nat.le_of_ble_eq_true rfl) rfl (dj_cat8 (Nat.le_of_ble_eq_true rfl)) dX0_distances_14 ?_
  obtain ⟨v6, h6, hf⟩ := dh_bd hf
  refine g_getI fR_X0_128 (by decide) h6 dX0_distances_17 ?_
  refine dg_l (fun _ _ _ _ _ _ _ hC => r_iconst hC dX0_distances_20 ki_0) ?_
  obtain ⟨G7, h7, hf⟩ := dh_bd hf
  refine g_iast h7 dX0_distances_21 ?_
  refine dg_l (fun _ _ _ _ _ _ _ hC => r_iconst hC dX0_distances_22 ki_1) ?_
  refine dg_l (fun _ _ _ _ _ _ _ hC => r_istore_n (lv' := [(2, .int 1), (0, dj_v E x0), (1, .int x1)]) hC dX0_distances_23 rfl (Nat.le_of_ble_eq_true rfl) rfl) ?_
  refine dg_l (fun _ _ _ _ _ _ _ hC => r_iconst hC dX0_distances_24 ki_1) ?_
  refine dg_l (fun _ _ _ _ _ _ _ hC => r_istore_n (lv' := [(3, .int 1), (2, .int 1), (0, dj_v E x0), (1, .int x1)]) hC dX0_distances_25 rfl (Nat.le_of_ble_eq_true rfl) rfl) ?_
  exact g_sub [2, 3, 1, 0] rfl (wG_X0_distances_L26 dh_fu G7 x0 x1 1 1 hf)
theorem cG_X0_distances (l : Launch) (E : dj_E) (Mo : Option dm_M) (G : dg_G) (x0 : Nat) (x1 : Int32) {G' : dg_G} (h : gG_X0_distances G x0 x1 = some G') : dg_Met l yX0_distances cX0_distances 6 none 4 85 E Mo [dj_v E x0, .int x1] G none G' :=
  dg_met (plainFor_of_name (by decide)) (by simp only [lg_sl_ref, lg_sl_int, lg_sl_long, lg_sl_nil]; decide) (by simp only [lv_args_ref, lv_args_int, lv_args_long, lv_args_nil]) (wG_X0_distances G x0 x1 h)
theorem qG_X0_distances : dg_cV "DebtorsHouse" yX0_distances cX0_distances 6 none 1 := ⟨q565, Or.inl qs11, q81, q566, by decide, by decide, by decide +kernel⟩
