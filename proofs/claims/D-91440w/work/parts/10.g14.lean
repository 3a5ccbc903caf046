set_option maxRecDepth 100000
/-! DebtorsHouse.leave(I)Z -/
abbrev tG_X0_leave : dg_T := (cX0_leave, 3, RX0, (some .boolean), 5, 106, "leave", [])
def gG_X0_leave (G : dg_G) (x0 : Nat) (x1 : Int32) : Option (Int32 × dg_G) :=
  (dg_is G 1 x0).bind fun u1 =>
  (gG_X0_isHeld G x0 x1).bind fun p2 =>
  if p2 = 0 then (
    some (0, G))
  else
  (dg_is G 1 x0).bind fun u4 =>
  (gG_X0_at G x0 x1).bind fun p5 =>
  (dg_gI G 3 9 p5).bind fun v6 =>
  if v6 = 0 then (
    (dg_gI G 3 13 p5).bind fun v8 =>
    if v8 = 0 then (
      (dg_gI G 3 2 p5).bind fun v10 =>
      (dg_gI G 3 5 p5).bind fun v11 =>
      if ¬ (v11 ≤ v10) then (
        some (0, G))
      else
      (dg_gI G 3 2 p5).bind fun v13 =>
      (dg_gI G 3 5 p5).bind fun v14 =>
      (dg_pI G 3 2 p5 (v13 - v14)).bind fun G15 =>
      (dg_gR G15 1 0 x0).bind fun v16 =>
      (dg_gI G15 2 6 v16).bind fun v17 =>
      (dg_gI G15 3 5 p5).bind fun v18 =>
      (dg_pI G15 2 6 v16 (v17 + v18)).bind fun G19 =>
      (dg_is G19 3 p5).bind fun u20 =>
      (gG_X3_goes G19 p5).bind fun p21 =>
      some (1, p21))
    else
    some (0, G))
  else
  some (0, G)
theorem wG_X0_leave {l : Launch} {E : dj_E} {Mo : Option dm_M} {r : Int32} {G' : dg_G} (G : dg_G) (x0 : Nat) (x1 : Int32) (hf : gG_X0_leave G x0 x1 = some (r, G')) : dgW tG_X0_leave l E Mo G' (.inr (some (.int r))) G 0 [(0, dj_v E x0), (1, .int x1)] [] := by
  unfold gG_X0_leave at hf
  refine g_aload_n dX0_leave_0 rfl (j := 0) rfl ?_
  refine dg_l (fun _ _ _ _ _ _ _ hC => r_iload_n hC dX0_leave_1 rfl (j := 1) rfl) ?_
  obtain ⟨u1, h1, hf⟩ := dh_bd hf
  obtain ⟨p2, h2, hf⟩ := dh_bd hf
  refine g_callV (rc_O (ci := 1) rfl h1) (cG_X0_isHeld _ E Mo G x0 x1 h2) q1173 qG_X0_isHeld (Nat.le_of_ble_eq_true rfl) (Nat.le_of_ble_eq_true rfl) rfl (dj_cat8 (Nat.le_of_ble_eq_true rfl)) dX0_leave_2 ?_
  refine dg_bn (fun _ _ _ _ _ _ _ hC => r_if_ne hC dX0_leave_5 (tgt := 10) (by decide)) (fun c3 => ?_) (fun c3 => ?_)
  · have hf := dh_el hf c3
    refine g_aload_n dX0_leave_10 rfl (j := 0) rfl ?_
    refine dg_l (fun _ _ _ _ _ _ _ hC => r_iload_n hC dX0_leave_11 rfl (j := 1) rfl) ?_
    obtain ⟨u4, h4, hf⟩ := dh_bd hf
    obtain ⟨p5, h5, hf⟩ := dh_bd hf
    refine g_callV (rc_O (ci := 1) rfl h4) (cG_X0_at _ E Mo G x0 x1 h5) q525 qG_X0_at (Nat.le_of_ble_eq_true rfl) (Nat.le_of_ble_eq_true rfl) rfl (dj_cat8 (Nat.le_of_ble_eq_true rfl)) dX0_leave_12 ?_
    refine g_astore_n (i := 2) (lv1 := [(2, dj_v E p5), (0, dj_v E x0), (1, .int x1)]) dX0_leave_15 rfl (Nat.le_of_ble_eq_true rfl) rfl ?_
    refine g_aload_n dX0_leave_16 rfl (j := 0) rfl ?_
    obtain ⟨v6, h6, hf⟩ := dh_bd hf
    refine g_getI fR_X0_122 (by decide) h6 dX0_leave_17 ?_
    refine dg_bn (fun _ _ _ _ _ _ _ hC => r_if_ne hC dX0_leave_20 (tgt := 41) (by decide)) (fun c7 => ?_) (fun c7 => ?_)
    · have hf := dh_el hf c7
      refine dg_l (fun _ _ _ _ _ _ _ hC => r_iconst hC dX0_leave_41 ki_0) ?_
      exact g_zret dX0_leave_42 rfl rfl hf
    · have hf := dh_if hf c7
      refine g_aload_n dX0_leave_23 rfl (j := 0) rfl ?_
      obtain ⟨v8, h8, hf⟩ := dh_bd hf
      refine g_getI fR_X0_337 (by decide) h8 dX0_leave_24 ?_
      refine dg_bn (fun _ _ _ _ _ _ _ hC => r_if_ne hC dX0_leave_27 (tgt := 41) (by decide)) (fun c9 => ?_) (fun c9 => ?_)
      · have hf := dh_el hf c9
        refine dg_l (fun _ _ _ _ _ _ _ hC => r_iconst hC dX0_leave_41 ki_0) ?_
        exact g_zret dX0_leave_42 rfl rfl hf
      · have hf := dh_if hf c9
        refine g_aload_n dX0_leave_30 rfl (j := 0) rfl ?_
        obtain ⟨v10, h10, hf⟩ := dh_bd hf
        refine g_getI fR_X0_134 (by decide) h10 dX0_leave_31 ?_
        refine g_aload_n dX0_leave_34 rfl (j := 0) rfl ?_
        obtain ⟨v11, h11, hf⟩ := dh_bd hf
        refine g_getI fR_X0_329 (by decide) h11 dX0_leave_35 ?_
        refine dg_b (fun _ _ _ _ _ _ _ hC => r_icmp_ge hC dX0_leave_38 (tgt := 43) (by decide)) (fun c12 => ?_) (fun c12 => ?_)
        · have hf := dh_el hf (fun q => q c12)
          refine g_aload_n dX0_leave_43 rfl (j := 0) rfl ?_
          refine g_dup dX0_leave_44 ?_
          obtain ⟨v13, h13, hf⟩ := dh_bd hf
          refine g_getI fR_X0_134 (by decide) h13 dX0_leave_45 ?_
          refine g_aload_n dX0_leave_48 rfl (j := 0) rfl ?_
          obtain ⟨v14, h14, hf⟩ := dh_bd hf
          refine g_getI fR_X0_329 (by decide) h14 dX0_leave_49 ?_
          refine dg_l (fun _ _ _ _ _ _ _ hC => r_isub hC dX0_leave_52) ?_
          obtain ⟨G15, h15, hf⟩ := dh_bd hf
          refine g_putI fF_X0_134 (fun q => by cases q) (by decide) h15 dX0_leave_53 ?_
          refine g_aload_n dX0_leave_56 rfl (j := 1) rfl ?_
          obtain ⟨v16, h16, hf⟩ := dh_bd hf
          refine g_getR fR_X0_10 (by decide) h16 dX0_leave_57 ?_
          refine g_dup dX0_leave_60 ?_
          obtain ⟨v17, h17, hf⟩ := dh_bd hf
          refine g_getI fR_X0_340 (by decide) h17 dX0_leave_61 ?_
          refine g_aload_n dX0_leave_64 rfl (j := 0) rfl ?_
          obtain ⟨v18, h18, hf⟩ := dh_bd hf
          refine g_getI fR_X0_329 (by decide) h18 dX0_leave_65 ?_
          refine dg_l (fun _ _ _ _ _ _ _ hC => r_iadd hC dX0_leave_68) ?_
          obtain ⟨G19, h19, hf⟩ := dh_bd hf
          refine g_putI fF_X0_340 (fun q => by cases q) (by decide) h19 dX0_leave_69 ?_
          refine g_aload_n dX0_leave_72 rfl (j := 0) rfl ?_
          obtain ⟨u20, h20, hf⟩ := dh_bd hf
          obtain ⟨p21, h21, hf⟩ := dh_bd hf
          refine g_callV (rc_O (ci := 3) rfl h20) (cG_X3_goes _ E Mo G19 p5 h21) q1177 qG_X3_goes (Nat.le_of_ble_eq_true rfl) (Nat.le_of_ble_eq_true rfl) rfl (dj_cat8 (Nat.le_of_ble_eq_true rfl)) dX0_leave_73 ?_
          refine dg_l (fun _ _ _ _ _ _ _ hC => r_iconst hC dX0_leave_76 ki_1) ?_
          exact g_zret dX0_leave_77 rfl rfl hf
        · have hf := dh_if hf c12
          refine dg_l (fun _ _ _ _ _ _ _ hC => r_iconst hC dX0_leave_41 ki_0) ?_
          exact g_zret dX0_leave_42 rfl rfl hf
  · have hf := dh_if hf c3
    refine dg_l (fun _ _ _ _ _ _ _ hC => r_iconst hC dX0_leave_8 ki_0) ?_
    exact g_zret dX0_leave_9 rfl rfl hf
theorem cG_X0_leave (l : Launch) (E : dj_E) (Mo : Option dm_M) (G : dg_G) (x0 : Nat) (x1 : Int32) {p : Int32 × dg_G} (h : gG_X0_leave G x0 x1 = some p) : dg_Met l yX0_leave cX0_leave 3 (some .boolean) 5 106 E Mo [dj_v E x0, .int x1] G (some (.int p.1)) p.2 :=
  dg_met (plainFor_of_name (by decide)) (by simp only [lg_sl_ref, lg_sl_int, lg_sl_long, lg_sl_nil]; decide) (by simp only [lv_args_ref, lv_args_int, lv_args_long, lv_args_nil]) (wG_X0_leave G x0 x1 h)
theorem qG_X0_leave : dg_cV "DebtorsHouse" yX0_leave cX0_leave 3 (some .boolean) 1 := ⟨q1170, Or.inl q1171, q81, q1172, by decide, by decide, by decide +kernel⟩
/-! DebtorsHouse.room(II)Z -/
abbrev tG_X0_room : dg_T := (cX0_room, 3, RX0, (some .boolean), 5, 106, "room", [])
def gG_X0_room (G : dg_G) (x0 : Nat) (x1 : Int32) (x2 : Int32) : Option (Int32 × dg_G) :=
  (dg_is G 1 x0).bind fun u1 =>
  (gG_X0_isHeld G x0 x1).bind fun p2 =>
  if p2 = 0 then (
    some (0, G))
  else
  (gG_X0_isIn G x2 0 3).bind fun p4 =>
  if p4 = 0 then (
    some (0, G))
  else
  (dg_is G 1 x0).bind fun u6 =>
  (gG_X0_at G x0 x1).bind fun p7 =>
  (dg_pI G 3 4 p7 x2).bind fun G8 =>
  some (1, G8)
theorem wG_X0_room {l : Launch} {E : dj_E} {Mo : Option dm_M} {r : Int32} {G' : dg_G} (G : dg_G) (x0 : Nat) (x1 : Int32) (x2 : Int32) (hf : gG_X0_room G x0 x1 x2 = some (r, G')) : dgW tG_X0_room l E Mo G' (.inr (some (.int r))) G 0 [(0, dj_v E x0), (1, .int x1), (2, .int x2)] [] := by
  unfold gG_X0_room at hf
  refine g_aload_n dX0_room_0 rfl (j := 0) rfl ?_
  refine dg_l (fun _ _ _ _ _ _ _ hC => r_iload_n hC dX0_room_1 rfl (j := 1) rfl) ?_
  obtain ⟨u1, h1, hf⟩ := dh_bd hf
  obtain ⟨p2, h2, hf⟩ := dh_bd hf
  refine g_callV (rc_O (ci := 1) rfl h1) (cG_X0_isHeld _ E Mo G x0 x1 h2) q1173 qG_X0_isHeld (Nat.le_of_ble_eq_true rfl) (Nat.le_of_ble_eq_true rfl) rfl (dj_cat8 (Nat.le_of_ble_eq_true rfl)) dX0_room_2 ?_
  refine dg_b (fun _ _ _ _ _ _ _ hC => r_if_eq hC dX0_room_5 (tgt := 17) (by decide)) (fun c3 => ?_) (fun c3 => ?_)
  · have hf := dh_if hf c3
    refine dg_l (fun _ _ _ _ _ _ _ hC => r_iconst hC dX0_room_17 ki_0) ?_
    exact g_zret dX0_room_18 rfl rfl hf
  · have hf := dh_el hf c3
    refine dg_l (fun _ _ _ _ _ _ _ hC => r_iload_n hC dX0_room_8 rfl (j := 2) rfl) ?_
    refine dg_l (fun _ _ _ _ _ _ _ hC => r_iconst hC dX0_room_9 ki_0) ?_
    refine dg_l (fun _ _ _ _ _ _ _ hC => r_iconst hC dX0_room_10 ki_3) ?_
    obtain ⟨p4, h4, hf⟩ := dh_bd hf
    refine g_callS (cG_X0_isIn _ E Mo G x2 0 3 h4) q261 qG_X0_isIn (Nat.le_of_ble_eq_true rfl) (Nat.le_of_ble_eq_true rfl) rfl (dj_cat8 (Nat.le_of_ble_eq_true rfl)) dX0_room_11 ?_
    refine dg_bn (fun _ _ _ _ _ _ _ hC => r_if_ne hC dX0_room_14 (tgt := 19) (by decide)) (fun c5 => ?_) (fun c5 => ?_)
    · have hf := dh_el hf c5
      refine g_aload_n dX0_room_19 rfl (j := 0) rfl ?_
      refine dg_l (fun _ _ _ _ _ _ _ hC => r_iload_n hC dX0_room_20 rfl (j := 1) rfl) ?_
      obtain ⟨u6, h6, hf⟩ := dh_bd hf
      obtain ⟨p7, h7, hf⟩ := dh_bd hf
      refine g_callV (rc_O (ci := 1) rfl h6) (cG_X0_at _ E Mo G x0 x1 h7) q525 qG_X0_at (Nat.le_of_ble_eq_true rfl) (Nat.le_of_ble_eq_true rfl) rfl (dj_cat8 (Nat.le_of_ble_eq_true rfl)) dX0_room_21 ?_
      refine dg_l (fun _ _ _ _ _ _ _ hC => r_iload_n hC dX0_room_24 rfl (j := 2) rfl) ?_
      obtain ⟨G8, h8, hf⟩ := dh_bd hf
      refine g_putI fF_X0_288 (fun q => by cases q) (by decide) h8 dX0_room_25 ?_
      refine dg_l (fun _ _ _ _ _ _ _ hC => r_iconst hC dX0_room_28 ki_1) ?_
      exact g_zret dX0_room_29 rfl rfl hf
    · have hf := dh_if hf c5
      refine dg_l (fun _ _ _ _ _ _ _ hC => r_iconst hC dX0_room_17 ki_0) ?_
      exact g_zret dX0_room_18 rfl rfl hf
theorem cG_X0_room (l : Launch) (E : dj_E) (Mo : Option dm_M) (G : dg_G) (x0 : Nat) (x1 : Int32) (x2 : Int32) {p : Int32 × dg_G} (h : gG_X0_room G x0 x1 x2 = some p) : dg_Met l yX0_room cX0_room 3 (some .boolean) 5 106 E Mo [dj_v E x0, .int x1, .int x2] G (some (.int p.1)) p.2 :=
  dg_met (plainFor_of_name (by decide)) (by simp only [lg_sl_ref, lg_sl_int, lg_sl_long, lg_sl_nil]; decide) (by simp only [lv_args_ref, lv_args_int, lv_args_long, lv_args_nil]) (wG_X0_room G x0 x1 x2 h)
theorem qG_X0_room : dg_cV "DebtorsHouse" yX0_room cX0_room 3 (some .boolean) 2 := ⟨q1182, Or.inl q1183, q81, q1184, by decide, by decide, by decide +kernel⟩
/-! DebtorsHouse.walk(IZ)Z -/
abbrev tG_X0_walk : dg_T := (cX0_walk, 3, RX0, (some .boolean), 7, 154, "walk", [])
def gG_X0_walk (G : dg_G) (x0 : Nat) (x1 : Int32) (x2 : Int32) : Option (Int32 × dg_G) :=
  (dg_is G 1 x0).bind fun u1 =>
  (gG_X0_isHeld G x0 x1).bind fun p2 =>
  if p2 = 0 then (
    some (0, G))
  else
  (dg_is G 1 x0).bind fun u4 =>
  (gG_X0_at G x0 x1).bind fun p5 =>
  (dg_gI G 3 13 p5).bind fun v6 =>
  if v6 = x2 then (
    some (0, G))
  else
  if x2 = 0 then (
    (dg_is G 1 x0).bind fun u9 =>
    (gG_X0_at G x0 x1).bind fun p10 =>
    (dg_pZ G 3 13 p10 x2).bind fun G11 =>
    some (1, G11))
  else
  (dg_is G 1 x0).bind fun u12 =>
  (gG_X0_at G x0 x1).bind fun p13 =>
  (dg_is G 1 x0).bind fun u14 =>
  (gG_X0_tells_3 G x0 p13 4).bind fun p15 =>
  if p15.1 = 0 then (
    some (0, p15.2))
  else
  (dg_is p15.2 1 x0).bind fun u17 =>
  (gG_X0_at p15.2 x0 x1).bind fun p18 =>
  (dg_pZ p15.2 3 13 p18 x2).bind fun G19 =>
  some (1, G19)
theorem wG_X0_walk {l : Launch} {E : dj_E} {Mo : Option dm_M} {r : Int32} {G' : dg_G} (G : dg_G) (x0 : Nat) (x1 : Int32) (x2 : Int32) (hf : gG_X0_walk G x0 x1 x2 = some (r, G')) : dgW tG_X0_walk l E Mo G' (.inr (some (.int r))) G 0 [(0, dj_v E x0), (1, .int x1), (2, .int x2)] [] := by
  unfold gG_X0_walk at hf
  refine g_aload_n dX0_walk_0 rfl (j := 0) rfl ?_
  refine dg_l (fun _ _ _ _ _ _ _ hC => r_iload_n hC dX0_walk_1 rfl (j := 1) rfl) ?_
  obtain ⟨u1, h1, hf⟩ := dh_bd hf
  obtain ⟨p2, h2, hf⟩ := dh_bd hf
  refine g_callV (rc_O (ci := 1) rfl h1) (cG_X0_isHeld _ E Mo G x0 x1 h2) q1173 qG_X0_isHeld (Nat.le_of_ble_eq_true rfl) (Nat.le_of_ble_eq_true rfl) rfl (dj_cat8 (Nat.le_of_ble_eq_true rfl)) dX0_walk_2 ?_
  refine dg_b (fun _ _ _ _ _ _ _ hC => r_if_eq hC dX0_walk_5 (tgt := 39) (by decide)) (fun c3 => ?_) (fun c3 => ?_)
  · have hf := dh_if hf c3
    refine dg_l (fun _ _ _ _ _ _ _ hC => r_iconst hC dX0_walk_39 ki_0) ?_
    exact g_zret dX0_walk_40 rfl rfl hf
  · have hf := dh_el hf c3
    refine g_aload_n dX0_walk_8 rfl (j := 0) rfl ?_
    refine dg_l (fun _ _ _ _ _ _ _ hC => r_iload_n hC dX0_walk_9 rfl (j := 1) rfl) ?_
    obtain ⟨u4, h4, hf⟩ := dh_bd hf
    obtain ⟨p5, h5, hf⟩ := dh_bd hf
    refine g_callV (rc_O (ci := 1) rfl h4) (cG_X0_at _ E Mo G x0 x1 h5) q525 qG_X0_at (Nat.le_of_ble_eq_true rfl) (Nat.le_of_ble_eq_true rfl) rfl (dj_cat8 (Nat.le_of_ble_eq_true rfl)) dX0_walk_10 ?_
    obtain ⟨v6, h6, hf⟩ := dh_bd hf
    refine g_getI fR_X0_337 (by decide) h6 dX0_walk_13 ?_
    refine dg_l (fun _ _ _ _ _ _ _ hC => r_iload_n hC dX0_walk_16 rfl (j := 2) rfl) ?_
    refine dg_b (fun _ _ _ _ _ _ _ hC => r_icmp_eq hC dX0_walk_17 (tgt := 39) (by decide)) (fun c7 => ?_) (fun c7 => ?_)
    · have hf := dh_if hf c7
      refine dg_l (fun _ _ _ _ _ _ _ hC => r_iconst hC dX0_walk_39 ki_0) ?_
      exact g_zret dX0_walk_40 rfl rfl hf
    · have hf := dh_el hf c7
      refine dg_l (fun _ _ _ _ _ _ _ hC => r_iload_n hC dX0_walk_20 rfl (j := 2) rfl) ?_
      refine dg_b (fun _ _ _ _ _ _ _ hC => r_if_eq hC dX0_walk_21 (tgt := 41) (by decide)) (fun c8 => ?_) (fun c8 => ?_)
      · have hf := dh_if hf c8
        refine g_aload_n dX0_walk_41 rfl (j := 0) rfl ?_
        refine dg_l (fun _ _ _ _ _ _ _ hC => r_iload_n hC dX0_walk_42 rfl (j := 1) rfl) ?_
        obtain ⟨u9, h9, hf⟩ := dh_bd hf
        obtain ⟨p10, h10, hf⟩ := dh_bd hf
        refine g_callV (rc_O (ci := 1) rfl h9) (cG_X0_at _ E Mo G x0 x1 h10) q525 qG_X0_at (Nat.le_of_ble_eq_true rfl) (Nat.le_of_ble_eq_true rfl) rfl (dj_cat8 (Nat.le_of_ble_eq_true rfl)) dX0_walk_43 ?_
        refine dg_l (fun _ _ _ _ _ _ _ hC => r_iload_n hC dX0_walk_46 rfl (j := 2) rfl) ?_
        obtain ⟨G11, h11, hf⟩ := dh_bd hf
        refine g_putZ fF_X0_337 (fun q => by cases q) (by decide) h11 dX0_walk_47 ?_
        refine dg_l (fun _ _ _ _ _ _ _ hC => r_iconst hC dX0_walk_50 ki_1) ?_
        exact g_zret dX0_walk_51 rfl rfl hf
      · have hf := dh_el hf c8
        refine g_aload_n dX0_walk_24 rfl (j := 0) rfl ?_
        refine g_aload_n dX0_walk_25 rfl (j := 0) rfl ?_
        refine dg_l (fun _ _ _ _ _ _ _ hC => r_iload_n hC dX0_walk_26 rfl (j := 1) rfl) ?_
        obtain ⟨u12, h12, hf⟩ := dh_bd hf
        obtain ⟨p13, h13, hf⟩ := dh_bd hf
        refine g_callV (rc_O (ci := 1) rfl h12) (cG_X0_at _ E Mo G x0 x1 h13) q525 qG_X0_at (Nat.le_of_ble_eq_true rfl) (Nat.le_of_ble_eq_true rfl) rfl (dj_cat8 (Nat.le_of_ble_eq_true rfl)) dX0_walk_27 ?_
        refine g_gets (j := 4) (by decide) (by decide) (fun _ h => ((dk_T h).1 3 (by decide)).1) q1189 dX0_walk_30 ?_
        obtain ⟨u14, h14, hf⟩ := dh_bd hf
        obtain ⟨p15, h15, hf⟩ := dh_bd hf
        refine g_callV (rc_O (ci := 1) rfl h14) (cG_X0_tells_3 _ E Mo G x0 p13 4 h15) q1159 qG_X0_tells_3 (Nat.le_of_ble_eq_true rfl) (Nat.le_of_ble_eq_true rfl) rfl (dj_cat8 (Nat.le_of_ble_eq_true rfl)) dX0_walk_33 ?_
        refine dg_bn (fun _ _ _ _ _ _ _ hC => r_if_ne hC dX0_walk_36 (tgt := 41) (by decide)) (fun c16 => ?_) (fun c16 => ?_)
        · have hf := dh_el hf c16
          refine g_aload_n dX0_walk_41 rfl (j := 0) rfl ?_
          refine dg_l (fun _ _ _ _ _ _ _ hC => r_iload_n hC dX0_walk_42 rfl (j := 1) rfl) ?_
          obtain ⟨u17, h17, hf⟩ := dh_bd hf
          obtain ⟨p18, h18, hf⟩ := dh_bd hf
          refine g_callV (rc_O (ci := 1) rfl h17) (cG_X0_at _ E Mo p15.2 x0 x1 h18) q525 qG_X0_at (Nat.le_of_ble_eq_true rfl) (Nat.le_of_ble_eq_true rfl) rfl (dj_cat8 (Nat.le_of_ble_eq_true rfl)) dX0_walk_43 ?_
          refine dg_l (fun _ _ _ _ _ _ _ hC => r_iload_n hC dX0_walk_46 rfl (j := 2) rfl) ?_
          obtain ⟨G19, h19, hf⟩ := dh_bd hf
          refine g_putZ fF_X0_337 (fun q => by cases q) (by decide) h19 dX0_walk_47 ?_
          refine dg_l (fun _ _ _ _ _ _ _ hC => r_iconst hC dX0_walk_50 ki_1) ?_
          exact g_zret dX0_walk_51 rfl rfl hf
        · have hf := dh_if hf c16
          refine dg_l (fun _ _ _ _ _ _ _ hC => r_iconst hC dX0_walk_39 ki_0) ?_
          exact g_zret dX0_walk_40 rfl rfl hf
theorem cG_X0_walk (l : Launch) (E : dj_E) (Mo : Option dm_M) (G : dg_G) (x0 : Nat) (x1 : Int32) (x2 : Int32) {p : Int32 × dg_G} (h : gG_X0_walk G x0 x1 x2 = some p) : dg_Met l yX0_walk cX0_walk 3 (some .boolean) 7 154 E Mo [dj_v E x0, .int x1, .int x2] G (some (.int p.1)) p.2 :=
  dg_met (plainFor_of_name (by decide)) (by simp only [lg_sl_ref, lg_sl_int, lg_sl_long, lg_sl_nil]; decide) (by simp only [lv_args_ref, lv_args_int, lv_args_long, lv_args_nil]) (wG_X0_walk G x0 x1 x2 h)
theorem qG_X0_walk : dg_cV "DebtorsHouse" yX0_walk cX0_walk 3 (some .boolean) 2 := ⟨q1186, Or.inl q1187, q81, q1188, by decide, by decide, by decide +kernel⟩
/-! DebtorsHouse.hour()I -/
abbrev tG_X0_hour : dg_T := (cX0_hour, 3, RX0, (some .int), 7, 154, "hour", [])
def gG_X0_hour_L16_F (k16 : (dg_G → Nat → Int32 → Option (Int32 × dg_G))) (G : dg_G) (x0 : Nat) (x1 : Int32) : Option (Int32 × dg_G) :=
  (dg_gR G 1 0 x0).bind fun v4 =>
  (dg_gR G 2 8 v4).bind fun v5 =>
  (dg_is G 10 v5).bind fun u6 =>
  (gG_J2_size G v5).bind fun p7 =>
  if p7 ≤ x1 then (
    (dg_gR G 1 0 x0).bind fun v9 =>
    (dg_gI G 2 5 v9).bind fun v10 =>
    (dg_pI G 2 5 v9 (v10 + 1)).bind fun G11 =>
    (dg_gR G11 1 0 x0).bind fun v12 =>
    (dg_gI G11 2 5 v12).bind fun v13 =>
    some (v13, G11))
  else
  (dg_is G 1 x0).bind fun u14 =>
  (gG_X0_at G x0 x1).bind fun p15 =>
  (dg_gI G 3 13 p15).bind fun v16 =>
  if v16 = 0 then (
    k16 G x0 (x1 + 1))
  else
  (dg_is G 1 x0).bind fun u18 =>
  (gG_X0_tells_3 G x0 p15 4).bind fun p19 =>
  if p19.1 = 0 then (
    (dg_gI p19.2 3 6 p15).bind fun v21 =>
    (dg_pI p19.2 3 6 p15 (v21 + 1)).bind fun G22 =>
    k16 G22 x0 (x1 + 1))
  else
  k16 p19.2 x0 (x1 + 1)
theorem wG_X0_hour_L16_F {l : Launch} {E : dj_E} {Mo : Option dm_M} {r : Int32} {G' : dg_G} (k16 : (dg_G → Nat → Int32 → Option (Int32 × dg_G))) (hk16 : ∀ (G : dg_G) (x0 : Nat) (x1 : Int32), k16 G x0 x1 = some (r, G') → dgW tG_X0_hour l E Mo G' (.inr (some (.int r))) G 16 [(0, dj_v E x0), (1, .int x1)] []) (G : dg_G) (x0 : Nat) (x1 : Int32) (hf : gG_X0_hour_L16_F k16 G x0 x1 = some (r, G')) : dgW tG_X0_hour l E Mo G' (.inr (some (.int r))) G 16 [(0, dj_v E x0), (1, .int x1)] [] := by
  unfold gG_X0_hour_L16_F at hf
  refine dg_l (fun _ _ _ _ _ _ _ hC => r_iload_n hC dX0_hour_16 rfl (j := 1) rfl) ?_
  refine g_aload_n dX0_hour_17 rfl (j := 0) rfl ?_
  obtain ⟨v4, h4, hf⟩ := dh_bd hf
  refine g_getR fR_X0_10 (by decide) h4 dX0_hour_18 ?_
  obtain ⟨v5, h5, hf⟩ := dh_bd hf
  refine g_getR fR_X0_51 (by decide) h5 dX0_hour_21 ?_
  obtain ⟨u6, h6, hf⟩ := dh_bd hf
  obtain ⟨p7, h7, hf⟩ := dh_bd hf
  refine g_callV (rc_O (ci := 10) rfl h6) (cG_J2_size _ E Mo G v5 h7) q256 qG_J2_size (Nat.le_of_ble_eq_true rfl) (Nat.le_of_ble_eq_true rfl) rfl (dj_cat8 (Nat.le_of_ble_eq_true rfl)) dX0_hour_24 ?_
  refine dg_b (fun _ _ _ _ _ _ _ hC => r_icmp_ge hC dX0_hour_27 (tgt := 70) (by decide)) (fun c8 => ?_) (fun c8 => ?_)
  · have hf := dh_if hf c8
    refine g_aload_n dX0_hour_70 rfl (j := 0) rfl ?_
    obtain ⟨v9, h9, hf⟩ := dh_bd hf
    refine g_getR fR_X0_10 (by decide) h9 dX0_hour_71 ?_
    refine g_dup dX0_hour_74 ?_
    obtain ⟨v10, h10, hf⟩ := dh_bd hf
    refine g_getI fR_X0_294 (by decide) h10 dX0_hour_75 ?_
    refine dg_l (fun _ _ _ _ _ _ _ hC => r_iconst hC dX0_hour_78 ki_1) ?_
    refine dg_l (fun _ _ _ _ _ _ _ hC => r_iadd hC dX0_hour_79) ?_
    obtain ⟨G11, h11, hf⟩ := dh_bd hf
    refine g_putI fF_X0_294 (fun q => by cases q) (by decide) h11 dX0_hour_80 ?_
    refine g_aload_n dX0_hour_83 rfl (j := 0) rfl ?_
    obtain ⟨v12, h12, hf⟩ := dh_bd hf
    refine g_getR fR_X0_10 (by decide) h12 dX0_hour_84 ?_
    obtain ⟨v13, h13, hf⟩ := dh_bd hf
    refine g_getI fR_X0_294 (by decide) h13 dX0_hour_87 ?_
    exact g_iret dX0_hour_90 rfl hf
  · have hf := dh_el hf c8
    refine g_aload_n dX0_hour_30 rfl (j := 0) rfl ?_
    refine dg_l (fun _ _ _ _ _ _ _ hC => r_iload_n hC dX0_hour_31 rfl (j := 1) rfl) ?_
    obtain ⟨u14, h14, hf⟩ := dh_bd hf
    obtain ⟨p15, h15, hf⟩ := dh_bd hf
    refine g_callV (rc_O (ci := 1) rfl h14) (cG_X0_at _ E Mo G x0 x1 h15) q525 qG_X0_at (Nat.le_of_ble_eq_true rfl) (Nat.le_of_ble_eq_true rfl) rfl (dj_cat8 (Nat.le_of_ble_eq_true rfl)) dX0_hour_32 ?_
    refine g_astore_n (i := 2) (lv1 := [(2, dj_v E p15), (0, dj_v E x0), (1, .int x1)]) dX0_hour_35 rfl (Nat.le_of_ble_eq_true rfl) rfl ?_
    refine g_aload_n dX0_hour_36 rfl (j := 0) rfl ?_
    obtain ⟨v16, h16, hf⟩ := dh_bd hf
    refine g_getI fR_X0_337 (by decide) h16 dX0_hour_37 ?_
    refine dg_b (fun _ _ _ _ _ _ _ hC => r_if_eq hC dX0_hour_40 (tgt := 64) (by decide)) (fun c17 => ?_) (fun c17 => ?_)
    · have hf := dh_if hf c17
      refine dg_l (fun _ _ _ _ _ _ _ hC => r_iinc (lv' := [(1, .int (x1 + 1)), (2, dj_v E p15), (0, dj_v E x0)]) hC dX0_hour_64 (j := 2) rfl (congrArg _ ki_1) (Nat.le_of_ble_eq_true rfl) (by simp only [List.filter, dj_cat] <;> rfl)) ?_
      refine dg_l (fun _ _ _ _ _ _ _ hC => r_goto hC dX0_hour_67 (tgt := 16) (by decide)) ?_
      exact g_sub [2, 0] rfl (hk16 G x0 (x1 + 1) hf)
    · have hf := dh_el hf c17
      refine g_aload_n dX0_hour_43 rfl (j := 1) rfl ?_
      refine g_aload_n dX0_hour_44 rfl (j := 0) rfl ?_
      refine g_gets (j := 4) (by decide) (by decide) (fun _ h => ((dk_T h).1 3 (by decide)).1) q1189 dX0_hour_45 ?_
      obtain ⟨u18, h18, hf⟩ := dh_bd hf
      obtain ⟨p19, h19, hf⟩ := dh_bd hf
      refine g_callV (rc_O (ci := 1) rfl h18) (cG_X0_tells_3 _ E Mo G x0 p15 4 h19) q1159 qG_X0_tells_3 (Nat.le_of_ble_eq_true rfl) (Nat.le_of_ble_eq_true rfl) rfl (dj_cat8 (Nat.le_of_ble_eq_true rfl)) dX0_hour_48 ?_
      refine dg_bn (fun _ _ _ _ _ _ _ hC => r_if_ne hC dX0_hour_51 (tgt := 64) (by decide)) (fun c20 => ?_) (fun c20 => ?_)
      · have hf := dh_el hf c20
        refine dg_l (fun _ _ _ _ _ _ _ hC => r_iinc (lv' := [(1, .int (x1 + 1)), (2, dj_v E p15), (0, dj_v E x0)]) hC dX0_hour_64 (j := 2) rfl (congrArg _ ki_1) (Nat.le_of_ble_eq_true rfl) (by simp only [List.filter, dj_cat] <;> rfl)) ?_
        refine dg_l (fun _ _ _ _ _ _ _ hC => r_goto hC dX0_hour_67 (tgt := 16) (by decide)) ?_
        exact g_sub [2, 0] rfl (hk16 p19.2 x0 (x1 + 1) hf)
      · have hf := dh_if hf c20
        refine g_aload_n dX0_hour_54 rfl (j := 0) rfl ?_
        refine g_dup dX0_hour_55 ?_
        obtain ⟨v21, h21, hf⟩ := dh_bd hf
        refine g_getI fR_X0_347 (by decide) h21 dX0_hour_56 ?_
        refine dg_l (fun _ _ _ _ _ _ _ hC => r_iconst hC dX0_hour_59 ki_1) ?_
        refine dg_l (fun _ _ _ _ _ _ _ hC => r_iadd hC dX0_hour_60) ?_
        obtain ⟨G22, h22, hf⟩ := dh_bd hf
        refine g_putI fF_X0_347 (fun q => by cases q) (by decide) h22 dX0_hour_61 ?_
        refine dg_l (fun _ _ _ _ _ _ _ hC => r_iinc (lv' := [(1, .int (x1 + 1)), (2, dj_v E p15), (0, dj_v E x0)]) hC dX0_hour_64 (j := 2) rfl (congrArg _ ki_1) (Nat.le_of_ble_eq_true rfl) (by simp only [List.filter, dj_cat] <;> rfl)) ?_
        refine dg_l (fun _ _ _ _ _ _ _ hC => r_goto hC dX0_hour_67 (tgt := 16) (by decide)) ?_
        exact g_sub [2, 0] rfl (hk16 G22 x0 (x1 + 1) hf)
def gG_X0_hour_L16 : Nat → dg_G → Nat → Int32 → Option (Int32 × dg_G)
  | 0 => fun _ _ _ => none
  | n + 1 => gG_X0_hour_L16_F (gG_X0_hour_L16 n)
theorem wG_X0_hour_L16 {l : Launch} {E : dj_E} {Mo : Option dm_M} {r : Int32} {G' : dg_G} : ∀ (n : Nat) (G : dg_G) (x0 : Nat) (x1 : Int32) (_ : gG_X0_hour_L16 n G x0 x1 = some (r, G')), dgW tG_X0_hour l E Mo G' (.inr (some (.int r))) G 16 [(0, dj_v E x0), (1, .int x1)] [] := by
  intro n
  induction n with
  | zero => intro G x0 x1 hf; exact dh_no hf
  | succ n ih => intro G x0 x1 hf; exact wG_X0_hour_L16_F (gG_X0_hour_L16 n) ih G x0 x1 hf
def gG_X0_hour (G : dg_G) (x0 : Nat) : Option (Int32 × dg_G) :=
  (dg_gR G 1 0 x0).bind fun v1 =>
  (dg_gI G 2 5 v1).bind fun v2 =>
  if v2 = 23 then (
    some ((-1), G))
  else
  gG_X0_hour_L16 dh_fu G x0 0
theorem wG_X0_hour {l : Launch} {E : dj_E} {Mo : Option dm_M} {r : Int32} {G' : dg_G} (G : dg_G) (x0 : Nat) (hf : gG_X0_hour G x0 = some (r, G')) : dgW tG_X0_hour l E Mo G' (.inr (some (.int r))) G 0 [(0, dj_v E x0)] [] := by
  unfold gG_X0_hour at hf
  refine g_aload_n dX0_hour_0 rfl (j := 0) rfl ?_
  obtain ⟨v1, h1, hf⟩ := dh_bd hf
  refine g_getR fR_X0_10 (by decide) h1 dX0_hour_1 ?_
  obtain ⟨v2, h2, hf⟩ := dh_bd hf
  refine g_getI fR_X0_294 (by decide) h2 dX0_hour_4 ?_
  refine dg_l (fun _ _ _ _ _ _ _ hC => r_bipush hC dX0_hour_7 kb_23) ?_
  refine dg_bn (fun _ _ _ _ _ _ _ hC => r_icmp_ne hC dX0_hour_9 (tgt := 14) (by decide)) (fun c3 => ?_) (fun c3 => ?_)
  · have hf := dh_el hf c3
    refine dg_l (fun _ _ _ _ _ _ _ hC => r_iconst hC dX0_hour_14 ki_0) ?_
    refine dg_l (fun _ _ _ _ _ _ _ hC => r_istore_n (lv' := [(1, .int 0), (0, dj_v E x0)]) hC dX0_hour_15 rfl (Nat.le_of_ble_eq_true rfl) (by simp only [List.filter, dj_cat] <;> rfl)) ?_
    exact g_sub [1, 0] rfl (wG_X0_hour_L16 dh_fu G x0 0 hf)
  · have hf := dh_if hf c3
    refine dg_l (fun _ _ _ _ _ _ _ hC => r_iconst hC dX0_hour_12 ki_m1) ?_
    exact g_iret dX0_hour_13 rfl hf
theorem cG_X0_hour (l : Launch) (E : dj_E) (Mo : Option dm_M) (G : dg_G) (x0 : Nat) {p : Int32 × dg_G} (h : gG_X0_hour G x0 = some p) : dg_Met l yX0_hour cX0_hour 3 (some .int) 7 154 E Mo [dj_v E x0] G (some (.int p.1)) p.2 :=
  dg_met (plainFor_of_name (by decide)) (by simp only [lg_sl_ref, lg_sl_int, lg_sl_long, lg_sl_nil]; decide) (by simp only [lv_args_ref, lv_args_int, lv_args_long, lv_args_nil]) (wG_X0_hour G x0 h)
theorem qG_X0_hour : dg_cV "DebtorsHouse" yX0_hour cX0_hour 3 (some .int) 0 := ⟨q1192, Or.inl q1193, q81, q1194, by decide, by decide, by decide +kernel⟩
/-! DebtorsHouse.turn()I -/
abbrev tG_X0_turn : dg_T := (cX0_turn, 4, RX0, (some .int), 4, 85, "turn", [])
def gG_X0_turn_L4_F (k4 : (Nat → Int32 → Int32 → Option Int32)) (G : dg_G) (x0 : Nat) (x1 : Int32) (x2 : Int32) : Option Int32 :=
  (dg_gR G 1 0 x0).bind fun v1 =>
  (dg_gR G 2 8 v1).bind fun v2 =>
  (dg_is G 10 v2).bind fun u3 =>
  (gG_J2_size G v2).bind fun p4 =>
  if p4 ≤ x2 then (
    some x1)
  else
  (dg_is G 1 x0).bind fun u6 =>
  (gG_X0_at G x0 x2).bind fun p7 =>
  (dg_is G 3 p7).bind fun u8 =>
  (gG_X3_isHeld G p7).bind fun p9 =>
  if p9 = 0 then (
    k4 x0 x1 (x2 + 1))
  else
  if x1 = (-1) then (
    k4 x0 x2 (x2 + 1))
  else
  (dg_gI G 3 7 p7).bind fun v12 =>
  (dg_is G 1 x0).bind fun u13 =>
  (gG_X0_at G x0 x1).bind fun p14 =>
  (dg_gI G 3 7 p14).bind fun v15 =>
  if v12 < v15 then (
    k4 x0 x2 (x2 + 1))
  else
  (dg_gI G 3 7 p7).bind fun v17 =>
  (dg_is G 1 x0).bind fun u18 =>
  (gG_X0_at G x0 x1).bind fun p19 =>
  (dg_gI G 3 7 p19).bind fun v20 =>
  if v17 = v20 then (
    (dg_gI G 3 3 p7).bind fun v22 =>
    (dg_is G 1 x0).bind fun u23 =>
    (gG_X0_at G x0 x1).bind fun p24 =>
    (dg_gI G 3 3 p24).bind fun v25 =>
    if v25 ≤ v22 then (
      k4 x0 x1 (x2 + 1))
    else
    k4 x0 x2 (x2 + 1))
  else
  k4 x0 x1 (x2 + 1)
theorem wG_X0_turn_L4_F {l : Launch} {E : dj_E} {Mo : Option dm_M} {r : Int32} (G : dg_G) (k4 : (Nat → Int32 → Int32 → Option Int32)) (hk4 : ∀ (x0 : Nat) (x1 : Int32) (x2 : Int32), k4 x0 x1 x2 = some r → dgW tG_X0_turn l E Mo G (.inr (some (.int r))) G 4 [(0, dj_v E x0), (1, .int x1), (2, .int x2)] []) (x0 : Nat) (x1 : Int32) (x2 : Int32) (hf : gG_X0_turn_L4_F k4 G x0 x1 x2 = some r) : dgW tG_X0_turn l E Mo G (.inr (some (.int r))) G 4 [(0, dj_v E x0), (1, .int x1), (2, .int x2)] [] := by
  unfold gG_X0_turn_L4_F at hf
  refine dg_l (fun _ _ _ _ _ _ _ hC => r_iload_n hC dX0_turn_4 rfl (j := 2) rfl) ?_
  refine g_aload_n dX0_turn_5 rfl (j := 0) rfl ?_
  obtain ⟨v1, h1, hf⟩ := dh_bd hf
  refine g_getR fR_X0_10 (by decide) h1 dX0_turn_6 ?_
  obtain ⟨v2, h2, hf⟩ := dh_bd hf
  refine g_getR fR_X0_51 (by decide) h2 dX0_turn_9 ?_
  obtain ⟨u3, h3, hf⟩ := dh_bd hf
  obtain ⟨p4, h4, hf⟩ := dh_bd hf
  refine g_callV (rc_O (ci := 10) rfl h3) (cG_J2_size _ E Mo G v2 h4) q256 qG_J2_size (Nat.le_of_ble_eq_true rfl) (Nat.le_of_ble_eq_true rfl) rfl (dj_cat8 (Nat.le_of_ble_eq_true rfl)) dX0_turn_12 ?_
  refine dg_b (fun _ _ _ _ _ _ _ hC => r_icmp_ge hC dX0_turn_15 (tgt := 92) (by decide)) (fun c5 => ?_) (fun c5 => ?_)
  · have hf := dh_if hf c5
    refine dg_l (fun _ _ _ _ _ _ _ hC => r_iload_n hC dX0_turn_92 rfl (j := 1) rfl) ?_
    exact g_iret1 dX0_turn_93 rfl hf
  · have hf := dh_el hf c5
    refine g_aload_n dX0_turn_18 rfl (j := 0) rfl ?_
    refine dg_l (fun _ _ _ _ _ _ _ hC => r_iload_n hC dX0_turn_19 rfl (j := 2) rfl) ?_
    obtain ⟨u6, h6, hf⟩ := dh_bd hf
    obtain ⟨p7, h7, hf⟩ := dh_bd hf
    refine g_callV (rc_O (ci := 1) rfl h6) (cG_X0_at _ E Mo G x0 x2 h7) q525 qG_X0_at (Nat.le_of_ble_eq_true rfl) (Nat.le_of_ble_eq_true rfl) rfl (dj_cat8 (Nat.le_of_ble_eq_true rfl)) dX0_turn_20 ?_
    refine g_astore_n (i := 3) (lv1 := [(3, dj_v E p7), (0, dj_v E x0), (1, .int x1), (2, .int x2)]) dX0_turn_23 rfl (Nat.le_of_ble_eq_true rfl) rfl ?_
    refine g_aload_n dX0_turn_24 rfl (j := 0) rfl ?_
    obtain ⟨u8, h8, hf⟩ := dh_bd hf
    obtain ⟨p9, h9, hf⟩ := dh_bd hf
    refine g_callV (rc_O (ci := 3) rfl h8) (cG_X3_isHeld _ E Mo G p7 h9) q1113 qG_X3_isHeld (Nat.le_of_ble_eq_true rfl) (Nat.le_of_ble_eq_true rfl) rfl (dj_cat8 (Nat.le_of_ble_eq_true rfl)) dX0_turn_25 ?_
    refine dg_bn (fun _ _ _ _ _ _ _ hC => r_if_ne hC dX0_turn_28 (tgt := 34) (by decide)) (fun c10 => ?_) (fun c10 => ?_)
    · have hf := dh_el hf c10
      refine dg_l (fun _ _ _ _ _ _ _ hC => r_iload_n hC dX0_turn_34 rfl (j := 2) rfl) ?_
      refine dg_l (fun _ _ _ _ _ _ _ hC => r_iconst hC dX0_turn_35 ki_m1) ?_
      refine dg_b (fun _ _ _ _ _ _ _ hC => r_icmp_eq hC dX0_turn_36 (tgt := 84) (by decide)) (fun c11 => ?_) (fun c11 => ?_)
      · have hf := dh_if hf c11
        refine dg_l (fun _ _ _ _ _ _ _ hC => r_iload_n hC dX0_turn_84 rfl (j := 3) rfl) ?_
        refine dg_l (fun _ _ _ _ _ _ _ hC => r_istore_n (lv' := [(1, .int x2), (3, dj_v E p7), (0, dj_v E x0), (2, .int x2)]) hC dX0_turn_85 rfl (Nat.le_of_ble_eq_true rfl) (by simp only [List.filter, dj_cat] <;> rfl)) ?_
        refine dg_l (fun _ _ _ _ _ _ _ hC => r_iinc (lv' := [(2, .int (x2 + 1)), (1, .int x2), (3, dj_v E p7), (0, dj_v E x0)]) hC dX0_turn_86 (j := 3) rfl (congrArg _ ki_1) (Nat.le_of_ble_eq_true rfl) rfl) ?_
        refine dg_l (fun _ _ _ _ _ _ _ hC => r_goto hC dX0_turn_89 (tgt := 4) (by decide)) ?_
        exact g_sub [3, 1, 0] rfl (hk4 x0 x2 (x2 + 1) hf)
      · have hf := dh_el hf c11
        refine g_aload_n dX0_turn_39 rfl (j := 0) rfl ?_
        obtain ⟨v12, h12, hf⟩ := dh_bd hf
        refine g_getI fR_X0_350 (by decide) h12 dX0_turn_40 ?_
        refine g_aload_n dX0_turn_43 rfl (j := 1) rfl ?_
        refine dg_l (fun _ _ _ _ _ _ _ hC => r_iload_n hC dX0_turn_44 rfl (j := 2) rfl) ?_
        obtain ⟨u13, h13, hf⟩ := dh_bd hf
        obtain ⟨p14, h14, hf⟩ := dh_bd hf
        refine g_callV (rc_O (ci := 1) rfl h13) (cG_X0_at _ E Mo G x0 x1 h14) q525 qG_X0_at (Nat.le_of_ble_eq_true rfl) (Nat.le_of_ble_eq_true rfl) rfl (dj_cat8 (Nat.le_of_ble_eq_true rfl)) dX0_turn_45 ?_
        obtain ⟨v15, h15, hf⟩ := dh_bd hf
        refine g_getI fR_X0_350 (by decide) h15 dX0_turn_48 ?_
        refine dg_b (fun _ _ _ _ _ _ _ hC => r_icmp_lt hC dX0_turn_51 (tgt := 84) (by decide)) (fun c16 => ?_) (fun c16 => ?_)
        · have hf := dh_if hf c16
          refine dg_l (fun _ _ _ _ _ _ _ hC => r_iload_n hC dX0_turn_84 rfl (j := 3) rfl) ?_
          refine dg_l (fun _ _ _ _ _ _ _ hC => r_istore_n (lv' := [(1, .int x2), (3, dj_v E p7), (0, dj_v E x0), (2, .int x2)]) hC dX0_turn_85 rfl (Nat.le_of_ble_eq_true rfl) (by simp only [List.filter, dj_cat] <;> rfl)) ?_
          refine dg_l (fun _ _ _ _ _ _ _ hC => r_iinc (lv' := [(2, .int (x2 + 1)), (1, .int x2), (3, dj_v E p7), (0, dj_v E x0)]) hC dX0_turn_86 (j := 3) rfl (congrArg _ ki_1) (Nat.le_of_ble_eq_true rfl) rfl) ?_
          refine dg_l (fun _ _ _ _ _ _ _ hC => r_goto hC dX0_turn_89 (tgt := 4) (by decide)) ?_
          exact g_sub [3, 1, 0] rfl (hk4 x0 x2 (x2 + 1) hf)
        · have hf := dh_el hf c16
          refine g_aload_n dX0_turn_54 rfl (j := 0) rfl ?_
          obtain ⟨v17, h17, hf⟩ := dh_bd hf
          refine g_getI fR_X0_350 (by decide) h17 dX0_turn_55 ?_
          refine g_aload_n dX0_turn_58 rfl (j := 1) rfl ?_
          refine dg_l (fun _ _ _ _ _ _ _ hC => r_iload_n hC dX0_turn_59 rfl (j := 2) rfl) ?_
          obtain ⟨u18, h18, hf⟩ := dh_bd hf
          obtain ⟨p19, h19, hf⟩ := dh_bd hf
          refine g_callV (rc_O (ci := 1) rfl h18) (cG_X0_at _ E Mo G x0 x1 h19) q525 qG_X0_at (Nat.le_of_ble_eq_true rfl) (Nat.le_of_ble_eq_true rfl) rfl (dj_cat8 (Nat.le_of_ble_eq_true rfl)) dX0_turn_60 ?_
          obtain ⟨v20, h20, hf⟩ := dh_bd hf
          refine g_getI fR_X0_350 (by decide) h20 dX0_turn_63 ?_
          refine dg_bn (fun _ _ _ _ _ _ _ hC => r_icmp_ne hC dX0_turn_66 (tgt := 86) (by decide)) (fun c21 => ?_) (fun c21 => ?_)
          · have hf := dh_el hf c21
            refine dg_l (fun _ _ _ _ _ _ _ hC => r_iinc (lv' := [(2, .int (x2 + 1)), (3, dj_v E p7), (0, dj_v E x0), (1, .int x1)]) hC dX0_turn_86 (j := 3) rfl (congrArg _ ki_1) (Nat.le_of_ble_eq_true rfl) rfl) ?_
            refine dg_l (fun _ _ _ _ _ _ _ hC => r_goto hC dX0_turn_89 (tgt := 4) (by decide)) ?_
            exact g_sub [2, 3, 0] rfl (hk4 x0 x1 (x2 + 1) hf)
          · have hf := dh_if hf c21
            refine g_aload_n dX0_turn_69 rfl (j := 0) rfl ?_
            obtain ⟨v22, h22, hf⟩ := dh_bd hf
            refine g_getI fR_X0_278 (by decide) h22 dX0_turn_70 ?_
            refine g_aload_n dX0_turn_73 rfl (j := 1) rfl ?_
            refine dg_l (fun _ _ _ _ _ _ _ hC => r_iload_n hC dX0_turn_74 rfl (j := 2) rfl) ?_
            obtain ⟨u23, h23, hf⟩ := dh_bd hf
            obtain ⟨p24, h24, hf⟩ := dh_bd hf
            refine g_callV (rc_O (ci := 1) rfl h23) (cG_X0_at _ E Mo G x0 x1 h24) q525 qG_X0_at (Nat.le_of_ble_eq_true rfl) (Nat.le_of_ble_eq_true rfl) rfl (dj_cat8 (Nat.le_of_ble_eq_true rfl)) dX0_turn_75 ?_
            obtain ⟨v25, h25, hf⟩ := dh_bd hf
            refine g_getI fR_X0_278 (by decide) h25 dX0_turn_78 ?_
            refine dg_b (fun _ _ _ _ _ _ _ hC => r_icmp_ge hC dX0_turn_81 (tgt := 86) (by decide)) (fun c26 => ?_) (fun c26 => ?_)
            · have hf := dh_if hf c26
              refine dg_l (fun _ _ _ _ _ _ _ hC => r_iinc (lv' := [(2, .int (x2 + 1)), (3, dj_v E p7), (0, dj_v E x0), (1, .int x1)]) hC dX0_turn_86 (j := 3) rfl (congrArg _ ki_1) (Nat.le_of_ble_eq_true rfl) rfl) ?_
              refine dg_l (fun _ _ _ _ _ _ _ hC => r_goto hC dX0_turn_89 (tgt := 4) (by decide)) ?_
              exact g_sub [2, 3, 0] rfl (hk4 x0 x1 (x2 + 1) hf)
            · have hf := dh_el hf c26
              refine dg_l (fun _ _ _ _ _ _ _ hC => r_iload_n hC dX0_turn_84 rfl (j := 3) rfl) ?_
              refine dg_l (fun _ _ _ _ _ _ _ hC => r_istore_n (lv' := [(1, .int x2), (3, dj_v E p7), (0, dj_v E x0), (2, .int x2)]) hC dX0_turn_85 rfl (Nat.le_of_ble_eq_true rfl) (by simp only [List.filter, dj_cat] <;> rfl)) ?_
              refine dg_l (fun _ _ _ _ _ _ _ hC => r_iinc (lv' := [(2, .int (x2 + 1)), (1, .int x2), (3, dj_v E p7), (0, dj_v E x0)]) hC dX0_turn_86 (j := 3) rfl (congrArg _ ki_1) (Nat.le_of_ble_eq_true rfl) rfl) ?_
              refine dg_l (fun _ _ _ _ _ _ _ hC => r_goto hC dX0_turn_89 (tgt := 4) (by decide)) ?_
              exact g_sub [3, 1, 0] rfl (hk4 x0 x2 (x2 + 1) hf)
    · have hf := dh_if hf c10
      refine dg_l (fun _ _ _ _ _ _ _ hC => r_goto hC dX0_turn_31 (tgt := 86) (by decide)) ?_
      refine dg_l (fun _ _ _ _ _ _ _ hC => r_iinc (lv' := [(2, .int (x2 + 1)), (3, dj_v E p7), (0, dj_v E x0), (1, .int x1)]) hC dX0_turn_86 (j := 3) rfl (congrArg _ ki_1) (Nat.le_of_ble_eq_true rfl) rfl) ?_
      refine dg_l (fun _ _ _ _ _ _ _ hC => r_goto hC dX0_turn_89 (tgt := 4) (by decide)) ?_
      exact g_sub [2, 3, 0] rfl (hk4 x0 x1 (x2 + 1) hf)
def gG_X0_turn_L4 (G : dg_G) : Nat → Nat → Int32 → Int32 → Option Int32
  | 0 => fun _ _ _ => none
  | n + 1 => gG_X0_turn_L4_F (gG_X0_turn_L4 G n) G
theorem wG_X0_turn_L4 {l : Launch} {E : dj_E} {Mo : Option dm_M} {r : Int32} (G : dg_G) : ∀ (n : Nat) (x0 : Nat) (x1 : Int32) (x2 : Int32) (_ : gG_X0_turn_L4 G n x0 x1 x2 = some r), dgW tG_X0_turn l E Mo G (.inr (some (.int r))) G 4 [(0, dj_v E x0), (1, .int x1), (2, .int x2)] [] := by
  intro n
  induction n with
  | zero => intro x0 x1 x2 hf; exact dh_no hf
  | succ n ih => intro x0 x1 x2 hf; exact wG_X0_turn_L4_F G (gG_X0_turn_L4 G n) ih x0 x1 x2 hf
def gG_X0_turn (G : dg_G) (x0 : Nat) : Option Int32 :=
  gG_X0_turn_L4 G dh_fu x0 (-1) 0
theorem wG_X0_turn {l : Launch} {E : dj_E} {Mo : Option dm_M} {r : Int32} (G : dg_G) (x0 : Nat) (hf : gG_X0_turn G x0 = some r) : dgW tG_X0_turn l E Mo G (.inr (some (.int r))) G 0 [(0, dj_v E x0)] [] := by
  unfold gG_X0_turn at hf
  refine dg_l (fun _ _ _ _ _ _ _ hC => r_iconst hC dX0_turn_0 ki_m1) ?_
  refine dg_l (fun _ _ _ _ _ _ _ hC => r_istore_n (lv' := [(1, .int (-1)), (0, dj_v E x0)]) hC dX0_turn_1 rfl (Nat.le_of_ble_eq_true rfl) (by simp only [List.filter, dj_cat] <;> rfl)) ?_
  refine dg_l (fun _ _ _ _ _ _ _ hC => r_iconst hC dX0_turn_2 ki_0) ?_
  refine dg_l (fun _ _ _ _ _ _ _ hC => r_istore_n (lv' := [(2, .int 0), (1, .int (-1)), (0, dj_v E x0)]) hC dX0_turn_3 rfl (Nat.le_of_ble_eq_true rfl) rfl) ?_
  exact g_sub [2, 1, 0] rfl (wG_X0_turn_L4 G dh_fu x0 (-1) 0 hf)
theorem cG_X0_turn (l : Launch) (E : dj_E) (Mo : Option dm_M) (G : dg_G) (x0 : Nat) {r : Int32} (h : gG_X0_turn G x0 = some r) : dg_Met l yX0_turn cX0_turn 4 (some .int) 4 85 E Mo [dj_v E x0] G (some (.int r)) G :=
  dg_met (plainFor_of_name (by decide)) (by simp only [lg_sl_ref, lg_sl_int, lg_sl_long, lg_sl_nil]; decide) (by simp only [lv_args_ref, lv_args_int, lv_args_long, lv_args_nil]) (wG_X0_turn G x0 h)
theorem qG_X0_turn : dg_cV "DebtorsHouse" yX0_turn cX0_turn 4 (some .int) 0 := ⟨q1196, Or.inl q1197, q81, q1198, by decide, by decide, by decide +kernel⟩
