set_option maxRecDepth 100000
/-! DebtorsHouse.isPerson(I)Z -/
abbrev tG_X0_isPerson : dg_T := (cX0_isPerson, 2, RX0, (some .boolean), 1, 22, "isPerson", [])
def gG_X0_isPerson (G : dg_G) (x0 : Nat) (x1 : Int32) : Option Int32 :=
  (dg_gR G 1 0 x0).bind fun v1 =>
  (dg_gR G 2 8 v1).bind fun v2 =>
  (dg_is G 10 v2).bind fun u3 =>
  (gG_J2_size G v2).bind fun p4 =>
  (gG_X0_isIn G x1 0 (p4 - 1)).bind fun p5 =>
  (dh_bo p5).bind fun u6 =>
  some p5
theorem wG_X0_isPerson {l : Launch} {E : dj_E} {Mo : Option dm_M} {r : Int32} (G : dg_G) (x0 : Nat) (x1 : Int32) (hf : gG_X0_isPerson G x0 x1 = some r) : dgW tG_X0_isPerson l E Mo G (.inr (some (.int r))) G 0 [(0, dj_v E x0), (1, .int x1)] [] := by
  unfold gG_X0_isPerson at hf
  refine dg_l (fun _ _ _ _ _ _ _ hC => r_iload_n hC dX0_isPerson_0 rfl (j := 1) rfl) ?_
  refine dg_l (fun _ _ _ _ _ _ _ hC => r_iconst hC dX0_isPerson_1 ki_0) ?_
  refine g_aload_n dX0_isPerson_2 rfl (j := 0) rfl ?_
  obtain ⟨v1, h1, hf⟩ := dh_bd hf
  refine g_getR fR_X0_10 (by decide) h1 dX0_isPerson_3 ?_
  obtain ⟨v2, h2, hf⟩ := dh_bd hf
  refine g_getR fR_X0_51 (by decide) h2 dX0_isPerson_6 ?_
  obtain ⟨u3, h3, hf⟩ := dh_bd hf
  obtain ⟨p4, h4, hf⟩ := dh_bd hf
  refine g_callV (rc_O (ci := 10) rfl h3) (cG_J2_size _ E Mo G v2 h4) q256 qG_J2_size (Nat.le_of_ble_eq_true rfl) (Nat.le_of_ble_eq_true rfl) rfl (dj_cat8 (Nat.le_of_ble_eq_true rfl)) dX0_isPerson_9 ?_
  refine dg_l (fun _ _ _ _ _ _ _ hC => r_iconst hC dX0_isPerson_12 ki_1) ?_
  refine dg_l (fun _ _ _ _ _ _ _ hC => r_isub hC dX0_isPerson_13) ?_
  obtain ⟨p5, h5, hf⟩ := dh_bd hf
  refine g_callS (cG_X0_isIn _ E Mo G x1 0 (p4 - 1) h5) q261 qG_X0_isIn (Nat.le_of_ble_eq_true rfl) (Nat.le_of_ble_eq_true rfl) rfl (dj_cat8 (Nat.le_of_ble_eq_true rfl)) dX0_isPerson_14 ?_
  obtain ⟨u6, h6, hf⟩ := dh_bd hf
  exact g_zret1 dX0_isPerson_17 rfl (dh_bo_n h6) hf
theorem cG_X0_isPerson (l : Launch) (E : dj_E) (Mo : Option dm_M) (G : dg_G) (x0 : Nat) (x1 : Int32) {r : Int32} (h : gG_X0_isPerson G x0 x1 = some r) : dg_Met l yX0_isPerson cX0_isPerson 2 (some .boolean) 1 22 E Mo [dj_v E x0, .int x1] G (some (.int r)) G :=
  dg_met (plainFor_of_name (by decide)) (by simp only [lg_sl_ref, lg_sl_int, lg_sl_long, lg_sl_nil]; decide) (by simp only [lv_args_ref, lv_args_int, lv_args_long, lv_args_nil]) (wG_X0_isPerson G x0 x1 h)
theorem qG_X0_isPerson : dg_cV "DebtorsHouse" yX0_isPerson cX0_isPerson 2 (some .boolean) 1 := ⟨q404, Or.inl qs4, q81, q405, by decide, by decide, by decide +kernel⟩
/-! DebtorsHouse.areTwo(II)Z -/
abbrev tG_X0_areTwo : dg_T := (cX0_areTwo, 3, RX0, (some .boolean), 2, 43, "areTwo", [])
def gG_X0_areTwo (G : dg_G) (x0 : Nat) (x1 : Int32) (x2 : Int32) : Option Int32 :=
  (dg_is G 1 x0).bind fun u1 =>
  (gG_X0_isPerson G x0 x1).bind fun p2 =>
  if p2 = 0 then (
    some 0)
  else
  (dg_is G 1 x0).bind fun u4 =>
  (gG_X0_isPerson G x0 x2).bind fun p5 =>
  if p5 = 0 then (
    some 0)
  else
  if x1 = x2 then (
    some 0)
  else
  some 1
theorem wG_X0_areTwo {l : Launch} {E : dj_E} {Mo : Option dm_M} {r : Int32} (G : dg_G) (x0 : Nat) (x1 : Int32) (x2 : Int32) (hf : gG_X0_areTwo G x0 x1 x2 = some r) : dgW tG_X0_areTwo l E Mo G (.inr (some (.int r))) G 0 [(0, dj_v E x0), (1, .int x1), (2, .int x2)] [] := by
  unfold gG_X0_areTwo at hf
  refine g_aload_n dX0_areTwo_0 rfl (j := 0) rfl ?_
  refine dg_l (fun _ _ _ _ _ _ _ hC => r_iload_n hC dX0_areTwo_1 rfl (j := 1) rfl) ?_
  obtain ⟨u1, h1, hf⟩ := dh_bd hf
  obtain ⟨p2, h2, hf⟩ := dh_bd hf
  refine g_callV (rc_O (ci := 1) rfl h1) (cG_X0_isPerson _ E Mo G x0 x1 h2) q402 qG_X0_isPerson (Nat.le_of_ble_eq_true rfl) (Nat.le_of_ble_eq_true rfl) rfl (dj_cat8 (Nat.le_of_ble_eq_true rfl)) dX0_areTwo_2 ?_
  refine dg_b (fun _ _ _ _ _ _ _ hC => r_if_eq hC dX0_areTwo_5 (tgt := 25) (by decide)) (fun c3 => ?_) (fun c3 => ?_)
  · have hf := dh_if hf c3
    refine dg_l (fun _ _ _ _ _ _ _ hC => r_iconst hC dX0_areTwo_25 ki_0) ?_
    exact g_zret1 dX0_areTwo_26 rfl rfl hf
  · have hf := dh_el hf c3
    refine g_aload_n dX0_areTwo_8 rfl (j := 0) rfl ?_
    refine dg_l (fun _ _ _ _ _ _ _ hC => r_iload_n hC dX0_areTwo_9 rfl (j := 2) rfl) ?_
    obtain ⟨u4, h4, hf⟩ := dh_bd hf
    obtain ⟨p5, h5, hf⟩ := dh_bd hf
    refine g_callV (rc_O (ci := 1) rfl h4) (cG_X0_isPerson _ E Mo G x0 x2 h5) q402 qG_X0_isPerson (Nat.le_of_ble_eq_true rfl) (Nat.le_of_ble_eq_true rfl) rfl (dj_cat8 (Nat.le_of_ble_eq_true rfl)) dX0_areTwo_10 ?_
    refine dg_b (fun _ _ _ _ _ _ _ hC => r_if_eq hC dX0_areTwo_13 (tgt := 25) (by decide)) (fun c6 => ?_) (fun c6 => ?_)
    · have hf := dh_if hf c6
      refine dg_l (fun _ _ _ _ _ _ _ hC => r_iconst hC dX0_areTwo_25 ki_0) ?_
      exact g_zret1 dX0_areTwo_26 rfl rfl hf
    · have hf := dh_el hf c6
      refine dg_l (fun _ _ _ _ _ _ _ hC => r_iload_n hC dX0_areTwo_16 rfl (j := 1) rfl) ?_
      refine dg_l (fun _ _ _ _ _ _ _ hC => r_iload_n hC dX0_areTwo_17 rfl (j := 2) rfl) ?_
      refine dg_b (fun _ _ _ _ _ _ _ hC => r_icmp_eq hC dX0_areTwo_18 (tgt := 25) (by decide)) (fun c7 => ?_) (fun c7 => ?_)
      · have hf := dh_if hf c7
        refine dg_l (fun _ _ _ _ _ _ _ hC => r_iconst hC dX0_areTwo_25 ki_0) ?_
        exact g_zret1 dX0_areTwo_26 rfl rfl hf
      · have hf := dh_el hf c7
        refine dg_l (fun _ _ _ _ _ _ _ hC => r_iconst hC dX0_areTwo_21 ki_1) ?_
        refine dg_l (fun _ _ _ _ _ _ _ hC => r_goto hC dX0_areTwo_22 (tgt := 26) (by decide)) ?_
        exact g_zret1 dX0_areTwo_26 rfl rfl hf
theorem cG_X0_areTwo (l : Launch) (E : dj_E) (Mo : Option dm_M) (G : dg_G) (x0 : Nat) (x1 : Int32) (x2 : Int32) {r : Int32} (h : gG_X0_areTwo G x0 x1 x2 = some r) : dg_Met l yX0_areTwo cX0_areTwo 3 (some .boolean) 2 43 E Mo [dj_v E x0, .int x1, .int x2] G (some (.int r)) G :=
  dg_met (plainFor_of_name (by decide)) (by simp only [lg_sl_ref, lg_sl_int, lg_sl_long, lg_sl_nil]; decide) (by simp only [lv_args_ref, lv_args_int, lv_args_long, lv_args_nil]) (wG_X0_areTwo G x0 x1 x2 h)
theorem qG_X0_areTwo : dg_cV "DebtorsHouse" yX0_areTwo cX0_areTwo 3 (some .boolean) 2 := ⟨q400, Or.inl qs3, q81, q401, by decide, by decide, by decide +kernel⟩
/-! DebtorsHouse.debt(IIIIII)I -/
abbrev tG_X0_debt : dg_T := (cX0_debt, 7, RX0, (some .int), 7, 157, "debt", [])
def gG_X0_debt (G : dg_G) (x0 : Nat) (x1 : Int32) (x2 : Int32) (x3 : Int32) (x4 : Int32) (x5 : Int32) (x6 : Int32) : Option (Int32 × dg_G) :=
  (dg_gR G 1 0 x0).bind fun v1 =>
  (dg_gR G 2 9 v1).bind fun v2 =>
  (dg_is G 10 v2).bind fun u3 =>
  (gG_J2_size G v2).bind fun p4 =>
  if p4 = 40 then (
    some ((-1), G))
  else
  (dg_is G 1 x0).bind fun u6 =>
  (gG_X0_areTwo G x0 x1 x2).bind fun p7 =>
  if p7 = 0 then (
    some ((-1), G))
  else
  (gG_X0_isIn G x3 1 100000).bind fun p9 =>
  if p9 = 0 then (
    some ((-1), G))
  else
  (gG_X0_isIn G x4 0 3).bind fun p11 =>
  if p11 = 0 then (
    some ((-1), G))
  else
  (gG_X0_isIn G x5 0 200).bind fun p13 =>
  if p13 = 0 then (
    some ((-1), G))
  else
  (dg_gR G 1 0 x0).bind fun v15 =>
  (dg_gI G 2 4 v15).bind fun v16 =>
  (gG_X0_isIn G x6 0 v16).bind fun p17 =>
  if p17 = 0 then (
    some ((-1), G))
  else
  (dg_gR G 1 0 x0).bind fun v19 =>
  (dg_gR G 2 9 v19).bind fun v20 =>
  (dg_gR (dg_nw G 4) 1 0 x0).bind fun v22 =>
  (dg_gR (dg_nw G 4) 2 9 v22).bind fun v23 =>
  (dg_is (dg_nw G 4) 10 v23).bind fun u24 =>
  (gG_J2_size (dg_nw G 4) v23).bind fun p25 =>
  (dg_gR (dg_nw G 4) 1 0 x0).bind fun v26 =>
  (dg_gI (dg_nw G 4) 2 4 v26).bind fun v27 =>
  (dg_pos (dg_n G)).bind fun u28 =>
  (gG_X4_init (dg_nw G 4) (dg_n G) p25 x1 x2 x3 x4 x5 x6 v27).bind fun p29 =>
  (dg_is p29 10 v20).bind fun u30 =>
  (gG_J2_add p29 v20 (dg_n G)).bind fun p31 =>
  (dg_gR p31.2 1 0 x0).bind fun v32 =>
  (dg_gR p31.2 2 9 v32).bind fun v33 =>
  (dg_is p31.2 10 v33).bind fun u34 =>
  (gG_J2_size p31.2 v33).bind fun p35 =>
  some (p35 - 1, p31.2)
theorem wG_X0_debt {l : Launch} {E : dj_E} {Mo : Option dm_M} {r : Int32} {G' : dg_G} (G : dg_G) (x0 : Nat) (x1 : Int32) (x2 : Int32) (x3 : Int32) (x4 : Int32) (x5 : Int32) (x6 : Int32) (hf : gG_X0_debt G x0 x1 x2 x3 x4 x5 x6 = some (r, G')) : dgW tG_X0_debt l E Mo G' (.inr (some (.int r))) G 0 [(0, dj_v E x0), (1, .int x1), (2, .int x2), (3, .int x3), (4, .int x4), (5, .int x5), (6, .int x6)] [] := by
  unfold gG_X0_debt at hf
  refine g_aload_n dX0_debt_0 rfl (j := 0) rfl ?_
  obtain ⟨v1, h1, hf⟩ := dh_bd hf
  refine g_getR fR_X0_10 (by decide) h1 dX0_debt_1 ?_
  obtain ⟨v2, h2, hf⟩ := dh_bd hf
  refine g_getR fR_X0_63 (by decide) h2 dX0_debt_4 ?_
  obtain ⟨u3, h3, hf⟩ := dh_bd hf
  obtain ⟨p4, h4, hf⟩ := dh_bd hf
  refine g_callV (rc_O (ci := 10) rfl h3) (cG_J2_size _ E Mo G v2 h4) q256 qG_J2_size (Nat.le_of_ble_eq_true rfl) (Nat.le_of_ble_eq_true rfl) rfl (dj_cat8 (Nat.le_of_ble_eq_true rfl)) dX0_debt_7 ?_
  refine dg_l (fun _ _ _ _ _ _ _ hC => r_bipush hC dX0_debt_10 kb_40) ?_
  refine dg_b (fun _ _ _ _ _ _ _ hC => r_icmp_eq hC dX0_debt_12 (tgt := 72) (by decide)) (fun c5 => ?_) (fun c5 => ?_)
  · have hf := dh_if hf c5
    refine dg_l (fun _ _ _ _ _ _ _ hC => r_iconst hC dX0_debt_72 ki_m1) ?_
    exact g_iret dX0_debt_73 rfl hf
  · have hf := dh_el hf c5
    refine g_aload_n dX0_debt_15 rfl (j := 0) rfl ?_
    refine dg_l (fun _ _ _ _ _ _ _ hC => r_iload_n hC dX0_debt_16 rfl (j := 1) rfl) ?_
    refine dg_l (fun _ _ _ _ _ _ _ hC => r_iload_n hC dX0_debt_17 rfl (j := 2) rfl) ?_
    obtain ⟨u6, h6, hf⟩ := dh_bd hf
    obtain ⟨p7, h7, hf⟩ := dh_bd hf
    refine g_callV (rc_O (ci := 1) rfl h6) (cG_X0_areTwo _ E Mo G x0 x1 x2 h7) q398 qG_X0_areTwo (Nat.le_of_ble_eq_true rfl) (Nat.le_of_ble_eq_true rfl) rfl (dj_cat8 (Nat.le_of_ble_eq_true rfl)) dX0_debt_18 ?_
    refine dg_b (fun _ _ _ _ _ _ _ hC => r_if_eq hC dX0_debt_21 (tgt := 72) (by decide)) (fun c8 => ?_) (fun c8 => ?_)
    · have hf := dh_if hf c8
      refine dg_l (fun _ _ _ _ _ _ _ hC => r_iconst hC dX0_debt_72 ki_m1) ?_
      exact g_iret dX0_debt_73 rfl hf
    · have hf := dh_el hf c8
      refine dg_l (fun _ _ _ _ _ _ _ hC => r_iload_n hC dX0_debt_24 rfl (j := 3) rfl) ?_
      refine dg_l (fun _ _ _ _ _ _ _ hC => r_iconst hC dX0_debt_25 ki_1) ?_
      refine dg_l (fun _ _ _ _ _ _ _ hC => r_ldc hC q406 dX0_debt_26) ?_
      obtain ⟨p9, h9, hf⟩ := dh_bd hf
      refine g_callS (cG_X0_isIn _ E Mo G x3 1 100000 h9) q261 qG_X0_isIn (Nat.le_of_ble_eq_true rfl) (Nat.le_of_ble_eq_true rfl) rfl (dj_cat8 (Nat.le_of_ble_eq_true rfl)) dX0_debt_28 ?_
      refine dg_b (fun _ _ _ _ _ _ _ hC => r_if_eq hC dX0_debt_31 (tgt := 72) (by decide)) (fun c10 => ?_) (fun c10 => ?_)
      · have hf := dh_if hf c10
        refine dg_l (fun _ _ _ _ _ _ _ hC => r_iconst hC dX0_debt_72 ki_m1) ?_
        exact g_iret dX0_debt_73 rfl hf
      · have hf := dh_el hf c10
        refine dg_l (fun _ _ _ _ _ _ _ hC => r_iload hC dX0_debt_34 (j := 4) rfl) ?_
        refine dg_l (fun _ _ _ _ _ _ _ hC => r_iconst hC dX0_debt_36 ki_0) ?_
        refine dg_l (fun _ _ _ _ _ _ _ hC => r_iconst hC dX0_debt_37 ki_3) ?_
        obtain ⟨p11, h11, hf⟩ := dh_bd hf
        refine g_callS (cG_X0_isIn _ E Mo G x4 0 3 h11) q261 qG_X0_isIn (Nat.le_of_ble_eq_true rfl) (Nat.le_of_ble_eq_true rfl) rfl (dj_cat8 (Nat.le_of_ble_eq_true rfl)) dX0_debt_38 ?_
        refine dg_b (fun _ _ _ _ _ _ _ hC => r_if_eq hC dX0_debt_41 (tgt := 72) (by decide)) (fun c12 => ?_) (fun c12 => ?_)
        · have hf := dh_if hf c12
          refine dg_l (fun _ _ _ _ _ _ _ hC => r_iconst hC dX0_debt_72 ki_m1) ?_
          exact g_iret dX0_debt_73 rfl hf
        · have hf := dh_el hf c12
          refine dg_l (fun _ _ _ _ _ _ _ hC => r_iload hC dX0_debt_44 (j := 5) rfl) ?_
          refine dg_l (fun _ _ _ _ _ _ _ hC => r_iconst hC dX0_debt_46 ki_0) ?_
          refine dg_l (fun _ _ _ _ _ _ _ hC => r_sipush hC dX0_debt_47 ks_200) ?_
          obtain ⟨p13, h13, hf⟩ := dh_bd hf
          refine g_callS (cG_X0_isIn _ E Mo G x5 0 200 h13) q261 qG_X0_isIn (Nat.le_of_ble_eq_true rfl) (Nat.le_of_ble_eq_true rfl) rfl (dj_cat8 (Nat.le_of_ble_eq_true rfl)) dX0_debt_50 ?_
          refine dg_b (fun _ _ _ _ _ _ _ hC => r_if_eq hC dX0_debt_53 (tgt := 72) (by decide)) (fun c14 => ?_) (fun c14 => ?_)
          · have hf := dh_if hf c14
            refine dg_l (fun _ _ _ _ _ _ _ hC => r_iconst hC dX0_debt_72 ki_m1) ?_
            exact g_iret dX0_debt_73 rfl hf
          · have hf := dh_el hf c14
            refine dg_l (fun _ _ _ _ _ _ _ hC => r_iload hC dX0_debt_56 (j := 6) rfl) ?_
            refine dg_l (fun _ _ _ _ _ _ _ hC => r_iconst hC dX0_debt_58 ki_0) ?_
            refine g_aload_n dX0_debt_59 rfl (j := 0) rfl ?_
            obtain ⟨v15, h15, hf⟩ := dh_bd hf
            refine g_getR fR_X0_10 (by decide) h15 dX0_debt_60 ?_
            obtain ⟨v16, h16, hf⟩ := dh_bd hf
            refine g_getI fR_X0_88 (by decide) h16 dX0_debt_63 ?_
            obtain ⟨p17, h17, hf⟩ := dh_bd hf
            refine g_callS (cG_X0_isIn _ E Mo G x6 0 v16 h17) q261 qG_X0_isIn (Nat.le_of_ble_eq_true rfl) (Nat.le_of_ble_eq_true rfl) rfl (dj_cat8 (Nat.le_of_ble_eq_true rfl)) dX0_debt_66 ?_
            refine dg_bn (fun _ _ _ _ _ _ _ hC => r_if_ne hC dX0_debt_69 (tgt := 74) (by decide)) (fun c18 => ?_) (fun c18 => ?_)
            · have hf := dh_el hf c18
              refine g_aload_n dX0_debt_74 rfl (j := 0) rfl ?_
              obtain ⟨v19, h19, hf⟩ := dh_bd hf
              refine g_getR fR_X0_10 (by decide) h19 dX0_debt_75 ?_
              obtain ⟨v20, h20, hf⟩ := dh_bd hf
              refine g_getR fR_X0_63 (by decide) h20 dX0_debt_78 ?_
              refine g_new nI_X0_66 dX0_debt_81 ?_
              refine g_dup dX0_debt_84 ?_
              refine g_aload_n dX0_debt_85 rfl (j := 0) rfl ?_
              obtain ⟨v22, h22, hf⟩ := dh_bd hf
              refine g_getR fR_X0_10 (by decide) h22 dX0_debt_86 ?_
              obtain ⟨v23, h23, hf⟩ := dh_bd hf
              refine g_getR fR_X0_63 (by decide) h23 dX0_debt_89 ?_
              obtain ⟨u24, h24, hf⟩ := dh_bd hf
              obtain ⟨p25, h25, hf⟩ := dh_bd hf
              refine g_callV (rc_O (ci := 10) rfl h24) (cG_J2_size _ E Mo (dg_nw G 4) v23 h25) q256 qG_J2_size (Nat.le_of_ble_eq_true rfl) (Nat.le_of_ble_eq_true rfl) rfl (dj_cat8 (Nat.le_of_ble_eq_true rfl)) dX0_debt_92 ?_
              refine dg_l (fun _ _ _ _ _ _ _ hC => r_iload_n hC dX0_debt_95 rfl (j := 1) rfl) ?_
              refine dg_l (fun _ _ _ _ _ _ _ hC => r_iload_n hC dX0_debt_96 rfl (j := 2) rfl) ?_
              refine dg_l (fun _ _ _ _ _ _ _ hC => r_iload_n hC dX0_debt_97 rfl (j := 3) rfl) ?_
              refine dg_l (fun _ _ _ _ _ _ _ hC => r_iload hC dX0_debt_98 (j := 4) rfl) ?_
              refine dg_l (fun _ _ _ _ _ _ _ hC => r_iload hC dX0_debt_100 (j := 5) rfl) ?_
              refine dg_l (fun _ _ _ _ _ _ _ hC => r_iload hC dX0_debt_102 (j := 6) rfl) ?_
              refine g_aload_n dX0_debt_104 rfl (j := 0) rfl ?_
              obtain ⟨v26, h26, hf⟩ := dh_bd hf
              refine g_getR fR_X0_10 (by decide) h26 dX0_debt_105 ?_
              obtain ⟨v27, h27, hf⟩ := dh_bd hf
              refine g_getI fR_X0_88 (by decide) h27 dX0_debt_108 ?_
              obtain ⟨u28, h28, hf⟩ := dh_bd hf
              obtain ⟨p29, h29, hf⟩ := dh_bd hf
              refine g_callI h28 (cG_X4_init _ E Mo (dg_nw G 4) (dg_n G) p25 x1 x2 x3 x4 x5 x6 v27 h29) q409 qG_X4_init (Nat.le_of_ble_eq_true rfl) (Nat.le_of_ble_eq_true rfl) rfl (dj_cat8 (Nat.le_of_ble_eq_true rfl)) dX0_debt_111 ?_
              obtain ⟨u30, h30, hf⟩ := dh_bd hf
              obtain ⟨p31, h31, hf⟩ := dh_bd hf
              refine g_callV (rc_O (ci := 10) rfl h30) (cG_J2_add _ E Mo p29 v20 (dg_n G) h31) q330 qG_J2_add (Nat.le_of_ble_eq_true rfl) (Nat.le_of_ble_eq_true rfl) rfl (dj_cat8 (Nat.le_of_ble_eq_true rfl)) dX0_debt_114 ?_
              refine dg_l (fun _ _ _ _ _ _ _ hC => r_pop hC dX0_debt_117 rfl) ?_
              refine g_aload_n dX0_debt_118 rfl (j := 0) rfl ?_
              obtain ⟨v32, h32, hf⟩ := dh_bd hf
              refine g_getR fR_X0_10 (by decide) h32 dX0_debt_119 ?_
              obtain ⟨v33, h33, hf⟩ := dh_bd hf
              refine g_getR fR_X0_63 (by decide) h33 dX0_debt_122 ?_
              obtain ⟨u34, h34, hf⟩ := dh_bd hf
              obtain ⟨p35, h35, hf⟩ := dh_bd hf
              refine g_callV (rc_O (ci := 10) rfl h34) (cG_J2_size _ E Mo p31.2 v33 h35) q256 qG_J2_size (Nat.le_of_ble_eq_true rfl) (Nat.le_of_ble_eq_true rfl) rfl (dj_cat8 (Nat.le_of_ble_eq_true rfl)) dX0_debt_125 ?_
              refine dg_l (fun _ _ _ _ _ _ _ hC => r_iconst hC dX0_debt_128 ki_1) ?_
              refine dg_l (fun _ _ _ _ _ _ _ hC => r_isub hC dX0_debt_129) ?_
              exact g_iret dX0_debt_130 rfl hf
            · have hf := dh_if hf c18
              refine dg_l (fun _ _ _ _ _ _ _ hC => r_iconst hC dX0_debt_72 ki_m1) ?_
              exact g_iret dX0_debt_73 rfl hf
theorem cG_X0_debt (l : Launch) (E : dj_E) (Mo : Option dm_M) (G : dg_G) (x0 : Nat) (x1 : Int32) (x2 : Int32) (x3 : Int32) (x4 : Int32) (x5 : Int32) (x6 : Int32) {p : Int32 × dg_G} (h : gG_X0_debt G x0 x1 x2 x3 x4 x5 x6 = some p) : dg_Met l yX0_debt cX0_debt 7 (some .int) 7 157 E Mo [dj_v E x0, .int x1, .int x2, .int x3, .int x4, .int x5, .int x6] G (some (.int p.1)) p.2 :=
  dg_met (plainFor_of_name (by decide)) (by simp only [lg_sl_ref, lg_sl_int, lg_sl_long, lg_sl_nil]; decide) (by simp only [lv_args_ref, lv_args_int, lv_args_long, lv_args_nil]) (wG_X0_debt G x0 x1 x2 x3 x4 x5 x6 h)
theorem qG_X0_debt : dg_cV "DebtorsHouse" yX0_debt cX0_debt 7 (some .int) 6 := ⟨q395, Or.inl q396, q81, q397, by decide, by decide, by decide +kernel⟩
/-! DebtorsHouse.debtAt(I)LDebtorsHouse$Debt; -/
abbrev tG_X0_debtAt : dg_T := (cX0_debtAt, 2, RX0, (some (.object "DebtorsHouse$Debt")), 3, 64, "debtAt", [])
def gG_X0_debtAt (G : dg_G) (x0 : Nat) (x1 : Int32) : Option Nat :=
  (dg_gR G 1 0 x0).bind fun v1 =>
  (dg_gR G 2 9 v1).bind fun v2 =>
  (dg_is G 10 v2).bind fun u3 =>
  (gG_J2_get G v2 x1).bind fun p4 =>
  (dg_cast G 4 p4).bind fun u5 =>
  some p4
theorem wG_X0_debtAt {l : Launch} {E : dj_E} {Mo : Option dm_M} {r : Nat} (G : dg_G) (x0 : Nat) (x1 : Int32) (hf : gG_X0_debtAt G x0 x1 = some r) : dgW tG_X0_debtAt l E Mo G (.inr (some (dj_v E r))) G 0 [(0, dj_v E x0), (1, .int x1)] [] := by
  unfold gG_X0_debtAt at hf
  refine g_aload_n dX0_debtAt_0 rfl (j := 0) rfl ?_
  obtain ⟨v1, h1, hf⟩ := dh_bd hf
  refine g_getR fR_X0_10 (by decide) h1 dX0_debtAt_1 ?_
  obtain ⟨v2, h2, hf⟩ := dh_bd hf
  refine g_getR fR_X0_63 (by decide) h2 dX0_debtAt_4 ?_
  refine dg_l (fun _ _ _ _ _ _ _ hC => r_iload_n hC dX0_debtAt_7 rfl (j := 1) rfl) ?_
  obtain ⟨u3, h3, hf⟩ := dh_bd hf
  obtain ⟨p4, h4, hf⟩ := dh_bd hf
  refine g_callV (rc_O (ci := 10) rfl h3) (cG_J2_get _ E Mo G v2 x1 h4) q489 qG_J2_get (Nat.le_of_ble_eq_true rfl) (Nat.le_of_ble_eq_true rfl) rfl (dj_cat8 (Nat.le_of_ble_eq_true rfl)) dX0_debtAt_8 ?_
  obtain ⟨u5, h5, hf⟩ := dh_bd hf
  refine g_castO (ci := 4) rfl h5 q407 dX0_debtAt_11 ?_
  exact g_aret1 dX0_debtAt_14 rfl (Or.inl ⟨_, rfl⟩) hf
theorem cG_X0_debtAt (l : Launch) (E : dj_E) (Mo : Option dm_M) (G : dg_G) (x0 : Nat) (x1 : Int32) {r : Nat} (h : gG_X0_debtAt G x0 x1 = some r) : dg_Met l yX0_debtAt cX0_debtAt 2 (some (.object "DebtorsHouse$Debt")) 3 64 E Mo [dj_v E x0, .int x1] G (some (dj_v E r)) G :=
  dg_met (plainFor_of_name (by decide)) (by simp only [lg_sl_ref, lg_sl_int, lg_sl_long, lg_sl_nil]; decide) (by simp only [lv_args_ref, lv_args_int, lv_args_long, lv_args_nil]) (wG_X0_debtAt G x0 x1 h)
theorem qG_X0_debtAt : dg_cV "DebtorsHouse" yX0_debtAt cX0_debtAt 2 (some (.object "DebtorsHouse$Debt")) 1 := ⟨q487, Or.inl qs6, q81, q488, by decide, by decide, by decide +kernel⟩
/-! DebtorsHouse.isLive(I)Z -/
abbrev tG_X0_isLive : dg_T := (cX0_isLive, 2, RX0, (some .boolean), 4, 85, "isLive", [])
def gG_X0_isLive (G : dg_G) (x0 : Nat) (x1 : Int32) : Option Int32 :=
  (dg_gR G 1 0 x0).bind fun v1 =>
  (dg_gR G 2 9 v1).bind fun v2 =>
  (dg_is G 10 v2).bind fun u3 =>
  (gG_J2_size G v2).bind fun p4 =>
  (gG_X0_isIn G x1 0 (p4 - 1)).bind fun p5 =>
  if p5 = 0 then (
    some 0)
  else
  (dg_is G 1 x0).bind fun u7 =>
  (gG_X0_debtAt G x0 x1).bind fun p8 =>
  (dg_is G 4 p8).bind fun u9 =>
  (gG_X4_isLive G p8).bind fun p10 =>
  if p10 = 0 then (
    some 0)
  else
  some 1
theorem wG_X0_isLive {l : Launch} {E : dj_E} {Mo : Option dm_M} {r : Int32} (G : dg_G) (x0 : Nat) (x1 : Int32) (hf : gG_X0_isLive G x0 x1 = some r) : dgW tG_X0_isLive l E Mo G (.inr (some (.int r))) G 0 [(0, dj_v E x0), (1, .int x1)] [] := by
  unfold gG_X0_isLive at hf
  refine dg_l (fun _ _ _ _ _ _ _ hC => r_iload_n hC dX0_isLive_0 rfl (j := 1) rfl) ?_
  refine dg_l (fun _ _ _ _ _ _ _ hC => r_iconst hC dX0_isLive_1 ki_0) ?_
  refine g_aload_n dX0_isLive_2 rfl (j := 0) rfl ?_
  obtain ⟨v1, h1, hf⟩ := dh_bd hf
  refine g_getR fR_X0_10 (by decide) h1 dX0_isLive_3 ?_
  obtain ⟨v2, h2, hf⟩ := dh_bd hf
  refine g_getR fR_X0_63 (by decide) h2 dX0_isLive_6 ?_
  obtain ⟨u3, h3, hf⟩ := dh_bd hf
  obtain ⟨p4, h4, hf⟩ := dh_bd hf
  refine g_callV (rc_O (ci := 10) rfl h3) (cG_J2_size _ E Mo G v2 h4) q256 qG_J2_size (Nat.le_of_ble_eq_true rfl) (Nat.le_of_ble_eq_true rfl) rfl (dj_cat8 (Nat.le_of_ble_eq_true rfl)) dX0_isLive_9 ?_
  refine dg_l (fun _ _ _ _ _ _ _ hC => r_iconst hC dX0_isLive_12 ki_1) ?_
  refine dg_l (fun _ _ _ _ _ _ _ hC => r_isub hC dX0_isLive_13) ?_
  obtain ⟨p5, h5, hf⟩ := dh_bd hf
  refine g_callS (cG_X0_isIn _ E Mo G x1 0 (p4 - 1) h5) q261 qG_X0_isIn (Nat.le_of_ble_eq_true rfl) (Nat.le_of_ble_eq_true rfl) rfl (dj_cat8 (Nat.le_of_ble_eq_true rfl)) dX0_isLive_14 ?_
  refine dg_b (fun _ _ _ _ _ _ _ hC => r_if_eq hC dX0_isLive_17 (tgt := 35) (by decide)) (fun c6 => ?_) (fun c6 => ?_)
  · have hf := dh_if hf c6
    refine dg_l (fun _ _ _ _ _ _ _ hC => r_iconst hC dX0_isLive_35 ki_0) ?_
    exact g_zret1 dX0_isLive_36 rfl rfl hf
  · have hf := dh_el hf c6
    refine g_aload_n dX0_isLive_20 rfl (j := 0) rfl ?_
    refine dg_l (fun _ _ _ _ _ _ _ hC => r_iload_n hC dX0_isLive_21 rfl (j := 1) rfl) ?_
    obtain ⟨u7, h7, hf⟩ := dh_bd hf
    obtain ⟨p8, h8, hf⟩ := dh_bd hf
    refine g_callV (rc_O (ci := 1) rfl h7) (cG_X0_debtAt _ E Mo G x0 x1 h8) q485 qG_X0_debtAt (Nat.le_of_ble_eq_true rfl) (Nat.le_of_ble_eq_true rfl) rfl (dj_cat8 (Nat.le_of_ble_eq_true rfl)) dX0_isLive_22 ?_
    obtain ⟨u9, h9, hf⟩ := dh_bd hf
    obtain ⟨p10, h10, hf⟩ := dh_bd hf
    refine g_callV (rc_O (ci := 4) rfl h9) (cG_X4_isLive _ E Mo G p8 h10) q503 qG_X4_isLive (Nat.le_of_ble_eq_true rfl) (Nat.le_of_ble_eq_true rfl) rfl (dj_cat8 (Nat.le_of_ble_eq_true rfl)) dX0_isLive_25 ?_
    refine dg_b (fun _ _ _ _ _ _ _ hC => r_if_eq hC dX0_isLive_28 (tgt := 35) (by decide)) (fun c11 => ?_) (fun c11 => ?_)
    · have hf := dh_if hf c11
      refine dg_l (fun _ _ _ _ _ _ _ hC => r_iconst hC dX0_isLive_35 ki_0) ?_
      exact g_zret1 dX0_isLive_36 rfl rfl hf
    · have hf := dh_el hf c11
      refine dg_l (fun _ _ _ _ _ _ _ hC => r_iconst hC dX0_isLive_31 ki_1) ?_
      refine dg_l (fun _ _ _ _ _ _ _ hC => r_goto hC dX0_isLive_32 (tgt := 36) (by decide)) ?_
      exact g_zret1 dX0_isLive_36 rfl rfl hf
theorem cG_X0_isLive (l : Launch) (E : dj_E) (Mo : Option dm_M) (G : dg_G) (x0 : Nat) (x1 : Int32) {r : Int32} (h : gG_X0_isLive G x0 x1 = some r) : dg_Met l yX0_isLive cX0_isLive 2 (some .boolean) 4 85 E Mo [dj_v E x0, .int x1] G (some (.int r)) G :=
  dg_met (plainFor_of_name (by decide)) (by simp only [lg_sl_ref, lg_sl_int, lg_sl_long, lg_sl_nil]; decide) (by simp only [lv_args_ref, lv_args_int, lv_args_long, lv_args_nil]) (wG_X0_isLive G x0 x1 h)
theorem qG_X0_isLive : dg_cV "DebtorsHouse" yX0_isLive cX0_isLive 2 (some .boolean) 1 := ⟨q483, Or.inl qs5, q81, q484, by decide, by decide, by decide +kernel⟩
/-! DebtorsHouse.due(I)I -/
abbrev tG_X0_due : dg_T := (cX0_due, 2, RX0, (some .int), 4, 85, "due", [])
def gG_X0_due (G : dg_G) (x0 : Nat) (x1 : Int32) : Option Int32 :=
  (dg_is G 1 x0).bind fun u1 =>
  (gG_X0_debtAt G x0 x1).bind fun p2 =>
  (dg_gR G 1 0 x0).bind fun v3 =>
  (dg_gI G 2 4 v3).bind fun v4 =>
  (dg_is G 4 p2).bind fun u5 =>
  (gG_X4_due G p2 v4).bind fun p6 =>
  some p6
theorem wG_X0_due {l : Launch} {E : dj_E} {Mo : Option dm_M} {r : Int32} (G : dg_G) (x0 : Nat) (x1 : Int32) (hf : gG_X0_due G x0 x1 = some r) : dgW tG_X0_due l E Mo G (.inr (some (.int r))) G 0 [(0, dj_v E x0), (1, .int x1)] [] := by
  unfold gG_X0_due at hf
  refine g_aload_n dX0_due_0 rfl (j := 0) rfl ?_
  refine dg_l (fun _ _ _ _ _ _ _ hC => r_iload_n hC dX0_due_1 rfl (j := 1) rfl) ?_
  obtain ⟨u1, h1, hf⟩ := dh_bd hf
  obtain ⟨p2, h2, hf⟩ := dh_bd hf
  refine g_callV (rc_O (ci := 1) rfl h1) (cG_X0_debtAt _ E Mo G x0 x1 h2) q485 qG_X0_debtAt (Nat.le_of_ble_eq_true rfl) (Nat.le_of_ble_eq_true rfl) rfl (dj_cat8 (Nat.le_of_ble_eq_true rfl)) dX0_due_2 ?_
  refine g_aload_n dX0_due_5 rfl (j := 0) rfl ?_
  obtain ⟨v3, h3, hf⟩ := dh_bd hf
  refine g_getR fR_X0_10 (by decide) h3 dX0_due_6 ?_
  obtain ⟨v4, h4, hf⟩ := dh_bd hf
  refine g_getI fR_X0_88 (by decide) h4 dX0_due_9 ?_
  obtain ⟨u5, h5, hf⟩ := dh_bd hf
  obtain ⟨p6, h6, hf⟩ := dh_bd hf
  refine g_callV (rc_O (ci := 4) rfl h5) (cG_X4_due _ E Mo G p2 v4 h6) q511 qG_X4_due (Nat.le_of_ble_eq_true rfl) (Nat.le_of_ble_eq_true rfl) rfl (dj_cat8 (Nat.le_of_ble_eq_true rfl)) dX0_due_12 ?_
  exact g_iret1 dX0_due_15 rfl hf
theorem cG_X0_due (l : Launch) (E : dj_E) (Mo : Option dm_M) (G : dg_G) (x0 : Nat) (x1 : Int32) {r : Int32} (h : gG_X0_due G x0 x1 = some r) : dg_Met l yX0_due cX0_due 2 (some .int) 4 85 E Mo [dj_v E x0, .int x1] G (some (.int r)) G :=
  dg_met (plainFor_of_name (by decide)) (by simp only [lg_sl_ref, lg_sl_int, lg_sl_long, lg_sl_nil]; decide) (by simp only [lv_args_ref, lv_args_int, lv_args_long, lv_args_nil]) (wG_X0_due G x0 x1 h)
theorem qG_X0_due : dg_cV "DebtorsHouse" yX0_due cX0_due 2 (some .int) 1 := ⟨q509, Or.inl qs7, q81, q510, by decide, by decide, by decide +kernel⟩
/-! DebtorsHouse.costs(II)I -/
abbrev tG_X0_costs : dg_T := (cX0_costs, 3, RX0, (some .int), 5, 106, "costs", [])
def gG_X0_costs (G : dg_G) (x0 : Nat) (x1 : Int32) (x2 : Int32) : Option (Int32 × dg_G) :=
  (dg_is G 1 x0).bind fun u1 =>
  (gG_X0_isLive G x0 x1).bind fun p2 =>
  if p2 = 0 then (
    some ((-1), G))
  else
  (gG_X0_isIn G x2 1 10000).bind fun p4 =>
  if p4 = 0 then (
    some ((-1), G))
  else
  (dg_is G 1 x0).bind fun u6 =>
  (gG_X0_debtAt G x0 x1).bind fun p7 =>
  (dg_gI G 4 10 p7).bind fun v8 =>
  (dg_pI G 4 10 p7 (v8 + x2)).bind fun G9 =>
  (dg_is G9 1 x0).bind fun u10 =>
  (gG_X0_due G9 x0 x1).bind fun p11 =>
  some (p11, G9)
theorem wG_X0_costs {l : Launch} {E : dj_E} {Mo : Option dm_M} {r : Int32} {G' : dg_G} (G : dg_G) (x0 : Nat) (x1 : Int32) (x2 : Int32) (hf : gG_X0_costs G x0 x1 x2 = some (r, G')) : dgW tG_X0_costs l E Mo G' (.inr (some (.int r))) G 0 [(0, dj_v E x0), (1, .int x1), (2, .int x2)] [] := by
  unfold gG_X0_costs at hf
  refine g_aload_n dX0_costs_0 rfl (j := 0) rfl ?_
  refine dg_l (fun _ _ _ _ _ _ _ hC => r_iload_n hC dX0_costs_1 rfl (j := 1) rfl) ?_
  obtain ⟨u1, h1, hf⟩ := dh_bd hf
  obtain ⟨p2, h2, hf⟩ := dh_bd hf
  refine g_callV (rc_O (ci := 1) rfl h1) (cG_X0_isLive _ E Mo G x0 x1 h2) q481 qG_X0_isLive (Nat.le_of_ble_eq_true rfl) (Nat.le_of_ble_eq_true rfl) rfl (dj_cat8 (Nat.le_of_ble_eq_true rfl)) dX0_costs_2 ?_
  refine dg_b (fun _ _ _ _ _ _ _ hC => r_if_eq hC dX0_costs_5 (tgt := 19) (by decide)) (fun c3 => ?_) (fun c3 => ?_)
  · have hf := dh_if hf c3
    refine dg_l (fun _ _ _ _ _ _ _ hC => r_iconst hC dX0_costs_19 ki_m1) ?_
    exact g_iret dX0_costs_20 rfl hf
  · have hf := dh_el hf c3
    refine dg_l (fun _ _ _ _ _ _ _ hC => r_iload_n hC dX0_costs_8 rfl (j := 2) rfl) ?_
    refine dg_l (fun _ _ _ _ _ _ _ hC => r_iconst hC dX0_costs_9 ki_1) ?_
    refine dg_l (fun _ _ _ _ _ _ _ hC => r_sipush hC dX0_costs_10 ks_10000) ?_
    obtain ⟨p4, h4, hf⟩ := dh_bd hf
    refine g_callS (cG_X0_isIn _ E Mo G x2 1 10000 h4) q261 qG_X0_isIn (Nat.le_of_ble_eq_true rfl) (Nat.le_of_ble_eq_true rfl) rfl (dj_cat8 (Nat.le_of_ble_eq_true rfl)) dX0_costs_13 ?_
    refine dg_bn (fun _ _ _ _ _ _ _ hC => r_if_ne hC dX0_costs_16 (tgt := 21) (by decide)) (fun c5 => ?_) (fun c5 => ?_)
    · have hf := dh_el hf c5
      refine g_aload_n dX0_costs_21 rfl (j := 0) rfl ?_
      refine dg_l (fun _ _ _ _ _ _ _ hC => r_iload_n hC dX0_costs_22 rfl (j := 1) rfl) ?_
      obtain ⟨u6, h6, hf⟩ := dh_bd hf
      obtain ⟨p7, h7, hf⟩ := dh_bd hf
      refine g_callV (rc_O (ci := 1) rfl h6) (cG_X0_debtAt _ E Mo G x0 x1 h7) q485 qG_X0_debtAt (Nat.le_of_ble_eq_true rfl) (Nat.le_of_ble_eq_true rfl) rfl (dj_cat8 (Nat.le_of_ble_eq_true rfl)) dX0_costs_23 ?_
      refine g_dup dX0_costs_26 ?_
      obtain ⟨v8, h8, hf⟩ := dh_bd hf
      refine g_getI fR_X0_114 (by decide) h8 dX0_costs_27 ?_
      refine dg_l (fun _ _ _ _ _ _ _ hC => r_iload_n hC dX0_costs_30 rfl (j := 2) rfl) ?_
      refine dg_l (fun _ _ _ _ _ _ _ hC => r_iadd hC dX0_costs_31) ?_
      obtain ⟨G9, h9, hf⟩ := dh_bd hf
      refine g_putI fF_X0_114 (fun q => by cases q) (by decide) h9 dX0_costs_32 ?_
      refine g_aload_n dX0_costs_35 rfl (j := 0) rfl ?_
      refine dg_l (fun _ _ _ _ _ _ _ hC => r_iload_n hC dX0_costs_36 rfl (j := 1) rfl) ?_
      obtain ⟨u10, h10, hf⟩ := dh_bd hf
      obtain ⟨p11, h11, hf⟩ := dh_bd hf
      refine g_callV (rc_O (ci := 1) rfl h10) (cG_X0_due _ E Mo G9 x0 x1 h11) q507 qG_X0_due (Nat.le_of_ble_eq_true rfl) (Nat.le_of_ble_eq_true rfl) rfl (dj_cat8 (Nat.le_of_ble_eq_true rfl)) dX0_costs_37 ?_
      exact g_iret dX0_costs_40 rfl hf
    · have hf := dh_if hf c5
      refine dg_l (fun _ _ _ _ _ _ _ hC => r_iconst hC dX0_costs_19 ki_m1) ?_
      exact g_iret dX0_costs_20 rfl hf
theorem cG_X0_costs (l : Launch) (E : dj_E) (Mo : Option dm_M) (G : dg_G) (x0 : Nat) (x1 : Int32) (x2 : Int32) {p : Int32 × dg_G} (h : gG_X0_costs G x0 x1 x2 = some p) : dg_Met l yX0_costs cX0_costs 3 (some .int) 5 106 E Mo [dj_v E x0, .int x1, .int x2] G (some (.int p.1)) p.2 :=
  dg_met (plainFor_of_name (by decide)) (by simp only [lg_sl_ref, lg_sl_int, lg_sl_long, lg_sl_nil]; decide) (by simp only [lv_args_ref, lv_args_int, lv_args_long, lv_args_nil]) (wG_X0_costs G x0 x1 x2 h)
theorem qG_X0_costs : dg_cV "DebtorsHouse" yX0_costs cX0_costs 3 (some .int) 2 := ⟨q478, Or.inl q479, q81, q480, by decide, by decide, by decide +kernel⟩
/-! DebtorsHouse.at(I)LDebtorsHouse$Person; -/
abbrev tG_X0_at : dg_T := (cX0_at, 2, RX0, (some (.object "DebtorsHouse$Person")), 3, 64, "at", [])
def gG_X0_at (G : dg_G) (x0 : Nat) (x1 : Int32) : Option Nat :=
  (dg_gR G 1 0 x0).bind fun v1 =>
  (dg_gR G 2 8 v1).bind fun v2 =>
  (dg_is G 10 v2).bind fun u3 =>
  (gG_J2_get G v2 x1).bind fun p4 =>
  (dg_cast G 3 p4).bind fun u5 =>
  some p4
theorem wG_X0_at {l : Launch} {E : dj_E} {Mo : Option dm_M} {r : Nat} (G : dg_G) (x0 : Nat) (x1 : Int32) (hf : gG_X0_at G x0 x1 = some r) : dgW tG_X0_at l E Mo G (.inr (some (dj_v E r))) G 0 [(0, dj_v E x0), (1, .int x1)] [] := by
  unfold gG_X0_at at hf
  refine g_aload_n dX0_at_0 rfl (j := 0) rfl ?_
  obtain ⟨v1, h1, hf⟩ := dh_bd hf
  refine g_getR fR_X0_10 (by decide) h1 dX0_at_1 ?_
  obtain ⟨v2, h2, hf⟩ := dh_bd hf
  refine g_getR fR_X0_51 (by decide) h2 dX0_at_4 ?_
  refine dg_l (fun _ _ _ _ _ _ _ hC => r_iload_n hC dX0_at_7 rfl (j := 1) rfl) ?_
  obtain ⟨u3, h3, hf⟩ := dh_bd hf
  obtain ⟨p4, h4, hf⟩ := dh_bd hf
  refine g_callV (rc_O (ci := 10) rfl h3) (cG_J2_get _ E Mo G v2 x1 h4) q489 qG_J2_get (Nat.le_of_ble_eq_true rfl) (Nat.le_of_ble_eq_true rfl) rfl (dj_cat8 (Nat.le_of_ble_eq_true rfl)) dX0_at_8 ?_
  obtain ⟨u5, h5, hf⟩ := dh_bd hf
  refine g_castO (ci := 3) rfl h5 q264 dX0_at_11 ?_
  exact g_aret1 dX0_at_14 rfl (Or.inl ⟨_, rfl⟩) hf
theorem cG_X0_at (l : Launch) (E : dj_E) (Mo : Option dm_M) (G : dg_G) (x0 : Nat) (x1 : Int32) {r : Nat} (h : gG_X0_at G x0 x1 = some r) : dg_Met l yX0_at cX0_at 2 (some (.object "DebtorsHouse$Person")) 3 64 E Mo [dj_v E x0, .int x1] G (some (dj_v E r)) G :=
  dg_met (plainFor_of_name (by decide)) (by simp only [lg_sl_ref, lg_sl_int, lg_sl_long, lg_sl_nil]; decide) (by simp only [lv_args_ref, lv_args_int, lv_args_long, lv_args_nil]) (wG_X0_at G x0 x1 h)
theorem qG_X0_at : dg_cV "DebtorsHouse" yX0_at cX0_at 2 (some (.object "DebtorsHouse$Person")) 1 := ⟨q527, Or.inl qs8, q81, q528, by decide, by decide, by decide +kernel⟩
/-! DebtorsHouse.creditorsOf(I)I -/
abbrev tG_X0_creditorsOf : dg_T := (cX0_creditorsOf, 4, RX0, (some .int), 4, 85, "creditorsOf", [])
def gG_X0_creditorsOf_L4_F (k4 : (Nat → Int32 → Int32 → Int32 → Option Int32)) (G : dg_G) (x0 : Nat) (x1 : Int32) (x2 : Int32) (x3 : Int32) : Option Int32 :=
  (dg_gR G 1 0 x0).bind fun v1 =>
  (dg_gR G 2 9 v1).bind fun v2 =>
  (dg_is G 10 v2).bind fun u3 =>
  (gG_J2_size G v2).bind fun p4 =>
  if p4 ≤ x3 then (
    some x2)
  else
  (dg_is G 1 x0).bind fun u6 =>
  (gG_X0_debtAt G x0 x3).bind fun p7 =>
  (dg_is G 4 p7).bind fun u8 =>
  (gG_X4_isLive G p7).bind fun p9 =>
  if p9 = 0 then (
    k4 x0 x1 x2 (x3 + 1))
  else
  (dg_is G 1 x0).bind fun u11 =>
  (gG_X0_debtAt G x0 x3).bind fun p12 =>
  (dg_gI G 4 1 p12).bind fun v13 =>
  if v13 = x1 then (
    (dg_is G 1 x0).bind fun u15 =>
    (gG_X0_debtAt G x0 x3).bind fun p16 =>
    (dg_gI G 4 7 p16).bind fun v17 =>
    k4 x0 x1 (x2 ||| (1 <<< (v17 &&& 31))) (x3 + 1))
  else
  k4 x0 x1 x2 (x3 + 1)
theorem wG_X0_creditorsOf_L4_F {l : Launch} {E : dj_E} {Mo : Option dm_M} {r : Int32} (G : dg_G) (k4 : (Nat → Int32 → Int32 → Int32 → Option Int32)) (hk4 : ∀ (x0 : Nat) (x1 : Int32) (x2 : Int32) (x3 : Int32), k4 x0 x1 x2 x3 = some r → dgW tG_X0_creditorsOf l E Mo G (.inr (some (.int r))) G 4 [(0, dj_v E x0), (1, .int x1), (2, .int x2), (3, .int x3)] []) (x0 : Nat) (x1 : Int32) (x2 : Int32) (x3 : Int32) (hf : gG_X0_creditorsOf_L4_F k4 G x0 x1 x2 x3 = some r) : dgW tG_X0_creditorsOf l E Mo G (.inr (some (.int r))) G 4 [(0, dj_v E x0), (1, .int x1), (2, .int x2), (3, .int x3)] [] := by
  unfold gG_X0_creditorsOf_L4_F at hf
  refine dg_l (fun _ _ _ _ _ _ _ hC => r_iload_n hC dX0_creditorsOf_4 rfl (j := 3) rfl) ?_
  refine g_aload_n dX0_creditorsOf_5 rfl (j := 0) rfl ?_
  obtain ⟨v1, h1, hf⟩ := dh_bd hf
  refine g_getR fR_X0_10 (by decide) h1 dX0_creditorsOf_6 ?_
  obtain ⟨v2, h2, hf⟩ := dh_bd hf
  refine g_getR fR_X0_63 (by decide) h2 dX0_creditorsOf_9 ?_
  obtain ⟨u3, h3, hf⟩ := dh_bd hf
  obtain ⟨p4, h4, hf⟩ := dh_bd hf
  refine g_callV (rc_O (ci := 10) rfl h3) (cG_J2_size _ E Mo G v2 h4) q256 qG_J2_size (Nat.le_of_ble_eq_true rfl) (Nat.le_of_ble_eq_true rfl) rfl (dj_cat8 (Nat.le_of_ble_eq_true rfl)) dX0_creditorsOf_12 ?_
  refine dg_b (fun _ _ _ _ _ _ _ hC => r_icmp_ge hC dX0_creditorsOf_15 (tgt := 60) (by decide)) (fun c5 => ?_) (fun c5 => ?_)
  · have hf := dh_if hf c5
    refine dg_l (fun _ _ _ _ _ _ _ hC => r_iload_n hC dX0_creditorsOf_60 rfl (j := 2) rfl) ?_
    exact g_iret1 dX0_creditorsOf_61 rfl hf
  · have hf := dh_el hf c5
    refine g_aload_n dX0_creditorsOf_18 rfl (j := 0) rfl ?_
    refine dg_l (fun _ _ _ _ _ _ _ hC => r_iload_n hC dX0_creditorsOf_19 rfl (j := 3) rfl) ?_
    obtain ⟨u6, h6, hf⟩ := dh_bd hf
    obtain ⟨p7, h7, hf⟩ := dh_bd hf
    refine g_callV (rc_O (ci := 1) rfl h6) (cG_X0_debtAt _ E Mo G x0 x3 h7) q485 qG_X0_debtAt (Nat.le_of_ble_eq_true rfl) (Nat.le_of_ble_eq_true rfl) rfl (dj_cat8 (Nat.le_of_ble_eq_true rfl)) dX0_creditorsOf_20 ?_
    obtain ⟨u8, h8, hf⟩ := dh_bd hf
    obtain ⟨p9, h9, hf⟩ := dh_bd hf
    refine g_callV (rc_O (ci := 4) rfl h8) (cG_X4_isLive _ E Mo G p7 h9) q503 qG_X4_isLive (Nat.le_of_ble_eq_true rfl) (Nat.le_of_ble_eq_true rfl) rfl (dj_cat8 (Nat.le_of_ble_eq_true rfl)) dX0_creditorsOf_23 ?_
    refine dg_b (fun _ _ _ _ _ _ _ hC => r_if_eq hC dX0_creditorsOf_26 (tgt := 54) (by decide)) (fun c10 => ?_) (fun c10 => ?_)
    · have hf := dh_if hf c10
      refine dg_l (fun _ _ _ _ _ _ _ hC => r_iinc (lv' := [(3, .int (x3 + 1)), (0, dj_v E x0), (1, .int x1), (2, .int x2)]) hC dX0_creditorsOf_54 (j := 3) rfl (congrArg _ ki_1) (Nat.le_of_ble_eq_true rfl) rfl) ?_
      refine dg_l (fun _ _ _ _ _ _ _ hC => r_goto hC dX0_creditorsOf_57 (tgt := 4) (by decide)) ?_
      exact g_sub [1, 2, 3, 0] rfl (hk4 x0 x1 x2 (x3 + 1) hf)
    · have hf := dh_el hf c10
      refine g_aload_n dX0_creditorsOf_29 rfl (j := 0) rfl ?_
      refine dg_l (fun _ _ _ _ _ _ _ hC => r_iload_n hC dX0_creditorsOf_30 rfl (j := 3) rfl) ?_
      obtain ⟨u11, h11, hf⟩ := dh_bd hf
      obtain ⟨p12, h12, hf⟩ := dh_bd hf
      refine g_callV (rc_O (ci := 1) rfl h11) (cG_X0_debtAt _ E Mo G x0 x3 h12) q485 qG_X0_debtAt (Nat.le_of_ble_eq_true rfl) (Nat.le_of_ble_eq_true rfl) rfl (dj_cat8 (Nat.le_of_ble_eq_true rfl)) dX0_creditorsOf_31 ?_
      obtain ⟨v13, h13, hf⟩ := dh_bd hf
      refine g_getI fR_X0_128 (by decide) h13 dX0_creditorsOf_34 ?_
      refine dg_l (fun _ _ _ _ _ _ _ hC => r_iload_n hC dX0_creditorsOf_37 rfl (j := 1) rfl) ?_
      refine dg_bn (fun _ _ _ _ _ _ _ hC => r_icmp_ne hC dX0_creditorsOf_38 (tgt := 54) (by decide)) (fun c14 => ?_) (fun c14 => ?_)
      · have hf := dh_el hf c14
        refine dg_l (fun _ _ _ _ _ _ _ hC => r_iinc (lv' := [(3, .int (x3 + 1)), (0, dj_v E x0), (1, .int x1), (2, .int x2)]) hC dX0_creditorsOf_54 (j := 3) rfl (congrArg _ ki_1) (Nat.le_of_ble_eq_true rfl) rfl) ?_
        refine dg_l (fun _ _ _ _ _ _ _ hC => r_goto hC dX0_creditorsOf_57 (tgt := 4) (by decide)) ?_
        exact g_sub [1, 2, 3, 0] rfl (hk4 x0 x1 x2 (x3 + 1) hf)
      · have hf := dh_if hf c14
        refine dg_l (fun _ _ _ _ _ _ _ hC => r_iload_n hC dX0_creditorsOf_41 rfl (j := 2) rfl) ?_
        refine dg_l (fun _ _ _ _ _ _ _ hC => r_iconst hC dX0_creditorsOf_42 ki_1) ?_
        refine g_aload_n dX0_creditorsOf_43 rfl (j := 0) rfl ?_
        refine dg_l (fun _ _ _ _ _ _ _ hC => r_iload_n hC dX0_creditorsOf_44 rfl (j := 3) rfl) ?_
        obtain ⟨u15, h15, hf⟩ := dh_bd hf
        obtain ⟨p16, h16, hf⟩ := dh_bd hf
        refine g_callV (rc_O (ci := 1) rfl h15) (cG_X0_debtAt _ E Mo G x0 x3 h16) q485 qG_X0_debtAt (Nat.le_of_ble_eq_true rfl) (Nat.le_of_ble_eq_true rfl) rfl (dj_cat8 (Nat.le_of_ble_eq_true rfl)) dX0_creditorsOf_45 ?_
        obtain ⟨v17, h17, hf⟩ := dh_bd hf
        refine g_getI fR_X0_131 (by decide) h17 dX0_creditorsOf_48 ?_
        refine dg_l (fun _ _ _ _ _ _ _ hC => r_ishl hC dX0_creditorsOf_51) ?_
        refine dg_l (fun _ _ _ _ _ _ _ hC => r_ior hC dX0_creditorsOf_52) ?_
        refine dg_l (fun _ _ _ _ _ _ _ hC => r_istore_n (lv' := [(2, .int (x2 ||| (1 <<< (v17 &&& 31)))), (0, dj_v E x0), (1, .int x1), (3, .int x3)]) hC dX0_creditorsOf_53 rfl (Nat.le_of_ble_eq_true rfl) rfl) ?_
        refine dg_l (fun _ _ _ _ _ _ _ hC => r_iinc (lv' := [(3, .int (x3 + 1)), (2, .int (x2 ||| (1 <<< (v17 &&& 31)))), (0, dj_v E x0), (1, .int x1)]) hC dX0_creditorsOf_54 (j := 3) rfl (congrArg _ ki_1) (Nat.le_of_ble_eq_true rfl) rfl) ?_
        refine dg_l (fun _ _ _ _ _ _ _ hC => r_goto hC dX0_creditorsOf_57 (tgt := 4) (by decide)) ?_
        exact g_sub [2, 3, 1, 0] rfl (hk4 x0 x1 (x2 ||| (1 <<< (v17 &&& 31))) (x3 + 1) hf)
def gG_X0_creditorsOf_L4 (G : dg_G) : Nat → Nat → Int32 → Int32 → Int32 → Option Int32
  | 0 => fun _ _ _ _ => none
  | n + 1 => gG_X0_creditorsOf_L4_F (gG_X0_creditorsOf_L4 G n) G
theorem wG_X0_creditorsOf_L4 {l : Launch} {E : dj_E} {Mo : Option dm_M} {r : Int32} (G : dg_G) : ∀ (n : Nat) (x0 : Nat) (x1 : Int32) (x2 : Int32) (x3 : Int32) (_ : gG_X0_creditorsOf_L4 G n x0 x1 x2 x3 = some r), dgW tG_X0_creditorsOf l E Mo G (.inr (some (.int r))) G 4 [(0, dj_v E x0), (1, .int x1), (2, .int x2), (3, .int x3)] [] := by
  intro n
  induction n with
  | zero => intro x0 x1 x2 x3 hf; exact dh_no hf
  | succ n ih => intro x0 x1 x2 x3 hf; exact wG_X0_creditorsOf_L4_F G (gG_X0_creditorsOf_L4 G n) ih x0 x1 x2 x3 hf
def gG_X0_creditorsOf (G : dg_G) (x0 : Nat) (x1 : Int32) : Option Int32 :=
  gG_X0_creditorsOf_L4 G dh_fu x0 x1 0 0
theorem wG_X0_creditorsOf {l : Launch} {E : dj_E} {Mo : Option dm_M} {r : Int32} (G : dg_G) (x0 : Nat) (x1 : Int32) (hf : gG_X0_creditorsOf G x0 x1 = some r) : dgW tG_X0_creditorsOf l E Mo G (.inr (some (.int r))) G 0 [(0, dj_v E x0), (1, .int x1)] [] := by
  unfold gG_X0_creditorsOf at hf
  refine dg_l (fun _ _ _ _ _ _ _ hC => r_iconst hC dX0_creditorsOf_0 ki_0) ?_
  refine dg_l (fun _ _ _ _ _ _ _ hC => r_istore_n (lv' := [(2, .int 0), (0, dj_v E x0), (1, .int x1)]) hC dX0_creditorsOf_1 rfl (Nat.le_of_ble_eq_true rfl) rfl) ?_
  refine dg_l (fun _ _ _ _ _ _ _ hC => r_iconst hC dX0_creditorsOf_2 ki_0) ?_
  refine dg_l (fun _ _ _ _ _ _ _ hC => r_istore_n (lv' := [(3, .int 0), (2, .int 0), (0, dj_v E x0), (1, .int x1)]) hC dX0_creditorsOf_3 rfl (Nat.le_of_ble_eq_true rfl) rfl) ?_
  exact g_sub [2, 3, 1, 0] rfl (wG_X0_creditorsOf_L4 G dh_fu x0 x1 0 0 hf)
theorem cG_X0_creditorsOf (l : Launch) (E : dj_E) (Mo : Option dm_M) (G : dg_G) (x0 : Nat) (x1 : Int32) {r : Int32} (h : gG_X0_creditorsOf G x0 x1 = some r) : dg_Met l yX0_creditorsOf cX0_creditorsOf 4 (some .int) 4 85 E Mo [dj_v E x0, .int x1] G (some (.int r)) G :=
  dg_met (plainFor_of_name (by decide)) (by simp only [lg_sl_ref, lg_sl_int, lg_sl_long, lg_sl_nil]; decide) (by simp only [lv_args_ref, lv_args_int, lv_args_long, lv_args_nil]) (wG_X0_creditorsOf G x0 x1 h)
theorem qG_X0_creditorsOf : dg_cV "DebtorsHouse" yX0_creditorsOf cX0_creditorsOf 4 (some .int) 1 := ⟨q546, Or.inl qs10, q81, q547, by decide, by decide, by decide +kernel⟩
/-! DebtorsHouse.looks()V -/
abbrev tG_X0_looks : dg_T := (cX0_looks, 2, RX0, none, 5, 108, "looks", [])
def gG_X0_looks_L2_F (k2 : (dg_G → Nat → Int32 → Option dg_G)) (G : dg_G) (x0 : Nat) (x1 : Int32) : Option dg_G :=
  (dg_gR G 1 0 x0).bind fun v1 =>
  (dg_gR G 2 8 v1).bind fun v2 =>
  (dg_is G 10 v2).bind fun u3 =>
  (gG_J2_size G v2).bind fun p4 =>
  if p4 ≤ x1 then (
    some G)
  else
  (dg_is G 1 x0).bind fun u6 =>
  (gG_X0_at G x0 x1).bind fun p7 =>
  (dg_gI G 3 9 p7).bind fun v8 =>
  (dg_is G 1 x0).bind fun u9 =>
  (gG_X0_creditorsOf G x0 x1).bind fun p10 =>
  (dg_pI G 3 9 p7 (v8 &&& p10)).bind fun G11 =>
  k2 G11 x0 (x1 + 1)
theorem wG_X0_looks_L2_F {l : Launch} {E : dj_E} {Mo : Option dm_M} {G' : dg_G} (k2 : (dg_G → Nat → Int32 → Option dg_G)) (hk2 : ∀ (G : dg_G) (x0 : Nat) (x1 : Int32), k2 G x0 x1 = some G' → dgW tG_X0_looks l E Mo G' (.inr none) G 2 [(0, dj_v E x0), (1, .int x1)] []) (G : dg_G) (x0 : Nat) (x1 : Int32) (hf : gG_X0_looks_L2_F k2 G x0 x1 = some G') : dgW tG_X0_looks l E Mo G' (.inr none) G 2 [(0, dj_v E x0), (1, .int x1)] [] := by
  unfold gG_X0_looks_L2_F at hf
  refine dg_l (fun _ _ _ _ _ _ _ hC => r_iload_n hC dX0_looks_2 rfl (j := 1) rfl) ?_
  refine g_aload_n dX0_looks_3 rfl (j := 0) rfl ?_
  obtain ⟨v1, h1, hf⟩ := dh_bd hf
  refine g_getR fR_X0_10 (by decide) h1 dX0_looks_4 ?_
  obtain ⟨v2, h2, hf⟩ := dh_bd hf
  refine g_getR fR_X0_51 (by decide) h2 dX0_looks_7 ?_
  obtain ⟨u3, h3, hf⟩ := dh_bd hf
  obtain ⟨p4, h4, hf⟩ := dh_bd hf
  refine g_callV (rc_O (ci := 10) rfl h3) (cG_J2_size _ E Mo G v2 h4) q256 qG_J2_size (Nat.le_of_ble_eq_true rfl) (Nat.le_of_ble_eq_true rfl) rfl (dj_cat8 (Nat.le_of_ble_eq_true rfl)) dX0_looks_10 ?_
  refine dg_b (fun _ _ _ _ _ _ _ hC => r_icmp_ge hC dX0_looks_13 (tgt := 40) (by decide)) (fun c5 => ?_) (fun c5 => ?_)
  · have hf := dh_if hf c5
    exact g_vret dX0_looks_40 rfl hf
  · have hf := dh_el hf c5
    refine g_aload_n dX0_looks_16 rfl (j := 0) rfl ?_
    refine dg_l (fun _ _ _ _ _ _ _ hC => r_iload_n hC dX0_looks_17 rfl (j := 1) rfl) ?_
    obtain ⟨u6, h6, hf⟩ := dh_bd hf
    obtain ⟨p7, h7, hf⟩ := dh_bd hf
    refine g_callV (rc_O (ci := 1) rfl h6) (cG_X0_at _ E Mo G x0 x1 h7) q525 qG_X0_at (Nat.le_of_ble_eq_true rfl) (Nat.le_of_ble_eq_true rfl) rfl (dj_cat8 (Nat.le_of_ble_eq_true rfl)) dX0_looks_18 ?_
    refine g_dup dX0_looks_21 ?_
    obtain ⟨v8, h8, hf⟩ := dh_bd hf
    refine g_getI fR_X0_122 (by decide) h8 dX0_looks_22 ?_
    refine g_aload_n dX0_looks_25 rfl (j := 0) rfl ?_
    refine dg_l (fun _ _ _ _ _ _ _ hC => r_iload_n hC dX0_looks_26 rfl (j := 1) rfl) ?_
    obtain ⟨u9, h9, hf⟩ := dh_bd hf
    obtain ⟨p10, h10, hf⟩ := dh_bd hf
    refine g_callV (rc_O (ci := 1) rfl h9) (cG_X0_creditorsOf _ E Mo G x0 x1 h10) q544 qG_X0_creditorsOf (Nat.le_of_ble_eq_true rfl) (Nat.le_of_ble_eq_true rfl) rfl (dj_cat8 (Nat.le_of_ble_eq_true rfl)) dX0_looks_27 ?_
    refine dg_l (fun _ _ _ _ _ _ _ hC => r_iand hC dX0_looks_30) ?_
    obtain ⟨G11, h11, hf⟩ := dh_bd hf
    refine g_putI fF_X0_122 (fun q => by cases q) (by decide) h11 dX0_looks_31 ?_
    refine dg_l (fun _ _ _ _ _ _ _ hC => r_iinc (lv' := [(1, .int (x1 + 1)), (0, dj_v E x0)]) hC dX0_looks_34 (j := 1) rfl (congrArg _ ki_1) (Nat.le_of_ble_eq_true rfl) (by simp only [List.filter, dj_cat] <;> rfl)) ?_
    refine dg_l (fun _ _ _ _ _ _ _ hC => r_goto hC dX0_looks_37 (tgt := 2) (by decide)) ?_
    exact g_sub [1, 0] rfl (hk2 G11 x0 (x1 + 1) hf)
def gG_X0_looks_L2 : Nat → dg_G → Nat → Int32 → Option dg_G
  | 0 => fun _ _ _ => none
  | n + 1 => gG_X0_looks_L2_F (gG_X0_looks_L2 n)
theorem wG_X0_looks_L2 {l : Launch} {E : dj_E} {Mo : Option dm_M} {G' : dg_G} : ∀ (n : Nat) (G : dg_G) (x0 : Nat) (x1 : Int32) (_ : gG_X0_looks_L2 n G x0 x1 = some G'), dgW tG_X0_looks l E Mo G' (.inr none) G 2 [(0, dj_v E x0), (1, .int x1)] [] := by
  intro n
  induction n with
  | zero => intro G x0 x1 hf; exact dh_no hf
  | succ n ih => intro G x0 x1 hf; exact wG_X0_looks_L2_F (gG_X0_looks_L2 n) ih G x0 x1 hf
def gG_X0_looks (G : dg_G) (x0 : Nat) : Option dg_G :=
  gG_X0_looks_L2 dh_fu G x0 0
theorem wG_X0_looks {l : Launch} {E : dj_E} {Mo : Option dm_M} {G' : dg_G} (G : dg_G) (x0 : Nat) (hf : gG_X0_looks G x0 = some G') : dgW tG_X0_looks l E Mo G' (.inr none) G 0 [(0, dj_v E x0)] [] := by
  unfold gG_X0_looks at hf
  refine dg_l (fun _ _ _ _ _ _ _ hC => r_iconst hC dX0_looks_0 ki_0) ?_
  refine dg_l (fun _ _ _ _ _ _ _ hC => r_istore_n (lv' := [(1, .int 0), (0, dj_v E x0)]) hC dX0_looks_1 rfl (Nat.le_of_ble_eq_true rfl) (by simp only [List.filter, dj_cat] <;> rfl)) ?_
  exact g_sub [1, 0] rfl (wG_X0_looks_L2 dh_fu G x0 0 hf)
theorem cG_X0_looks (l : Launch) (E : dj_E) (Mo : Option dm_M) (G : dg_G) (x0 : Nat) {G' : dg_G} (h : gG_X0_looks G x0 = some G') : dg_Met l yX0_looks cX0_looks 2 none 5 108 E Mo [dj_v E x0] G none G' :=
  dg_met (plainFor_of_name (by decide)) (by simp only [lg_sl_ref, lg_sl_int, lg_sl_long, lg_sl_nil]; decide) (by simp only [lv_args_ref, lv_args_int, lv_args_long, lv_args_nil]) (wG_X0_looks G x0 h)
theorem qG_X0_looks : dg_cV "DebtorsHouse" yX0_looks cX0_looks 2 none 0 := ⟨q542, Or.inl qs9, q81, q543, by decide, by decide, by decide +kernel⟩
