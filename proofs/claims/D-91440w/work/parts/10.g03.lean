set_option maxRecDepth 100000
/-! DebtorsHouse$Person.goes()V -/
abbrev tG_X3_goes : dg_T := (cX3_goes, 1, RX3, none, 0, 0, "goes", [])
def gG_X3_goes (G : dg_G) (x0 : Nat) : Option dg_G :=
  (dg_pI G 3 3 x0 (-1)).bind fun G1 =>
  (dg_pI G1 3 4 x0 0).bind fun G2 =>
  (dg_pI G2 3 5 x0 0).bind fun G3 =>
  (dg_pI G3 3 9 x0 0).bind fun G4 =>
  (dg_pZ G4 3 13 x0 0).bind fun G5 =>
  some G5
theorem wG_X3_goes {l : Launch} {E : dj_E} {Mo : Option dm_M} {G' : dg_G} (G : dg_G) (x0 : Nat) (hf : gG_X3_goes G x0 = some G') : dgW tG_X3_goes l E Mo G' (.inr none) G 0 [(0, dj_v E x0)] [] := by
  unfold gG_X3_goes at hf
  refine g_aload_n dX3_goes_0 rfl (j := 0) rfl ?_
  refine dg_l (fun _ _ _ _ _ _ _ hC => r_iconst hC dX3_goes_1 ki_m1) ?_
  obtain ⟨G1, h1, hf⟩ := dh_bd hf
  refine g_putI fF_X3_9 (fun q => by cases q) (by decide) h1 dX3_goes_2 ?_
  refine g_aload_n dX3_goes_5 rfl (j := 0) rfl ?_
  refine dg_l (fun _ _ _ _ _ _ _ hC => r_iconst hC dX3_goes_6 ki_0) ?_
  obtain ⟨G2, h2, hf⟩ := dh_bd hf
  refine g_putI fF_X3_27 (fun q => by cases q) (by decide) h2 dX3_goes_7 ?_
  refine g_aload_n dX3_goes_10 rfl (j := 0) rfl ?_
  refine dg_l (fun _ _ _ _ _ _ _ hC => r_iconst hC dX3_goes_11 ki_0) ?_
  obtain ⟨G3, h3, hf⟩ := dh_bd hf
  refine g_putI fF_X3_30 (fun q => by cases q) (by decide) h3 dX3_goes_12 ?_
  refine g_aload_n dX3_goes_15 rfl (j := 0) rfl ?_
  refine dg_l (fun _ _ _ _ _ _ _ hC => r_iconst hC dX3_goes_16 ki_0) ?_
  obtain ⟨G4, h4, hf⟩ := dh_bd hf
  refine g_putI fF_X3_42 (fun q => by cases q) (by decide) h4 dX3_goes_17 ?_
  refine g_aload_n dX3_goes_20 rfl (j := 0) rfl ?_
  refine dg_l (fun _ _ _ _ _ _ _ hC => r_iconst hC dX3_goes_21 ki_0) ?_
  obtain ⟨G5, h5, hf⟩ := dh_bd hf
  refine g_putZ fF_X3_54 (fun q => by cases q) (by decide) h5 dX3_goes_22 ?_
  exact g_vret dX3_goes_25 rfl hf
theorem cG_X3_goes (l : Launch) (E : dj_E) (Mo : Option dm_M) (G : dg_G) (x0 : Nat) {G' : dg_G} (h : gG_X3_goes G x0 = some G') : dg_Met l yX3_goes cX3_goes 1 none 0 0 E Mo [dj_v E x0] G none G' :=
  dg_met (plainFor_of_name (by decide)) (by simp only [lg_sl_ref, lg_sl_int, lg_sl_long, lg_sl_nil]; decide) (by simp only [lv_args_ref, lv_args_int, lv_args_long, lv_args_nil]) (wG_X3_goes G x0 h)
theorem qG_X3_goes : dg_cV "DebtorsHouse$Person" yX3_goes cX3_goes 1 none 0 := ⟨q1178, Or.inl q1179, q88, q1180, by decide, by decide, by decide +kernel⟩
/-! DebtorsHouse$Person.writes(I)V -/
abbrev tG_X3_writes : dg_T := (cX3_writes, 2, RX3, none, 1, 21, "writes", [])
def gG_X3_writes (G : dg_G) (x0 : Nat) (x1 : Int32) : Option dg_G :=
  (dg_gI G 3 10 x0).bind fun v1 =>
  (dg_pI G 3 10 x0 (v1 + 1)).bind fun G2 =>
  (dg_gI G2 3 11 x0).bind fun v3 =>
  (dg_pI G2 3 11 x0 (v3 + x1)).bind fun G4 =>
  (dg_gI G4 3 12 x0).bind fun v5 =>
  (dg_gI G4 3 11 x0).bind fun v6 =>
  (gG_J5_min G4 v5 v6).bind fun p7 =>
  (dg_pI G4 3 12 x0 p7).bind fun G8 =>
  some G8
theorem wG_X3_writes {l : Launch} {E : dj_E} {Mo : Option dm_M} {G' : dg_G} (G : dg_G) (x0 : Nat) (x1 : Int32) (hf : gG_X3_writes G x0 x1 = some G') : dgW tG_X3_writes l E Mo G' (.inr none) G 0 [(0, dj_v E x0), (1, .int x1)] [] := by
  unfold gG_X3_writes at hf
  refine g_aload_n dX3_writes_0 rfl (j := 0) rfl ?_
  refine g_dup dX3_writes_1 ?_
  obtain ⟨v1, h1, hf⟩ := dh_bd hf
  refine g_getI fR_X3_45 (by decide) h1 dX3_writes_2 ?_
  refine dg_l (fun _ _ _ _ _ _ _ hC => r_iconst hC dX3_writes_5 ki_1) ?_
  refine dg_l (fun _ _ _ _ _ _ _ hC => r_iadd hC dX3_writes_6) ?_
  obtain ⟨G2, h2, hf⟩ := dh_bd hf
  refine g_putI fF_X3_45 (fun q => by cases q) (by decide) h2 dX3_writes_7 ?_
  refine g_aload_n dX3_writes_10 rfl (j := 0) rfl ?_
  refine g_dup dX3_writes_11 ?_
  obtain ⟨v3, h3, hf⟩ := dh_bd hf
  refine g_getI fR_X3_48 (by decide) h3 dX3_writes_12 ?_
  refine dg_l (fun _ _ _ _ _ _ _ hC => r_iload_n hC dX3_writes_15 rfl (j := 1) rfl) ?_
  refine dg_l (fun _ _ _ _ _ _ _ hC => r_iadd hC dX3_writes_16) ?_
  obtain ⟨G4, h4, hf⟩ := dh_bd hf
  refine g_putI fF_X3_48 (fun q => by cases q) (by decide) h4 dX3_writes_17 ?_
  refine g_aload_n dX3_writes_20 rfl (j := 0) rfl ?_
  refine g_aload_n dX3_writes_21 rfl (j := 0) rfl ?_
  obtain ⟨v5, h5, hf⟩ := dh_bd hf
  refine g_getI fR_X3_51 (by decide) h5 dX3_writes_22 ?_
  refine g_aload_n dX3_writes_25 rfl (j := 0) rfl ?_
  obtain ⟨v6, h6, hf⟩ := dh_bd hf
  refine g_getI fR_X3_48 (by decide) h6 dX3_writes_26 ?_
  obtain ⟨p7, h7, hf⟩ := dh_bd hf
  refine g_callS (cG_J5_min _ E Mo G4 v5 v6 h7) q1308 qG_J5_min (Nat.le_of_ble_eq_true rfl) (Nat.le_of_ble_eq_true rfl) rfl (dj_cat8 (Nat.le_of_ble_eq_true rfl)) dX3_writes_29 ?_
  obtain ⟨G8, h8, hf⟩ := dh_bd hf
  refine g_putI fF_X3_51 (fun q => by cases q) (by decide) h8 dX3_writes_32 ?_
  exact g_vret dX3_writes_35 rfl hf
theorem cG_X3_writes (l : Launch) (E : dj_E) (Mo : Option dm_M) (G : dg_G) (x0 : Nat) (x1 : Int32) {G' : dg_G} (h : gG_X3_writes G x0 x1 = some G') : dg_Met l yX3_writes cX3_writes 2 none 1 21 E Mo [dj_v E x0, .int x1] G none G' :=
  dg_met (plainFor_of_name (by decide)) (by simp only [lg_sl_ref, lg_sl_int, lg_sl_long, lg_sl_nil]; decide) (by simp only [lv_args_ref, lv_args_int, lv_args_long, lv_args_nil]) (wG_X3_writes G x0 x1 h)
theorem qG_X3_writes : dg_cV "DebtorsHouse$Person" yX3_writes cX3_writes 2 none 1 := ⟨q1305, Or.inl q1306, q88, q1307, by decide, by decide, by decide +kernel⟩
/-! DebtorsHouse$Person.copy()LDebtorsHouse$Person; -/
abbrev tG_X3_copy : dg_T := (cX3_copy, 2, RX3, (some (.object "DebtorsHouse$Person")), 2, 43, "copy", [])
def gG_X3_copy (G : dg_G) (x0 : Nat) : Option (Nat × dg_G) :=
  (dg_gI (dg_nw G 3) 3 0 x0).bind fun v2 =>
  (dg_gI (dg_nw G 3) 3 2 x0).bind fun v3 =>
  (dg_gI (dg_nw G 3) 3 1 x0).bind fun v4 =>
  (dg_pos (dg_n G)).bind fun u5 =>
  (gG_X3_init (dg_nw G 3) (dg_n G) v2 v3 v4).bind fun p6 =>
  (dg_gI p6 3 3 x0).bind fun v7 =>
  (dg_pI p6 3 3 (dg_n G) v7).bind fun G8 =>
  (dg_gI G8 3 4 x0).bind fun v9 =>
  (dg_pI G8 3 4 (dg_n G) v9).bind fun G10 =>
  (dg_gI G10 3 5 x0).bind fun v11 =>
  (dg_pI G10 3 5 (dg_n G) v11).bind fun G12 =>
  (dg_gI G12 3 6 x0).bind fun v13 =>
  (dg_pI G12 3 6 (dg_n G) v13).bind fun G14 =>
  (dg_gI G14 3 7 x0).bind fun v15 =>
  (dg_pI G14 3 7 (dg_n G) v15).bind fun G16 =>
  (dg_gI G16 3 8 x0).bind fun v17 =>
  (dg_pI G16 3 8 (dg_n G) v17).bind fun G18 =>
  (dg_gI G18 3 9 x0).bind fun v19 =>
  (dg_pI G18 3 9 (dg_n G) v19).bind fun G20 =>
  (dg_gI G20 3 10 x0).bind fun v21 =>
  (dg_pI G20 3 10 (dg_n G) v21).bind fun G22 =>
  (dg_gI G22 3 11 x0).bind fun v23 =>
  (dg_pI G22 3 11 (dg_n G) v23).bind fun G24 =>
  (dg_gI G24 3 12 x0).bind fun v25 =>
  (dg_pI G24 3 12 (dg_n G) v25).bind fun G26 =>
  (dg_gI G26 3 13 x0).bind fun v27 =>
  (dg_pZ G26 3 13 (dg_n G) v27).bind fun G28 =>
  (dg_gI G28 3 14 x0).bind fun v29 =>
  (dg_pZ G28 3 14 (dg_n G) v29).bind fun G30 =>
  some (dg_n G, G30)
theorem wG_X3_copy {l : Launch} {E : dj_E} {Mo : Option dm_M} {r : Nat} {G' : dg_G} (G : dg_G) (x0 : Nat) (hf : gG_X3_copy G x0 = some (r, G')) : dgW tG_X3_copy l E Mo G' (.inr (some (dj_v E r))) G 0 [(0, dj_v E x0)] [] := by
  unfold gG_X3_copy at hf
  refine g_new nI_X3_10 dX3_copy_0 ?_
  refine g_dup dX3_copy_3 ?_
  refine g_aload_n dX3_copy_4 rfl (j := 0) rfl ?_
  obtain ⟨v2, h2, hf⟩ := dh_bd hf
  refine g_getI fR_X3_15 (by decide) h2 dX3_copy_5 ?_
  refine g_aload_n dX3_copy_8 rfl (j := 0) rfl ?_
  obtain ⟨v3, h3, hf⟩ := dh_bd hf
  refine g_getI fR_X3_18 (by decide) h3 dX3_copy_9 ?_
  refine g_aload_n dX3_copy_12 rfl (j := 0) rfl ?_
  obtain ⟨v4, h4, hf⟩ := dh_bd hf
  refine g_getI fR_X3_21 (by decide) h4 dX3_copy_13 ?_
  obtain ⟨u5, h5, hf⟩ := dh_bd hf
  obtain ⟨p6, h6, hf⟩ := dh_bd hf
  refine g_callI h5 (cG_X3_init _ E Mo (dg_nw G 3) (dg_n G) v2 v3 v4 h6) q1359 qG_X3_init (Nat.le_of_ble_eq_true rfl) (Nat.le_of_ble_eq_true rfl) rfl (dj_cat8 (Nat.le_of_ble_eq_true rfl)) dX3_copy_16 ?_
  refine g_astore_n (i := 1) (lv1 := [(1, dj_v E (dg_n G)), (0, dj_v E x0)]) dX3_copy_19 rfl (Nat.le_of_ble_eq_true rfl) (by simp only [List.filter, dj_cat] <;> rfl) ?_
  refine g_aload_n dX3_copy_20 rfl (j := 0) rfl ?_
  refine g_aload_n dX3_copy_21 rfl (j := 1) rfl ?_
  obtain ⟨v7, h7, hf⟩ := dh_bd hf
  refine g_getI fR_X3_9 (by decide) h7 dX3_copy_22 ?_
  obtain ⟨G8, h8, hf⟩ := dh_bd hf
  refine g_putI fF_X3_9 (fun q => by cases q) (by decide) h8 dX3_copy_25 ?_
  refine g_aload_n dX3_copy_28 rfl (j := 0) rfl ?_
  refine g_aload_n dX3_copy_29 rfl (j := 1) rfl ?_
  obtain ⟨v9, h9, hf⟩ := dh_bd hf
  refine g_getI fR_X3_27 (by decide) h9 dX3_copy_30 ?_
  obtain ⟨G10, h10, hf⟩ := dh_bd hf
  refine g_putI fF_X3_27 (fun q => by cases q) (by decide) h10 dX3_copy_33 ?_
  refine g_aload_n dX3_copy_36 rfl (j := 0) rfl ?_
  refine g_aload_n dX3_copy_37 rfl (j := 1) rfl ?_
  obtain ⟨v11, h11, hf⟩ := dh_bd hf
  refine g_getI fR_X3_30 (by decide) h11 dX3_copy_38 ?_
  obtain ⟨G12, h12, hf⟩ := dh_bd hf
  refine g_putI fF_X3_30 (fun q => by cases q) (by decide) h12 dX3_copy_41 ?_
  refine g_aload_n dX3_copy_44 rfl (j := 0) rfl ?_
  refine g_aload_n dX3_copy_45 rfl (j := 1) rfl ?_
  obtain ⟨v13, h13, hf⟩ := dh_bd hf
  refine g_getI fR_X3_33 (by decide) h13 dX3_copy_46 ?_
  obtain ⟨G14, h14, hf⟩ := dh_bd hf
  refine g_putI fF_X3_33 (fun q => by cases q) (by decide) h14 dX3_copy_49 ?_
  refine g_aload_n dX3_copy_52 rfl (j := 0) rfl ?_
  refine g_aload_n dX3_copy_53 rfl (j := 1) rfl ?_
  obtain ⟨v15, h15, hf⟩ := dh_bd hf
  refine g_getI fR_X3_36 (by decide) h15 dX3_copy_54 ?_
  obtain ⟨G16, h16, hf⟩ := dh_bd hf
  refine g_putI fF_X3_36 (fun q => by cases q) (by decide) h16 dX3_copy_57 ?_
  refine g_aload_n dX3_copy_60 rfl (j := 0) rfl ?_
  refine g_aload_n dX3_copy_61 rfl (j := 1) rfl ?_
  obtain ⟨v17, h17, hf⟩ := dh_bd hf
  refine g_getI fR_X3_39 (by decide) h17 dX3_copy_62 ?_
  obtain ⟨G18, h18, hf⟩ := dh_bd hf
  refine g_putI fF_X3_39 (fun q => by cases q) (by decide) h18 dX3_copy_65 ?_
  refine g_aload_n dX3_copy_68 rfl (j := 0) rfl ?_
  refine g_aload_n dX3_copy_69 rfl (j := 1) rfl ?_
  obtain ⟨v19, h19, hf⟩ := dh_bd hf
  refine g_getI fR_X3_42 (by decide) h19 dX3_copy_70 ?_
  obtain ⟨G20, h20, hf⟩ := dh_bd hf
  refine g_putI fF_X3_42 (fun q => by cases q) (by decide) h20 dX3_copy_73 ?_
  refine g_aload_n dX3_copy_76 rfl (j := 0) rfl ?_
  refine g_aload_n dX3_copy_77 rfl (j := 1) rfl ?_
  obtain ⟨v21, h21, hf⟩ := dh_bd hf
  refine g_getI fR_X3_45 (by decide) h21 dX3_copy_78 ?_
  obtain ⟨G22, h22, hf⟩ := dh_bd hf
  refine g_putI fF_X3_45 (fun q => by cases q) (by decide) h22 dX3_copy_81 ?_
  refine g_aload_n dX3_copy_84 rfl (j := 0) rfl ?_
  refine g_aload_n dX3_copy_85 rfl (j := 1) rfl ?_
  obtain ⟨v23, h23, hf⟩ := dh_bd hf
  refine g_getI fR_X3_48 (by decide) h23 dX3_copy_86 ?_
  obtain ⟨G24, h24, hf⟩ := dh_bd hf
  refine g_putI fF_X3_48 (fun q => by cases q) (by decide) h24 dX3_copy_89 ?_
  refine g_aload_n dX3_copy_92 rfl (j := 0) rfl ?_
  refine g_aload_n dX3_copy_93 rfl (j := 1) rfl ?_
  obtain ⟨v25, h25, hf⟩ := dh_bd hf
  refine g_getI fR_X3_51 (by decide) h25 dX3_copy_94 ?_
  obtain ⟨G26, h26, hf⟩ := dh_bd hf
  refine g_putI fF_X3_51 (fun q => by cases q) (by decide) h26 dX3_copy_97 ?_
  refine g_aload_n dX3_copy_100 rfl (j := 0) rfl ?_
  refine g_aload_n dX3_copy_101 rfl (j := 1) rfl ?_
  obtain ⟨v27, h27, hf⟩ := dh_bd hf
  refine g_getI fR_X3_54 (by decide) h27 dX3_copy_102 ?_
  obtain ⟨G28, h28, hf⟩ := dh_bd hf
  refine g_putZ fF_X3_54 (fun q => by cases q) (by decide) h28 dX3_copy_105 ?_
  refine g_aload_n dX3_copy_108 rfl (j := 0) rfl ?_
  refine g_aload_n dX3_copy_109 rfl (j := 1) rfl ?_
  obtain ⟨v29, h29, hf⟩ := dh_bd hf
  refine g_getI fR_X3_58 (by decide) h29 dX3_copy_110 ?_
  obtain ⟨G30, h30, hf⟩ := dh_bd hf
  refine g_putZ fF_X3_58 (fun q => by cases q) (by decide) h30 dX3_copy_113 ?_
  refine g_aload_n dX3_copy_116 rfl (j := 0) rfl ?_
  exact g_aret dX3_copy_117 rfl (Or.inl ⟨_, rfl⟩) hf
theorem cG_X3_copy (l : Launch) (E : dj_E) (Mo : Option dm_M) (G : dg_G) (x0 : Nat) {p : Nat × dg_G} (h : gG_X3_copy G x0 = some p) : dg_Met l yX3_copy cX3_copy 2 (some (.object "DebtorsHouse$Person")) 2 43 E Mo [dj_v E x0] G (some (dj_v E p.1)) p.2 :=
  dg_met (plainFor_of_name (by decide)) (by simp only [lg_sl_ref, lg_sl_int, lg_sl_long, lg_sl_nil]; decide) (by simp only [lv_args_ref, lv_args_int, lv_args_long, lv_args_nil]) (wG_X3_copy G x0 h)
theorem qG_X3_copy : dg_cV "DebtorsHouse$Person" yX3_copy cX3_copy 2 (some (.object "DebtorsHouse$Person")) 0 := ⟨q1355, Or.inl q1356, q88, q1357, by decide, by decide, by decide +kernel⟩
/-! DebtorsHouse$Debt.<init>(IIIIIIII)V -/
abbrev tG_X4_init : dg_T := (cX4_init, 9, RX4, none, 1, 20, "<init>", [])
def gG_X4_init (G : dg_G) (x0 : Nat) (x1 : Int32) (x2 : Int32) (x3 : Int32) (x4 : Int32) (x5 : Int32) (x6 : Int32) (x7 : Int32) (x8 : Int32) : Option dg_G :=
  (dg_pos x0).bind fun u1 =>
  (dg_pI G 4 13 x0 (-1)).bind fun G2 =>
  (dg_pR G2 4 15 x0 21).bind fun G3 =>
  (dg_pI G3 4 0 x0 x1).bind fun G4 =>
  (dg_pI G4 4 1 x0 x2).bind fun G5 =>
  (dg_pI G5 4 7 x0 x3).bind fun G6 =>
  (dg_pI G6 4 2 x0 x4).bind fun G7 =>
  (dg_pI G7 4 3 x0 x5).bind fun G8 =>
  (dg_pI G8 4 4 x0 x6).bind fun G9 =>
  (dg_pI G9 4 5 x0 x7).bind fun G10 =>
  (dg_pI G10 4 6 x0 x8).bind fun G11 =>
  (dg_pI G11 4 8 x0 x4).bind fun G12 =>
  (dg_pI G12 4 11 x0 x7).bind fun G13 =>
  some G13
theorem wG_X4_init {l : Launch} {E : dj_E} {Mo : Option dm_M} {G' : dg_G} (G : dg_G) (x0 : Nat) (x1 : Int32) (x2 : Int32) (x3 : Int32) (x4 : Int32) (x5 : Int32) (x6 : Int32) (x7 : Int32) (x8 : Int32) (hf : gG_X4_init G x0 x1 x2 x3 x4 x5 x6 x7 x8 = some G') : dgW tG_X4_init l E Mo G' (.inr none) G 0 [(0, dj_v E x0), (1, .int x1), (2, .int x2), (3, .int x3), (4, .int x4), (5, .int x5), (6, .int x6), (7, .int x7), (8, .int x8)] [] := by
  unfold gG_X4_init at hf
  refine g_aload_n dX4_init_0 rfl (j := 0) rfl ?_
  obtain ⟨u1, h1, hf⟩ := dh_bd hf
  refine g_obj h1 q412 (Nat.le_of_ble_eq_true rfl) (Nat.le_of_ble_eq_true rfl) dX4_init_1 ?_
  refine g_aload_n dX4_init_4 rfl (j := 0) rfl ?_
  refine dg_l (fun _ _ _ _ _ _ _ hC => r_iconst hC dX4_init_5 ki_m1) ?_
  obtain ⟨G2, h2, hf⟩ := dh_bd hf
  refine g_putI fF_X4_9 (fun q => by cases q) (by decide) h2 dX4_init_6 ?_
  refine g_aload_n dX4_init_9 rfl (j := 0) rfl ?_
  refine g_gets (j := 21) (by decide) (by decide) (fun _ h => ((dk_S h).1 0 (by decide)).1) q413 dX4_init_10 ?_
  obtain ⟨G3, h3, hf⟩ := dh_bd hf
  refine g_putR fF_X4_21 (Or.inl ⟨_, rfl⟩) (fun q => by cases q) (by decide) h3 dX4_init_13 ?_
  refine g_aload_n dX4_init_16 rfl (j := 0) rfl ?_
  refine dg_l (fun _ _ _ _ _ _ _ hC => r_iload_n hC dX4_init_17 rfl (j := 1) rfl) ?_
  obtain ⟨G4, h4, hf⟩ := dh_bd hf
  refine g_putI fF_X4_24 (fun _ => rfl) (by decide) h4 dX4_init_18 ?_
  refine g_aload_n dX4_init_21 rfl (j := 0) rfl ?_
  refine dg_l (fun _ _ _ _ _ _ _ hC => r_iload_n hC dX4_init_22 rfl (j := 2) rfl) ?_
  obtain ⟨G5, h5, hf⟩ := dh_bd hf
  refine g_putI fF_X4_27 (fun _ => rfl) (by decide) h5 dX4_init_23 ?_
  refine g_aload_n dX4_init_26 rfl (j := 0) rfl ?_
  refine dg_l (fun _ _ _ _ _ _ _ hC => r_iload_n hC dX4_init_27 rfl (j := 3) rfl) ?_
  obtain ⟨G6, h6, hf⟩ := dh_bd hf
  refine g_putI fF_X4_30 (fun q => by cases q) (by decide) h6 dX4_init_28 ?_
  refine g_aload_n dX4_init_31 rfl (j := 0) rfl ?_
  refine dg_l (fun _ _ _ _ _ _ _ hC => r_iload hC dX4_init_32 (j := 4) rfl) ?_
  obtain ⟨G7, h7, hf⟩ := dh_bd hf
  refine g_putI fF_X4_33 (fun _ => rfl) (by decide) h7 dX4_init_34 ?_
  refine g_aload_n dX4_init_37 rfl (j := 0) rfl ?_
  refine dg_l (fun _ _ _ _ _ _ _ hC => r_iload hC dX4_init_38 (j := 5) rfl) ?_
  obtain ⟨G8, h8, hf⟩ := dh_bd hf
  refine g_putI fF_X4_36 (fun _ => rfl) (by decide) h8 dX4_init_40 ?_
  refine g_aload_n dX4_init_43 rfl (j := 0) rfl ?_
  refine dg_l (fun _ _ _ _ _ _ _ hC => r_iload hC dX4_init_44 (j := 6) rfl) ?_
  obtain ⟨G9, h9, hf⟩ := dh_bd hf
  refine g_putI fF_X4_39 (fun _ => rfl) (by decide) h9 dX4_init_46 ?_
  refine g_aload_n dX4_init_49 rfl (j := 0) rfl ?_
  refine dg_l (fun _ _ _ _ _ _ _ hC => r_iload hC dX4_init_50 (j := 7) rfl) ?_
  obtain ⟨G10, h10, hf⟩ := dh_bd hf
  refine g_putI fF_X4_42 (fun _ => rfl) (by decide) h10 dX4_init_52 ?_
  refine g_aload_n dX4_init_55 rfl (j := 0) rfl ?_
  refine dg_l (fun _ _ _ _ _ _ _ hC => r_iload hC dX4_init_56 (j := 8) rfl) ?_
  obtain ⟨G11, h11, hf⟩ := dh_bd hf
  refine g_putI fF_X4_45 (fun _ => rfl) (by decide) h11 dX4_init_58 ?_
  refine g_aload_n dX4_init_61 rfl (j := 0) rfl ?_
  refine dg_l (fun _ _ _ _ _ _ _ hC => r_iload hC dX4_init_62 (j := 4) rfl) ?_
  obtain ⟨G12, h12, hf⟩ := dh_bd hf
  refine g_putI fF_X4_48 (fun q => by cases q) (by decide) h12 dX4_init_64 ?_
  refine g_aload_n dX4_init_67 rfl (j := 0) rfl ?_
  refine dg_l (fun _ _ _ _ _ _ _ hC => r_iload hC dX4_init_68 (j := 7) rfl) ?_
  obtain ⟨G13, h13, hf⟩ := dh_bd hf
  refine g_putI fF_X4_51 (fun q => by cases q) (by decide) h13 dX4_init_70 ?_
  exact g_vret dX4_init_73 rfl hf
theorem cG_X4_init (l : Launch) (E : dj_E) (Mo : Option dm_M) (G : dg_G) (x0 : Nat) (x1 : Int32) (x2 : Int32) (x3 : Int32) (x4 : Int32) (x5 : Int32) (x6 : Int32) (x7 : Int32) (x8 : Int32) {G' : dg_G} (h : gG_X4_init G x0 x1 x2 x3 x4 x5 x6 x7 x8 = some G') : dg_Met l yX4_init cX4_init 9 none 1 20 E Mo [dj_v E x0, .int x1, .int x2, .int x3, .int x4, .int x5, .int x6, .int x7, .int x8] G none G' :=
  dg_met (plainFor_of_name (by decide)) (by simp only [lg_sl_ref, lg_sl_int, lg_sl_long, lg_sl_nil]; decide) (by simp only [lv_args_ref, lv_args_int, lv_args_long, lv_args_nil]) (wG_X4_init G x0 x1 x2 x3 x4 x5 x6 x7 x8 h)
theorem qG_X4_init : dg_cI yX4_init cX4_init 9 8 := ⟨q410, q92, q411, rfl, by decide, by decide, by decide +kernel⟩
/-! DebtorsHouse$Debt.isLive()Z -/
abbrev tG_X4_isLive : dg_T := (cX4_isLive, 1, RX4, (some .boolean), 0, 0, "isLive", [])
def gG_X4_isLive (G : dg_G) (x0 : Nat) : Option Int32 :=
  (dg_gR G 4 15 x0).bind fun v1 =>
  (dg_cmp v1 21).bind fun u2 =>
  if v1 = 21 then (
    some 1)
  else
  some 0
theorem wG_X4_isLive {l : Launch} {E : dj_E} {Mo : Option dm_M} {r : Int32} (G : dg_G) (x0 : Nat) (hf : gG_X4_isLive G x0 = some r) : dgW tG_X4_isLive l E Mo G (.inr (some (.int r))) G 0 [(0, dj_v E x0)] [] := by
  unfold gG_X4_isLive at hf
  refine g_aload_n dX4_isLive_0 rfl (j := 0) rfl ?_
  obtain ⟨v1, h1, hf⟩ := dh_bd hf
  refine g_getR fR_X4_21 (by decide) h1 dX4_isLive_1 ?_
  refine g_gets (j := 21) (by decide) (by decide) (fun _ h => ((dk_S h).1 0 (by decide)).1) q413 dX4_isLive_4 ?_
  obtain ⟨u2, h2, hf⟩ := dh_bd hf
  refine g_acmp_ne h2 dX4_isLive_7 (tgt := 14) (by decide) (fun c2 => ?_) (fun c2 => ?_)
  · have hf := dh_el hf c2
    refine dg_l (fun _ _ _ _ _ _ _ hC => r_iconst hC dX4_isLive_14 ki_0) ?_
    exact g_zret1 dX4_isLive_15 rfl rfl hf
  · have hf := dh_if hf c2
    refine dg_l (fun _ _ _ _ _ _ _ hC => r_iconst hC dX4_isLive_10 ki_1) ?_
    refine dg_l (fun _ _ _ _ _ _ _ hC => r_goto hC dX4_isLive_11 (tgt := 15) (by decide)) ?_
    exact g_zret1 dX4_isLive_15 rfl rfl hf
theorem cG_X4_isLive (l : Launch) (E : dj_E) (Mo : Option dm_M) (G : dg_G) (x0 : Nat) {r : Int32} (h : gG_X4_isLive G x0 = some r) : dg_Met l yX4_isLive cX4_isLive 1 (some .boolean) 0 0 E Mo [dj_v E x0] G (some (.int r)) G :=
  dg_met (plainFor_of_name (by decide)) (by simp only [lg_sl_ref, lg_sl_int, lg_sl_long, lg_sl_nil]; decide) (by simp only [lv_args_ref, lv_args_int, lv_args_long, lv_args_nil]) (wG_X4_isLive G x0 h)
theorem qG_X4_isLive : dg_cV "DebtorsHouse$Debt" yX4_isLive cX4_isLive 1 (some .boolean) 0 := ⟨q504, Or.inl q505, q92, q506, by decide, by decide, by decide +kernel⟩
/-! DebtorsHouse$Debt.interestOn(I)I -/
abbrev tG_X4_interestOn : dg_T := (cX4_interestOn, 2, RX4, (some .int), 0, 0, "interestOn", [])
def gG_X4_interestOn (G : dg_G) (x0 : Nat) (x1 : Int32) : Option Int32 :=
  (dg_gI G 4 9 x0).bind fun v1 =>
  (dg_gI G 4 8 x0).bind fun v2 =>
  (dg_gI G 4 4 x0).bind fun v3 =>
  (dg_gI G 4 11 x0).bind fun v4 =>
  some (v1 + (Int64.toInt32 ((((Int32.toInt64 v2) * (Int32.toInt64 v3)) * (Int32.toInt64 (x1 - v4))) / 360000)))
theorem wG_X4_interestOn {l : Launch} {E : dj_E} {Mo : Option dm_M} {r : Int32} (G : dg_G) (x0 : Nat) (x1 : Int32) (hf : gG_X4_interestOn G x0 x1 = some r) : dgW tG_X4_interestOn l E Mo G (.inr (some (.int r))) G 0 [(0, dj_v E x0), (1, .int x1)] [] := by
  unfold gG_X4_interestOn at hf
  refine g_aload_n dX4_interestOn_0 rfl (j := 0) rfl ?_
  obtain ⟨v1, h1, hf⟩ := dh_bd hf
  refine g_getI fR_X4_57 (by decide) h1 dX4_interestOn_1 ?_
  refine g_aload_n dX4_interestOn_4 rfl (j := 0) rfl ?_
  obtain ⟨v2, h2, hf⟩ := dh_bd hf
  refine g_getI fR_X4_48 (by decide) h2 dX4_interestOn_5 ?_
  refine dg_l (fun _ _ _ _ _ _ _ hC => r_i2l hC dX4_interestOn_8) ?_
  refine g_aload_n dX4_interestOn_9 rfl (j := 0) rfl ?_
  obtain ⟨v3, h3, hf⟩ := dh_bd hf
  refine g_getI fR_X4_39 (by decide) h3 dX4_interestOn_10 ?_
  refine dg_l (fun _ _ _ _ _ _ _ hC => r_i2l hC dX4_interestOn_13) ?_
  refine dg_l (fun _ _ _ _ _ _ _ hC => r_lmul hC dX4_interestOn_14) ?_
  refine dg_l (fun _ _ _ _ _ _ _ hC => r_iload_n hC dX4_interestOn_15 rfl (j := 1) rfl) ?_
  refine g_aload_n dX4_interestOn_16 rfl (j := 0) rfl ?_
  obtain ⟨v4, h4, hf⟩ := dh_bd hf
  refine g_getI fR_X4_51 (by decide) h4 dX4_interestOn_17 ?_
  refine dg_l (fun _ _ _ _ _ _ _ hC => r_isub hC dX4_interestOn_20) ?_
  refine dg_l (fun _ _ _ _ _ _ _ hC => r_i2l hC dX4_interestOn_21) ?_
  refine dg_l (fun _ _ _ _ _ _ _ hC => r_lmul hC dX4_interestOn_22) ?_
  refine dg_l (fun _ _ _ _ _ _ _ hC => r_ldc2 hC q520 dX4_interestOn_23) ?_
  refine dg_l (fun _ _ _ _ _ _ _ hC => r_ldiv hC dX4_interestOn_26 (by decide)) ?_
  refine dg_l (fun _ _ _ _ _ _ _ hC => r_l2i hC dX4_interestOn_27) ?_
  refine dg_l (fun _ _ _ _ _ _ _ hC => r_iadd hC dX4_interestOn_28) ?_
  exact g_iret1 dX4_interestOn_29 rfl hf
theorem cG_X4_interestOn (l : Launch) (E : dj_E) (Mo : Option dm_M) (G : dg_G) (x0 : Nat) (x1 : Int32) {r : Int32} (h : gG_X4_interestOn G x0 x1 = some r) : dg_Met l yX4_interestOn cX4_interestOn 2 (some .int) 0 0 E Mo [dj_v E x0, .int x1] G (some (.int r)) G :=
  dg_met (plainFor_of_name (by decide)) (by simp only [lg_sl_ref, lg_sl_int, lg_sl_long, lg_sl_nil]; decide) (by simp only [lv_args_ref, lv_args_int, lv_args_long, lv_args_nil]) (wG_X4_interestOn G x0 x1 h)
theorem qG_X4_interestOn : dg_cV "DebtorsHouse$Debt" yX4_interestOn cX4_interestOn 2 (some .int) 1 := ⟨q517, Or.inl q518, q92, q519, by decide, by decide, by decide +kernel⟩
/-! DebtorsHouse$Debt.due(I)I -/
abbrev tG_X4_due : dg_T := (cX4_due, 2, RX4, (some .int), 1, 21, "due", [])
def gG_X4_due (G : dg_G) (x0 : Nat) (x1 : Int32) : Option Int32 :=
  (dg_is G 4 x0).bind fun u1 =>
  (gG_X4_isLive G x0).bind fun p2 =>
  if p2 = 0 then (
    some 0)
  else
  (dg_gI G 4 8 x0).bind fun v4 =>
  (dg_is G 4 x0).bind fun u5 =>
  (gG_X4_interestOn G x0 x1).bind fun p6 =>
  (dg_gI G 4 10 x0).bind fun v7 =>
  some ((v4 + p6) + v7)
theorem wG_X4_due {l : Launch} {E : dj_E} {Mo : Option dm_M} {r : Int32} (G : dg_G) (x0 : Nat) (x1 : Int32) (hf : gG_X4_due G x0 x1 = some r) : dgW tG_X4_due l E Mo G (.inr (some (.int r))) G 0 [(0, dj_v E x0), (1, .int x1)] [] := by
  unfold gG_X4_due at hf
  refine g_aload_n dX4_due_0 rfl (j := 0) rfl ?_
  obtain ⟨u1, h1, hf⟩ := dh_bd hf
  obtain ⟨p2, h2, hf⟩ := dh_bd hf
  refine g_callV (rc_O (ci := 4) rfl h1) (cG_X4_isLive _ E Mo G x0 h2) q515 qG_X4_isLive (Nat.le_of_ble_eq_true rfl) (Nat.le_of_ble_eq_true rfl) rfl (dj_cat8 (Nat.le_of_ble_eq_true rfl)) dX4_due_1 ?_
  refine dg_b (fun _ _ _ _ _ _ _ hC => r_if_eq hC dX4_due_4 (tgt := 25) (by decide)) (fun c3 => ?_) (fun c3 => ?_)
  · have hf := dh_if hf c3
    refine dg_l (fun _ _ _ _ _ _ _ hC => r_iconst hC dX4_due_25 ki_0) ?_
    exact g_iret1 dX4_due_26 rfl hf
  · have hf := dh_el hf c3
    refine g_aload_n dX4_due_7 rfl (j := 0) rfl ?_
    obtain ⟨v4, h4, hf⟩ := dh_bd hf
    refine g_getI fR_X4_48 (by decide) h4 dX4_due_8 ?_
    refine g_aload_n dX4_due_11 rfl (j := 0) rfl ?_
    refine dg_l (fun _ _ _ _ _ _ _ hC => r_iload_n hC dX4_due_12 rfl (j := 1) rfl) ?_
    obtain ⟨u5, h5, hf⟩ := dh_bd hf
    obtain ⟨p6, h6, hf⟩ := dh_bd hf
    refine g_callV (rc_O (ci := 4) rfl h5) (cG_X4_interestOn _ E Mo G x0 x1 h6) q516 qG_X4_interestOn (Nat.le_of_ble_eq_true rfl) (Nat.le_of_ble_eq_true rfl) rfl (dj_cat8 (Nat.le_of_ble_eq_true rfl)) dX4_due_13 ?_
    refine dg_l (fun _ _ _ _ _ _ _ hC => r_iadd hC dX4_due_16) ?_
    refine g_aload_n dX4_due_17 rfl (j := 0) rfl ?_
    obtain ⟨v7, h7, hf⟩ := dh_bd hf
    refine g_getI fR_X4_60 (by decide) h7 dX4_due_18 ?_
    refine dg_l (fun _ _ _ _ _ _ _ hC => r_iadd hC dX4_due_21) ?_
    refine dg_l (fun _ _ _ _ _ _ _ hC => r_goto hC dX4_due_22 (tgt := 26) (by decide)) ?_
    exact g_iret1 dX4_due_26 rfl hf
theorem cG_X4_due (l : Launch) (E : dj_E) (Mo : Option dm_M) (G : dg_G) (x0 : Nat) (x1 : Int32) {r : Int32} (h : gG_X4_due G x0 x1 = some r) : dg_Met l yX4_due cX4_due 2 (some .int) 1 21 E Mo [dj_v E x0, .int x1] G (some (.int r)) G :=
  dg_met (plainFor_of_name (by decide)) (by simp only [lg_sl_ref, lg_sl_int, lg_sl_long, lg_sl_nil]; decide) (by simp only [lv_args_ref, lv_args_int, lv_args_long, lv_args_nil]) (wG_X4_due G x0 x1 h)
theorem qG_X4_due : dg_cV "DebtorsHouse$Debt" yX4_due cX4_due 2 (some .int) 1 := ⟨q512, Or.inl q513, q92, q514, by decide, by decide, by decide +kernel⟩
/-! DebtorsHouse$Debt.ends(LDebtorsHouse$Stands;I)V -/
abbrev tG_X4_ends : dg_T := (cX4_ends, 3, RX4, none, 0, 0, "ends", [])
def gG_X4_ends (G : dg_G) (x0 : Nat) (x1 : Nat) (x2 : Int32) : Option dg_G :=
  (dg_pR G 4 15 x0 x1).bind fun G1 =>
  (dg_pI G1 4 13 x0 x2).bind fun G2 =>
  some G2
theorem wG_X4_ends {l : Launch} {E : dj_E} {Mo : Option dm_M} {G' : dg_G} (G : dg_G) (x0 : Nat) (x1 : Nat) (x2 : Int32) (hf : gG_X4_ends G x0 x1 x2 = some G') : dgW tG_X4_ends l E Mo G' (.inr none) G 0 [(0, dj_v E x0), (1, dj_v E x1), (2, .int x2)] [] := by
  unfold gG_X4_ends at hf
  refine g_aload_n dX4_ends_0 rfl (j := 0) rfl ?_
  refine g_aload_n dX4_ends_1 rfl (j := 1) rfl ?_
  obtain ⟨G1, h1, hf⟩ := dh_bd hf
  refine g_putR fF_X4_21 (Or.inl ⟨_, rfl⟩) (fun q => by cases q) (by decide) h1 dX4_ends_2 ?_
  refine g_aload_n dX4_ends_5 rfl (j := 0) rfl ?_
  refine dg_l (fun _ _ _ _ _ _ _ hC => r_iload_n hC dX4_ends_6 rfl (j := 2) rfl) ?_
  obtain ⟨G2, h2, hf⟩ := dh_bd hf
  refine g_putI fF_X4_9 (fun q => by cases q) (by decide) h2 dX4_ends_7 ?_
  exact g_vret dX4_ends_10 rfl hf
theorem cG_X4_ends (l : Launch) (E : dj_E) (Mo : Option dm_M) (G : dg_G) (x0 : Nat) (x1 : Nat) (x2 : Int32) {G' : dg_G} (h : gG_X4_ends G x0 x1 x2 = some G') : dg_Met l yX4_ends cX4_ends 3 none 0 0 E Mo [dj_v E x0, dj_v E x1, .int x2] G none G' :=
  dg_met (plainFor_of_name (by decide)) (by simp only [lg_sl_ref, lg_sl_int, lg_sl_long, lg_sl_nil]; decide) (by simp only [lv_args_ref, lv_args_int, lv_args_long, lv_args_nil]) (wG_X4_ends G x0 x1 x2 h)
theorem qG_X4_ends : dg_cV "DebtorsHouse$Debt" yX4_ends cX4_ends 3 none 2 := ⟨q537, Or.inl q538, q92, q539, by decide, by decide, by decide +kernel⟩
/-! DebtorsHouse$Debt.less(II)V -/
abbrev tG_X4_less : dg_T := (cX4_less, 5, RX4, none, 1, 22, "less", [])
def gG_X4_less (G : dg_G) (x0 : Nat) (x1 : Int32) (x2 : Int32) : Option dg_G :=
  (dg_is G 4 x0).bind fun u1 =>
  (gG_X4_interestOn G x0 x2).bind fun p2 =>
  (dg_pI G 4 9 x0 p2).bind fun G3 =>
  (dg_pI G3 4 11 x0 x2).bind fun G4 =>
  (dg_gI G4 4 10 x0).bind fun v5 =>
  (gG_J5_min G4 x1 v5).bind fun p6 =>
  (dg_gI G4 4 10 x0).bind fun v7 =>
  (dg_pI G4 4 10 x0 (v7 - p6)).bind fun G8 =>
  (dg_gI G8 4 9 x0).bind fun v9 =>
  (gG_J5_min G8 (x1 - p6) v9).bind fun p10 =>
  (dg_gI G8 4 9 x0).bind fun v11 =>
  (dg_pI G8 4 9 x0 (v11 - p10)).bind fun G12 =>
  (dg_gI G12 4 8 x0).bind fun v13 =>
  (dg_pI G12 4 8 x0 (v13 - ((x1 - p6) - p10))).bind fun G14 =>
  (dg_gI G14 4 10 x0).bind fun v15 =>
  (dg_gI G14 4 9 x0).bind fun v16 =>
  (dg_gI G14 4 8 x0).bind fun v17 =>
  if ((v15 + v16) + v17) = 0 then (
    (dg_is G14 4 x0).bind fun u19 =>
    (gG_X4_ends G14 x0 22 x2).bind fun p20 =>
    some p20)
  else
  some G14
theorem wG_X4_less {l : Launch} {E : dj_E} {Mo : Option dm_M} {G' : dg_G} (G : dg_G) (x0 : Nat) (x1 : Int32) (x2 : Int32) (hf : gG_X4_less G x0 x1 x2 = some G') : dgW tG_X4_less l E Mo G' (.inr none) G 0 [(0, dj_v E x0), (1, .int x1), (2, .int x2)] [] := by
  unfold gG_X4_less at hf
  refine g_aload_n dX4_less_0 rfl (j := 0) rfl ?_
  refine g_aload_n dX4_less_1 rfl (j := 0) rfl ?_
  refine dg_l (fun _ _ _ _ _ _ _ hC => r_iload_n hC dX4_less_2 rfl (j := 2) rfl) ?_
  obtain ⟨u1, h1, hf⟩ := dh_bd hf
  obtain ⟨p2, h2, hf⟩ := dh_bd hf
  refine g_callV (rc_O (ci := 4) rfl h1) (cG_X4_interestOn _ E Mo G x0 x2 h2) q516 qG_X4_interestOn (Nat.le_of_ble_eq_true rfl) (Nat.le_of_ble_eq_true rfl) rfl (dj_cat8 (Nat.le_of_ble_eq_true rfl)) dX4_less_3 ?_
  obtain ⟨G3, h3, hf⟩ := dh_bd hf
  refine g_putI fF_X4_57 (fun q => by cases q) (by decide) h3 dX4_less_6 ?_
  refine g_aload_n dX4_less_9 rfl (j := 0) rfl ?_
  refine dg_l (fun _ _ _ _ _ _ _ hC => r_iload_n hC dX4_less_10 rfl (j := 2) rfl) ?_
  obtain ⟨G4, h4, hf⟩ := dh_bd hf
  refine g_putI fF_X4_51 (fun q => by cases q) (by decide) h4 dX4_less_11 ?_
  refine dg_l (fun _ _ _ _ _ _ _ hC => r_iload_n hC dX4_less_14 rfl (j := 1) rfl) ?_
  refine dg_l (fun _ _ _ _ _ _ _ hC => r_istore_n (lv' := [(3, .int x1), (0, dj_v E x0), (1, .int x1), (2, .int x2)]) hC dX4_less_15 rfl (Nat.le_of_ble_eq_true rfl) rfl) ?_
  refine dg_l (fun _ _ _ _ _ _ _ hC => r_iload_n hC dX4_less_16 rfl (j := 0) rfl) ?_
  refine g_aload_n dX4_less_17 rfl (j := 1) rfl ?_
  obtain ⟨v5, h5, hf⟩ := dh_bd hf
  refine g_getI fR_X4_60 (by decide) h5 dX4_less_18 ?_
  obtain ⟨p6, h6, hf⟩ := dh_bd hf
  refine g_callS (cG_J5_min _ E Mo G4 x1 v5 h6) q533 qG_J5_min (Nat.le_of_ble_eq_true rfl) (Nat.le_of_ble_eq_true rfl) rfl (dj_cat8 (Nat.le_of_ble_eq_true rfl)) dX4_less_21 ?_
  refine dg_l (fun _ _ _ _ _ _ _ hC => r_istore (lv' := [(4, .int p6), (3, .int x1), (0, dj_v E x0), (1, .int x1), (2, .int x2)]) hC dX4_less_24 (Nat.le_of_ble_eq_true rfl) rfl) ?_
  refine g_aload_n dX4_less_26 rfl (j := 2) rfl ?_
  refine g_dup dX4_less_27 ?_
  obtain ⟨v7, h7, hf⟩ := dh_bd hf
  refine g_getI fR_X4_60 (by decide) h7 dX4_less_28 ?_
  refine dg_l (fun _ _ _ _ _ _ _ hC => r_iload hC dX4_less_31 (j := 0) rfl) ?_
  refine dg_l (fun _ _ _ _ _ _ _ hC => r_isub hC dX4_less_33) ?_
  obtain ⟨G8, h8, hf⟩ := dh_bd hf
  refine g_putI fF_X4_60 (fun q => by cases q) (by decide) h8 dX4_less_34 ?_
  refine dg_l (fun _ _ _ _ _ _ _ hC => r_iload_n hC dX4_less_37 rfl (j := 1) rfl) ?_
  refine dg_l (fun _ _ _ _ _ _ _ hC => r_iload hC dX4_less_38 (j := 0) rfl) ?_
  refine dg_l (fun _ _ _ _ _ _ _ hC => r_isub hC dX4_less_40) ?_
  refine dg_l (fun _ _ _ _ _ _ _ hC => r_istore_n (lv' := [(3, .int (x1 - p6)), (4, .int p6), (0, dj_v E x0), (1, .int x1), (2, .int x2)]) hC dX4_less_41 rfl (Nat.le_of_ble_eq_true rfl) rfl) ?_
  refine dg_l (fun _ _ _ _ _ _ _ hC => r_iload_n hC dX4_less_42 rfl (j := 0) rfl) ?_
  refine g_aload_n dX4_less_43 rfl (j := 2) rfl ?_
  obtain ⟨v9, h9, hf⟩ := dh_bd hf
  refine g_getI fR_X4_57 (by decide) h9 dX4_less_44 ?_
  obtain ⟨p10, h10, hf⟩ := dh_bd hf
  refine g_callS (cG_J5_min _ E Mo G8 (x1 - p6) v9 h10) q533 qG_J5_min (Nat.le_of_ble_eq_true rfl) (Nat.le_of_ble_eq_true rfl) rfl (dj_cat8 (Nat.le_of_ble_eq_true rfl)) dX4_less_47 ?_
  refine dg_l (fun _ _ _ _ _ _ _ hC => r_istore (lv' := [(4, .int p10), (3, .int (x1 - p6)), (0, dj_v E x0), (1, .int x1), (2, .int x2)]) hC dX4_less_50 (Nat.le_of_ble_eq_true rfl) rfl) ?_
  refine g_aload_n dX4_less_52 rfl (j := 2) rfl ?_
  refine g_dup dX4_less_53 ?_
  obtain ⟨v11, h11, hf⟩ := dh_bd hf
  refine g_getI fR_X4_57 (by decide) h11 dX4_less_54 ?_
  refine dg_l (fun _ _ _ _ _ _ _ hC => r_iload hC dX4_less_57 (j := 0) rfl) ?_
  refine dg_l (fun _ _ _ _ _ _ _ hC => r_isub hC dX4_less_59) ?_
  obtain ⟨G12, h12, hf⟩ := dh_bd hf
  refine g_putI fF_X4_57 (fun q => by cases q) (by decide) h12 dX4_less_60 ?_
  refine dg_l (fun _ _ _ _ _ _ _ hC => r_iload_n hC dX4_less_63 rfl (j := 1) rfl) ?_
  refine dg_l (fun _ _ _ _ _ _ _ hC => r_iload hC dX4_less_64 (j := 0) rfl) ?_
  refine dg_l (fun _ _ _ _ _ _ _ hC => r_isub hC dX4_less_66) ?_
  refine dg_l (fun _ _ _ _ _ _ _ hC => r_istore_n (lv' := [(3, .int ((x1 - p6) - p10)), (4, .int p10), (0, dj_v E x0), (1, .int x1), (2, .int x2)]) hC dX4_less_67 rfl (Nat.le_of_ble_eq_true rfl) rfl) ?_
  refine g_aload_n dX4_less_68 rfl (j := 2) rfl ?_
  refine g_dup dX4_less_69 ?_
  obtain ⟨v13, h13, hf⟩ := dh_bd hf
  refine g_getI fR_X4_48 (by decide) h13 dX4_less_70 ?_
  refine dg_l (fun _ _ _ _ _ _ _ hC => r_iload_n hC dX4_less_73 rfl (j := 0) rfl) ?_
  refine dg_l (fun _ _ _ _ _ _ _ hC => r_isub hC dX4_less_74) ?_
  obtain ⟨G14, h14, hf⟩ := dh_bd hf
  refine g_putI fF_X4_48 (fun q => by cases q) (by decide) h14 dX4_less_75 ?_
  refine g_aload_n dX4_less_78 rfl (j := 2) rfl ?_
  obtain ⟨v15, h15, hf⟩ := dh_bd hf
  refine g_getI fR_X4_60 (by decide) h15 dX4_less_79 ?_
  refine g_aload_n dX4_less_82 rfl (j := 2) rfl ?_
  obtain ⟨v16, h16, hf⟩ := dh_bd hf
  refine g_getI fR_X4_57 (by decide) h16 dX4_less_83 ?_
  refine dg_l (fun _ _ _ _ _ _ _ hC => r_iadd hC dX4_less_86) ?_
  refine g_aload_n dX4_less_87 rfl (j := 2) rfl ?_
  obtain ⟨v17, h17, hf⟩ := dh_bd hf
  refine g_getI fR_X4_48 (by decide) h17 dX4_less_88 ?_
  refine dg_l (fun _ _ _ _ _ _ _ hC => r_iadd hC dX4_less_91) ?_
  refine dg_bn (fun _ _ _ _ _ _ _ hC => r_if_ne hC dX4_less_92 (tgt := 103) (by decide)) (fun c18 => ?_) (fun c18 => ?_)
  · have hf := dh_el hf c18
    exact g_vret dX4_less_103 rfl hf
  · have hf := dh_if hf c18
    refine g_aload_n dX4_less_95 rfl (j := 2) rfl ?_
    refine g_gets (j := 22) (by decide) (by decide) (fun _ h => ((dk_S h).1 1 (by decide)).1) q534 dX4_less_96 ?_
    refine dg_l (fun _ _ _ _ _ _ _ hC => r_iload_n hC dX4_less_99 rfl (j := 4) rfl) ?_
    obtain ⟨u19, h19, hf⟩ := dh_bd hf
    obtain ⟨p20, h20, hf⟩ := dh_bd hf
    refine g_callV (rc_O (ci := 4) rfl h19) (cG_X4_ends _ E Mo G14 x0 22 x2 h20) q536 qG_X4_ends (Nat.le_of_ble_eq_true rfl) (Nat.le_of_ble_eq_true rfl) rfl (dj_cat8 (Nat.le_of_ble_eq_true rfl)) dX4_less_100 ?_
    exact g_vret dX4_less_103 rfl hf
theorem cG_X4_less (l : Launch) (E : dj_E) (Mo : Option dm_M) (G : dg_G) (x0 : Nat) (x1 : Int32) (x2 : Int32) {G' : dg_G} (h : gG_X4_less G x0 x1 x2 = some G') : dg_Met l yX4_less cX4_less 5 none 1 22 E Mo [dj_v E x0, .int x1, .int x2] G none G' :=
  dg_met (plainFor_of_name (by decide)) (by simp only [lg_sl_ref, lg_sl_int, lg_sl_long, lg_sl_nil]; decide) (by simp only [lv_args_ref, lv_args_int, lv_args_long, lv_args_nil]) (wG_X4_less G x0 x1 x2 h)
theorem qG_X4_less : dg_cV "DebtorsHouse$Debt" yX4_less cX4_less 5 none 2 := ⟨q530, Or.inl q531, q92, q532, by decide, by decide, by decide +kernel⟩
/-! DebtorsHouse$Debt.copy()LDebtorsHouse$Debt; -/
abbrev tG_X4_copy : dg_T := (cX4_copy, 2, RX4, (some (.object "DebtorsHouse$Debt")), 2, 48, "copy", [])
def gG_X4_copy (G : dg_G) (x0 : Nat) : Option (Nat × dg_G) :=
  (dg_gI (dg_nw G 4) 4 0 x0).bind fun v2 =>
  (dg_gI (dg_nw G 4) 4 1 x0).bind fun v3 =>
  (dg_gI (dg_nw G 4) 4 7 x0).bind fun v4 =>
  (dg_gI (dg_nw G 4) 4 2 x0).bind fun v5 =>
  (dg_gI (dg_nw G 4) 4 3 x0).bind fun v6 =>
  (dg_gI (dg_nw G 4) 4 4 x0).bind fun v7 =>
  (dg_gI (dg_nw G 4) 4 5 x0).bind fun v8 =>
  (dg_gI (dg_nw G 4) 4 6 x0).bind fun v9 =>
  (dg_pos (dg_n G)).bind fun u10 =>
  (gG_X4_init (dg_nw G 4) (dg_n G) v2 v3 v4 v5 v6 v7 v8 v9).bind fun p11 =>
  (dg_gI p11 4 8 x0).bind fun v12 =>
  (dg_pI p11 4 8 (dg_n G) v12).bind fun G13 =>
  (dg_gI G13 4 9 x0).bind fun v14 =>
  (dg_pI G13 4 9 (dg_n G) v14).bind fun G15 =>
  (dg_gI G15 4 10 x0).bind fun v16 =>
  (dg_pI G15 4 10 (dg_n G) v16).bind fun G17 =>
  (dg_gI G17 4 11 x0).bind fun v18 =>
  (dg_pI G17 4 11 (dg_n G) v18).bind fun G19 =>
  (dg_gI G19 4 12 x0).bind fun v20 =>
  (dg_pI G19 4 12 (dg_n G) v20).bind fun G21 =>
  (dg_gI G21 4 13 x0).bind fun v22 =>
  (dg_pI G21 4 13 (dg_n G) v22).bind fun G23 =>
  (dg_gI G23 4 14 x0).bind fun v24 =>
  (dg_pZ G23 4 14 (dg_n G) v24).bind fun G25 =>
  (dg_gR G25 4 15 x0).bind fun v26 =>
  (dg_pR G25 4 15 (dg_n G) v26).bind fun G27 =>
  some (dg_n G, G27)
theorem wG_X4_copy {l : Launch} {E : dj_E} {Mo : Option dm_M} {r : Nat} {G' : dg_G} (G : dg_G) (x0 : Nat) (hf : gG_X4_copy G x0 = some (r, G')) : dgW tG_X4_copy l E Mo G' (.inr (some (dj_v E r))) G 0 [(0, dj_v E x0)] [] := by
  unfold gG_X4_copy at hf
  refine g_new nI_X4_10 dX4_copy_0 ?_
  refine g_dup dX4_copy_3 ?_
  refine g_aload_n dX4_copy_4 rfl (j := 0) rfl ?_
  obtain ⟨v2, h2, hf⟩ := dh_bd hf
  refine g_getI fR_X4_24 (by decide) h2 dX4_copy_5 ?_
  refine g_aload_n dX4_copy_8 rfl (j := 0) rfl ?_
  obtain ⟨v3, h3, hf⟩ := dh_bd hf
  refine g_getI fR_X4_27 (by decide) h3 dX4_copy_9 ?_
  refine g_aload_n dX4_copy_12 rfl (j := 0) rfl ?_
  obtain ⟨v4, h4, hf⟩ := dh_bd hf
  refine g_getI fR_X4_30 (by decide) h4 dX4_copy_13 ?_
  refine g_aload_n dX4_copy_16 rfl (j := 0) rfl ?_
  obtain ⟨v5, h5, hf⟩ := dh_bd hf
  refine g_getI fR_X4_33 (by decide) h5 dX4_copy_17 ?_
  refine g_aload_n dX4_copy_20 rfl (j := 0) rfl ?_
  obtain ⟨v6, h6, hf⟩ := dh_bd hf
  refine g_getI fR_X4_36 (by decide) h6 dX4_copy_21 ?_
  refine g_aload_n dX4_copy_24 rfl (j := 0) rfl ?_
  obtain ⟨v7, h7, hf⟩ := dh_bd hf
  refine g_getI fR_X4_39 (by decide) h7 dX4_copy_25 ?_
  refine g_aload_n dX4_copy_28 rfl (j := 0) rfl ?_
  obtain ⟨v8, h8, hf⟩ := dh_bd hf
  refine g_getI fR_X4_42 (by decide) h8 dX4_copy_29 ?_
  refine g_aload_n dX4_copy_32 rfl (j := 0) rfl ?_
  obtain ⟨v9, h9, hf⟩ := dh_bd hf
  refine g_getI fR_X4_45 (by decide) h9 dX4_copy_33 ?_
  obtain ⟨u10, h10, hf⟩ := dh_bd hf
  obtain ⟨p11, h11, hf⟩ := dh_bd hf
  refine g_callI h10 (cG_X4_init _ E Mo (dg_nw G 4) (dg_n G) v2 v3 v4 v5 v6 v7 v8 v9 h11) q1367 qG_X4_init (Nat.le_of_ble_eq_true rfl) (Nat.le_of_ble_eq_true rfl) rfl (dj_cat8 (Nat.le_of_ble_eq_true rfl)) dX4_copy_36 ?_
  refine g_astore_n (i := 1) (lv1 := [(1, dj_v E (dg_n G)), (0, dj_v E x0)]) dX4_copy_39 rfl (Nat.le_of_ble_eq_true rfl) (by simp only [List.filter, dj_cat] <;> rfl) ?_
  refine g_aload_n dX4_copy_40 rfl (j := 0) rfl ?_
  refine g_aload_n dX4_copy_41 rfl (j := 1) rfl ?_
  obtain ⟨v12, h12, hf⟩ := dh_bd hf
  refine g_getI fR_X4_48 (by decide) h12 dX4_copy_42 ?_
  obtain ⟨G13, h13, hf⟩ := dh_bd hf
  refine g_putI fF_X4_48 (fun q => by cases q) (by decide) h13 dX4_copy_45 ?_
  refine g_aload_n dX4_copy_48 rfl (j := 0) rfl ?_
  refine g_aload_n dX4_copy_49 rfl (j := 1) rfl ?_
  obtain ⟨v14, h14, hf⟩ := dh_bd hf
  refine g_getI fR_X4_57 (by decide) h14 dX4_copy_50 ?_
  obtain ⟨G15, h15, hf⟩ := dh_bd hf
  refine g_putI fF_X4_57 (fun q => by cases q) (by decide) h15 dX4_copy_53 ?_
  refine g_aload_n dX4_copy_56 rfl (j := 0) rfl ?_
  refine g_aload_n dX4_copy_57 rfl (j := 1) rfl ?_
  obtain ⟨v16, h16, hf⟩ := dh_bd hf
  refine g_getI fR_X4_60 (by decide) h16 dX4_copy_58 ?_
  obtain ⟨G17, h17, hf⟩ := dh_bd hf
  refine g_putI fF_X4_60 (fun q => by cases q) (by decide) h17 dX4_copy_61 ?_
  refine g_aload_n dX4_copy_64 rfl (j := 0) rfl ?_
  refine g_aload_n dX4_copy_65 rfl (j := 1) rfl ?_
  obtain ⟨v18, h18, hf⟩ := dh_bd hf
  refine g_getI fR_X4_51 (by decide) h18 dX4_copy_66 ?_
  obtain ⟨G19, h19, hf⟩ := dh_bd hf
  refine g_putI fF_X4_51 (fun q => by cases q) (by decide) h19 dX4_copy_69 ?_
  refine g_aload_n dX4_copy_72 rfl (j := 0) rfl ?_
  refine g_aload_n dX4_copy_73 rfl (j := 1) rfl ?_
  obtain ⟨v20, h20, hf⟩ := dh_bd hf
  refine g_getI fR_X4_63 (by decide) h20 dX4_copy_74 ?_
  obtain ⟨G21, h21, hf⟩ := dh_bd hf
  refine g_putI fF_X4_63 (fun q => by cases q) (by decide) h21 dX4_copy_77 ?_
  refine g_aload_n dX4_copy_80 rfl (j := 0) rfl ?_
  refine g_aload_n dX4_copy_81 rfl (j := 1) rfl ?_
  obtain ⟨v22, h22, hf⟩ := dh_bd hf
  refine g_getI fR_X4_9 (by decide) h22 dX4_copy_82 ?_
  obtain ⟨G23, h23, hf⟩ := dh_bd hf
  refine g_putI fF_X4_9 (fun q => by cases q) (by decide) h23 dX4_copy_85 ?_
  refine g_aload_n dX4_copy_88 rfl (j := 0) rfl ?_
  refine g_aload_n dX4_copy_89 rfl (j := 1) rfl ?_
  obtain ⟨v24, h24, hf⟩ := dh_bd hf
  refine g_getI fR_X4_66 (by decide) h24 dX4_copy_90 ?_
  obtain ⟨G25, h25, hf⟩ := dh_bd hf
  refine g_putZ fF_X4_66 (fun q => by cases q) (by decide) h25 dX4_copy_93 ?_
  refine g_aload_n dX4_copy_96 rfl (j := 0) rfl ?_
  refine g_aload_n dX4_copy_97 rfl (j := 1) rfl ?_
  obtain ⟨v26, h26, hf⟩ := dh_bd hf
  refine g_getR fR_X4_21 (by decide) h26 dX4_copy_98 ?_
  obtain ⟨G27, h27, hf⟩ := dh_bd hf
  refine g_putR fF_X4_21 (Or.inl ⟨_, rfl⟩) (fun q => by cases q) (by decide) h27 dX4_copy_101 ?_
  refine g_aload_n dX4_copy_104 rfl (j := 0) rfl ?_
  exact g_aret dX4_copy_105 rfl (Or.inl ⟨_, rfl⟩) hf
theorem cG_X4_copy (l : Launch) (E : dj_E) (Mo : Option dm_M) (G : dg_G) (x0 : Nat) {p : Nat × dg_G} (h : gG_X4_copy G x0 = some p) : dg_Met l yX4_copy cX4_copy 2 (some (.object "DebtorsHouse$Debt")) 2 48 E Mo [dj_v E x0] G (some (dj_v E p.1)) p.2 :=
  dg_met (plainFor_of_name (by decide)) (by simp only [lg_sl_ref, lg_sl_int, lg_sl_long, lg_sl_nil]; decide) (by simp only [lv_args_ref, lv_args_int, lv_args_long, lv_args_nil]) (wG_X4_copy G x0 h)
theorem qG_X4_copy : dg_cV "DebtorsHouse$Debt" yX4_copy cX4_copy 2 (some (.object "DebtorsHouse$Debt")) 0 := ⟨q1363, Or.inl q1364, q92, q1365, by decide, by decide, by decide +kernel⟩
