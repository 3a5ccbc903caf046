set_option maxRecDepth 100000
/-! DebtorsHouseModel.<init>()V -/
abbrev tG_X2_init : dg_T := (cX2_init, 1, RX2, none, 1, 20, "<init>", [])
def gG_X2_init (G : dg_G) (x0 : Nat) : Option dg_G :=
  (dg_pos x0).bind fun u1 =>
  (dg_new G 51 2400).bind fun G2 =>
  (dg_pR G2 0 1 x0 (dg_n G)).bind fun G3 =>
  (dg_new G3 50 4).bind fun G4 =>
  (dg_pR G4 0 2 x0 (dg_n G3)).bind fun G5 =>
  (dg_new G5 50 4).bind fun G6 =>
  (dg_pR G6 0 3 x0 (dg_n G5)).bind fun G7 =>
  (dg_new G7 50 4).bind fun G8 =>
  (dg_pR G8 0 4 x0 (dg_n G7)).bind fun G9 =>
  (dg_new G9 50 4).bind fun G10 =>
  (dg_pR G10 0 5 x0 (dg_n G9)).bind fun G11 =>
  (dg_new G11 50 4).bind fun G12 =>
  (dg_pR G12 0 6 x0 (dg_n G11)).bind fun G13 =>
  (dg_new G13 50 4).bind fun G14 =>
  (dg_pR G14 0 7 x0 (dg_n G13)).bind fun G15 =>
  (dg_new G15 50 4).bind fun G16 =>
  (dg_pR G16 0 8 x0 (dg_n G15)).bind fun G17 =>
  (dg_new G17 50 48).bind fun G18 =>
  (dg_pR G18 0 9 x0 (dg_n G17)).bind fun G19 =>
  (dg_new G19 50 48).bind fun G20 =>
  (dg_pR G20 0 10 x0 (dg_n G19)).bind fun G21 =>
  (dg_new G21 52 48).bind fun G22 =>
  (dg_pR G22 0 11 x0 (dg_n G21)).bind fun G23 =>
  (dg_new G23 50 48).bind fun G24 =>
  (dg_pR G24 0 12 x0 (dg_n G23)).bind fun G25 =>
  (dg_new G25 50 48).bind fun G26 =>
  (dg_pR G26 0 13 x0 (dg_n G25)).bind fun G27 =>
  (dg_new G27 50 48).bind fun G28 =>
  (dg_pR G28 0 14 x0 (dg_n G27)).bind fun G29 =>
  (dg_new G29 52 48).bind fun G30 =>
  (dg_pR G30 0 15 x0 (dg_n G29)).bind fun G31 =>
  (dg_new G31 50 48).bind fun G32 =>
  (dg_pR G32 0 16 x0 (dg_n G31)).bind fun G33 =>
  (dg_new G33 50 48).bind fun G34 =>
  (dg_pR G34 0 17 x0 (dg_n G33)).bind fun G35 =>
  (dg_new G35 50 48).bind fun G36 =>
  (dg_pR G36 0 18 x0 (dg_n G35)).bind fun G37 =>
  (dg_new G37 50 48).bind fun G38 =>
  (dg_pR G38 0 19 x0 (dg_n G37)).bind fun G39 =>
  (dg_new G39 52 48).bind fun G40 =>
  (dg_pR G40 0 20 x0 (dg_n G39)).bind fun G41 =>
  (dg_new G41 50 48).bind fun G42 =>
  (dg_pR G42 0 21 x0 (dg_n G41)).bind fun G43 =>
  (dg_new G43 50 48).bind fun G44 =>
  (dg_pR G44 0 22 x0 (dg_n G43)).bind fun G45 =>
  (dg_new G45 50 4).bind fun G46 =>
  (dg_pR G46 0 23 x0 (dg_n G45)).bind fun G47 =>
  (dg_new G47 50 576).bind fun G48 =>
  (dg_pR G48 0 24 x0 (dg_n G47)).bind fun G49 =>
  (dg_new G49 50 4).bind fun G50 =>
  (dg_pR G50 0 25 x0 (dg_n G49)).bind fun G51 =>
  (dg_new G51 50 160).bind fun G52 =>
  (dg_pR G52 0 26 x0 (dg_n G51)).bind fun G53 =>
  (dg_new G53 50 160).bind fun G54 =>
  (dg_pR G54 0 27 x0 (dg_n G53)).bind fun G55 =>
  (dg_new G55 50 160).bind fun G56 =>
  (dg_pR G56 0 28 x0 (dg_n G55)).bind fun G57 =>
  (dg_new G57 50 160).bind fun G58 =>
  (dg_pR G58 0 29 x0 (dg_n G57)).bind fun G59 =>
  (dg_new G59 50 160).bind fun G60 =>
  (dg_pR G60 0 30 x0 (dg_n G59)).bind fun G61 =>
  (dg_new G61 50 160).bind fun G62 =>
  (dg_pR G62 0 31 x0 (dg_n G61)).bind fun G63 =>
  (dg_new G63 50 160).bind fun G64 =>
  (dg_pR G64 0 32 x0 (dg_n G63)).bind fun G65 =>
  (dg_new G65 50 160).bind fun G66 =>
  (dg_pR G66 0 33 x0 (dg_n G65)).bind fun G67 =>
  (dg_new G67 50 160).bind fun G68 =>
  (dg_pR G68 0 34 x0 (dg_n G67)).bind fun G69 =>
  (dg_new G69 50 160).bind fun G70 =>
  (dg_pR G70 0 35 x0 (dg_n G69)).bind fun G71 =>
  (dg_new G71 50 160).bind fun G72 =>
  (dg_pR G72 0 36 x0 (dg_n G71)).bind fun G73 =>
  (dg_new G73 50 160).bind fun G74 =>
  (dg_pR G74 0 37 x0 (dg_n G73)).bind fun G75 =>
  (dg_new G75 52 160).bind fun G76 =>
  (dg_pR G76 0 38 x0 (dg_n G75)).bind fun G77 =>
  (dg_new G77 50 160).bind fun G78 =>
  (dg_pR G78 0 39 x0 (dg_n G77)).bind fun G79 =>
  (dg_new G79 50 160).bind fun G80 =>
  (dg_pR G80 0 40 x0 (dg_n G79)).bind fun G81 =>
  (dg_new G81 50 4).bind fun G82 =>
  (dg_pR G82 0 41 x0 (dg_n G81)).bind fun G83 =>
  (dg_new G83 50 48).bind fun G84 =>
  (dg_pR G84 0 42 x0 (dg_n G83)).bind fun G85 =>
  (dg_new G85 50 4).bind fun G86 =>
  (dg_pR G86 0 43 x0 (dg_n G85)).bind fun G87 =>
  (dg_new G87 50 16).bind fun G88 =>
  (dg_pR G88 0 44 x0 (dg_n G87)).bind fun G89 =>
  (dg_new G89 50 16).bind fun G90 =>
  (dg_pR G90 0 45 x0 (dg_n G89)).bind fun G91 =>
  (dg_new G91 50 16).bind fun G92 =>
  (dg_pR G92 0 46 x0 (dg_n G91)).bind fun G93 =>
  (dg_new G93 50 320).bind fun G94 =>
  (dg_pR G94 0 47 x0 (dg_n G93)).bind fun G95 =>
  (dg_new G95 50 320).bind fun G96 =>
  (dg_pR G96 0 48 x0 (dg_n G95)).bind fun G97 =>
  (dg_new G97 50 320).bind fun G98 =>
  (dg_pR G98 0 49 x0 (dg_n G97)).bind fun G99 =>
  (dg_new G99 50 1280).bind fun G100 =>
  (dg_pR G100 0 50 x0 (dg_n G99)).bind fun G101 =>
  (dg_new G101 50 1280).bind fun G102 =>
  (dg_pR G102 0 51 x0 (dg_n G101)).bind fun G103 =>
  (dg_new G103 50 1280).bind fun G104 =>
  (dg_pR G104 0 52 x0 (dg_n G103)).bind fun G105 =>
  (dg_new G105 50 12).bind fun G106 =>
  (dg_pR G106 0 53 x0 (dg_n G105)).bind fun G107 =>
  (dg_new G107 50 21).bind fun G108 =>
  (dg_pR G108 0 64 x0 (dg_n G107)).bind fun G109 =>
  (dg_new G109 50 21).bind fun G110 =>
  (dg_pR G110 0 65 x0 (dg_n G109)).bind fun G111 =>
  (dg_new G111 50 21).bind fun G112 =>
  (dg_pR G112 0 66 x0 (dg_n G111)).bind fun G113 =>
  (dg_new G113 50 80).bind fun G114 =>
  (dg_pR G114 0 67 x0 (dg_n G113)).bind fun G115 =>
  (dg_new G115 50 80).bind fun G116 =>
  (dg_pR G116 0 68 x0 (dg_n G115)).bind fun G117 =>
  (dg_new G117 50 80).bind fun G118 =>
  (dg_pR G118 0 69 x0 (dg_n G117)).bind fun G119 =>
  (dg_new G119 50 8).bind fun G120 =>
  (dg_pR G120 0 70 x0 (dg_n G119)).bind fun G121 =>
  (dg_new G121 50 40).bind fun G122 =>
  (dg_pR G122 0 71 x0 (dg_n G121)).bind fun G123 =>
  (dg_new G123 52 40).bind fun G124 =>
  (dg_pR G124 0 72 x0 (dg_n G123)).bind fun G125 =>
  (dg_new G125 50 10).bind fun G126 =>
  (dg_pR G126 0 73 x0 (dg_n G125)).bind fun G127 =>
  (dg_new G127 50 40).bind fun G128 =>
  (dg_pR G128 0 74 x0 (dg_n G127)).bind fun G129 =>
  (dg_new G129 50 40).bind fun G130 =>
  (dg_pR G130 0 75 x0 (dg_n G129)).bind fun G131 =>
  (dg_new G131 53 40).bind fun G132 =>
  (dg_pR G132 0 76 x0 (dg_n G131)).bind fun G133 =>
  (dg_new G133 50 8).bind fun G134 =>
  (dg_pR G134 0 77 x0 (dg_n G133)).bind fun G135 =>
  (dg_new G135 50 256).bind fun G136 =>
  (dg_pR G136 0 78 x0 (dg_n G135)).bind fun G137 =>
  (dg_new G137 52 3).bind fun G138 =>
  (dg_pR G138 0 79 x0 (dg_n G137)).bind fun G139 =>
  (dg_gR G139 0 4 x0).bind fun v140 =>
  (dg_st G139 50 v140 0 (-1)).bind fun G141 =>
  some G141
theorem wG_X2_init {l : Launch} {E : dj_E} {Mo : Option dm_M} {G' : dg_G} (G : dg_G) (x0 : Nat) (hf : gG_X2_init G x0 = some G') : dgW tG_X2_init l E Mo G' (.inr none) G 0 [(0, dj_v E x0)] [] := by
  unfold gG_X2_init at hf
  refine g_aload_n dX2_init_0 rfl (j := 0) rfl ?_
  obtain ⟨u1, h1, hf⟩ := dh_bd hf
  refine g_obj h1 q1392 (Nat.le_of_ble_eq_true rfl) (Nat.le_of_ble_eq_true rfl) dX2_init_1 ?_
  refine g_aload_n dX2_init_4 rfl (j := 0) rfl ?_
  refine dg_l (fun _ _ _ _ _ _ _ hC => r_sipush hC dX2_init_5 ks_2400) ?_
  obtain ⟨G2, h2, hf⟩ := dh_bd hf
  refine g_newa 1 (atype := .byte) (ty := .byte) (by decide) rfl rfl (fun _ _ h => h) rfl (by decide) q156 h2 dX2_init_8 ?_
  obtain ⟨G3, h3, hf⟩ := dh_bd hf
  refine g_putR fF_X2_7 (Or.inr ⟨_, rfl⟩) (fun _ => rfl) (by decide) h3 dX2_init_10 ?_
  refine g_aload_n dX2_init_13 rfl (j := 0) rfl ?_
  refine dg_l (fun _ _ _ _ _ _ _ hC => r_iconst hC dX2_init_14 ki_4) ?_
  obtain ⟨G4, h4, hf⟩ := dh_bd hf
  refine g_newa 0 (atype := .int) (ty := .int) (by decide) rfl rfl (fun _ _ h => h) rfl (by decide) q215 h4 dX2_init_15 ?_
  obtain ⟨G5, h5, hf⟩ := dh_bd hf
  refine g_putR fF_X2_13 (Or.inr ⟨_, rfl⟩) (fun _ => rfl) (by decide) h5 dX2_init_17 ?_
  refine g_aload_n dX2_init_20 rfl (j := 0) rfl ?_
  refine dg_l (fun _ _ _ _ _ _ _ hC => r_iconst hC dX2_init_21 ki_4) ?_
  obtain ⟨G6, h6, hf⟩ := dh_bd hf
  refine g_newa 0 (atype := .int) (ty := .int) (by decide) rfl rfl (fun _ _ h => h) rfl (by decide) q215 h6 dX2_init_22 ?_
  obtain ⟨G7, h7, hf⟩ := dh_bd hf
  refine g_putR fF_X2_17 (Or.inr ⟨_, rfl⟩) (fun _ => rfl) (by decide) h7 dX2_init_24 ?_
  refine g_aload_n dX2_init_27 rfl (j := 0) rfl ?_
  refine dg_l (fun _ _ _ _ _ _ _ hC => r_iconst hC dX2_init_28 ki_4) ?_
  obtain ⟨G8, h8, hf⟩ := dh_bd hf
  refine g_newa 0 (atype := .int) (ty := .int) (by decide) rfl rfl (fun _ _ h => h) rfl (by decide) q215 h8 dX2_init_29 ?_
  obtain ⟨G9, h9, hf⟩ := dh_bd hf
  refine g_putR fF_X2_20 (Or.inr ⟨_, rfl⟩) (fun _ => rfl) (by decide) h9 dX2_init_31 ?_
  refine g_aload_n dX2_init_34 rfl (j := 0) rfl ?_
  refine dg_l (fun _ _ _ _ _ _ _ hC => r_iconst hC dX2_init_35 ki_4) ?_
  obtain ⟨G10, h10, hf⟩ := dh_bd hf
  refine g_newa 0 (atype := .int) (ty := .int) (by decide) rfl rfl (fun _ _ h => h) rfl (by decide) q215 h10 dX2_init_36 ?_
  obtain ⟨G11, h11, hf⟩ := dh_bd hf
  refine g_putR fF_X2_23 (Or.inr ⟨_, rfl⟩) (fun _ => rfl) (by decide) h11 dX2_init_38 ?_
  refine g_aload_n dX2_init_41 rfl (j := 0) rfl ?_
  refine dg_l (fun _ _ _ _ _ _ _ hC => r_iconst hC dX2_init_42 ki_4) ?_
  obtain ⟨G12, h12, hf⟩ := dh_bd hf
  refine g_newa 0 (atype := .int) (ty := .int) (by decide) rfl rfl (fun _ _ h => h) rfl (by decide) q215 h12 dX2_init_43 ?_
  obtain ⟨G13, h13, hf⟩ := dh_bd hf
  refine g_putR fF_X2_26 (Or.inr ⟨_, rfl⟩) (fun _ => rfl) (by decide) h13 dX2_init_45 ?_
  refine g_aload_n dX2_init_48 rfl (j := 0) rfl ?_
  refine dg_l (fun _ _ _ _ _ _ _ hC => r_iconst hC dX2_init_49 ki_4) ?_
  obtain ⟨G14, h14, hf⟩ := dh_bd hf
  refine g_newa 0 (atype := .int) (ty := .int) (by decide) rfl rfl (fun _ _ h => h) rfl (by decide) q215 h14 dX2_init_50 ?_
  obtain ⟨G15, h15, hf⟩ := dh_bd hf
  refine g_putR fF_X2_29 (Or.inr ⟨_, rfl⟩) (fun _ => rfl) (by decide) h15 dX2_init_52 ?_
  refine g_aload_n dX2_init_55 rfl (j := 0) rfl ?_
  refine dg_l (fun _ _ _ _ _ _ _ hC => r_iconst hC dX2_init_56 ki_4) ?_
  obtain ⟨G16, h16, hf⟩ := dh_bd hf
  refine g_newa 0 (atype := .int) (ty := .int) (by decide) rfl rfl (fun _ _ h => h) rfl (by decide) q215 h16 dX2_init_57 ?_
  obtain ⟨G17, h17, hf⟩ := dh_bd hf
  refine g_putR fF_X2_32 (Or.inr ⟨_, rfl⟩) (fun _ => rfl) (by decide) h17 dX2_init_59 ?_
  refine g_aload_n dX2_init_62 rfl (j := 0) rfl ?_
  refine dg_l (fun _ _ _ _ _ _ _ hC => r_bipush hC dX2_init_63 kb_48) ?_
  obtain ⟨G18, h18, hf⟩ := dh_bd hf
  refine g_newa 0 (atype := .int) (ty := .int) (by decide) rfl rfl (fun _ _ h => h) rfl (by decide) q215 h18 dX2_init_65 ?_
  obtain ⟨G19, h19, hf⟩ := dh_bd hf
  refine g_putR fF_X2_35 (Or.inr ⟨_, rfl⟩) (fun _ => rfl) (by decide) h19 dX2_init_67 ?_
  refine g_aload_n dX2_init_70 rfl (j := 0) rfl ?_
  refine dg_l (fun _ _ _ _ _ _ _ hC => r_bipush hC dX2_init_71 kb_48) ?_
  obtain ⟨G20, h20, hf⟩ := dh_bd hf
  refine g_newa 0 (atype := .int) (ty := .int) (by decide) rfl rfl (fun _ _ h => h) rfl (by decide) q215 h20 dX2_init_73 ?_
  obtain ⟨G21, h21, hf⟩ := dh_bd hf
  refine g_putR fF_X2_38 (Or.inr ⟨_, rfl⟩) (fun _ => rfl) (by decide) h21 dX2_init_75 ?_
  refine g_aload_n dX2_init_78 rfl (j := 0) rfl ?_
  refine dg_l (fun _ _ _ _ _ _ _ hC => r_bipush hC dX2_init_79 kb_48) ?_
  obtain ⟨G22, h22, hf⟩ := dh_bd hf
  refine g_newa 2 (atype := .boolean) (ty := .boolean) (by decide) rfl rfl (fun _ _ h => h) rfl (by decide) q251 h22 dX2_init_81 ?_
  obtain ⟨G23, h23, hf⟩ := dh_bd hf
  refine g_putR fF_X2_41 (Or.inr ⟨_, rfl⟩) (fun _ => rfl) (by decide) h23 dX2_init_83 ?_
  refine g_aload_n dX2_init_86 rfl (j := 0) rfl ?_
  refine dg_l (fun _ _ _ _ _ _ _ hC => r_bipush hC dX2_init_87 kb_48) ?_
  obtain ⟨G24, h24, hf⟩ := dh_bd hf
  refine g_newa 0 (atype := .int) (ty := .int) (by decide) rfl rfl (fun _ _ h => h) rfl (by decide) q215 h24 dX2_init_89 ?_
  obtain ⟨G25, h25, hf⟩ := dh_bd hf
  refine g_putR fF_X2_45 (Or.inr ⟨_, rfl⟩) (fun _ => rfl) (by decide) h25 dX2_init_91 ?_
  refine g_aload_n dX2_init_94 rfl (j := 0) rfl ?_
  refine dg_l (fun _ _ _ _ _ _ _ hC => r_bipush hC dX2_init_95 kb_48) ?_
  obtain ⟨G26, h26, hf⟩ := dh_bd hf
  refine g_newa 0 (atype := .int) (ty := .int) (by decide) rfl rfl (fun _ _ h => h) rfl (by decide) q215 h26 dX2_init_97 ?_
  obtain ⟨G27, h27, hf⟩ := dh_bd hf
  refine g_putR fF_X2_48 (Or.inr ⟨_, rfl⟩) (fun _ => rfl) (by decide) h27 dX2_init_99 ?_
  refine g_aload_n dX2_init_102 rfl (j := 0) rfl ?_
  refine dg_l (fun _ _ _ _ _ _ _ hC => r_bipush hC dX2_init_103 kb_48) ?_
  obtain ⟨G28, h28, hf⟩ := dh_bd hf
  refine g_newa 0 (atype := .int) (ty := .int) (by decide) rfl rfl (fun _ _ h => h) rfl (by decide) q215 h28 dX2_init_105 ?_
  obtain ⟨G29, h29, hf⟩ := dh_bd hf
  refine g_putR fF_X2_51 (Or.inr ⟨_, rfl⟩) (fun _ => rfl) (by decide) h29 dX2_init_107 ?_
  refine g_aload_n dX2_init_110 rfl (j := 0) rfl ?_
  refine dg_l (fun _ _ _ _ _ _ _ hC => r_bipush hC dX2_init_111 kb_48) ?_
  obtain ⟨G30, h30, hf⟩ := dh_bd hf
  refine g_newa 2 (atype := .boolean) (ty := .boolean) (by decide) rfl rfl (fun _ _ h => h) rfl (by decide) q251 h30 dX2_init_113 ?_
  obtain ⟨G31, h31, hf⟩ := dh_bd hf
  refine g_putR fF_X2_54 (Or.inr ⟨_, rfl⟩) (fun _ => rfl) (by decide) h31 dX2_init_115 ?_
  refine g_aload_n dX2_init_118 rfl (j := 0) rfl ?_
  refine dg_l (fun _ _ _ _ _ _ _ hC => r_bipush hC dX2_init_119 kb_48) ?_
  obtain ⟨G32, h32, hf⟩ := dh_bd hf
  refine g_newa 0 (atype := .int) (ty := .int) (by decide) rfl rfl (fun _ _ h => h) rfl (by decide) q215 h32 dX2_init_121 ?_
  obtain ⟨G33, h33, hf⟩ := dh_bd hf
  refine g_putR fF_X2_57 (Or.inr ⟨_, rfl⟩) (fun _ => rfl) (by decide) h33 dX2_init_123 ?_
  refine g_aload_n dX2_init_126 rfl (j := 0) rfl ?_
  refine dg_l (fun _ _ _ _ _ _ _ hC => r_bipush hC dX2_init_127 kb_48) ?_
  obtain ⟨G34, h34, hf⟩ := dh_bd hf
  refine g_newa 0 (atype := .int) (ty := .int) (by decide) rfl rfl (fun _ _ h => h) rfl (by decide) q215 h34 dX2_init_129 ?_
  obtain ⟨G35, h35, hf⟩ := dh_bd hf
  refine g_putR fF_X2_60 (Or.inr ⟨_, rfl⟩) (fun _ => rfl) (by decide) h35 dX2_init_131 ?_
  refine g_aload_n dX2_init_134 rfl (j := 0) rfl ?_
  refine dg_l (fun _ _ _ _ _ _ _ hC => r_bipush hC dX2_init_135 kb_48) ?_
  obtain ⟨G36, h36, hf⟩ := dh_bd hf
  refine g_newa 0 (atype := .int) (ty := .int) (by decide) rfl rfl (fun _ _ h => h) rfl (by decide) q215 h36 dX2_init_137 ?_
  obtain ⟨G37, h37, hf⟩ := dh_bd hf
  refine g_putR fF_X2_63 (Or.inr ⟨_, rfl⟩) (fun _ => rfl) (by decide) h37 dX2_init_139 ?_
  refine g_aload_n dX2_init_142 rfl (j := 0) rfl ?_
  refine dg_l (fun _ _ _ _ _ _ _ hC => r_bipush hC dX2_init_143 kb_48) ?_
  obtain ⟨G38, h38, hf⟩ := dh_bd hf
  refine g_newa 0 (atype := .int) (ty := .int) (by decide) rfl rfl (fun _ _ h => h) rfl (by decide) q215 h38 dX2_init_145 ?_
  obtain ⟨G39, h39, hf⟩ := dh_bd hf
  refine g_putR fF_X2_66 (Or.inr ⟨_, rfl⟩) (fun _ => rfl) (by decide) h39 dX2_init_147 ?_
  refine g_aload_n dX2_init_150 rfl (j := 0) rfl ?_
  refine dg_l (fun _ _ _ _ _ _ _ hC => r_bipush hC dX2_init_151 kb_48) ?_
  obtain ⟨G40, h40, hf⟩ := dh_bd hf
  refine g_newa 2 (atype := .boolean) (ty := .boolean) (by decide) rfl rfl (fun _ _ h => h) rfl (by decide) q251 h40 dX2_init_153 ?_
  obtain ⟨G41, h41, hf⟩ := dh_bd hf
  refine g_putR fF_X2_69 (Or.inr ⟨_, rfl⟩) (fun _ => rfl) (by decide) h41 dX2_init_155 ?_
  refine g_aload_n dX2_init_158 rfl (j := 0) rfl ?_
  refine dg_l (fun _ _ _ _ _ _ _ hC => r_bipush hC dX2_init_159 kb_48) ?_
  obtain ⟨G42, h42, hf⟩ := dh_bd hf
  refine g_newa 0 (atype := .int) (ty := .int) (by decide) rfl rfl (fun _ _ h => h) rfl (by decide) q215 h42 dX2_init_161 ?_
  obtain ⟨G43, h43, hf⟩ := dh_bd hf
  refine g_putR fF_X2_72 (Or.inr ⟨_, rfl⟩) (fun _ => rfl) (by decide) h43 dX2_init_163 ?_
  refine g_aload_n dX2_init_166 rfl (j := 0) rfl ?_
  refine dg_l (fun _ _ _ _ _ _ _ hC => r_bipush hC dX2_init_167 kb_48) ?_
  obtain ⟨G44, h44, hf⟩ := dh_bd hf
  refine g_newa 0 (atype := .int) (ty := .int) (by decide) rfl rfl (fun _ _ h => h) rfl (by decide) q215 h44 dX2_init_169 ?_
  obtain ⟨G45, h45, hf⟩ := dh_bd hf
  refine g_putR fF_X2_75 (Or.inr ⟨_, rfl⟩) (fun _ => rfl) (by decide) h45 dX2_init_171 ?_
  refine g_aload_n dX2_init_174 rfl (j := 0) rfl ?_
  refine dg_l (fun _ _ _ _ _ _ _ hC => r_iconst hC dX2_init_175 ki_4) ?_
  obtain ⟨G46, h46, hf⟩ := dh_bd hf
  refine g_newa 0 (atype := .int) (ty := .int) (by decide) rfl rfl (fun _ _ h => h) rfl (by decide) q215 h46 dX2_init_176 ?_
  obtain ⟨G47, h47, hf⟩ := dh_bd hf
  refine g_putR fF_X2_78 (Or.inr ⟨_, rfl⟩) (fun _ => rfl) (by decide) h47 dX2_init_178 ?_
  refine g_aload_n dX2_init_181 rfl (j := 0) rfl ?_
  refine dg_l (fun _ _ _ _ _ _ _ hC => r_sipush hC dX2_init_182 ks_576) ?_
  obtain ⟨G48, h48, hf⟩ := dh_bd hf
  refine g_newa 0 (atype := .int) (ty := .int) (by decide) rfl rfl (fun _ _ h => h) rfl (by decide) q215 h48 dX2_init_185 ?_
  obtain ⟨G49, h49, hf⟩ := dh_bd hf
  refine g_putR fF_X2_81 (Or.inr ⟨_, rfl⟩) (fun _ => rfl) (by decide) h49 dX2_init_187 ?_
  refine g_aload_n dX2_init_190 rfl (j := 0) rfl ?_
  refine dg_l (fun _ _ _ _ _ _ _ hC => r_iconst hC dX2_init_191 ki_4) ?_
  obtain ⟨G50, h50, hf⟩ := dh_bd hf
  refine g_newa 0 (atype := .int) (ty := .int) (by decide) rfl rfl (fun _ _ h => h) rfl (by decide) q215 h50 dX2_init_192 ?_
  obtain ⟨G51, h51, hf⟩ := dh_bd hf
  refine g_putR fF_X2_84 (Or.inr ⟨_, rfl⟩) (fun _ => rfl) (by decide) h51 dX2_init_194 ?_
  refine g_aload_n dX2_init_197 rfl (j := 0) rfl ?_
  refine dg_l (fun _ _ _ _ _ _ _ hC => r_sipush hC dX2_init_198 ks_160) ?_
  obtain ⟨G52, h52, hf⟩ := dh_bd hf
  refine g_newa 0 (atype := .int) (ty := .int) (by decide) rfl rfl (fun _ _ h => h) rfl (by decide) q215 h52 dX2_init_201 ?_
  obtain ⟨G53, h53, hf⟩ := dh_bd hf
  refine g_putR fF_X2_87 (Or.inr ⟨_, rfl⟩) (fun _ => rfl) (by decide) h53 dX2_init_203 ?_
  refine g_aload_n dX2_init_206 rfl (j := 0) rfl ?_
  refine dg_l (fun _ _ _ _ _ _ _ hC => r_sipush hC dX2_init_207 ks_160) ?_
  obtain ⟨G54, h54, hf⟩ := dh_bd hf
  refine g_newa 0 (atype := .int) (ty := .int) (by decide) rfl rfl (fun _ _ h => h) rfl (by decide) q215 h54 dX2_init_210 ?_
  obtain ⟨G55, h55, hf⟩ := dh_bd hf
  refine g_putR fF_X2_90 (Or.inr ⟨_, rfl⟩) (fun _ => rfl) (by decide) h55 dX2_init_212 ?_
  refine g_aload_n dX2_init_215 rfl (j := 0) rfl ?_
  refine dg_l (fun _ _ _ _ _ _ _ hC => r_sipush hC dX2_init_216 ks_160) ?_
  obtain ⟨G56, h56, hf⟩ := dh_bd hf
  refine g_newa 0 (atype := .int) (ty := .int) (by decide) rfl rfl (fun _ _ h => h) rfl (by decide) q215 h56 dX2_init_219 ?_
  obtain ⟨G57, h57, hf⟩ := dh_bd hf
  refine g_putR fF_X2_93 (Or.inr ⟨_, rfl⟩) (fun _ => rfl) (by decide) h57 dX2_init_221 ?_
  refine g_aload_n dX2_init_224 rfl (j := 0) rfl ?_
  refine dg_l (fun _ _ _ _ _ _ _ hC => r_sipush hC dX2_init_225 ks_160) ?_
  obtain ⟨G58, h58, hf⟩ := dh_bd hf
  refine g_newa 0 (atype := .int) (ty := .int) (by decide) rfl rfl (fun _ _ h => h) rfl (by decide) q215 h58 dX2_init_228 ?_
  obtain ⟨G59, h59, hf⟩ := dh_bd hf
  refine g_putR fF_X2_96 (Or.inr ⟨_, rfl⟩) (fun _ => rfl) (by decide) h59 dX2_init_230 ?_
  refine g_aload_n dX2_init_233 rfl (j := 0) rfl ?_
  refine dg_l (fun _ _ _ _ _ _ _ hC => r_sipush hC dX2_init_234 ks_160) ?_
  obtain ⟨G60, h60, hf⟩ := dh_bd hf
  refine g_newa 0 (atype := .int) (ty := .int) (by decide) rfl rfl (fun _ _ h => h) rfl (by decide) q215 h60 dX2_init_237 ?_
  obtain ⟨G61, h61, hf⟩ := dh_bd hf
  refine g_putR fF_X2_99 (Or.inr ⟨_, rfl⟩) (fun _ => rfl) (by decide) h61 dX2_init_239 ?_
  refine g_aload_n dX2_init_242 rfl (j := 0) rfl ?_
  refine dg_l (fun _ _ _ _ _ _ _ hC => r_sipush hC dX2_init_243 ks_160) ?_
  obtain ⟨G62, h62, hf⟩ := dh_bd hf
  refine g_newa 0 (atype := .int) (ty := .int) (by decide) rfl rfl (fun _ _ h => h) rfl (by decide) q215 h62 dX2_init_246 ?_
  obtain ⟨G63, h63, hf⟩ := dh_bd hf
  refine g_putR fF_X2_102 (Or.inr ⟨_, rfl⟩) (fun _ => rfl) (by decide) h63 dX2_init_248 ?_
  refine g_aload_n dX2_init_251 rfl (j := 0) rfl ?_
  refine dg_l (fun _ _ _ _ _ _ _ hC => r_sipush hC dX2_init_252 ks_160) ?_
  obtain ⟨G64, h64, hf⟩ := dh_bd hf
  refine g_newa 0 (atype := .int) (ty := .int) (by decide) rfl rfl (fun _ _ h => h) rfl (by decide) q215 h64 dX2_init_255 ?_
  obtain ⟨G65, h65, hf⟩ := dh_bd hf
  refine g_putR fF_X2_105 (Or.inr ⟨_, rfl⟩) (fun _ => rfl) (by decide) h65 dX2_init_257 ?_
  refine g_aload_n dX2_init_260 rfl (j := 0) rfl ?_
  refine dg_l (fun _ _ _ _ _ _ _ hC => r_sipush hC dX2_init_261 ks_160) ?_
  obtain ⟨G66, h66, hf⟩ := dh_bd hf
  refine g_newa 0 (atype := .int) (ty := .int) (by decide) rfl rfl (fun _ _ h => h) rfl (by decide) q215 h66 dX2_init_264 ?_
  obtain ⟨G67, h67, hf⟩ := dh_bd hf
  refine g_putR fF_X2_108 (Or.inr ⟨_, rfl⟩) (fun _ => rfl) (by decide) h67 dX2_init_266 ?_
  refine g_aload_n dX2_init_269 rfl (j := 0) rfl ?_
  refine dg_l (fun _ _ _ _ _ _ _ hC => r_sipush hC dX2_init_270 ks_160) ?_
  obtain ⟨G68, h68, hf⟩ := dh_bd hf
  refine g_newa 0 (atype := .int) (ty := .int) (by decide) rfl rfl (fun _ _ h => h) rfl (by decide) q215 h68 dX2_init_273 ?_
  obtain ⟨G69, h69, hf⟩ := dh_bd hf
  refine g_putR fF_X2_111 (Or.inr ⟨_, rfl⟩) (fun _ => rfl) (by decide) h69 dX2_init_275 ?_
  refine g_aload_n dX2_init_278 rfl (j := 0) rfl ?_
  refine dg_l (fun _ _ _ _ _ _ _ hC => r_sipush hC dX2_init_279 ks_160) ?_
  obtain ⟨G70, h70, hf⟩ := dh_bd hf
  refine g_newa 0 (atype := .int) (ty := .int) (by decide) rfl rfl (fun _ _ h => h) rfl (by decide) q215 h70 dX2_init_282 ?_
  obtain ⟨G71, h71, hf⟩ := dh_bd hf
  refine g_putR fF_X2_114 (Or.inr ⟨_, rfl⟩) (fun _ => rfl) (by decide) h71 dX2_init_284 ?_
  refine g_aload_n dX2_init_287 rfl (j := 0) rfl ?_
  refine dg_l (fun _ _ _ _ _ _ _ hC => r_sipush hC dX2_init_288 ks_160) ?_
  obtain ⟨G72, h72, hf⟩ := dh_bd hf
  refine g_newa 0 (atype := .int) (ty := .int) (by decide) rfl rfl (fun _ _ h => h) rfl (by decide) q215 h72 dX2_init_291 ?_
  obtain ⟨G73, h73, hf⟩ := dh_bd hf
  refine g_putR fF_X2_117 (Or.inr ⟨_, rfl⟩) (fun _ => rfl) (by decide) h73 dX2_init_293 ?_
  refine g_aload_n dX2_init_296 rfl (j := 0) rfl ?_
  refine dg_l (fun _ _ _ _ _ _ _ hC => r_sipush hC dX2_init_297 ks_160) ?_
  obtain ⟨G74, h74, hf⟩ := dh_bd hf
  refine g_newa 0 (atype := .int) (ty := .int) (by decide) rfl rfl (fun _ _ h => h) rfl (by decide) q215 h74 dX2_init_300 ?_
  obtain ⟨G75, h75, hf⟩ := dh_bd hf
  refine g_putR fF_X2_120 (Or.inr ⟨_, rfl⟩) (fun _ => rfl) (by decide) h75 dX2_init_302 ?_
  refine g_aload_n dX2_init_305 rfl (j := 0) rfl ?_
  refine dg_l (fun _ _ _ _ _ _ _ hC => r_sipush hC dX2_init_306 ks_160) ?_
  obtain ⟨G76, h76, hf⟩ := dh_bd hf
  refine g_newa 2 (atype := .boolean) (ty := .boolean) (by decide) rfl rfl (fun _ _ h => h) rfl (by decide) q251 h76 dX2_init_309 ?_
  obtain ⟨G77, h77, hf⟩ := dh_bd hf
  refine g_putR fF_X2_123 (Or.inr ⟨_, rfl⟩) (fun _ => rfl) (by decide) h77 dX2_init_311 ?_
  refine g_aload_n dX2_init_314 rfl (j := 0) rfl ?_
  refine dg_l (fun _ _ _ _ _ _ _ hC => r_sipush hC dX2_init_315 ks_160) ?_
  obtain ⟨G78, h78, hf⟩ := dh_bd hf
  refine g_newa 0 (atype := .int) (ty := .int) (by decide) rfl rfl (fun _ _ h => h) rfl (by decide) q215 h78 dX2_init_318 ?_
  obtain ⟨G79, h79, hf⟩ := dh_bd hf
  refine g_putR fF_X2_126 (Or.inr ⟨_, rfl⟩) (fun _ => rfl) (by decide) h79 dX2_init_320 ?_
  refine g_aload_n dX2_init_323 rfl (j := 0) rfl ?_
  refine dg_l (fun _ _ _ _ _ _ _ hC => r_sipush hC dX2_init_324 ks_160) ?_
  obtain ⟨G80, h80, hf⟩ := dh_bd hf
  refine g_newa 0 (atype := .int) (ty := .int) (by decide) rfl rfl (fun _ _ h => h) rfl (by decide) q215 h80 dX2_init_327 ?_
  obtain ⟨G81, h81, hf⟩ := dh_bd hf
  refine g_putR fF_X2_129 (Or.inr ⟨_, rfl⟩) (fun _ => rfl) (by decide) h81 dX2_init_329 ?_
  refine g_aload_n dX2_init_332 rfl (j := 0) rfl ?_
  refine dg_l (fun _ _ _ _ _ _ _ hC => r_iconst hC dX2_init_333 ki_4) ?_
  obtain ⟨G82, h82, hf⟩ := dh_bd hf
  refine g_newa 0 (atype := .int) (ty := .int) (by decide) rfl rfl (fun _ _ h => h) rfl (by decide) q215 h82 dX2_init_334 ?_
  obtain ⟨G83, h83, hf⟩ := dh_bd hf
  refine g_putR fF_X2_132 (Or.inr ⟨_, rfl⟩) (fun _ => rfl) (by decide) h83 dX2_init_336 ?_
  refine g_aload_n dX2_init_339 rfl (j := 0) rfl ?_
  refine dg_l (fun _ _ _ _ _ _ _ hC => r_bipush hC dX2_init_340 kb_48) ?_
  obtain ⟨G84, h84, hf⟩ := dh_bd hf
  refine g_newa 0 (atype := .int) (ty := .int) (by decide) rfl rfl (fun _ _ h => h) rfl (by decide) q215 h84 dX2_init_342 ?_
  obtain ⟨G85, h85, hf⟩ := dh_bd hf
  refine g_putR fF_X2_135 (Or.inr ⟨_, rfl⟩) (fun _ => rfl) (by decide) h85 dX2_init_344 ?_
  refine g_aload_n dX2_init_347 rfl (j := 0) rfl ?_
  refine dg_l (fun _ _ _ _ _ _ _ hC => r_iconst hC dX2_init_348 ki_4) ?_
  obtain ⟨G86, h86, hf⟩ := dh_bd hf
  refine g_newa 0 (atype := .int) (ty := .int) (by decide) rfl rfl (fun _ _ h => h) rfl (by decide) q215 h86 dX2_init_349 ?_
  obtain ⟨G87, h87, hf⟩ := dh_bd hf
  refine g_putR fF_X2_138 (Or.inr ⟨_, rfl⟩) (fun _ => rfl) (by decide) h87 dX2_init_351 ?_
  refine g_aload_n dX2_init_354 rfl (j := 0) rfl ?_
  refine dg_l (fun _ _ _ _ _ _ _ hC => r_bipush hC dX2_init_355 kb_16) ?_
  obtain ⟨G88, h88, hf⟩ := dh_bd hf
  refine g_newa 0 (atype := .int) (ty := .int) (by decide) rfl rfl (fun _ _ h => h) rfl (by decide) q215 h88 dX2_init_357 ?_
  obtain ⟨G89, h89, hf⟩ := dh_bd hf
  refine g_putR fF_X2_141 (Or.inr ⟨_, rfl⟩) (fun _ => rfl) (by decide) h89 dX2_init_359 ?_
  refine g_aload_n dX2_init_362 rfl (j := 0) rfl ?_
  refine dg_l (fun _ _ _ _ _ _ _ hC => r_bipush hC dX2_init_363 kb_16) ?_
  obtain ⟨G90, h90, hf⟩ := dh_bd hf
  refine g_newa 0 (atype := .int) (ty := .int) (by decide) rfl rfl (fun _ _ h => h) rfl (by decide) q215 h90 dX2_init_365 ?_
  obtain ⟨G91, h91, hf⟩ := dh_bd hf
  refine g_putR fF_X2_144 (Or.inr ⟨_, rfl⟩) (fun _ => rfl) (by decide) h91 dX2_init_367 ?_
  refine g_aload_n dX2_init_370 rfl (j := 0) rfl ?_
  refine dg_l (fun _ _ _ _ _ _ _ hC => r_bipush hC dX2_init_371 kb_16) ?_
  obtain ⟨G92, h92, hf⟩ := dh_bd hf
  refine g_newa 0 (atype := .int) (ty := .int) (by decide) rfl rfl (fun _ _ h => h) rfl (by decide) q215 h92 dX2_init_373 ?_
  obtain ⟨G93, h93, hf⟩ := dh_bd hf
  refine g_putR fF_X2_147 (Or.inr ⟨_, rfl⟩) (fun _ => rfl) (by decide) h93 dX2_init_375 ?_
  refine g_aload_n dX2_init_378 rfl (j := 0) rfl ?_
  refine dg_l (fun _ _ _ _ _ _ _ hC => r_sipush hC dX2_init_379 ks_320) ?_
  obtain ⟨G94, h94, hf⟩ := dh_bd hf
  refine g_newa 0 (atype := .int) (ty := .int) (by decide) rfl rfl (fun _ _ h => h) rfl (by decide) q215 h94 dX2_init_382 ?_
  obtain ⟨G95, h95, hf⟩ := dh_bd hf
  refine g_putR fF_X2_150 (Or.inr ⟨_, rfl⟩) (fun _ => rfl) (by decide) h95 dX2_init_384 ?_
  refine g_aload_n dX2_init_387 rfl (j := 0) rfl ?_
  refine dg_l (fun _ _ _ _ _ _ _ hC => r_sipush hC dX2_init_388 ks_320) ?_
  obtain ⟨G96, h96, hf⟩ := dh_bd hf
  refine g_newa 0 (atype := .int) (ty := .int) (by decide) rfl rfl (fun _ _ h => h) rfl (by decide) q215 h96 dX2_init_391 ?_
  obtain ⟨G97, h97, hf⟩ := dh_bd hf
  refine g_putR fF_X2_153 (Or.inr ⟨_, rfl⟩) (fun _ => rfl) (by decide) h97 dX2_init_393 ?_
  refine g_aload_n dX2_init_396 rfl (j := 0) rfl ?_
  refine dg_l (fun _ _ _ _ _ _ _ hC => r_sipush hC dX2_init_397 ks_320) ?_
  obtain ⟨G98, h98, hf⟩ := dh_bd hf
  refine g_newa 0 (atype := .int) (ty := .int) (by decide) rfl rfl (fun _ _ h => h) rfl (by decide) q215 h98 dX2_init_400 ?_
  obtain ⟨G99, h99, hf⟩ := dh_bd hf
  refine g_putR fF_X2_156 (Or.inr ⟨_, rfl⟩) (fun _ => rfl) (by decide) h99 dX2_init_402 ?_
  refine g_aload_n dX2_init_405 rfl (j := 0) rfl ?_
  refine dg_l (fun _ _ _ _ _ _ _ hC => r_sipush hC dX2_init_406 ks_1280) ?_
  obtain ⟨G100, h100, hf⟩ := dh_bd hf
  refine g_newa 0 (atype := .int) (ty := .int) (by decide) rfl rfl (fun _ _ h => h) rfl (by decide) q215 h100 dX2_init_409 ?_
  obtain ⟨G101, h101, hf⟩ := dh_bd hf
  refine g_putR fF_X2_159 (Or.inr ⟨_, rfl⟩) (fun _ => rfl) (by decide) h101 dX2_init_411 ?_
  refine g_aload_n dX2_init_414 rfl (j := 0) rfl ?_
  refine dg_l (fun _ _ _ _ _ _ _ hC => r_sipush hC dX2_init_415 ks_1280) ?_
  obtain ⟨G102, h102, hf⟩ := dh_bd hf
  refine g_newa 0 (atype := .int) (ty := .int) (by decide) rfl rfl (fun _ _ h => h) rfl (by decide) q215 h102 dX2_init_418 ?_
  obtain ⟨G103, h103, hf⟩ := dh_bd hf
  refine g_putR fF_X2_162 (Or.inr ⟨_, rfl⟩) (fun _ => rfl) (by decide) h103 dX2_init_420 ?_
  refine g_aload_n dX2_init_423 rfl (j := 0) rfl ?_
  refine dg_l (fun _ _ _ _ _ _ _ hC => r_sipush hC dX2_init_424 ks_1280) ?_
  obtain ⟨G104, h104, hf⟩ := dh_bd hf
  refine g_newa 0 (atype := .int) (ty := .int) (by decide) rfl rfl (fun _ _ h => h) rfl (by decide) q215 h104 dX2_init_427 ?_
  obtain ⟨G105, h105, hf⟩ := dh_bd hf
  refine g_putR fF_X2_165 (Or.inr ⟨_, rfl⟩) (fun _ => rfl) (by decide) h105 dX2_init_429 ?_
  refine g_aload_n dX2_init_432 rfl (j := 0) rfl ?_
  refine dg_l (fun _ _ _ _ _ _ _ hC => r_bipush hC dX2_init_433 kb_12) ?_
  obtain ⟨G106, h106, hf⟩ := dh_bd hf
  refine g_newa 0 (atype := .int) (ty := .int) (by decide) rfl rfl (fun _ _ h => h) rfl (by decide) q215 h106 dX2_init_435 ?_
  obtain ⟨G107, h107, hf⟩ := dh_bd hf
  refine g_putR fF_X2_168 (Or.inr ⟨_, rfl⟩) (fun _ => rfl) (by decide) h107 dX2_init_437 ?_
  refine g_aload_n dX2_init_440 rfl (j := 0) rfl ?_
  refine dg_l (fun _ _ _ _ _ _ _ hC => r_bipush hC dX2_init_441 kb_21) ?_
  obtain ⟨G108, h108, hf⟩ := dh_bd hf
  refine g_newa 0 (atype := .int) (ty := .int) (by decide) rfl rfl (fun _ _ h => h) rfl (by decide) q215 h108 dX2_init_443 ?_
  obtain ⟨G109, h109, hf⟩ := dh_bd hf
  refine g_putR fF_X2_171 (Or.inr ⟨_, rfl⟩) (fun _ => rfl) (by decide) h109 dX2_init_445 ?_
  refine g_aload_n dX2_init_448 rfl (j := 0) rfl ?_
  refine dg_l (fun _ _ _ _ _ _ _ hC => r_bipush hC dX2_init_449 kb_21) ?_
  obtain ⟨G110, h110, hf⟩ := dh_bd hf
  refine g_newa 0 (atype := .int) (ty := .int) (by decide) rfl rfl (fun _ _ h => h) rfl (by decide) q215 h110 dX2_init_451 ?_
  obtain ⟨G111, h111, hf⟩ := dh_bd hf
  refine g_putR fF_X2_174 (Or.inr ⟨_, rfl⟩) (fun _ => rfl) (by decide) h111 dX2_init_453 ?_
  refine g_aload_n dX2_init_456 rfl (j := 0) rfl ?_
  refine dg_l (fun _ _ _ _ _ _ _ hC => r_bipush hC dX2_init_457 kb_21) ?_
  obtain ⟨G112, h112, hf⟩ := dh_bd hf
  refine g_newa 0 (atype := .int) (ty := .int) (by decide) rfl rfl (fun _ _ h => h) rfl (by decide) q215 h112 dX2_init_459 ?_
  obtain ⟨G113, h113, hf⟩ := dh_bd hf
  refine g_putR fF_X2_177 (Or.inr ⟨_, rfl⟩) (fun _ => rfl) (by decide) h113 dX2_init_461 ?_
  refine g_aload_n dX2_init_464 rfl (j := 0) rfl ?_
  refine dg_l (fun _ _ _ _ _ _ _ hC => r_bipush hC dX2_init_465 kb_80) ?_
  obtain ⟨G114, h114, hf⟩ := dh_bd hf
  refine g_newa 0 (atype := .int) (ty := .int) (by decide) rfl rfl (fun _ _ h => h) rfl (by decide) q215 h114 dX2_init_467 ?_
  obtain ⟨G115, h115, hf⟩ := dh_bd hf
  refine g_putR fF_X2_180 (Or.inr ⟨_, rfl⟩) (fun _ => rfl) (by decide) h115 dX2_init_469 ?_
  refine g_aload_n dX2_init_472 rfl (j := 0) rfl ?_
  refine dg_l (fun _ _ _ _ _ _ _ hC => r_bipush hC dX2_init_473 kb_80) ?_
  obtain ⟨G116, h116, hf⟩ := dh_bd hf
  refine g_newa 0 (atype := .int) (ty := .int) (by decide) rfl rfl (fun _ _ h => h) rfl (by decide) q215 h116 dX2_init_475 ?_
  obtain ⟨G117, h117, hf⟩ := dh_bd hf
  refine g_putR fF_X2_183 (Or.inr ⟨_, rfl⟩) (fun _ => rfl) (by decide) h117 dX2_init_477 ?_
  refine g_aload_n dX2_init_480 rfl (j := 0) rfl ?_
  refine dg_l (fun _ _ _ _ _ _ _ hC => r_bipush hC dX2_init_481 kb_80) ?_
  obtain ⟨G118, h118, hf⟩ := dh_bd hf
  refine g_newa 0 (atype := .int) (ty := .int) (by decide) rfl rfl (fun _ _ h => h) rfl (by decide) q215 h118 dX2_init_483 ?_
  obtain ⟨G119, h119, hf⟩ := dh_bd hf
  refine g_putR fF_X2_186 (Or.inr ⟨_, rfl⟩) (fun _ => rfl) (by decide) h119 dX2_init_485 ?_
  refine g_aload_n dX2_init_488 rfl (j := 0) rfl ?_
  refine dg_l (fun _ _ _ _ _ _ _ hC => r_bipush hC dX2_init_489 kb_8) ?_
  obtain ⟨G120, h120, hf⟩ := dh_bd hf
  refine g_newa 0 (atype := .int) (ty := .int) (by decide) rfl rfl (fun _ _ h => h) rfl (by decide) q215 h120 dX2_init_491 ?_
  obtain ⟨G121, h121, hf⟩ := dh_bd hf
  refine g_putR fF_X2_189 (Or.inr ⟨_, rfl⟩) (fun _ => rfl) (by decide) h121 dX2_init_493 ?_
  refine g_aload_n dX2_init_496 rfl (j := 0) rfl ?_
  refine dg_l (fun _ _ _ _ _ _ _ hC => r_bipush hC dX2_init_497 kb_40) ?_
  obtain ⟨G122, h122, hf⟩ := dh_bd hf
  refine g_newa 0 (atype := .int) (ty := .int) (by decide) rfl rfl (fun _ _ h => h) rfl (by decide) q215 h122 dX2_init_499 ?_
  obtain ⟨G123, h123, hf⟩ := dh_bd hf
  refine g_putR fF_X2_192 (Or.inr ⟨_, rfl⟩) (fun _ => rfl) (by decide) h123 dX2_init_501 ?_
  refine g_aload_n dX2_init_504 rfl (j := 0) rfl ?_
  refine dg_l (fun _ _ _ _ _ _ _ hC => r_bipush hC dX2_init_505 kb_40) ?_
  obtain ⟨G124, h124, hf⟩ := dh_bd hf
  refine g_newa 2 (atype := .boolean) (ty := .boolean) (by decide) rfl rfl (fun _ _ h => h) rfl (by decide) q251 h124 dX2_init_507 ?_
  obtain ⟨G125, h125, hf⟩ := dh_bd hf
  refine g_putR fF_X2_195 (Or.inr ⟨_, rfl⟩) (fun _ => rfl) (by decide) h125 dX2_init_509 ?_
  refine g_aload_n dX2_init_512 rfl (j := 0) rfl ?_
  refine dg_l (fun _ _ _ _ _ _ _ hC => r_bipush hC dX2_init_513 kb_10) ?_
  obtain ⟨G126, h126, hf⟩ := dh_bd hf
  refine g_newa 0 (atype := .int) (ty := .int) (by decide) rfl rfl (fun _ _ h => h) rfl (by decide) q215 h126 dX2_init_515 ?_
  obtain ⟨G127, h127, hf⟩ := dh_bd hf
  refine g_putR fF_X2_198 (Or.inr ⟨_, rfl⟩) (fun _ => rfl) (by decide) h127 dX2_init_517 ?_
  refine g_aload_n dX2_init_520 rfl (j := 0) rfl ?_
  refine dg_l (fun _ _ _ _ _ _ _ hC => r_bipush hC dX2_init_521 kb_40) ?_
  obtain ⟨G128, h128, hf⟩ := dh_bd hf
  refine g_newa 0 (atype := .int) (ty := .int) (by decide) rfl rfl (fun _ _ h => h) rfl (by decide) q215 h128 dX2_init_523 ?_
  obtain ⟨G129, h129, hf⟩ := dh_bd hf
  refine g_putR fF_X2_201 (Or.inr ⟨_, rfl⟩) (fun _ => rfl) (by decide) h129 dX2_init_525 ?_
  refine g_aload_n dX2_init_528 rfl (j := 0) rfl ?_
  refine dg_l (fun _ _ _ _ _ _ _ hC => r_bipush hC dX2_init_529 kb_40) ?_
  obtain ⟨G130, h130, hf⟩ := dh_bd hf
  refine g_newa 0 (atype := .int) (ty := .int) (by decide) rfl rfl (fun _ _ h => h) rfl (by decide) q215 h130 dX2_init_531 ?_
  obtain ⟨G131, h131, hf⟩ := dh_bd hf
  refine g_putR fF_X2_204 (Or.inr ⟨_, rfl⟩) (fun _ => rfl) (by decide) h131 dX2_init_533 ?_
  refine g_aload_n dX2_init_536 rfl (j := 0) rfl ?_
  refine dg_l (fun _ _ _ _ _ _ _ hC => r_bipush hC dX2_init_537 kb_40) ?_
  obtain ⟨G132, h132, hf⟩ := dh_bd hf
  refine g_newL q250 h132 dX2_init_539 ?_
  obtain ⟨G133, h133, hf⟩ := dh_bd hf
  refine g_putR fF_X2_207 (Or.inr ⟨_, rfl⟩) (fun _ => rfl) (by decide) h133 dX2_init_541 ?_
  refine g_aload_n dX2_init_544 rfl (j := 0) rfl ?_
  refine dg_l (fun _ _ _ _ _ _ _ hC => r_bipush hC dX2_init_545 kb_8) ?_
  obtain ⟨G134, h134, hf⟩ := dh_bd hf
  refine g_newa 0 (atype := .int) (ty := .int) (by decide) rfl rfl (fun _ _ h => h) rfl (by decide) q215 h134 dX2_init_547 ?_
  obtain ⟨G135, h135, hf⟩ := dh_bd hf
  refine g_putR fF_X2_211 (Or.inr ⟨_, rfl⟩) (fun _ => rfl) (by decide) h135 dX2_init_549 ?_
  refine g_aload_n dX2_init_552 rfl (j := 0) rfl ?_
  refine dg_l (fun _ _ _ _ _ _ _ hC => r_sipush hC dX2_init_553 ks_256) ?_
  obtain ⟨G136, h136, hf⟩ := dh_bd hf
  refine g_newa 0 (atype := .int) (ty := .int) (by decide) rfl rfl (fun _ _ h => h) rfl (by decide) q215 h136 dX2_init_556 ?_
  obtain ⟨G137, h137, hf⟩ := dh_bd hf
  refine g_putR fF_X2_214 (Or.inr ⟨_, rfl⟩) (fun _ => rfl) (by decide) h137 dX2_init_558 ?_
  refine g_aload_n dX2_init_561 rfl (j := 0) rfl ?_
  refine dg_l (fun _ _ _ _ _ _ _ hC => r_iconst hC dX2_init_562 ki_3) ?_
  obtain ⟨G138, h138, hf⟩ := dh_bd hf
  refine g_newa 2 (atype := .boolean) (ty := .boolean) (by decide) rfl rfl (fun _ _ h => h) rfl (by decide) q251 h138 dX2_init_563 ?_
  obtain ⟨G139, h139, hf⟩ := dh_bd hf
  refine g_putR fF_X2_217 (Or.inr ⟨_, rfl⟩) (fun _ => rfl) (by decide) h139 dX2_init_565 ?_
  refine g_aload_n dX2_init_568 rfl (j := 0) rfl ?_
  obtain ⟨v140, h140, hf⟩ := dh_bd hf
  refine g_getR fR_X2_20 (by decide) h140 dX2_init_569 ?_
  refine dg_l (fun _ _ _ _ _ _ _ hC => r_iconst hC dX2_init_572 ki_0) ?_
  refine dg_l (fun _ _ _ _ _ _ _ hC => r_iconst hC dX2_init_573 ki_m1) ?_
  obtain ⟨G141, h141, hf⟩ := dh_bd hf
  refine g_iast h141 dX2_init_574 ?_
  exact g_vret dX2_init_575 rfl hf
theorem cG_X2_init (l : Launch) (E : dj_E) (Mo : Option dm_M) (G : dg_G) (x0 : Nat) {G' : dg_G} (h : gG_X2_init G x0 = some G') : dg_Met l yX2_init cX2_init 1 none 1 20 E Mo [dj_v E x0] G none G' :=
  dg_met (plainFor_of_name (by decide)) (by simp only [lg_sl_ref, lg_sl_int, lg_sl_long, lg_sl_nil]; decide) (by simp only [lv_args_ref, lv_args_int, lv_args_long, lv_args_nil]) (wG_X2_init G x0 h)
theorem qG_X2_init : dg_cI yX2_init cX2_init 1 0 := ⟨q1390, q87, q1391, rfl, by decide, by decide, by decide +kernel⟩
