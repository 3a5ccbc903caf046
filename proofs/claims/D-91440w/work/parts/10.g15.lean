set_option maxRecDepth 100000
/-! DebtorsHouse.day()I -/
abbrev tG_X0_day : dg_T := (cX0_day, 4, RX0, (some .int), 7, 154, "day", [])
def gG_X0_day_L41_F (k41 : (dg_G → Nat → Int32 → Option (Int32 × dg_G))) (G : dg_G) (x0 : Nat) (x2 : Int32) : Option (Int32 × dg_G) :=
  (dg_gR G 1 0 x0).bind fun v7 =>
  (dg_gR G 2 8 v7).bind fun v8 =>
  (dg_is G 10 v8).bind fun u9 =>
  (gG_J2_size G v8).bind fun p10 =>
  if p10 ≤ x2 then (
    (dg_gR G 1 0 x0).bind fun v12 =>
    (dg_gI G 2 4 v12).bind fun v13 =>
    (dg_pI G 2 4 v12 (v13 + 1)).bind fun G14 =>
    (dg_gR G14 1 0 x0).bind fun v15 =>
    (dg_pI G14 2 5 v15 0).bind fun G16 =>
    (dg_gR G16 1 0 x0).bind fun v17 =>
    (dg_gI G16 2 4 v17).bind fun v18 =>
    some (v18, G16))
  else
  (dg_is G 1 x0).bind fun u19 =>
  (gG_X0_at G x0 x2).bind fun p20 =>
  (dg_gI G 3 13 p20).bind fun v21 =>
  if ¬ (v21 = 0) then (
    (dg_is G 3 p20).bind fun u30 =>
    (gG_X3_goes G p20).bind fun p31 =>
    (dg_gI p31 3 8 p20).bind fun v32 =>
    (dg_pI p31 3 8 p20 (v32 + 1)).bind fun G33 =>
    k41 G33 x0 (x2 + 1))
  else
  (dg_is G 3 p20).bind fun u23 =>
  (gG_X3_isHeld G p20).bind fun p24 =>
  if p24 = 0 then (
    k41 G x0 (x2 + 1))
  else
  (dg_gI G 3 5 p20).bind fun v26 =>
  (dg_is G 1 x0).bind fun u27 =>
  (gG_X0_tells_3 G x0 p20 3).bind fun p28 =>
  (dg_pI p28.2 3 5 p20 (v26 + p28.1)).bind fun G29 =>
  k41 G29 x0 (x2 + 1)
theorem wG_X0_day_L41_F {l : Launch} {E : dj_E} {Mo : Option dm_M} {r : Int32} {G' : dg_G} (k41 : (dg_G → Nat → Int32 → Option (Int32 × dg_G))) (hk41 : ∀ (G : dg_G) (x0 : Nat) (x2 : Int32), k41 G x0 x2 = some (r, G') → dgW tG_X0_day l E Mo G' (.inr (some (.int r))) G 41 [(0, dj_v E x0), (2, .int x2)] []) (G : dg_G) (x0 : Nat) (x2 : Int32) (hf : gG_X0_day_L41_F k41 G x0 x2 = some (r, G')) : dgW tG_X0_day l E Mo G' (.inr (some (.int r))) G 41 [(0, dj_v E x0), (2, .int x2)] [] := by
  unfold gG_X0_day_L41_F at hf
  refine dg_l (fun _ _ _ _ _ _ _ hC => r_iload_n hC dX0_day_41 rfl (j := 1) rfl) ?_
  refine g_aload_n dX0_day_42 rfl (j := 0) rfl ?_
  obtain ⟨v7, h7, hf⟩ := dh_bd hf
  refine g_getR fR_X0_10 (by decide) h7 dX0_day_43 ?_
  obtain ⟨v8, h8, hf⟩ := dh_bd hf
  refine g_getR fR_X0_51 (by decide) h8 dX0_day_46 ?_
  obtain ⟨u9, h9, hf⟩ := dh_bd hf
  obtain ⟨p10, h10, hf⟩ := dh_bd hf
  refine g_callV (rc_O (ci := 10) rfl h9) (cG_J2_size _ E Mo G v8 h10) q256 qG_J2_size (Nat.le_of_ble_eq_true rfl) (Nat.le_of_ble_eq_true rfl) rfl (dj_cat8 (Nat.le_of_ble_eq_true rfl)) dX0_day_49 ?_
  refine dg_b (fun _ _ _ _ _ _ _ hC => r_icmp_ge hC dX0_day_52 (tgt := 115) (by decide)) (fun c11 => ?_) (fun c11 => ?_)
  · have hf := dh_if hf c11
    refine g_aload_n dX0_day_115 rfl (j := 0) rfl ?_
    obtain ⟨v12, h12, hf⟩ := dh_bd hf
    refine g_getR fR_X0_10 (by decide) h12 dX0_day_116 ?_
    refine g_dup dX0_day_119 ?_
    obtain ⟨v13, h13, hf⟩ := dh_bd hf
    refine g_getI fR_X0_88 (by decide) h13 dX0_day_120 ?_
    refine dg_l (fun _ _ _ _ _ _ _ hC => r_iconst hC dX0_day_123 ki_1) ?_
    refine dg_l (fun _ _ _ _ _ _ _ hC => r_iadd hC dX0_day_124) ?_
    obtain ⟨G14, h14, hf⟩ := dh_bd hf
    refine g_putI fF_X0_88 (fun q => by cases q) (by decide) h14 dX0_day_125 ?_
    refine g_aload_n dX0_day_128 rfl (j := 0) rfl ?_
    obtain ⟨v15, h15, hf⟩ := dh_bd hf
    refine g_getR fR_X0_10 (by decide) h15 dX0_day_129 ?_
    refine dg_l (fun _ _ _ _ _ _ _ hC => r_iconst hC dX0_day_132 ki_0) ?_
    obtain ⟨G16, h16, hf⟩ := dh_bd hf
    refine g_putI fF_X0_294 (fun q => by cases q) (by decide) h16 dX0_day_133 ?_
    refine g_aload_n dX0_day_136 rfl (j := 0) rfl ?_
    obtain ⟨v17, h17, hf⟩ := dh_bd hf
    refine g_getR fR_X0_10 (by decide) h17 dX0_day_137 ?_
    obtain ⟨v18, h18, hf⟩ := dh_bd hf
    refine g_getI fR_X0_88 (by decide) h18 dX0_day_140 ?_
    exact g_iret dX0_day_143 rfl hf
  · have hf := dh_el hf c11
    refine g_aload_n dX0_day_55 rfl (j := 0) rfl ?_
    refine dg_l (fun _ _ _ _ _ _ _ hC => r_iload_n hC dX0_day_56 rfl (j := 1) rfl) ?_
    obtain ⟨u19, h19, hf⟩ := dh_bd hf
    obtain ⟨p20, h20, hf⟩ := dh_bd hf
    refine g_callV (rc_O (ci := 1) rfl h19) (cG_X0_at _ E Mo G x0 x2 h20) q525 qG_X0_at (Nat.le_of_ble_eq_true rfl) (Nat.le_of_ble_eq_true rfl) rfl (dj_cat8 (Nat.le_of_ble_eq_true rfl)) dX0_day_57 ?_
    refine g_astore_n (i := 3) (lv1 := [(3, dj_v E p20), (0, dj_v E x0), (2, .int x2)]) dX0_day_60 rfl (Nat.le_of_ble_eq_true rfl) rfl ?_
    refine g_aload_n dX0_day_61 rfl (j := 0) rfl ?_
    obtain ⟨v21, h21, hf⟩ := dh_bd hf
    refine g_getI fR_X0_337 (by decide) h21 dX0_day_62 ?_
    refine dg_b (fun _ _ _ _ _ _ _ hC => r_if_eq hC dX0_day_65 (tgt := 85) (by decide)) (fun c22 => ?_) (fun c22 => ?_)
    · have hf := dh_el hf (fun q => q c22)
      refine g_aload_n dX0_day_85 rfl (j := 0) rfl ?_
      obtain ⟨u23, h23, hf⟩ := dh_bd hf
      obtain ⟨p24, h24, hf⟩ := dh_bd hf
      refine g_callV (rc_O (ci := 3) rfl h23) (cG_X3_isHeld _ E Mo G p20 h24) q1113 qG_X3_isHeld (Nat.le_of_ble_eq_true rfl) (Nat.le_of_ble_eq_true rfl) rfl (dj_cat8 (Nat.le_of_ble_eq_true rfl)) dX0_day_86 ?_
      refine dg_b (fun _ _ _ _ _ _ _ hC => r_if_eq hC dX0_day_89 (tgt := 109) (by decide)) (fun c25 => ?_) (fun c25 => ?_)
      · have hf := dh_if hf c25
        refine dg_l (fun _ _ _ _ _ _ _ hC => r_iinc (lv' := [(2, .int (x2 + 1)), (3, dj_v E p20), (0, dj_v E x0)]) hC dX0_day_109 (j := 2) rfl (congrArg _ ki_1) (Nat.le_of_ble_eq_true rfl) rfl) ?_
        refine dg_l (fun _ _ _ _ _ _ _ hC => r_goto hC dX0_day_112 (tgt := 41) (by decide)) ?_
        exact g_sub [2, 0] rfl (hk41 G x0 (x2 + 1) hf)
      · have hf := dh_el hf c25
        refine g_aload_n dX0_day_92 rfl (j := 0) rfl ?_
        refine g_dup dX0_day_93 ?_
        obtain ⟨v26, h26, hf⟩ := dh_bd hf
        refine g_getI fR_X0_329 (by decide) h26 dX0_day_94 ?_
        refine g_aload_n dX0_day_97 rfl (j := 1) rfl ?_
        refine g_aload_n dX0_day_98 rfl (j := 0) rfl ?_
        refine g_gets (j := 3) (by decide) (by decide) (fun _ h => ((dk_T h).1 2 (by decide)).1) q1204 dX0_day_99 ?_
        obtain ⟨u27, h27, hf⟩ := dh_bd hf
        obtain ⟨p28, h28, hf⟩ := dh_bd hf
        refine g_callV (rc_O (ci := 1) rfl h27) (cG_X0_tells_3 _ E Mo G x0 p20 3 h28) q1159 qG_X0_tells_3 (Nat.le_of_ble_eq_true rfl) (Nat.le_of_ble_eq_true rfl) rfl (dj_cat8 (Nat.le_of_ble_eq_true rfl)) dX0_day_102 ?_
        refine dg_l (fun _ _ _ _ _ _ _ hC => r_iadd hC dX0_day_105) ?_
        obtain ⟨G29, h29, hf⟩ := dh_bd hf
        refine g_putI fF_X0_329 (fun q => by cases q) (by decide) h29 dX0_day_106 ?_
        refine dg_l (fun _ _ _ _ _ _ _ hC => r_iinc (lv' := [(2, .int (x2 + 1)), (3, dj_v E p20), (0, dj_v E x0)]) hC dX0_day_109 (j := 2) rfl (congrArg _ ki_1) (Nat.le_of_ble_eq_true rfl) rfl) ?_
        refine dg_l (fun _ _ _ _ _ _ _ hC => r_goto hC dX0_day_112 (tgt := 41) (by decide)) ?_
        exact g_sub [2, 0] rfl (hk41 G29 x0 (x2 + 1) hf)
    · have hf := dh_if hf c22
      refine g_aload_n dX0_day_68 rfl (j := 0) rfl ?_
      obtain ⟨u30, h30, hf⟩ := dh_bd hf
      obtain ⟨p31, h31, hf⟩ := dh_bd hf
      refine g_callV (rc_O (ci := 3) rfl h30) (cG_X3_goes _ E Mo G p20 h31) q1177 qG_X3_goes (Nat.le_of_ble_eq_true rfl) (Nat.le_of_ble_eq_true rfl) rfl (dj_cat8 (Nat.le_of_ble_eq_true rfl)) dX0_day_69 ?_
      refine g_aload_n dX0_day_72 rfl (j := 0) rfl ?_
      refine g_dup dX0_day_73 ?_
      obtain ⟨v32, h32, hf⟩ := dh_bd hf
      refine g_getI fR_X0_356 (by decide) h32 dX0_day_74 ?_
      refine dg_l (fun _ _ _ _ _ _ _ hC => r_iconst hC dX0_day_77 ki_1) ?_
      refine dg_l (fun _ _ _ _ _ _ _ hC => r_iadd hC dX0_day_78) ?_
      obtain ⟨G33, h33, hf⟩ := dh_bd hf
      refine g_putI fF_X0_356 (fun q => by cases q) (by decide) h33 dX0_day_79 ?_
      refine dg_l (fun _ _ _ _ _ _ _ hC => r_goto hC dX0_day_82 (tgt := 109) (by decide)) ?_
      refine dg_l (fun _ _ _ _ _ _ _ hC => r_iinc (lv' := [(2, .int (x2 + 1)), (3, dj_v E p20), (0, dj_v E x0)]) hC dX0_day_109 (j := 2) rfl (congrArg _ ki_1) (Nat.le_of_ble_eq_true rfl) rfl) ?_
      refine dg_l (fun _ _ _ _ _ _ _ hC => r_goto hC dX0_day_112 (tgt := 41) (by decide)) ?_
      exact g_sub [2, 0] rfl (hk41 G33 x0 (x2 + 1) hf)
def gG_X0_day_L41 : Nat → dg_G → Nat → Int32 → Option (Int32 × dg_G)
  | 0 => fun _ _ _ => none
  | n + 1 => gG_X0_day_L41_F (gG_X0_day_L41 n)
theorem wG_X0_day_L41 {l : Launch} {E : dj_E} {Mo : Option dm_M} {r : Int32} {G' : dg_G} : ∀ (n : Nat) (G : dg_G) (x0 : Nat) (x2 : Int32) (_ : gG_X0_day_L41 n G x0 x2 = some (r, G')), dgW tG_X0_day l E Mo G' (.inr (some (.int r))) G 41 [(0, dj_v E x0), (2, .int x2)] [] := by
  intro n
  induction n with
  | zero => intro G x0 x2 hf; exact dh_no hf
  | succ n ih => intro G x0 x2 hf; exact wG_X0_day_L41_F (gG_X0_day_L41 n) ih G x0 x2 hf
def gG_X0_day (G : dg_G) (x0 : Nat) : Option (Int32 × dg_G) :=
  (dg_gR G 1 0 x0).bind fun v1 =>
  (dg_gI G 2 4 v1).bind fun v2 =>
  if v2 = 9999 then (
    some ((-1), G))
  else
  (dg_is G 1 x0).bind fun u4 =>
  (gG_X0_turn G x0).bind fun p5 =>
  if p5 = (-1) then (
    gG_X0_day_L41 dh_fu G x0 0)
  else
  (dg_is G 1 x0).bind fun u34 =>
  (gG_X0_at G x0 p5).bind fun p35 =>
  (dg_gI G 3 7 p35).bind fun v36 =>
  (dg_pI G 3 7 p35 (v36 + 1)).bind fun G37 =>
  gG_X0_day_L41 dh_fu G37 x0 0
theorem wG_X0_day {l : Launch} {E : dj_E} {Mo : Option dm_M} {r : Int32} {G' : dg_G} (G : dg_G) (x0 : Nat) (hf : gG_X0_day G x0 = some (r, G')) : dgW tG_X0_day l E Mo G' (.inr (some (.int r))) G 0 [(0, dj_v E x0)] [] := by
  unfold gG_X0_day at hf
  refine g_aload_n dX0_day_0 rfl (j := 0) rfl ?_
  obtain ⟨v1, h1, hf⟩ := dh_bd hf
  refine g_getR fR_X0_10 (by decide) h1 dX0_day_1 ?_
  obtain ⟨v2, h2, hf⟩ := dh_bd hf
  refine g_getI fR_X0_88 (by decide) h2 dX0_day_4 ?_
  refine dg_l (fun _ _ _ _ _ _ _ hC => r_sipush hC dX0_day_7 ks_9999) ?_
  refine dg_bn (fun _ _ _ _ _ _ _ hC => r_icmp_ne hC dX0_day_10 (tgt := 15) (by decide)) (fun c3 => ?_) (fun c3 => ?_)
  · have hf := dh_el hf c3
    refine g_aload_n dX0_day_15 rfl (j := 0) rfl ?_
    obtain ⟨u4, h4, hf⟩ := dh_bd hf
    obtain ⟨p5, h5, hf⟩ := dh_bd hf
    refine g_callV (rc_O (ci := 1) rfl h4) (cG_X0_turn _ E Mo G x0 h5) q1203 qG_X0_turn (Nat.le_of_ble_eq_true rfl) (Nat.le_of_ble_eq_true rfl) rfl (dj_cat8 (Nat.le_of_ble_eq_true rfl)) dX0_day_16 ?_
    refine dg_l (fun _ _ _ _ _ _ _ hC => r_istore_n (lv' := [(1, .int p5), (0, dj_v E x0)]) hC dX0_day_19 rfl (Nat.le_of_ble_eq_true rfl) (by simp only [List.filter, dj_cat] <;> rfl)) ?_
    refine dg_l (fun _ _ _ _ _ _ _ hC => r_iload_n hC dX0_day_20 rfl (j := 0) rfl) ?_
    refine dg_l (fun _ _ _ _ _ _ _ hC => r_iconst hC dX0_day_21 ki_m1) ?_
    refine dg_b (fun _ _ _ _ _ _ _ hC => r_icmp_eq hC dX0_day_22 (tgt := 39) (by decide)) (fun c6 => ?_) (fun c6 => ?_)
    · have hf := dh_if hf c6
      refine dg_l (fun _ _ _ _ _ _ _ hC => r_iconst hC dX0_day_39 ki_0) ?_
      refine dg_l (fun _ _ _ _ _ _ _ hC => r_istore_n (lv' := [(2, .int 0), (1, .int p5), (0, dj_v E x0)]) hC dX0_day_40 rfl (Nat.le_of_ble_eq_true rfl) rfl) ?_
      exact g_sub [2, 0] rfl (wG_X0_day_L41 dh_fu G x0 0 hf)
    · have hf := dh_el hf c6
      refine g_aload_n dX0_day_25 rfl (j := 1) rfl ?_
      refine dg_l (fun _ _ _ _ _ _ _ hC => r_iload_n hC dX0_day_26 rfl (j := 0) rfl) ?_
      obtain ⟨u34, h34, hf⟩ := dh_bd hf
      obtain ⟨p35, h35, hf⟩ := dh_bd hf
      refine g_callV (rc_O (ci := 1) rfl h34) (cG_X0_at _ E Mo G x0 p5 h35) q525 qG_X0_at (Nat.le_of_ble_eq_true rfl) (Nat.le_of_ble_eq_true rfl) rfl (dj_cat8 (Nat.le_of_ble_eq_true rfl)) dX0_day_27 ?_
      refine g_dup dX0_day_30 ?_
      obtain ⟨v36, h36, hf⟩ := dh_bd hf
      refine g_getI fR_X0_350 (by decide) h36 dX0_day_31 ?_
      refine dg_l (fun _ _ _ _ _ _ _ hC => r_iconst hC dX0_day_34 ki_1) ?_
      refine dg_l (fun _ _ _ _ _ _ _ hC => r_iadd hC dX0_day_35) ?_
      obtain ⟨G37, h37, hf⟩ := dh_bd hf
      refine g_putI fF_X0_350 (fun q => by cases q) (by decide) h37 dX0_day_36 ?_
      refine dg_l (fun _ _ _ _ _ _ _ hC => r_iconst hC dX0_day_39 ki_0) ?_
      refine dg_l (fun _ _ _ _ _ _ _ hC => r_istore_n (lv' := [(2, .int 0), (1, .int p5), (0, dj_v E x0)]) hC dX0_day_40 rfl (Nat.le_of_ble_eq_true rfl) rfl) ?_
      exact g_sub [2, 0] rfl (wG_X0_day_L41 dh_fu G37 x0 0 hf)
  · have hf := dh_if hf c3
    refine dg_l (fun _ _ _ _ _ _ _ hC => r_iconst hC dX0_day_13 ki_m1) ?_
    exact g_iret dX0_day_14 rfl hf
theorem cG_X0_day (l : Launch) (E : dj_E) (Mo : Option dm_M) (G : dg_G) (x0 : Nat) {p : Int32 × dg_G} (h : gG_X0_day G x0 = some p) : dg_Met l yX0_day cX0_day 4 (some .int) 7 154 E Mo [dj_v E x0] G (some (.int p.1)) p.2 :=
  dg_met (plainFor_of_name (by decide)) (by simp only [lg_sl_ref, lg_sl_int, lg_sl_long, lg_sl_nil]; decide) (by simp only [lv_args_ref, lv_args_int, lv_args_long, lv_args_nil]) (wG_X0_day G x0 h)
theorem qG_X0_day : dg_cV "DebtorsHouse" yX0_day cX0_day 4 (some .int) 0 := ⟨q1200, Or.inl q1201, q81, q1202, by decide, by decide, by decide +kernel⟩
/-! DebtorsHouse.alms(I)I -/
abbrev tG_X0_alms : dg_T := (cX0_alms, 3, RX0, (some .int), 5, 108, "alms", [])
def gG_X0_alms (G : dg_G) (x0 : Nat) (x1 : Int32) : Option (Int32 × dg_G) :=
  (dg_is G 1 x0).bind fun u1 =>
  (gG_X0_turn G x0).bind fun p2 =>
  if p2 = (-1) then (
    some ((-1), G))
  else
  (gG_X0_isIn G x1 1 10000).bind fun p4 =>
  if p4 = 0 then (
    some ((-1), G))
  else
  (dg_is G 1 x0).bind fun u6 =>
  (gG_X0_at G x0 p2).bind fun p7 =>
  (dg_gI G 3 2 p7).bind fun v8 =>
  (dg_pI G 3 2 p7 (v8 + x1)).bind fun G9 =>
  some (p2, G9)
theorem wG_X0_alms {l : Launch} {E : dj_E} {Mo : Option dm_M} {r : Int32} {G' : dg_G} (G : dg_G) (x0 : Nat) (x1 : Int32) (hf : gG_X0_alms G x0 x1 = some (r, G')) : dgW tG_X0_alms l E Mo G' (.inr (some (.int r))) G 0 [(0, dj_v E x0), (1, .int x1)] [] := by
  unfold gG_X0_alms at hf
  refine g_aload_n dX0_alms_0 rfl (j := 0) rfl ?_
  obtain ⟨u1, h1, hf⟩ := dh_bd hf
  obtain ⟨p2, h2, hf⟩ := dh_bd hf
  refine g_callV (rc_O (ci := 1) rfl h1) (cG_X0_turn _ E Mo G x0 h2) q1203 qG_X0_turn (Nat.le_of_ble_eq_true rfl) (Nat.le_of_ble_eq_true rfl) rfl (dj_cat8 (Nat.le_of_ble_eq_true rfl)) dX0_alms_1 ?_
  refine dg_l (fun _ _ _ _ _ _ _ hC => r_istore_n (lv' := [(2, .int p2), (0, dj_v E x0), (1, .int x1)]) hC dX0_alms_4 rfl (Nat.le_of_ble_eq_true rfl) rfl) ?_
  refine dg_l (fun _ _ _ _ _ _ _ hC => r_iload_n hC dX0_alms_5 rfl (j := 0) rfl) ?_
  refine dg_l (fun _ _ _ _ _ _ _ hC => r_iconst hC dX0_alms_6 ki_m1) ?_
  refine dg_b (fun _ _ _ _ _ _ _ hC => r_icmp_eq hC dX0_alms_7 (tgt := 21) (by decide)) (fun c3 => ?_) (fun c3 => ?_)
  · have hf := dh_if hf c3
    refine dg_l (fun _ _ _ _ _ _ _ hC => r_iconst hC dX0_alms_21 ki_m1) ?_
    exact g_iret dX0_alms_22 rfl hf
  · have hf := dh_el hf c3
    refine dg_l (fun _ _ _ _ _ _ _ hC => r_iload_n hC dX0_alms_10 rfl (j := 2) rfl) ?_
    refine dg_l (fun _ _ _ _ _ _ _ hC => r_iconst hC dX0_alms_11 ki_1) ?_
    refine dg_l (fun _ _ _ _ _ _ _ hC => r_sipush hC dX0_alms_12 ks_10000) ?_
    obtain ⟨p4, h4, hf⟩ := dh_bd hf
    refine g_callS (cG_X0_isIn _ E Mo G x1 1 10000 h4) q261 qG_X0_isIn (Nat.le_of_ble_eq_true rfl) (Nat.le_of_ble_eq_true rfl) rfl (dj_cat8 (Nat.le_of_ble_eq_true rfl)) dX0_alms_15 ?_
    refine dg_bn (fun _ _ _ _ _ _ _ hC => r_if_ne hC dX0_alms_18 (tgt := 23) (by decide)) (fun c5 => ?_) (fun c5 => ?_)
    · have hf := dh_el hf c5
      refine g_aload_n dX0_alms_23 rfl (j := 1) rfl ?_
      refine dg_l (fun _ _ _ _ _ _ _ hC => r_iload_n hC dX0_alms_24 rfl (j := 0) rfl) ?_
      obtain ⟨u6, h6, hf⟩ := dh_bd hf
      obtain ⟨p7, h7, hf⟩ := dh_bd hf
      refine g_callV (rc_O (ci := 1) rfl h6) (cG_X0_at _ E Mo G x0 p2 h7) q525 qG_X0_at (Nat.le_of_ble_eq_true rfl) (Nat.le_of_ble_eq_true rfl) rfl (dj_cat8 (Nat.le_of_ble_eq_true rfl)) dX0_alms_25 ?_
      refine g_dup dX0_alms_28 ?_
      obtain ⟨v8, h8, hf⟩ := dh_bd hf
      refine g_getI fR_X0_134 (by decide) h8 dX0_alms_29 ?_
      refine dg_l (fun _ _ _ _ _ _ _ hC => r_iload_n hC dX0_alms_32 rfl (j := 2) rfl) ?_
      refine dg_l (fun _ _ _ _ _ _ _ hC => r_iadd hC dX0_alms_33) ?_
      obtain ⟨G9, h9, hf⟩ := dh_bd hf
      refine g_putI fF_X0_134 (fun q => by cases q) (by decide) h9 dX0_alms_34 ?_
      refine dg_l (fun _ _ _ _ _ _ _ hC => r_iload_n hC dX0_alms_37 rfl (j := 0) rfl) ?_
      exact g_iret dX0_alms_38 rfl hf
    · have hf := dh_if hf c5
      refine dg_l (fun _ _ _ _ _ _ _ hC => r_iconst hC dX0_alms_21 ki_m1) ?_
      exact g_iret dX0_alms_22 rfl hf
theorem cG_X0_alms (l : Launch) (E : dj_E) (Mo : Option dm_M) (G : dg_G) (x0 : Nat) (x1 : Int32) {p : Int32 × dg_G} (h : gG_X0_alms G x0 x1 = some p) : dg_Met l yX0_alms cX0_alms 3 (some .int) 5 108 E Mo [dj_v E x0, .int x1] G (some (.int p.1)) p.2 :=
  dg_met (plainFor_of_name (by decide)) (by simp only [lg_sl_ref, lg_sl_int, lg_sl_long, lg_sl_nil]; decide) (by simp only [lv_args_ref, lv_args_int, lv_args_long, lv_args_nil]) (wG_X0_alms G x0 x1 h)
theorem qG_X0_alms : dg_cV "DebtorsHouse" yX0_alms cX0_alms 3 (some .int) 1 := ⟨q1207, Or.inl q1208, q81, q1209, by decide, by decide, by decide +kernel⟩
/-! DebtorsHouse.owedBy(I)I -/
abbrev tG_X0_owedBy : dg_T := (cX0_owedBy, 4, RX0, (some .int), 5, 106, "owedBy", [])
def gG_X0_owedBy_L4_F (k4 : (Nat → Int32 → Int32 → Int32 → Option Int32)) (G : dg_G) (x0 : Nat) (x1 : Int32) (x2 : Int32) (x3 : Int32) : Option Int32 :=
  (dg_gR G 1 0 x0).bind fun v1 =>
  (dg_gR G 2 9 v1).bind fun v2 =>
  (dg_is G 10 v2).bind fun u3 =>
  (gG_J2_size G v2).bind fun p4 =>
  if p4 ≤ x3 then (
    some x2)
  else
  (dg_is G 1 x0).bind fun u6 =>
  (gG_X0_debtAt G x0 x3).bind fun p7 =>
  (dg_gI G 4 1 p7).bind fun v8 =>
  if v8 = x1 then (
    (dg_is G 1 x0).bind fun u10 =>
    (gG_X0_due G x0 x3).bind fun p11 =>
    k4 x0 x1 (x2 + p11) (x3 + 1))
  else
  k4 x0 x1 (x2 + 0) (x3 + 1)
theorem wG_X0_owedBy_L4_F {l : Launch} {E : dj_E} {Mo : Option dm_M} {r : Int32} (G : dg_G) (k4 : (Nat → Int32 → Int32 → Int32 → Option Int32)) (hk4 : ∀ (x0 : Nat) (x1 : Int32) (x2 : Int32) (x3 : Int32), k4 x0 x1 x2 x3 = some r → dgW tG_X0_owedBy l E Mo G (.inr (some (.int r))) G 4 [(0, dj_v E x0), (1, .int x1), (2, .int x2), (3, .int x3)] []) (x0 : Nat) (x1 : Int32) (x2 : Int32) (x3 : Int32) (hf : gG_X0_owedBy_L4_F k4 G x0 x1 x2 x3 = some r) : dgW tG_X0_owedBy l E Mo G (.inr (some (.int r))) G 4 [(0, dj_v E x0), (1, .int x1), (2, .int x2), (3, .int x3)] [] := by
  unfold gG_X0_owedBy_L4_F at hf
  refine dg_l (fun _ _ _ _ _ _ _ hC => r_iload_n hC dX0_owedBy_4 rfl (j := 3) rfl) ?_
  refine g_aload_n dX0_owedBy_5 rfl (j := 0) rfl ?_
  obtain ⟨v1, h1, hf⟩ := dh_bd hf
  refine g_getR fR_X0_10 (by decide) h1 dX0_owedBy_6 ?_
  obtain ⟨v2, h2, hf⟩ := dh_bd hf
  refine g_getR fR_X0_63 (by decide) h2 dX0_owedBy_9 ?_
  obtain ⟨u3, h3, hf⟩ := dh_bd hf
  obtain ⟨p4, h4, hf⟩ := dh_bd hf
  refine g_callV (rc_O (ci := 10) rfl h3) (cG_J2_size _ E Mo G v2 h4) q256 qG_J2_size (Nat.le_of_ble_eq_true rfl) (Nat.le_of_ble_eq_true rfl) rfl (dj_cat8 (Nat.le_of_ble_eq_true rfl)) dX0_owedBy_12 ?_
  refine dg_b (fun _ _ _ _ _ _ _ hC => r_icmp_ge hC dX0_owedBy_15 (tgt := 48) (by decide)) (fun c5 => ?_) (fun c5 => ?_)
  · have hf := dh_if hf c5
    refine dg_l (fun _ _ _ _ _ _ _ hC => r_iload_n hC dX0_owedBy_48 rfl (j := 2) rfl) ?_
    exact g_iret1 dX0_owedBy_49 rfl hf
  · have hf := dh_el hf c5
    refine dg_l (fun _ _ _ _ _ _ _ hC => r_iload_n hC dX0_owedBy_18 rfl (j := 2) rfl) ?_
    refine g_aload_n dX0_owedBy_19 rfl (j := 0) rfl ?_
    refine dg_l (fun _ _ _ _ _ _ _ hC => r_iload_n hC dX0_owedBy_20 rfl (j := 3) rfl) ?_
    obtain ⟨u6, h6, hf⟩ := dh_bd hf
    obtain ⟨p7, h7, hf⟩ := dh_bd hf
    refine g_callV (rc_O (ci := 1) rfl h6) (cG_X0_debtAt _ E Mo G x0 x3 h7) q485 qG_X0_debtAt (Nat.le_of_ble_eq_true rfl) (Nat.le_of_ble_eq_true rfl) rfl (dj_cat8 (Nat.le_of_ble_eq_true rfl)) dX0_owedBy_21 ?_
    obtain ⟨v8, h8, hf⟩ := dh_bd hf
    refine g_getI fR_X0_128 (by decide) h8 dX0_owedBy_24 ?_
    refine dg_l (fun _ _ _ _ _ _ _ hC => r_iload_n hC dX0_owedBy_27 rfl (j := 1) rfl) ?_
    refine dg_bn (fun _ _ _ _ _ _ _ hC => r_icmp_ne hC dX0_owedBy_28 (tgt := 39) (by decide)) (fun c9 => ?_) (fun c9 => ?_)
    · have hf := dh_el hf c9
      refine dg_l (fun _ _ _ _ _ _ _ hC => r_iconst hC dX0_owedBy_39 ki_0) ?_
      refine dg_l (fun _ _ _ _ _ _ _ hC => r_iadd hC dX0_owedBy_40) ?_
      refine dg_l (fun _ _ _ _ _ _ _ hC => r_istore_n (lv' := [(2, .int (x2 + 0)), (0, dj_v E x0), (1, .int x1), (3, .int x3)]) hC dX0_owedBy_41 rfl (Nat.le_of_ble_eq_true rfl) rfl) ?_
      refine dg_l (fun _ _ _ _ _ _ _ hC => r_iinc (lv' := [(3, .int (x3 + 1)), (2, .int (x2 + 0)), (0, dj_v E x0), (1, .int x1)]) hC dX0_owedBy_42 (j := 3) rfl (congrArg _ ki_1) (Nat.le_of_ble_eq_true rfl) rfl) ?_
      refine dg_l (fun _ _ _ _ _ _ _ hC => r_goto hC dX0_owedBy_45 (tgt := 4) (by decide)) ?_
      exact g_sub [2, 3, 1, 0] rfl (hk4 x0 x1 (x2 + 0) (x3 + 1) hf)
    · have hf := dh_if hf c9
      refine g_aload_n dX0_owedBy_31 rfl (j := 0) rfl ?_
      refine dg_l (fun _ _ _ _ _ _ _ hC => r_iload_n hC dX0_owedBy_32 rfl (j := 3) rfl) ?_
      obtain ⟨u10, h10, hf⟩ := dh_bd hf
      obtain ⟨p11, h11, hf⟩ := dh_bd hf
      refine g_callV (rc_O (ci := 1) rfl h10) (cG_X0_due _ E Mo G x0 x3 h11) q507 qG_X0_due (Nat.le_of_ble_eq_true rfl) (Nat.le_of_ble_eq_true rfl) rfl (dj_cat8 (Nat.le_of_ble_eq_true rfl)) dX0_owedBy_33 ?_
      refine dg_l (fun _ _ _ _ _ _ _ hC => r_goto hC dX0_owedBy_36 (tgt := 40) (by decide)) ?_
      refine dg_l (fun _ _ _ _ _ _ _ hC => r_iadd hC dX0_owedBy_40) ?_
      refine dg_l (fun _ _ _ _ _ _ _ hC => r_istore_n (lv' := [(2, .int (x2 + p11)), (0, dj_v E x0), (1, .int x1), (3, .int x3)]) hC dX0_owedBy_41 rfl (Nat.le_of_ble_eq_true rfl) rfl) ?_
      refine dg_l (fun _ _ _ _ _ _ _ hC => r_iinc (lv' := [(3, .int (x3 + 1)), (2, .int (x2 + p11)), (0, dj_v E x0), (1, .int x1)]) hC dX0_owedBy_42 (j := 3) rfl (congrArg _ ki_1) (Nat.le_of_ble_eq_true rfl) rfl) ?_
      refine dg_l (fun _ _ _ _ _ _ _ hC => r_goto hC dX0_owedBy_45 (tgt := 4) (by decide)) ?_
      exact g_sub [2, 3, 1, 0] rfl (hk4 x0 x1 (x2 + p11) (x3 + 1) hf)
def gG_X0_owedBy_L4 (G : dg_G) : Nat → Nat → Int32 → Int32 → Int32 → Option Int32
  | 0 => fun _ _ _ _ => none
  | n + 1 => gG_X0_owedBy_L4_F (gG_X0_owedBy_L4 G n) G
theorem wG_X0_owedBy_L4 {l : Launch} {E : dj_E} {Mo : Option dm_M} {r : Int32} (G : dg_G) : ∀ (n : Nat) (x0 : Nat) (x1 : Int32) (x2 : Int32) (x3 : Int32) (_ : gG_X0_owedBy_L4 G n x0 x1 x2 x3 = some r), dgW tG_X0_owedBy l E Mo G (.inr (some (.int r))) G 4 [(0, dj_v E x0), (1, .int x1), (2, .int x2), (3, .int x3)] [] := by
  intro n
  induction n with
  | zero => intro x0 x1 x2 x3 hf; exact dh_no hf
  | succ n ih => intro x0 x1 x2 x3 hf; exact wG_X0_owedBy_L4_F G (gG_X0_owedBy_L4 G n) ih x0 x1 x2 x3 hf
def gG_X0_owedBy (G : dg_G) (x0 : Nat) (x1 : Int32) : Option Int32 :=
  gG_X0_owedBy_L4 G dh_fu x0 x1 0 0
theorem wG_X0_owedBy {l : Launch} {E : dj_E} {Mo : Option dm_M} {r : Int32} (G : dg_G) (x0 : Nat) (x1 : Int32) (hf : gG_X0_owedBy G x0 x1 = some r) : dgW tG_X0_owedBy l E Mo G (.inr (some (.int r))) G 0 [(0, dj_v E x0), (1, .int x1)] [] := by
  unfold gG_X0_owedBy at hf
  refine dg_l (fun _ _ _ _ _ _ _ hC => r_iconst hC dX0_owedBy_0 ki_0) ?_
  refine dg_l (fun _ _ _ _ _ _ _ hC => r_istore_n (lv' := [(2, .int 0), (0, dj_v E x0), (1, .int x1)]) hC dX0_owedBy_1 rfl (Nat.le_of_ble_eq_true rfl) rfl) ?_
  refine dg_l (fun _ _ _ _ _ _ _ hC => r_iconst hC dX0_owedBy_2 ki_0) ?_
  refine dg_l (fun _ _ _ _ _ _ _ hC => r_istore_n (lv' := [(3, .int 0), (2, .int 0), (0, dj_v E x0), (1, .int x1)]) hC dX0_owedBy_3 rfl (Nat.le_of_ble_eq_true rfl) rfl) ?_
  exact g_sub [2, 3, 1, 0] rfl (wG_X0_owedBy_L4 G dh_fu x0 x1 0 0 hf)
theorem cG_X0_owedBy (l : Launch) (E : dj_E) (Mo : Option dm_M) (G : dg_G) (x0 : Nat) (x1 : Int32) {r : Int32} (h : gG_X0_owedBy G x0 x1 = some r) : dg_Met l yX0_owedBy cX0_owedBy 4 (some .int) 5 106 E Mo [dj_v E x0, .int x1] G (some (.int r)) G :=
  dg_met (plainFor_of_name (by decide)) (by simp only [lg_sl_ref, lg_sl_int, lg_sl_long, lg_sl_nil]; decide) (by simp only [lv_args_ref, lv_args_int, lv_args_long, lv_args_nil]) (wG_X0_owedBy G x0 x1 h)
theorem qG_X0_owedBy : dg_cV "DebtorsHouse" yX0_owedBy cX0_owedBy 4 (some .int) 1 := ⟨q1216, Or.inl qs29, q81, q1217, by decide, by decide, by decide +kernel⟩
/-! DebtorsHouse.owedTo(I)I -/
abbrev tG_X0_owedTo : dg_T := (cX0_owedTo, 4, RX0, (some .int), 5, 106, "owedTo", [])
def gG_X0_owedTo_L4_F (k4 : (Nat → Int32 → Int32 → Int32 → Option Int32)) (G : dg_G) (x0 : Nat) (x1 : Int32) (x2 : Int32) (x3 : Int32) : Option Int32 :=
  (dg_gR G 1 0 x0).bind fun v1 =>
  (dg_gR G 2 9 v1).bind fun v2 =>
  (dg_is G 10 v2).bind fun u3 =>
  (gG_J2_size G v2).bind fun p4 =>
  if p4 ≤ x3 then (
    some x2)
  else
  (dg_is G 1 x0).bind fun u6 =>
  (gG_X0_debtAt G x0 x3).bind fun p7 =>
  (dg_gI G 4 7 p7).bind fun v8 =>
  if v8 = x1 then (
    (dg_is G 1 x0).bind fun u10 =>
    (gG_X0_due G x0 x3).bind fun p11 =>
    k4 x0 x1 (x2 + p11) (x3 + 1))
  else
  k4 x0 x1 (x2 + 0) (x3 + 1)
theorem wG_X0_owedTo_L4_F {l : Launch} {E : dj_E} {Mo : Option dm_M} {r : Int32} (G : dg_G) (k4 : (Nat → Int32 → Int32 → Int32 → Option Int32)) (hk4 : ∀ (x0 : Nat) (x1 : Int32) (x2 : Int32) (x3 : Int32), k4 x0 x1 x2 x3 = some r → dgW tG_X0_owedTo l E Mo G (.inr (some (.int r))) G 4 [(0, dj_v E x0), (1, .int x1), (2, .int x2), (3, .int x3)] []) (x0 : Nat) (x1 : Int32) (x2 : Int32) (x3 : Int32) (hf : gG_X0_owedTo_L4_F k4 G x0 x1 x2 x3 = some r) : dgW tG_X0_owedTo l E Mo G (.inr (some (.int r))) G 4 [(0, dj_v E x0), (1, .int x1), (2, .int x2), (3, .int x3)] [] := by
  unfold gG_X0_owedTo_L4_F at hf
  refine dg_l (fun _ _ _ _ _ _ _ hC => r_iload_n hC dX0_owedTo_4 rfl (j := 3) rfl) ?_
  refine g_aload_n dX0_owedTo_5 rfl (j := 0) rfl ?_
  obtain ⟨v1, h1, hf⟩ := dh_bd hf
  refine g_getR fR_X0_10 (by decide) h1 dX0_owedTo_6 ?_
  obtain ⟨v2, h2, hf⟩ := dh_bd hf
  refine g_getR fR_X0_63 (by decide) h2 dX0_owedTo_9 ?_
  obtain ⟨u3, h3, hf⟩ := dh_bd hf
  obtain ⟨p4, h4, hf⟩ := dh_bd hf
  refine g_callV (rc_O (ci := 10) rfl h3) (cG_J2_size _ E Mo G v2 h4) q256 qG_J2_size (Nat.le_of_ble_eq_true rfl) (Nat.le_of_ble_eq_true rfl) rfl (dj_cat8 (Nat.le_of_ble_eq_true rfl)) dX0_owedTo_12 ?_
  refine dg_b (fun _ _ _ _ _ _ _ hC => r_icmp_ge hC dX0_owedTo_15 (tgt := 48) (by decide)) (fun c5 => ?_) (fun c5 => ?_)
  · have hf := dh_if hf c5
    refine dg_l (fun _ _ _ _ _ _ _ hC => r_iload_n hC dX0_owedTo_48 rfl (j := 2) rfl) ?_
    exact g_iret1 dX0_owedTo_49 rfl hf
  · have hf := dh_el hf c5
    refine dg_l (fun _ _ _ _ _ _ _ hC => r_iload_n hC dX0_owedTo_18 rfl (j := 2) rfl) ?_
    refine g_aload_n dX0_owedTo_19 rfl (j := 0) rfl ?_
    refine dg_l (fun _ _ _ _ _ _ _ hC => r_iload_n hC dX0_owedTo_20 rfl (j := 3) rfl) ?_
    obtain ⟨u6, h6, hf⟩ := dh_bd hf
    obtain ⟨p7, h7, hf⟩ := dh_bd hf
    refine g_callV (rc_O (ci := 1) rfl h6) (cG_X0_debtAt _ E Mo G x0 x3 h7) q485 qG_X0_debtAt (Nat.le_of_ble_eq_true rfl) (Nat.le_of_ble_eq_true rfl) rfl (dj_cat8 (Nat.le_of_ble_eq_true rfl)) dX0_owedTo_21 ?_
    obtain ⟨v8, h8, hf⟩ := dh_bd hf
    refine g_getI fR_X0_131 (by decide) h8 dX0_owedTo_24 ?_
    refine dg_l (fun _ _ _ _ _ _ _ hC => r_iload_n hC dX0_owedTo_27 rfl (j := 1) rfl) ?_
    refine dg_bn (fun _ _ _ _ _ _ _ hC => r_icmp_ne hC dX0_owedTo_28 (tgt := 39) (by decide)) (fun c9 => ?_) (fun c9 => ?_)
    · have hf := dh_el hf c9
      refine dg_l (fun _ _ _ _ _ _ _ hC => r_iconst hC dX0_owedTo_39 ki_0) ?_
      refine dg_l (fun _ _ _ _ _ _ _ hC => r_iadd hC dX0_owedTo_40) ?_
      refine dg_l (fun _ _ _ _ _ _ _ hC => r_istore_n (lv' := [(2, .int (x2 + 0)), (0, dj_v E x0), (1, .int x1), (3, .int x3)]) hC dX0_owedTo_41 rfl (Nat.le_of_ble_eq_true rfl) rfl) ?_
      refine dg_l (fun _ _ _ _ _ _ _ hC => r_iinc (lv' := [(3, .int (x3 + 1)), (2, .int (x2 + 0)), (0, dj_v E x0), (1, .int x1)]) hC dX0_owedTo_42 (j := 3) rfl (congrArg _ ki_1) (Nat.le_of_ble_eq_true rfl) rfl) ?_
      refine dg_l (fun _ _ _ _ _ _ _ hC => r_goto hC dX0_owedTo_45 (tgt := 4) (by decide)) ?_
      exact g_sub [2, 3, 1, 0] rfl (hk4 x0 x1 (x2 + 0) (x3 + 1) hf)
    · have hf := dh_if hf c9
      refine g_aload_n dX0_owedTo_31 rfl (j := 0) rfl ?_
      refine dg_l (fun _ _ _ _ _ _ _ hC => r_iload_n hC dX0_owedTo_32 rfl (j := 3) rfl) ?_
      obtain ⟨u10, h10, hf⟩ := dh_bd hf
      obtain ⟨p11, h11, hf⟩ := dh_bd hf
      refine g_callV (rc_O (ci := 1) rfl h10) (cG_X0_due _ E Mo G x0 x3 h11) q507 qG_X0_due (Nat.le_of_ble_eq_true rfl) (Nat.le_of_ble_eq_true rfl) rfl (dj_cat8 (Nat.le_of_ble_eq_true rfl)) dX0_owedTo_33 ?_
      refine dg_l (fun _ _ _ _ _ _ _ hC => r_goto hC dX0_owedTo_36 (tgt := 40) (by decide)) ?_
      refine dg_l (fun _ _ _ _ _ _ _ hC => r_iadd hC dX0_owedTo_40) ?_
      refine dg_l (fun _ _ _ _ _ _ _ hC => r_istore_n (lv' := [(2, .int (x2 + p11)), (0, dj_v E x0), (1, .int x1), (3, .int x3)]) hC dX0_owedTo_41 rfl (Nat.le_of_ble_eq_true rfl) rfl) ?_
      refine dg_l (fun _ _ _ _ _ _ _ hC => r_iinc (lv' := [(3, .int (x3 + 1)), (2, .int (x2 + p11)), (0, dj_v E x0), (1, .int x1)]) hC dX0_owedTo_42 (j := 3) rfl (congrArg _ ki_1) (Nat.le_of_ble_eq_true rfl) rfl) ?_
      refine dg_l (fun _ _ _ _ _ _ _ hC => r_goto hC dX0_owedTo_45 (tgt := 4) (by decide)) ?_
      exact g_sub [2, 3, 1, 0] rfl (hk4 x0 x1 (x2 + p11) (x3 + 1) hf)
def gG_X0_owedTo_L4 (G : dg_G) : Nat → Nat → Int32 → Int32 → Int32 → Option Int32
  | 0 => fun _ _ _ _ => none
  | n + 1 => gG_X0_owedTo_L4_F (gG_X0_owedTo_L4 G n) G
theorem wG_X0_owedTo_L4 {l : Launch} {E : dj_E} {Mo : Option dm_M} {r : Int32} (G : dg_G) : ∀ (n : Nat) (x0 : Nat) (x1 : Int32) (x2 : Int32) (x3 : Int32) (_ : gG_X0_owedTo_L4 G n x0 x1 x2 x3 = some r), dgW tG_X0_owedTo l E Mo G (.inr (some (.int r))) G 4 [(0, dj_v E x0), (1, .int x1), (2, .int x2), (3, .int x3)] [] := by
  intro n
  induction n with
  | zero => intro x0 x1 x2 x3 hf; exact dh_no hf
  | succ n ih => intro x0 x1 x2 x3 hf; exact wG_X0_owedTo_L4_F G (gG_X0_owedTo_L4 G n) ih x0 x1 x2 x3 hf
def gG_X0_owedTo (G : dg_G) (x0 : Nat) (x1 : Int32) : Option Int32 :=
  gG_X0_owedTo_L4 G dh_fu x0 x1 0 0
theorem wG_X0_owedTo {l : Launch} {E : dj_E} {Mo : Option dm_M} {r : Int32} (G : dg_G) (x0 : Nat) (x1 : Int32) (hf : gG_X0_owedTo G x0 x1 = some r) : dgW tG_X0_owedTo l E Mo G (.inr (some (.int r))) G 0 [(0, dj_v E x0), (1, .int x1)] [] := by
  unfold gG_X0_owedTo at hf
  refine dg_l (fun _ _ _ _ _ _ _ hC => r_iconst hC dX0_owedTo_0 ki_0) ?_
  refine dg_l (fun _ _ _ _ _ _ _ hC => r_istore_n (lv' := [(2, .int 0), (0, dj_v E x0), (1, .int x1)]) hC dX0_owedTo_1 rfl (Nat.le_of_ble_eq_true rfl) rfl) ?_
  refine dg_l (fun _ _ _ _ _ _ _ hC => r_iconst hC dX0_owedTo_2 ki_0) ?_
  refine dg_l (fun _ _ _ _ _ _ _ hC => r_istore_n (lv' := [(3, .int 0), (2, .int 0), (0, dj_v E x0), (1, .int x1)]) hC dX0_owedTo_3 rfl (Nat.le_of_ble_eq_true rfl) rfl) ?_
  exact g_sub [2, 3, 1, 0] rfl (wG_X0_owedTo_L4 G dh_fu x0 x1 0 0 hf)
theorem cG_X0_owedTo (l : Launch) (E : dj_E) (Mo : Option dm_M) (G : dg_G) (x0 : Nat) (x1 : Int32) {r : Int32} (h : gG_X0_owedTo G x0 x1 = some r) : dg_Met l yX0_owedTo cX0_owedTo 4 (some .int) 5 106 E Mo [dj_v E x0, .int x1] G (some (.int r)) G :=
  dg_met (plainFor_of_name (by decide)) (by simp only [lg_sl_ref, lg_sl_int, lg_sl_long, lg_sl_nil]; decide) (by simp only [lv_args_ref, lv_args_int, lv_args_long, lv_args_nil]) (wG_X0_owedTo G x0 x1 h)
theorem qG_X0_owedTo : dg_cV "DebtorsHouse" yX0_owedTo cX0_owedTo 4 (some .int) 1 := ⟨q1220, Or.inl qs30, q81, q1221, by decide, by decide, by decide +kernel⟩
/-! DebtorsHouse.tell(II)I -/
abbrev tG_X0_tell : dg_T := (cX0_tell, 4, RX0, (some .int), 6, 129, "tell", [])
def gG_X0_tell (G : dg_G) (x0 : Nat) (x1 : Int32) (x2 : Int32) : Option Int32 :=
  (dg_is G 1 x0).bind fun u1 =>
  (gG_X0_isPerson G x0 x1).bind fun p2 =>
  if p2 = 0 then (
    some (-100))
  else
  (dg_is G 1 x0).bind fun u4 =>
  (gG_X0_at G x0 x1).bind fun p5 =>
  if x2 = 0 then (
    (dg_gI G 3 2 p5).bind fun v7 =>
    some v7)
  else
  if x2 = 1 then (
    (dg_gI G 3 1 p5).bind fun v9 =>
    some v9)
  else
  if x2 = 2 then (
    (dg_is G 3 p5).bind fun u11 =>
    (gG_X3_isHeld G p5).bind fun p12 =>
    if p12 = 0 then (
      some 0)
    else
    some 1)
  else
  if x2 = 3 then (
    (dg_gI G 3 3 p5).bind fun v15 =>
    some v15)
  else
  if x2 = 4 then (
    (dg_is G 3 p5).bind fun u17 =>
    (gG_X3_isHeld G p5).bind fun p18 =>
    if p18 = 0 then (
      some (-1))
    else
    (dg_gI G 3 4 p5).bind fun v20 =>
    some v20)
  else
  if x2 = 5 then (
    (dg_gI G 3 5 p5).bind fun v22 =>
    some v22)
  else
  if x2 = 6 then (
    (dg_gI G 3 13 p5).bind fun v24 =>
    if v24 = 0 then (
      some 0)
    else
    some 1)
  else
  if x2 = 7 then (
    (dg_gI G 3 6 p5).bind fun v27 =>
    some v27)
  else
  if x2 = 8 then (
    (dg_gI G 3 7 p5).bind fun v29 =>
    some v29)
  else
  if x2 = 9 then (
    (dg_gI G 3 8 p5).bind fun v31 =>
    some v31)
  else
  if x2 = 10 then (
    (dg_gI G 3 9 p5).bind fun v33 =>
    some v33)
  else
  if x2 = 11 then (
    (dg_is G 1 x0).bind fun u35 =>
    (gG_X0_owedBy G x0 x1).bind fun p36 =>
    some p36)
  else
  if x2 = 12 then (
    (dg_is G 1 x0).bind fun u38 =>
    (gG_X0_owedTo G x0 x1).bind fun p39 =>
    some p39)
  else
  if x2 = 13 then (
    (dg_gI G 3 14 p5).bind fun v41 =>
    if v41 = 0 then (
      some 0)
    else
    some 1)
  else
  if x2 = 14 then (
    (dg_gI G 3 12 p5).bind fun v44 =>
    some (-v44))
  else
  some (-100)
theorem wG_X0_tell {l : Launch} {E : dj_E} {Mo : Option dm_M} {r : Int32} (G : dg_G) (x0 : Nat) (x1 : Int32) (x2 : Int32) (hf : gG_X0_tell G x0 x1 x2 = some r) : dgW tG_X0_tell l E Mo G (.inr (some (.int r))) G 0 [(0, dj_v E x0), (1, .int x1), (2, .int x2)] [] := by
  unfold gG_X0_tell at hf
  refine g_aload_n dX0_tell_0 rfl (j := 0) rfl ?_
  refine dg_l (fun _ _ _ _ _ _ _ hC => r_iload_n hC dX0_tell_1 rfl (j := 1) rfl) ?_
  obtain ⟨u1, h1, hf⟩ := dh_bd hf
  obtain ⟨p2, h2, hf⟩ := dh_bd hf
  refine g_callV (rc_O (ci := 1) rfl h1) (cG_X0_isPerson _ E Mo G x0 x1 h2) q402 qG_X0_isPerson (Nat.le_of_ble_eq_true rfl) (Nat.le_of_ble_eq_true rfl) rfl (dj_cat8 (Nat.le_of_ble_eq_true rfl)) dX0_tell_2 ?_
  refine dg_bn (fun _ _ _ _ _ _ _ hC => r_if_ne hC dX0_tell_5 (tgt := 11) (by decide)) (fun c3 => ?_) (fun c3 => ?_)
  · have hf := dh_el hf c3
    refine g_aload_n dX0_tell_11 rfl (j := 0) rfl ?_
    refine dg_l (fun _ _ _ _ _ _ _ hC => r_iload_n hC dX0_tell_12 rfl (j := 1) rfl) ?_
    obtain ⟨u4, h4, hf⟩ := dh_bd hf
    obtain ⟨p5, h5, hf⟩ := dh_bd hf
    refine g_callV (rc_O (ci := 1) rfl h4) (cG_X0_at _ E Mo G x0 x1 h5) q525 qG_X0_at (Nat.le_of_ble_eq_true rfl) (Nat.le_of_ble_eq_true rfl) rfl (dj_cat8 (Nat.le_of_ble_eq_true rfl)) dX0_tell_13 ?_
    refine g_astore_n (i := 3) (lv1 := [(3, dj_v E p5), (0, dj_v E x0), (1, .int x1), (2, .int x2)]) dX0_tell_16 rfl (Nat.le_of_ble_eq_true rfl) rfl ?_
    refine dg_l (fun _ _ _ _ _ _ _ hC => r_iload_n hC dX0_tell_17 rfl (j := 3) rfl) ?_
    by_cases c6 : x2 = 0
    · have hf := dh_if hf c6
      refine dg_l (fun _ _ _ _ _ _ _ hC => r_tableAt hC dX0_tell_18 (tgt := 92) 0 (by rw [c6]; rfl) (by decide) (by decide) rfl (by decide)) ?_
      refine g_aload_n dX0_tell_92 rfl (j := 0) rfl ?_
      obtain ⟨v7, h7, hf⟩ := dh_bd hf
      refine g_getI fR_X0_134 (by decide) h7 dX0_tell_93 ?_
      exact g_iret1 dX0_tell_96 rfl hf
    have hf := dh_el hf c6
    by_cases c8 : x2 = 1
    · have hf := dh_if hf c8
      refine dg_l (fun _ _ _ _ _ _ _ hC => r_tableAt hC dX0_tell_18 (tgt := 97) 1 (by rw [c8]; rfl) (by decide) (by decide) rfl (by decide)) ?_
      refine g_aload_n dX0_tell_97 rfl (j := 0) rfl ?_
      obtain ⟨v9, h9, hf⟩ := dh_bd hf
      refine g_getI fR_X0_282 (by decide) h9 dX0_tell_98 ?_
      exact g_iret1 dX0_tell_101 rfl hf
    have hf := dh_el hf c8
    by_cases c10 : x2 = 2
    · have hf := dh_if hf c10
      refine dg_l (fun _ _ _ _ _ _ _ hC => r_tableAt hC dX0_tell_18 (tgt := 102) 2 (by rw [c10]; rfl) (by decide) (by decide) rfl (by decide)) ?_
      refine g_aload_n dX0_tell_102 rfl (j := 0) rfl ?_
      obtain ⟨u11, h11, hf⟩ := dh_bd hf
      obtain ⟨p12, h12, hf⟩ := dh_bd hf
      refine g_callV (rc_O (ci := 3) rfl h11) (cG_X3_isHeld _ E Mo G p5 h12) q1113 qG_X3_isHeld (Nat.le_of_ble_eq_true rfl) (Nat.le_of_ble_eq_true rfl) rfl (dj_cat8 (Nat.le_of_ble_eq_true rfl)) dX0_tell_103 ?_
      refine dg_b (fun _ _ _ _ _ _ _ hC => r_if_eq hC dX0_tell_106 (tgt := 113) (by decide)) (fun c13 => ?_) (fun c13 => ?_)
      · have hf := dh_if hf c13
        refine dg_l (fun _ _ _ _ _ _ _ hC => r_iconst hC dX0_tell_113 ki_0) ?_
        exact g_iret1 dX0_tell_114 rfl hf
      · have hf := dh_el hf c13
        refine dg_l (fun _ _ _ _ _ _ _ hC => r_iconst hC dX0_tell_109 ki_1) ?_
        refine dg_l (fun _ _ _ _ _ _ _ hC => r_goto hC dX0_tell_110 (tgt := 114) (by decide)) ?_
        exact g_iret1 dX0_tell_114 rfl hf
    have hf := dh_el hf c10
    by_cases c14 : x2 = 3
    · have hf := dh_if hf c14
      refine dg_l (fun _ _ _ _ _ _ _ hC => r_tableAt hC dX0_tell_18 (tgt := 115) 3 (by rw [c14]; rfl) (by decide) (by decide) rfl (by decide)) ?_
      refine g_aload_n dX0_tell_115 rfl (j := 0) rfl ?_
      obtain ⟨v15, h15, hf⟩ := dh_bd hf
      refine g_getI fR_X0_278 (by decide) h15 dX0_tell_116 ?_
      exact g_iret1 dX0_tell_119 rfl hf
    have hf := dh_el hf c14
    by_cases c16 : x2 = 4
    · have hf := dh_if hf c16
      refine dg_l (fun _ _ _ _ _ _ _ hC => r_tableAt hC dX0_tell_18 (tgt := 120) 4 (by rw [c16]; rfl) (by decide) (by decide) rfl (by decide)) ?_
      refine g_aload_n dX0_tell_120 rfl (j := 0) rfl ?_
      obtain ⟨u17, h17, hf⟩ := dh_bd hf
      obtain ⟨p18, h18, hf⟩ := dh_bd hf
      refine g_callV (rc_O (ci := 3) rfl h17) (cG_X3_isHeld _ E Mo G p5 h18) q1113 qG_X3_isHeld (Nat.le_of_ble_eq_true rfl) (Nat.le_of_ble_eq_true rfl) rfl (dj_cat8 (Nat.le_of_ble_eq_true rfl)) dX0_tell_121 ?_
      refine dg_b (fun _ _ _ _ _ _ _ hC => r_if_eq hC dX0_tell_124 (tgt := 134) (by decide)) (fun c19 => ?_) (fun c19 => ?_)
      · have hf := dh_if hf c19
        refine dg_l (fun _ _ _ _ _ _ _ hC => r_iconst hC dX0_tell_134 ki_m1) ?_
        exact g_iret1 dX0_tell_135 rfl hf
      · have hf := dh_el hf c19
        refine g_aload_n dX0_tell_127 rfl (j := 0) rfl ?_
        obtain ⟨v20, h20, hf⟩ := dh_bd hf
        refine g_getI fR_X0_288 (by decide) h20 dX0_tell_128 ?_
        refine dg_l (fun _ _ _ _ _ _ _ hC => r_goto hC dX0_tell_131 (tgt := 135) (by decide)) ?_
        exact g_iret1 dX0_tell_135 rfl hf
    have hf := dh_el hf c16
    by_cases c21 : x2 = 5
    · have hf := dh_if hf c21
      refine dg_l (fun _ _ _ _ _ _ _ hC => r_tableAt hC dX0_tell_18 (tgt := 136) 5 (by rw [c21]; rfl) (by decide) (by decide) rfl (by decide)) ?_
      refine g_aload_n dX0_tell_136 rfl (j := 0) rfl ?_
      obtain ⟨v22, h22, hf⟩ := dh_bd hf
      refine g_getI fR_X0_329 (by decide) h22 dX0_tell_137 ?_
      exact g_iret1 dX0_tell_140 rfl hf
    have hf := dh_el hf c21
    by_cases c23 : x2 = 6
    · have hf := dh_if hf c23
      refine dg_l (fun _ _ _ _ _ _ _ hC => r_tableAt hC dX0_tell_18 (tgt := 141) 6 (by rw [c23]; rfl) (by decide) (by decide) rfl (by decide)) ?_
      refine g_aload_n dX0_tell_141 rfl (j := 0) rfl ?_
      obtain ⟨v24, h24, hf⟩ := dh_bd hf
      refine g_getI fR_X0_337 (by decide) h24 dX0_tell_142 ?_
      refine dg_b (fun _ _ _ _ _ _ _ hC => r_if_eq hC dX0_tell_145 (tgt := 152) (by decide)) (fun c25 => ?_) (fun c25 => ?_)
      · have hf := dh_if hf c25
        refine dg_l (fun _ _ _ _ _ _ _ hC => r_iconst hC dX0_tell_152 ki_0) ?_
        exact g_iret1 dX0_tell_153 rfl hf
      · have hf := dh_el hf c25
        refine dg_l (fun _ _ _ _ _ _ _ hC => r_iconst hC dX0_tell_148 ki_1) ?_
        refine dg_l (fun _ _ _ _ _ _ _ hC => r_goto hC dX0_tell_149 (tgt := 153) (by decide)) ?_
        exact g_iret1 dX0_tell_153 rfl hf
    have hf := dh_el hf c23
    by_cases c26 : x2 = 7
    · have hf := dh_if hf c26
      refine dg_l (fun _ _ _ _ _ _ _ hC => r_tableAt hC dX0_tell_18 (tgt := 154) 7 (by rw [c26]; rfl) (by decide) (by decide) rfl (by decide)) ?_
      refine g_aload_n dX0_tell_154 rfl (j := 0) rfl ?_
      obtain ⟨v27, h27, hf⟩ := dh_bd hf
      refine g_getI fR_X0_347 (by decide) h27 dX0_tell_155 ?_
      exact g_iret1 dX0_tell_158 rfl hf
    have hf := dh_el hf c26
    by_cases c28 : x2 = 8
    · have hf := dh_if hf c28
      refine dg_l (fun _ _ _ _ _ _ _ hC => r_tableAt hC dX0_tell_18 (tgt := 159) 8 (by rw [c28]; rfl) (by decide) (by decide) rfl (by decide)) ?_
      refine g_aload_n dX0_tell_159 rfl (j := 0) rfl ?_
      obtain ⟨v29, h29, hf⟩ := dh_bd hf
      refine g_getI fR_X0_350 (by decide) h29 dX0_tell_160 ?_
      exact g_iret1 dX0_tell_163 rfl hf
    have hf := dh_el hf c28
    by_cases c30 : x2 = 9
    · have hf := dh_if hf c30
      refine dg_l (fun _ _ _ _ _ _ _ hC => r_tableAt hC dX0_tell_18 (tgt := 164) 9 (by rw [c30]; rfl) (by decide) (by decide) rfl (by decide)) ?_
      refine g_aload_n dX0_tell_164 rfl (j := 0) rfl ?_
      obtain ⟨v31, h31, hf⟩ := dh_bd hf
      refine g_getI fR_X0_356 (by decide) h31 dX0_tell_165 ?_
      exact g_iret1 dX0_tell_168 rfl hf
    have hf := dh_el hf c30
    by_cases c32 : x2 = 10
    · have hf := dh_if hf c32
      refine dg_l (fun _ _ _ _ _ _ _ hC => r_tableAt hC dX0_tell_18 (tgt := 169) 10 (by rw [c32]; rfl) (by decide) (by decide) rfl (by decide)) ?_
      refine g_aload_n dX0_tell_169 rfl (j := 0) rfl ?_
      obtain ⟨v33, h33, hf⟩ := dh_bd hf
      refine g_getI fR_X0_122 (by decide) h33 dX0_tell_170 ?_
      exact g_iret1 dX0_tell_173 rfl hf
    have hf := dh_el hf c32
    by_cases c34 : x2 = 11
    · have hf := dh_if hf c34
      refine dg_l (fun _ _ _ _ _ _ _ hC => r_tableAt hC dX0_tell_18 (tgt := 174) 11 (by rw [c34]; rfl) (by decide) (by decide) rfl (by decide)) ?_
      refine g_aload_n dX0_tell_174 rfl (j := 1) rfl ?_
      refine dg_l (fun _ _ _ _ _ _ _ hC => r_iload_n hC dX0_tell_175 rfl (j := 2) rfl) ?_
      obtain ⟨u35, h35, hf⟩ := dh_bd hf
      obtain ⟨p36, h36, hf⟩ := dh_bd hf
      refine g_callV (rc_O (ci := 1) rfl h35) (cG_X0_owedBy _ E Mo G x0 x1 h36) q1214 qG_X0_owedBy (Nat.le_of_ble_eq_true rfl) (Nat.le_of_ble_eq_true rfl) rfl (dj_cat8 (Nat.le_of_ble_eq_true rfl)) dX0_tell_176 ?_
      exact g_iret1 dX0_tell_179 rfl hf
    have hf := dh_el hf c34
    by_cases c37 : x2 = 12
    · have hf := dh_if hf c37
      refine dg_l (fun _ _ _ _ _ _ _ hC => r_tableAt hC dX0_tell_18 (tgt := 180) 12 (by rw [c37]; rfl) (by decide) (by decide) rfl (by decide)) ?_
      refine g_aload_n dX0_tell_180 rfl (j := 1) rfl ?_
      refine dg_l (fun _ _ _ _ _ _ _ hC => r_iload_n hC dX0_tell_181 rfl (j := 2) rfl) ?_
      obtain ⟨u38, h38, hf⟩ := dh_bd hf
      obtain ⟨p39, h39, hf⟩ := dh_bd hf
      refine g_callV (rc_O (ci := 1) rfl h38) (cG_X0_owedTo _ E Mo G x0 x1 h39) q1218 qG_X0_owedTo (Nat.le_of_ble_eq_true rfl) (Nat.le_of_ble_eq_true rfl) rfl (dj_cat8 (Nat.le_of_ble_eq_true rfl)) dX0_tell_182 ?_
      exact g_iret1 dX0_tell_185 rfl hf
    have hf := dh_el hf c37
    by_cases c40 : x2 = 13
    · have hf := dh_if hf c40
      refine dg_l (fun _ _ _ _ _ _ _ hC => r_tableAt hC dX0_tell_18 (tgt := 186) 13 (by rw [c40]; rfl) (by decide) (by decide) rfl (by decide)) ?_
      refine g_aload_n dX0_tell_186 rfl (j := 0) rfl ?_
      obtain ⟨v41, h41, hf⟩ := dh_bd hf
      refine g_getI fR_X0_368 (by decide) h41 dX0_tell_187 ?_
      refine dg_b (fun _ _ _ _ _ _ _ hC => r_if_eq hC dX0_tell_190 (tgt := 197) (by decide)) (fun c42 => ?_) (fun c42 => ?_)
      · have hf := dh_if hf c42
        refine dg_l (fun _ _ _ _ _ _ _ hC => r_iconst hC dX0_tell_197 ki_0) ?_
        exact g_iret1 dX0_tell_198 rfl hf
      · have hf := dh_el hf c42
        refine dg_l (fun _ _ _ _ _ _ _ hC => r_iconst hC dX0_tell_193 ki_1) ?_
        refine dg_l (fun _ _ _ _ _ _ _ hC => r_goto hC dX0_tell_194 (tgt := 198) (by decide)) ?_
        exact g_iret1 dX0_tell_198 rfl hf
    have hf := dh_el hf c40
    by_cases c43 : x2 = 14
    · have hf := dh_if hf c43
      refine dg_l (fun _ _ _ _ _ _ _ hC => r_tableAt hC dX0_tell_18 (tgt := 199) 14 (by rw [c43]; rfl) (by decide) (by decide) rfl (by decide)) ?_
      refine g_aload_n dX0_tell_199 rfl (j := 0) rfl ?_
      obtain ⟨v44, h44, hf⟩ := dh_bd hf
      refine g_getI fR_X0_371 (by decide) h44 dX0_tell_200 ?_
      refine dg_l (fun _ _ _ _ _ _ _ hC => r_ineg hC dX0_tell_203) ?_
      exact g_iret1 dX0_tell_204 rfl hf
    have hf := dh_el hf c43
    refine dg_l (fun _ _ _ _ _ _ _ hC => r_tableOut hC dX0_tell_18 (tgt := 205) (by have := lv_neT c6 (a := 0) rfl; have := lv_neT c8 (a := 1) rfl; have := lv_neT c10 (a := 2) rfl; have := lv_neT c14 (a := 3) rfl; have := lv_neT c16 (a := 4) rfl; have := lv_neT c21 (a := 5) rfl; have := lv_neT c23 (a := 6) rfl; have := lv_neT c26 (a := 7) rfl; have := lv_neT c28 (a := 8) rfl; have := lv_neT c30 (a := 9) rfl; have := lv_neT c32 (a := 10) rfl; have := lv_neT c34 (a := 11) rfl; have := lv_neT c37 (a := 12) rfl; have := lv_neT c40 (a := 13) rfl; have := lv_neT c43 (a := 14) rfl; omega) (by decide)) ?_
    refine dg_l (fun _ _ _ _ _ _ _ hC => r_bipush hC dX0_tell_205 kb_m100) ?_
    exact g_iret1 dX0_tell_207 rfl hf
  · have hf := dh_if hf c3
    refine dg_l (fun _ _ _ _ _ _ _ hC => r_bipush hC dX0_tell_8 kb_m100) ?_
    exact g_iret1 dX0_tell_10 rfl hf
theorem cG_X0_tell (l : Launch) (E : dj_E) (Mo : Option dm_M) (G : dg_G) (x0 : Nat) (x1 : Int32) (x2 : Int32) {r : Int32} (h : gG_X0_tell G x0 x1 x2 = some r) : dg_Met l yX0_tell cX0_tell 4 (some .int) 6 129 E Mo [dj_v E x0, .int x1, .int x2] G (some (.int r)) G :=
  dg_met (plainFor_of_name (by decide)) (by simp only [lg_sl_ref, lg_sl_int, lg_sl_long, lg_sl_nil]; decide) (by simp only [lv_args_ref, lv_args_int, lv_args_long, lv_args_nil]) (wG_X0_tell G x0 x1 x2 h)
theorem qG_X0_tell : dg_cV "DebtorsHouse" yX0_tell cX0_tell 4 (some .int) 2 := ⟨q1211, Or.inl q1212, q81, q1213, by decide, by decide, by decide +kernel⟩
