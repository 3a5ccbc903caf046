set_option maxRecDepth 100000
/-! DebtorsHouse$Act.<init>(IILjava/util/ArrayList;)V -/
abbrev tG_X5_init : dg_T := (cX5_init, 4, RX5, none, 1, 20, "<init>", [])
def gG_X5_init (G : dg_G) (x0 : Nat) (x1 : Int32) (x2 : Int32) (x3 : Nat) : Option dg_G :=
  (dg_pos x0).bind fun u1 =>
  (dg_pI G 5 0 x0 x1).bind fun G2 =>
  (dg_pI G2 5 1 x0 x2).bind fun G3 =>
  (dg_pR G3 5 2 x0 x3).bind fun G4 =>
  some G4
theorem wG_X5_init {l : Launch} {E : dj_E} {Mo : Option dm_M} {G' : dg_G} (G : dg_G) (x0 : Nat) (x1 : Int32) (x2 : Int32) (x3 : Nat) (hf : gG_X5_init G x0 x1 x2 x3 = some G') : dgW tG_X5_init l E Mo G' (.inr none) G 0 [(0, dj_v E x0), (1, .int x1), (2, .int x2), (3, dj_v E x3)] [] := by
  unfold gG_X5_init at hf
  refine g_aload_n dX5_init_0 rfl (j := 0) rfl ?_
  obtain ⟨u1, h1, hf⟩ := dh_bd hf
  refine g_obj h1 q1068 (Nat.le_of_ble_eq_true rfl) (Nat.le_of_ble_eq_true rfl) dX5_init_1 ?_
  refine g_aload_n dX5_init_4 rfl (j := 0) rfl ?_
  refine dg_l (fun _ _ _ _ _ _ _ hC => r_iload_n hC dX5_init_5 rfl (j := 1) rfl) ?_
  obtain ⟨G2, h2, hf⟩ := dh_bd hf
  refine g_putI fF_X5_7 (fun _ => rfl) (by decide) h2 dX5_init_6 ?_
  refine g_aload_n dX5_init_9 rfl (j := 0) rfl ?_
  refine dg_l (fun _ _ _ _ _ _ _ hC => r_iload_n hC dX5_init_10 rfl (j := 2) rfl) ?_
  obtain ⟨G3, h3, hf⟩ := dh_bd hf
  refine g_putI fF_X5_13 (fun _ => rfl) (by decide) h3 dX5_init_11 ?_
  refine g_aload_n dX5_init_14 rfl (j := 0) rfl ?_
  refine g_aload_n dX5_init_15 rfl (j := 3) rfl ?_
  obtain ⟨G4, h4, hf⟩ := dh_bd hf
  refine g_putR fF_X5_16 (Or.inl ⟨_, rfl⟩) (fun _ => rfl) (by decide) h4 dX5_init_16 ?_
  exact g_vret dX5_init_19 rfl hf
theorem cG_X5_init (l : Launch) (E : dj_E) (Mo : Option dm_M) (G : dg_G) (x0 : Nat) (x1 : Int32) (x2 : Int32) (x3 : Nat) {G' : dg_G} (h : gG_X5_init G x0 x1 x2 x3 = some G') : dg_Met l yX5_init cX5_init 4 none 1 20 E Mo [dj_v E x0, .int x1, .int x2, dj_v E x3] G none G' :=
  dg_met (plainFor_of_name (by decide)) (by simp only [lg_sl_ref, lg_sl_int, lg_sl_long, lg_sl_nil]; decide) (by simp only [lv_args_ref, lv_args_int, lv_args_long, lv_args_nil]) (wG_X5_init G x0 x1 x2 x3 h)
theorem qG_X5_init : dg_cI yX5_init cX5_init 4 3 := ⟨q1066, q97, q1067, rfl, by decide, by decide, by decide +kernel⟩
/-! DebtorsHouse$Act.tells(LDebtorsHouse$Topic;[I)I -/
abbrev tG_X5_tells : dg_T := (cX5_tells, 4, RX5, (some .int), 4, 87, "tells", [])
def gG_X5_tells_L2_F (k2 : (Nat → Nat → Nat → Int32 → Option Int32)) (G : dg_G) (x0 : Nat) (x1 : Nat) (x2 : Nat) (x3 : Int32) : Option Int32 :=
  (dg_gR G 5 2 x0).bind fun v1 =>
  (dg_is G 10 v1).bind fun u2 =>
  (gG_J2_size G v1).bind fun p3 =>
  if p3 ≤ x3 then (
    (do_without x1).bind fun v5 =>
    some v5)
  else
  (dg_gR G 5 2 x0).bind fun v6 =>
  (dg_is G 10 v6).bind fun u7 =>
  (gG_J2_get G v6 x3).bind fun p8 =>
  (dg_cast G 8 p8).bind fun u9 =>
  (dg_gR G 8 0 p8).bind fun v10 =>
  (dg_cmp v10 x1).bind fun u11 =>
  if v10 = x1 then (
    (dg_gR G 5 2 x0).bind fun v12 =>
    (dg_is G 10 v12).bind fun u13 =>
    (gG_J2_get G v12 x3).bind fun p14 =>
    (dg_cast G 8 p14).bind fun u15 =>
    (dg_is G 8 p14).bind fun u16 =>
    (gG_X8_holds G p14 x2).bind fun p17 =>
    if p17 = 0 then (
      k2 x0 x1 x2 (x3 + 1))
    else
    (dg_gR G 5 2 x0).bind fun v19 =>
    (dg_is G 10 v19).bind fun u20 =>
    (gG_J2_get G v19 x3).bind fun p21 =>
    (dg_cast G 8 p21).bind fun u22 =>
    (dg_gI G 8 2 p21).bind fun v23 =>
    some v23)
  else
  k2 x0 x1 x2 (x3 + 1)
theorem wG_X5_tells_L2_F {l : Launch} {E : dj_E} {Mo : Option dm_M} {r : Int32} (G : dg_G) (k2 : (Nat → Nat → Nat → Int32 → Option Int32)) (hk2 : ∀ (x0 : Nat) (x1 : Nat) (x2 : Nat) (x3 : Int32), k2 x0 x1 x2 x3 = some r → dgW tG_X5_tells l E Mo G (.inr (some (.int r))) G 2 [(0, dj_v E x0), (1, dj_v E x1), (2, dj_v E x2), (3, .int x3)] []) (x0 : Nat) (x1 : Nat) (x2 : Nat) (x3 : Int32) (hf : gG_X5_tells_L2_F k2 G x0 x1 x2 x3 = some r) : dgW tG_X5_tells l E Mo G (.inr (some (.int r))) G 2 [(0, dj_v E x0), (1, dj_v E x1), (2, dj_v E x2), (3, .int x3)] [] := by
  unfold gG_X5_tells_L2_F at hf
  refine dg_l (fun _ _ _ _ _ _ _ hC => r_iload_n hC dX5_tells_2 rfl (j := 3) rfl) ?_
  refine g_aload_n dX5_tells_3 rfl (j := 0) rfl ?_
  obtain ⟨v1, h1, hf⟩ := dh_bd hf
  refine g_getR fR_X5_16 (by decide) h1 dX5_tells_4 ?_
  obtain ⟨u2, h2, hf⟩ := dh_bd hf
  obtain ⟨p3, h3, hf⟩ := dh_bd hf
  refine g_callV (rc_O (ci := 10) rfl h2) (cG_J2_size _ E Mo G v1 h3) q1134 qG_J2_size (Nat.le_of_ble_eq_true rfl) (Nat.le_of_ble_eq_true rfl) rfl (dj_cat8 (Nat.le_of_ble_eq_true rfl)) dX5_tells_7 ?_
  refine dg_b (fun _ _ _ _ _ _ _ hC => r_icmp_ge hC dX5_tells_10 (tgt := 70) (by decide)) (fun c4 => ?_) (fun c4 => ?_)
  · have hf := dh_if hf c4
    refine g_aload_n dX5_tells_70 rfl (j := 1) rfl ?_
    obtain ⟨v5, h5, hf⟩ := dh_bd hf
    refine g_without h5 (List.mem_of_getElem? (i := 54) rfl) dX5_tells_71 ?_
    exact g_iret1 dX5_tells_74 rfl hf
  · have hf := dh_el hf c4
    refine g_aload_n dX5_tells_13 rfl (j := 0) rfl ?_
    obtain ⟨v6, h6, hf⟩ := dh_bd hf
    refine g_getR fR_X5_16 (by decide) h6 dX5_tells_14 ?_
    refine dg_l (fun _ _ _ _ _ _ _ hC => r_iload_n hC dX5_tells_17 rfl (j := 3) rfl) ?_
    obtain ⟨u7, h7, hf⟩ := dh_bd hf
    obtain ⟨p8, h8, hf⟩ := dh_bd hf
    refine g_callV (rc_O (ci := 10) rfl h7) (cG_J2_get _ E Mo G v6 x3 h8) q1135 qG_J2_get (Nat.le_of_ble_eq_true rfl) (Nat.le_of_ble_eq_true rfl) rfl (dj_cat8 (Nat.le_of_ble_eq_true rfl)) dX5_tells_18 ?_
    obtain ⟨u9, h9, hf⟩ := dh_bd hf
    refine g_castO (ci := 8) rfl h9 q1136 dX5_tells_21 ?_
    obtain ⟨v10, h10, hf⟩ := dh_bd hf
    refine g_getR fR_X5_32 (by decide) h10 dX5_tells_24 ?_
    refine g_aload_n dX5_tells_27 rfl (j := 1) rfl ?_
    obtain ⟨u11, h11, hf⟩ := dh_bd hf
    refine g_acmp_ne h11 dX5_tells_28 (tgt := 64) (by decide) (fun c11 => ?_) (fun c11 => ?_)
    · have hf := dh_el hf c11
      refine dg_l (fun _ _ _ _ _ _ _ hC => r_iinc (lv' := [(3, .int (x3 + 1)), (0, dj_v E x0), (1, dj_v E x1), (2, dj_v E x2)]) hC dX5_tells_64 (j := 3) rfl (congrArg _ ki_1) (Nat.le_of_ble_eq_true rfl) (by simp only [List.filter, dj_cat] <;> rfl)) ?_
      refine dg_l (fun _ _ _ _ _ _ _ hC => r_goto hC dX5_tells_67 (tgt := 2) (by decide)) ?_
      exact g_sub [1, 2, 3, 0] rfl (hk2 x0 x1 x2 (x3 + 1) hf)
    · have hf := dh_if hf c11
      refine g_aload_n dX5_tells_31 rfl (j := 0) rfl ?_
      obtain ⟨v12, h12, hf⟩ := dh_bd hf
      refine g_getR fR_X5_16 (by decide) h12 dX5_tells_32 ?_
      refine dg_l (fun _ _ _ _ _ _ _ hC => r_iload_n hC dX5_tells_35 rfl (j := 3) rfl) ?_
      obtain ⟨u13, h13, hf⟩ := dh_bd hf
      obtain ⟨p14, h14, hf⟩ := dh_bd hf
      refine g_callV (rc_O (ci := 10) rfl h13) (cG_J2_get _ E Mo G v12 x3 h14) q1135 qG_J2_get (Nat.le_of_ble_eq_true rfl) (Nat.le_of_ble_eq_true rfl) rfl (dj_cat8 (Nat.le_of_ble_eq_true rfl)) dX5_tells_36 ?_
      obtain ⟨u15, h15, hf⟩ := dh_bd hf
      refine g_castO (ci := 8) rfl h15 q1136 dX5_tells_39 ?_
      refine g_aload_n dX5_tells_42 rfl (j := 2) rfl ?_
      obtain ⟨u16, h16, hf⟩ := dh_bd hf
      obtain ⟨p17, h17, hf⟩ := dh_bd hf
      refine g_callV (rc_O (ci := 8) rfl h16) (cG_X8_holds _ E Mo G p14 x2 h17) q1137 qG_X8_holds (Nat.le_of_ble_eq_true rfl) (Nat.le_of_ble_eq_true rfl) rfl (dj_cat8 (Nat.le_of_ble_eq_true rfl)) dX5_tells_43 ?_
      refine dg_b (fun _ _ _ _ _ _ _ hC => r_if_eq hC dX5_tells_46 (tgt := 64) (by decide)) (fun c18 => ?_) (fun c18 => ?_)
      · have hf := dh_if hf c18
        refine dg_l (fun _ _ _ _ _ _ _ hC => r_iinc (lv' := [(3, .int (x3 + 1)), (0, dj_v E x0), (1, dj_v E x1), (2, dj_v E x2)]) hC dX5_tells_64 (j := 3) rfl (congrArg _ ki_1) (Nat.le_of_ble_eq_true rfl) (by simp only [List.filter, dj_cat] <;> rfl)) ?_
        refine dg_l (fun _ _ _ _ _ _ _ hC => r_goto hC dX5_tells_67 (tgt := 2) (by decide)) ?_
        exact g_sub [1, 2, 3, 0] rfl (hk2 x0 x1 x2 (x3 + 1) hf)
      · have hf := dh_el hf c18
        refine g_aload_n dX5_tells_49 rfl (j := 0) rfl ?_
        obtain ⟨v19, h19, hf⟩ := dh_bd hf
        refine g_getR fR_X5_16 (by decide) h19 dX5_tells_50 ?_
        refine dg_l (fun _ _ _ _ _ _ _ hC => r_iload_n hC dX5_tells_53 rfl (j := 3) rfl) ?_
        obtain ⟨u20, h20, hf⟩ := dh_bd hf
        obtain ⟨p21, h21, hf⟩ := dh_bd hf
        refine g_callV (rc_O (ci := 10) rfl h20) (cG_J2_get _ E Mo G v19 x3 h21) q1135 qG_J2_get (Nat.le_of_ble_eq_true rfl) (Nat.le_of_ble_eq_true rfl) rfl (dj_cat8 (Nat.le_of_ble_eq_true rfl)) dX5_tells_54 ?_
        obtain ⟨u22, h22, hf⟩ := dh_bd hf
        refine g_castO (ci := 8) rfl h22 q1136 dX5_tells_57 ?_
        obtain ⟨v23, h23, hf⟩ := dh_bd hf
        refine g_getI fR_X5_40 (by decide) h23 dX5_tells_60 ?_
        exact g_iret1 dX5_tells_63 rfl hf
def gG_X5_tells_L2 (G : dg_G) : Nat → Nat → Nat → Nat → Int32 → Option Int32
  | 0 => fun _ _ _ _ => none
  | n + 1 => gG_X5_tells_L2_F (gG_X5_tells_L2 G n) G
theorem wG_X5_tells_L2 {l : Launch} {E : dj_E} {Mo : Option dm_M} {r : Int32} (G : dg_G) : ∀ (n : Nat) (x0 : Nat) (x1 : Nat) (x2 : Nat) (x3 : Int32) (_ : gG_X5_tells_L2 G n x0 x1 x2 x3 = some r), dgW tG_X5_tells l E Mo G (.inr (some (.int r))) G 2 [(0, dj_v E x0), (1, dj_v E x1), (2, dj_v E x2), (3, .int x3)] [] := by
  intro n
  induction n with
  | zero => intro x0 x1 x2 x3 hf; exact dh_no hf
  | succ n ih => intro x0 x1 x2 x3 hf; exact wG_X5_tells_L2_F G (gG_X5_tells_L2 G n) ih x0 x1 x2 x3 hf
def gG_X5_tells (G : dg_G) (x0 : Nat) (x1 : Nat) (x2 : Nat) : Option Int32 :=
  gG_X5_tells_L2 G dh_fu x0 x1 x2 0
theorem wG_X5_tells {l : Launch} {E : dj_E} {Mo : Option dm_M} {r : Int32} (G : dg_G) (x0 : Nat) (x1 : Nat) (x2 : Nat) (hf : gG_X5_tells G x0 x1 x2 = some r) : dgW tG_X5_tells l E Mo G (.inr (some (.int r))) G 0 [(0, dj_v E x0), (1, dj_v E x1), (2, dj_v E x2)] [] := by
  unfold gG_X5_tells at hf
  refine dg_l (fun _ _ _ _ _ _ _ hC => r_iconst hC dX5_tells_0 ki_0) ?_
  refine dg_l (fun _ _ _ _ _ _ _ hC => r_istore_n (lv' := [(3, .int 0), (0, dj_v E x0), (1, dj_v E x1), (2, dj_v E x2)]) hC dX5_tells_1 rfl (Nat.le_of_ble_eq_true rfl) (by simp only [List.filter, dj_cat] <;> rfl)) ?_
  exact g_sub [1, 2, 3, 0] rfl (wG_X5_tells_L2 G dh_fu x0 x1 x2 0 hf)
theorem cG_X5_tells (l : Launch) (E : dj_E) (Mo : Option dm_M) (G : dg_G) (x0 : Nat) (x1 : Nat) (x2 : Nat) {r : Int32} (h : gG_X5_tells G x0 x1 x2 = some r) : dg_Met l yX5_tells cX5_tells 4 (some .int) 4 87 E Mo [dj_v E x0, dj_v E x1, dj_v E x2] G (some (.int r)) G :=
  dg_met (plainFor_of_name (by decide)) (by simp only [lg_sl_ref, lg_sl_int, lg_sl_long, lg_sl_nil]; decide) (by simp only [lv_args_ref, lv_args_int, lv_args_long, lv_args_nil]) (wG_X5_tells G x0 x1 x2 h)
theorem qG_X5_tells : dg_cV "DebtorsHouse$Act" yX5_tells cX5_tells 4 (some .int) 2 := ⟨q1131, Or.inl q1132, q97, q1133, by decide, by decide, by decide +kernel⟩
/-! DebtorsHouse$Reader.at(I)I -/
abbrev tG_X6_at : dg_T := (cX6_at, 2, RX6, (some .int), 0, 0, "at", [])
def gG_X6_at (G : dg_G) (x0 : Nat) (x1 : Int32) : Option Int32 :=
  (dg_gI G 6 1 x0).bind fun v1 =>
  if v1 ≤ x1 then (
    some (-1))
  else
  (dg_gR G 6 0 x0).bind fun v3 =>
  (dg_ldB G v3 x1).bind fun v4 =>
  some (v4 &&& 255)
theorem wG_X6_at {l : Launch} {E : dj_E} {Mo : Option dm_M} {r : Int32} (G : dg_G) (x0 : Nat) (x1 : Int32) (hf : gG_X6_at G x0 x1 = some r) : dgW tG_X6_at l E Mo G (.inr (some (.int r))) G 0 [(0, dj_v E x0), (1, .int x1)] [] := by
  unfold gG_X6_at at hf
  refine dg_l (fun _ _ _ _ _ _ _ hC => r_iload_n hC dX6_at_0 rfl (j := 1) rfl) ?_
  refine g_aload_n dX6_at_1 rfl (j := 0) rfl ?_
  obtain ⟨v1, h1, hf⟩ := dh_bd hf
  refine g_getI fR_X6_24 (by decide) h1 dX6_at_2 ?_
  refine dg_b (fun _ _ _ _ _ _ _ hC => r_icmp_ge hC dX6_at_5 (tgt := 21) (by decide)) (fun c2 => ?_) (fun c2 => ?_)
  · have hf := dh_if hf c2
    refine dg_l (fun _ _ _ _ _ _ _ hC => r_iconst hC dX6_at_21 ki_m1) ?_
    exact g_iret1 dX6_at_22 rfl hf
  · have hf := dh_el hf c2
    refine g_aload_n dX6_at_8 rfl (j := 0) rfl ?_
    obtain ⟨v3, h3, hf⟩ := dh_bd hf
    refine g_getR fR_X6_20 (by decide) h3 dX6_at_9 ?_
    refine dg_l (fun _ _ _ _ _ _ _ hC => r_iload_n hC dX6_at_12 rfl (j := 1) rfl) ?_
    obtain ⟨v4, h4, hf⟩ := dh_bd hf
    refine g_bald h4 dX6_at_13 ?_
    refine dg_l (fun _ _ _ _ _ _ _ hC => r_sipush hC dX6_at_14 ks_255) ?_
    refine dg_l (fun _ _ _ _ _ _ _ hC => r_iand hC dX6_at_17) ?_
    refine dg_l (fun _ _ _ _ _ _ _ hC => r_goto hC dX6_at_18 (tgt := 22) (by decide)) ?_
    exact g_iret1 dX6_at_22 rfl hf
theorem cG_X6_at (l : Launch) (E : dj_E) (Mo : Option dm_M) (G : dg_G) (x0 : Nat) (x1 : Int32) {r : Int32} (h : gG_X6_at G x0 x1 = some r) : dg_Met l yX6_at cX6_at 2 (some .int) 0 0 E Mo [dj_v E x0, .int x1] G (some (.int r)) G :=
  dg_met (plainFor_of_name (by decide)) (by simp only [lg_sl_ref, lg_sl_int, lg_sl_long, lg_sl_nil]; decide) (by simp only [lv_args_ref, lv_args_int, lv_args_long, lv_args_nil]) (wG_X6_at G x0 x1 h)
theorem qG_X6_at : dg_cV "DebtorsHouse$Reader" yX6_at cX6_at 2 (some .int) 1 := ⟨q610, Or.inl qs13, q98, q611, by decide, by decide, by decide +kernel⟩
/-! DebtorsHouse$Reader.isLetter(I)Z -/
abbrev tG_X6_isLetter : dg_T := (cX6_isLetter, 1, RX6, (some .boolean), 0, 0, "isLetter", [])
def gG_X6_isLetter (G : dg_G) (x0 : Int32) : Option Int32 :=
  if x0 < 97 then (
    some 0)
  else
  if 122 < x0 then (
    some 0)
  else
  some 1
theorem wG_X6_isLetter {l : Launch} {E : dj_E} {Mo : Option dm_M} {r : Int32} (G : dg_G) (x0 : Int32) (hf : gG_X6_isLetter G x0 = some r) : dgW tG_X6_isLetter l E Mo G (.inr (some (.int r))) G 0 [(0, .int x0)] [] := by
  unfold gG_X6_isLetter at hf
  refine dg_l (fun _ _ _ _ _ _ _ hC => r_iload_n hC dX6_isLetter_0 rfl (j := 0) rfl) ?_
  refine dg_l (fun _ _ _ _ _ _ _ hC => r_bipush hC dX6_isLetter_1 kb_97) ?_
  refine dg_b (fun _ _ _ _ _ _ _ hC => r_icmp_lt hC dX6_isLetter_3 (tgt := 16) (by decide)) (fun c1 => ?_) (fun c1 => ?_)
  · have hf := dh_if hf c1
    refine dg_l (fun _ _ _ _ _ _ _ hC => r_iconst hC dX6_isLetter_16 ki_0) ?_
    exact g_zret1 dX6_isLetter_17 rfl rfl hf
  · have hf := dh_el hf c1
    refine dg_l (fun _ _ _ _ _ _ _ hC => r_iload_n hC dX6_isLetter_6 rfl (j := 0) rfl) ?_
    refine dg_l (fun _ _ _ _ _ _ _ hC => r_bipush hC dX6_isLetter_7 kb_122) ?_
    refine dg_b (fun _ _ _ _ _ _ _ hC => r_icmp_gt hC dX6_isLetter_9 (tgt := 16) (by decide)) (fun c2 => ?_) (fun c2 => ?_)
    · have hf := dh_if hf c2
      refine dg_l (fun _ _ _ _ _ _ _ hC => r_iconst hC dX6_isLetter_16 ki_0) ?_
      exact g_zret1 dX6_isLetter_17 rfl rfl hf
    · have hf := dh_el hf c2
      refine dg_l (fun _ _ _ _ _ _ _ hC => r_iconst hC dX6_isLetter_12 ki_1) ?_
      refine dg_l (fun _ _ _ _ _ _ _ hC => r_goto hC dX6_isLetter_13 (tgt := 17) (by decide)) ?_
      exact g_zret1 dX6_isLetter_17 rfl rfl hf
theorem cG_X6_isLetter (l : Launch) (E : dj_E) (Mo : Option dm_M) (G : dg_G) (x0 : Int32) {r : Int32} (h : gG_X6_isLetter G x0 = some r) : dg_Met l yX6_isLetter cX6_isLetter 1 (some .boolean) 0 0 E Mo [.int x0] G (some (.int r)) G :=
  dg_met (plainFor_of_name (by decide)) (by simp only [lg_sl_ref, lg_sl_int, lg_sl_long, lg_sl_nil]; decide) (by simp only [lv_args_ref, lv_args_int, lv_args_long, lv_args_nil]) (wG_X6_isLetter G x0 h)
theorem qG_X6_isLetter : dg_cS yX6_isLetter cX6_isLetter 1 (some .boolean) 1 := ⟨q615, q98, q616, by decide, by decide, by decide +kernel⟩
/-! DebtorsHouse$Reader.isDigit(I)Z -/
abbrev tG_X6_isDigit : dg_T := (cX6_isDigit, 1, RX6, (some .boolean), 0, 0, "isDigit", [])
def gG_X6_isDigit (G : dg_G) (x0 : Int32) : Option Int32 :=
  if x0 < 48 then (
    some 0)
  else
  if 57 < x0 then (
    some 0)
  else
  some 1
theorem wG_X6_isDigit {l : Launch} {E : dj_E} {Mo : Option dm_M} {r : Int32} (G : dg_G) (x0 : Int32) (hf : gG_X6_isDigit G x0 = some r) : dgW tG_X6_isDigit l E Mo G (.inr (some (.int r))) G 0 [(0, .int x0)] [] := by
  unfold gG_X6_isDigit at hf
  refine dg_l (fun _ _ _ _ _ _ _ hC => r_iload_n hC dX6_isDigit_0 rfl (j := 0) rfl) ?_
  refine dg_l (fun _ _ _ _ _ _ _ hC => r_bipush hC dX6_isDigit_1 kb_48) ?_
  refine dg_b (fun _ _ _ _ _ _ _ hC => r_icmp_lt hC dX6_isDigit_3 (tgt := 16) (by decide)) (fun c1 => ?_) (fun c1 => ?_)
  · have hf := dh_if hf c1
    refine dg_l (fun _ _ _ _ _ _ _ hC => r_iconst hC dX6_isDigit_16 ki_0) ?_
    exact g_zret1 dX6_isDigit_17 rfl rfl hf
  · have hf := dh_el hf c1
    refine dg_l (fun _ _ _ _ _ _ _ hC => r_iload_n hC dX6_isDigit_6 rfl (j := 0) rfl) ?_
    refine dg_l (fun _ _ _ _ _ _ _ hC => r_bipush hC dX6_isDigit_7 kb_57) ?_
    refine dg_b (fun _ _ _ _ _ _ _ hC => r_icmp_gt hC dX6_isDigit_9 (tgt := 16) (by decide)) (fun c2 => ?_) (fun c2 => ?_)
    · have hf := dh_if hf c2
      refine dg_l (fun _ _ _ _ _ _ _ hC => r_iconst hC dX6_isDigit_16 ki_0) ?_
      exact g_zret1 dX6_isDigit_17 rfl rfl hf
    · have hf := dh_el hf c2
      refine dg_l (fun _ _ _ _ _ _ _ hC => r_iconst hC dX6_isDigit_12 ki_1) ?_
      refine dg_l (fun _ _ _ _ _ _ _ hC => r_goto hC dX6_isDigit_13 (tgt := 17) (by decide)) ?_
      exact g_zret1 dX6_isDigit_17 rfl rfl hf
theorem cG_X6_isDigit (l : Launch) (E : dj_E) (Mo : Option dm_M) (G : dg_G) (x0 : Int32) {r : Int32} (h : gG_X6_isDigit G x0 = some r) : dg_Met l yX6_isDigit cX6_isDigit 1 (some .boolean) 0 0 E Mo [.int x0] G (some (.int r)) G :=
  dg_met (plainFor_of_name (by decide)) (by simp only [lg_sl_ref, lg_sl_int, lg_sl_long, lg_sl_nil]; decide) (by simp only [lv_args_ref, lv_args_int, lv_args_long, lv_args_nil]) (wG_X6_isDigit G x0 h)
theorem qG_X6_isDigit : dg_cS yX6_isDigit cX6_isDigit 1 (some .boolean) 1 := ⟨q790, q98, q791, by decide, by decide, by decide +kernel⟩
/-! DebtorsHouse$Reader.step()V -/
abbrev tG_X6_step : dg_T := (cX6_step, 3, RX6, none, 6, 137, "step", [])
def gG_X6_step_L168_F (k168 : (dg_G → Nat → Option dg_G)) (G : dg_G) (x0 : Nat) : Option dg_G :=
  (dg_gI G 6 2 x0).bind fun v29 =>
  (dg_is G 6 x0).bind fun u30 =>
  (gG_X6_at G x0 v29).bind fun p31 =>
  (gG_X6_isDigit G p31).bind fun p32 =>
  if p32 = 0 then (
    (dg_gI G 6 2 x0).bind fun v34 =>
    (dg_gI G 6 3 x0).bind fun v35 =>
    if (v34 - v35) ≤ 5 then (
      (dg_pR G 6 5 x0 27).bind fun G37 =>
      some G37)
    else
    (dg_pR G 6 5 x0 30).bind fun G38 =>
    some G38)
  else
  (dg_gI G 6 2 x0).bind fun v39 =>
  (dg_gI G 6 3 x0).bind fun v40 =>
  if 5 ≤ (v39 - v40) then (
    (dg_gI G 6 2 x0).bind fun v42 =>
    (dg_pI G 6 2 x0 (v42 + 1)).bind fun G43 =>
    k168 G43 x0)
  else
  (dg_gI G 6 4 x0).bind fun v44 =>
  (dg_gI G 6 2 x0).bind fun v45 =>
  (dg_is G 6 x0).bind fun u46 =>
  (gG_X6_at G x0 v45).bind fun p47 =>
  (dg_pI G 6 4 x0 (((10 * v44) + p47) - 48)).bind fun G48 =>
  (dg_gI G48 6 2 x0).bind fun v49 =>
  (dg_pI G48 6 2 x0 (v49 + 1)).bind fun G50 =>
  k168 G50 x0
theorem wG_X6_step_L168_F {l : Launch} {E : dj_E} {Mo : Option dm_M} {G' : dg_G} (k168 : (dg_G → Nat → Option dg_G)) (hk168 : ∀ (G : dg_G) (x0 : Nat), k168 G x0 = some G' → dgW tG_X6_step l E Mo G' (.inr none) G 168 [(0, dj_v E x0)] []) (G : dg_G) (x0 : Nat) (hf : gG_X6_step_L168_F k168 G x0 = some G') : dgW tG_X6_step l E Mo G' (.inr none) G 168 [(0, dj_v E x0)] [] := by
  unfold gG_X6_step_L168_F at hf
  refine g_aload_n dX6_step_168 rfl (j := 0) rfl ?_
  refine g_aload_n dX6_step_169 rfl (j := 0) rfl ?_
  obtain ⟨v29, h29, hf⟩ := dh_bd hf
  refine g_getI fR_X6_31 (by decide) h29 dX6_step_170 ?_
  obtain ⟨u30, h30, hf⟩ := dh_bd hf
  obtain ⟨p31, h31, hf⟩ := dh_bd hf
  refine g_callV (rc_O (ci := 6) rfl h30) (cG_X6_at _ E Mo G x0 v29 h31) q608 qG_X6_at (Nat.le_of_ble_eq_true rfl) (Nat.le_of_ble_eq_true rfl) rfl (dj_cat8 (Nat.le_of_ble_eq_true rfl)) dX6_step_173 ?_
  obtain ⟨p32, h32, hf⟩ := dh_bd hf
  refine g_callS (cG_X6_isDigit _ E Mo G p31 h32) q789 qG_X6_isDigit (Nat.le_of_ble_eq_true rfl) (Nat.le_of_ble_eq_true rfl) rfl (dj_cat8 (Nat.le_of_ble_eq_true rfl)) dX6_step_176 ?_
  refine dg_b (fun _ _ _ _ _ _ _ hC => r_if_eq hC dX6_step_179 (tgt := 231) (by decide)) (fun c33 => ?_) (fun c33 => ?_)
  · have hf := dh_if hf c33
    refine g_aload_n dX6_step_231 rfl (j := 0) rfl ?_
    refine g_aload_n dX6_step_232 rfl (j := 0) rfl ?_
    obtain ⟨v34, h34, hf⟩ := dh_bd hf
    refine g_getI fR_X6_31 (by decide) h34 dX6_step_233 ?_
    refine g_aload_n dX6_step_236 rfl (j := 0) rfl ?_
    obtain ⟨v35, h35, hf⟩ := dh_bd hf
    refine g_getI fR_X6_38 (by decide) h35 dX6_step_237 ?_
    refine dg_l (fun _ _ _ _ _ _ _ hC => r_isub hC dX6_step_240) ?_
    refine dg_l (fun _ _ _ _ _ _ _ hC => r_iconst hC dX6_step_241 ki_5) ?_
    refine dg_b (fun _ _ _ _ _ _ _ hC => r_icmp_le hC dX6_step_242 (tgt := 251) (by decide)) (fun c36 => ?_) (fun c36 => ?_)
    · have hf := dh_if hf c36
      refine g_gets (j := 27) (by decide) (by decide) (fun _ h => ((dk_K h).1 1 (by decide)).1) q794 dX6_step_251 ?_
      obtain ⟨G37, h37, hf⟩ := dh_bd hf
      refine g_putR fF_X6_47 (Or.inl ⟨_, rfl⟩) (fun q => by cases q) (by decide) h37 dX6_step_254 ?_
      refine dg_l (fun _ _ _ _ _ _ _ hC => r_goto hC dX6_step_257 (tgt := 292) (by decide)) ?_
      exact g_vret dX6_step_292 rfl hf
    · have hf := dh_el hf c36
      refine g_gets (j := 30) (by decide) (by decide) (fun _ h => ((dk_K h).1 4 (by decide)).1) q792 dX6_step_245 ?_
      refine dg_l (fun _ _ _ _ _ _ _ hC => r_goto hC dX6_step_248 (tgt := 254) (by decide)) ?_
      obtain ⟨G38, h38, hf⟩ := dh_bd hf
      refine g_putR fF_X6_47 (Or.inl ⟨_, rfl⟩) (fun q => by cases q) (by decide) h38 dX6_step_254 ?_
      refine dg_l (fun _ _ _ _ _ _ _ hC => r_goto hC dX6_step_257 (tgt := 292) (by decide)) ?_
      exact g_vret dX6_step_292 rfl hf
  · have hf := dh_el hf c33
    refine g_aload_n dX6_step_182 rfl (j := 0) rfl ?_
    obtain ⟨v39, h39, hf⟩ := dh_bd hf
    refine g_getI fR_X6_31 (by decide) h39 dX6_step_183 ?_
    refine g_aload_n dX6_step_186 rfl (j := 0) rfl ?_
    obtain ⟨v40, h40, hf⟩ := dh_bd hf
    refine g_getI fR_X6_38 (by decide) h40 dX6_step_187 ?_
    refine dg_l (fun _ _ _ _ _ _ _ hC => r_isub hC dX6_step_190) ?_
    refine dg_l (fun _ _ _ _ _ _ _ hC => r_iconst hC dX6_step_191 ki_5) ?_
    refine dg_b (fun _ _ _ _ _ _ _ hC => r_icmp_ge hC dX6_step_192 (tgt := 218) (by decide)) (fun c41 => ?_) (fun c41 => ?_)
    · have hf := dh_if hf c41
      refine g_aload_n dX6_step_218 rfl (j := 0) rfl ?_
      refine g_dup dX6_step_219 ?_
      obtain ⟨v42, h42, hf⟩ := dh_bd hf
      refine g_getI fR_X6_31 (by decide) h42 dX6_step_220 ?_
      refine dg_l (fun _ _ _ _ _ _ _ hC => r_iconst hC dX6_step_223 ki_1) ?_
      refine dg_l (fun _ _ _ _ _ _ _ hC => r_iadd hC dX6_step_224) ?_
      obtain ⟨G43, h43, hf⟩ := dh_bd hf
      refine g_putI fF_X6_31 (fun q => by cases q) (by decide) h43 dX6_step_225 ?_
      refine dg_l (fun _ _ _ _ _ _ _ hC => r_goto hC dX6_step_228 (tgt := 168) (by decide)) ?_
      exact g_sub [0] rfl (hk168 G43 x0 hf)
    · have hf := dh_el hf c41
      refine g_aload_n dX6_step_195 rfl (j := 0) rfl ?_
      refine dg_l (fun _ _ _ _ _ _ _ hC => r_bipush hC dX6_step_196 kb_10) ?_
      refine g_aload_n dX6_step_198 rfl (j := 0) rfl ?_
      obtain ⟨v44, h44, hf⟩ := dh_bd hf
      refine g_getI fR_X6_79 (by decide) h44 dX6_step_199 ?_
      refine dg_l (fun _ _ _ _ _ _ _ hC => r_imul hC dX6_step_202) ?_
      refine g_aload_n dX6_step_203 rfl (j := 0) rfl ?_
      refine g_aload_n dX6_step_204 rfl (j := 0) rfl ?_
      obtain ⟨v45, h45, hf⟩ := dh_bd hf
      refine g_getI fR_X6_31 (by decide) h45 dX6_step_205 ?_
      obtain ⟨u46, h46, hf⟩ := dh_bd hf
      obtain ⟨p47, h47, hf⟩ := dh_bd hf
      refine g_callV (rc_O (ci := 6) rfl h46) (cG_X6_at _ E Mo G x0 v45 h47) q608 qG_X6_at (Nat.le_of_ble_eq_true rfl) (Nat.le_of_ble_eq_true rfl) rfl (dj_cat8 (Nat.le_of_ble_eq_true rfl)) dX6_step_208 ?_
      refine dg_l (fun _ _ _ _ _ _ _ hC => r_iadd hC dX6_step_211) ?_
      refine dg_l (fun _ _ _ _ _ _ _ hC => r_bipush hC dX6_step_212 kb_48) ?_
      refine dg_l (fun _ _ _ _ _ _ _ hC => r_isub hC dX6_step_214) ?_
      obtain ⟨G48, h48, hf⟩ := dh_bd hf
      refine g_putI fF_X6_79 (fun q => by cases q) (by decide) h48 dX6_step_215 ?_
      refine g_aload_n dX6_step_218 rfl (j := 0) rfl ?_
      refine g_dup dX6_step_219 ?_
      obtain ⟨v49, h49, hf⟩ := dh_bd hf
      refine g_getI fR_X6_31 (by decide) h49 dX6_step_220 ?_
      refine dg_l (fun _ _ _ _ _ _ _ hC => r_iconst hC dX6_step_223 ki_1) ?_
      refine dg_l (fun _ _ _ _ _ _ _ hC => r_iadd hC dX6_step_224) ?_
      obtain ⟨G50, h50, hf⟩ := dh_bd hf
      refine g_putI fF_X6_31 (fun q => by cases q) (by decide) h50 dX6_step_225 ?_
      refine dg_l (fun _ _ _ _ _ _ _ hC => r_goto hC dX6_step_228 (tgt := 168) (by decide)) ?_
      exact g_sub [0] rfl (hk168 G50 x0 hf)
def gG_X6_step_L168 : Nat → dg_G → Nat → Option dg_G
  | 0 => fun _ _ => none
  | n + 1 => gG_X6_step_L168_F (gG_X6_step_L168 n)
theorem wG_X6_step_L168 {l : Launch} {E : dj_E} {Mo : Option dm_M} {G' : dg_G} : ∀ (n : Nat) (G : dg_G) (x0 : Nat) (_ : gG_X6_step_L168 n G x0 = some G'), dgW tG_X6_step l E Mo G' (.inr none) G 168 [(0, dj_v E x0)] [] := by
  intro n
  induction n with
  | zero => intro G x0 hf; exact dh_no hf
  | succ n ih => intro G x0 hf; exact wG_X6_step_L168_F (gG_X6_step_L168 n) ih G x0 hf
def gG_X6_step_L88_F (k88 : (dg_G → Nat → Nat → Option dg_G)) (G : dg_G) (x0 : Nat) (x2 : Nat) : Option dg_G :=
  (dg_gI G 6 2 x0).bind fun v54 =>
  (dg_is G 6 x0).bind fun u55 =>
  (gG_X6_at G x0 v54).bind fun p56 =>
  (gG_X6_isLetter G p56).bind fun p57 =>
  if p57 = 0 then (
    (dg_is G 11 x2).bind fun u59 =>
    (gG_J10_toString G x2).bind fun p60 =>
    (dg_pR p60.2 6 6 x0 p60.1).bind fun G61 =>
    (dg_pR G61 6 5 x0 26).bind fun G62 =>
    some G62)
  else
  (dg_is G 11 x2).bind fun u63 =>
  (gG_J10_length G x2).bind fun p64 =>
  if 9 ≤ p64 then (
    (dg_gI G 6 2 x0).bind fun v66 =>
    (dg_pI G 6 2 x0 (v66 + 1)).bind fun G67 =>
    k88 G67 x0 x2)
  else
  (dg_gI G 6 2 x0).bind fun v68 =>
  (dg_is G 6 x0).bind fun u69 =>
  (gG_X6_at G x0 v68).bind fun p70 =>
  (dg_is G 11 x2).bind fun u71 =>
  (gG_J10_append G x2 (UInt32.toInt32 (Int32.toUInt32 p70 % 65536))).bind fun p72 =>
  (dg_gI p72.2 6 2 x0).bind fun v73 =>
  (dg_pI p72.2 6 2 x0 (v73 + 1)).bind fun G74 =>
  k88 G74 x0 x2
theorem wG_X6_step_L88_F {l : Launch} {E : dj_E} {Mo : Option dm_M} {G' : dg_G} (k88 : (dg_G → Nat → Nat → Option dg_G)) (hk88 : ∀ (G : dg_G) (x0 : Nat) (x2 : Nat), k88 G x0 x2 = some G' → dgW tG_X6_step l E Mo G' (.inr none) G 88 [(0, dj_v E x0), (2, dj_v E x2)] []) (G : dg_G) (x0 : Nat) (x2 : Nat) (hf : gG_X6_step_L88_F k88 G x0 x2 = some G') : dgW tG_X6_step l E Mo G' (.inr none) G 88 [(0, dj_v E x0), (2, dj_v E x2)] [] := by
  unfold gG_X6_step_L88_F at hf
  refine g_aload_n dX6_step_88 rfl (j := 0) rfl ?_
  refine g_aload_n dX6_step_89 rfl (j := 0) rfl ?_
  obtain ⟨v54, h54, hf⟩ := dh_bd hf
  refine g_getI fR_X6_31 (by decide) h54 dX6_step_90 ?_
  obtain ⟨u55, h55, hf⟩ := dh_bd hf
  obtain ⟨p56, h56, hf⟩ := dh_bd hf
  refine g_callV (rc_O (ci := 6) rfl h55) (cG_X6_at _ E Mo G x0 v54 h56) q608 qG_X6_at (Nat.le_of_ble_eq_true rfl) (Nat.le_of_ble_eq_true rfl) rfl (dj_cat8 (Nat.le_of_ble_eq_true rfl)) dX6_step_93 ?_
  obtain ⟨p57, h57, hf⟩ := dh_bd hf
  refine g_callS (cG_X6_isLetter _ E Mo G p56 h57) q614 qG_X6_isLetter (Nat.le_of_ble_eq_true rfl) (Nat.le_of_ble_eq_true rfl) rfl (dj_cat8 (Nat.le_of_ble_eq_true rfl)) dX6_step_96 ?_
  refine dg_b (fun _ _ _ _ _ _ _ hC => r_if_eq hC dX6_step_99 (tgt := 138) (by decide)) (fun c58 => ?_) (fun c58 => ?_)
  · have hf := dh_if hf c58
    refine g_aload_n dX6_step_138 rfl (j := 0) rfl ?_
    refine g_aload_n dX6_step_139 rfl (j := 1) rfl ?_
    obtain ⟨u59, h59, hf⟩ := dh_bd hf
    obtain ⟨p60, h60, hf⟩ := dh_bd hf
    refine g_callV (rc_O (ci := 11) rfl h59) (cG_J10_toString _ E Mo G x2 h60) q733 qG_J10_toString (Nat.le_of_ble_eq_true rfl) (Nat.le_of_ble_eq_true rfl) rfl (dj_cat8 (Nat.le_of_ble_eq_true rfl)) dX6_step_140 ?_
    obtain ⟨G61, h61, hf⟩ := dh_bd hf
    refine g_putR fF_X6_69 (Or.inl ⟨_, rfl⟩) (fun q => by cases q) (by decide) h61 dX6_step_143 ?_
    refine g_aload_n dX6_step_146 rfl (j := 0) rfl ?_
    refine g_gets (j := 26) (by decide) (by decide) (fun _ h => ((dk_K h).1 0 (by decide)).1) q787 dX6_step_147 ?_
    obtain ⟨G62, h62, hf⟩ := dh_bd hf
    refine g_putR fF_X6_47 (Or.inl ⟨_, rfl⟩) (fun q => by cases q) (by decide) h62 dX6_step_150 ?_
    refine dg_l (fun _ _ _ _ _ _ _ hC => r_goto hC dX6_step_153 (tgt := 292) (by decide)) ?_
    exact g_vret dX6_step_292 rfl hf
  · have hf := dh_el hf c58
    refine g_aload_n dX6_step_102 rfl (j := 1) rfl ?_
    obtain ⟨u63, h63, hf⟩ := dh_bd hf
    obtain ⟨p64, h64, hf⟩ := dh_bd hf
    refine g_callV (rc_O (ci := 11) rfl h63) (cG_J10_length _ E Mo G x2 h64) q648 qG_J10_length (Nat.le_of_ble_eq_true rfl) (Nat.le_of_ble_eq_true rfl) rfl (dj_cat8 (Nat.le_of_ble_eq_true rfl)) dX6_step_103 ?_
    refine dg_l (fun _ _ _ _ _ _ _ hC => r_bipush hC dX6_step_106 kb_9) ?_
    refine dg_b (fun _ _ _ _ _ _ _ hC => r_icmp_ge hC dX6_step_108 (tgt := 125) (by decide)) (fun c65 => ?_) (fun c65 => ?_)
    · have hf := dh_if hf c65
      refine g_aload_n dX6_step_125 rfl (j := 0) rfl ?_
      refine g_dup dX6_step_126 ?_
      obtain ⟨v66, h66, hf⟩ := dh_bd hf
      refine g_getI fR_X6_31 (by decide) h66 dX6_step_127 ?_
      refine dg_l (fun _ _ _ _ _ _ _ hC => r_iconst hC dX6_step_130 ki_1) ?_
      refine dg_l (fun _ _ _ _ _ _ _ hC => r_iadd hC dX6_step_131) ?_
      obtain ⟨G67, h67, hf⟩ := dh_bd hf
      refine g_putI fF_X6_31 (fun q => by cases q) (by decide) h67 dX6_step_132 ?_
      refine dg_l (fun _ _ _ _ _ _ _ hC => r_goto hC dX6_step_135 (tgt := 88) (by decide)) ?_
      exact g_sub [0, 1] rfl (hk88 G67 x0 x2 hf)
    · have hf := dh_el hf c65
      refine g_aload_n dX6_step_111 rfl (j := 1) rfl ?_
      refine g_aload_n dX6_step_112 rfl (j := 0) rfl ?_
      refine g_aload_n dX6_step_113 rfl (j := 0) rfl ?_
      obtain ⟨v68, h68, hf⟩ := dh_bd hf
      refine g_getI fR_X6_31 (by decide) h68 dX6_step_114 ?_
      obtain ⟨u69, h69, hf⟩ := dh_bd hf
      obtain ⟨p70, h70, hf⟩ := dh_bd hf
      refine g_callV (rc_O (ci := 6) rfl h69) (cG_X6_at _ E Mo G x0 v68 h70) q608 qG_X6_at (Nat.le_of_ble_eq_true rfl) (Nat.le_of_ble_eq_true rfl) rfl (dj_cat8 (Nat.le_of_ble_eq_true rfl)) dX6_step_117 ?_
      refine dg_l (fun _ _ _ _ _ _ _ hC => r_i2c hC dX6_step_120) ?_
      obtain ⟨u71, h71, hf⟩ := dh_bd hf
      obtain ⟨p72, h72, hf⟩ := dh_bd hf
      refine g_callV (rc_O (ci := 11) rfl h71) (cG_J10_append _ E Mo G x2 (UInt32.toInt32 (Int32.toUInt32 p70 % 65536)) h72) q655 qG_J10_append (Nat.le_of_ble_eq_true rfl) (Nat.le_of_ble_eq_true rfl) rfl (dj_cat8 (Nat.le_of_ble_eq_true rfl)) dX6_step_121 ?_
      refine g_pop dX6_step_124 ?_
      refine g_aload_n dX6_step_125 rfl (j := 0) rfl ?_
      refine g_dup dX6_step_126 ?_
      obtain ⟨v73, h73, hf⟩ := dh_bd hf
      refine g_getI fR_X6_31 (by decide) h73 dX6_step_127 ?_
      refine dg_l (fun _ _ _ _ _ _ _ hC => r_iconst hC dX6_step_130 ki_1) ?_
      refine dg_l (fun _ _ _ _ _ _ _ hC => r_iadd hC dX6_step_131) ?_
      obtain ⟨G74, h74, hf⟩ := dh_bd hf
      refine g_putI fF_X6_31 (fun q => by cases q) (by decide) h74 dX6_step_132 ?_
      refine dg_l (fun _ _ _ _ _ _ _ hC => r_goto hC dX6_step_135 (tgt := 88) (by decide)) ?_
      exact g_sub [0, 1] rfl (hk88 G74 x0 x2 hf)
def gG_X6_step_L88 : Nat → dg_G → Nat → Nat → Option dg_G
  | 0 => fun _ _ _ => none
  | n + 1 => gG_X6_step_L88_F (gG_X6_step_L88 n)
theorem wG_X6_step_L88 {l : Launch} {E : dj_E} {Mo : Option dm_M} {G' : dg_G} : ∀ (n : Nat) (G : dg_G) (x0 : Nat) (x2 : Nat) (_ : gG_X6_step_L88 n G x0 x2 = some G'), dgW tG_X6_step l E Mo G' (.inr none) G 88 [(0, dj_v E x0), (2, dj_v E x2)] [] := by
  intro n
  induction n with
  | zero => intro G x0 x2 hf; exact dh_no hf
  | succ n ih => intro G x0 x2 hf; exact wG_X6_step_L88_F (gG_X6_step_L88 n) ih G x0 x2 hf
def gG_X6_step_L0_F (k0 : (dg_G → Nat → Option dg_G)) (G : dg_G) (x0 : Nat) : Option dg_G :=
  (dg_gI G 6 2 x0).bind fun v1 =>
  (dg_is G 6 x0).bind fun u2 =>
  (gG_X6_at G x0 v1).bind fun p3 =>
  if p3 = 10 then (
    (dg_gI G 6 2 x0).bind fun v5 =>
    (dg_pI G 6 2 x0 (v5 + 1)).bind fun G6 =>
    k0 G6 x0)
  else
  (dg_gI G 6 2 x0).bind fun v7 =>
  (dg_is G 6 x0).bind fun u8 =>
  (gG_X6_at G x0 v7).bind fun p9 =>
  if p9 = 32 then (
    (dg_gI G 6 2 x0).bind fun v76 =>
    (dg_pI G 6 2 x0 (v76 + 1)).bind fun G77 =>
    k0 G77 x0)
  else
  (dg_gI G 6 2 x0).bind fun v11 =>
  (dg_pI G 6 3 x0 v11).bind fun G12 =>
  (dg_gI G12 6 2 x0).bind fun v13 =>
  (dg_is G12 6 x0).bind fun u14 =>
  (gG_X6_at G12 x0 v13).bind fun p15 =>
  if p15 = (-1) then (
    (dg_pR G12 6 5 x0 29).bind fun G75 =>
    some G75)
  else
  (gG_X6_isLetter G12 p15).bind fun p17 =>
  if ¬ (p17 = 0) then (
    (dg_pos (dg_n G12)).bind fun u52 =>
    (gG_J10_init (dg_nw G12 11) (dg_n G12) 9).bind fun p53 =>
    gG_X6_step_L88 dh_fu p53 x0 (dg_n G12))
  else
  (gG_X6_isDigit G12 p15).bind fun p19 =>
  if ¬ (p19 = 0) then (
    (dg_pI G12 6 4 x0 0).bind fun G28 =>
    gG_X6_step_L168 dh_fu G28 x0)
  else
  (dg_gI G12 6 2 x0).bind fun v21 =>
  (dg_pI G12 6 2 x0 (v21 + 1)).bind fun G22 =>
  (dg_isS G22 57).bind fun u23 =>
  (gG_J11_indexOf G22 57 p15).bind fun p24 =>
  if p24 < 0 then (
    (dg_pR G22 6 5 x0 30).bind fun G26 =>
    some G26)
  else
  (dg_pR G22 6 5 x0 28).bind fun G27 =>
  some G27
theorem wG_X6_step_L0_F {l : Launch} {E : dj_E} {Mo : Option dm_M} {G' : dg_G} (k0 : (dg_G → Nat → Option dg_G)) (hk0 : ∀ (G : dg_G) (x0 : Nat), k0 G x0 = some G' → dgW tG_X6_step l E Mo G' (.inr none) G 0 [(0, dj_v E x0)] []) (G : dg_G) (x0 : Nat) (hf : gG_X6_step_L0_F k0 G x0 = some G') : dgW tG_X6_step l E Mo G' (.inr none) G 0 [(0, dj_v E x0)] [] := by
  unfold gG_X6_step_L0_F at hf
  refine g_aload_n dX6_step_0 rfl (j := 0) rfl ?_
  refine g_aload_n dX6_step_1 rfl (j := 0) rfl ?_
  obtain ⟨v1, h1, hf⟩ := dh_bd hf
  refine g_getI fR_X6_31 (by decide) h1 dX6_step_2 ?_
  obtain ⟨u2, h2, hf⟩ := dh_bd hf
  obtain ⟨p3, h3, hf⟩ := dh_bd hf
  refine g_callV (rc_O (ci := 6) rfl h2) (cG_X6_at _ E Mo G x0 v1 h3) q608 qG_X6_at (Nat.le_of_ble_eq_true rfl) (Nat.le_of_ble_eq_true rfl) rfl (dj_cat8 (Nat.le_of_ble_eq_true rfl)) dX6_step_5 ?_
  refine dg_l (fun _ _ _ _ _ _ _ hC => r_bipush hC dX6_step_8 kb_10) ?_
  refine dg_b (fun _ _ _ _ _ _ _ hC => r_icmp_eq hC dX6_step_10 (tgt := 26) (by decide)) (fun c4 => ?_) (fun c4 => ?_)
  · have hf := dh_if hf c4
    refine g_aload_n dX6_step_26 rfl (j := 0) rfl ?_
    refine g_dup dX6_step_27 ?_
    obtain ⟨v5, h5, hf⟩ := dh_bd hf
    refine g_getI fR_X6_31 (by decide) h5 dX6_step_28 ?_
    refine dg_l (fun _ _ _ _ _ _ _ hC => r_iconst hC dX6_step_31 ki_1) ?_
    refine dg_l (fun _ _ _ _ _ _ _ hC => r_iadd hC dX6_step_32) ?_
    obtain ⟨G6, h6, hf⟩ := dh_bd hf
    refine g_putI fF_X6_31 (fun q => by cases q) (by decide) h6 dX6_step_33 ?_
    refine dg_l (fun _ _ _ _ _ _ _ hC => r_goto hC dX6_step_36 (tgt := 0) (by decide)) ?_
    exact g_sub [0] rfl (hk0 G6 x0 hf)
  · have hf := dh_el hf c4
    refine g_aload_n dX6_step_13 rfl (j := 0) rfl ?_
    refine g_aload_n dX6_step_14 rfl (j := 0) rfl ?_
    obtain ⟨v7, h7, hf⟩ := dh_bd hf
    refine g_getI fR_X6_31 (by decide) h7 dX6_step_15 ?_
    obtain ⟨u8, h8, hf⟩ := dh_bd hf
    obtain ⟨p9, h9, hf⟩ := dh_bd hf
    refine g_callV (rc_O (ci := 6) rfl h8) (cG_X6_at _ E Mo G x0 v7 h9) q608 qG_X6_at (Nat.le_of_ble_eq_true rfl) (Nat.le_of_ble_eq_true rfl) rfl (dj_cat8 (Nat.le_of_ble_eq_true rfl)) dX6_step_18 ?_
    refine dg_l (fun _ _ _ _ _ _ _ hC => r_bipush hC dX6_step_21 kb_32) ?_
    refine dg_bn (fun _ _ _ _ _ _ _ hC => r_icmp_ne hC dX6_step_23 (tgt := 39) (by decide)) (fun c10 => ?_) (fun c10 => ?_)
    · have hf := dh_el hf c10
      refine g_aload_n dX6_step_39 rfl (j := 0) rfl ?_
      refine g_aload_n dX6_step_40 rfl (j := 0) rfl ?_
      obtain ⟨v11, h11, hf⟩ := dh_bd hf
      refine g_getI fR_X6_31 (by decide) h11 dX6_step_41 ?_
      obtain ⟨G12, h12, hf⟩ := dh_bd hf
      refine g_putI fF_X6_38 (fun q => by cases q) (by decide) h12 dX6_step_44 ?_
      refine g_aload_n dX6_step_47 rfl (j := 0) rfl ?_
      refine g_aload_n dX6_step_48 rfl (j := 0) rfl ?_
      obtain ⟨v13, h13, hf⟩ := dh_bd hf
      refine g_getI fR_X6_31 (by decide) h13 dX6_step_49 ?_
      obtain ⟨u14, h14, hf⟩ := dh_bd hf
      obtain ⟨p15, h15, hf⟩ := dh_bd hf
      refine g_callV (rc_O (ci := 6) rfl h14) (cG_X6_at _ E Mo G12 x0 v13 h15) q608 qG_X6_at (Nat.le_of_ble_eq_true rfl) (Nat.le_of_ble_eq_true rfl) rfl (dj_cat8 (Nat.le_of_ble_eq_true rfl)) dX6_step_52 ?_
      refine dg_l (fun _ _ _ _ _ _ _ hC => r_istore_n (lv' := [(1, .int p15), (0, dj_v E x0)]) hC dX6_step_55 rfl (Nat.le_of_ble_eq_true rfl) (by simp only [List.filter, dj_cat] <;> rfl)) ?_
      refine dg_l (fun _ _ _ _ _ _ _ hC => r_iload_n hC dX6_step_56 rfl (j := 0) rfl) ?_
      refine dg_l (fun _ _ _ _ _ _ _ hC => r_iconst hC dX6_step_57 ki_m1) ?_
      refine dg_bn (fun _ _ _ _ _ _ _ hC => r_icmp_ne hC dX6_step_58 (tgt := 71) (by decide)) (fun c16 => ?_) (fun c16 => ?_)
      · have hf := dh_el hf c16
        refine dg_l (fun _ _ _ _ _ _ _ hC => r_iload_n hC dX6_step_71 rfl (j := 0) rfl) ?_
        obtain ⟨p17, h17, hf⟩ := dh_bd hf
        refine g_callS (cG_X6_isLetter _ E Mo G12 p15 h17) q614 qG_X6_isLetter (Nat.le_of_ble_eq_true rfl) (Nat.le_of_ble_eq_true rfl) rfl (dj_cat8 (Nat.le_of_ble_eq_true rfl)) dX6_step_72 ?_
        refine dg_b (fun _ _ _ _ _ _ _ hC => r_if_eq hC dX6_step_75 (tgt := 156) (by decide)) (fun c18 => ?_) (fun c18 => ?_)
        · have hf := dh_el hf (fun q => q c18)
          refine dg_l (fun _ _ _ _ _ _ _ hC => r_iload_n hC dX6_step_156 rfl (j := 0) rfl) ?_
          obtain ⟨p19, h19, hf⟩ := dh_bd hf
          refine g_callS (cG_X6_isDigit _ E Mo G12 p15 h19) q789 qG_X6_isDigit (Nat.le_of_ble_eq_true rfl) (Nat.le_of_ble_eq_true rfl) rfl (dj_cat8 (Nat.le_of_ble_eq_true rfl)) dX6_step_157 ?_
          refine dg_b (fun _ _ _ _ _ _ _ hC => r_if_eq hC dX6_step_160 (tgt := 260) (by decide)) (fun c20 => ?_) (fun c20 => ?_)
          · have hf := dh_el hf (fun q => q c20)
            refine g_aload_n dX6_step_260 rfl (j := 1) rfl ?_
            refine g_dup dX6_step_261 ?_
            obtain ⟨v21, h21, hf⟩ := dh_bd hf
            refine g_getI fR_X6_31 (by decide) h21 dX6_step_262 ?_
            refine dg_l (fun _ _ _ _ _ _ _ hC => r_iconst hC dX6_step_265 ki_1) ?_
            refine dg_l (fun _ _ _ _ _ _ _ hC => r_iadd hC dX6_step_266) ?_
            obtain ⟨G22, h22, hf⟩ := dh_bd hf
            refine g_putI fF_X6_31 (fun q => by cases q) (by decide) h22 dX6_step_267 ?_
            refine g_aload_n dX6_step_270 rfl (j := 1) rfl ?_
            refine g_ldcS (i := 57) (tx := ":;<>=") rfl (by decide) (by decide) (by decide) dX6_step_271 ?_
            refine dg_l (fun _ _ _ _ _ _ _ hC => r_iload_n hC dX6_step_273 rfl (j := 0) rfl) ?_
            obtain ⟨u23, h23, hf⟩ := dh_bd hf
            obtain ⟨p24, h24, hf⟩ := dh_bd hf
            refine g_callV (rc_S h23) (cG_J11_indexOf _ E Mo G22 57 p15 h24) q797 qG_J11_indexOf (Nat.le_of_ble_eq_true rfl) (Nat.le_of_ble_eq_true rfl) rfl (dj_cat8 (Nat.le_of_ble_eq_true rfl)) dX6_step_274 ?_
            refine dg_b (fun _ _ _ _ _ _ _ hC => r_if_lt hC dX6_step_277 (tgt := 286) (by decide)) (fun c25 => ?_) (fun c25 => ?_)
            · have hf := dh_if hf c25
              refine g_gets (j := 30) (by decide) (by decide) (fun _ h => ((dk_K h).1 4 (by decide)).1) q792 dX6_step_286 ?_
              obtain ⟨G26, h26, hf⟩ := dh_bd hf
              refine g_putR fF_X6_47 (Or.inl ⟨_, rfl⟩) (fun q => by cases q) (by decide) h26 dX6_step_289 ?_
              exact g_vret dX6_step_292 rfl hf
            · have hf := dh_el hf c25
              refine g_gets (j := 28) (by decide) (by decide) (fun _ h => ((dk_K h).1 2 (by decide)).1) q863 dX6_step_280 ?_
              refine dg_l (fun _ _ _ _ _ _ _ hC => r_goto hC dX6_step_283 (tgt := 289) (by decide)) ?_
              obtain ⟨G27, h27, hf⟩ := dh_bd hf
              refine g_putR fF_X6_47 (Or.inl ⟨_, rfl⟩) (fun q => by cases q) (by decide) h27 dX6_step_289 ?_
              exact g_vret dX6_step_292 rfl hf
          · have hf := dh_if hf c20
            refine g_aload_n dX6_step_163 rfl (j := 1) rfl ?_
            refine dg_l (fun _ _ _ _ _ _ _ hC => r_iconst hC dX6_step_164 ki_0) ?_
            obtain ⟨G28, h28, hf⟩ := dh_bd hf
            refine g_putI fF_X6_79 (fun q => by cases q) (by decide) h28 dX6_step_165 ?_
            exact g_sub [1] rfl (wG_X6_step_L168 dh_fu G28 x0 hf)
        · have hf := dh_if hf c18
          refine g_new nI_X6_54 dX6_step_78 ?_
          refine g_dup dX6_step_81 ?_
          refine dg_l (fun _ _ _ _ _ _ _ hC => r_bipush hC dX6_step_82 kb_9) ?_
          obtain ⟨u52, h52, hf⟩ := dh_bd hf
          obtain ⟨p53, h53, hf⟩ := dh_bd hf
          refine g_callI h52 (cG_J10_init _ E Mo (dg_nw G12 11) (dg_n G12) 9 h53) q619 qG_J10_init (Nat.le_of_ble_eq_true rfl) (Nat.le_of_ble_eq_true rfl) rfl (dj_cat8 (Nat.le_of_ble_eq_true rfl)) dX6_step_84 ?_
          refine g_astore_n (i := 2) (lv1 := [(2, dj_v E (dg_n G12)), (1, .int p15), (0, dj_v E x0)]) dX6_step_87 rfl (Nat.le_of_ble_eq_true rfl) rfl ?_
          exact g_sub [2, 0] rfl (wG_X6_step_L88 dh_fu p53 x0 (dg_n G12) hf)
      · have hf := dh_if hf c16
        refine g_aload_n dX6_step_61 rfl (j := 1) rfl ?_
        refine g_gets (j := 29) (by decide) (by decide) (fun _ h => ((dk_K h).1 3 (by decide)).1) q612 dX6_step_62 ?_
        obtain ⟨G75, h75, hf⟩ := dh_bd hf
        refine g_putR fF_X6_47 (Or.inl ⟨_, rfl⟩) (fun q => by cases q) (by decide) h75 dX6_step_65 ?_
        refine dg_l (fun _ _ _ _ _ _ _ hC => r_goto hC dX6_step_68 (tgt := 292) (by decide)) ?_
        exact g_vret dX6_step_292 rfl hf
    · have hf := dh_if hf c10
      refine g_aload_n dX6_step_26 rfl (j := 0) rfl ?_
      refine g_dup dX6_step_27 ?_
      obtain ⟨v76, h76, hf⟩ := dh_bd hf
      refine g_getI fR_X6_31 (by decide) h76 dX6_step_28 ?_
      refine dg_l (fun _ _ _ _ _ _ _ hC => r_iconst hC dX6_step_31 ki_1) ?_
      refine dg_l (fun _ _ _ _ _ _ _ hC => r_iadd hC dX6_step_32) ?_
      obtain ⟨G77, h77, hf⟩ := dh_bd hf
      refine g_putI fF_X6_31 (fun q => by cases q) (by decide) h77 dX6_step_33 ?_
      refine dg_l (fun _ _ _ _ _ _ _ hC => r_goto hC dX6_step_36 (tgt := 0) (by decide)) ?_
      exact g_sub [0] rfl (hk0 G77 x0 hf)
def gG_X6_step_L0 : Nat → dg_G → Nat → Option dg_G
  | 0 => fun _ _ => none
  | n + 1 => gG_X6_step_L0_F (gG_X6_step_L0 n)
theorem wG_X6_step_L0 {l : Launch} {E : dj_E} {Mo : Option dm_M} {G' : dg_G} : ∀ (n : Nat) (G : dg_G) (x0 : Nat) (_ : gG_X6_step_L0 n G x0 = some G'), dgW tG_X6_step l E Mo G' (.inr none) G 0 [(0, dj_v E x0)] [] := by
  intro n
  induction n with
  | zero => intro G x0 hf; exact dh_no hf
  | succ n ih => intro G x0 hf; exact wG_X6_step_L0_F (gG_X6_step_L0 n) ih G x0 hf
def gG_X6_step (G : dg_G) (x0 : Nat) : Option dg_G :=
  gG_X6_step_L0 dh_fu G x0
theorem wG_X6_step {l : Launch} {E : dj_E} {Mo : Option dm_M} {G' : dg_G} (G : dg_G) (x0 : Nat) (hf : gG_X6_step G x0 = some G') : dgW tG_X6_step l E Mo G' (.inr none) G 0 [(0, dj_v E x0)] [] := by
  unfold gG_X6_step at hf
  exact g_sub [0] rfl (wG_X6_step_L0 dh_fu G x0 hf)
theorem cG_X6_step (l : Launch) (E : dj_E) (Mo : Option dm_M) (G : dg_G) (x0 : Nat) {G' : dg_G} (h : gG_X6_step G x0 = some G') : dg_Met l yX6_step cX6_step 3 none 6 137 E Mo [dj_v E x0] G none G' :=
  dg_met (plainFor_of_name (by decide)) (by simp only [lg_sl_ref, lg_sl_int, lg_sl_long, lg_sl_nil]; decide) (by simp only [lv_args_ref, lv_args_int, lv_args_long, lv_args_nil]) (wG_X6_step G x0 h)
theorem qG_X6_step : dg_cV "DebtorsHouse$Reader" yX6_step cX6_step 3 none 0 := ⟨q606, Or.inl qs12, q98, q607, by decide, by decide, by decide +kernel⟩
/-! DebtorsHouse$Reader.<init>([BI)V -/
abbrev tG_X6_init : dg_T := (cX6_init, 3, RX6, none, 7, 159, "<init>", [])
def gG_X6_init (G : dg_G) (x0 : Nat) (x1 : Nat) (x2 : Int32) : Option dg_G :=
  (dg_pos x0).bind fun u1 =>
  (dg_pos (dg_n G)).bind fun u3 =>
  (gG_J2_init (dg_nw G 10) (dg_n G) 20).bind fun p4 =>
  (dg_pR p4 6 8 x0 (dg_n G)).bind fun G5 =>
  (dg_pR G5 6 0 x0 x1).bind fun G6 =>
  (dg_pI G6 6 1 x0 x2).bind fun G7 =>
  (dg_is G7 6 x0).bind fun u8 =>
  (gG_X6_step G7 x0).bind fun p9 =>
  some p9
theorem wG_X6_init {l : Launch} {E : dj_E} {Mo : Option dm_M} {G' : dg_G} (G : dg_G) (x0 : Nat) (x1 : Nat) (x2 : Int32) (hf : gG_X6_init G x0 x1 x2 = some G') : dgW tG_X6_init l E Mo G' (.inr none) G 0 [(0, dj_v E x0), (1, dj_v E x1), (2, .int x2)] [] := by
  unfold gG_X6_init at hf
  refine g_aload_n dX6_init_0 rfl (j := 0) rfl ?_
  obtain ⟨u1, h1, hf⟩ := dh_bd hf
  refine g_obj h1 q601 (Nat.le_of_ble_eq_true rfl) (Nat.le_of_ble_eq_true rfl) dX6_init_1 ?_
  refine g_aload_n dX6_init_4 rfl (j := 0) rfl ?_
  refine g_new nI_X6_9 dX6_init_5 ?_
  refine g_dup dX6_init_8 ?_
  refine dg_l (fun _ _ _ _ _ _ _ hC => r_bipush hC dX6_init_9 kb_20) ?_
  obtain ⟨u3, h3, hf⟩ := dh_bd hf
  obtain ⟨p4, h4, hf⟩ := dh_bd hf
  refine g_callI h3 (cG_J2_init _ E Mo (dg_nw G 10) (dg_n G) 20 h4) q603 qG_J2_init (Nat.le_of_ble_eq_true rfl) (Nat.le_of_ble_eq_true rfl) rfl (dj_cat8 (Nat.le_of_ble_eq_true rfl)) dX6_init_11 ?_
  obtain ⟨G5, h5, hf⟩ := dh_bd hf
  refine g_putR fF_X6_14 (Or.inl ⟨_, rfl⟩) (fun _ => rfl) (by decide) h5 dX6_init_14 ?_
  refine g_aload_n dX6_init_17 rfl (j := 0) rfl ?_
  refine g_aload_n dX6_init_18 rfl (j := 1) rfl ?_
  obtain ⟨G6, h6, hf⟩ := dh_bd hf
  refine g_putR fF_X6_20 (Or.inr ⟨_, rfl⟩) (fun _ => rfl) (by decide) h6 dX6_init_19 ?_
  refine g_aload_n dX6_init_22 rfl (j := 0) rfl ?_
  refine dg_l (fun _ _ _ _ _ _ _ hC => r_iload_n hC dX6_init_23 rfl (j := 2) rfl) ?_
  obtain ⟨G7, h7, hf⟩ := dh_bd hf
  refine g_putI fF_X6_24 (fun _ => rfl) (by decide) h7 dX6_init_24 ?_
  refine g_aload_n dX6_init_27 rfl (j := 0) rfl ?_
  obtain ⟨u8, h8, hf⟩ := dh_bd hf
  obtain ⟨p9, h9, hf⟩ := dh_bd hf
  refine g_callV (rc_O (ci := 6) rfl h8) (cG_X6_step _ E Mo G7 x0 h9) q604 qG_X6_step (Nat.le_of_ble_eq_true rfl) (Nat.le_of_ble_eq_true rfl) rfl (dj_cat8 (Nat.le_of_ble_eq_true rfl)) dX6_init_28 ?_
  exact g_vret dX6_init_31 rfl hf
theorem cG_X6_init (l : Launch) (E : dj_E) (Mo : Option dm_M) (G : dg_G) (x0 : Nat) (x1 : Nat) (x2 : Int32) {G' : dg_G} (h : gG_X6_init G x0 x1 x2 = some G') : dg_Met l yX6_init cX6_init 3 none 7 159 E Mo [dj_v E x0, dj_v E x1, .int x2] G none G' :=
  dg_met (plainFor_of_name (by decide)) (by simp only [lg_sl_ref, lg_sl_int, lg_sl_long, lg_sl_nil]; decide) (by simp only [lv_args_ref, lv_args_int, lv_args_long, lv_args_nil]) (wG_X6_init G x0 x1 x2 h)
theorem qG_X6_init : dg_cI yX6_init cX6_init 3 2 := ⟨q599, q98, q600, rfl, by decide, by decide, by decide +kernel⟩
