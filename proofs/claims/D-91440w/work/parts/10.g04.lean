set_option maxRecDepth 100000
/-! DebtorsHouse$State.<init>()V -/
abbrev tG_X1_init : dg_T := (cX1_init, 2, RX1, none, 4, 81, "<init>", [])
def gG_X1_init_L78_F (k78 : (dg_G → Nat → Int32 → Option dg_G)) (G : dg_G) (x0 : Nat) (x1 : Int32) : Option dg_G :=
  if 12 ≤ x1 then (
    some G)
  else
  (dg_gR G 2 11 x0).bind fun v21 =>
  (dg_ldR G 56 v21 x1).bind fun v22 =>
  (gG_J3_fill G v22 1000).bind fun p23 =>
  k78 p23 x0 (x1 + 1)
theorem wG_X1_init_L78_F {l : Launch} {E : dj_E} {Mo : Option dm_M} {G' : dg_G} (k78 : (dg_G → Nat → Int32 → Option dg_G)) (hk78 : ∀ (G : dg_G) (x0 : Nat) (x1 : Int32), k78 G x0 x1 = some G' → dgW tG_X1_init l E Mo G' (.inr none) G 78 [(0, dj_v E x0), (1, .int x1)] []) (G : dg_G) (x0 : Nat) (x1 : Int32) (hf : gG_X1_init_L78_F k78 G x0 x1 = some G') : dgW tG_X1_init l E Mo G' (.inr none) G 78 [(0, dj_v E x0), (1, .int x1)] [] := by
  unfold gG_X1_init_L78_F at hf
  refine dg_l (fun _ _ _ _ _ _ _ hC => r_iload_n hC dX1_init_78 rfl (j := 1) rfl) ?_
  refine dg_l (fun _ _ _ _ _ _ _ hC => r_bipush hC dX1_init_79 kb_12) ?_
  refine dg_b (fun _ _ _ _ _ _ _ hC => r_icmp_ge hC dX1_init_81 (tgt := 102) (by decide)) (fun c20 => ?_) (fun c20 => ?_)
  · have hf := dh_if hf c20
    exact g_vret dX1_init_102 rfl hf
  · have hf := dh_el hf c20
    refine g_aload_n dX1_init_84 rfl (j := 0) rfl ?_
    obtain ⟨v21, h21, hf⟩ := dh_bd hf
    refine g_getR fR_X1_36 (by decide) h21 dX1_init_85 ?_
    refine dg_l (fun _ _ _ _ _ _ _ hC => r_iload_n hC dX1_init_88 rfl (j := 1) rfl) ?_
    obtain ⟨v22, h22, hf⟩ := dh_bd hf
    refine g_aald 6 (by decide) (by decide) rfl rfl h22 dX1_init_89 ?_
    refine dg_l (fun _ _ _ _ _ _ _ hC => r_sipush hC dX1_init_90 ks_1000) ?_
    obtain ⟨p23, h23, hf⟩ := dh_bd hf
    refine g_callS (cG_J3_fill _ E Mo G v22 1000 h23) q159 qG_J3_fill (Nat.le_of_ble_eq_true rfl) (Nat.le_of_ble_eq_true rfl) rfl (dj_cat8 (Nat.le_of_ble_eq_true rfl)) dX1_init_93 ?_
    refine dg_l (fun _ _ _ _ _ _ _ hC => r_iinc (lv' := [(1, .int (x1 + 1)), (0, dj_v E x0)]) hC dX1_init_96 (j := 1) rfl (congrArg _ ki_1) (Nat.le_of_ble_eq_true rfl) (by simp only [List.filter, dj_cat] <;> rfl)) ?_
    refine dg_l (fun _ _ _ _ _ _ _ hC => r_goto hC dX1_init_99 (tgt := 78) (by decide)) ?_
    exact g_sub [1, 0] rfl (hk78 p23 x0 (x1 + 1) hf)
def gG_X1_init_L78 : Nat → dg_G → Nat → Int32 → Option dg_G
  | 0 => fun _ _ _ => none
  | n + 1 => gG_X1_init_L78_F (gG_X1_init_L78 n)
theorem wG_X1_init_L78 {l : Launch} {E : dj_E} {Mo : Option dm_M} {G' : dg_G} : ∀ (n : Nat) (G : dg_G) (x0 : Nat) (x1 : Int32) (_ : gG_X1_init_L78 n G x0 x1 = some G'), dgW tG_X1_init l E Mo G' (.inr none) G 78 [(0, dj_v E x0), (1, .int x1)] [] := by
  intro n
  induction n with
  | zero => intro G x0 x1 hf; exact dh_no hf
  | succ n ih => intro G x0 x1 hf; exact wG_X1_init_L78_F (gG_X1_init_L78 n) ih G x0 x1 hf
def gG_X1_init (G : dg_G) (x0 : Nat) : Option dg_G :=
  (dg_pos x0).bind fun u1 =>
  (dg_new G 51 600).bind fun G2 =>
  (dg_pR G2 2 0 x0 (dg_n G)).bind fun G3 =>
  (dg_pI G3 2 3 x0 (-1)).bind fun G4 =>
  (dg_pos (dg_n G4)).bind fun u6 =>
  (gG_J2_init (dg_nw G4 10) (dg_n G4) 12).bind fun p7 =>
  (dg_pR p7 2 8 x0 (dg_n G4)).bind fun G8 =>
  (dg_pos (dg_n G8)).bind fun u10 =>
  (gG_J2_init (dg_nw G8 10) (dg_n G8) 40).bind fun p11 =>
  (dg_pR p11 2 9 x0 (dg_n G8)).bind fun G12 =>
  (dg_pos (dg_n G12)).bind fun u14 =>
  (gG_J2_init (dg_nw G12 10) (dg_n G12) 4).bind fun p15 =>
  (dg_pR p15 2 10 x0 (dg_n G12)).bind fun G16 =>
  (dg_pR (dg_grid G16) 2 11 x0 (dg_n G16)).bind fun G17 =>
  (dg_new G17 50 12).bind fun G18 =>
  (dg_pR G18 2 12 x0 (dg_n G17)).bind fun G19 =>
  gG_X1_init_L78 dh_fu G19 x0 0
theorem wG_X1_init {l : Launch} {E : dj_E} {Mo : Option dm_M} {G' : dg_G} (G : dg_G) (x0 : Nat) (hf : gG_X1_init G x0 = some G') : dgW tG_X1_init l E Mo G' (.inr none) G 0 [(0, dj_v E x0)] [] := by
  unfold gG_X1_init at hf
  refine g_aload_n dX1_init_0 rfl (j := 0) rfl ?_
  obtain ⟨u1, h1, hf⟩ := dh_bd hf
  refine g_obj h1 q127 (Nat.le_of_ble_eq_true rfl) (Nat.le_of_ble_eq_true rfl) dX1_init_1 ?_
  refine g_aload_n dX1_init_4 rfl (j := 0) rfl ?_
  refine dg_l (fun _ _ _ _ _ _ _ hC => r_sipush hC dX1_init_5 ks_600) ?_
  obtain ⟨G2, h2, hf⟩ := dh_bd hf
  refine g_newa 1 (atype := .byte) (ty := .byte) (by decide) rfl rfl (fun _ _ h => h) rfl (by decide) q156 h2 dX1_init_8 ?_
  obtain ⟨G3, h3, hf⟩ := dh_bd hf
  refine g_putR fF_X1_9 (Or.inr ⟨_, rfl⟩) (fun _ => rfl) (by decide) h3 dX1_init_10 ?_
  refine g_aload_n dX1_init_13 rfl (j := 0) rfl ?_
  refine dg_l (fun _ _ _ _ _ _ _ hC => r_iconst hC dX1_init_14 ki_m1) ?_
  obtain ⟨G4, h4, hf⟩ := dh_bd hf
  refine g_putI fF_X1_15 (fun q => by cases q) (by decide) h4 dX1_init_15 ?_
  refine g_aload_n dX1_init_18 rfl (j := 0) rfl ?_
  refine g_new nI_X1_19 dX1_init_19 ?_
  refine g_dup dX1_init_22 ?_
  refine dg_l (fun _ _ _ _ _ _ _ hC => r_bipush hC dX1_init_23 kb_12) ?_
  obtain ⟨u6, h6, hf⟩ := dh_bd hf
  obtain ⟨p7, h7, hf⟩ := dh_bd hf
  refine g_callI h6 (cG_J2_init _ E Mo (dg_nw G4 10) (dg_n G4) 12 h7) q130 qG_J2_init (Nat.le_of_ble_eq_true rfl) (Nat.le_of_ble_eq_true rfl) rfl (dj_cat8 (Nat.le_of_ble_eq_true rfl)) dX1_init_25 ?_
  obtain ⟨G8, h8, hf⟩ := dh_bd hf
  refine g_putR fF_X1_24 (Or.inl ⟨_, rfl⟩) (fun _ => rfl) (by decide) h8 dX1_init_28 ?_
  refine g_aload_n dX1_init_31 rfl (j := 0) rfl ?_
  refine g_new nI_X1_19 dX1_init_32 ?_
  refine g_dup dX1_init_35 ?_
  refine dg_l (fun _ _ _ _ _ _ _ hC => r_bipush hC dX1_init_36 kb_40) ?_
  obtain ⟨u10, h10, hf⟩ := dh_bd hf
  obtain ⟨p11, h11, hf⟩ := dh_bd hf
  refine g_callI h10 (cG_J2_init _ E Mo (dg_nw G8 10) (dg_n G8) 40 h11) q130 qG_J2_init (Nat.le_of_ble_eq_true rfl) (Nat.le_of_ble_eq_true rfl) rfl (dj_cat8 (Nat.le_of_ble_eq_true rfl)) dX1_init_38 ?_
  obtain ⟨G12, h12, hf⟩ := dh_bd hf
  refine g_putR fF_X1_28 (Or.inl ⟨_, rfl⟩) (fun _ => rfl) (by decide) h12 dX1_init_41 ?_
  refine g_aload_n dX1_init_44 rfl (j := 0) rfl ?_
  refine g_new nI_X1_19 dX1_init_45 ?_
  refine g_dup dX1_init_48 ?_
  refine dg_l (fun _ _ _ _ _ _ _ hC => r_iconst hC dX1_init_49 ki_4) ?_
  obtain ⟨u14, h14, hf⟩ := dh_bd hf
  obtain ⟨p15, h15, hf⟩ := dh_bd hf
  refine g_callI h14 (cG_J2_init _ E Mo (dg_nw G12 10) (dg_n G12) 4 h15) q130 qG_J2_init (Nat.le_of_ble_eq_true rfl) (Nat.le_of_ble_eq_true rfl) rfl (dj_cat8 (Nat.le_of_ble_eq_true rfl)) dX1_init_50 ?_
  obtain ⟨G16, h16, hf⟩ := dh_bd hf
  refine g_putR fF_X1_31 (Or.inl ⟨_, rfl⟩) (fun _ => rfl) (by decide) h16 dX1_init_53 ?_
  refine g_aload_n dX1_init_56 rfl (j := 0) rfl ?_
  refine dg_l (fun _ _ _ _ _ _ _ hC => r_bipush hC dX1_init_57 kb_12) ?_
  refine dg_l (fun _ _ _ _ _ _ _ hC => r_bipush hC dX1_init_59 kb_12) ?_
  refine g_grid q157 dX1_init_61 ?_
  obtain ⟨G17, h17, hf⟩ := dh_bd hf
  refine g_putR fF_X1_36 (Or.inr ⟨_, rfl⟩) (fun _ => rfl) (by decide) h17 dX1_init_65 ?_
  refine g_aload_n dX1_init_68 rfl (j := 0) rfl ?_
  refine dg_l (fun _ _ _ _ _ _ _ hC => r_bipush hC dX1_init_69 kb_12) ?_
  obtain ⟨G18, h18, hf⟩ := dh_bd hf
  refine g_newa 0 (atype := .int) (ty := .int) (by decide) rfl rfl (fun _ _ h => h) rfl (by decide) q215 h18 dX1_init_71 ?_
  obtain ⟨G19, h19, hf⟩ := dh_bd hf
  refine g_putR fF_X1_39 (Or.inr ⟨_, rfl⟩) (fun _ => rfl) (by decide) h19 dX1_init_73 ?_
  refine dg_l (fun _ _ _ _ _ _ _ hC => r_iconst hC dX1_init_76 ki_0) ?_
  refine dg_l (fun _ _ _ _ _ _ _ hC => r_istore_n (lv' := [(1, .int 0), (0, dj_v E x0)]) hC dX1_init_77 rfl (Nat.le_of_ble_eq_true rfl) (by simp only [List.filter, dj_cat] <;> rfl)) ?_
  exact g_sub [1, 0] rfl (wG_X1_init_L78 dh_fu G19 x0 0 hf)
theorem cG_X1_init (l : Launch) (E : dj_E) (Mo : Option dm_M) (G : dg_G) (x0 : Nat) {G' : dg_G} (h : gG_X1_init G x0 = some G') : dg_Met l yX1_init cX1_init 2 none 4 81 E Mo [dj_v E x0] G none G' :=
  dg_met (plainFor_of_name (by decide)) (by simp only [lg_sl_ref, lg_sl_int, lg_sl_long, lg_sl_nil]; decide) (by simp only [lv_args_ref, lv_args_int, lv_args_long, lv_args_nil]) (wG_X1_init G x0 h)
theorem qG_X1_init : dg_cI yX1_init cX1_init 2 0 := ⟨q125, q82, q126, rfl, by decide, by decide, by decide +kernel⟩
/-! DebtorsHouse$State.be(LDebtorsHouse$State;)V -/
abbrev tG_X1_be : dg_T := (cX1_be, 3, RX1, none, 7, 157, "be", [])
def gG_X1_be_L189_F (k189 : (dg_G → Nat → Nat → Int32 → Option dg_G)) (G : dg_G) (x0 : Nat) (x1 : Nat) (x2 : Int32) : Option dg_G :=
  if 12 ≤ x2 then (
    (dg_gR G 2 12 x1).bind fun v40 =>
    (dg_gR G 2 12 x0).bind fun v41 =>
    (dg_cpI G 50 v40 0 v41 0 12).bind fun G42 =>
    some G42)
  else
  (dg_gR G 2 11 x1).bind fun v43 =>
  (dg_ldR G 56 v43 x2).bind fun v44 =>
  (dg_gR G 2 11 x0).bind fun v45 =>
  (dg_ldR G 56 v45 x2).bind fun v46 =>
  (dg_cpI G 50 v44 0 v46 0 12).bind fun G47 =>
  k189 G47 x0 x1 (x2 + 1)
theorem wG_X1_be_L189_F {l : Launch} {E : dj_E} {Mo : Option dm_M} {G' : dg_G} (k189 : (dg_G → Nat → Nat → Int32 → Option dg_G)) (hk189 : ∀ (G : dg_G) (x0 : Nat) (x1 : Nat) (x2 : Int32), k189 G x0 x1 x2 = some G' → dgW tG_X1_be l E Mo G' (.inr none) G 189 [(0, dj_v E x0), (1, dj_v E x1), (2, .int x2)] []) (G : dg_G) (x0 : Nat) (x1 : Nat) (x2 : Int32) (hf : gG_X1_be_L189_F k189 G x0 x1 x2 = some G') : dgW tG_X1_be l E Mo G' (.inr none) G 189 [(0, dj_v E x0), (1, dj_v E x1), (2, .int x2)] [] := by
  unfold gG_X1_be_L189_F at hf
  refine dg_l (fun _ _ _ _ _ _ _ hC => r_iload_n hC dX1_be_189 rfl (j := 2) rfl) ?_
  refine dg_l (fun _ _ _ _ _ _ _ hC => r_bipush hC dX1_be_190 kb_12) ?_
  refine dg_b (fun _ _ _ _ _ _ _ hC => r_icmp_ge hC dX1_be_192 (tgt := 220) (by decide)) (fun c39 => ?_) (fun c39 => ?_)
  · have hf := dh_if hf c39
    refine g_aload_n dX1_be_220 rfl (j := 1) rfl ?_
    obtain ⟨v40, h40, hf⟩ := dh_bd hf
    refine g_getR fR_X1_39 (by decide) h40 dX1_be_221 ?_
    refine dg_l (fun _ _ _ _ _ _ _ hC => r_iconst hC dX1_be_224 ki_0) ?_
    refine g_aload_n dX1_be_225 rfl (j := 0) rfl ?_
    obtain ⟨v41, h41, hf⟩ := dh_bd hf
    refine g_getR fR_X1_39 (by decide) h41 dX1_be_226 ?_
    refine dg_l (fun _ _ _ _ _ _ _ hC => r_iconst hC dX1_be_229 ki_0) ?_
    refine dg_l (fun _ _ _ _ _ _ _ hC => r_bipush hC dX1_be_230 kb_12) ?_
    obtain ⟨G42, h42, hf⟩ := dh_bd hf
    refine g_copyI 0 (by decide) rfl rfl (fun _ _ => rfl) q1346 h42 (Nat.le_of_ble_eq_true rfl) (Nat.le_of_ble_eq_true rfl) dX1_be_232 ?_
    exact g_vret dX1_be_235 rfl hf
  · have hf := dh_el hf c39
    refine g_aload_n dX1_be_195 rfl (j := 1) rfl ?_
    obtain ⟨v43, h43, hf⟩ := dh_bd hf
    refine g_getR fR_X1_36 (by decide) h43 dX1_be_196 ?_
    refine dg_l (fun _ _ _ _ _ _ _ hC => r_iload_n hC dX1_be_199 rfl (j := 2) rfl) ?_
    obtain ⟨v44, h44, hf⟩ := dh_bd hf
    refine g_aald 6 (by decide) (by decide) rfl rfl h44 dX1_be_200 ?_
    refine dg_l (fun _ _ _ _ _ _ _ hC => r_iconst hC dX1_be_201 ki_0) ?_
    refine g_aload_n dX1_be_202 rfl (j := 0) rfl ?_
    obtain ⟨v45, h45, hf⟩ := dh_bd hf
    refine g_getR fR_X1_36 (by decide) h45 dX1_be_203 ?_
    refine dg_l (fun _ _ _ _ _ _ _ hC => r_iload_n hC dX1_be_206 rfl (j := 2) rfl) ?_
    obtain ⟨v46, h46, hf⟩ := dh_bd hf
    refine g_aald 6 (by decide) (by decide) rfl rfl h46 dX1_be_207 ?_
    refine dg_l (fun _ _ _ _ _ _ _ hC => r_iconst hC dX1_be_208 ki_0) ?_
    refine dg_l (fun _ _ _ _ _ _ _ hC => r_bipush hC dX1_be_209 kb_12) ?_
    obtain ⟨G47, h47, hf⟩ := dh_bd hf
    refine g_copyI 0 (by decide) rfl rfl (fun _ _ => rfl) q1346 h47 (Nat.le_of_ble_eq_true rfl) (Nat.le_of_ble_eq_true rfl) dX1_be_211 ?_
    refine dg_l (fun _ _ _ _ _ _ _ hC => r_iinc (lv' := [(2, .int (x2 + 1)), (0, dj_v E x0), (1, dj_v E x1)]) hC dX1_be_214 (j := 2) rfl (congrArg _ ki_1) (Nat.le_of_ble_eq_true rfl) (by simp only [List.filter, dj_cat] <;> rfl)) ?_
    refine dg_l (fun _ _ _ _ _ _ _ hC => r_goto hC dX1_be_217 (tgt := 189) (by decide)) ?_
    exact g_sub [1, 2, 0] rfl (hk189 G47 x0 x1 (x2 + 1) hf)
def gG_X1_be_L189 : Nat → dg_G → Nat → Nat → Int32 → Option dg_G
  | 0 => fun _ _ _ _ => none
  | n + 1 => gG_X1_be_L189_F (gG_X1_be_L189 n)
theorem wG_X1_be_L189 {l : Launch} {E : dj_E} {Mo : Option dm_M} {G' : dg_G} : ∀ (n : Nat) (G : dg_G) (x0 : Nat) (x1 : Nat) (x2 : Int32) (_ : gG_X1_be_L189 n G x0 x1 x2 = some G'), dgW tG_X1_be l E Mo G' (.inr none) G 189 [(0, dj_v E x0), (1, dj_v E x1), (2, .int x2)] [] := by
  intro n
  induction n with
  | zero => intro G x0 x1 x2 hf; exact dh_no hf
  | succ n ih => intro G x0 x1 x2 hf; exact wG_X1_be_L189_F (gG_X1_be_L189 n) ih G x0 x1 x2 hf
def gG_X1_be_L129_F (k129 : (dg_G → Nat → Nat → Int32 → Option dg_G)) (G : dg_G) (x0 : Nat) (x1 : Nat) (x2 : Int32) : Option dg_G :=
  (dg_gR G 2 9 x1).bind fun v28 =>
  (dg_is G 10 v28).bind fun u29 =>
  (gG_J2_size G v28).bind fun p30 =>
  if p30 ≤ x2 then (
    (dg_gR G 2 10 x0).bind fun v32 =>
    (dg_is G 10 v32).bind fun u33 =>
    (gG_J2_clear G v32).bind fun p34 =>
    (dg_gR p34 2 10 x0).bind fun v35 =>
    (dg_gR p34 2 10 x1).bind fun v36 =>
    (dg_is p34 10 v35).bind fun u37 =>
    (gG_J2_addAll p34 v35 v36).bind fun p38 =>
    gG_X1_be_L189 dh_fu p38.2 x0 x1 0)
  else
  (dg_gR G 2 9 x0).bind fun v48 =>
  (dg_gR G 2 9 x1).bind fun v49 =>
  (dg_is G 10 v49).bind fun u50 =>
  (gG_J2_get G v49 x2).bind fun p51 =>
  (dg_cast G 4 p51).bind fun u52 =>
  (dg_is G 4 p51).bind fun u53 =>
  (gG_X4_copy G p51).bind fun p54 =>
  (dg_is p54.2 10 v48).bind fun u55 =>
  (gG_J2_add p54.2 v48 p54.1).bind fun p56 =>
  k129 p56.2 x0 x1 (x2 + 1)
theorem wG_X1_be_L129_F {l : Launch} {E : dj_E} {Mo : Option dm_M} {G' : dg_G} (k129 : (dg_G → Nat → Nat → Int32 → Option dg_G)) (hk129 : ∀ (G : dg_G) (x0 : Nat) (x1 : Nat) (x2 : Int32), k129 G x0 x1 x2 = some G' → dgW tG_X1_be l E Mo G' (.inr none) G 129 [(0, dj_v E x0), (1, dj_v E x1), (2, .int x2)] []) (G : dg_G) (x0 : Nat) (x1 : Nat) (x2 : Int32) (hf : gG_X1_be_L129_F k129 G x0 x1 x2 = some G') : dgW tG_X1_be l E Mo G' (.inr none) G 129 [(0, dj_v E x0), (1, dj_v E x1), (2, .int x2)] [] := by
  unfold gG_X1_be_L129_F at hf
  refine dg_l (fun _ _ _ _ _ _ _ hC => r_iload_n hC dX1_be_129 rfl (j := 2) rfl) ?_
  refine g_aload_n dX1_be_130 rfl (j := 1) rfl ?_
  obtain ⟨v28, h28, hf⟩ := dh_bd hf
  refine g_getR fR_X1_28 (by decide) h28 dX1_be_131 ?_
  obtain ⟨u29, h29, hf⟩ := dh_bd hf
  obtain ⟨p30, h30, hf⟩ := dh_bd hf
  refine g_callV (rc_O (ci := 10) rfl h29) (cG_J2_size _ E Mo G v28 h30) q1351 qG_J2_size (Nat.le_of_ble_eq_true rfl) (Nat.le_of_ble_eq_true rfl) rfl (dj_cat8 (Nat.le_of_ble_eq_true rfl)) dX1_be_134 ?_
  refine dg_b (fun _ _ _ _ _ _ _ hC => r_icmp_ge hC dX1_be_137 (tgt := 168) (by decide)) (fun c31 => ?_) (fun c31 => ?_)
  · have hf := dh_if hf c31
    refine g_aload_n dX1_be_168 rfl (j := 0) rfl ?_
    obtain ⟨v32, h32, hf⟩ := dh_bd hf
    refine g_getR fR_X1_31 (by decide) h32 dX1_be_169 ?_
    obtain ⟨u33, h33, hf⟩ := dh_bd hf
    obtain ⟨p34, h34, hf⟩ := dh_bd hf
    refine g_callV (rc_O (ci := 10) rfl h33) (cG_J2_clear _ E Mo G v32 h34) q1347 qG_J2_clear (Nat.le_of_ble_eq_true rfl) (Nat.le_of_ble_eq_true rfl) rfl (dj_cat8 (Nat.le_of_ble_eq_true rfl)) dX1_be_172 ?_
    refine g_aload_n dX1_be_175 rfl (j := 0) rfl ?_
    obtain ⟨v35, h35, hf⟩ := dh_bd hf
    refine g_getR fR_X1_31 (by decide) h35 dX1_be_176 ?_
    refine g_aload_n dX1_be_179 rfl (j := 1) rfl ?_
    obtain ⟨v36, h36, hf⟩ := dh_bd hf
    refine g_getR fR_X1_31 (by decide) h36 dX1_be_180 ?_
    obtain ⟨u37, h37, hf⟩ := dh_bd hf
    obtain ⟨p38, h38, hf⟩ := dh_bd hf
    refine g_callV (rc_O (ci := 10) rfl h37) (cG_J2_addAll _ E Mo p34 v35 v36 h38) q1368 qG_J2_addAll (Nat.le_of_ble_eq_true rfl) (Nat.le_of_ble_eq_true rfl) rfl (dj_cat8 (Nat.le_of_ble_eq_true rfl)) dX1_be_183 ?_
    refine dg_l (fun _ _ _ _ _ _ _ hC => r_pop hC dX1_be_186 rfl) ?_
    refine dg_l (fun _ _ _ _ _ _ _ hC => r_iconst hC dX1_be_187 ki_0) ?_
    refine dg_l (fun _ _ _ _ _ _ _ hC => r_istore_n (lv' := [(2, .int 0), (0, dj_v E x0), (1, dj_v E x1)]) hC dX1_be_188 rfl (Nat.le_of_ble_eq_true rfl) (by simp only [List.filter, dj_cat] <;> rfl)) ?_
    exact g_sub [1, 2, 0] rfl (wG_X1_be_L189 dh_fu p38.2 x0 x1 0 hf)
  · have hf := dh_el hf c31
    refine g_aload_n dX1_be_140 rfl (j := 0) rfl ?_
    obtain ⟨v48, h48, hf⟩ := dh_bd hf
    refine g_getR fR_X1_28 (by decide) h48 dX1_be_141 ?_
    refine g_aload_n dX1_be_144 rfl (j := 1) rfl ?_
    obtain ⟨v49, h49, hf⟩ := dh_bd hf
    refine g_getR fR_X1_28 (by decide) h49 dX1_be_145 ?_
    refine dg_l (fun _ _ _ _ _ _ _ hC => r_iload_n hC dX1_be_148 rfl (j := 2) rfl) ?_
    obtain ⟨u50, h50, hf⟩ := dh_bd hf
    obtain ⟨p51, h51, hf⟩ := dh_bd hf
    refine g_callV (rc_O (ci := 10) rfl h50) (cG_J2_get _ E Mo G v49 x2 h51) q1352 qG_J2_get (Nat.le_of_ble_eq_true rfl) (Nat.le_of_ble_eq_true rfl) rfl (dj_cat8 (Nat.le_of_ble_eq_true rfl)) dX1_be_149 ?_
    obtain ⟨u52, h52, hf⟩ := dh_bd hf
    refine g_castO (ci := 4) rfl h52 q1361 dX1_be_152 ?_
    obtain ⟨u53, h53, hf⟩ := dh_bd hf
    obtain ⟨p54, h54, hf⟩ := dh_bd hf
    refine g_callV (rc_O (ci := 4) rfl h53) (cG_X4_copy _ E Mo G p51 h54) q1362 qG_X4_copy (Nat.le_of_ble_eq_true rfl) (Nat.le_of_ble_eq_true rfl) rfl (dj_cat8 (Nat.le_of_ble_eq_true rfl)) dX1_be_155 ?_
    obtain ⟨u55, h55, hf⟩ := dh_bd hf
    obtain ⟨p56, h56, hf⟩ := dh_bd hf
    refine g_callV (rc_O (ci := 10) rfl h55) (cG_J2_add _ E Mo p54.2 v48 p54.1 h56) q1360 qG_J2_add (Nat.le_of_ble_eq_true rfl) (Nat.le_of_ble_eq_true rfl) rfl (dj_cat8 (Nat.le_of_ble_eq_true rfl)) dX1_be_158 ?_
    refine dg_l (fun _ _ _ _ _ _ _ hC => r_pop hC dX1_be_161 rfl) ?_
    refine dg_l (fun _ _ _ _ _ _ _ hC => r_iinc (lv' := [(2, .int (x2 + 1)), (0, dj_v E x0), (1, dj_v E x1)]) hC dX1_be_162 (j := 2) rfl (congrArg _ ki_1) (Nat.le_of_ble_eq_true rfl) (by simp only [List.filter, dj_cat] <;> rfl)) ?_
    refine dg_l (fun _ _ _ _ _ _ _ hC => r_goto hC dX1_be_165 (tgt := 129) (by decide)) ?_
    exact g_sub [1, 2, 0] rfl (hk129 p56.2 x0 x1 (x2 + 1) hf)
def gG_X1_be_L129 : Nat → dg_G → Nat → Nat → Int32 → Option dg_G
  | 0 => fun _ _ _ _ => none
  | n + 1 => gG_X1_be_L129_F (gG_X1_be_L129 n)
theorem wG_X1_be_L129 {l : Launch} {E : dj_E} {Mo : Option dm_M} {G' : dg_G} : ∀ (n : Nat) (G : dg_G) (x0 : Nat) (x1 : Nat) (x2 : Int32) (_ : gG_X1_be_L129 n G x0 x1 x2 = some G'), dgW tG_X1_be l E Mo G' (.inr none) G 129 [(0, dj_v E x0), (1, dj_v E x1), (2, .int x2)] [] := by
  intro n
  induction n with
  | zero => intro G x0 x1 x2 hf; exact dh_no hf
  | succ n ih => intro G x0 x1 x2 hf; exact wG_X1_be_L129_F (gG_X1_be_L129 n) ih G x0 x1 x2 hf
def gG_X1_be_L81_F (k81 : (dg_G → Nat → Nat → Int32 → Option dg_G)) (G : dg_G) (x0 : Nat) (x1 : Nat) (x2 : Int32) : Option dg_G :=
  (dg_gR G 2 8 x1).bind fun v21 =>
  (dg_is G 10 v21).bind fun u22 =>
  (gG_J2_size G v21).bind fun p23 =>
  if p23 ≤ x2 then (
    (dg_gR G 2 9 x0).bind fun v25 =>
    (dg_is G 10 v25).bind fun u26 =>
    (gG_J2_clear G v25).bind fun p27 =>
    gG_X1_be_L129 dh_fu p27 x0 x1 0)
  else
  (dg_gR G 2 8 x0).bind fun v57 =>
  (dg_gR G 2 8 x1).bind fun v58 =>
  (dg_is G 10 v58).bind fun u59 =>
  (gG_J2_get G v58 x2).bind fun p60 =>
  (dg_cast G 3 p60).bind fun u61 =>
  (dg_is G 3 p60).bind fun u62 =>
  (gG_X3_copy G p60).bind fun p63 =>
  (dg_is p63.2 10 v57).bind fun u64 =>
  (gG_J2_add p63.2 v57 p63.1).bind fun p65 =>
  k81 p65.2 x0 x1 (x2 + 1)
theorem wG_X1_be_L81_F {l : Launch} {E : dj_E} {Mo : Option dm_M} {G' : dg_G} (k81 : (dg_G → Nat → Nat → Int32 → Option dg_G)) (hk81 : ∀ (G : dg_G) (x0 : Nat) (x1 : Nat) (x2 : Int32), k81 G x0 x1 x2 = some G' → dgW tG_X1_be l E Mo G' (.inr none) G 81 [(0, dj_v E x0), (1, dj_v E x1), (2, .int x2)] []) (G : dg_G) (x0 : Nat) (x1 : Nat) (x2 : Int32) (hf : gG_X1_be_L81_F k81 G x0 x1 x2 = some G') : dgW tG_X1_be l E Mo G' (.inr none) G 81 [(0, dj_v E x0), (1, dj_v E x1), (2, .int x2)] [] := by
  unfold gG_X1_be_L81_F at hf
  refine dg_l (fun _ _ _ _ _ _ _ hC => r_iload_n hC dX1_be_81 rfl (j := 2) rfl) ?_
  refine g_aload_n dX1_be_82 rfl (j := 1) rfl ?_
  obtain ⟨v21, h21, hf⟩ := dh_bd hf
  refine g_getR fR_X1_24 (by decide) h21 dX1_be_83 ?_
  obtain ⟨u22, h22, hf⟩ := dh_bd hf
  obtain ⟨p23, h23, hf⟩ := dh_bd hf
  refine g_callV (rc_O (ci := 10) rfl h22) (cG_J2_size _ E Mo G v21 h23) q1351 qG_J2_size (Nat.le_of_ble_eq_true rfl) (Nat.le_of_ble_eq_true rfl) rfl (dj_cat8 (Nat.le_of_ble_eq_true rfl)) dX1_be_86 ?_
  refine dg_b (fun _ _ _ _ _ _ _ hC => r_icmp_ge hC dX1_be_89 (tgt := 120) (by decide)) (fun c24 => ?_) (fun c24 => ?_)
  · have hf := dh_if hf c24
    refine g_aload_n dX1_be_120 rfl (j := 0) rfl ?_
    obtain ⟨v25, h25, hf⟩ := dh_bd hf
    refine g_getR fR_X1_28 (by decide) h25 dX1_be_121 ?_
    obtain ⟨u26, h26, hf⟩ := dh_bd hf
    obtain ⟨p27, h27, hf⟩ := dh_bd hf
    refine g_callV (rc_O (ci := 10) rfl h26) (cG_J2_clear _ E Mo G v25 h27) q1347 qG_J2_clear (Nat.le_of_ble_eq_true rfl) (Nat.le_of_ble_eq_true rfl) rfl (dj_cat8 (Nat.le_of_ble_eq_true rfl)) dX1_be_124 ?_
    refine dg_l (fun _ _ _ _ _ _ _ hC => r_iconst hC dX1_be_127 ki_0) ?_
    refine dg_l (fun _ _ _ _ _ _ _ hC => r_istore_n (lv' := [(2, .int 0), (0, dj_v E x0), (1, dj_v E x1)]) hC dX1_be_128 rfl (Nat.le_of_ble_eq_true rfl) (by simp only [List.filter, dj_cat] <;> rfl)) ?_
    exact g_sub [1, 2, 0] rfl (wG_X1_be_L129 dh_fu p27 x0 x1 0 hf)
  · have hf := dh_el hf c24
    refine g_aload_n dX1_be_92 rfl (j := 0) rfl ?_
    obtain ⟨v57, h57, hf⟩ := dh_bd hf
    refine g_getR fR_X1_24 (by decide) h57 dX1_be_93 ?_
    refine g_aload_n dX1_be_96 rfl (j := 1) rfl ?_
    obtain ⟨v58, h58, hf⟩ := dh_bd hf
    refine g_getR fR_X1_24 (by decide) h58 dX1_be_97 ?_
    refine dg_l (fun _ _ _ _ _ _ _ hC => r_iload_n hC dX1_be_100 rfl (j := 2) rfl) ?_
    obtain ⟨u59, h59, hf⟩ := dh_bd hf
    obtain ⟨p60, h60, hf⟩ := dh_bd hf
    refine g_callV (rc_O (ci := 10) rfl h59) (cG_J2_get _ E Mo G v58 x2 h60) q1352 qG_J2_get (Nat.le_of_ble_eq_true rfl) (Nat.le_of_ble_eq_true rfl) rfl (dj_cat8 (Nat.le_of_ble_eq_true rfl)) dX1_be_101 ?_
    obtain ⟨u61, h61, hf⟩ := dh_bd hf
    refine g_castO (ci := 3) rfl h61 q1353 dX1_be_104 ?_
    obtain ⟨u62, h62, hf⟩ := dh_bd hf
    obtain ⟨p63, h63, hf⟩ := dh_bd hf
    refine g_callV (rc_O (ci := 3) rfl h62) (cG_X3_copy _ E Mo G p60 h63) q1354 qG_X3_copy (Nat.le_of_ble_eq_true rfl) (Nat.le_of_ble_eq_true rfl) rfl (dj_cat8 (Nat.le_of_ble_eq_true rfl)) dX1_be_107 ?_
    obtain ⟨u64, h64, hf⟩ := dh_bd hf
    obtain ⟨p65, h65, hf⟩ := dh_bd hf
    refine g_callV (rc_O (ci := 10) rfl h64) (cG_J2_add _ E Mo p63.2 v57 p63.1 h65) q1360 qG_J2_add (Nat.le_of_ble_eq_true rfl) (Nat.le_of_ble_eq_true rfl) rfl (dj_cat8 (Nat.le_of_ble_eq_true rfl)) dX1_be_110 ?_
    refine dg_l (fun _ _ _ _ _ _ _ hC => r_pop hC dX1_be_113 rfl) ?_
    refine dg_l (fun _ _ _ _ _ _ _ hC => r_iinc (lv' := [(2, .int (x2 + 1)), (0, dj_v E x0), (1, dj_v E x1)]) hC dX1_be_114 (j := 2) rfl (congrArg _ ki_1) (Nat.le_of_ble_eq_true rfl) (by simp only [List.filter, dj_cat] <;> rfl)) ?_
    refine dg_l (fun _ _ _ _ _ _ _ hC => r_goto hC dX1_be_117 (tgt := 81) (by decide)) ?_
    exact g_sub [1, 2, 0] rfl (hk81 p65.2 x0 x1 (x2 + 1) hf)
def gG_X1_be_L81 : Nat → dg_G → Nat → Nat → Int32 → Option dg_G
  | 0 => fun _ _ _ _ => none
  | n + 1 => gG_X1_be_L81_F (gG_X1_be_L81 n)
theorem wG_X1_be_L81 {l : Launch} {E : dj_E} {Mo : Option dm_M} {G' : dg_G} : ∀ (n : Nat) (G : dg_G) (x0 : Nat) (x1 : Nat) (x2 : Int32) (_ : gG_X1_be_L81 n G x0 x1 x2 = some G'), dgW tG_X1_be l E Mo G' (.inr none) G 81 [(0, dj_v E x0), (1, dj_v E x1), (2, .int x2)] [] := by
  intro n
  induction n with
  | zero => intro G x0 x1 x2 hf; exact dh_no hf
  | succ n ih => intro G x0 x1 x2 hf; exact wG_X1_be_L81_F (gG_X1_be_L81 n) ih G x0 x1 x2 hf
def gG_X1_be (G : dg_G) (x0 : Nat) (x1 : Nat) : Option dg_G :=
  (dg_gR G 2 0 x1).bind fun v1 =>
  (dg_gR G 2 0 x0).bind fun v2 =>
  (dg_cpI G 51 v1 0 v2 0 600).bind fun G3 =>
  (dg_gI G3 2 1 x1).bind fun v4 =>
  (dg_pI G3 2 1 x0 v4).bind fun G5 =>
  (dg_gI G5 2 2 x1).bind fun v6 =>
  (dg_pI G5 2 2 x0 v6).bind fun G7 =>
  (dg_gI G7 2 3 x1).bind fun v8 =>
  (dg_pI G7 2 3 x0 v8).bind fun G9 =>
  (dg_gI G9 2 4 x1).bind fun v10 =>
  (dg_pI G9 2 4 x0 v10).bind fun G11 =>
  (dg_gI G11 2 5 x1).bind fun v12 =>
  (dg_pI G11 2 5 x0 v12).bind fun G13 =>
  (dg_gI G13 2 6 x1).bind fun v14 =>
  (dg_pI G13 2 6 x0 v14).bind fun G15 =>
  (dg_gI G15 2 7 x1).bind fun v16 =>
  (dg_pI G15 2 7 x0 v16).bind fun G17 =>
  (dg_gR G17 2 8 x0).bind fun v18 =>
  (dg_is G17 10 v18).bind fun u19 =>
  (gG_J2_clear G17 v18).bind fun p20 =>
  gG_X1_be_L81 dh_fu p20 x0 x1 0
theorem wG_X1_be {l : Launch} {E : dj_E} {Mo : Option dm_M} {G' : dg_G} (G : dg_G) (x0 : Nat) (x1 : Nat) (hf : gG_X1_be G x0 x1 = some G') : dgW tG_X1_be l E Mo G' (.inr none) G 0 [(0, dj_v E x0), (1, dj_v E x1)] [] := by
  unfold gG_X1_be at hf
  refine g_aload_n dX1_be_0 rfl (j := 1) rfl ?_
  obtain ⟨v1, h1, hf⟩ := dh_bd hf
  refine g_getR fR_X1_9 (by decide) h1 dX1_be_1 ?_
  refine dg_l (fun _ _ _ _ _ _ _ hC => r_iconst hC dX1_be_4 ki_0) ?_
  refine g_aload_n dX1_be_5 rfl (j := 0) rfl ?_
  obtain ⟨v2, h2, hf⟩ := dh_bd hf
  refine g_getR fR_X1_9 (by decide) h2 dX1_be_6 ?_
  refine dg_l (fun _ _ _ _ _ _ _ hC => r_iconst hC dX1_be_9 ki_0) ?_
  refine dg_l (fun _ _ _ _ _ _ _ hC => r_sipush hC dX1_be_10 ks_600) ?_
  obtain ⟨G3, h3, hf⟩ := dh_bd hf
  refine g_copyI 1 (by decide) rfl rfl (fun _ h => dg_8 (h.resolve_left (by decide))) q1346 h3 (Nat.le_of_ble_eq_true rfl) (Nat.le_of_ble_eq_true rfl) dX1_be_13 ?_
  refine g_aload_n dX1_be_16 rfl (j := 0) rfl ?_
  refine g_aload_n dX1_be_17 rfl (j := 1) rfl ?_
  obtain ⟨v4, h4, hf⟩ := dh_bd hf
  refine g_getI fR_X1_55 (by decide) h4 dX1_be_18 ?_
  obtain ⟨G5, h5, hf⟩ := dh_bd hf
  refine g_putI fF_X1_55 (fun q => by cases q) (by decide) h5 dX1_be_21 ?_
  refine g_aload_n dX1_be_24 rfl (j := 0) rfl ?_
  refine g_aload_n dX1_be_25 rfl (j := 1) rfl ?_
  obtain ⟨v6, h6, hf⟩ := dh_bd hf
  refine g_getI fR_X1_58 (by decide) h6 dX1_be_26 ?_
  obtain ⟨G7, h7, hf⟩ := dh_bd hf
  refine g_putI fF_X1_58 (fun q => by cases q) (by decide) h7 dX1_be_29 ?_
  refine g_aload_n dX1_be_32 rfl (j := 0) rfl ?_
  refine g_aload_n dX1_be_33 rfl (j := 1) rfl ?_
  obtain ⟨v8, h8, hf⟩ := dh_bd hf
  refine g_getI fR_X1_15 (by decide) h8 dX1_be_34 ?_
  obtain ⟨G9, h9, hf⟩ := dh_bd hf
  refine g_putI fF_X1_15 (fun q => by cases q) (by decide) h9 dX1_be_37 ?_
  refine g_aload_n dX1_be_40 rfl (j := 0) rfl ?_
  refine g_aload_n dX1_be_41 rfl (j := 1) rfl ?_
  obtain ⟨v10, h10, hf⟩ := dh_bd hf
  refine g_getI fR_X1_61 (by decide) h10 dX1_be_42 ?_
  obtain ⟨G11, h11, hf⟩ := dh_bd hf
  refine g_putI fF_X1_61 (fun q => by cases q) (by decide) h11 dX1_be_45 ?_
  refine g_aload_n dX1_be_48 rfl (j := 0) rfl ?_
  refine g_aload_n dX1_be_49 rfl (j := 1) rfl ?_
  obtain ⟨v12, h12, hf⟩ := dh_bd hf
  refine g_getI fR_X1_64 (by decide) h12 dX1_be_50 ?_
  obtain ⟨G13, h13, hf⟩ := dh_bd hf
  refine g_putI fF_X1_64 (fun q => by cases q) (by decide) h13 dX1_be_53 ?_
  refine g_aload_n dX1_be_56 rfl (j := 0) rfl ?_
  refine g_aload_n dX1_be_57 rfl (j := 1) rfl ?_
  obtain ⟨v14, h14, hf⟩ := dh_bd hf
  refine g_getI fR_X1_67 (by decide) h14 dX1_be_58 ?_
  obtain ⟨G15, h15, hf⟩ := dh_bd hf
  refine g_putI fF_X1_67 (fun q => by cases q) (by decide) h15 dX1_be_61 ?_
  refine g_aload_n dX1_be_64 rfl (j := 0) rfl ?_
  refine g_aload_n dX1_be_65 rfl (j := 1) rfl ?_
  obtain ⟨v16, h16, hf⟩ := dh_bd hf
  refine g_getI fR_X1_70 (by decide) h16 dX1_be_66 ?_
  obtain ⟨G17, h17, hf⟩ := dh_bd hf
  refine g_putI fF_X1_70 (fun q => by cases q) (by decide) h17 dX1_be_69 ?_
  refine g_aload_n dX1_be_72 rfl (j := 0) rfl ?_
  obtain ⟨v18, h18, hf⟩ := dh_bd hf
  refine g_getR fR_X1_24 (by decide) h18 dX1_be_73 ?_
  obtain ⟨u19, h19, hf⟩ := dh_bd hf
  obtain ⟨p20, h20, hf⟩ := dh_bd hf
  refine g_callV (rc_O (ci := 10) rfl h19) (cG_J2_clear _ E Mo G17 v18 h20) q1347 qG_J2_clear (Nat.le_of_ble_eq_true rfl) (Nat.le_of_ble_eq_true rfl) rfl (dj_cat8 (Nat.le_of_ble_eq_true rfl)) dX1_be_76 ?_
  refine dg_l (fun _ _ _ _ _ _ _ hC => r_iconst hC dX1_be_79 ki_0) ?_
  refine dg_l (fun _ _ _ _ _ _ _ hC => r_istore_n (lv' := [(2, .int 0), (0, dj_v E x0), (1, dj_v E x1)]) hC dX1_be_80 rfl (Nat.le_of_ble_eq_true rfl) (by simp only [List.filter, dj_cat] <;> rfl)) ?_
  exact g_sub [1, 2, 0] rfl (wG_X1_be_L81 dh_fu p20 x0 x1 0 hf)
theorem cG_X1_be (l : Launch) (E : dj_E) (Mo : Option dm_M) (G : dg_G) (x0 : Nat) (x1 : Nat) {G' : dg_G} (h : gG_X1_be G x0 x1 = some G') : dg_Met l yX1_be cX1_be 3 none 7 157 E Mo [dj_v E x0, dj_v E x1] G none G' :=
  dg_met (plainFor_of_name (by decide)) (by simp only [lg_sl_ref, lg_sl_int, lg_sl_long, lg_sl_nil]; decide) (by simp only [lv_args_ref, lv_args_int, lv_args_long, lv_args_nil]) (wG_X1_be G x0 x1 h)
theorem qG_X1_be : dg_cV "DebtorsHouse$State" yX1_be cX1_be 3 none 1 := ⟨q1343, Or.inl q1344, q82, q1345, by decide, by decide, by decide +kernel⟩
/-! DebtorsHouse$Test.<init>(ZLDebtorsHouse$About;CI)V -/
abbrev tG_X9_init : dg_T := (cX9_init, 5, RX9, none, 1, 20, "<init>", [])
def gG_X9_init (G : dg_G) (x0 : Nat) (x1 : Int32) (x2 : Nat) (x3 : Int32) (x4 : Int32) : Option dg_G :=
  (dg_pos x0).bind fun u1 =>
  (dg_pZ G 9 0 x0 x1).bind fun G2 =>
  (dg_pR G2 9 1 x0 x2).bind fun G3 =>
  (dg_pC G3 9 2 x0 x3).bind fun G4 =>
  (dg_pI G4 9 3 x0 x4).bind fun G5 =>
  some G5
theorem wG_X9_init {l : Launch} {E : dj_E} {Mo : Option dm_M} {G' : dg_G} (G : dg_G) (x0 : Nat) (x1 : Int32) (x2 : Nat) (x3 : Int32) (x4 : Int32) (hf : gG_X9_init G x0 x1 x2 x3 x4 = some G') : dgW tG_X9_init l E Mo G' (.inr none) G 0 [(0, dj_v E x0), (1, .int x1), (2, dj_v E x2), (3, .int x3), (4, .int x4)] [] := by
  unfold gG_X9_init at hf
  refine g_aload_n dX9_init_0 rfl (j := 0) rfl ?_
  obtain ⟨u1, h1, hf⟩ := dh_bd hf
  refine g_obj h1 q1033 (Nat.le_of_ble_eq_true rfl) (Nat.le_of_ble_eq_true rfl) dX9_init_1 ?_
  refine g_aload_n dX9_init_4 rfl (j := 0) rfl ?_
  refine dg_l (fun _ _ _ _ _ _ _ hC => r_iload_n hC dX9_init_5 rfl (j := 1) rfl) ?_
  obtain ⟨G2, h2, hf⟩ := dh_bd hf
  refine g_putZ fF_X9_7 (fun _ => rfl) (by decide) h2 dX9_init_6 ?_
  refine g_aload_n dX9_init_9 rfl (j := 0) rfl ?_
  refine g_aload_n dX9_init_10 rfl (j := 2) rfl ?_
  obtain ⟨G3, h3, hf⟩ := dh_bd hf
  refine g_putR fF_X9_13 (Or.inl ⟨_, rfl⟩) (fun _ => rfl) (by decide) h3 dX9_init_11 ?_
  refine g_aload_n dX9_init_14 rfl (j := 0) rfl ?_
  refine dg_l (fun _ _ _ _ _ _ _ hC => r_iload_n hC dX9_init_15 rfl (j := 3) rfl) ?_
  obtain ⟨G4, h4, hf⟩ := dh_bd hf
  refine g_putC fF_X9_17 (fun _ => rfl) (by decide) h4 dX9_init_16 ?_
  refine g_aload_n dX9_init_19 rfl (j := 0) rfl ?_
  refine dg_l (fun _ _ _ _ _ _ _ hC => r_iload hC dX9_init_20 (j := 4) rfl) ?_
  obtain ⟨G5, h5, hf⟩ := dh_bd hf
  refine g_putI fF_X9_21 (fun _ => rfl) (by decide) h5 dX9_init_22 ?_
  exact g_vret dX9_init_25 rfl hf
theorem cG_X9_init (l : Launch) (E : dj_E) (Mo : Option dm_M) (G : dg_G) (x0 : Nat) (x1 : Int32) (x2 : Nat) (x3 : Int32) (x4 : Int32) {G' : dg_G} (h : gG_X9_init G x0 x1 x2 x3 x4 = some G') : dg_Met l yX9_init cX9_init 5 none 1 20 E Mo [dj_v E x0, .int x1, dj_v E x2, .int x3, .int x4] G none G' :=
  dg_met (plainFor_of_name (by decide)) (by simp only [lg_sl_ref, lg_sl_int, lg_sl_long, lg_sl_nil]; decide) (by simp only [lv_args_ref, lv_args_int, lv_args_long, lv_args_nil]) (wG_X9_init G x0 x1 x2 x3 x4 h)
theorem qG_X9_init : dg_cI yX9_init cX9_init 5 4 := ⟨q1031, q110, q1032, rfl, by decide, by decide, by decide +kernel⟩
/-! DebtorsHouse$Test.holds([I)Z -/
abbrev tG_X9_holds : dg_T := (cX9_holds, 3, RX9, (some .boolean), 1, 20, "holds", [])
def gG_X9_holds_b73 (G : dg_G) (x0 : Nat) (y0 : Int32) : Option Int32 :=
  (dg_gI G 9 0 x0).bind fun v11 =>
  if y0 = v11 then (
    some 0)
  else
  some 1
theorem wG_X9_holds_b73 {l : Launch} {E : dj_E} {Mo : Option dm_M} {r : Int32} (G : dg_G) (x0 : Nat) (y0 : Int32) (hf : gG_X9_holds_b73 G x0 y0 = some r) : dgW tG_X9_holds l E Mo G (.inr (some (.int r))) G 73 [(0, dj_v E x0)] [.int y0] := by
  unfold gG_X9_holds_b73 at hf
  refine g_aload_n dX9_holds_73 rfl (j := 0) rfl ?_
  obtain ⟨v11, h11, hf⟩ := dh_bd hf
  refine g_getI fR_X9_7 (by decide) h11 dX9_holds_74 ?_
  refine dg_b (fun _ _ _ _ _ _ _ hC => r_icmp_eq hC dX9_holds_77 (tgt := 84) (by decide)) (fun c12 => ?_) (fun c12 => ?_)
  · have hf := dh_if hf c12
    refine dg_l (fun _ _ _ _ _ _ _ hC => r_iconst hC dX9_holds_84 ki_0) ?_
    exact g_zret1 dX9_holds_85 rfl rfl hf
  · have hf := dh_el hf c12
    refine dg_l (fun _ _ _ _ _ _ _ hC => r_iconst hC dX9_holds_80 ki_1) ?_
    refine dg_l (fun _ _ _ _ _ _ _ hC => r_goto hC dX9_holds_81 (tgt := 85) (by decide)) ?_
    exact g_zret1 dX9_holds_85 rfl rfl hf
def gG_X9_holds (G : dg_G) (x0 : Nat) (x1 : Nat) : Option Int32 :=
  (dg_gR G 9 1 x0).bind fun v1 =>
  (do_isA v1).bind fun u2 =>
  (gG_J6_ordinal G v1).bind fun p3 =>
  (dg_ld G 50 x1 p3).bind fun v4 =>
  (dg_gI G 9 2 x0).bind fun v5 =>
  if v5 = 60 then (
    (dg_gI G 9 3 x0).bind fun v15 =>
    if v15 ≤ v4 then (
      gG_X9_holds_b73 G x0 0)
    else
    gG_X9_holds_b73 G x0 1)
  else
  (dg_gI G 9 2 x0).bind fun v7 =>
  if v7 = 62 then (
    (dg_gI G 9 3 x0).bind fun v13 =>
    if v4 ≤ v13 then (
      gG_X9_holds_b73 G x0 0)
    else
    gG_X9_holds_b73 G x0 1)
  else
  (dg_gI G 9 3 x0).bind fun v9 =>
  if v4 = v9 then (
    gG_X9_holds_b73 G x0 1)
  else
  gG_X9_holds_b73 G x0 0
theorem wG_X9_holds {l : Launch} {E : dj_E} {Mo : Option dm_M} {r : Int32} (G : dg_G) (x0 : Nat) (x1 : Nat) (hf : gG_X9_holds G x0 x1 = some r) : dgW tG_X9_holds l E Mo G (.inr (some (.int r))) G 0 [(0, dj_v E x0), (1, dj_v E x1)] [] := by
  unfold gG_X9_holds at hf
  refine g_aload_n dX9_holds_0 rfl (j := 1) rfl ?_
  refine g_aload_n dX9_holds_1 rfl (j := 0) rfl ?_
  obtain ⟨v1, h1, hf⟩ := dh_bd hf
  refine g_getR fR_X9_13 (by decide) h1 dX9_holds_2 ?_
  obtain ⟨u2, h2, hf⟩ := dh_bd hf
  obtain ⟨p3, h3, hf⟩ := dh_bd hf
  refine g_callU (rc_A h2) (cG_J6_ordinal _ E Mo G v1 h3) q1148 q1105 q1106 q556 q93 q557 rfl ⟨by decide, by decide, by decide +kernel⟩ (Nat.le_of_ble_eq_true rfl) (Nat.le_of_ble_eq_true rfl) rfl (dj_cat8 (Nat.le_of_ble_eq_true rfl)) dX9_holds_5 ?_
  obtain ⟨v4, h4, hf⟩ := dh_bd hf
  refine g_iald h4 dX9_holds_8 ?_
  refine dg_l (fun _ _ _ _ _ _ _ hC => r_istore_n (lv' := [(2, .int v4), (0, dj_v E x0), (1, dj_v E x1)]) hC dX9_holds_9 rfl (Nat.le_of_ble_eq_true rfl) (by simp only [List.filter, dj_cat] <;> rfl)) ?_
  refine g_aload_n dX9_holds_10 rfl (j := 1) rfl ?_
  obtain ⟨v5, h5, hf⟩ := dh_bd hf
  refine g_getI fR_X9_17 (by decide) h5 dX9_holds_11 ?_
  refine dg_l (fun _ _ _ _ _ _ _ hC => r_bipush hC dX9_holds_14 kb_60) ?_
  refine dg_bn (fun _ _ _ _ _ _ _ hC => r_icmp_ne hC dX9_holds_16 (tgt := 35) (by decide)) (fun c6 => ?_) (fun c6 => ?_)
  · have hf := dh_el hf c6
    refine g_aload_n dX9_holds_35 rfl (j := 1) rfl ?_
    obtain ⟨v7, h7, hf⟩ := dh_bd hf
    refine g_getI fR_X9_17 (by decide) h7 dX9_holds_36 ?_
    refine dg_l (fun _ _ _ _ _ _ _ hC => r_bipush hC dX9_holds_39 kb_62) ?_
    refine dg_bn (fun _ _ _ _ _ _ _ hC => r_icmp_ne hC dX9_holds_41 (tgt := 60) (by decide)) (fun c8 => ?_) (fun c8 => ?_)
    · have hf := dh_el hf c8
      refine dg_l (fun _ _ _ _ _ _ _ hC => r_iload_n hC dX9_holds_60 rfl (j := 0) rfl) ?_
      refine g_aload_n dX9_holds_61 rfl (j := 1) rfl ?_
      obtain ⟨v9, h9, hf⟩ := dh_bd hf
      refine g_getI fR_X9_21 (by decide) h9 dX9_holds_62 ?_
      refine dg_bn (fun _ _ _ _ _ _ _ hC => r_icmp_ne hC dX9_holds_65 (tgt := 72) (by decide)) (fun c10 => ?_) (fun c10 => ?_)
      · have hf := dh_el hf c10
        refine dg_l (fun _ _ _ _ _ _ _ hC => r_iconst hC dX9_holds_72 ki_0) ?_
        exact g_sub [1] rfl (wG_X9_holds_b73 G x0 0 hf)
      · have hf := dh_if hf c10
        refine dg_l (fun _ _ _ _ _ _ _ hC => r_iconst hC dX9_holds_68 ki_1) ?_
        refine dg_l (fun _ _ _ _ _ _ _ hC => r_goto hC dX9_holds_69 (tgt := 73) (by decide)) ?_
        exact g_sub [1] rfl (wG_X9_holds_b73 G x0 1 hf)
    · have hf := dh_if hf c8
      refine dg_l (fun _ _ _ _ _ _ _ hC => r_iload_n hC dX9_holds_44 rfl (j := 0) rfl) ?_
      refine g_aload_n dX9_holds_45 rfl (j := 1) rfl ?_
      obtain ⟨v13, h13, hf⟩ := dh_bd hf
      refine g_getI fR_X9_21 (by decide) h13 dX9_holds_46 ?_
      refine dg_b (fun _ _ _ _ _ _ _ hC => r_icmp_le hC dX9_holds_49 (tgt := 56) (by decide)) (fun c14 => ?_) (fun c14 => ?_)
      · have hf := dh_if hf c14
        refine dg_l (fun _ _ _ _ _ _ _ hC => r_iconst hC dX9_holds_56 ki_0) ?_
        refine dg_l (fun _ _ _ _ _ _ _ hC => r_goto hC dX9_holds_57 (tgt := 73) (by decide)) ?_
        exact g_sub [1] rfl (wG_X9_holds_b73 G x0 0 hf)
      · have hf := dh_el hf c14
        refine dg_l (fun _ _ _ _ _ _ _ hC => r_iconst hC dX9_holds_52 ki_1) ?_
        refine dg_l (fun _ _ _ _ _ _ _ hC => r_goto hC dX9_holds_53 (tgt := 73) (by decide)) ?_
        exact g_sub [1] rfl (wG_X9_holds_b73 G x0 1 hf)
  · have hf := dh_if hf c6
    refine dg_l (fun _ _ _ _ _ _ _ hC => r_iload_n hC dX9_holds_19 rfl (j := 0) rfl) ?_
    refine g_aload_n dX9_holds_20 rfl (j := 1) rfl ?_
    obtain ⟨v15, h15, hf⟩ := dh_bd hf
    refine g_getI fR_X9_21 (by decide) h15 dX9_holds_21 ?_
    refine dg_b (fun _ _ _ _ _ _ _ hC => r_icmp_ge hC dX9_holds_24 (tgt := 31) (by decide)) (fun c16 => ?_) (fun c16 => ?_)
    · have hf := dh_if hf c16
      refine dg_l (fun _ _ _ _ _ _ _ hC => r_iconst hC dX9_holds_31 ki_0) ?_
      refine dg_l (fun _ _ _ _ _ _ _ hC => r_goto hC dX9_holds_32 (tgt := 73) (by decide)) ?_
      exact g_sub [1] rfl (wG_X9_holds_b73 G x0 0 hf)
    · have hf := dh_el hf c16
      refine dg_l (fun _ _ _ _ _ _ _ hC => r_iconst hC dX9_holds_27 ki_1) ?_
      refine dg_l (fun _ _ _ _ _ _ _ hC => r_goto hC dX9_holds_28 (tgt := 73) (by decide)) ?_
      exact g_sub [1] rfl (wG_X9_holds_b73 G x0 1 hf)
theorem cG_X9_holds (l : Launch) (E : dj_E) (Mo : Option dm_M) (G : dg_G) (x0 : Nat) (x1 : Nat) {r : Int32} (h : gG_X9_holds G x0 x1 = some r) : dg_Met l yX9_holds cX9_holds 3 (some .boolean) 1 20 E Mo [dj_v E x0, dj_v E x1] G (some (.int r)) G :=
  dg_met (plainFor_of_name (by decide)) (by simp only [lg_sl_ref, lg_sl_int, lg_sl_long, lg_sl_nil]; decide) (by simp only [lv_args_ref, lv_args_int, lv_args_long, lv_args_nil]) (wG_X9_holds G x0 x1 h)
theorem qG_X9_holds : dg_cV "DebtorsHouse$Test" yX9_holds cX9_holds 3 (some .boolean) 1 := ⟨q1145, Or.inl q1146, q110, q1147, by decide, by decide, by decide +kernel⟩
/-! DebtorsHouse$Line.<init>()V -/
abbrev tG_X8_init : dg_T := (cX8_init, 1, RX8, none, 4, 81, "<init>", [])
def gG_X8_init (G : dg_G) (x0 : Nat) : Option dg_G :=
  (dg_pos x0).bind fun u1 =>
  (dg_pos (dg_n G)).bind fun u3 =>
  (gG_J2_init (dg_nw G 10) (dg_n G) 4).bind fun p4 =>
  (dg_pR p4 8 1 x0 (dg_n G)).bind fun G5 =>
  some G5
theorem wG_X8_init {l : Launch} {E : dj_E} {Mo : Option dm_M} {G' : dg_G} (G : dg_G) (x0 : Nat) (hf : gG_X8_init G x0 = some G') : dgW tG_X8_init l E Mo G' (.inr none) G 0 [(0, dj_v E x0)] [] := by
  unfold gG_X8_init at hf
  refine g_aload_n dX8_init_0 rfl (j := 0) rfl ?_
  obtain ⟨u1, h1, hf⟩ := dh_bd hf
  refine g_obj h1 q975 (Nat.le_of_ble_eq_true rfl) (Nat.le_of_ble_eq_true rfl) dX8_init_1 ?_
  refine g_aload_n dX8_init_4 rfl (j := 0) rfl ?_
  refine g_new nI_X8_9 dX8_init_5 ?_
  refine g_dup dX8_init_8 ?_
  refine dg_l (fun _ _ _ _ _ _ _ hC => r_iconst hC dX8_init_9 ki_4) ?_
  obtain ⟨u3, h3, hf⟩ := dh_bd hf
  obtain ⟨p4, h4, hf⟩ := dh_bd hf
  refine g_callI h3 (cG_J2_init _ E Mo (dg_nw G 10) (dg_n G) 4 h4) q977 qG_J2_init (Nat.le_of_ble_eq_true rfl) (Nat.le_of_ble_eq_true rfl) rfl (dj_cat8 (Nat.le_of_ble_eq_true rfl)) dX8_init_10 ?_
  obtain ⟨G5, h5, hf⟩ := dh_bd hf
  refine g_putR fF_X8_14 (Or.inl ⟨_, rfl⟩) (fun _ => rfl) (by decide) h5 dX8_init_13 ?_
  exact g_vret dX8_init_16 rfl hf
theorem cG_X8_init (l : Launch) (E : dj_E) (Mo : Option dm_M) (G : dg_G) (x0 : Nat) {G' : dg_G} (h : gG_X8_init G x0 = some G') : dg_Met l yX8_init cX8_init 1 none 4 81 E Mo [dj_v E x0] G none G' :=
  dg_met (plainFor_of_name (by decide)) (by simp only [lg_sl_ref, lg_sl_int, lg_sl_long, lg_sl_nil]; decide) (by simp only [lv_args_ref, lv_args_int, lv_args_long, lv_args_nil]) (wG_X8_init G x0 h)
theorem qG_X8_init : dg_cI yX8_init cX8_init 1 0 := ⟨q973, q109, q974, rfl, by decide, by decide, by decide +kernel⟩
/-! DebtorsHouse$Line.holds([I)Z -/
abbrev tG_X8_holds : dg_T := (cX8_holds, 4, RX8, (some .boolean), 3, 64, "holds", [])
def gG_X8_holds_L4_F (k4 : (Nat → Nat → Int32 → Int32 → Option Int32)) (G : dg_G) (x0 : Nat) (x1 : Nat) (x2 : Int32) (x3 : Int32) : Option Int32 :=
  (dg_gR G 8 1 x0).bind fun v1 =>
  (dg_is G 10 v1).bind fun u2 =>
  (gG_J2_size G v1).bind fun p3 =>
  if p3 ≤ x3 then (
    (dh_bo x2).bind fun u5 =>
    some x2)
  else
  if x2 = 0 then (
    (dh_bo x2).bind fun u7 =>
    some x2)
  else
  (dg_gR G 8 1 x0).bind fun v8 =>
  (dg_is G 10 v8).bind fun u9 =>
  (gG_J2_get G v8 x3).bind fun p10 =>
  (dg_cast G 9 p10).bind fun u11 =>
  (dg_is G 9 p10).bind fun u12 =>
  (gG_X9_holds G p10 x1).bind fun p13 =>
  k4 x0 x1 p13 (x3 + 1)
theorem wG_X8_holds_L4_F {l : Launch} {E : dj_E} {Mo : Option dm_M} {r : Int32} (G : dg_G) (k4 : (Nat → Nat → Int32 → Int32 → Option Int32)) (hk4 : ∀ (x0 : Nat) (x1 : Nat) (x2 : Int32) (x3 : Int32), k4 x0 x1 x2 x3 = some r → dgW tG_X8_holds l E Mo G (.inr (some (.int r))) G 4 [(0, dj_v E x0), (1, dj_v E x1), (2, .int x2), (3, .int x3)] []) (x0 : Nat) (x1 : Nat) (x2 : Int32) (x3 : Int32) (hf : gG_X8_holds_L4_F k4 G x0 x1 x2 x3 = some r) : dgW tG_X8_holds l E Mo G (.inr (some (.int r))) G 4 [(0, dj_v E x0), (1, dj_v E x1), (2, .int x2), (3, .int x3)] [] := by
  unfold gG_X8_holds_L4_F at hf
  refine dg_l (fun _ _ _ _ _ _ _ hC => r_iload_n hC dX8_holds_4 rfl (j := 3) rfl) ?_
  refine g_aload_n dX8_holds_5 rfl (j := 0) rfl ?_
  obtain ⟨v1, h1, hf⟩ := dh_bd hf
  refine g_getR fR_X8_14 (by decide) h1 dX8_holds_6 ?_
  obtain ⟨u2, h2, hf⟩ := dh_bd hf
  obtain ⟨p3, h3, hf⟩ := dh_bd hf
  refine g_callV (rc_O (ci := 10) rfl h2) (cG_J2_size _ E Mo G v1 h3) q1141 qG_J2_size (Nat.le_of_ble_eq_true rfl) (Nat.le_of_ble_eq_true rfl) rfl (dj_cat8 (Nat.le_of_ble_eq_true rfl)) dX8_holds_9 ?_
  refine dg_b (fun _ _ _ _ _ _ _ hC => r_icmp_ge hC dX8_holds_12 (tgt := 41) (by decide)) (fun c4 => ?_) (fun c4 => ?_)
  · have hf := dh_if hf c4
    refine dg_l (fun _ _ _ _ _ _ _ hC => r_iload_n hC dX8_holds_41 rfl (j := 2) rfl) ?_
    obtain ⟨u5, h5, hf⟩ := dh_bd hf
    exact g_zret1 dX8_holds_42 rfl (dh_bo_n h5) hf
  · have hf := dh_el hf c4
    refine dg_l (fun _ _ _ _ _ _ _ hC => r_iload_n hC dX8_holds_15 rfl (j := 2) rfl) ?_
    refine dg_b (fun _ _ _ _ _ _ _ hC => r_if_eq hC dX8_holds_16 (tgt := 41) (by decide)) (fun c6 => ?_) (fun c6 => ?_)
    · have hf := dh_if hf c6
      refine dg_l (fun _ _ _ _ _ _ _ hC => r_iload_n hC dX8_holds_41 rfl (j := 2) rfl) ?_
      obtain ⟨u7, h7, hf⟩ := dh_bd hf
      exact g_zret1 dX8_holds_42 rfl (dh_bo_n h7) hf
    · have hf := dh_el hf c6
      refine g_aload_n dX8_holds_19 rfl (j := 0) rfl ?_
      obtain ⟨v8, h8, hf⟩ := dh_bd hf
      refine g_getR fR_X8_14 (by decide) h8 dX8_holds_20 ?_
      refine dg_l (fun _ _ _ _ _ _ _ hC => r_iload_n hC dX8_holds_23 rfl (j := 3) rfl) ?_
      obtain ⟨u9, h9, hf⟩ := dh_bd hf
      obtain ⟨p10, h10, hf⟩ := dh_bd hf
      refine g_callV (rc_O (ci := 10) rfl h9) (cG_J2_get _ E Mo G v8 x3 h10) q1142 qG_J2_get (Nat.le_of_ble_eq_true rfl) (Nat.le_of_ble_eq_true rfl) rfl (dj_cat8 (Nat.le_of_ble_eq_true rfl)) dX8_holds_24 ?_
      obtain ⟨u11, h11, hf⟩ := dh_bd hf
      refine g_castO (ci := 9) rfl h11 q1143 dX8_holds_27 ?_
      refine g_aload_n dX8_holds_30 rfl (j := 1) rfl ?_
      obtain ⟨u12, h12, hf⟩ := dh_bd hf
      obtain ⟨p13, h13, hf⟩ := dh_bd hf
      refine g_callV (rc_O (ci := 9) rfl h12) (cG_X9_holds _ E Mo G p10 x1 h13) q1144 qG_X9_holds (Nat.le_of_ble_eq_true rfl) (Nat.le_of_ble_eq_true rfl) rfl (dj_cat8 (Nat.le_of_ble_eq_true rfl)) dX8_holds_31 ?_
      refine dg_l (fun _ _ _ _ _ _ _ hC => r_istore_n (lv' := [(2, .int p13), (0, dj_v E x0), (1, dj_v E x1), (3, .int x3)]) hC dX8_holds_34 rfl (Nat.le_of_ble_eq_true rfl) (by simp only [List.filter, dj_cat] <;> rfl)) ?_
      refine dg_l (fun _ _ _ _ _ _ _ hC => r_iinc (lv' := [(3, .int (x3 + 1)), (2, .int p13), (0, dj_v E x0), (1, dj_v E x1)]) hC dX8_holds_35 (j := 3) rfl (congrArg _ ki_1) (Nat.le_of_ble_eq_true rfl) rfl) ?_
      refine dg_l (fun _ _ _ _ _ _ _ hC => r_goto hC dX8_holds_38 (tgt := 4) (by decide)) ?_
      exact g_sub [2, 3, 1, 0] rfl (hk4 x0 x1 p13 (x3 + 1) hf)
def gG_X8_holds_L4 (G : dg_G) : Nat → Nat → Nat → Int32 → Int32 → Option Int32
  | 0 => fun _ _ _ _ => none
  | n + 1 => gG_X8_holds_L4_F (gG_X8_holds_L4 G n) G
theorem wG_X8_holds_L4 {l : Launch} {E : dj_E} {Mo : Option dm_M} {r : Int32} (G : dg_G) : ∀ (n : Nat) (x0 : Nat) (x1 : Nat) (x2 : Int32) (x3 : Int32) (_ : gG_X8_holds_L4 G n x0 x1 x2 x3 = some r), dgW tG_X8_holds l E Mo G (.inr (some (.int r))) G 4 [(0, dj_v E x0), (1, dj_v E x1), (2, .int x2), (3, .int x3)] [] := by
  intro n
  induction n with
  | zero => intro x0 x1 x2 x3 hf; exact dh_no hf
  | succ n ih => intro x0 x1 x2 x3 hf; exact wG_X8_holds_L4_F G (gG_X8_holds_L4 G n) ih x0 x1 x2 x3 hf
def gG_X8_holds (G : dg_G) (x0 : Nat) (x1 : Nat) : Option Int32 :=
  gG_X8_holds_L4 G dh_fu x0 x1 1 0
theorem wG_X8_holds {l : Launch} {E : dj_E} {Mo : Option dm_M} {r : Int32} (G : dg_G) (x0 : Nat) (x1 : Nat) (hf : gG_X8_holds G x0 x1 = some r) : dgW tG_X8_holds l E Mo G (.inr (some (.int r))) G 0 [(0, dj_v E x0), (1, dj_v E x1)] [] := by
  unfold gG_X8_holds at hf
  refine dg_l (fun _ _ _ _ _ _ _ hC => r_iconst hC dX8_holds_0 ki_1) ?_
  refine dg_l (fun _ _ _ _ _ _ _ hC => r_istore_n (lv' := [(2, .int 1), (0, dj_v E x0), (1, dj_v E x1)]) hC dX8_holds_1 rfl (Nat.le_of_ble_eq_true rfl) (by simp only [List.filter, dj_cat] <;> rfl)) ?_
  refine dg_l (fun _ _ _ _ _ _ _ hC => r_iconst hC dX8_holds_2 ki_0) ?_
  refine dg_l (fun _ _ _ _ _ _ _ hC => r_istore_n (lv' := [(3, .int 0), (2, .int 1), (0, dj_v E x0), (1, dj_v E x1)]) hC dX8_holds_3 rfl (Nat.le_of_ble_eq_true rfl) rfl) ?_
  exact g_sub [2, 3, 1, 0] rfl (wG_X8_holds_L4 G dh_fu x0 x1 1 0 hf)
theorem cG_X8_holds (l : Launch) (E : dj_E) (Mo : Option dm_M) (G : dg_G) (x0 : Nat) (x1 : Nat) {r : Int32} (h : gG_X8_holds G x0 x1 = some r) : dg_Met l yX8_holds cX8_holds 4 (some .boolean) 3 64 E Mo [dj_v E x0, dj_v E x1] G (some (.int r)) G :=
  dg_met (plainFor_of_name (by decide)) (by simp only [lg_sl_ref, lg_sl_int, lg_sl_long, lg_sl_nil]; decide) (by simp only [lv_args_ref, lv_args_int, lv_args_long, lv_args_nil]) (wG_X8_holds G x0 x1 h)
theorem qG_X8_holds : dg_cV "DebtorsHouse$Line" yX8_holds cX8_holds 4 (some .boolean) 1 := ⟨q1138, Or.inl q1139, q109, q1140, by decide, by decide, by decide +kernel⟩
