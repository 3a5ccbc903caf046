set_option maxRecDepth 100000
/-! java/util/ArrayList.add(Ljava/lang/Object;[Ljava/lang/Object;I)V -/
abbrev tG_J2_add_2 : dg_T := (cJ2_add_2, 4, RJ2, none, 5, 113, "add", [])
def gG_J2_add_2 (G : dg_G) (x0 : Nat) (x1 : Nat) (x2 : Nat) (x3 : Int32) : Option dg_G :=
  (dg_ln G x2).bind fun v1 =>
  if x3 = v1 then (
    (dg_is G 10 x0).bind fun u5 =>
    (gG_J2_grow G x0).bind fun p6 =>
    (dg_stR p6.2 54 p6.1 x3 x1).bind fun G7 =>
    (dg_pI G7 10 2 x0 (x3 + 1)).bind fun G8 =>
    some G8)
  else
  (dg_stR G 54 x2 x3 x1).bind fun G3 =>
  (dg_pI G3 10 2 x0 (x3 + 1)).bind fun G4 =>
  some G4
theorem wG_J2_add_2 {l : Launch} {E : dj_E} {Mo : Option dm_M} {G' : dg_G} (G : dg_G) (x0 : Nat) (x1 : Nat) (x2 : Nat) (x3 : Int32) (hf : gG_J2_add_2 G x0 x1 x2 x3 = some G') : dgW tG_J2_add_2 l E Mo G' (.inr none) G 0 [(0, dj_v E x0), (1, dj_v E x1), (2, dj_v E x2), (3, .int x3)] [] := by
  unfold gG_J2_add_2 at hf
  refine dg_l (fun _ _ _ _ _ _ _ hC => r_iload_n hC dJ2_add_2_0 rfl (j := 3) rfl) ?_
  refine g_aload_n dJ2_add_2_1 rfl (j := 2) rfl ?_
  obtain ⟨v1, h1, hf⟩ := dh_bd hf
  refine g_len h1 dJ2_add_2_2 ?_
  refine dg_bn (fun _ _ _ _ _ _ _ hC => r_icmp_ne hC dJ2_add_2_3 (tgt := 11) (by decide)) (fun c2 => ?_) (fun c2 => ?_)
  · have hf := dh_el hf c2
    refine g_aload_n dJ2_add_2_11 rfl (j := 2) rfl ?_
    refine dg_l (fun _ _ _ _ _ _ _ hC => r_iload_n hC dJ2_add_2_12 rfl (j := 3) rfl) ?_
    refine g_aload_n dJ2_add_2_13 rfl (j := 1) rfl ?_
    obtain ⟨G3, h3, hf⟩ := dh_bd hf
    refine g_aast 4 (by decide) h3 dJ2_add_2_14 ?_
    refine g_aload_n dJ2_add_2_15 rfl (j := 0) rfl ?_
    refine dg_l (fun _ _ _ _ _ _ _ hC => r_iload_n hC dJ2_add_2_16 rfl (j := 3) rfl) ?_
    refine dg_l (fun _ _ _ _ _ _ _ hC => r_iconst hC dJ2_add_2_17 ki_1) ?_
    refine dg_l (fun _ _ _ _ _ _ _ hC => r_iadd hC dJ2_add_2_18) ?_
    obtain ⟨G4, h4, hf⟩ := dh_bd hf
    refine g_putI fF_J2_48 (fun q => by cases q) (by decide) h4 dJ2_add_2_19 ?_
    exact g_vret dJ2_add_2_22 rfl hf
  · have hf := dh_if hf c2
    refine g_aload_n dJ2_add_2_6 rfl (j := 0) rfl ?_
    obtain ⟨u5, h5, hf⟩ := dh_bd hf
    obtain ⟨p6, h6, hf⟩ := dh_bd hf
    refine g_callV (rc_O (ci := 10) rfl h5) (cG_J2_grow _ E Mo G x0 h6) q338 qG_J2_grow (Nat.le_of_ble_eq_true rfl) (Nat.le_of_ble_eq_true rfl) rfl (dj_cat8 (Nat.le_of_ble_eq_true rfl)) dJ2_add_2_7 ?_
    refine g_astore_n (i := 2) (lv1 := [(2, dj_v E p6.1), (0, dj_v E x0), (1, dj_v E x1), (3, .int x3)]) dJ2_add_2_10 rfl (Nat.le_of_ble_eq_true rfl) (by simp only [List.filter, dj_cat] <;> rfl) ?_
    refine g_aload_n dJ2_add_2_11 rfl (j := 0) rfl ?_
    refine dg_l (fun _ _ _ _ _ _ _ hC => r_iload_n hC dJ2_add_2_12 rfl (j := 3) rfl) ?_
    refine g_aload_n dJ2_add_2_13 rfl (j := 2) rfl ?_
    obtain ⟨G7, h7, hf⟩ := dh_bd hf
    refine g_aast 4 (by decide) h7 dJ2_add_2_14 ?_
    refine g_aload_n dJ2_add_2_15 rfl (j := 1) rfl ?_
    refine dg_l (fun _ _ _ _ _ _ _ hC => r_iload_n hC dJ2_add_2_16 rfl (j := 3) rfl) ?_
    refine dg_l (fun _ _ _ _ _ _ _ hC => r_iconst hC dJ2_add_2_17 ki_1) ?_
    refine dg_l (fun _ _ _ _ _ _ _ hC => r_iadd hC dJ2_add_2_18) ?_
    obtain ⟨G8, h8, hf⟩ := dh_bd hf
    refine g_putI fF_J2_48 (fun q => by cases q) (by decide) h8 dJ2_add_2_19 ?_
    exact g_vret dJ2_add_2_22 rfl hf
theorem cG_J2_add_2 (l : Launch) (E : dj_E) (Mo : Option dm_M) (G : dg_G) (x0 : Nat) (x1 : Nat) (x2 : Nat) (x3 : Int32) {G' : dg_G} (h : gG_J2_add_2 G x0 x1 x2 x3 = some G') : dg_Met l yJ2_add_2 cJ2_add_2 4 none 5 113 E Mo [dj_v E x0, dj_v E x1, dj_v E x2, .int x3] G none G' :=
  dg_met (plainFor_of_name (by decide)) (by simp only [lg_sl_ref, lg_sl_int, lg_sl_long, lg_sl_nil]; decide) (by simp only [lv_args_ref, lv_args_int, lv_args_long, lv_args_nil]) (wG_J2_add_2 G x0 x1 x2 x3 h)
theorem qG_J2_add_2 : dg_cV "java/util/ArrayList" yJ2_add_2 cJ2_add_2 4 none 3 := ⟨q336, Or.inl qs0, q85, q337, by decide, by decide, by decide +kernel⟩
/-! java/util/ArrayList.add(Ljava/lang/Object;)Z -/
abbrev tG_J2_add : dg_T := (cJ2_add, 2, RJ2, (some .boolean), 6, 136, "add", [])
def gG_J2_add (G : dg_G) (x0 : Nat) (x1 : Nat) : Option (Int32 × dg_G) :=
  (dg_gI G 10 0 x0).bind fun v1 =>
  (dg_pI G 10 0 x0 (v1 + 1)).bind fun G2 =>
  (dg_gR G2 10 1 x0).bind fun v3 =>
  (dg_gI G2 10 2 x0).bind fun v4 =>
  (dg_is G2 10 x0).bind fun u5 =>
  (gG_J2_add_2 G2 x0 x1 v3 v4).bind fun p6 =>
  some (1, p6)
theorem wG_J2_add {l : Launch} {E : dj_E} {Mo : Option dm_M} {r : Int32} {G' : dg_G} (G : dg_G) (x0 : Nat) (x1 : Nat) (hf : gG_J2_add G x0 x1 = some (r, G')) : dgW tG_J2_add l E Mo G' (.inr (some (.int r))) G 0 [(0, dj_v E x0), (1, dj_v E x1)] [] := by
  unfold gG_J2_add at hf
  refine g_aload_n dJ2_add_0 rfl (j := 0) rfl ?_
  refine g_dup dJ2_add_1 ?_
  obtain ⟨v1, h1, hf⟩ := dh_bd hf
  refine g_getI fR_J2_63 (by decide) h1 dJ2_add_2 ?_
  refine dg_l (fun _ _ _ _ _ _ _ hC => r_iconst hC dJ2_add_5 ki_1) ?_
  refine dg_l (fun _ _ _ _ _ _ _ hC => r_iadd hC dJ2_add_6) ?_
  obtain ⟨G2, h2, hf⟩ := dh_bd hf
  refine g_putI fF_J2_63 (fun q => by cases q) (by decide) h2 dJ2_add_7 ?_
  refine g_aload_n dJ2_add_10 rfl (j := 0) rfl ?_
  refine g_aload_n dJ2_add_11 rfl (j := 1) rfl ?_
  refine g_aload_n dJ2_add_12 rfl (j := 0) rfl ?_
  obtain ⟨v3, h3, hf⟩ := dh_bd hf
  refine g_getR fR_J2_9 (by decide) h3 dJ2_add_13 ?_
  refine g_aload_n dJ2_add_16 rfl (j := 0) rfl ?_
  obtain ⟨v4, h4, hf⟩ := dh_bd hf
  refine g_getI fR_J2_48 (by decide) h4 dJ2_add_17 ?_
  obtain ⟨u5, h5, hf⟩ := dh_bd hf
  obtain ⟨p6, h6, hf⟩ := dh_bd hf
  refine g_callV (rc_O (ci := 10) rfl h5) (cG_J2_add_2 _ E Mo G2 x0 x1 v3 v4 h6) q334 qG_J2_add_2 (Nat.le_of_ble_eq_true rfl) (Nat.le_of_ble_eq_true rfl) rfl (dj_cat8 (Nat.le_of_ble_eq_true rfl)) dJ2_add_20 ?_
  refine dg_l (fun _ _ _ _ _ _ _ hC => r_iconst hC dJ2_add_23 ki_1) ?_
  exact g_zret dJ2_add_24 rfl rfl hf
theorem cG_J2_add (l : Launch) (E : dj_E) (Mo : Option dm_M) (G : dg_G) (x0 : Nat) (x1 : Nat) {p : Int32 × dg_G} (h : gG_J2_add G x0 x1 = some p) : dg_Met l yJ2_add cJ2_add 2 (some .boolean) 6 136 E Mo [dj_v E x0, dj_v E x1] G (some (.int p.1)) p.2 :=
  dg_met (plainFor_of_name (by decide)) (by simp only [lg_sl_ref, lg_sl_int, lg_sl_long, lg_sl_nil]; decide) (by simp only [lv_args_ref, lv_args_int, lv_args_long, lv_args_nil]) (wG_J2_add G x0 x1 h)
theorem qG_J2_add : dg_cV "java/util/ArrayList" yJ2_add cJ2_add 2 (some .boolean) 1 := ⟨q331, Or.inl q332, q85, q333, by decide, by decide, by decide +kernel⟩
/-! java/util/ArrayList.clear()V -/
abbrev tG_J2_clear : dg_T := (cJ2_clear, 4, RJ2, none, 0, 0, "clear", [])
def gG_J2_clear_L27_F (k27 : (dg_G → Nat → Int32 → Int32 → Option dg_G)) (G : dg_G) (x1 : Nat) (x2 : Int32) (x3 : Int32) : Option dg_G :=
  if x2 ≤ x3 then (
    some G)
  else
  (dg_stR G 54 x1 x3 0).bind fun G7 =>
  k27 G7 x1 x2 (x3 + 1)
theorem wG_J2_clear_L27_F {l : Launch} {E : dj_E} {Mo : Option dm_M} {G' : dg_G} (k27 : (dg_G → Nat → Int32 → Int32 → Option dg_G)) (hk27 : ∀ (G : dg_G) (x1 : Nat) (x2 : Int32) (x3 : Int32), k27 G x1 x2 x3 = some G' → dgW tG_J2_clear l E Mo G' (.inr none) G 27 [(1, dj_v E x1), (2, .int x2), (3, .int x3)] []) (G : dg_G) (x1 : Nat) (x2 : Int32) (x3 : Int32) (hf : gG_J2_clear_L27_F k27 G x1 x2 x3 = some G') : dgW tG_J2_clear l E Mo G' (.inr none) G 27 [(1, dj_v E x1), (2, .int x2), (3, .int x3)] [] := by
  unfold gG_J2_clear_L27_F at hf
  refine dg_l (fun _ _ _ _ _ _ _ hC => r_iload_n hC dJ2_clear_27 rfl (j := 2) rfl) ?_
  refine dg_l (fun _ _ _ _ _ _ _ hC => r_iload_n hC dJ2_clear_28 rfl (j := 1) rfl) ?_
  refine dg_b (fun _ _ _ _ _ _ _ hC => r_icmp_ge hC dJ2_clear_29 (tgt := 42) (by decide)) (fun c6 => ?_) (fun c6 => ?_)
  · have hf := dh_if hf c6
    exact g_vret dJ2_clear_42 rfl hf
  · have hf := dh_el hf c6
    refine g_aload_n dJ2_clear_32 rfl (j := 0) rfl ?_
    refine dg_l (fun _ _ _ _ _ _ _ hC => r_iload_n hC dJ2_clear_33 rfl (j := 2) rfl) ?_
    refine g_null dJ2_clear_34 ?_
    obtain ⟨G7, h7, hf⟩ := dh_bd hf
    refine g_aast 4 (by decide) h7 dJ2_clear_35 ?_
    refine dg_l (fun _ _ _ _ _ _ _ hC => r_iinc (lv' := [(3, .int (x3 + 1)), (1, dj_v E x1), (2, .int x2)]) hC dJ2_clear_36 (j := 2) rfl (congrArg _ ki_1) (Nat.le_of_ble_eq_true rfl) rfl) ?_
    refine dg_l (fun _ _ _ _ _ _ _ hC => r_goto hC dJ2_clear_39 (tgt := 27) (by decide)) ?_
    exact g_sub [1, 2, 0] rfl (hk27 G7 x1 x2 (x3 + 1) hf)
def gG_J2_clear_L27 : Nat → dg_G → Nat → Int32 → Int32 → Option dg_G
  | 0 => fun _ _ _ _ => none
  | n + 1 => gG_J2_clear_L27_F (gG_J2_clear_L27 n)
theorem wG_J2_clear_L27 {l : Launch} {E : dj_E} {Mo : Option dm_M} {G' : dg_G} : ∀ (n : Nat) (G : dg_G) (x1 : Nat) (x2 : Int32) (x3 : Int32) (_ : gG_J2_clear_L27 n G x1 x2 x3 = some G'), dgW tG_J2_clear l E Mo G' (.inr none) G 27 [(1, dj_v E x1), (2, .int x2), (3, .int x3)] [] := by
  intro n
  induction n with
  | zero => intro G x1 x2 x3 hf; exact dh_no hf
  | succ n ih => intro G x1 x2 x3 hf; exact wG_J2_clear_L27_F (gG_J2_clear_L27 n) ih G x1 x2 x3 hf
def gG_J2_clear (G : dg_G) (x0 : Nat) : Option dg_G :=
  (dg_gI G 10 0 x0).bind fun v1 =>
  (dg_pI G 10 0 x0 (v1 + 1)).bind fun G2 =>
  (dg_gR G2 10 1 x0).bind fun v3 =>
  (dg_gI G2 10 2 x0).bind fun v4 =>
  (dg_pI G2 10 2 x0 0).bind fun G5 =>
  gG_J2_clear_L27 dh_fu G5 v3 v4 0
theorem wG_J2_clear {l : Launch} {E : dj_E} {Mo : Option dm_M} {G' : dg_G} (G : dg_G) (x0 : Nat) (hf : gG_J2_clear G x0 = some G') : dgW tG_J2_clear l E Mo G' (.inr none) G 0 [(0, dj_v E x0)] [] := by
  unfold gG_J2_clear at hf
  refine g_aload_n dJ2_clear_0 rfl (j := 0) rfl ?_
  refine g_dup dJ2_clear_1 ?_
  obtain ⟨v1, h1, hf⟩ := dh_bd hf
  refine g_getI fR_J2_63 (by decide) h1 dJ2_clear_2 ?_
  refine dg_l (fun _ _ _ _ _ _ _ hC => r_iconst hC dJ2_clear_5 ki_1) ?_
  refine dg_l (fun _ _ _ _ _ _ _ hC => r_iadd hC dJ2_clear_6) ?_
  obtain ⟨G2, h2, hf⟩ := dh_bd hf
  refine g_putI fF_J2_63 (fun q => by cases q) (by decide) h2 dJ2_clear_7 ?_
  refine g_aload_n dJ2_clear_10 rfl (j := 0) rfl ?_
  obtain ⟨v3, h3, hf⟩ := dh_bd hf
  refine g_getR fR_J2_9 (by decide) h3 dJ2_clear_11 ?_
  refine g_astore_n (i := 1) (lv1 := [(1, dj_v E v3), (0, dj_v E x0)]) dJ2_clear_14 rfl (Nat.le_of_ble_eq_true rfl) (by simp only [List.filter, dj_cat] <;> rfl) ?_
  refine g_aload_n dJ2_clear_15 rfl (j := 1) rfl ?_
  obtain ⟨v4, h4, hf⟩ := dh_bd hf
  refine g_getI fR_J2_48 (by decide) h4 dJ2_clear_16 ?_
  refine dg_l (fun _ _ _ _ _ _ _ hC => r_istore_n (lv' := [(2, .int v4), (1, dj_v E v3), (0, dj_v E x0)]) hC dJ2_clear_19 rfl (Nat.le_of_ble_eq_true rfl) (by simp only [List.filter, dj_cat] <;> rfl)) ?_
  refine g_aload_n dJ2_clear_20 rfl (j := 2) rfl ?_
  refine dg_l (fun _ _ _ _ _ _ _ hC => r_iconst hC dJ2_clear_21 ki_0) ?_
  refine dg_l (fun _ _ _ _ _ _ _ hC => r_dup_x1 hC dJ2_clear_22 rfl (dj_cat E _)) ?_
  obtain ⟨G5, h5, hf⟩ := dh_bd hf
  refine g_putI fF_J2_48 (fun q => by cases q) (by decide) h5 dJ2_clear_23 ?_
  refine dg_l (fun _ _ _ _ _ _ _ hC => r_istore_n (lv' := [(3, .int 0), (2, .int v4), (1, dj_v E v3), (0, dj_v E x0)]) hC dJ2_clear_26 rfl (Nat.le_of_ble_eq_true rfl) rfl) ?_
  exact g_sub [2, 1, 0] rfl (wG_J2_clear_L27 dh_fu G5 v3 v4 0 hf)
theorem cG_J2_clear (l : Launch) (E : dj_E) (Mo : Option dm_M) (G : dg_G) (x0 : Nat) {G' : dg_G} (h : gG_J2_clear G x0 = some G') : dg_Met l yJ2_clear cJ2_clear 4 none 0 0 E Mo [dj_v E x0] G none G' :=
  dg_met (plainFor_of_name (by decide)) (by simp only [lg_sl_ref, lg_sl_int, lg_sl_long, lg_sl_nil]; decide) (by simp only [lv_args_ref, lv_args_int, lv_args_long, lv_args_nil]) (wG_J2_clear G x0 h)
theorem qG_J2_clear : dg_cV "java/util/ArrayList" yJ2_clear cJ2_clear 4 none 0 := ⟨q1348, Or.inl q1349, q85, q1350, by decide, by decide, by decide +kernel⟩
/-! java/util/ArrayList.toArray()[Ljava/lang/Object; -/
abbrev tG_J2_toArray : dg_T := (cJ2_toArray, 1, RJ2, (some (.array (.object "java/lang/Object"))), 3, 70, "toArray", [])
def gG_J2_toArray (G : dg_G) (x0 : Nat) : Option (Nat × dg_G) :=
  (dg_gR G 10 1 x0).bind fun v1 =>
  (dg_gI G 10 2 x0).bind fun v2 =>
  (gG_J3_copyOf G v1 v2).bind fun p3 =>
  some (p3.1, p3.2)
theorem wG_J2_toArray {l : Launch} {E : dj_E} {Mo : Option dm_M} {r : Nat} {G' : dg_G} (G : dg_G) (x0 : Nat) (hf : gG_J2_toArray G x0 = some (r, G')) : dgW tG_J2_toArray l E Mo G' (.inr (some (dj_v E r))) G 0 [(0, dj_v E x0)] [] := by
  unfold gG_J2_toArray at hf
  refine g_aload_n dJ2_toArray_0 rfl (j := 0) rfl ?_
  obtain ⟨v1, h1, hf⟩ := dh_bd hf
  refine g_getR fR_J2_9 (by decide) h1 dJ2_toArray_1 ?_
  refine g_aload_n dJ2_toArray_4 rfl (j := 0) rfl ?_
  obtain ⟨v2, h2, hf⟩ := dh_bd hf
  refine g_getI fR_J2_48 (by decide) h2 dJ2_toArray_5 ?_
  obtain ⟨p3, h3, hf⟩ := dh_bd hf
  refine g_callS (cG_J3_copyOf _ E Mo G v1 v2 h3) q358 qG_J3_copyOf (Nat.le_of_ble_eq_true rfl) (Nat.le_of_ble_eq_true rfl) rfl (dj_cat8 (Nat.le_of_ble_eq_true rfl)) dJ2_toArray_8 ?_
  exact g_aret dJ2_toArray_11 rfl (Or.inr ⟨_, rfl⟩) hf
theorem cG_J2_toArray (l : Launch) (E : dj_E) (Mo : Option dm_M) (G : dg_G) (x0 : Nat) {p : Nat × dg_G} (h : gG_J2_toArray G x0 = some p) : dg_Met l yJ2_toArray cJ2_toArray 1 (some (.array (.object "java/lang/Object"))) 3 70 E Mo [dj_v E x0] G (some (dj_v E p.1)) p.2 :=
  dg_met (plainFor_of_name (by decide)) (by simp only [lg_sl_ref, lg_sl_int, lg_sl_long, lg_sl_nil]; decide) (by simp only [lv_args_ref, lv_args_int, lv_args_long, lv_args_nil]) (wG_J2_toArray G x0 h)
/-! java/util/ArrayList.addAll(Ljava/util/Collection;)Z -/
abbrev tG_J2_addAll : dg_T := (cJ2_addAll, 6, RJ2, (some .boolean), 4, 93, "addAll", [])
def gG_J2_addAll_b56 (G : dg_G) (x0 : Nat) (x2 : Nat) (x3 : Int32) (x4 : Nat) (x5 : Int32) : Option (Int32 × dg_G) :=
  (dg_cpR G x2 0 x4 x5 x3).bind fun G11 =>
  (dg_pI G11 10 2 x0 (x5 + x3)).bind fun G12 =>
  some (1, G12)
theorem wG_J2_addAll_b56 {l : Launch} {E : dj_E} {Mo : Option dm_M} {r : Int32} {G' : dg_G} (G : dg_G) (x0 : Nat) (x2 : Nat) (x3 : Int32) (x4 : Nat) (x5 : Int32) (hf : gG_J2_addAll_b56 G x0 x2 x3 x4 x5 = some (r, G')) : dgW tG_J2_addAll l E Mo G' (.inr (some (.int r))) G 56 [(0, dj_v E x0), (2, dj_v E x2), (3, .int x3), (4, dj_v E x4), (5, .int x5)] [] := by
  unfold gG_J2_addAll_b56 at hf
  refine g_aload_n dJ2_addAll_56 rfl (j := 1) rfl ?_
  refine dg_l (fun _ _ _ _ _ _ _ hC => r_iconst hC dJ2_addAll_57 ki_0) ?_
  refine g_aload dJ2_addAll_58 (j := 3) rfl ?_
  refine dg_l (fun _ _ _ _ _ _ _ hC => r_iload hC dJ2_addAll_60 (j := 4) rfl) ?_
  refine dg_l (fun _ _ _ _ _ _ _ hC => r_iload_n hC dJ2_addAll_62 rfl (j := 2) rfl) ?_
  obtain ⟨G11, h11, hf⟩ := dh_bd hf
  refine g_copyR q1382 h11 (Nat.le_of_ble_eq_true rfl) (Nat.le_of_ble_eq_true rfl) dJ2_addAll_63 ?_
  refine g_aload_n dJ2_addAll_66 rfl (j := 0) rfl ?_
  refine dg_l (fun _ _ _ _ _ _ _ hC => r_iload hC dJ2_addAll_67 (j := 4) rfl) ?_
  refine dg_l (fun _ _ _ _ _ _ _ hC => r_iload_n hC dJ2_addAll_69 rfl (j := 2) rfl) ?_
  refine dg_l (fun _ _ _ _ _ _ _ hC => r_iadd hC dJ2_addAll_70) ?_
  obtain ⟨G12, h12, hf⟩ := dh_bd hf
  refine g_putI fF_J2_48 (fun q => by cases q) (by decide) h12 dJ2_addAll_71 ?_
  refine dg_l (fun _ _ _ _ _ _ _ hC => r_iconst hC dJ2_addAll_74 ki_1) ?_
  exact g_zret dJ2_addAll_75 rfl rfl hf
def gG_J2_addAll (G : dg_G) (x0 : Nat) (x1 : Nat) : Option (Int32 × dg_G) :=
  (dg_is G 10 x1).bind fun u1 =>
  (gG_J2_toArray G x1).bind fun p2 =>
  (dg_gI p2.2 10 0 x0).bind fun v3 =>
  (dg_pI p2.2 10 0 x0 (v3 + 1)).bind fun G4 =>
  (dg_ln G4 p2.1).bind fun v5 =>
  if v5 = 0 then (
    some (0, G4))
  else
  (dg_gR G4 10 1 x0).bind fun v7 =>
  (dg_ln G4 v7).bind fun v8 =>
  (dg_gI G4 10 2 x0).bind fun v9 =>
  if v5 ≤ (v8 - v9) then (
    gG_J2_addAll_b56 G4 x0 p2.1 v5 v7 v9)
  else
  (dg_is G4 10 x0).bind fun u13 =>
  (gG_J2_grow_2 G4 x0 (v9 + v5)).bind fun p14 =>
  gG_J2_addAll_b56 p14.2 x0 p2.1 v5 p14.1 v9
theorem wG_J2_addAll {l : Launch} {E : dj_E} {Mo : Option dm_M} {r : Int32} {G' : dg_G} (G : dg_G) (x0 : Nat) (x1 : Nat) (hf : gG_J2_addAll G x0 x1 = some (r, G')) : dgW tG_J2_addAll l E Mo G' (.inr (some (.int r))) G 0 [(0, dj_v E x0), (1, dj_v E x1)] [] := by
  unfold gG_J2_addAll at hf
  refine g_aload_n dJ2_addAll_0 rfl (j := 1) rfl ?_
  obtain ⟨u1, h1, hf⟩ := dh_bd hf
  obtain ⟨p2, h2, hf⟩ := dh_bd hf
  refine g_callF h1 (cG_J2_toArray _ E Mo G x1 h2) q1373 q1377 q1379 q85 q1381 (Nat.le_of_ble_eq_true rfl) (Nat.le_of_ble_eq_true rfl) rfl (dj_cat8 (Nat.le_of_ble_eq_true rfl)) dJ2_addAll_1 ?_
  refine g_astore_n (i := 2) (lv1 := [(2, dj_v E p2.1), (0, dj_v E x0), (1, dj_v E x1)]) dJ2_addAll_6 rfl (Nat.le_of_ble_eq_true rfl) (by simp only [List.filter, dj_cat] <;> rfl) ?_
  refine g_aload_n dJ2_addAll_7 rfl (j := 1) rfl ?_
  refine g_dup dJ2_addAll_8 ?_
  obtain ⟨v3, h3, hf⟩ := dh_bd hf
  refine g_getI fR_J2_63 (by decide) h3 dJ2_addAll_9 ?_
  refine dg_l (fun _ _ _ _ _ _ _ hC => r_iconst hC dJ2_addAll_12 ki_1) ?_
  refine dg_l (fun _ _ _ _ _ _ _ hC => r_iadd hC dJ2_addAll_13) ?_
  obtain ⟨G4, h4, hf⟩ := dh_bd hf
  refine g_putI fF_J2_63 (fun q => by cases q) (by decide) h4 dJ2_addAll_14 ?_
  refine g_aload_n dJ2_addAll_17 rfl (j := 0) rfl ?_
  obtain ⟨v5, h5, hf⟩ := dh_bd hf
  refine g_len h5 dJ2_addAll_18 ?_
  refine dg_l (fun _ _ _ _ _ _ _ hC => r_istore_n (lv' := [(3, .int v5), (2, dj_v E p2.1), (0, dj_v E x0), (1, dj_v E x1)]) hC dJ2_addAll_19 rfl (Nat.le_of_ble_eq_true rfl) (by simp only [List.filter, dj_cat] <;> rfl)) ?_
  refine dg_l (fun _ _ _ _ _ _ _ hC => r_iload_n hC dJ2_addAll_20 rfl (j := 0) rfl) ?_
  refine dg_bn (fun _ _ _ _ _ _ _ hC => r_if_ne hC dJ2_addAll_21 (tgt := 26) (by decide)) (fun c6 => ?_) (fun c6 => ?_)
  · have hf := dh_el hf c6
    refine dg_l (fun _ _ _ _ _ _ _ hC => r_iload_n hC dJ2_addAll_26 rfl (j := 0) rfl) ?_
    refine g_aload_n dJ2_addAll_27 rfl (j := 2) rfl ?_
    obtain ⟨v7, h7, hf⟩ := dh_bd hf
    refine g_getR fR_J2_9 (by decide) h7 dJ2_addAll_28 ?_
    refine g_dup dJ2_addAll_31 ?_
    refine g_astore (i := 4) (lv1 := [(4, dj_v E v7), (3, .int v5), (2, dj_v E p2.1), (0, dj_v E x0), (1, dj_v E x1)]) dJ2_addAll_32 (Nat.le_of_ble_eq_true rfl) rfl ?_
    obtain ⟨v8, h8, hf⟩ := dh_bd hf
    refine g_len h8 dJ2_addAll_34 ?_
    refine g_aload_n dJ2_addAll_35 rfl (j := 3) rfl ?_
    obtain ⟨v9, h9, hf⟩ := dh_bd hf
    refine g_getI fR_J2_48 (by decide) h9 dJ2_addAll_36 ?_
    refine dg_l (fun _ _ _ _ _ _ _ hC => r_dup hC dJ2_addAll_39 rfl) ?_
    refine dg_l (fun _ _ _ _ _ _ _ hC => r_istore (lv' := [(5, .int v9), (4, dj_v E v7), (3, .int v5), (2, dj_v E p2.1), (0, dj_v E x0), (1, dj_v E x1)]) hC dJ2_addAll_40 (Nat.le_of_ble_eq_true rfl) (by simp only [List.filter, dj_cat] <;> rfl)) ?_
    refine dg_l (fun _ _ _ _ _ _ _ hC => r_isub hC dJ2_addAll_42) ?_
    refine dg_b (fun _ _ _ _ _ _ _ hC => r_icmp_le hC dJ2_addAll_43 (tgt := 56) (by decide)) (fun c10 => ?_) (fun c10 => ?_)
    · have hf := dh_if hf c10
      exact g_sub [4, 3, 2, 1, 0] rfl (wG_J2_addAll_b56 G4 x0 p2.1 v5 v7 v9 hf)
    · have hf := dh_el hf c10
      refine g_aload_n dJ2_addAll_46 rfl (j := 4) rfl ?_
      refine dg_l (fun _ _ _ _ _ _ _ hC => r_iload hC dJ2_addAll_47 (j := 0) rfl) ?_
      refine dg_l (fun _ _ _ _ _ _ _ hC => r_iload_n hC dJ2_addAll_49 rfl (j := 2) rfl) ?_
      refine dg_l (fun _ _ _ _ _ _ _ hC => r_iadd hC dJ2_addAll_50) ?_
      obtain ⟨u13, h13, hf⟩ := dh_bd hf
      obtain ⟨p14, h14, hf⟩ := dh_bd hf
      refine g_callV (rc_O (ci := 10) rfl h13) (cG_J2_grow_2 _ E Mo G4 x0 (v9 + v5) h14) q342 qG_J2_grow_2 (Nat.le_of_ble_eq_true rfl) (Nat.le_of_ble_eq_true rfl) rfl (dj_cat8 (Nat.le_of_ble_eq_true rfl)) dJ2_addAll_51 ?_
      refine g_astore (i := 4) (lv1 := [(4, dj_v E p14.1), (5, .int v9), (3, .int v5), (2, dj_v E p2.1), (0, dj_v E x0), (1, dj_v E x1)]) dJ2_addAll_54 (Nat.le_of_ble_eq_true rfl) rfl ?_
      exact g_sub [4, 3, 2, 0, 1] rfl (wG_J2_addAll_b56 p14.2 x0 p2.1 v5 p14.1 v9 hf)
  · have hf := dh_if hf c6
    refine dg_l (fun _ _ _ _ _ _ _ hC => r_iconst hC dJ2_addAll_24 ki_0) ?_
    exact g_zret dJ2_addAll_25 rfl rfl hf
theorem cG_J2_addAll (l : Launch) (E : dj_E) (Mo : Option dm_M) (G : dg_G) (x0 : Nat) (x1 : Nat) {p : Int32 × dg_G} (h : gG_J2_addAll G x0 x1 = some p) : dg_Met l yJ2_addAll cJ2_addAll 6 (some .boolean) 4 93 E Mo [dj_v E x0, dj_v E x1] G (some (.int p.1)) p.2 :=
  dg_met (plainFor_of_name (by decide)) (by simp only [lg_sl_ref, lg_sl_int, lg_sl_long, lg_sl_nil]; decide) (by simp only [lv_args_ref, lv_args_int, lv_args_long, lv_args_nil]) (wG_J2_addAll G x0 x1 h)
theorem qG_J2_addAll : dg_cV "java/util/ArrayList" yJ2_addAll cJ2_addAll 6 (some .boolean) 1 := ⟨q1369, Or.inl q1370, q85, q1371, by decide, by decide, by decide +kernel⟩
/-! java/util/Arrays.copyOfRangeByte([BII)[B -/
abbrev tG_J3_copyOfRangeByte : dg_T := (cJ3_copyOfRangeByte, 5, RJ3, (some (.array .byte)), 1, 26, "copyOfRangeByte", [])
def gG_J3_copyOfRangeByte (G : dg_G) (x0 : Nat) (x1 : Int32) (x2 : Int32) : Option (Nat × dg_G) :=
  (gG_J3_checkLength G x1 x2).bind fun p1 =>
  (dg_new p1 51 (x2 - x1)).bind fun G2 =>
  (dg_lnB G2 x0).bind fun v3 =>
  (gG_J5_min G2 (v3 - x1) (x2 - x1)).bind fun p4 =>
  (dg_cpI G2 51 x0 x1 (dg_n p1) 0 p4).bind fun G5 =>
  some (dg_n p1, G5)
theorem wG_J3_copyOfRangeByte {l : Launch} {E : dj_E} {Mo : Option dm_M} {r : Nat} {G' : dg_G} (G : dg_G) (x0 : Nat) (x1 : Int32) (x2 : Int32) (hf : gG_J3_copyOfRangeByte G x0 x1 x2 = some (r, G')) : dgW tG_J3_copyOfRangeByte l E Mo G' (.inr (some (dj_v E r))) G 0 [(0, dj_v E x0), (1, .int x1), (2, .int x2)] [] := by
  unfold gG_J3_copyOfRangeByte at hf
  refine dg_l (fun _ _ _ _ _ _ _ hC => r_iload_n hC dJ3_copyOfRangeByte_0 rfl (j := 1) rfl) ?_
  refine dg_l (fun _ _ _ _ _ _ _ hC => r_iload_n hC dJ3_copyOfRangeByte_1 rfl (j := 2) rfl) ?_
  obtain ⟨p1, h1, hf⟩ := dh_bd hf
  refine g_callS (cG_J3_checkLength _ E Mo G x1 x2 h1) q759 qG_J3_checkLength (Nat.le_of_ble_eq_true rfl) (Nat.le_of_ble_eq_true rfl) rfl (dj_cat8 (Nat.le_of_ble_eq_true rfl)) dJ3_copyOfRangeByte_2 ?_
  refine dg_l (fun _ _ _ _ _ _ _ hC => r_iload_n hC dJ3_copyOfRangeByte_5 rfl (j := 2) rfl) ?_
  refine dg_l (fun _ _ _ _ _ _ _ hC => r_iload_n hC dJ3_copyOfRangeByte_6 rfl (j := 1) rfl) ?_
  refine dg_l (fun _ _ _ _ _ _ _ hC => r_isub hC dJ3_copyOfRangeByte_7) ?_
  refine dg_l (fun _ _ _ _ _ _ _ hC => r_istore_n (lv' := [(3, .int (x2 - x1)), (0, dj_v E x0), (1, .int x1), (2, .int x2)]) hC dJ3_copyOfRangeByte_8 rfl (Nat.le_of_ble_eq_true rfl) rfl) ?_
  refine dg_l (fun _ _ _ _ _ _ _ hC => r_iload_n hC dJ3_copyOfRangeByte_9 rfl (j := 0) rfl) ?_
  obtain ⟨G2, h2, hf⟩ := dh_bd hf
  refine g_newa 1 (atype := .byte) (ty := .byte) (by decide) rfl rfl (fun _ _ h => h) rfl (by decide) q156 h2 dJ3_copyOfRangeByte_10 ?_
  refine g_astore (i := 4) (lv1 := [(4, dj_v E (dg_n p1)), (3, .int (x2 - x1)), (0, dj_v E x0), (1, .int x1), (2, .int x2)]) dJ3_copyOfRangeByte_12 (Nat.le_of_ble_eq_true rfl) rfl ?_
  refine g_aload_n dJ3_copyOfRangeByte_14 rfl (j := 2) rfl ?_
  refine dg_l (fun _ _ _ _ _ _ _ hC => r_iload_n hC dJ3_copyOfRangeByte_15 rfl (j := 3) rfl) ?_
  refine g_aload dJ3_copyOfRangeByte_16 (j := 0) rfl ?_
  refine dg_l (fun _ _ _ _ _ _ _ hC => r_iconst hC dJ3_copyOfRangeByte_18 ki_0) ?_
  refine g_aload_n dJ3_copyOfRangeByte_19 rfl (j := 2) rfl ?_
  obtain ⟨v3, h3, hf⟩ := dh_bd hf
  refine g_lenB h3 dJ3_copyOfRangeByte_20 ?_
  refine dg_l (fun _ _ _ _ _ _ _ hC => r_iload_n hC dJ3_copyOfRangeByte_21 rfl (j := 3) rfl) ?_
  refine dg_l (fun _ _ _ _ _ _ _ hC => r_isub hC dJ3_copyOfRangeByte_22) ?_
  refine dg_l (fun _ _ _ _ _ _ _ hC => r_iload_n hC dJ3_copyOfRangeByte_23 rfl (j := 1) rfl) ?_
  obtain ⟨p4, h4, hf⟩ := dh_bd hf
  refine g_callS (cG_J5_min _ E Mo G2 (v3 - x1) (x2 - x1) h4) q387 qG_J5_min (Nat.le_of_ble_eq_true rfl) (Nat.le_of_ble_eq_true rfl) rfl (dj_cat8 (Nat.le_of_ble_eq_true rfl)) dJ3_copyOfRangeByte_24 ?_
  obtain ⟨G5, h5, hf⟩ := dh_bd hf
  refine g_copyI 1 (by decide) rfl rfl (fun _ h => dg_8 (h.resolve_left (by decide))) q390 h5 (Nat.le_of_ble_eq_true rfl) (Nat.le_of_ble_eq_true rfl) dJ3_copyOfRangeByte_27 ?_
  refine g_aload dJ3_copyOfRangeByte_30 (j := 0) rfl ?_
  exact g_aret dJ3_copyOfRangeByte_32 rfl (Or.inr ⟨_, rfl⟩) hf
theorem cG_J3_copyOfRangeByte (l : Launch) (E : dj_E) (Mo : Option dm_M) (G : dg_G) (x0 : Nat) (x1 : Int32) (x2 : Int32) {p : Nat × dg_G} (h : gG_J3_copyOfRangeByte G x0 x1 x2 = some p) : dg_Met l yJ3_copyOfRangeByte cJ3_copyOfRangeByte 5 (some (.array .byte)) 1 26 E Mo [dj_v E x0, .int x1, .int x2] G (some (dj_v E p.1)) p.2 :=
  dg_met (plainFor_of_name (by decide)) (by simp only [lg_sl_ref, lg_sl_int, lg_sl_long, lg_sl_nil]; decide) (by simp only [lv_args_ref, lv_args_int, lv_args_long, lv_args_nil]) (wG_J3_copyOfRangeByte G x0 x1 x2 h)
theorem qG_J3_copyOfRangeByte : dg_cS yJ3_copyOfRangeByte cJ3_copyOfRangeByte 5 (some (.array .byte)) 3 := ⟨q757, q86, q758, by decide, by decide, by decide +kernel⟩
/-! java/util/Arrays.copyOfRange([BII)[B -/
abbrev tG_J3_copyOfRange : dg_T := (cJ3_copyOfRange, 3, RJ3, (some (.array .byte)), 2, 50, "copyOfRange", [])
def gG_J3_copyOfRange (G : dg_G) (x0 : Nat) (x1 : Int32) (x2 : Int32) : Option (Nat × dg_G) :=
  if x1 = 0 then (
    (dg_lnB G x0).bind fun v3 =>
    if ¬ (x2 = v3) then (
      (gG_J3_copyOfRangeByte G x0 x1 x2).bind fun p7 =>
      some (p7.1, p7.2))
    else
    (dg_cln G x0).bind fun G5 =>
    (dg_is G5 50 (dg_n G)).bind fun u6 =>
    some (dg_n G, G5))
  else
  (gG_J3_copyOfRangeByte G x0 x1 x2).bind fun p2 =>
  some (p2.1, p2.2)
theorem wG_J3_copyOfRange {l : Launch} {E : dj_E} {Mo : Option dm_M} {r : Nat} {G' : dg_G} (G : dg_G) (x0 : Nat) (x1 : Int32) (x2 : Int32) (hf : gG_J3_copyOfRange G x0 x1 x2 = some (r, G')) : dgW tG_J3_copyOfRange l E Mo G' (.inr (some (dj_v E r))) G 0 [(0, dj_v E x0), (1, .int x1), (2, .int x2)] [] := by
  unfold gG_J3_copyOfRange at hf
  refine dg_l (fun _ _ _ _ _ _ _ hC => r_iload_n hC dJ3_copyOfRange_0 rfl (j := 1) rfl) ?_
  refine dg_bn (fun _ _ _ _ _ _ _ hC => r_if_ne hC dJ3_copyOfRange_1 (tgt := 10) (by decide)) (fun c1 => ?_) (fun c1 => ?_)
  · have hf := dh_el hf c1
    refine g_aload_n dJ3_copyOfRange_10 rfl (j := 0) rfl ?_
    refine dg_l (fun _ _ _ _ _ _ _ hC => r_iload_n hC dJ3_copyOfRange_11 rfl (j := 1) rfl) ?_
    refine dg_l (fun _ _ _ _ _ _ _ hC => r_iload_n hC dJ3_copyOfRange_12 rfl (j := 2) rfl) ?_
    obtain ⟨p2, h2, hf⟩ := dh_bd hf
    refine g_callS (cG_J3_copyOfRangeByte _ E Mo G x0 x1 x2 h2) q756 qG_J3_copyOfRangeByte (Nat.le_of_ble_eq_true rfl) (Nat.le_of_ble_eq_true rfl) rfl (dj_cat8 (Nat.le_of_ble_eq_true rfl)) dJ3_copyOfRange_13 ?_
    exact g_aret dJ3_copyOfRange_16 rfl (Or.inr ⟨_, rfl⟩) hf
  · have hf := dh_if hf c1
    refine dg_l (fun _ _ _ _ _ _ _ hC => r_iload_n hC dJ3_copyOfRange_4 rfl (j := 2) rfl) ?_
    refine g_aload_n dJ3_copyOfRange_5 rfl (j := 0) rfl ?_
    obtain ⟨v3, h3, hf⟩ := dh_bd hf
    refine g_lenB h3 dJ3_copyOfRange_6 ?_
    refine dg_b (fun _ _ _ _ _ _ _ hC => r_icmp_eq hC dJ3_copyOfRange_7 (tgt := 17) (by decide)) (fun c4 => ?_) (fun c4 => ?_)
    · have hf := dh_el hf (fun q => q c4)
      refine g_aload_n dJ3_copyOfRange_17 rfl (j := 0) rfl ?_
      obtain ⟨G5, h5, hf⟩ := dh_bd hf
      refine g_clone q675 h5 (Nat.le_of_ble_eq_true rfl) (Nat.le_of_ble_eq_true rfl) dJ3_copyOfRange_18 ?_
      obtain ⟨u6, h6, hf⟩ := dh_bd hf
      refine g_castB h6 q681 dJ3_copyOfRange_21 ?_
      exact g_aret dJ3_copyOfRange_24 rfl (Or.inr ⟨_, rfl⟩) hf
    · have hf := dh_if hf c4
      refine g_aload_n dJ3_copyOfRange_10 rfl (j := 0) rfl ?_
      refine dg_l (fun _ _ _ _ _ _ _ hC => r_iload_n hC dJ3_copyOfRange_11 rfl (j := 1) rfl) ?_
      refine dg_l (fun _ _ _ _ _ _ _ hC => r_iload_n hC dJ3_copyOfRange_12 rfl (j := 2) rfl) ?_
      obtain ⟨p7, h7, hf⟩ := dh_bd hf
      refine g_callS (cG_J3_copyOfRangeByte _ E Mo G x0 x1 x2 h7) q756 qG_J3_copyOfRangeByte (Nat.le_of_ble_eq_true rfl) (Nat.le_of_ble_eq_true rfl) rfl (dj_cat8 (Nat.le_of_ble_eq_true rfl)) dJ3_copyOfRange_13 ?_
      exact g_aret dJ3_copyOfRange_16 rfl (Or.inr ⟨_, rfl⟩) hf
theorem cG_J3_copyOfRange (l : Launch) (E : dj_E) (Mo : Option dm_M) (G : dg_G) (x0 : Nat) (x1 : Int32) (x2 : Int32) {p : Nat × dg_G} (h : gG_J3_copyOfRange G x0 x1 x2 = some p) : dg_Met l yJ3_copyOfRange cJ3_copyOfRange 3 (some (.array .byte)) 2 50 E Mo [dj_v E x0, .int x1, .int x2] G (some (dj_v E p.1)) p.2 :=
  dg_met (plainFor_of_name (by decide)) (by simp only [lg_sl_ref, lg_sl_int, lg_sl_long, lg_sl_nil]; decide) (by simp only [lv_args_ref, lv_args_int, lv_args_long, lv_args_nil]) (wG_J3_copyOfRange G x0 x1 x2 h)
theorem qG_J3_copyOfRange : dg_cS yJ3_copyOfRange cJ3_copyOfRange 3 (some (.array .byte)) 3 := ⟨q754, q86, q755, by decide, by decide, by decide +kernel⟩
/-! java/lang/AbstractStringBuilder.<init>(I)V -/
abbrev tG_J9_init : dg_T := (cJ9_init, 2, RJ9, none, 1, 20, "<init>", [])
def gG_J9_init (G : dg_G) (x0 : Nat) (x1 : Int32) : Option dg_G :=
  (dg_pos x0).bind fun u1 =>
  if (1 : Int32) = 0 then (
    none)
  else
  (dg_new G 51 x1).bind fun G3 =>
  (dg_pR G3 11 0 x0 (dg_n G)).bind fun G4 =>
  (dg_pB G4 11 1 x0 0).bind fun G5 =>
  some G5
theorem wG_J9_init {l : Launch} {E : dj_E} {Mo : Option dm_M} {G' : dg_G} (G : dg_G) (x0 : Nat) (x1 : Int32) (hf : gG_J9_init G x0 x1 = some G') : dgW tG_J9_init l E Mo G' (.inr none) G 0 [(0, dj_v E x0), (1, .int x1)] [] := by
  unfold gG_J9_init at hf
  refine g_aload_n dJ9_init_0 rfl (j := 0) rfl ?_
  obtain ⟨u1, h1, hf⟩ := dh_bd hf
  refine g_obj h1 q625 (Nat.le_of_ble_eq_true rfl) (Nat.le_of_ble_eq_true rfl) dJ9_init_1 ?_
  refine g_getsC q626 dJ9_init_4 ?_
  refine dg_b (fun _ _ _ _ _ _ _ hC => r_if_eq hC dJ9_init_7 (tgt := 25) (by decide)) (fun c2 => ?_) (fun c2 => ?_)
  · have hf := dh_if hf c2
    exact dh_no hf
  · have hf := dh_el hf c2
    refine g_aload_n dJ9_init_10 rfl (j := 0) rfl ?_
    refine dg_l (fun _ _ _ _ _ _ _ hC => r_iload_n hC dJ9_init_11 rfl (j := 1) rfl) ?_
    obtain ⟨G3, h3, hf⟩ := dh_bd hf
    refine g_newa 1 (atype := .byte) (ty := .byte) (by decide) rfl rfl (fun _ _ h => h) rfl (by decide) q156 h3 dJ9_init_12 ?_
    obtain ⟨G4, h4, hf⟩ := dh_bd hf
    refine g_putR fF_J9_15 (Or.inr ⟨_, rfl⟩) (fun q => by cases q) (by decide) h4 dJ9_init_14 ?_
    refine g_aload_n dJ9_init_17 rfl (j := 0) rfl ?_
    refine dg_l (fun _ _ _ _ _ _ _ hC => r_iconst hC dJ9_init_18 ki_0) ?_
    obtain ⟨G5, h5, hf⟩ := dh_bd hf
    refine g_putB fF_J9_22 (fun q => by cases q) (by decide) h5 dJ9_init_19 ?_
    refine dg_l (fun _ _ _ _ _ _ _ hC => r_goto hC dJ9_init_22 (tgt := 38) (by decide)) ?_
    exact g_vret dJ9_init_38 rfl hf
theorem cG_J9_init (l : Launch) (E : dj_E) (Mo : Option dm_M) (G : dg_G) (x0 : Nat) (x1 : Int32) {G' : dg_G} (h : gG_J9_init G x0 x1 = some G') : dg_Met l yJ9_init cJ9_init 2 none 1 20 E Mo [dj_v E x0, .int x1] G none G' :=
  dg_met (plainFor_of_name (by decide)) (by simp only [lg_sl_ref, lg_sl_int, lg_sl_long, lg_sl_nil]; decide) (by simp only [lv_args_ref, lv_args_int, lv_args_long, lv_args_nil]) (wG_J9_init G x0 x1 h)
theorem qG_J9_init : dg_cI yJ9_init cJ9_init 2 1 := ⟨q623, q100, q624, rfl, by decide, by decide, by decide +kernel⟩
/-! java/lang/StringBuilder.<init>(I)V -/
abbrev tG_J10_init : dg_T := (cJ10_init, 2, RJ10, none, 2, 41, "<init>", [])
def gG_J10_init (G : dg_G) (x0 : Nat) (x1 : Int32) : Option dg_G :=
  (dg_pos x0).bind fun u1 =>
  (gG_J9_init G x0 x1).bind fun p2 =>
  some p2
theorem wG_J10_init {l : Launch} {E : dj_E} {Mo : Option dm_M} {G' : dg_G} (G : dg_G) (x0 : Nat) (x1 : Int32) (hf : gG_J10_init G x0 x1 = some G') : dgW tG_J10_init l E Mo G' (.inr none) G 0 [(0, dj_v E x0), (1, .int x1)] [] := by
  unfold gG_J10_init at hf
  refine g_aload_n dJ10_init_0 rfl (j := 0) rfl ?_
  refine dg_l (fun _ _ _ _ _ _ _ hC => r_iload_n hC dJ10_init_1 rfl (j := 1) rfl) ?_
  obtain ⟨u1, h1, hf⟩ := dh_bd hf
  obtain ⟨p2, h2, hf⟩ := dh_bd hf
  refine g_callI h1 (cG_J9_init _ E Mo G x0 x1 h2) q622 qG_J9_init (Nat.le_of_ble_eq_true rfl) (Nat.le_of_ble_eq_true rfl) rfl (dj_cat8 (Nat.le_of_ble_eq_true rfl)) dJ10_init_2 ?_
  exact g_vret dJ10_init_5 rfl hf
theorem cG_J10_init (l : Launch) (E : dj_E) (Mo : Option dm_M) (G : dg_G) (x0 : Nat) (x1 : Int32) {G' : dg_G} (h : gG_J10_init G x0 x1 = some G') : dg_Met l yJ10_init cJ10_init 2 none 2 41 E Mo [dj_v E x0, .int x1] G none G' :=
  dg_met (plainFor_of_name (by decide)) (by simp only [lg_sl_ref, lg_sl_int, lg_sl_long, lg_sl_nil]; decide) (by simp only [lv_args_ref, lv_args_int, lv_args_long, lv_args_nil]) (wG_J10_init G x0 x1 h)
theorem qG_J10_init : dg_cI yJ10_init cJ10_init 2 1 := ⟨q620, q101, q621, rfl, by decide, by decide, by decide +kernel⟩
/-! java/lang/AbstractStringBuilder.isLatin1()Z -/
abbrev tG_J9_isLatin1 : dg_T := (cJ9_isLatin1, 1, RJ9, (some .boolean), 0, 0, "isLatin1", [])
def gG_J9_isLatin1 (G : dg_G) (x0 : Nat) : Option Int32 :=
  if (1 : Int32) = 0 then (
    some 0)
  else
  (dg_gI G 11 1 x0).bind fun v2 =>
  if v2 = 0 then (
    some 1)
  else
  some 0
theorem wG_J9_isLatin1 {l : Launch} {E : dj_E} {Mo : Option dm_M} {r : Int32} (G : dg_G) (x0 : Nat) (hf : gG_J9_isLatin1 G x0 = some r) : dgW tG_J9_isLatin1 l E Mo G (.inr (some (.int r))) G 0 [(0, dj_v E x0)] [] := by
  unfold gG_J9_isLatin1 at hf
  refine g_getsC q626 dJ9_isLatin1_0 ?_
  refine dg_b (fun _ _ _ _ _ _ _ hC => r_if_eq hC dJ9_isLatin1_3 (tgt := 17) (by decide)) (fun c1 => ?_) (fun c1 => ?_)
  · have hf := dh_if hf c1
    refine dg_l (fun _ _ _ _ _ _ _ hC => r_iconst hC dJ9_isLatin1_17 ki_0) ?_
    exact g_zret1 dJ9_isLatin1_18 rfl rfl hf
  · have hf := dh_el hf c1
    refine g_aload_n dJ9_isLatin1_6 rfl (j := 0) rfl ?_
    obtain ⟨v2, h2, hf⟩ := dh_bd hf
    refine g_getI fR_J9_22 (by decide) h2 dJ9_isLatin1_7 ?_
    refine dg_bn (fun _ _ _ _ _ _ _ hC => r_if_ne hC dJ9_isLatin1_10 (tgt := 17) (by decide)) (fun c3 => ?_) (fun c3 => ?_)
    · have hf := dh_el hf c3
      refine dg_l (fun _ _ _ _ _ _ _ hC => r_iconst hC dJ9_isLatin1_17 ki_0) ?_
      exact g_zret1 dJ9_isLatin1_18 rfl rfl hf
    · have hf := dh_if hf c3
      refine dg_l (fun _ _ _ _ _ _ _ hC => r_iconst hC dJ9_isLatin1_13 ki_1) ?_
      refine dg_l (fun _ _ _ _ _ _ _ hC => r_goto hC dJ9_isLatin1_14 (tgt := 18) (by decide)) ?_
      exact g_zret1 dJ9_isLatin1_18 rfl rfl hf
theorem cG_J9_isLatin1 (l : Launch) (E : dj_E) (Mo : Option dm_M) (G : dg_G) (x0 : Nat) {r : Int32} (h : gG_J9_isLatin1 G x0 = some r) : dg_Met l yJ9_isLatin1 cJ9_isLatin1 1 (some .boolean) 0 0 E Mo [dj_v E x0] G (some (.int r)) G :=
  dg_met (plainFor_of_name (by decide)) (by simp only [lg_sl_ref, lg_sl_int, lg_sl_long, lg_sl_nil]; decide) (by simp only [lv_args_ref, lv_args_int, lv_args_long, lv_args_nil]) (wG_J9_isLatin1 G x0 h)
theorem qG_J9_isLatin1 : dg_cV "java/lang/StringBuilder" yJ9_isLatin1 cJ9_isLatin1 1 (some .boolean) 0 := ⟨q683, Or.inl q685, q100, q686, by decide, by decide, by decide +kernel⟩
/-! java/lang/AbstractStringBuilder.getValue()[B -/
abbrev tG_J9_getValue : dg_T := (cJ9_getValue, 1, RJ9, (some (.array .byte)), 0, 0, "getValue", [])
def gG_J9_getValue (G : dg_G) (x0 : Nat) : Option Nat :=
  (dg_gR G 11 0 x0).bind fun v1 =>
  some v1
theorem wG_J9_getValue {l : Launch} {E : dj_E} {Mo : Option dm_M} {r : Nat} (G : dg_G) (x0 : Nat) (hf : gG_J9_getValue G x0 = some r) : dgW tG_J9_getValue l E Mo G (.inr (some (dj_v E r))) G 0 [(0, dj_v E x0)] [] := by
  unfold gG_J9_getValue at hf
  refine g_aload_n dJ9_getValue_0 rfl (j := 0) rfl ?_
  obtain ⟨v1, h1, hf⟩ := dh_bd hf
  refine g_getR fR_J9_15 (by decide) h1 dJ9_getValue_1 ?_
  exact g_aret1 dJ9_getValue_4 rfl (Or.inr ⟨_, rfl⟩) hf
theorem cG_J9_getValue (l : Launch) (E : dj_E) (Mo : Option dm_M) (G : dg_G) (x0 : Nat) {r : Nat} (h : gG_J9_getValue G x0 = some r) : dg_Met l yJ9_getValue cJ9_getValue 1 (some (.array .byte)) 0 0 E Mo [dj_v E x0] G (some (dj_v E r)) G :=
  dg_met (plainFor_of_name (by decide)) (by simp only [lg_sl_ref, lg_sl_int, lg_sl_long, lg_sl_nil]; decide) (by simp only [lv_args_ref, lv_args_int, lv_args_long, lv_args_nil]) (wG_J9_getValue G x0 h)
theorem qG_J9_getValue : dg_cV "java/lang/StringBuilder" yJ9_getValue cJ9_getValue 1 (some (.array .byte)) 0 := ⟨q747, Or.inl q749, q100, q750, by decide, by decide, by decide +kernel⟩
/-! java/lang/AbstractStringBuilder.length()I -/
abbrev tG_J9_length : dg_T := (cJ9_length, 1, RJ9, (some .int), 0, 0, "length", [])
def gG_J9_length (G : dg_G) (x0 : Nat) : Option Int32 :=
  (dg_gI G 11 3 x0).bind fun v1 =>
  some v1
theorem wG_J9_length {l : Launch} {E : dj_E} {Mo : Option dm_M} {r : Int32} (G : dg_G) (x0 : Nat) (hf : gG_J9_length G x0 = some r) : dgW tG_J9_length l E Mo G (.inr (some (.int r))) G 0 [(0, dj_v E x0)] [] := by
  unfold gG_J9_length at hf
  refine g_aload_n dJ9_length_0 rfl (j := 0) rfl ?_
  obtain ⟨v1, h1, hf⟩ := dh_bd hf
  refine g_getI fR_J9_79 (by decide) h1 dJ9_length_1 ?_
  exact g_iret1 dJ9_length_4 rfl hf
theorem cG_J9_length (l : Launch) (E : dj_E) (Mo : Option dm_M) (G : dg_G) (x0 : Nat) {r : Int32} (h : gG_J9_length G x0 = some r) : dg_Met l yJ9_length cJ9_length 1 (some .int) 0 0 E Mo [dj_v E x0] G (some (.int r)) G :=
  dg_met (plainFor_of_name (by decide)) (by simp only [lg_sl_ref, lg_sl_int, lg_sl_long, lg_sl_nil]; decide) (by simp only [lv_args_ref, lv_args_int, lv_args_long, lv_args_nil]) (wG_J9_length G x0 h)
theorem qG_J9_length : dg_cU yJ9_length cJ9_length 1 (some .int) 0 := ⟨q653, q100, q654, by decide, by decide, by decide +kernel⟩
/-! java/lang/StringBuilder.length()I -/
abbrev tG_J10_length : dg_T := (cJ10_length, 1, RJ10, (some .int), 1, 20, "length", [])
def gG_J10_length (G : dg_G) (x0 : Nat) : Option Int32 :=
  (dg_is G 11 x0).bind fun u1 =>
  (gG_J9_length G x0).bind fun p2 =>
  some p2
theorem wG_J10_length {l : Launch} {E : dj_E} {Mo : Option dm_M} {r : Int32} (G : dg_G) (x0 : Nat) (hf : gG_J10_length G x0 = some r) : dgW tG_J10_length l E Mo G (.inr (some (.int r))) G 0 [(0, dj_v E x0)] [] := by
  unfold gG_J10_length at hf
  refine g_aload_n dJ10_length_0 rfl (j := 0) rfl ?_
  obtain ⟨u1, h1, hf⟩ := dh_bd hf
  obtain ⟨p2, h2, hf⟩ := dh_bd hf
  refine g_callSU h1 (cG_J9_length _ E Mo G x0 h2) q652 q1999 q647 (by decide) qG_J9_length (Nat.le_of_ble_eq_true rfl) (Nat.le_of_ble_eq_true rfl) rfl (dj_cat8 (Nat.le_of_ble_eq_true rfl)) dJ10_length_1 ?_
  exact g_iret1 dJ10_length_4 rfl hf
theorem cG_J10_length (l : Launch) (E : dj_E) (Mo : Option dm_M) (G : dg_G) (x0 : Nat) {r : Int32} (h : gG_J10_length G x0 = some r) : dg_Met l yJ10_length cJ10_length 1 (some .int) 1 20 E Mo [dj_v E x0] G (some (.int r)) G :=
  dg_met (plainFor_of_name (by decide)) (by simp only [lg_sl_ref, lg_sl_int, lg_sl_long, lg_sl_nil]; decide) (by simp only [lv_args_ref, lv_args_int, lv_args_long, lv_args_nil]) (wG_J10_length G x0 h)
theorem qG_J10_length : dg_cV "java/lang/StringBuilder" yJ10_length cJ10_length 1 (some .int) 0 := ⟨q649, Or.inl q650, q101, q651, by decide, by decide, by decide +kernel⟩
/-! java/lang/AbstractStringBuilder.ensureCapacityInternal(I)V -/
abbrev tG_J9_ensureCapacityInternal : dg_T := (cJ9_ensureCapacityInternal, 3, RJ9, none, 0, 0, "ensureCapacityInternal", [])
def gG_J9_ensureCapacityInternal (G : dg_G) (x0 : Nat) (x1 : Int32) : Option dg_G :=
  (dg_gR G 11 0 x0).bind fun v1 =>
  (dg_lnB G v1).bind fun v2 =>
  (dg_gI G 11 1 x0).bind fun v3 =>
  if (x1 - (v2 >>> (v3 &&& 31))) ≤ 0 then (
    some G)
  else
  none
theorem wG_J9_ensureCapacityInternal {l : Launch} {E : dj_E} {Mo : Option dm_M} {G' : dg_G} (G : dg_G) (x0 : Nat) (x1 : Int32) (hf : gG_J9_ensureCapacityInternal G x0 x1 = some G') : dgW tG_J9_ensureCapacityInternal l E Mo G' (.inr none) G 0 [(0, dj_v E x0), (1, .int x1)] [] := by
  unfold gG_J9_ensureCapacityInternal at hf
  refine g_aload_n dJ9_ensureCapacityInternal_0 rfl (j := 0) rfl ?_
  obtain ⟨v1, h1, hf⟩ := dh_bd hf
  refine g_getR fR_J9_15 (by decide) h1 dJ9_ensureCapacityInternal_1 ?_
  obtain ⟨v2, h2, hf⟩ := dh_bd hf
  refine g_lenB h2 dJ9_ensureCapacityInternal_4 ?_
  refine g_aload_n dJ9_ensureCapacityInternal_5 rfl (j := 0) rfl ?_
  obtain ⟨v3, h3, hf⟩ := dh_bd hf
  refine g_getI fR_J9_22 (by decide) h3 dJ9_ensureCapacityInternal_6 ?_
  refine dg_l (fun _ _ _ _ _ _ _ hC => r_ishr hC dJ9_ensureCapacityInternal_9) ?_
  refine dg_l (fun _ _ _ _ _ _ _ hC => r_istore_n (lv' := [(2, .int (v2 >>> (v3 &&& 31))), (0, dj_v E x0), (1, .int x1)]) hC dJ9_ensureCapacityInternal_10 rfl (Nat.le_of_ble_eq_true rfl) rfl) ?_
  refine dg_l (fun _ _ _ _ _ _ _ hC => r_iload_n hC dJ9_ensureCapacityInternal_11 rfl (j := 2) rfl) ?_
  refine dg_l (fun _ _ _ _ _ _ _ hC => r_iload_n hC dJ9_ensureCapacityInternal_12 rfl (j := 0) rfl) ?_
  refine dg_l (fun _ _ _ _ _ _ _ hC => r_isub hC dJ9_ensureCapacityInternal_13) ?_
  refine dg_b (fun _ _ _ _ _ _ _ hC => r_if_le hC dJ9_ensureCapacityInternal_14 (tgt := 38) (by decide)) (fun c4 => ?_) (fun c4 => ?_)
  · have hf := dh_if hf c4
    exact g_vret dJ9_ensureCapacityInternal_38 rfl hf
  · have hf := dh_el hf c4
    exact dh_no hf
theorem cG_J9_ensureCapacityInternal (l : Launch) (E : dj_E) (Mo : Option dm_M) (G : dg_G) (x0 : Nat) (x1 : Int32) {G' : dg_G} (h : gG_J9_ensureCapacityInternal G x0 x1 = some G') : dg_Met l yJ9_ensureCapacityInternal cJ9_ensureCapacityInternal 3 none 0 0 E Mo [dj_v E x0, .int x1] G none G' :=
  dg_met (plainFor_of_name (by decide)) (by simp only [lg_sl_ref, lg_sl_int, lg_sl_long, lg_sl_nil]; decide) (by simp only [lv_args_ref, lv_args_int, lv_args_long, lv_args_nil]) (wG_J9_ensureCapacityInternal G x0 x1 h)
theorem qG_J9_ensureCapacityInternal : dg_cV "java/lang/StringBuilder" yJ9_ensureCapacityInternal cJ9_ensureCapacityInternal 3 none 1 := ⟨q664, Or.inr rfl, q100, q665, by decide, by decide, by decide +kernel⟩
/-! java/lang/StringLatin1.canEncode(C)Z -/
abbrev tG_J13_canEncode : dg_T := (cJ13_canEncode, 1, RJ13, (some .boolean), 0, 0, "canEncode", [])
def gG_J13_canEncode (G : dg_G) (x0 : Int32) : Option Int32 :=
  if 255 < x0 then (
    some 0)
  else
  some 1
theorem wG_J13_canEncode {l : Launch} {E : dj_E} {Mo : Option dm_M} {r : Int32} (G : dg_G) (x0 : Int32) (hf : gG_J13_canEncode G x0 = some r) : dgW tG_J13_canEncode l E Mo G (.inr (some (.int r))) G 0 [(0, .int x0)] [] := by
  unfold gG_J13_canEncode at hf
  refine dg_l (fun _ _ _ _ _ _ _ hC => r_iload_n hC dJ13_canEncode_0 rfl (j := 0) rfl) ?_
  refine dg_l (fun _ _ _ _ _ _ _ hC => r_sipush hC dJ13_canEncode_1 ks_255) ?_
  refine dg_b (fun _ _ _ _ _ _ _ hC => r_icmp_gt hC dJ13_canEncode_4 (tgt := 11) (by decide)) (fun c1 => ?_) (fun c1 => ?_)
  · have hf := dh_if hf c1
    refine dg_l (fun _ _ _ _ _ _ _ hC => r_iconst hC dJ13_canEncode_11 ki_0) ?_
    exact g_zret1 dJ13_canEncode_12 rfl rfl hf
  · have hf := dh_el hf c1
    refine dg_l (fun _ _ _ _ _ _ _ hC => r_iconst hC dJ13_canEncode_7 ki_1) ?_
    refine dg_l (fun _ _ _ _ _ _ _ hC => r_goto hC dJ13_canEncode_8 (tgt := 12) (by decide)) ?_
    exact g_zret1 dJ13_canEncode_12 rfl rfl hf
theorem cG_J13_canEncode (l : Launch) (E : dj_E) (Mo : Option dm_M) (G : dg_G) (x0 : Int32) {r : Int32} (h : gG_J13_canEncode G x0 = some r) : dg_Met l yJ13_canEncode cJ13_canEncode 1 (some .boolean) 0 0 E Mo [.int x0] G (some (.int r)) G :=
  dg_met (plainFor_of_name (by decide)) (by simp only [lg_sl_ref, lg_sl_int, lg_sl_long, lg_sl_nil]; decide) (by simp only [lv_args_ref, lv_args_int, lv_args_long, lv_args_nil]) (wG_J13_canEncode G x0 h)
theorem qG_J13_canEncode : dg_cS yJ13_canEncode cJ13_canEncode 1 (some .boolean) 1 := ⟨q688, q104, q689, by decide, by decide, by decide +kernel⟩
/-! java/lang/StringLatin1.canEncode(I)Z -/
abbrev tG_J13_canEncode_2 : dg_T := (cJ13_canEncode_2, 1, RJ13, (some .boolean), 0, 0, "canEncode", [])
def gG_J13_canEncode_2 (G : dg_G) (x0 : Int32) : Option Int32 :=
  if x0 < 0 then (
    some 0)
  else
  if 255 < x0 then (
    some 0)
  else
  some 1
theorem wG_J13_canEncode_2 {l : Launch} {E : dj_E} {Mo : Option dm_M} {r : Int32} (G : dg_G) (x0 : Int32) (hf : gG_J13_canEncode_2 G x0 = some r) : dgW tG_J13_canEncode_2 l E Mo G (.inr (some (.int r))) G 0 [(0, .int x0)] [] := by
  unfold gG_J13_canEncode_2 at hf
  refine dg_l (fun _ _ _ _ _ _ _ hC => r_iload_n hC dJ13_canEncode_2_0 rfl (j := 0) rfl) ?_
  refine dg_b (fun _ _ _ _ _ _ _ hC => r_if_lt hC dJ13_canEncode_2_1 (tgt := 15) (by decide)) (fun c1 => ?_) (fun c1 => ?_)
  · have hf := dh_if hf c1
    refine dg_l (fun _ _ _ _ _ _ _ hC => r_iconst hC dJ13_canEncode_2_15 ki_0) ?_
    exact g_zret1 dJ13_canEncode_2_16 rfl rfl hf
  · have hf := dh_el hf c1
    refine dg_l (fun _ _ _ _ _ _ _ hC => r_iload_n hC dJ13_canEncode_2_4 rfl (j := 0) rfl) ?_
    refine dg_l (fun _ _ _ _ _ _ _ hC => r_sipush hC dJ13_canEncode_2_5 ks_255) ?_
    refine dg_b (fun _ _ _ _ _ _ _ hC => r_icmp_gt hC dJ13_canEncode_2_8 (tgt := 15) (by decide)) (fun c2 => ?_) (fun c2 => ?_)
    · have hf := dh_if hf c2
      refine dg_l (fun _ _ _ _ _ _ _ hC => r_iconst hC dJ13_canEncode_2_15 ki_0) ?_
      exact g_zret1 dJ13_canEncode_2_16 rfl rfl hf
    · have hf := dh_el hf c2
      refine dg_l (fun _ _ _ _ _ _ _ hC => r_iconst hC dJ13_canEncode_2_11 ki_1) ?_
      refine dg_l (fun _ _ _ _ _ _ _ hC => r_goto hC dJ13_canEncode_2_12 (tgt := 16) (by decide)) ?_
      exact g_zret1 dJ13_canEncode_2_16 rfl rfl hf
theorem cG_J13_canEncode_2 (l : Launch) (E : dj_E) (Mo : Option dm_M) (G : dg_G) (x0 : Int32) {r : Int32} (h : gG_J13_canEncode_2 G x0 = some r) : dg_Met l yJ13_canEncode_2 cJ13_canEncode_2 1 (some .boolean) 0 0 E Mo [.int x0] G (some (.int r)) G :=
  dg_met (plainFor_of_name (by decide)) (by simp only [lg_sl_ref, lg_sl_int, lg_sl_long, lg_sl_nil]; decide) (by simp only [lv_args_ref, lv_args_int, lv_args_long, lv_args_nil]) (wG_J13_canEncode_2 G x0 h)
theorem qG_J13_canEncode_2 : dg_cS yJ13_canEncode_2 cJ13_canEncode_2 1 (some .boolean) 1 := ⟨q821, q104, q822, by decide, by decide, by decide +kernel⟩
/-! java/lang/AbstractStringBuilder.append(C)Ljava/lang/AbstractStringBuilder; -/
abbrev tG_J9_append : dg_T := (cJ9_append, 2, RJ9, (some (.object "java/lang/AbstractStringBuilder")), 1, 22, "append", [])
def gG_J9_append_b45 (G : dg_G) (x0 : Nat) (x1 : Int32) : Option (Nat × dg_G) :=
  (dg_is G 11 x0).bind fun u7 =>
  (gG_J9_isLatin1 G x0).bind fun p8 =>
  if p8 = 0 then (
    none)
  else
  none
theorem wG_J9_append_b45 {l : Launch} {E : dj_E} {Mo : Option dm_M} {r : Nat} {G' : dg_G} (G : dg_G) (x0 : Nat) (x1 : Int32) (hf : gG_J9_append_b45 G x0 x1 = some (r, G')) : dgW tG_J9_append l E Mo G' (.inr (some (dj_v E r))) G 45 [(0, dj_v E x0), (1, .int x1)] [] := by
  unfold gG_J9_append_b45 at hf
  refine g_aload_n dJ9_append_45 rfl (j := 0) rfl ?_
  obtain ⟨u7, h7, hf⟩ := dh_bd hf
  obtain ⟨p8, h8, hf⟩ := dh_bd hf
  refine g_callV (rc_O (ci := 11) rfl h7) (cG_J9_isLatin1 _ E Mo G x0 h8) q682 qG_J9_isLatin1 (Nat.le_of_ble_eq_true rfl) (Nat.le_of_ble_eq_true rfl) rfl (dj_cat8 (Nat.le_of_ble_eq_true rfl)) dJ9_append_46 ?_
  refine dg_b (fun _ _ _ _ _ _ _ hC => r_if_eq hC dJ9_append_49 (tgt := 56) (by decide)) (fun c9 => ?_) (fun c9 => ?_)
  · have hf := dh_if hf c9
    exact dh_no hf
  · have hf := dh_el hf c9
    exact dh_no hf
def gG_J9_append (G : dg_G) (x0 : Nat) (x1 : Int32) : Option (Nat × dg_G) :=
  (dg_gI G 11 3 x0).bind fun v1 =>
  (dg_is G 11 x0).bind fun u2 =>
  (gG_J9_ensureCapacityInternal G x0 (v1 + 1)).bind fun p3 =>
  (dg_is p3 11 x0).bind fun u4 =>
  (gG_J9_isLatin1 p3 x0).bind fun p5 =>
  if p5 = 0 then (
    gG_J9_append_b45 p3 x0 x1)
  else
  (gG_J13_canEncode p3 x1).bind fun p13 =>
  if p13 = 0 then (
    gG_J9_append_b45 p3 x0 x1)
  else
  (dg_gR p3 11 0 x0).bind fun v15 =>
  (dg_gI p3 11 3 x0).bind fun v16 =>
  (dg_pI p3 11 3 x0 (v16 + 1)).bind fun G17 =>
  (dg_st G17 51 v15 v16 (vp_nar .byte (Int8.toInt32 (Int32.toInt8 x1)))).bind fun G18 =>
  some (x0, G18)
theorem wG_J9_append {l : Launch} {E : dj_E} {Mo : Option dm_M} {r : Nat} {G' : dg_G} (G : dg_G) (x0 : Nat) (x1 : Int32) (hf : gG_J9_append G x0 x1 = some (r, G')) : dgW tG_J9_append l E Mo G' (.inr (some (dj_v E r))) G 0 [(0, dj_v E x0), (1, .int x1)] [] := by
  unfold gG_J9_append at hf
  refine g_aload_n dJ9_append_0 rfl (j := 0) rfl ?_
  refine g_aload_n dJ9_append_1 rfl (j := 0) rfl ?_
  obtain ⟨v1, h1, hf⟩ := dh_bd hf
  refine g_getI fR_J9_79 (by decide) h1 dJ9_append_2 ?_
  refine dg_l (fun _ _ _ _ _ _ _ hC => r_iconst hC dJ9_append_5 ki_1) ?_
  refine dg_l (fun _ _ _ _ _ _ _ hC => r_iadd hC dJ9_append_6) ?_
  obtain ⟨u2, h2, hf⟩ := dh_bd hf
  obtain ⟨p3, h3, hf⟩ := dh_bd hf
  refine g_callV (rc_O (ci := 11) rfl h2) (cG_J9_ensureCapacityInternal _ E Mo G x0 (v1 + 1) h3) q662 qG_J9_ensureCapacityInternal (Nat.le_of_ble_eq_true rfl) (Nat.le_of_ble_eq_true rfl) rfl (dj_cat8 (Nat.le_of_ble_eq_true rfl)) dJ9_append_7 ?_
  refine g_aload_n dJ9_append_10 rfl (j := 0) rfl ?_
  obtain ⟨u4, h4, hf⟩ := dh_bd hf
  obtain ⟨p5, h5, hf⟩ := dh_bd hf
  refine g_callV (rc_O (ci := 11) rfl h4) (cG_J9_isLatin1 _ E Mo p3 x0 h5) q682 qG_J9_isLatin1 (Nat.le_of_ble_eq_true rfl) (Nat.le_of_ble_eq_true rfl) rfl (dj_cat8 (Nat.le_of_ble_eq_true rfl)) dJ9_append_11 ?_
  refine dg_b (fun _ _ _ _ _ _ _ hC => r_if_eq hC dJ9_append_14 (tgt := 45) (by decide)) (fun c6 => ?_) (fun c6 => ?_)
  · have hf := dh_if hf c6
    exact g_sub [0, 1] rfl (wG_J9_append_b45 p3 x0 x1 hf)
  · have hf := dh_el hf c6
    refine dg_l (fun _ _ _ _ _ _ _ hC => r_iload_n hC dJ9_append_17 rfl (j := 1) rfl) ?_
    obtain ⟨p13, h13, hf⟩ := dh_bd hf
    refine g_callS (cG_J13_canEncode _ E Mo p3 x1 h13) q687 qG_J13_canEncode (Nat.le_of_ble_eq_true rfl) (Nat.le_of_ble_eq_true rfl) rfl (dj_cat8 (Nat.le_of_ble_eq_true rfl)) dJ9_append_18 ?_
    refine dg_b (fun _ _ _ _ _ _ _ hC => r_if_eq hC dJ9_append_21 (tgt := 45) (by decide)) (fun c14 => ?_) (fun c14 => ?_)
    · have hf := dh_if hf c14
      exact g_sub [0, 1] rfl (wG_J9_append_b45 p3 x0 x1 hf)
    · have hf := dh_el hf c14
      refine g_aload_n dJ9_append_24 rfl (j := 0) rfl ?_
      obtain ⟨v15, h15, hf⟩ := dh_bd hf
      refine g_getR fR_J9_15 (by decide) h15 dJ9_append_25 ?_
      refine g_aload_n dJ9_append_28 rfl (j := 0) rfl ?_
      refine g_dup dJ9_append_29 ?_
      obtain ⟨v16, h16, hf⟩ := dh_bd hf
      refine g_getI fR_J9_79 (by decide) h16 dJ9_append_30 ?_
      refine dg_l (fun _ _ _ _ _ _ _ hC => r_dup_x1 hC dJ9_append_33 rfl (dj_cat E _)) ?_
      refine dg_l (fun _ _ _ _ _ _ _ hC => r_iconst hC dJ9_append_34 ki_1) ?_
      refine dg_l (fun _ _ _ _ _ _ _ hC => r_iadd hC dJ9_append_35) ?_
      obtain ⟨G17, h17, hf⟩ := dh_bd hf
      refine g_putI fF_J9_79 (fun q => by cases q) (by decide) h17 dJ9_append_36 ?_
      refine dg_l (fun _ _ _ _ _ _ _ hC => r_iload_n hC dJ9_append_39 rfl (j := 1) rfl) ?_
      refine dg_l (fun _ _ _ _ _ _ _ hC => r_i2b hC dJ9_append_40) ?_
      obtain ⟨G18, h18, hf⟩ := dh_bd hf
      refine g_bast h18 dJ9_append_41 ?_
      refine dg_l (fun _ _ _ _ _ _ _ hC => r_goto hC dJ9_append_42 (tgt := 75) (by decide)) ?_
      refine g_aload_n dJ9_append_75 rfl (j := 0) rfl ?_
      exact g_aret dJ9_append_76 rfl (Or.inl ⟨_, rfl⟩) hf
theorem cG_J9_append (l : Launch) (E : dj_E) (Mo : Option dm_M) (G : dg_G) (x0 : Nat) (x1 : Int32) {p : Nat × dg_G} (h : gG_J9_append G x0 x1 = some p) : dg_Met l yJ9_append cJ9_append 2 (some (.object "java/lang/AbstractStringBuilder")) 1 22 E Mo [dj_v E x0, .int x1] G (some (dj_v E p.1)) p.2 :=
  dg_met (plainFor_of_name (by decide)) (by simp only [lg_sl_ref, lg_sl_int, lg_sl_long, lg_sl_nil]; decide) (by simp only [lv_args_ref, lv_args_int, lv_args_long, lv_args_nil]) (wG_J9_append G x0 x1 h)
theorem qG_J9_append : dg_cU yJ9_append cJ9_append 2 (some (.object "java/lang/AbstractStringBuilder")) 1 := ⟨q660, q100, q661, by decide, by decide, by decide +kernel⟩
/-! java/lang/StringBuilder.append(C)Ljava/lang/StringBuilder; -/
abbrev tG_J10_append : dg_T := (cJ10_append, 2, RJ10, (some (.object "java/lang/StringBuilder")), 2, 43, "append", [])
def gG_J10_append (G : dg_G) (x0 : Nat) (x1 : Int32) : Option (Nat × dg_G) :=
  (dg_is G 11 x0).bind fun u1 =>
  (gG_J9_append G x0 x1).bind fun p2 =>
  some (x0, p2.2)
theorem wG_J10_append {l : Launch} {E : dj_E} {Mo : Option dm_M} {r : Nat} {G' : dg_G} (G : dg_G) (x0 : Nat) (x1 : Int32) (hf : gG_J10_append G x0 x1 = some (r, G')) : dgW tG_J10_append l E Mo G' (.inr (some (dj_v E r))) G 0 [(0, dj_v E x0), (1, .int x1)] [] := by
  unfold gG_J10_append at hf
  refine g_aload_n dJ10_append_0 rfl (j := 0) rfl ?_
  refine dg_l (fun _ _ _ _ _ _ _ hC => r_iload_n hC dJ10_append_1 rfl (j := 1) rfl) ?_
  obtain ⟨u1, h1, hf⟩ := dh_bd hf
  obtain ⟨p2, h2, hf⟩ := dh_bd hf
  refine g_callSU h1 (cG_J9_append _ E Mo G x0 x1 h2) q659 q2000 q647 (by decide) qG_J9_append (Nat.le_of_ble_eq_true rfl) (Nat.le_of_ble_eq_true rfl) rfl (dj_cat8 (Nat.le_of_ble_eq_true rfl)) dJ10_append_2 ?_
  refine g_pop dJ10_append_5 ?_
  refine g_aload_n dJ10_append_6 rfl (j := 0) rfl ?_
  exact g_aret dJ10_append_7 rfl (Or.inl ⟨_, rfl⟩) hf
theorem cG_J10_append (l : Launch) (E : dj_E) (Mo : Option dm_M) (G : dg_G) (x0 : Nat) (x1 : Int32) {p : Nat × dg_G} (h : gG_J10_append G x0 x1 = some p) : dg_Met l yJ10_append cJ10_append 2 (some (.object "java/lang/StringBuilder")) 2 43 E Mo [dj_v E x0, .int x1] G (some (dj_v E p.1)) p.2 :=
  dg_met (plainFor_of_name (by decide)) (by simp only [lg_sl_ref, lg_sl_int, lg_sl_long, lg_sl_nil]; decide) (by simp only [lv_args_ref, lv_args_int, lv_args_long, lv_args_nil]) (wG_J10_append G x0 x1 h)
theorem qG_J10_append : dg_cV "java/lang/StringBuilder" yJ10_append cJ10_append 2 (some (.object "java/lang/StringBuilder")) 1 := ⟨q656, Or.inl q657, q101, q658, by decide, by decide, by decide +kernel⟩
