set_option maxRecDepth 100000
/-! DebtorsHouse$Reader.also(II)V -/
abbrev tG_X6_also : dg_T := (cX6_also, 3, RX6, none, 5, 102, "also", [])
def gG_X6_also (G : dg_G) (x0 : Nat) (x1 : Int32) (x2 : Int32) : Option dg_G :=
  (dg_gR G 6 7 x0).bind fun v1 =>
  if v1 = 0 then (
    (dg_pos (dg_n G)).bind fun u4 =>
    (gG_X7_init (dg_nwF G) (dg_n G) x1 x2).bind fun p5 =>
    (dg_pR p5 6 7 x0 (dg_n G)).bind fun G6 =>
    some G6)
  else
  some G
theorem wG_X6_also {l : Launch} {E : dj_E} {Mo : Option dm_M} (hfl : dj_fl l) {G' : dg_G} (G : dg_G) (x0 : Nat) (x1 : Int32) (x2 : Int32) (hf : gG_X6_also G x0 x1 x2 = some G') : dgW tG_X6_also l E Mo G' (.inr none) G 0 [(0, dj_v E x0), (1, .int x1), (2, .int x2)] [] := by
  unfold gG_X6_also at hf
  refine g_aload_n dX6_also_0 rfl (j := 0) rfl ?_
  obtain ⟨v1, h1, hf⟩ := dh_bd hf
  refine g_getR fR_X6_114 (by decide) h1 dX6_also_1 ?_
  refine g_ifnonnull dX6_also_4 (tgt := 20) (by decide) (fun c2 => ?_) (fun c2 => ?_)
  · have hf := dh_el hf c2
    exact g_vret dX6_also_20 rfl hf
  · have hf := dh_if hf c2
    refine g_aload_n dX6_also_7 rfl (j := 0) rfl ?_
    refine g_newF q906 dX6_also_8 ?_
    refine g_dup dX6_also_11 ?_
    refine dg_l (fun _ _ _ _ _ _ _ hC => r_iload_n hC dX6_also_12 rfl (j := 1) rfl) ?_
    refine dg_l (fun _ _ _ _ _ _ _ hC => r_iload_n hC dX6_also_13 rfl (j := 2) rfl) ?_
    obtain ⟨u4, h4, hf⟩ := dh_bd hf
    obtain ⟨p5, h5, hf⟩ := dh_bd hf
    refine g_callI h4 (cG_X7_init _ hfl E Mo (dg_nwF G) (dg_n G) x1 x2 h5) q943 qG_X7_init (Nat.le_of_ble_eq_true rfl) (Nat.le_of_ble_eq_true rfl) rfl (dj_cat8 (Nat.le_of_ble_eq_true rfl)) dX6_also_14 ?_
    obtain ⟨G6, h6, hf⟩ := dh_bd hf
    refine g_putR fF_X6_114 (Or.inl ⟨_, rfl⟩) (fun q => by cases q) (by decide) h6 dX6_also_17 ?_
    exact g_vret dX6_also_20 rfl hf
theorem cG_X6_also (l : Launch) (hfl : dj_fl l) (E : dj_E) (Mo : Option dm_M) (G : dg_G) (x0 : Nat) (x1 : Int32) (x2 : Int32) {G' : dg_G} (h : gG_X6_also G x0 x1 x2 = some G') : dg_Met l yX6_also cX6_also 3 none 5 102 E Mo [dj_v E x0, .int x1, .int x2] G none G' :=
  dg_met (plainFor_of_name (by decide)) (by simp only [lg_sl_ref, lg_sl_int, lg_sl_long, lg_sl_nil]; decide) (by simp only [lv_args_ref, lv_args_int, lv_args_long, lv_args_nil]) (wG_X6_also hfl G x0 x1 x2 h)
theorem qG_X6_also : dg_cV "DebtorsHouse$Reader" yX6_also cX6_also 3 none 2 := ⟨q904, Or.inl qs15, q98, q905, by decide, by decide, by decide +kernel⟩
/-! DebtorsHouse$Reader.takes(Ljava/lang/String;)Z -/
abbrev tG_X6_takes : dg_T := (cX6_takes, 2, RX6, (some .boolean), 7, 159, "takes", [])
def gG_X6_takes (G : dg_G) (x0 : Nat) (x1 : Nat) : Option (Int32 × dg_G) :=
  (dg_gR G 6 5 x0).bind fun v1 =>
  (dg_cmp v1 26).bind fun u2 =>
  if v1 = 26 then (
    (dg_gR G 6 6 x0).bind fun v3 =>
    (dg_isS G v3).bind fun u4 =>
    (gG_J11_equals G v3 x1).bind fun p5 =>
    if p5 = 0 then (
      some (0, G))
    else
    (dg_is G 6 x0).bind fun u7 =>
    (gG_X6_step G x0).bind fun p8 =>
    some (1, p8))
  else
  some (0, G)
theorem wG_X6_takes {l : Launch} {E : dj_E} {Mo : Option dm_M} {r : Int32} {G' : dg_G} (G : dg_G) (x0 : Nat) (x1 : Nat) (hf : gG_X6_takes G x0 x1 = some (r, G')) : dgW tG_X6_takes l E Mo G' (.inr (some (.int r))) G 0 [(0, dj_v E x0), (1, dj_v E x1)] [] := by
  unfold gG_X6_takes at hf
  refine g_aload_n dX6_takes_0 rfl (j := 0) rfl ?_
  obtain ⟨v1, h1, hf⟩ := dh_bd hf
  refine g_getR fR_X6_47 (by decide) h1 dX6_takes_1 ?_
  refine g_gets (j := 26) (by decide) (by decide) (fun _ h => ((dk_K h).1 0 (by decide)).1) q787 dX6_takes_4 ?_
  obtain ⟨u2, h2, hf⟩ := dh_bd hf
  refine g_acmp_ne h2 dX6_takes_7 (tgt := 21) (by decide) (fun c2 => ?_) (fun c2 => ?_)
  · have hf := dh_el hf c2
    refine dg_l (fun _ _ _ _ _ _ _ hC => r_iconst hC dX6_takes_21 ki_0) ?_
    exact g_zret dX6_takes_22 rfl rfl hf
  · have hf := dh_if hf c2
    refine g_aload_n dX6_takes_10 rfl (j := 0) rfl ?_
    obtain ⟨v3, h3, hf⟩ := dh_bd hf
    refine g_getR fR_X6_69 (by decide) h3 dX6_takes_11 ?_
    refine g_aload_n dX6_takes_14 rfl (j := 1) rfl ?_
    obtain ⟨u4, h4, hf⟩ := dh_bd hf
    obtain ⟨p5, h5, hf⟩ := dh_bd hf
    refine g_callV (rc_S h4) (cG_J11_equals _ E Mo G v3 x1 h5) q1001 qG_J11_equals (Nat.le_of_ble_eq_true rfl) (Nat.le_of_ble_eq_true rfl) rfl (dj_cat8 (Nat.le_of_ble_eq_true rfl)) dX6_takes_15 ?_
    refine dg_bn (fun _ _ _ _ _ _ _ hC => r_if_ne hC dX6_takes_18 (tgt := 23) (by decide)) (fun c6 => ?_) (fun c6 => ?_)
    · have hf := dh_el hf c6
      refine g_aload_n dX6_takes_23 rfl (j := 0) rfl ?_
      obtain ⟨u7, h7, hf⟩ := dh_bd hf
      obtain ⟨p8, h8, hf⟩ := dh_bd hf
      refine g_callV (rc_O (ci := 6) rfl h7) (cG_X6_step _ E Mo G x0 h8) q604 qG_X6_step (Nat.le_of_ble_eq_true rfl) (Nat.le_of_ble_eq_true rfl) rfl (dj_cat8 (Nat.le_of_ble_eq_true rfl)) dX6_takes_24 ?_
      refine dg_l (fun _ _ _ _ _ _ _ hC => r_iconst hC dX6_takes_27 ki_1) ?_
      exact g_zret dX6_takes_28 rfl rfl hf
    · have hf := dh_if hf c6
      refine dg_l (fun _ _ _ _ _ _ _ hC => r_iconst hC dX6_takes_21 ki_0) ?_
      exact g_zret dX6_takes_22 rfl rfl hf
theorem cG_X6_takes (l : Launch) (E : dj_E) (Mo : Option dm_M) (G : dg_G) (x0 : Nat) (x1 : Nat) {p : Int32 × dg_G} (h : gG_X6_takes G x0 x1 = some p) : dg_Met l yX6_takes cX6_takes 2 (some .boolean) 7 159 E Mo [dj_v E x0, dj_v E x1] G (some (.int p.1)) p.2 :=
  dg_met (plainFor_of_name (by decide)) (by simp only [lg_sl_ref, lg_sl_int, lg_sl_long, lg_sl_nil]; decide) (by simp only [lv_args_ref, lv_args_int, lv_args_long, lv_args_nil]) (wG_X6_takes G x0 x1 h)
theorem qG_X6_takes : dg_cV "DebtorsHouse$Reader" yX6_takes cX6_takes 2 (some .boolean) 1 := ⟨q999, Or.inl qs18, q98, q1000, by decide, by decide, by decide +kernel⟩
/-! DebtorsHouse$Reader.wrong()LDebtorsHouse$Fault; -/
abbrev tG_X6_wrong : dg_T := (cX6_wrong, 1, RX6, (some (.object "DebtorsHouse$Fault")), 5, 102, "wrong", [])
def gG_X6_wrong (G : dg_G) (x0 : Nat) : Option (Nat × dg_G) :=
  (dg_gI (dg_nwF G) 6 3 x0).bind fun v2 =>
  (dg_pos (dg_n G)).bind fun u3 =>
  (gG_X7_init (dg_nwF G) (dg_n G) 1 v2).bind fun p4 =>
  some (dg_n G, p4)
theorem wG_X6_wrong {l : Launch} {E : dj_E} {Mo : Option dm_M} (hfl : dj_fl l) {r : Nat} {G' : dg_G} (G : dg_G) (x0 : Nat) (hf : gG_X6_wrong G x0 = some (r, G')) : dgW tG_X6_wrong l E Mo G' (.inr (some (dj_v E r))) G 0 [(0, dj_v E x0)] [] := by
  unfold gG_X6_wrong at hf
  refine g_newF q906 dX6_wrong_0 ?_
  refine g_dup dX6_wrong_3 ?_
  refine dg_l (fun _ _ _ _ _ _ _ hC => r_iconst hC dX6_wrong_4 ki_1) ?_
  refine g_aload_n dX6_wrong_5 rfl (j := 0) rfl ?_
  obtain ⟨v2, h2, hf⟩ := dh_bd hf
  refine g_getI fR_X6_38 (by decide) h2 dX6_wrong_6 ?_
  obtain ⟨u3, h3, hf⟩ := dh_bd hf
  obtain ⟨p4, h4, hf⟩ := dh_bd hf
  refine g_callI h3 (cG_X7_init _ hfl E Mo (dg_nwF G) (dg_n G) 1 v2 h4) q943 qG_X7_init (Nat.le_of_ble_eq_true rfl) (Nat.le_of_ble_eq_true rfl) rfl (dj_cat8 (Nat.le_of_ble_eq_true rfl)) dX6_wrong_9 ?_
  exact g_aret dX6_wrong_12 rfl (Or.inl ⟨_, rfl⟩) hf
theorem cG_X6_wrong (l : Launch) (hfl : dj_fl l) (E : dj_E) (Mo : Option dm_M) (G : dg_G) (x0 : Nat) {p : Nat × dg_G} (h : gG_X6_wrong G x0 = some p) : dg_Met l yX6_wrong cX6_wrong 1 (some (.object "DebtorsHouse$Fault")) 5 102 E Mo [dj_v E x0] G (some (dj_v E p.1)) p.2 :=
  dg_met (plainFor_of_name (by decide)) (by simp only [lg_sl_ref, lg_sl_int, lg_sl_long, lg_sl_nil]; decide) (by simp only [lv_args_ref, lv_args_int, lv_args_long, lv_args_nil]) (wG_X6_wrong hfl G x0 h)
theorem qG_X6_wrong : dg_cV "DebtorsHouse$Reader" yX6_wrong cX6_wrong 1 (some (.object "DebtorsHouse$Fault")) 0 := ⟨q1011, Or.inl qs19, q98, q1012, by decide, by decide, by decide +kernel⟩
/-! DebtorsHouse$Reader.topic()LDebtorsHouse$Topic; -/
abbrev tG_X6_topic : dg_T := (cX6_topic, 2, RX6, (some (.object "DebtorsHouse$Topic")), 8, 180, "topic", [])
def gG_X6_topic_L2_F (k2 : (dg_G → Nat → Int32 → Option ((Nat ⊕ Nat) × dg_G))) (G : dg_G) (x0 : Nat) (x1 : Int32) : Option ((Nat ⊕ Nat) × dg_G) :=
  (do_len 31).bind fun v1 =>
  if v1 ≤ x1 then (
    (dg_is G 6 x0).bind fun u3 =>
    (gG_X6_wrong G x0).bind fun p4 =>
    (dg_is p4.2 7 p4.1).bind fun u5 =>
    some (.inl p4.1, p4.2))
  else
  (do_ld 31 x1).bind fun v6 =>
  (do_isT v6).bind fun u7 =>
  (do_word v6).bind fun v8 =>
  (dg_is G 6 x0).bind fun u9 =>
  (gG_X6_takes G x0 v8).bind fun p10 =>
  if p10.1 = 0 then (
    k2 p10.2 x0 (x1 + 1))
  else
  (do_ld 31 x1).bind fun v12 =>
  some (.inr v12, p10.2)
theorem wG_X6_topic_L2_F {l : Launch} {E : dj_E} {Mo : Option dm_M} (hfl : dj_fl l) {r : Nat ⊕ Nat} {G' : dg_G} (k2 : (dg_G → Nat → Int32 → Option ((Nat ⊕ Nat) × dg_G))) (hk2 : ∀ (G : dg_G) (x0 : Nat) (x1 : Int32), k2 G x0 x1 = some (r, G') → dgW tG_X6_topic l E Mo G' (dg_oR E r) G 2 [(0, dj_v E x0), (1, .int x1)] []) (G : dg_G) (x0 : Nat) (x1 : Int32) (hf : gG_X6_topic_L2_F k2 G x0 x1 = some (r, G')) : dgW tG_X6_topic l E Mo G' (dg_oR E r) G 2 [(0, dj_v E x0), (1, .int x1)] [] := by
  unfold gG_X6_topic_L2_F at hf
  refine dg_l (fun _ _ _ _ _ _ _ hC => r_iload_n hC dX6_topic_2 rfl (j := 1) rfl) ?_
  refine g_getsN (j := 31) (by decide) (by decide) (fun _ h => dk_zT h) (List.mem_of_getElem? (i := 47) rfl) dX6_topic_3 ?_
  obtain ⟨v1, h1, hf⟩ := dh_bd hf
  refine g_lenT h1 dX6_topic_6 ?_
  refine dg_b (fun _ _ _ _ _ _ _ hC => r_icmp_ge hC dX6_topic_7 (tgt := 37) (by decide)) (fun c2 => ?_) (fun c2 => ?_)
  · have hf := dh_if hf c2
    refine g_aload_n dX6_topic_37 rfl (j := 0) rfl ?_
    obtain ⟨u3, h3, hf⟩ := dh_bd hf
    obtain ⟨p4, h4, hf⟩ := dh_bd hf
    refine g_callV (rc_O (ci := 6) rfl h3) (cG_X6_wrong _ hfl E Mo G x0 h4) q1009 qG_X6_wrong (Nat.le_of_ble_eq_true rfl) (Nat.le_of_ble_eq_true rfl) rfl (dj_cat8 (Nat.le_of_ble_eq_true rfl)) dX6_topic_38 ?_
    obtain ⟨u5, h5, hf⟩ := dh_bd hf
    exact g_athrow rfl h5 dX6_topic_41 hf
  · have hf := dh_el hf c2
    refine g_aload_n dX6_topic_10 rfl (j := 0) rfl ?_
    refine g_getsN (j := 31) (by decide) (by decide) (fun _ h => dk_zT h) (List.mem_of_getElem? (i := 47) rfl) dX6_topic_11 ?_
    refine dg_l (fun _ _ _ _ _ _ _ hC => r_iload_n hC dX6_topic_14 rfl (j := 1) rfl) ?_
    obtain ⟨v6, h6, hf⟩ := dh_bd hf
    refine g_ldT h6 dX6_topic_15 ?_
    obtain ⟨u7, h7, hf⟩ := dh_bd hf
    obtain ⟨v8, h8, hf⟩ := dh_bd hf
    refine g_wordT h7 h8 (List.mem_of_getElem? (i := 51) rfl) dX6_topic_16 ?_
    obtain ⟨u9, h9, hf⟩ := dh_bd hf
    obtain ⟨p10, h10, hf⟩ := dh_bd hf
    refine g_callV (rc_O (ci := 6) rfl h9) (cG_X6_takes _ E Mo G x0 v8 h10) q997 qG_X6_takes (Nat.le_of_ble_eq_true rfl) (Nat.le_of_ble_eq_true rfl) rfl (dj_cat8 (Nat.le_of_ble_eq_true rfl)) dX6_topic_19 ?_
    refine dg_b (fun _ _ _ _ _ _ _ hC => r_if_eq hC dX6_topic_22 (tgt := 31) (by decide)) (fun c11 => ?_) (fun c11 => ?_)
    · have hf := dh_if hf c11
      refine dg_l (fun _ _ _ _ _ _ _ hC => r_iinc (lv' := [(1, .int (x1 + 1)), (0, dj_v E x0)]) hC dX6_topic_31 (j := 1) rfl (congrArg _ ki_1) (Nat.le_of_ble_eq_true rfl) (by simp only [List.filter, dj_cat] <;> rfl)) ?_
      refine dg_l (fun _ _ _ _ _ _ _ hC => r_goto hC dX6_topic_34 (tgt := 2) (by decide)) ?_
      exact g_sub [1, 0] rfl (hk2 p10.2 x0 (x1 + 1) hf)
    · have hf := dh_el hf c11
      refine g_getsN (j := 31) (by decide) (by decide) (fun _ h => dk_zT h) (List.mem_of_getElem? (i := 47) rfl) dX6_topic_25 ?_
      refine dg_l (fun _ _ _ _ _ _ _ hC => r_iload_n hC dX6_topic_28 rfl (j := 1) rfl) ?_
      obtain ⟨v12, h12, hf⟩ := dh_bd hf
      refine g_ldT h12 dX6_topic_29 ?_
      exact g_aretT dX6_topic_30 rfl (Or.inl ⟨_, rfl⟩) hf
def gG_X6_topic_L2 : Nat → dg_G → Nat → Int32 → Option ((Nat ⊕ Nat) × dg_G)
  | 0 => fun _ _ _ => none
  | n + 1 => gG_X6_topic_L2_F (gG_X6_topic_L2 n)
theorem wG_X6_topic_L2 {l : Launch} {E : dj_E} {Mo : Option dm_M} (hfl : dj_fl l) {r : Nat ⊕ Nat} {G' : dg_G} : ∀ (n : Nat) (G : dg_G) (x0 : Nat) (x1 : Int32) (_ : gG_X6_topic_L2 n G x0 x1 = some (r, G')), dgW tG_X6_topic l E Mo G' (dg_oR E r) G 2 [(0, dj_v E x0), (1, .int x1)] [] := by
  intro n
  induction n with
  | zero => intro G x0 x1 hf; exact dh_no hf
  | succ n ih => intro G x0 x1 hf; exact wG_X6_topic_L2_F hfl (gG_X6_topic_L2 n) ih G x0 x1 hf
def gG_X6_topic (G : dg_G) (x0 : Nat) : Option ((Nat ⊕ Nat) × dg_G) :=
  gG_X6_topic_L2 dh_fu G x0 0
theorem wG_X6_topic {l : Launch} {E : dj_E} {Mo : Option dm_M} (hfl : dj_fl l) {r : Nat ⊕ Nat} {G' : dg_G} (G : dg_G) (x0 : Nat) (hf : gG_X6_topic G x0 = some (r, G')) : dgW tG_X6_topic l E Mo G' (dg_oR E r) G 0 [(0, dj_v E x0)] [] := by
  unfold gG_X6_topic at hf
  refine dg_l (fun _ _ _ _ _ _ _ hC => r_iconst hC dX6_topic_0 ki_0) ?_
  refine dg_l (fun _ _ _ _ _ _ _ hC => r_istore_n (lv' := [(1, .int 0), (0, dj_v E x0)]) hC dX6_topic_1 rfl (Nat.le_of_ble_eq_true rfl) (by simp only [List.filter, dj_cat] <;> rfl)) ?_
  exact g_sub [1, 0] rfl (wG_X6_topic_L2 hfl dh_fu G x0 0 hf)
theorem cG_X6_topic (l : Launch) (hfl : dj_fl l) (E : dj_E) (Mo : Option dm_M) (G : dg_G) (x0 : Nat) {p : (Nat ⊕ Nat) × dg_G} (h : gG_X6_topic G x0 = some p) : dg_MetT l yX6_topic cX6_topic 2 (some (.object "DebtorsHouse$Topic")) 8 180 E Mo [dj_v E x0] G (dg_oR E p.1) p.2 :=
  dg_metT (plainFor_of_name (by decide)) (by simp only [lg_sl_ref, lg_sl_int, lg_sl_long, lg_sl_nil]; decide) (by simp only [lv_args_ref, lv_args_int, lv_args_long, lv_args_nil]) (wG_X6_topic hfl G x0 h)
theorem qG_X6_topic : dg_cV "DebtorsHouse$Reader" yX6_topic cX6_topic 2 (some (.object "DebtorsHouse$Topic")) 0 := ⟨q993, Or.inl qs17, q98, q994, by decide, by decide, by decide +kernel⟩
/-! DebtorsHouse$Reader.isSign(I)Z -/
abbrev tG_X6_isSign : dg_T := (cX6_isSign, 2, RX6, (some .boolean), 0, 0, "isSign", [])
def gG_X6_isSign (G : dg_G) (x0 : Nat) (x1 : Int32) : Option Int32 :=
  (dg_gR G 6 5 x0).bind fun v1 =>
  (dg_cmp v1 28).bind fun u2 =>
  if v1 = 28 then (
    (dg_gR G 6 0 x0).bind fun v3 =>
    (dg_gI G 6 3 x0).bind fun v4 =>
    (dg_ldB G v3 v4).bind fun v5 =>
    if v5 = x1 then (
      some 1)
    else
    some 0)
  else
  some 0
theorem wG_X6_isSign {l : Launch} {E : dj_E} {Mo : Option dm_M} {r : Int32} (G : dg_G) (x0 : Nat) (x1 : Int32) (hf : gG_X6_isSign G x0 x1 = some r) : dgW tG_X6_isSign l E Mo G (.inr (some (.int r))) G 0 [(0, dj_v E x0), (1, .int x1)] [] := by
  unfold gG_X6_isSign at hf
  refine g_aload_n dX6_isSign_0 rfl (j := 0) rfl ?_
  obtain ⟨v1, h1, hf⟩ := dh_bd hf
  refine g_getR fR_X6_47 (by decide) h1 dX6_isSign_1 ?_
  refine g_gets (j := 28) (by decide) (by decide) (fun _ h => ((dk_K h).1 2 (by decide)).1) q863 dX6_isSign_4 ?_
  obtain ⟨u2, h2, hf⟩ := dh_bd hf
  refine g_acmp_ne h2 dX6_isSign_7 (tgt := 27) (by decide) (fun c2 => ?_) (fun c2 => ?_)
  · have hf := dh_el hf c2
    refine dg_l (fun _ _ _ _ _ _ _ hC => r_iconst hC dX6_isSign_27 ki_0) ?_
    exact g_zret1 dX6_isSign_28 rfl rfl hf
  · have hf := dh_if hf c2
    refine g_aload_n dX6_isSign_10 rfl (j := 0) rfl ?_
    obtain ⟨v3, h3, hf⟩ := dh_bd hf
    refine g_getR fR_X6_20 (by decide) h3 dX6_isSign_11 ?_
    refine g_aload_n dX6_isSign_14 rfl (j := 0) rfl ?_
    obtain ⟨v4, h4, hf⟩ := dh_bd hf
    refine g_getI fR_X6_38 (by decide) h4 dX6_isSign_15 ?_
    obtain ⟨v5, h5, hf⟩ := dh_bd hf
    refine g_bald h5 dX6_isSign_18 ?_
    refine dg_l (fun _ _ _ _ _ _ _ hC => r_iload_n hC dX6_isSign_19 rfl (j := 1) rfl) ?_
    refine dg_bn (fun _ _ _ _ _ _ _ hC => r_icmp_ne hC dX6_isSign_20 (tgt := 27) (by decide)) (fun c6 => ?_) (fun c6 => ?_)
    · have hf := dh_el hf c6
      refine dg_l (fun _ _ _ _ _ _ _ hC => r_iconst hC dX6_isSign_27 ki_0) ?_
      exact g_zret1 dX6_isSign_28 rfl rfl hf
    · have hf := dh_if hf c6
      refine dg_l (fun _ _ _ _ _ _ _ hC => r_iconst hC dX6_isSign_23 ki_1) ?_
      refine dg_l (fun _ _ _ _ _ _ _ hC => r_goto hC dX6_isSign_24 (tgt := 28) (by decide)) ?_
      exact g_zret1 dX6_isSign_28 rfl rfl hf
theorem cG_X6_isSign (l : Launch) (E : dj_E) (Mo : Option dm_M) (G : dg_G) (x0 : Nat) (x1 : Int32) {r : Int32} (h : gG_X6_isSign G x0 x1 = some r) : dg_Met l yX6_isSign cX6_isSign 2 (some .boolean) 0 0 E Mo [dj_v E x0, .int x1] G (some (.int r)) G :=
  dg_met (plainFor_of_name (by decide)) (by simp only [lg_sl_ref, lg_sl_int, lg_sl_long, lg_sl_nil]; decide) (by simp only [lv_args_ref, lv_args_int, lv_args_long, lv_args_nil]) (wG_X6_isSign G x0 x1 h)
theorem qG_X6_isSign : dg_cV "DebtorsHouse$Reader" yX6_isSign cX6_isSign 2 (some .boolean) 1 := ⟨q1022, Or.inl qs21, q98, q1023, by decide, by decide, by decide +kernel⟩
/-! DebtorsHouse$Reader.number()I -/
abbrev tG_X6_number : dg_T := (cX6_number, 2, RX6, (some .int), 7, 159, "number", [])
def gG_X6_number (G : dg_G) (x0 : Nat) : Option ((Nat ⊕ Int32) × dg_G) :=
  (dg_gR G 6 5 x0).bind fun v1 =>
  (dg_cmp v1 27).bind fun u2 =>
  if v1 = 27 then (
    (dg_gI G 6 4 x0).bind fun v3 =>
    (dg_is G 6 x0).bind fun u4 =>
    (gG_X6_step G x0).bind fun p5 =>
    some (.inr v3, p5))
  else
  (dg_is G 6 x0).bind fun u6 =>
  (gG_X6_wrong G x0).bind fun p7 =>
  (dg_is p7.2 7 p7.1).bind fun u8 =>
  some (.inl p7.1, p7.2)
theorem wG_X6_number {l : Launch} {E : dj_E} {Mo : Option dm_M} (hfl : dj_fl l) {r : Nat ⊕ Int32} {G' : dg_G} (G : dg_G) (x0 : Nat) (hf : gG_X6_number G x0 = some (r, G')) : dgW tG_X6_number l E Mo G' (dg_oI r) G 0 [(0, dj_v E x0)] [] := by
  unfold gG_X6_number at hf
  refine g_aload_n dX6_number_0 rfl (j := 0) rfl ?_
  obtain ⟨v1, h1, hf⟩ := dh_bd hf
  refine g_getR fR_X6_47 (by decide) h1 dX6_number_1 ?_
  refine g_gets (j := 27) (by decide) (by decide) (fun _ h => ((dk_K h).1 1 (by decide)).1) q794 dX6_number_4 ?_
  obtain ⟨u2, h2, hf⟩ := dh_bd hf
  refine g_acmp_eq h2 dX6_number_7 (tgt := 15) (by decide) (fun c2 => ?_) (fun c2 => ?_)
  · have hf := dh_if hf c2
    refine g_aload_n dX6_number_15 rfl (j := 0) rfl ?_
    obtain ⟨v3, h3, hf⟩ := dh_bd hf
    refine g_getI fR_X6_79 (by decide) h3 dX6_number_16 ?_
    refine dg_l (fun _ _ _ _ _ _ _ hC => r_istore_n (lv' := [(1, .int v3), (0, dj_v E x0)]) hC dX6_number_19 rfl (Nat.le_of_ble_eq_true rfl) (by simp only [List.filter, dj_cat] <;> rfl)) ?_
    refine g_aload_n dX6_number_20 rfl (j := 1) rfl ?_
    obtain ⟨u4, h4, hf⟩ := dh_bd hf
    obtain ⟨p5, h5, hf⟩ := dh_bd hf
    refine g_callV (rc_O (ci := 6) rfl h4) (cG_X6_step _ E Mo G x0 h5) q604 qG_X6_step (Nat.le_of_ble_eq_true rfl) (Nat.le_of_ble_eq_true rfl) rfl (dj_cat8 (Nat.le_of_ble_eq_true rfl)) dX6_number_21 ?_
    refine dg_l (fun _ _ _ _ _ _ _ hC => r_iload_n hC dX6_number_24 rfl (j := 0) rfl) ?_
    exact g_iretT dX6_number_25 rfl hf
  · have hf := dh_el hf c2
    refine g_aload_n dX6_number_10 rfl (j := 0) rfl ?_
    obtain ⟨u6, h6, hf⟩ := dh_bd hf
    obtain ⟨p7, h7, hf⟩ := dh_bd hf
    refine g_callV (rc_O (ci := 6) rfl h6) (cG_X6_wrong _ hfl E Mo G x0 h7) q1009 qG_X6_wrong (Nat.le_of_ble_eq_true rfl) (Nat.le_of_ble_eq_true rfl) rfl (dj_cat8 (Nat.le_of_ble_eq_true rfl)) dX6_number_11 ?_
    obtain ⟨u8, h8, hf⟩ := dh_bd hf
    exact g_athrow rfl h8 dX6_number_14 hf
theorem cG_X6_number (l : Launch) (hfl : dj_fl l) (E : dj_E) (Mo : Option dm_M) (G : dg_G) (x0 : Nat) {p : (Nat ⊕ Int32) × dg_G} (h : gG_X6_number G x0 = some p) : dg_MetT l yX6_number cX6_number 2 (some .int) 7 159 E Mo [dj_v E x0] G (dg_oI p.1) p.2 :=
  dg_metT (plainFor_of_name (by decide)) (by simp only [lg_sl_ref, lg_sl_int, lg_sl_long, lg_sl_nil]; decide) (by simp only [lv_args_ref, lv_args_int, lv_args_long, lv_args_nil]) (wG_X6_number hfl G x0 h)
theorem qG_X6_number : dg_cV "DebtorsHouse$Reader" yX6_number cX6_number 2 (some .int) 0 := ⟨q1028, Or.inl qs22, q98, q1029, by decide, by decide, by decide +kernel⟩
/-! DebtorsHouse$Reader.test()LDebtorsHouse$Test; -/
abbrev tG_X6_test : dg_T := (cX6_test, 4, RX6, (some (.object "DebtorsHouse$Test")), 8, 180, "test", [])
def gG_X6_test_b86 (G : dg_G) (x0 : Nat) (x1 : Int32) (x2 : Nat) : Option ((Nat ⊕ Nat) × dg_G) :=
  (dg_gR G 6 0 x0).bind fun v12 =>
  (dg_gI G 6 3 x0).bind fun v13 =>
  (dg_ldB G v12 v13).bind fun v14 =>
  (dg_is G 6 x0).bind fun u15 =>
  (gG_X6_step G x0).bind fun p16 =>
  (dg_is (dg_nw p16 9) 6 x0).bind fun u18 =>
  (gG_X6_number (dg_nw p16 9) x0).bind fun p19 =>
  dh_tm p19.1 (fun j19 => (
    some (.inl j19, p19.2)))
  fun v19 =>
  (dg_pos (dg_n p16)).bind fun u20 =>
  (gG_X9_init p19.2 (dg_n p16) x1 x2 (UInt32.toInt32 (Int32.toUInt32 v14 % 65536)) v19).bind fun p21 =>
  some (.inr (dg_n p16), p21)
theorem wG_X6_test_b86 {l : Launch} {E : dj_E} {Mo : Option dm_M} (hfl : dj_fl l) {r : Nat ⊕ Nat} {G' : dg_G} (G : dg_G) (x0 : Nat) (x1 : Int32) (x2 : Nat) (hf : gG_X6_test_b86 G x0 x1 x2 = some (r, G')) : dgW tG_X6_test l E Mo G' (dg_oR E r) G 86 [(0, dj_v E x0), (1, .int x1), (2, dj_v E x2)] [] := by
  unfold gG_X6_test_b86 at hf
  refine g_aload_n dX6_test_86 rfl (j := 0) rfl ?_
  obtain ⟨v12, h12, hf⟩ := dh_bd hf
  refine g_getR fR_X6_20 (by decide) h12 dX6_test_87 ?_
  refine g_aload_n dX6_test_90 rfl (j := 0) rfl ?_
  obtain ⟨v13, h13, hf⟩ := dh_bd hf
  refine g_getI fR_X6_38 (by decide) h13 dX6_test_91 ?_
  obtain ⟨v14, h14, hf⟩ := dh_bd hf
  refine g_bald h14 dX6_test_94 ?_
  refine dg_l (fun _ _ _ _ _ _ _ hC => r_i2c hC dX6_test_95) ?_
  refine dg_l (fun _ _ _ _ _ _ _ hC => r_istore_n (lv' := [(3, .int (UInt32.toInt32 (Int32.toUInt32 v14 % 65536))), (0, dj_v E x0), (1, .int x1), (2, dj_v E x2)]) hC dX6_test_96 rfl (Nat.le_of_ble_eq_true rfl) (by simp only [List.filter, dj_cat] <;> rfl)) ?_
  refine g_aload_n dX6_test_97 rfl (j := 1) rfl ?_
  obtain ⟨u15, h15, hf⟩ := dh_bd hf
  obtain ⟨p16, h16, hf⟩ := dh_bd hf
  refine g_callV (rc_O (ci := 6) rfl h15) (cG_X6_step _ E Mo G x0 h16) q604 qG_X6_step (Nat.le_of_ble_eq_true rfl) (Nat.le_of_ble_eq_true rfl) rfl (dj_cat8 (Nat.le_of_ble_eq_true rfl)) dX6_test_98 ?_
  refine g_new nI_X6_187 dX6_test_101 ?_
  refine g_dup dX6_test_104 ?_
  refine dg_l (fun _ _ _ _ _ _ _ hC => r_iload_n hC dX6_test_105 rfl (j := 2) rfl) ?_
  refine g_aload_n dX6_test_106 rfl (j := 3) rfl ?_
  refine dg_l (fun _ _ _ _ _ _ _ hC => r_iload_n hC dX6_test_107 rfl (j := 0) rfl) ?_
  refine g_aload_n dX6_test_108 rfl (j := 1) rfl ?_
  obtain ⟨u18, h18, hf⟩ := dh_bd hf
  obtain ⟨p19, h19, hf⟩ := dh_bd hf
  refine g_callVT rfl (rc_O (ci := 6) rfl h18) (cG_X6_number _ hfl E Mo (dg_nw p16 9) x0 h19) q1026 qG_X6_number (Nat.le_of_ble_eq_true rfl) (Nat.le_of_ble_eq_true rfl) rfl (show (List.map (fun v : Value => v.category) [.int (UInt32.toInt32 (Int32.toUInt32 v14 % 65536)), dj_v E x2, .int x1, dj_v E (dg_n p16), dj_v E (dg_n p16)]).sum ≤ 8 by simp only [List.map_cons, List.map_nil, List.sum_cons, List.sum_nil, dj_cat, dh_ci, dh_cl] <;> decide) dX6_test_109 (fun j19 e19 => ?_) (fun v19 e19 => ?_)
  · rw [e19] at hf
    exact dg_thrR hf
  rw [e19] at hf
  replace hf := dh_tm_r hf
  obtain ⟨u20, h20, hf⟩ := dh_bd hf
  obtain ⟨p21, h21, hf⟩ := dh_bd hf
  refine g_callI h20 (cG_X9_init _ E Mo p19.2 (dg_n p16) x1 x2 (UInt32.toInt32 (Int32.toUInt32 v14 % 65536)) v19 h21) q1030 qG_X9_init (Nat.le_of_ble_eq_true rfl) (Nat.le_of_ble_eq_true rfl) rfl (dj_cat8 (Nat.le_of_ble_eq_true rfl)) dX6_test_112 ?_
  exact g_aretT dX6_test_115 rfl (Or.inl ⟨_, rfl⟩) hf
def gG_X6_test_b50 (G : dg_G) (x0 : Nat) (x1 : Int32) (x2 : Nat) : Option ((Nat ⊕ Nat) × dg_G) :=
  if x2 = 0 then (
    (dg_is G 6 x0).bind fun u6 =>
    (gG_X6_wrong G x0).bind fun p7 =>
    (dg_is p7.2 7 p7.1).bind fun u8 =>
    some (.inl p7.1, p7.2))
  else
  (dg_is G 6 x0).bind fun u9 =>
  (gG_X6_isSign G x0 60).bind fun p10 =>
  if p10 = 0 then (
    (dg_is G 6 x0).bind fun u22 =>
    (gG_X6_isSign G x0 62).bind fun p23 =>
    if p23 = 0 then (
      (dg_is G 6 x0).bind fun u25 =>
      (gG_X6_isSign G x0 61).bind fun p26 =>
      if p26 = 0 then (
        (dg_is G 6 x0).bind fun u28 =>
        (gG_X6_wrong G x0).bind fun p29 =>
        (dg_is p29.2 7 p29.1).bind fun u30 =>
        some (.inl p29.1, p29.2))
      else
      gG_X6_test_b86 G x0 x1 x2)
    else
    gG_X6_test_b86 G x0 x1 x2)
  else
  gG_X6_test_b86 G x0 x1 x2
theorem wG_X6_test_b50 {l : Launch} {E : dj_E} {Mo : Option dm_M} (hfl : dj_fl l) {r : Nat ⊕ Nat} {G' : dg_G} (G : dg_G) (x0 : Nat) (x1 : Int32) (x2 : Nat) (hf : gG_X6_test_b50 G x0 x1 x2 = some (r, G')) : dgW tG_X6_test l E Mo G' (dg_oR E r) G 50 [(0, dj_v E x0), (1, .int x1), (2, dj_v E x2)] [] := by
  unfold gG_X6_test_b50 at hf
  refine g_aload_n dX6_test_50 rfl (j := 2) rfl ?_
  refine g_ifnull dX6_test_51 (tgt := 81) (by decide) (fun c5 => ?_) (fun c5 => ?_)
  · have hf := dh_if hf c5
    refine g_aload_n dX6_test_81 rfl (j := 0) rfl ?_
    obtain ⟨u6, h6, hf⟩ := dh_bd hf
    obtain ⟨p7, h7, hf⟩ := dh_bd hf
    refine g_callV (rc_O (ci := 6) rfl h6) (cG_X6_wrong _ hfl E Mo G x0 h7) q1009 qG_X6_wrong (Nat.le_of_ble_eq_true rfl) (Nat.le_of_ble_eq_true rfl) rfl (dj_cat8 (Nat.le_of_ble_eq_true rfl)) dX6_test_82 ?_
    obtain ⟨u8, h8, hf⟩ := dh_bd hf
    exact g_athrow rfl h8 dX6_test_85 hf
  · have hf := dh_el hf c5
    refine g_aload_n dX6_test_54 rfl (j := 0) rfl ?_
    refine dg_l (fun _ _ _ _ _ _ _ hC => r_bipush hC dX6_test_55 kb_60) ?_
    obtain ⟨u9, h9, hf⟩ := dh_bd hf
    obtain ⟨p10, h10, hf⟩ := dh_bd hf
    refine g_callV (rc_O (ci := 6) rfl h9) (cG_X6_isSign _ E Mo G x0 60 h10) q1020 qG_X6_isSign (Nat.le_of_ble_eq_true rfl) (Nat.le_of_ble_eq_true rfl) rfl (dj_cat8 (Nat.le_of_ble_eq_true rfl)) dX6_test_57 ?_
    refine dg_bn (fun _ _ _ _ _ _ _ hC => r_if_ne hC dX6_test_60 (tgt := 86) (by decide)) (fun c11 => ?_) (fun c11 => ?_)
    · have hf := dh_el hf c11
      exact g_sub [0, 1, 2] rfl (wG_X6_test_b86 hfl G x0 x1 x2 hf)
    · have hf := dh_if hf c11
      refine g_aload_n dX6_test_63 rfl (j := 0) rfl ?_
      refine dg_l (fun _ _ _ _ _ _ _ hC => r_bipush hC dX6_test_64 kb_62) ?_
      obtain ⟨u22, h22, hf⟩ := dh_bd hf
      obtain ⟨p23, h23, hf⟩ := dh_bd hf
      refine g_callV (rc_O (ci := 6) rfl h22) (cG_X6_isSign _ E Mo G x0 62 h23) q1020 qG_X6_isSign (Nat.le_of_ble_eq_true rfl) (Nat.le_of_ble_eq_true rfl) rfl (dj_cat8 (Nat.le_of_ble_eq_true rfl)) dX6_test_66 ?_
      refine dg_bn (fun _ _ _ _ _ _ _ hC => r_if_ne hC dX6_test_69 (tgt := 86) (by decide)) (fun c24 => ?_) (fun c24 => ?_)
      · have hf := dh_el hf c24
        exact g_sub [0, 1, 2] rfl (wG_X6_test_b86 hfl G x0 x1 x2 hf)
      · have hf := dh_if hf c24
        refine g_aload_n dX6_test_72 rfl (j := 0) rfl ?_
        refine dg_l (fun _ _ _ _ _ _ _ hC => r_bipush hC dX6_test_73 kb_61) ?_
        obtain ⟨u25, h25, hf⟩ := dh_bd hf
        obtain ⟨p26, h26, hf⟩ := dh_bd hf
        refine g_callV (rc_O (ci := 6) rfl h25) (cG_X6_isSign _ E Mo G x0 61 h26) q1020 qG_X6_isSign (Nat.le_of_ble_eq_true rfl) (Nat.le_of_ble_eq_true rfl) rfl (dj_cat8 (Nat.le_of_ble_eq_true rfl)) dX6_test_75 ?_
        refine dg_bn (fun _ _ _ _ _ _ _ hC => r_if_ne hC dX6_test_78 (tgt := 86) (by decide)) (fun c27 => ?_) (fun c27 => ?_)
        · have hf := dh_el hf c27
          exact g_sub [0, 1, 2] rfl (wG_X6_test_b86 hfl G x0 x1 x2 hf)
        · have hf := dh_if hf c27
          refine g_aload_n dX6_test_81 rfl (j := 0) rfl ?_
          obtain ⟨u28, h28, hf⟩ := dh_bd hf
          obtain ⟨p29, h29, hf⟩ := dh_bd hf
          refine g_callV (rc_O (ci := 6) rfl h28) (cG_X6_wrong _ hfl E Mo G x0 h29) q1009 qG_X6_wrong (Nat.le_of_ble_eq_true rfl) (Nat.le_of_ble_eq_true rfl) rfl (dj_cat8 (Nat.le_of_ble_eq_true rfl)) dX6_test_82 ?_
          obtain ⟨u30, h30, hf⟩ := dh_bd hf
          exact g_athrow rfl h30 dX6_test_85 hf
def gG_X6_test_L11_F (k11 : (dg_G → Nat → Int32 → Nat → Int32 → Option ((Nat ⊕ Nat) × dg_G))) (G : dg_G) (x0 : Nat) (x1 : Int32) (x2 : Nat) (x3 : Int32) : Option ((Nat ⊕ Nat) × dg_G) :=
  (do_len 32).bind fun v3 =>
  if v3 ≤ x3 then (
    gG_X6_test_b50 G x0 x1 x2)
  else
  if x2 = 0 then (
    (do_ld 32 x3).bind fun v32 =>
    (do_isA v32).bind fun u33 =>
    (do_word v32).bind fun v34 =>
    (dg_is G 6 x0).bind fun u35 =>
    (gG_X6_takes G x0 v34).bind fun p36 =>
    if p36.1 = 0 then (
      k11 p36.2 x0 x1 x2 (x3 + 1))
    else
    (do_ld 32 x3).bind fun v38 =>
    k11 p36.2 x0 x1 v38 (x3 + 1))
  else
  gG_X6_test_b50 G x0 x1 x2
theorem wG_X6_test_L11_F {l : Launch} {E : dj_E} {Mo : Option dm_M} (hfl : dj_fl l) {r : Nat ⊕ Nat} {G' : dg_G} (k11 : (dg_G → Nat → Int32 → Nat → Int32 → Option ((Nat ⊕ Nat) × dg_G))) (hk11 : ∀ (G : dg_G) (x0 : Nat) (x1 : Int32) (x2 : Nat) (x3 : Int32), k11 G x0 x1 x2 x3 = some (r, G') → dgW tG_X6_test l E Mo G' (dg_oR E r) G 11 [(0, dj_v E x0), (1, .int x1), (2, dj_v E x2), (3, .int x3)] []) (G : dg_G) (x0 : Nat) (x1 : Int32) (x2 : Nat) (x3 : Int32) (hf : gG_X6_test_L11_F k11 G x0 x1 x2 x3 = some (r, G')) : dgW tG_X6_test l E Mo G' (dg_oR E r) G 11 [(0, dj_v E x0), (1, .int x1), (2, dj_v E x2), (3, .int x3)] [] := by
  unfold gG_X6_test_L11_F at hf
  refine dg_l (fun _ _ _ _ _ _ _ hC => r_iload_n hC dX6_test_11 rfl (j := 3) rfl) ?_
  refine g_getsN (j := 32) (by decide) (by decide) (fun _ h => dk_zA h) (List.mem_of_getElem? (i := 48) rfl) dX6_test_12 ?_
  obtain ⟨v3, h3, hf⟩ := dh_bd hf
  refine g_lenT h3 dX6_test_15 ?_
  refine dg_b (fun _ _ _ _ _ _ _ hC => r_icmp_ge hC dX6_test_16 (tgt := 50) (by decide)) (fun c4 => ?_) (fun c4 => ?_)
  · have hf := dh_if hf c4
    exact g_sub [0, 1, 2] rfl (wG_X6_test_b50 hfl G x0 x1 x2 hf)
  · have hf := dh_el hf c4
    refine g_aload_n dX6_test_19 rfl (j := 2) rfl ?_
    refine g_ifnonnull dX6_test_20 (tgt := 50) (by decide) (fun c31 => ?_) (fun c31 => ?_)
    · have hf := dh_el hf c31
      exact g_sub [0, 1, 2] rfl (wG_X6_test_b50 hfl G x0 x1 x2 hf)
    · have hf := dh_if hf c31
      refine g_aload_n dX6_test_23 rfl (j := 0) rfl ?_
      refine g_getsN (j := 32) (by decide) (by decide) (fun _ h => dk_zA h) (List.mem_of_getElem? (i := 48) rfl) dX6_test_24 ?_
      refine dg_l (fun _ _ _ _ _ _ _ hC => r_iload_n hC dX6_test_27 rfl (j := 3) rfl) ?_
      obtain ⟨v32, h32, hf⟩ := dh_bd hf
      refine g_ldT h32 dX6_test_28 ?_
      obtain ⟨u33, h33, hf⟩ := dh_bd hf
      obtain ⟨v34, h34, hf⟩ := dh_bd hf
      refine g_wordA h33 h34 (List.mem_of_getElem? (i := 52) rfl) dX6_test_29 ?_
      obtain ⟨u35, h35, hf⟩ := dh_bd hf
      obtain ⟨p36, h36, hf⟩ := dh_bd hf
      refine g_callV (rc_O (ci := 6) rfl h35) (cG_X6_takes _ E Mo G x0 v34 h36) q997 qG_X6_takes (Nat.le_of_ble_eq_true rfl) (Nat.le_of_ble_eq_true rfl) rfl (dj_cat8 (Nat.le_of_ble_eq_true rfl)) dX6_test_32 ?_
      refine dg_b (fun _ _ _ _ _ _ _ hC => r_if_eq hC dX6_test_35 (tgt := 44) (by decide)) (fun c37 => ?_) (fun c37 => ?_)
      · have hf := dh_if hf c37
        refine dg_l (fun _ _ _ _ _ _ _ hC => r_iinc (lv' := [(3, .int (x3 + 1)), (0, dj_v E x0), (1, .int x1), (2, dj_v E x2)]) hC dX6_test_44 (j := 3) rfl (congrArg _ ki_1) (Nat.le_of_ble_eq_true rfl) (by simp only [List.filter, dj_cat] <;> rfl)) ?_
        refine dg_l (fun _ _ _ _ _ _ _ hC => r_goto hC dX6_test_47 (tgt := 11) (by decide)) ?_
        exact g_sub [1, 2, 3, 0] rfl (hk11 p36.2 x0 x1 x2 (x3 + 1) hf)
      · have hf := dh_el hf c37
        refine g_getsN (j := 32) (by decide) (by decide) (fun _ h => dk_zA h) (List.mem_of_getElem? (i := 48) rfl) dX6_test_38 ?_
        refine dg_l (fun _ _ _ _ _ _ _ hC => r_iload_n hC dX6_test_41 rfl (j := 3) rfl) ?_
        obtain ⟨v38, h38, hf⟩ := dh_bd hf
        refine g_ldT h38 dX6_test_42 ?_
        refine g_astore_n (i := 2) (lv1 := [(2, dj_v E v38), (0, dj_v E x0), (1, .int x1), (3, .int x3)]) dX6_test_43 rfl (Nat.le_of_ble_eq_true rfl) rfl ?_
        refine dg_l (fun _ _ _ _ _ _ _ hC => r_iinc (lv' := [(3, .int (x3 + 1)), (2, dj_v E v38), (0, dj_v E x0), (1, .int x1)]) hC dX6_test_44 (j := 3) rfl (congrArg _ ki_1) (Nat.le_of_ble_eq_true rfl) (by simp only [List.filter, dj_cat] <;> rfl)) ?_
        refine dg_l (fun _ _ _ _ _ _ _ hC => r_goto hC dX6_test_47 (tgt := 11) (by decide)) ?_
        exact g_sub [2, 3, 1, 0] rfl (hk11 p36.2 x0 x1 v38 (x3 + 1) hf)
def gG_X6_test_L11 : Nat → dg_G → Nat → Int32 → Nat → Int32 → Option ((Nat ⊕ Nat) × dg_G)
  | 0 => fun _ _ _ _ _ => none
  | n + 1 => gG_X6_test_L11_F (gG_X6_test_L11 n)
theorem wG_X6_test_L11 {l : Launch} {E : dj_E} {Mo : Option dm_M} (hfl : dj_fl l) {r : Nat ⊕ Nat} {G' : dg_G} : ∀ (n : Nat) (G : dg_G) (x0 : Nat) (x1 : Int32) (x2 : Nat) (x3 : Int32) (_ : gG_X6_test_L11 n G x0 x1 x2 x3 = some (r, G')), dgW tG_X6_test l E Mo G' (dg_oR E r) G 11 [(0, dj_v E x0), (1, .int x1), (2, dj_v E x2), (3, .int x3)] [] := by
  intro n
  induction n with
  | zero => intro G x0 x1 x2 x3 hf; exact dh_no hf
  | succ n ih => intro G x0 x1 x2 x3 hf; exact wG_X6_test_L11_F hfl (gG_X6_test_L11 n) ih G x0 x1 x2 x3 hf
def gG_X6_test (G : dg_G) (x0 : Nat) : Option ((Nat ⊕ Nat) × dg_G) :=
  (dg_is G 6 x0).bind fun u1 =>
  (gG_X6_takes G x0 62).bind fun p2 =>
  gG_X6_test_L11 dh_fu p2.2 x0 p2.1 0 0
theorem wG_X6_test {l : Launch} {E : dj_E} {Mo : Option dm_M} (hfl : dj_fl l) {r : Nat ⊕ Nat} {G' : dg_G} (G : dg_G) (x0 : Nat) (hf : gG_X6_test G x0 = some (r, G')) : dgW tG_X6_test l E Mo G' (dg_oR E r) G 0 [(0, dj_v E x0)] [] := by
  unfold gG_X6_test at hf
  refine g_aload_n dX6_test_0 rfl (j := 0) rfl ?_
  refine g_ldcS (i := 62) (tx := "not") rfl (by decide) (by decide) (by decide) dX6_test_1 ?_
  obtain ⟨u1, h1, hf⟩ := dh_bd hf
  obtain ⟨p2, h2, hf⟩ := dh_bd hf
  refine g_callV (rc_O (ci := 6) rfl h1) (cG_X6_takes _ E Mo G x0 62 h2) q997 qG_X6_takes (Nat.le_of_ble_eq_true rfl) (Nat.le_of_ble_eq_true rfl) rfl (dj_cat8 (Nat.le_of_ble_eq_true rfl)) dX6_test_3 ?_
  refine dg_l (fun _ _ _ _ _ _ _ hC => r_istore_n (lv' := [(1, .int p2.1), (0, dj_v E x0)]) hC dX6_test_6 rfl (Nat.le_of_ble_eq_true rfl) (by simp only [List.filter, dj_cat] <;> rfl)) ?_
  refine g_null dX6_test_7 ?_
  refine g_astore_n (i := 2) (lv1 := [(2, dj_v E 0), (1, .int p2.1), (0, dj_v E x0)]) dX6_test_8 rfl (Nat.le_of_ble_eq_true rfl) rfl ?_
  refine dg_l (fun _ _ _ _ _ _ _ hC => r_iconst hC dX6_test_9 ki_0) ?_
  refine dg_l (fun _ _ _ _ _ _ _ hC => r_istore_n (lv' := [(3, .int 0), (2, dj_v E 0), (1, .int p2.1), (0, dj_v E x0)]) hC dX6_test_10 rfl (Nat.le_of_ble_eq_true rfl) (by simp only [List.filter, dj_cat] <;> rfl)) ?_
  exact g_sub [3, 2, 1, 0] rfl (wG_X6_test_L11 hfl dh_fu p2.2 x0 p2.1 0 0 hf)
theorem cG_X6_test (l : Launch) (hfl : dj_fl l) (E : dj_E) (Mo : Option dm_M) (G : dg_G) (x0 : Nat) {p : (Nat ⊕ Nat) × dg_G} (h : gG_X6_test G x0 = some p) : dg_MetT l yX6_test cX6_test 4 (some (.object "DebtorsHouse$Test")) 8 180 E Mo [dj_v E x0] G (dg_oR E p.1) p.2 :=
  dg_metT (plainFor_of_name (by decide)) (by simp only [lg_sl_ref, lg_sl_int, lg_sl_long, lg_sl_nil]; decide) (by simp only [lv_args_ref, lv_args_int, lv_args_long, lv_args_nil]) (wG_X6_test hfl G x0 h)
theorem qG_X6_test : dg_cV "DebtorsHouse$Reader" yX6_test cX6_test 4 (some (.object "DebtorsHouse$Test")) 0 := ⟨q1016, Or.inl qs20, q98, q1017, by decide, by decide, by decide +kernel⟩
/-! DebtorsHouse$Reader.must(I)V -/
abbrev tG_X6_must : dg_T := (cX6_must, 2, RX6, none, 7, 159, "must", [])
def gG_X6_must (G : dg_G) (x0 : Nat) (x1 : Int32) : Option ((Nat ⊕ Unit) × dg_G) :=
  (dg_is G 6 x0).bind fun u1 =>
  (gG_X6_isSign G x0 x1).bind fun p2 =>
  if p2 = 0 then (
    (dg_is G 6 x0).bind fun u6 =>
    (gG_X6_wrong G x0).bind fun p7 =>
    (dg_is p7.2 7 p7.1).bind fun u8 =>
    some (.inl p7.1, p7.2))
  else
  (dg_is G 6 x0).bind fun u4 =>
  (gG_X6_step G x0).bind fun p5 =>
  some (.inr (), p5)
theorem wG_X6_must {l : Launch} {E : dj_E} {Mo : Option dm_M} (hfl : dj_fl l) {r : Nat ⊕ Unit} {G' : dg_G} (G : dg_G) (x0 : Nat) (x1 : Int32) (hf : gG_X6_must G x0 x1 = some (r, G')) : dgW tG_X6_must l E Mo G' (dg_oU r) G 0 [(0, dj_v E x0), (1, .int x1)] [] := by
  unfold gG_X6_must at hf
  refine g_aload_n dX6_must_0 rfl (j := 0) rfl ?_
  refine dg_l (fun _ _ _ _ _ _ _ hC => r_iload_n hC dX6_must_1 rfl (j := 1) rfl) ?_
  obtain ⟨u1, h1, hf⟩ := dh_bd hf
  obtain ⟨p2, h2, hf⟩ := dh_bd hf
  refine g_callV (rc_O (ci := 6) rfl h1) (cG_X6_isSign _ E Mo G x0 x1 h2) q1020 qG_X6_isSign (Nat.le_of_ble_eq_true rfl) (Nat.le_of_ble_eq_true rfl) rfl (dj_cat8 (Nat.le_of_ble_eq_true rfl)) dX6_must_2 ?_
  refine dg_bn (fun _ _ _ _ _ _ _ hC => r_if_ne hC dX6_must_5 (tgt := 13) (by decide)) (fun c3 => ?_) (fun c3 => ?_)
  · have hf := dh_el hf c3
    refine g_aload_n dX6_must_13 rfl (j := 0) rfl ?_
    obtain ⟨u4, h4, hf⟩ := dh_bd hf
    obtain ⟨p5, h5, hf⟩ := dh_bd hf
    refine g_callV (rc_O (ci := 6) rfl h4) (cG_X6_step _ E Mo G x0 h5) q604 qG_X6_step (Nat.le_of_ble_eq_true rfl) (Nat.le_of_ble_eq_true rfl) rfl (dj_cat8 (Nat.le_of_ble_eq_true rfl)) dX6_must_14 ?_
    exact g_vretT dX6_must_17 rfl hf
  · have hf := dh_if hf c3
    refine g_aload_n dX6_must_8 rfl (j := 0) rfl ?_
    obtain ⟨u6, h6, hf⟩ := dh_bd hf
    obtain ⟨p7, h7, hf⟩ := dh_bd hf
    refine g_callV (rc_O (ci := 6) rfl h6) (cG_X6_wrong _ hfl E Mo G x0 h7) q1009 qG_X6_wrong (Nat.le_of_ble_eq_true rfl) (Nat.le_of_ble_eq_true rfl) rfl (dj_cat8 (Nat.le_of_ble_eq_true rfl)) dX6_must_9 ?_
    obtain ⟨u8, h8, hf⟩ := dh_bd hf
    exact g_athrow rfl h8 dX6_must_12 hf
theorem cG_X6_must (l : Launch) (hfl : dj_fl l) (E : dj_E) (Mo : Option dm_M) (G : dg_G) (x0 : Nat) (x1 : Int32) {p : (Nat ⊕ Unit) × dg_G} (h : gG_X6_must G x0 x1 = some p) : dg_MetT l yX6_must cX6_must 2 none 7 159 E Mo [dj_v E x0, .int x1] G (dg_oU p.1) p.2 :=
  dg_metT (plainFor_of_name (by decide)) (by simp only [lg_sl_ref, lg_sl_int, lg_sl_long, lg_sl_nil]; decide) (by simp only [lv_args_ref, lv_args_int, lv_args_long, lv_args_nil]) (wG_X6_must hfl G x0 x1 h)
theorem qG_X6_must : dg_cV "DebtorsHouse$Reader" yX6_must cX6_must 2 none 1 := ⟨q1051, Or.inl qs23, q98, q1052, by decide, by decide, by decide +kernel⟩
