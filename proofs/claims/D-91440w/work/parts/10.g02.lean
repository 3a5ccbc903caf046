set_option maxRecDepth 100000
/-! java/lang/String.<init>(Ljava/lang/AbstractStringBuilder;Ljava/lang/Void;)V -/
abbrev tG_J11_init_2 : dg_T := (cJ11_init_2, 5, RJ11, none, 3, 72, "<init>", [])
def gG_J11_init_2 (G : dg_G) (x0 : Nat) (x1 : Nat) (x2 : Nat) : Option dg_G :=
  (dg_pos x0).bind fun u1 =>
  (dg_is G 11 x1).bind fun u2 =>
  (gG_J9_getValue G x1).bind fun p3 =>
  (dg_is G 11 x1).bind fun u4 =>
  (gG_J10_length G x1).bind fun p5 =>
  (dg_is G 11 x1).bind fun u6 =>
  (gG_J9_isLatin1 G x1).bind fun p7 =>
  if ¬ (p7 = 0) then (
    (dg_pB G 12 1 x0 0).bind fun G18 =>
    (gG_J3_copyOfRange G18 p3 0 p5).bind fun p19 =>
    (dg_pR p19.2 12 0 x0 p19.1).bind fun G20 =>
    some G20)
  else
  if (1 : Int32) = 0 then (
    (dg_pB G 12 1 x0 1).bind fun G10 =>
    (gG_J3_copyOfRange G10 p3 0 (p5 <<< (1 &&& 31))).bind fun p11 =>
    (dg_pR p11.2 12 0 x0 p11.1).bind fun G12 =>
    some G12)
  else
  (dg_gI G 11 2 x1).bind fun v13 =>
  if ¬ (v13 = 0) then (
    none)
  else
  (dg_pB G 12 1 x0 1).bind fun G15 =>
  (gG_J3_copyOfRange G15 p3 0 (p5 <<< (1 &&& 31))).bind fun p16 =>
  (dg_pR p16.2 12 0 x0 p16.1).bind fun G17 =>
  some G17
theorem wG_J11_init_2 {l : Launch} {E : dj_E} {Mo : Option dm_M} {G' : dg_G} (G : dg_G) (x0 : Nat) (x1 : Nat) (x2 : Nat) (hf : gG_J11_init_2 G x0 x1 x2 = some G') : dgW tG_J11_init_2 l E Mo G' (.inr none) G 0 [(0, dj_v E x0), (1, dj_v E x1), (2, dj_v E x2)] [] := by
  unfold gG_J11_init_2 at hf
  refine g_aload_n dJ11_init_2_0 rfl (j := 0) rfl ?_
  obtain ⟨u1, h1, hf⟩ := dh_bd hf
  refine g_obj h1 q745 (Nat.le_of_ble_eq_true rfl) (Nat.le_of_ble_eq_true rfl) dJ11_init_2_1 ?_
  refine g_aload_n dJ11_init_2_4 rfl (j := 1) rfl ?_
  obtain ⟨u2, h2, hf⟩ := dh_bd hf
  obtain ⟨p3, h3, hf⟩ := dh_bd hf
  refine g_callV (rc_O (ci := 11) rfl h2) (cG_J9_getValue _ E Mo G x1 h3) q746 qG_J9_getValue (Nat.le_of_ble_eq_true rfl) (Nat.le_of_ble_eq_true rfl) rfl (dj_cat8 (Nat.le_of_ble_eq_true rfl)) dJ11_init_2_5 ?_
  refine g_astore_n (i := 3) (lv1 := [(3, dj_v E p3), (0, dj_v E x0), (1, dj_v E x1), (2, dj_v E x2)]) dJ11_init_2_8 rfl (Nat.le_of_ble_eq_true rfl) (by simp only [List.filter, dj_cat] <;> rfl) ?_
  refine g_aload_n dJ11_init_2_9 rfl (j := 2) rfl ?_
  obtain ⟨u4, h4, hf⟩ := dh_bd hf
  obtain ⟨p5, h5, hf⟩ := dh_bd hf
  refine g_callO (rc_O (ci := 11) rfl h4) (cG_J10_length _ E Mo G x1 h5) q751 q1999 q653 q2004 q649 q101 q651 q654 ⟨by decide, by decide, by decide +kernel⟩ (Nat.le_of_ble_eq_true rfl) (Nat.le_of_ble_eq_true rfl) rfl (dj_cat8 (Nat.le_of_ble_eq_true rfl)) dJ11_init_2_10 ?_
  refine dg_l (fun _ _ _ _ _ _ _ hC => r_istore (lv' := [(4, .int p5), (3, dj_v E p3), (0, dj_v E x0), (1, dj_v E x1), (2, dj_v E x2)]) hC dJ11_init_2_13 (Nat.le_of_ble_eq_true rfl) (by simp only [List.filter, dj_cat] <;> rfl)) ?_
  refine g_aload_n dJ11_init_2_15 rfl (j := 3) rfl ?_
  obtain ⟨u6, h6, hf⟩ := dh_bd hf
  obtain ⟨p7, h7, hf⟩ := dh_bd hf
  refine g_callV (rc_O (ci := 11) rfl h6) (cG_J9_isLatin1 _ E Mo G x1 h7) q752 qG_J9_isLatin1 (Nat.le_of_ble_eq_true rfl) (Nat.le_of_ble_eq_true rfl) rfl (dj_cat8 (Nat.le_of_ble_eq_true rfl)) dJ11_init_2_16 ?_
  refine dg_b (fun _ _ _ _ _ _ _ hC => r_if_eq hC dJ11_init_2_19 (tgt := 41) (by decide)) (fun c8 => ?_) (fun c8 => ?_)
  · have hf := dh_el hf (fun q => q c8)
    refine g_getsC q762 dJ11_init_2_41 ?_
    refine dg_b (fun _ _ _ _ _ _ _ hC => r_if_eq hC dJ11_init_2_44 (tgt := 79) (by decide)) (fun c9 => ?_) (fun c9 => ?_)
    · have hf := dh_if hf c9
      refine g_aload_n dJ11_init_2_79 rfl (j := 2) rfl ?_
      refine dg_l (fun _ _ _ _ _ _ _ hC => r_iconst hC dJ11_init_2_80 ki_1) ?_
      obtain ⟨G10, h10, hf⟩ := dh_bd hf
      refine g_putB fF_J11_15 (fun _ => rfl) (by decide) h10 dJ11_init_2_81 ?_
      refine g_aload_n dJ11_init_2_84 rfl (j := 2) rfl ?_
      refine g_aload_n dJ11_init_2_85 rfl (j := 1) rfl ?_
      refine dg_l (fun _ _ _ _ _ _ _ hC => r_iconst hC dJ11_init_2_86 ki_0) ?_
      refine dg_l (fun _ _ _ _ _ _ _ hC => r_iload hC dJ11_init_2_87 (j := 0) rfl) ?_
      refine dg_l (fun _ _ _ _ _ _ _ hC => r_iconst hC dJ11_init_2_89 ki_1) ?_
      refine dg_l (fun _ _ _ _ _ _ _ hC => r_ishl hC dJ11_init_2_90) ?_
      obtain ⟨p11, h11, hf⟩ := dh_bd hf
      refine g_callS (cG_J3_copyOfRange _ E Mo G10 p3 0 (p5 <<< (1 &&& 31)) h11) q753 qG_J3_copyOfRange (Nat.le_of_ble_eq_true rfl) (Nat.le_of_ble_eq_true rfl) rfl (dj_cat8 (Nat.le_of_ble_eq_true rfl)) dJ11_init_2_91 ?_
      obtain ⟨G12, h12, hf⟩ := dh_bd hf
      refine g_putR fF_J11_9 (Or.inr ⟨_, rfl⟩) (fun _ => rfl) (by decide) h12 dJ11_init_2_94 ?_
      exact g_vret dJ11_init_2_97 rfl hf
    · have hf := dh_el hf c9
      refine g_aload_n dJ11_init_2_47 rfl (j := 3) rfl ?_
      obtain ⟨v13, h13, hf⟩ := dh_bd hf
      refine g_getI fR_J11_1048 (by decide) h13 dJ11_init_2_48 ?_
      refine dg_b (fun _ _ _ _ _ _ _ hC => r_if_eq hC dJ11_init_2_51 (tgt := 79) (by decide)) (fun c14 => ?_) (fun c14 => ?_)
      · have hf := dh_el hf (fun q => q c14)
        refine g_aload_n dJ11_init_2_79 rfl (j := 2) rfl ?_
        refine dg_l (fun _ _ _ _ _ _ _ hC => r_iconst hC dJ11_init_2_80 ki_1) ?_
        obtain ⟨G15, h15, hf⟩ := dh_bd hf
        refine g_putB fF_J11_15 (fun _ => rfl) (by decide) h15 dJ11_init_2_81 ?_
        refine g_aload_n dJ11_init_2_84 rfl (j := 2) rfl ?_
        refine g_aload_n dJ11_init_2_85 rfl (j := 1) rfl ?_
        refine dg_l (fun _ _ _ _ _ _ _ hC => r_iconst hC dJ11_init_2_86 ki_0) ?_
        refine dg_l (fun _ _ _ _ _ _ _ hC => r_iload hC dJ11_init_2_87 (j := 0) rfl) ?_
        refine dg_l (fun _ _ _ _ _ _ _ hC => r_iconst hC dJ11_init_2_89 ki_1) ?_
        refine dg_l (fun _ _ _ _ _ _ _ hC => r_ishl hC dJ11_init_2_90) ?_
        obtain ⟨p16, h16, hf⟩ := dh_bd hf
        refine g_callS (cG_J3_copyOfRange _ E Mo G15 p3 0 (p5 <<< (1 &&& 31)) h16) q753 qG_J3_copyOfRange (Nat.le_of_ble_eq_true rfl) (Nat.le_of_ble_eq_true rfl) rfl (dj_cat8 (Nat.le_of_ble_eq_true rfl)) dJ11_init_2_91 ?_
        obtain ⟨G17, h17, hf⟩ := dh_bd hf
        refine g_putR fF_J11_9 (Or.inr ⟨_, rfl⟩) (fun _ => rfl) (by decide) h17 dJ11_init_2_94 ?_
        exact g_vret dJ11_init_2_97 rfl hf
      · have hf := dh_if hf c14
        exact dh_no hf
  · have hf := dh_if hf c8
    refine g_aload_n dJ11_init_2_22 rfl (j := 2) rfl ?_
    refine dg_l (fun _ _ _ _ _ _ _ hC => r_iconst hC dJ11_init_2_23 ki_0) ?_
    obtain ⟨G18, h18, hf⟩ := dh_bd hf
    refine g_putB fF_J11_15 (fun _ => rfl) (by decide) h18 dJ11_init_2_24 ?_
    refine g_aload_n dJ11_init_2_27 rfl (j := 2) rfl ?_
    refine g_aload_n dJ11_init_2_28 rfl (j := 1) rfl ?_
    refine dg_l (fun _ _ _ _ _ _ _ hC => r_iconst hC dJ11_init_2_29 ki_0) ?_
    refine dg_l (fun _ _ _ _ _ _ _ hC => r_iload hC dJ11_init_2_30 (j := 0) rfl) ?_
    obtain ⟨p19, h19, hf⟩ := dh_bd hf
    refine g_callS (cG_J3_copyOfRange _ E Mo G18 p3 0 p5 h19) q753 qG_J3_copyOfRange (Nat.le_of_ble_eq_true rfl) (Nat.le_of_ble_eq_true rfl) rfl (dj_cat8 (Nat.le_of_ble_eq_true rfl)) dJ11_init_2_32 ?_
    obtain ⟨G20, h20, hf⟩ := dh_bd hf
    refine g_putR fF_J11_9 (Or.inr ⟨_, rfl⟩) (fun _ => rfl) (by decide) h20 dJ11_init_2_35 ?_
    refine dg_l (fun _ _ _ _ _ _ _ hC => r_goto hC dJ11_init_2_38 (tgt := 97) (by decide)) ?_
    exact g_vret dJ11_init_2_97 rfl hf
theorem cG_J11_init_2 (l : Launch) (E : dj_E) (Mo : Option dm_M) (G : dg_G) (x0 : Nat) (x1 : Nat) (x2 : Nat) {G' : dg_G} (h : gG_J11_init_2 G x0 x1 x2 = some G') : dg_Met l yJ11_init_2 cJ11_init_2 5 none 3 72 E Mo [dj_v E x0, dj_v E x1, dj_v E x2] G none G' :=
  dg_met (plainFor_of_name (by decide)) (by simp only [lg_sl_ref, lg_sl_int, lg_sl_long, lg_sl_nil]; decide) (by simp only [lv_args_ref, lv_args_int, lv_args_long, lv_args_nil]) (wG_J11_init_2 G x0 x1 x2 h)
theorem qG_J11_init_2 : dg_cI yJ11_init_2 cJ11_init_2 5 2 := ⟨q743, q102, q744, rfl, by decide, by decide, by decide +kernel⟩
/-! java/lang/String.<init>(Ljava/lang/StringBuilder;)V -/
abbrev tG_J11_init : dg_T := (cJ11_init, 2, RJ11, none, 4, 96, "<init>", [])
def gG_J11_init (G : dg_G) (x0 : Nat) (x1 : Nat) : Option dg_G :=
  (dg_pos x0).bind fun u1 =>
  (gG_J11_init_2 G x0 x1 0).bind fun p2 =>
  some p2
theorem wG_J11_init {l : Launch} {E : dj_E} {Mo : Option dm_M} {G' : dg_G} (G : dg_G) (x0 : Nat) (x1 : Nat) (hf : gG_J11_init G x0 x1 = some G') : dgW tG_J11_init l E Mo G' (.inr none) G 0 [(0, dj_v E x0), (1, dj_v E x1)] [] := by
  unfold gG_J11_init at hf
  refine g_aload_n dJ11_init_0 rfl (j := 0) rfl ?_
  refine g_aload_n dJ11_init_1 rfl (j := 1) rfl ?_
  refine g_null dJ11_init_2 ?_
  obtain ⟨u1, h1, hf⟩ := dh_bd hf
  obtain ⟨p2, h2, hf⟩ := dh_bd hf
  refine g_callI h1 (cG_J11_init_2 _ E Mo G x0 x1 0 h2) q742 qG_J11_init_2 (Nat.le_of_ble_eq_true rfl) (Nat.le_of_ble_eq_true rfl) rfl (dj_cat8 (Nat.le_of_ble_eq_true rfl)) dJ11_init_3 ?_
  exact g_vret dJ11_init_6 rfl hf
theorem cG_J11_init (l : Launch) (E : dj_E) (Mo : Option dm_M) (G : dg_G) (x0 : Nat) (x1 : Nat) {G' : dg_G} (h : gG_J11_init G x0 x1 = some G') : dg_Met l yJ11_init cJ11_init 2 none 4 96 E Mo [dj_v E x0, dj_v E x1] G none G' :=
  dg_met (plainFor_of_name (by decide)) (by simp only [lg_sl_ref, lg_sl_int, lg_sl_long, lg_sl_nil]; decide) (by simp only [lv_args_ref, lv_args_int, lv_args_long, lv_args_nil]) (wG_J11_init G x0 x1 h)
theorem qG_J11_init : dg_cI yJ11_init cJ11_init 2 1 := ⟨q740, q102, q741, rfl, by decide, by decide, by decide +kernel⟩
/-! java/lang/StringBuilder.toString()Ljava/lang/String; -/
abbrev tG_J10_toString : dg_T := (cJ10_toString, 1, RJ10, (some (.object "java/lang/String")), 5, 117, "toString", [])
def gG_J10_toString (G : dg_G) (x0 : Nat) : Option (Nat × dg_G) :=
  (dg_pos (dg_n G)).bind fun u2 =>
  (gG_J11_init (dg_nw G 12) (dg_n G) x0).bind fun p3 =>
  some (dg_n G, p3)
theorem wG_J10_toString {l : Launch} {E : dj_E} {Mo : Option dm_M} {r : Nat} {G' : dg_G} (G : dg_G) (x0 : Nat) (hf : gG_J10_toString G x0 = some (r, G')) : dgW tG_J10_toString l E Mo G' (.inr (some (dj_v E r))) G 0 [(0, dj_v E x0)] [] := by
  unfold gG_J10_toString at hf
  refine g_new nI_J10_18 dJ10_toString_0 ?_
  refine g_dup dJ10_toString_3 ?_
  refine g_aload_n dJ10_toString_4 rfl (j := 0) rfl ?_
  obtain ⟨u2, h2, hf⟩ := dh_bd hf
  obtain ⟨p3, h3, hf⟩ := dh_bd hf
  refine g_callI h2 (cG_J11_init _ E Mo (dg_nw G 12) (dg_n G) x0 h3) q739 qG_J11_init (Nat.le_of_ble_eq_true rfl) (Nat.le_of_ble_eq_true rfl) rfl (dj_cat8 (Nat.le_of_ble_eq_true rfl)) dJ10_toString_5 ?_
  exact g_aret dJ10_toString_8 rfl (Or.inl ⟨_, rfl⟩) hf
theorem cG_J10_toString (l : Launch) (E : dj_E) (Mo : Option dm_M) (G : dg_G) (x0 : Nat) {p : Nat × dg_G} (h : gG_J10_toString G x0 = some p) : dg_Met l yJ10_toString cJ10_toString 1 (some (.object "java/lang/String")) 5 117 E Mo [dj_v E x0] G (some (dj_v E p.1)) p.2 :=
  dg_met (plainFor_of_name (by decide)) (by simp only [lg_sl_ref, lg_sl_int, lg_sl_long, lg_sl_nil]; decide) (by simp only [lv_args_ref, lv_args_int, lv_args_long, lv_args_nil]) (wG_J10_toString G x0 h)
theorem qG_J10_toString : dg_cV "java/lang/StringBuilder" yJ10_toString cJ10_toString 1 (some (.object "java/lang/String")) 0 := ⟨q734, Or.inl q735, q101, q736, by decide, by decide, by decide +kernel⟩
/-! java/lang/StringLatin1.equals([B[B)Z -/
abbrev tG_J13_equals : dg_T := (cJ13_equals, 3, RJ13, (some .boolean), 0, 0, "equals", [])
def gG_J13_equals_L9_F (k9 : (Nat → Nat → Int32 → Option Int32)) (G : dg_G) (x0 : Nat) (x1 : Nat) (x2 : Int32) : Option Int32 :=
  (dg_lnB G x0).bind fun v4 =>
  if v4 ≤ x2 then (
    some 1)
  else
  (dg_ldB G x0 x2).bind fun v6 =>
  (dg_ldB G x1 x2).bind fun v7 =>
  if v6 = v7 then (
    k9 x0 x1 (x2 + 1))
  else
  some 0
theorem wG_J13_equals_L9_F {l : Launch} {E : dj_E} {Mo : Option dm_M} {r : Int32} (G : dg_G) (k9 : (Nat → Nat → Int32 → Option Int32)) (hk9 : ∀ (x0 : Nat) (x1 : Nat) (x2 : Int32), k9 x0 x1 x2 = some r → dgW tG_J13_equals l E Mo G (.inr (some (.int r))) G 9 [(0, dj_v E x0), (1, dj_v E x1), (2, .int x2)] []) (x0 : Nat) (x1 : Nat) (x2 : Int32) (hf : gG_J13_equals_L9_F k9 G x0 x1 x2 = some r) : dgW tG_J13_equals l E Mo G (.inr (some (.int r))) G 9 [(0, dj_v E x0), (1, dj_v E x1), (2, .int x2)] [] := by
  unfold gG_J13_equals_L9_F at hf
  refine dg_l (fun _ _ _ _ _ _ _ hC => r_iload_n hC dJ13_equals_9 rfl (j := 2) rfl) ?_
  refine g_aload_n dJ13_equals_10 rfl (j := 0) rfl ?_
  obtain ⟨v4, h4, hf⟩ := dh_bd hf
  refine g_lenB h4 dJ13_equals_11 ?_
  refine dg_b (fun _ _ _ _ _ _ _ hC => r_icmp_ge hC dJ13_equals_12 (tgt := 32) (by decide)) (fun c5 => ?_) (fun c5 => ?_)
  · have hf := dh_if hf c5
    refine dg_l (fun _ _ _ _ _ _ _ hC => r_iconst hC dJ13_equals_32 ki_1) ?_
    exact g_zret1 dJ13_equals_33 rfl rfl hf
  · have hf := dh_el hf c5
    refine g_aload_n dJ13_equals_15 rfl (j := 0) rfl ?_
    refine dg_l (fun _ _ _ _ _ _ _ hC => r_iload_n hC dJ13_equals_16 rfl (j := 2) rfl) ?_
    obtain ⟨v6, h6, hf⟩ := dh_bd hf
    refine g_bald h6 dJ13_equals_17 ?_
    refine g_aload_n dJ13_equals_18 rfl (j := 1) rfl ?_
    refine dg_l (fun _ _ _ _ _ _ _ hC => r_iload_n hC dJ13_equals_19 rfl (j := 2) rfl) ?_
    obtain ⟨v7, h7, hf⟩ := dh_bd hf
    refine g_bald h7 dJ13_equals_20 ?_
    refine dg_b (fun _ _ _ _ _ _ _ hC => r_icmp_eq hC dJ13_equals_21 (tgt := 26) (by decide)) (fun c8 => ?_) (fun c8 => ?_)
    · have hf := dh_if hf c8
      refine dg_l (fun _ _ _ _ _ _ _ hC => r_iinc (lv' := [(2, .int (x2 + 1)), (0, dj_v E x0), (1, dj_v E x1)]) hC dJ13_equals_26 (j := 2) rfl (congrArg _ ki_1) (Nat.le_of_ble_eq_true rfl) (by simp only [List.filter, dj_cat] <;> rfl)) ?_
      refine dg_l (fun _ _ _ _ _ _ _ hC => r_goto hC dJ13_equals_29 (tgt := 9) (by decide)) ?_
      exact g_sub [1, 2, 0] rfl (hk9 x0 x1 (x2 + 1) hf)
    · have hf := dh_el hf c8
      refine dg_l (fun _ _ _ _ _ _ _ hC => r_iconst hC dJ13_equals_24 ki_0) ?_
      exact g_zret1 dJ13_equals_25 rfl rfl hf
def gG_J13_equals_L9 (G : dg_G) : Nat → Nat → Nat → Int32 → Option Int32
  | 0 => fun _ _ _ => none
  | n + 1 => gG_J13_equals_L9_F (gG_J13_equals_L9 G n) G
theorem wG_J13_equals_L9 {l : Launch} {E : dj_E} {Mo : Option dm_M} {r : Int32} (G : dg_G) : ∀ (n : Nat) (x0 : Nat) (x1 : Nat) (x2 : Int32) (_ : gG_J13_equals_L9 G n x0 x1 x2 = some r), dgW tG_J13_equals l E Mo G (.inr (some (.int r))) G 9 [(0, dj_v E x0), (1, dj_v E x1), (2, .int x2)] [] := by
  intro n
  induction n with
  | zero => intro x0 x1 x2 hf; exact dh_no hf
  | succ n ih => intro x0 x1 x2 hf; exact wG_J13_equals_L9_F G (gG_J13_equals_L9 G n) ih x0 x1 x2 hf
def gG_J13_equals (G : dg_G) (x0 : Nat) (x1 : Nat) : Option Int32 :=
  (dg_lnB G x0).bind fun v1 =>
  (dg_lnB G x1).bind fun v2 =>
  if v1 = v2 then (
    gG_J13_equals_L9 G dh_fu x0 x1 0)
  else
  some 0
theorem wG_J13_equals {l : Launch} {E : dj_E} {Mo : Option dm_M} {r : Int32} (G : dg_G) (x0 : Nat) (x1 : Nat) (hf : gG_J13_equals G x0 x1 = some r) : dgW tG_J13_equals l E Mo G (.inr (some (.int r))) G 0 [(0, dj_v E x0), (1, dj_v E x1)] [] := by
  unfold gG_J13_equals at hf
  refine g_aload_n dJ13_equals_0 rfl (j := 0) rfl ?_
  obtain ⟨v1, h1, hf⟩ := dh_bd hf
  refine g_lenB h1 dJ13_equals_1 ?_
  refine g_aload_n dJ13_equals_2 rfl (j := 1) rfl ?_
  obtain ⟨v2, h2, hf⟩ := dh_bd hf
  refine g_lenB h2 dJ13_equals_3 ?_
  refine dg_bn (fun _ _ _ _ _ _ _ hC => r_icmp_ne hC dJ13_equals_4 (tgt := 34) (by decide)) (fun c3 => ?_) (fun c3 => ?_)
  · have hf := dh_el hf c3
    refine dg_l (fun _ _ _ _ _ _ _ hC => r_iconst hC dJ13_equals_34 ki_0) ?_
    exact g_zret1 dJ13_equals_35 rfl rfl hf
  · have hf := dh_if hf c3
    refine dg_l (fun _ _ _ _ _ _ _ hC => r_iconst hC dJ13_equals_7 ki_0) ?_
    refine dg_l (fun _ _ _ _ _ _ _ hC => r_istore_n (lv' := [(2, .int 0), (0, dj_v E x0), (1, dj_v E x1)]) hC dJ13_equals_8 rfl (Nat.le_of_ble_eq_true rfl) (by simp only [List.filter, dj_cat] <;> rfl)) ?_
    exact g_sub [1, 2, 0] rfl (wG_J13_equals_L9 G dh_fu x0 x1 0 hf)
theorem cG_J13_equals (l : Launch) (E : dj_E) (Mo : Option dm_M) (G : dg_G) (x0 : Nat) (x1 : Nat) {r : Int32} (h : gG_J13_equals G x0 x1 = some r) : dg_Met l yJ13_equals cJ13_equals 3 (some .boolean) 0 0 E Mo [dj_v E x0, dj_v E x1] G (some (.int r)) G :=
  dg_met (plainFor_of_name (by decide)) (by simp only [lg_sl_ref, lg_sl_int, lg_sl_long, lg_sl_nil]; decide) (by simp only [lv_args_ref, lv_args_int, lv_args_long, lv_args_nil]) (wG_J13_equals G x0 x1 h)
theorem qG_J13_equals : dg_cS yJ13_equals cJ13_equals 3 (some .boolean) 2 := ⟨q1007, q104, q1008, by decide, by decide, by decide +kernel⟩
/-! java/lang/String.equals(Ljava/lang/Object;)Z -/
abbrev tG_J11_equals : dg_T := (cJ11_equals, 3, RJ11, (some .boolean), 1, 22, "equals", [])
def gG_J11_equals_b36 (G : dg_G) (x0 : Nat) (x2 : Nat) : Option Int32 :=
  (dg_gSv G x0).bind fun v6 =>
  (dg_gSv G x2).bind fun v7 =>
  (gG_J13_equals G v6 v7).bind fun p8 =>
  if p8 = 0 then (
    some 0)
  else
  some 1
theorem wG_J11_equals_b36 {l : Launch} {E : dj_E} {Mo : Option dm_M} {r : Int32} (G : dg_G) (x0 : Nat) (x2 : Nat) (hf : gG_J11_equals_b36 G x0 x2 = some r) : dgW tG_J11_equals l E Mo G (.inr (some (.int r))) G 36 [(0, dj_v E x0), (2, dj_v E x2)] [] := by
  unfold gG_J11_equals_b36 at hf
  refine g_aload_n dJ11_equals_36 rfl (j := 0) rfl ?_
  obtain ⟨v6, h6, hf⟩ := dh_bd hf
  refine g_getSv h6 fR_J11_9 q776 dJ11_equals_37 ?_
  refine g_aload_n dJ11_equals_40 rfl (j := 1) rfl ?_
  obtain ⟨v7, h7, hf⟩ := dh_bd hf
  refine g_getSv h7 fR_J11_9 q776 dJ11_equals_41 ?_
  obtain ⟨p8, h8, hf⟩ := dh_bd hf
  refine g_callS (cG_J13_equals _ E Mo G v6 v7 h8) q1006 qG_J13_equals (Nat.le_of_ble_eq_true rfl) (Nat.le_of_ble_eq_true rfl) rfl (dj_cat8 (Nat.le_of_ble_eq_true rfl)) dJ11_equals_44 ?_
  refine dg_b (fun _ _ _ _ _ _ _ hC => r_if_eq hC dJ11_equals_47 (tgt := 54) (by decide)) (fun c9 => ?_) (fun c9 => ?_)
  · have hf := dh_if hf c9
    refine dg_l (fun _ _ _ _ _ _ _ hC => r_iconst hC dJ11_equals_54 ki_0) ?_
    exact g_zret1 dJ11_equals_55 rfl rfl hf
  · have hf := dh_el hf c9
    refine dg_l (fun _ _ _ _ _ _ _ hC => r_iconst hC dJ11_equals_50 ki_1) ?_
    refine dg_l (fun _ _ _ _ _ _ _ hC => r_goto hC dJ11_equals_51 (tgt := 55) (by decide)) ?_
    exact g_zret1 dJ11_equals_55 rfl rfl hf
def gG_J11_equals (G : dg_G) (x0 : Nat) (x1 : Nat) : Option Int32 :=
  (dg_cmp x0 x1).bind fun u1 =>
  if x0 = x1 then (
    some 1)
  else
  (dg_isS G x1).bind fun u2 =>
  if (1 : Int32) = 0 then (
    some 0)
  else
  (dg_isS G x1).bind fun u4 =>
  if (1 : Int32) = 0 then (
    gG_J11_equals_b36 G x0 x1)
  else
  (dg_gSc G x0).bind fun v10 =>
  (dg_gSc G x1).bind fun v11 =>
  if v10 = v11 then (
    gG_J11_equals_b36 G x0 x1)
  else
  some 0
theorem wG_J11_equals {l : Launch} {E : dj_E} {Mo : Option dm_M} {r : Int32} (G : dg_G) (x0 : Nat) (x1 : Nat) (hf : gG_J11_equals G x0 x1 = some r) : dgW tG_J11_equals l E Mo G (.inr (some (.int r))) G 0 [(0, dj_v E x0), (1, dj_v E x1)] [] := by
  unfold gG_J11_equals at hf
  refine g_aload_n dJ11_equals_0 rfl (j := 0) rfl ?_
  refine g_aload_n dJ11_equals_1 rfl (j := 1) rfl ?_
  obtain ⟨u1, h1, hf⟩ := dh_bd hf
  refine g_acmp_ne h1 dJ11_equals_2 (tgt := 7) (by decide) (fun c1 => ?_) (fun c1 => ?_)
  · have hf := dh_el hf c1
    refine g_aload_n dJ11_equals_7 rfl (j := 1) rfl ?_
    obtain ⟨u2, h2, hf⟩ := dh_bd hf
    refine g_instS h2 q1005 dJ11_equals_8 ?_
    refine dg_b (fun _ _ _ _ _ _ _ hC => r_if_eq hC dJ11_equals_11 (tgt := 54) (by decide)) (fun c3 => ?_) (fun c3 => ?_)
    · have hf := dh_if hf c3
      refine dg_l (fun _ _ _ _ _ _ _ hC => r_iconst hC dJ11_equals_54 ki_0) ?_
      exact g_zret1 dJ11_equals_55 rfl rfl hf
    · have hf := dh_el hf c3
      refine g_aload_n dJ11_equals_14 rfl (j := 1) rfl ?_
      obtain ⟨u4, h4, hf⟩ := dh_bd hf
      refine g_castS h4 q1005 dJ11_equals_15 ?_
      refine g_astore_n (i := 2) (lv1 := [(2, dj_v E x1), (0, dj_v E x0), (1, dj_v E x1)]) dJ11_equals_18 rfl (Nat.le_of_ble_eq_true rfl) (by simp only [List.filter, dj_cat] <;> rfl) ?_
      refine g_getsC q762 dJ11_equals_19 ?_
      refine dg_b (fun _ _ _ _ _ _ _ hC => r_if_eq hC dJ11_equals_22 (tgt := 36) (by decide)) (fun c5 => ?_) (fun c5 => ?_)
      · have hf := dh_if hf c5
        exact g_sub [1, 0] rfl (wG_J11_equals_b36 G x0 x1 hf)
      · have hf := dh_el hf c5
        refine g_aload_n dJ11_equals_25 rfl (j := 1) rfl ?_
        obtain ⟨v10, h10, hf⟩ := dh_bd hf
        refine g_getSc h10 fR_J11_15 q777 dJ11_equals_26 ?_
        refine g_aload_n dJ11_equals_29 rfl (j := 0) rfl ?_
        obtain ⟨v11, h11, hf⟩ := dh_bd hf
        refine g_getSc h11 fR_J11_15 q777 dJ11_equals_30 ?_
        refine dg_bn (fun _ _ _ _ _ _ _ hC => r_icmp_ne hC dJ11_equals_33 (tgt := 54) (by decide)) (fun c12 => ?_) (fun c12 => ?_)
        · have hf := dh_el hf c12
          refine dg_l (fun _ _ _ _ _ _ _ hC => r_iconst hC dJ11_equals_54 ki_0) ?_
          exact g_zret1 dJ11_equals_55 rfl rfl hf
        · have hf := dh_if hf c12
          exact g_sub [1, 0] rfl (wG_J11_equals_b36 G x0 x1 hf)
  · have hf := dh_if hf c1
    refine dg_l (fun _ _ _ _ _ _ _ hC => r_iconst hC dJ11_equals_5 ki_1) ?_
    exact g_zret1 dJ11_equals_6 rfl rfl hf
theorem cG_J11_equals (l : Launch) (E : dj_E) (Mo : Option dm_M) (G : dg_G) (x0 : Nat) (x1 : Nat) {r : Int32} (h : gG_J11_equals G x0 x1 = some r) : dg_Met l yJ11_equals cJ11_equals 3 (some .boolean) 1 22 E Mo [dj_v E x0, dj_v E x1] G (some (.int r)) G :=
  dg_met (plainFor_of_name (by decide)) (by simp only [lg_sl_ref, lg_sl_int, lg_sl_long, lg_sl_nil]; decide) (by simp only [lv_args_ref, lv_args_int, lv_args_long, lv_args_nil]) (wG_J11_equals G x0 x1 h)
theorem qG_J11_equals : dg_cV "java/lang/String" yJ11_equals cJ11_equals 3 (some .boolean) 1 := ⟨q1002, Or.inl q1003, q102, q1004, by decide, by decide, by decide +kernel⟩
/-! java/lang/String.isLatin1()Z -/
abbrev tG_J11_isLatin1 : dg_T := (cJ11_isLatin1, 1, RJ11, (some .boolean), 0, 0, "isLatin1", [])
def gG_J11_isLatin1 (G : dg_G) (x0 : Nat) : Option Int32 :=
  if (1 : Int32) = 0 then (
    some 0)
  else
  (dg_gSc G x0).bind fun v2 =>
  if v2 = 0 then (
    some 1)
  else
  some 0
theorem wG_J11_isLatin1 {l : Launch} {E : dj_E} {Mo : Option dm_M} {r : Int32} (G : dg_G) (x0 : Nat) (hf : gG_J11_isLatin1 G x0 = some r) : dgW tG_J11_isLatin1 l E Mo G (.inr (some (.int r))) G 0 [(0, dj_v E x0)] [] := by
  unfold gG_J11_isLatin1 at hf
  refine g_getsC q762 dJ11_isLatin1_0 ?_
  refine dg_b (fun _ _ _ _ _ _ _ hC => r_if_eq hC dJ11_isLatin1_3 (tgt := 17) (by decide)) (fun c1 => ?_) (fun c1 => ?_)
  · have hf := dh_if hf c1
    refine dg_l (fun _ _ _ _ _ _ _ hC => r_iconst hC dJ11_isLatin1_17 ki_0) ?_
    exact g_zret1 dJ11_isLatin1_18 rfl rfl hf
  · have hf := dh_el hf c1
    refine g_aload_n dJ11_isLatin1_6 rfl (j := 0) rfl ?_
    obtain ⟨v2, h2, hf⟩ := dh_bd hf
    refine g_getSc h2 fR_J11_15 q777 dJ11_isLatin1_7 ?_
    refine dg_bn (fun _ _ _ _ _ _ _ hC => r_if_ne hC dJ11_isLatin1_10 (tgt := 17) (by decide)) (fun c3 => ?_) (fun c3 => ?_)
    · have hf := dh_el hf c3
      refine dg_l (fun _ _ _ _ _ _ _ hC => r_iconst hC dJ11_isLatin1_17 ki_0) ?_
      exact g_zret1 dJ11_isLatin1_18 rfl rfl hf
    · have hf := dh_if hf c3
      refine dg_l (fun _ _ _ _ _ _ _ hC => r_iconst hC dJ11_isLatin1_13 ki_1) ?_
      refine dg_l (fun _ _ _ _ _ _ _ hC => r_goto hC dJ11_isLatin1_14 (tgt := 18) (by decide)) ?_
      exact g_zret1 dJ11_isLatin1_18 rfl rfl hf
theorem cG_J11_isLatin1 (l : Launch) (E : dj_E) (Mo : Option dm_M) (G : dg_G) (x0 : Nat) {r : Int32} (h : gG_J11_isLatin1 G x0 = some r) : dg_Met l yJ11_isLatin1 cJ11_isLatin1 1 (some .boolean) 0 0 E Mo [dj_v E x0] G (some (.int r)) G :=
  dg_met (plainFor_of_name (by decide)) (by simp only [lg_sl_ref, lg_sl_int, lg_sl_long, lg_sl_nil]; decide) (by simp only [lv_args_ref, lv_args_int, lv_args_long, lv_args_nil]) (wG_J11_isLatin1 G x0 h)
theorem qG_J11_isLatin1 : dg_cV "java/lang/String" yJ11_isLatin1 cJ11_isLatin1 1 (some .boolean) 0 := ⟨q806, Or.inl q807, q102, q808, by decide, by decide, by decide +kernel⟩
/-! java/lang/String.coder()B -/
abbrev tG_J11_coder : dg_T := (cJ11_coder, 1, RJ11, (some .byte), 0, 0, "coder", [])
def gG_J11_coder (G : dg_G) (x0 : Nat) : Option Int32 :=
  if (1 : Int32) = 0 then (
    (dh_b8 1).bind fun u2 =>
    some 1)
  else
  (dg_gSc G x0).bind fun v3 =>
  (dh_b8 v3).bind fun u4 =>
  some v3
theorem wG_J11_coder {l : Launch} {E : dj_E} {Mo : Option dm_M} {r : Int32} (G : dg_G) (x0 : Nat) (hf : gG_J11_coder G x0 = some r) : dgW tG_J11_coder l E Mo G (.inr (some (.int r))) G 0 [(0, dj_v E x0)] [] := by
  unfold gG_J11_coder at hf
  refine g_getsC q762 dJ11_coder_0 ?_
  refine dg_b (fun _ _ _ _ _ _ _ hC => r_if_eq hC dJ11_coder_3 (tgt := 13) (by decide)) (fun c1 => ?_) (fun c1 => ?_)
  · have hf := dh_if hf c1
    refine dg_l (fun _ _ _ _ _ _ _ hC => r_iconst hC dJ11_coder_13 ki_1) ?_
    obtain ⟨u2, h2, hf⟩ := dh_bd hf
    exact g_zret1 dJ11_coder_14 rfl (dh_b8_n h2) hf
  · have hf := dh_el hf c1
    refine g_aload_n dJ11_coder_6 rfl (j := 0) rfl ?_
    obtain ⟨v3, h3, hf⟩ := dh_bd hf
    refine g_getSc h3 fR_J11_15 q777 dJ11_coder_7 ?_
    refine dg_l (fun _ _ _ _ _ _ _ hC => r_goto hC dJ11_coder_10 (tgt := 14) (by decide)) ?_
    obtain ⟨u4, h4, hf⟩ := dh_bd hf
    exact g_zret1 dJ11_coder_14 rfl (dh_b8_n h4) hf
theorem cG_J11_coder (l : Launch) (E : dj_E) (Mo : Option dm_M) (G : dg_G) (x0 : Nat) {r : Int32} (h : gG_J11_coder G x0 = some r) : dg_Met l yJ11_coder cJ11_coder 1 (some .byte) 0 0 E Mo [dj_v E x0] G (some (.int r)) G :=
  dg_met (plainFor_of_name (by decide)) (by simp only [lg_sl_ref, lg_sl_int, lg_sl_long, lg_sl_nil]; decide) (by simp only [lv_args_ref, lv_args_int, lv_args_long, lv_args_nil]) (wG_J11_coder G x0 h)
theorem qG_J11_coder : dg_cV "java/lang/String" yJ11_coder cJ11_coder 1 (some .byte) 0 := ⟨q814, Or.inl q815, q102, q816, by decide, by decide, by decide +kernel⟩
/-! java/lang/String.length()I -/
abbrev tG_J11_length : dg_T := (cJ11_length, 1, RJ11, (some .int), 1, 20, "length", [])
def gG_J11_length (G : dg_G) (x0 : Nat) : Option Int32 :=
  (dg_gSv G x0).bind fun v1 =>
  (dg_lnB G v1).bind fun v2 =>
  (dg_isS G x0).bind fun u3 =>
  (gG_J11_coder G x0).bind fun p4 =>
  some (v2 >>> (p4 &&& 31))
theorem wG_J11_length {l : Launch} {E : dj_E} {Mo : Option dm_M} {r : Int32} (G : dg_G) (x0 : Nat) (hf : gG_J11_length G x0 = some r) : dgW tG_J11_length l E Mo G (.inr (some (.int r))) G 0 [(0, dj_v E x0)] [] := by
  unfold gG_J11_length at hf
  refine g_aload_n dJ11_length_0 rfl (j := 0) rfl ?_
  obtain ⟨v1, h1, hf⟩ := dh_bd hf
  refine g_getSv h1 fR_J11_9 q776 dJ11_length_1 ?_
  obtain ⟨v2, h2, hf⟩ := dh_bd hf
  refine g_lenB h2 dJ11_length_4 ?_
  refine g_aload_n dJ11_length_5 rfl (j := 0) rfl ?_
  obtain ⟨u3, h3, hf⟩ := dh_bd hf
  obtain ⟨p4, h4, hf⟩ := dh_bd hf
  refine g_callV (rc_S h3) (cG_J11_coder _ E Mo G x0 h4) q813 qG_J11_coder (Nat.le_of_ble_eq_true rfl) (Nat.le_of_ble_eq_true rfl) rfl (dj_cat8 (Nat.le_of_ble_eq_true rfl)) dJ11_length_6 ?_
  refine dg_l (fun _ _ _ _ _ _ _ hC => r_ishr hC dJ11_length_9) ?_
  exact g_iret1 dJ11_length_10 rfl hf
theorem cG_J11_length (l : Launch) (E : dj_E) (Mo : Option dm_M) (G : dg_G) (x0 : Nat) {r : Int32} (h : gG_J11_length G x0 = some r) : dg_Met l yJ11_length cJ11_length 1 (some .int) 1 20 E Mo [dj_v E x0] G (some (.int r)) G :=
  dg_met (plainFor_of_name (by decide)) (by simp only [lg_sl_ref, lg_sl_int, lg_sl_long, lg_sl_nil]; decide) (by simp only [lv_args_ref, lv_args_int, lv_args_long, lv_args_nil]) (wG_J11_length G x0 h)
theorem qG_J11_length : dg_cV "java/lang/String" yJ11_length cJ11_length 1 (some .int) 0 := ⟨q810, Or.inl q811, q102, q812, by decide, by decide, by decide +kernel⟩
/-! java/lang/StringLatin1.indexOfChar([BIII)I -/
abbrev tG_J13_indexOfChar : dg_T := (cJ13_indexOfChar, 6, RJ13, (some .int), 0, 0, "indexOfChar", [])
def gG_J13_indexOfChar_L7_F (k7 : (Nat → Int32 → Int32 → Int32 → Option Int32)) (G : dg_G) (x0 : Nat) (x3 : Int32) (x4 : Int32) (x5 : Int32) : Option Int32 :=
  if x3 ≤ x5 then (
    some (-1))
  else
  (dg_ldB G x0 x5).bind fun v2 =>
  if v2 = x4 then (
    some x5)
  else
  k7 x0 x3 x4 (x5 + 1)
theorem wG_J13_indexOfChar_L7_F {l : Launch} {E : dj_E} {Mo : Option dm_M} {r : Int32} (G : dg_G) (k7 : (Nat → Int32 → Int32 → Int32 → Option Int32)) (hk7 : ∀ (x0 : Nat) (x3 : Int32) (x4 : Int32) (x5 : Int32), k7 x0 x3 x4 x5 = some r → dgW tG_J13_indexOfChar l E Mo G (.inr (some (.int r))) G 7 [(0, dj_v E x0), (3, .int x3), (4, .int x4), (5, .int x5)] []) (x0 : Nat) (x3 : Int32) (x4 : Int32) (x5 : Int32) (hf : gG_J13_indexOfChar_L7_F k7 G x0 x3 x4 x5 = some r) : dgW tG_J13_indexOfChar l E Mo G (.inr (some (.int r))) G 7 [(0, dj_v E x0), (3, .int x3), (4, .int x4), (5, .int x5)] [] := by
  unfold gG_J13_indexOfChar_L7_F at hf
  refine dg_l (fun _ _ _ _ _ _ _ hC => r_iload hC dJ13_indexOfChar_7 (j := 3) rfl) ?_
  refine dg_l (fun _ _ _ _ _ _ _ hC => r_iload_n hC dJ13_indexOfChar_9 rfl (j := 1) rfl) ?_
  refine dg_b (fun _ _ _ _ _ _ _ hC => r_icmp_ge hC dJ13_indexOfChar_10 (tgt := 31) (by decide)) (fun c1 => ?_) (fun c1 => ?_)
  · have hf := dh_if hf c1
    refine dg_l (fun _ _ _ _ _ _ _ hC => r_iconst hC dJ13_indexOfChar_31 ki_m1) ?_
    exact g_iret1 dJ13_indexOfChar_32 rfl hf
  · have hf := dh_el hf c1
    refine g_aload_n dJ13_indexOfChar_13 rfl (j := 0) rfl ?_
    refine dg_l (fun _ _ _ _ _ _ _ hC => r_iload hC dJ13_indexOfChar_14 (j := 3) rfl) ?_
    obtain ⟨v2, h2, hf⟩ := dh_bd hf
    refine g_bald h2 dJ13_indexOfChar_16 ?_
    refine dg_l (fun _ _ _ _ _ _ _ hC => r_iload hC dJ13_indexOfChar_17 (j := 2) rfl) ?_
    refine dg_bn (fun _ _ _ _ _ _ _ hC => r_icmp_ne hC dJ13_indexOfChar_19 (tgt := 25) (by decide)) (fun c3 => ?_) (fun c3 => ?_)
    · have hf := dh_el hf c3
      refine dg_l (fun _ _ _ _ _ _ _ hC => r_iinc (lv' := [(5, .int (x5 + 1)), (0, dj_v E x0), (3, .int x3), (4, .int x4)]) hC dJ13_indexOfChar_25 (j := 3) rfl (congrArg _ ki_1) (Nat.le_of_ble_eq_true rfl) rfl) ?_
      refine dg_l (fun _ _ _ _ _ _ _ hC => r_goto hC dJ13_indexOfChar_28 (tgt := 7) (by decide)) ?_
      exact g_sub [1, 2, 3, 0] rfl (hk7 x0 x3 x4 (x5 + 1) hf)
    · have hf := dh_if hf c3
      refine dg_l (fun _ _ _ _ _ _ _ hC => r_iload hC dJ13_indexOfChar_22 (j := 3) rfl) ?_
      exact g_iret1 dJ13_indexOfChar_24 rfl hf
def gG_J13_indexOfChar_L7 (G : dg_G) : Nat → Nat → Int32 → Int32 → Int32 → Option Int32
  | 0 => fun _ _ _ _ => none
  | n + 1 => gG_J13_indexOfChar_L7_F (gG_J13_indexOfChar_L7 G n) G
theorem wG_J13_indexOfChar_L7 {l : Launch} {E : dj_E} {Mo : Option dm_M} {r : Int32} (G : dg_G) : ∀ (n : Nat) (x0 : Nat) (x3 : Int32) (x4 : Int32) (x5 : Int32) (_ : gG_J13_indexOfChar_L7 G n x0 x3 x4 x5 = some r), dgW tG_J13_indexOfChar l E Mo G (.inr (some (.int r))) G 7 [(0, dj_v E x0), (3, .int x3), (4, .int x4), (5, .int x5)] [] := by
  intro n
  induction n with
  | zero => intro x0 x3 x4 x5 hf; exact dh_no hf
  | succ n ih => intro x0 x3 x4 x5 hf; exact wG_J13_indexOfChar_L7_F G (gG_J13_indexOfChar_L7 G n) ih x0 x3 x4 x5 hf
def gG_J13_indexOfChar (G : dg_G) (x0 : Nat) (x1 : Int32) (x2 : Int32) (x3 : Int32) : Option Int32 :=
  gG_J13_indexOfChar_L7 G dh_fu x0 x3 (Int8.toInt32 (Int32.toInt8 x1)) x2
theorem wG_J13_indexOfChar {l : Launch} {E : dj_E} {Mo : Option dm_M} {r : Int32} (G : dg_G) (x0 : Nat) (x1 : Int32) (x2 : Int32) (x3 : Int32) (hf : gG_J13_indexOfChar G x0 x1 x2 x3 = some r) : dgW tG_J13_indexOfChar l E Mo G (.inr (some (.int r))) G 0 [(0, dj_v E x0), (1, .int x1), (2, .int x2), (3, .int x3)] [] := by
  unfold gG_J13_indexOfChar at hf
  refine dg_l (fun _ _ _ _ _ _ _ hC => r_iload_n hC dJ13_indexOfChar_0 rfl (j := 1) rfl) ?_
  refine dg_l (fun _ _ _ _ _ _ _ hC => r_i2b hC dJ13_indexOfChar_1) ?_
  refine dg_l (fun _ _ _ _ _ _ _ hC => r_istore (lv' := [(4, .int (Int8.toInt32 (Int32.toInt8 x1))), (0, dj_v E x0), (1, .int x1), (2, .int x2), (3, .int x3)]) hC dJ13_indexOfChar_2 (Nat.le_of_ble_eq_true rfl) rfl) ?_
  refine dg_l (fun _ _ _ _ _ _ _ hC => r_iload_n hC dJ13_indexOfChar_4 rfl (j := 3) rfl) ?_
  refine dg_l (fun _ _ _ _ _ _ _ hC => r_istore (lv' := [(5, .int x2), (4, .int (Int8.toInt32 (Int32.toInt8 x1))), (0, dj_v E x0), (1, .int x1), (2, .int x2), (3, .int x3)]) hC dJ13_indexOfChar_5 (Nat.le_of_ble_eq_true rfl) rfl) ?_
  exact g_sub [2, 5, 1, 0] rfl (wG_J13_indexOfChar_L7 G dh_fu x0 x3 (Int8.toInt32 (Int32.toInt8 x1)) x2 hf)
theorem cG_J13_indexOfChar (l : Launch) (E : dj_E) (Mo : Option dm_M) (G : dg_G) (x0 : Nat) (x1 : Int32) (x2 : Int32) (x3 : Int32) {r : Int32} (h : gG_J13_indexOfChar G x0 x1 x2 x3 = some r) : dg_Met l yJ13_indexOfChar cJ13_indexOfChar 6 (some .int) 0 0 E Mo [dj_v E x0, .int x1, .int x2, .int x3] G (some (.int r)) G :=
  dg_met (plainFor_of_name (by decide)) (by simp only [lg_sl_ref, lg_sl_int, lg_sl_long, lg_sl_nil]; decide) (by simp only [lv_args_ref, lv_args_int, lv_args_long, lv_args_nil]) (wG_J13_indexOfChar G x0 x1 x2 x3 h)
theorem qG_J13_indexOfChar : dg_cS yJ13_indexOfChar cJ13_indexOfChar 6 (some .int) 4 := ⟨q826, q104, q827, by decide, by decide, by decide +kernel⟩
/-! java/lang/StringLatin1.indexOf([BIII)I -/
abbrev tG_J13_indexOf : dg_T := (cJ13_indexOf, 4, RJ13, (some .int), 1, 25, "indexOf", [])
def gG_J13_indexOf (G : dg_G) (x0 : Nat) (x1 : Int32) (x2 : Int32) (x3 : Int32) : Option Int32 :=
  (gG_J13_canEncode_2 G x1).bind fun p1 =>
  if p1 = 0 then (
    some (-1))
  else
  (gG_J5_max G x2 0).bind fun p3 =>
  (dg_lnB G x0).bind fun v4 =>
  (gG_J5_min G x3 v4).bind fun p5 =>
  if ¬ (p3 < p5) then (
    some (-1))
  else
  (gG_J13_indexOfChar G x0 x1 p3 p5).bind fun p7 =>
  some p7
theorem wG_J13_indexOf {l : Launch} {E : dj_E} {Mo : Option dm_M} {r : Int32} (G : dg_G) (x0 : Nat) (x1 : Int32) (x2 : Int32) (x3 : Int32) (hf : gG_J13_indexOf G x0 x1 x2 x3 = some r) : dgW tG_J13_indexOf l E Mo G (.inr (some (.int r))) G 0 [(0, dj_v E x0), (1, .int x1), (2, .int x2), (3, .int x3)] [] := by
  unfold gG_J13_indexOf at hf
  refine dg_l (fun _ _ _ _ _ _ _ hC => r_iload_n hC dJ13_indexOf_0 rfl (j := 1) rfl) ?_
  obtain ⟨p1, h1, hf⟩ := dh_bd hf
  refine g_callS (cG_J13_canEncode_2 _ E Mo G x1 h1) q820 qG_J13_canEncode_2 (Nat.le_of_ble_eq_true rfl) (Nat.le_of_ble_eq_true rfl) rfl (dj_cat8 (Nat.le_of_ble_eq_true rfl)) dJ13_indexOf_1 ?_
  refine dg_bn (fun _ _ _ _ _ _ _ hC => r_if_ne hC dJ13_indexOf_4 (tgt := 9) (by decide)) (fun c2 => ?_) (fun c2 => ?_)
  · have hf := dh_el hf c2
    refine dg_l (fun _ _ _ _ _ _ _ hC => r_iload_n hC dJ13_indexOf_9 rfl (j := 2) rfl) ?_
    refine dg_l (fun _ _ _ _ _ _ _ hC => r_iconst hC dJ13_indexOf_10 ki_0) ?_
    obtain ⟨p3, h3, hf⟩ := dh_bd hf
    refine g_callS (cG_J5_max _ E Mo G x2 0 h3) q823 qG_J5_max (Nat.le_of_ble_eq_true rfl) (Nat.le_of_ble_eq_true rfl) rfl (dj_cat8 (Nat.le_of_ble_eq_true rfl)) dJ13_indexOf_11 ?_
    refine dg_l (fun _ _ _ _ _ _ _ hC => r_istore_n (lv' := [(2, .int p3), (0, dj_v E x0), (1, .int x1), (3, .int x3)]) hC dJ13_indexOf_14 rfl (Nat.le_of_ble_eq_true rfl) rfl) ?_
    refine dg_l (fun _ _ _ _ _ _ _ hC => r_iload_n hC dJ13_indexOf_15 rfl (j := 3) rfl) ?_
    refine g_aload_n dJ13_indexOf_16 rfl (j := 1) rfl ?_
    obtain ⟨v4, h4, hf⟩ := dh_bd hf
    refine g_lenB h4 dJ13_indexOf_17 ?_
    obtain ⟨p5, h5, hf⟩ := dh_bd hf
    refine g_callS (cG_J5_min _ E Mo G x3 v4 h5) q824 qG_J5_min (Nat.le_of_ble_eq_true rfl) (Nat.le_of_ble_eq_true rfl) rfl (dj_cat8 (Nat.le_of_ble_eq_true rfl)) dJ13_indexOf_18 ?_
    refine dg_l (fun _ _ _ _ _ _ _ hC => r_istore_n (lv' := [(3, .int p5), (2, .int p3), (0, dj_v E x0), (1, .int x1)]) hC dJ13_indexOf_21 rfl (Nat.le_of_ble_eq_true rfl) rfl) ?_
    refine dg_l (fun _ _ _ _ _ _ _ hC => r_iload_n hC dJ13_indexOf_22 rfl (j := 1) rfl) ?_
    refine dg_l (fun _ _ _ _ _ _ _ hC => r_iload_n hC dJ13_indexOf_23 rfl (j := 0) rfl) ?_
    refine dg_b (fun _ _ _ _ _ _ _ hC => r_icmp_lt hC dJ13_indexOf_24 (tgt := 29) (by decide)) (fun c6 => ?_) (fun c6 => ?_)
    · have hf := dh_el hf (fun q => q c6)
      refine g_aload_n dJ13_indexOf_29 rfl (j := 2) rfl ?_
      refine dg_l (fun _ _ _ _ _ _ _ hC => r_iload_n hC dJ13_indexOf_30 rfl (j := 3) rfl) ?_
      refine dg_l (fun _ _ _ _ _ _ _ hC => r_iload_n hC dJ13_indexOf_31 rfl (j := 1) rfl) ?_
      refine dg_l (fun _ _ _ _ _ _ _ hC => r_iload_n hC dJ13_indexOf_32 rfl (j := 0) rfl) ?_
      obtain ⟨p7, h7, hf⟩ := dh_bd hf
      refine g_callS (cG_J13_indexOfChar _ E Mo G x0 x1 p3 p5 h7) q825 qG_J13_indexOfChar (Nat.le_of_ble_eq_true rfl) (Nat.le_of_ble_eq_true rfl) rfl (dj_cat8 (Nat.le_of_ble_eq_true rfl)) dJ13_indexOf_33 ?_
      exact g_iret1 dJ13_indexOf_36 rfl hf
    · have hf := dh_if hf c6
      refine dg_l (fun _ _ _ _ _ _ _ hC => r_iconst hC dJ13_indexOf_27 ki_m1) ?_
      exact g_iret1 dJ13_indexOf_28 rfl hf
  · have hf := dh_if hf c2
    refine dg_l (fun _ _ _ _ _ _ _ hC => r_iconst hC dJ13_indexOf_7 ki_m1) ?_
    exact g_iret1 dJ13_indexOf_8 rfl hf
theorem cG_J13_indexOf (l : Launch) (E : dj_E) (Mo : Option dm_M) (G : dg_G) (x0 : Nat) (x1 : Int32) (x2 : Int32) (x3 : Int32) {r : Int32} (h : gG_J13_indexOf G x0 x1 x2 x3 = some r) : dg_Met l yJ13_indexOf cJ13_indexOf 4 (some .int) 1 25 E Mo [dj_v E x0, .int x1, .int x2, .int x3] G (some (.int r)) G :=
  dg_met (plainFor_of_name (by decide)) (by simp only [lg_sl_ref, lg_sl_int, lg_sl_long, lg_sl_nil]; decide) (by simp only [lv_args_ref, lv_args_int, lv_args_long, lv_args_nil]) (wG_J13_indexOf G x0 x1 x2 x3 h)
theorem qG_J13_indexOf : dg_cS yJ13_indexOf cJ13_indexOf 4 (some .int) 4 := ⟨q818, q104, q819, by decide, by decide, by decide +kernel⟩
/-! java/lang/String.indexOf(II)I -/
abbrev tG_J11_indexOf_2 : dg_T := (cJ11_indexOf_2, 3, RJ11, (some .int), 2, 48, "indexOf", [])
def gG_J11_indexOf_2 (G : dg_G) (x0 : Nat) (x1 : Int32) (x2 : Int32) : Option Int32 :=
  (dg_isS G x0).bind fun u1 =>
  (gG_J11_isLatin1 G x0).bind fun p2 =>
  if p2 = 0 then (
    none)
  else
  (dg_gSv G x0).bind fun v7 =>
  (dg_isS G x0).bind fun u8 =>
  (gG_J11_length G x0).bind fun p9 =>
  (gG_J13_indexOf G v7 x1 x2 p9).bind fun p10 =>
  some p10
theorem wG_J11_indexOf_2 {l : Launch} {E : dj_E} {Mo : Option dm_M} {r : Int32} (G : dg_G) (x0 : Nat) (x1 : Int32) (x2 : Int32) (hf : gG_J11_indexOf_2 G x0 x1 x2 = some r) : dgW tG_J11_indexOf_2 l E Mo G (.inr (some (.int r))) G 0 [(0, dj_v E x0), (1, .int x1), (2, .int x2)] [] := by
  unfold gG_J11_indexOf_2 at hf
  refine g_aload_n dJ11_indexOf_2_0 rfl (j := 0) rfl ?_
  obtain ⟨u1, h1, hf⟩ := dh_bd hf
  obtain ⟨p2, h2, hf⟩ := dh_bd hf
  refine g_callV (rc_S h1) (cG_J11_isLatin1 _ E Mo G x0 h2) q805 qG_J11_isLatin1 (Nat.le_of_ble_eq_true rfl) (Nat.le_of_ble_eq_true rfl) rfl (dj_cat8 (Nat.le_of_ble_eq_true rfl)) dJ11_indexOf_2_1 ?_
  refine dg_b (fun _ _ _ _ _ _ _ hC => r_if_eq hC dJ11_indexOf_2_4 (tgt := 23) (by decide)) (fun c3 => ?_) (fun c3 => ?_)
  · have hf := dh_if hf c3
    exact dh_no hf
  · have hf := dh_el hf c3
    refine g_aload_n dJ11_indexOf_2_7 rfl (j := 0) rfl ?_
    obtain ⟨v7, h7, hf⟩ := dh_bd hf
    refine g_getSv h7 fR_J11_9 q776 dJ11_indexOf_2_8 ?_
    refine dg_l (fun _ _ _ _ _ _ _ hC => r_iload_n hC dJ11_indexOf_2_11 rfl (j := 1) rfl) ?_
    refine dg_l (fun _ _ _ _ _ _ _ hC => r_iload_n hC dJ11_indexOf_2_12 rfl (j := 2) rfl) ?_
    refine g_aload_n dJ11_indexOf_2_13 rfl (j := 0) rfl ?_
    obtain ⟨u8, h8, hf⟩ := dh_bd hf
    obtain ⟨p9, h9, hf⟩ := dh_bd hf
    refine g_callV (rc_S h8) (cG_J11_length _ E Mo G x0 h9) q809 qG_J11_length (Nat.le_of_ble_eq_true rfl) (Nat.le_of_ble_eq_true rfl) rfl (dj_cat8 (Nat.le_of_ble_eq_true rfl)) dJ11_indexOf_2_14 ?_
    obtain ⟨p10, h10, hf⟩ := dh_bd hf
    refine g_callS (cG_J13_indexOf _ E Mo G v7 x1 x2 p9 h10) q817 qG_J13_indexOf (Nat.le_of_ble_eq_true rfl) (Nat.le_of_ble_eq_true rfl) rfl (dj_cat8 (Nat.le_of_ble_eq_true rfl)) dJ11_indexOf_2_17 ?_
    refine dg_l (fun _ _ _ _ _ _ _ hC => r_goto hC dJ11_indexOf_2_20 (tgt := 36) (by decide)) ?_
    exact g_iret1 dJ11_indexOf_2_36 rfl hf
theorem cG_J11_indexOf_2 (l : Launch) (E : dj_E) (Mo : Option dm_M) (G : dg_G) (x0 : Nat) (x1 : Int32) (x2 : Int32) {r : Int32} (h : gG_J11_indexOf_2 G x0 x1 x2 = some r) : dg_Met l yJ11_indexOf_2 cJ11_indexOf_2 3 (some .int) 2 48 E Mo [dj_v E x0, .int x1, .int x2] G (some (.int r)) G :=
  dg_met (plainFor_of_name (by decide)) (by simp only [lg_sl_ref, lg_sl_int, lg_sl_long, lg_sl_nil]; decide) (by simp only [lv_args_ref, lv_args_int, lv_args_long, lv_args_nil]) (wG_J11_indexOf_2 G x0 x1 x2 h)
theorem qG_J11_indexOf_2 : dg_cV "java/lang/String" yJ11_indexOf_2 cJ11_indexOf_2 3 (some .int) 2 := ⟨q802, Or.inl q803, q102, q804, by decide, by decide, by decide +kernel⟩
/-! java/lang/String.indexOf(I)I -/
abbrev tG_J11_indexOf : dg_T := (cJ11_indexOf, 2, RJ11, (some .int), 3, 70, "indexOf", [])
def gG_J11_indexOf (G : dg_G) (x0 : Nat) (x1 : Int32) : Option Int32 :=
  (dg_isS G x0).bind fun u1 =>
  (gG_J11_indexOf_2 G x0 x1 0).bind fun p2 =>
  some p2
theorem wG_J11_indexOf {l : Launch} {E : dj_E} {Mo : Option dm_M} {r : Int32} (G : dg_G) (x0 : Nat) (x1 : Int32) (hf : gG_J11_indexOf G x0 x1 = some r) : dgW tG_J11_indexOf l E Mo G (.inr (some (.int r))) G 0 [(0, dj_v E x0), (1, .int x1)] [] := by
  unfold gG_J11_indexOf at hf
  refine g_aload_n dJ11_indexOf_0 rfl (j := 0) rfl ?_
  refine dg_l (fun _ _ _ _ _ _ _ hC => r_iload_n hC dJ11_indexOf_1 rfl (j := 1) rfl) ?_
  refine dg_l (fun _ _ _ _ _ _ _ hC => r_iconst hC dJ11_indexOf_2 ki_0) ?_
  obtain ⟨u1, h1, hf⟩ := dh_bd hf
  obtain ⟨p2, h2, hf⟩ := dh_bd hf
  refine g_callV (rc_S h1) (cG_J11_indexOf_2 _ E Mo G x0 x1 0 h2) q801 qG_J11_indexOf_2 (Nat.le_of_ble_eq_true rfl) (Nat.le_of_ble_eq_true rfl) rfl (dj_cat8 (Nat.le_of_ble_eq_true rfl)) dJ11_indexOf_3 ?_
  exact g_iret1 dJ11_indexOf_6 rfl hf
theorem cG_J11_indexOf (l : Launch) (E : dj_E) (Mo : Option dm_M) (G : dg_G) (x0 : Nat) (x1 : Int32) {r : Int32} (h : gG_J11_indexOf G x0 x1 = some r) : dg_Met l yJ11_indexOf cJ11_indexOf 2 (some .int) 3 70 E Mo [dj_v E x0, .int x1] G (some (.int r)) G :=
  dg_met (plainFor_of_name (by decide)) (by simp only [lg_sl_ref, lg_sl_int, lg_sl_long, lg_sl_nil]; decide) (by simp only [lv_args_ref, lv_args_int, lv_args_long, lv_args_nil]) (wG_J11_indexOf G x0 x1 h)
theorem qG_J11_indexOf : dg_cV "java/lang/String" yJ11_indexOf cJ11_indexOf 2 (some .int) 1 := ⟨q798, Or.inl q799, q102, q800, by decide, by decide, by decide +kernel⟩
/-! DebtorsHouse$Topic.isPercent()Z -/
abbrev tG_X10_isPercent : dg_T := (cX10_isPercent, 1, RX10, (some .boolean), 0, 0, "isPercent", [])
def gG_X10_isPercent (G : dg_G) (x0 : Nat) : Option Int32 :=
  (dg_cmp x0 5).bind fun u1 =>
  if x0 = 5 then (
    some 1)
  else
  (dg_cmp x0 6).bind fun u2 =>
  if x0 = 6 then (
    some 1)
  else
  (dg_cmp x0 8).bind fun u3 =>
  if x0 = 8 then (
    some 1)
  else
  some 0
theorem wG_X10_isPercent {l : Launch} {E : dj_E} {Mo : Option dm_M} {r : Int32} (G : dg_G) (x0 : Nat) (hf : gG_X10_isPercent G x0 = some r) : dgW tG_X10_isPercent l E Mo G (.inr (some (.int r))) G 0 [(0, dj_v E x0)] [] := by
  unfold gG_X10_isPercent at hf
  refine g_aload_n dX10_isPercent_0 rfl (j := 0) rfl ?_
  refine g_gets (j := 5) (by decide) (by decide) (fun _ h => ((dk_T h).1 4 (by decide)).1) q1059 dX10_isPercent_1 ?_
  obtain ⟨u1, h1, hf⟩ := dh_bd hf
  refine g_acmp_eq h1 dX10_isPercent_4 (tgt := 21) (by decide) (fun c1 => ?_) (fun c1 => ?_)
  · have hf := dh_if hf c1
    refine dg_l (fun _ _ _ _ _ _ _ hC => r_iconst hC dX10_isPercent_21 ki_1) ?_
    refine dg_l (fun _ _ _ _ _ _ _ hC => r_goto hC dX10_isPercent_22 (tgt := 26) (by decide)) ?_
    exact g_zret1 dX10_isPercent_26 rfl rfl hf
  · have hf := dh_el hf c1
    refine g_aload_n dX10_isPercent_7 rfl (j := 0) rfl ?_
    refine g_gets (j := 6) (by decide) (by decide) (fun _ h => ((dk_T h).1 5 (by decide)).1) q1061 dX10_isPercent_8 ?_
    obtain ⟨u2, h2, hf⟩ := dh_bd hf
    refine g_acmp_eq h2 dX10_isPercent_11 (tgt := 21) (by decide) (fun c2 => ?_) (fun c2 => ?_)
    · have hf := dh_if hf c2
      refine dg_l (fun _ _ _ _ _ _ _ hC => r_iconst hC dX10_isPercent_21 ki_1) ?_
      refine dg_l (fun _ _ _ _ _ _ _ hC => r_goto hC dX10_isPercent_22 (tgt := 26) (by decide)) ?_
      exact g_zret1 dX10_isPercent_26 rfl rfl hf
    · have hf := dh_el hf c2
      refine g_aload_n dX10_isPercent_14 rfl (j := 0) rfl ?_
      refine g_gets (j := 8) (by decide) (by decide) (fun _ h => ((dk_T h).1 7 (by decide)).1) q1063 dX10_isPercent_15 ?_
      obtain ⟨u3, h3, hf⟩ := dh_bd hf
      refine g_acmp_ne h3 dX10_isPercent_18 (tgt := 25) (by decide) (fun c3 => ?_) (fun c3 => ?_)
      · have hf := dh_el hf c3
        refine dg_l (fun _ _ _ _ _ _ _ hC => r_iconst hC dX10_isPercent_25 ki_0) ?_
        exact g_zret1 dX10_isPercent_26 rfl rfl hf
      · have hf := dh_if hf c3
        refine dg_l (fun _ _ _ _ _ _ _ hC => r_iconst hC dX10_isPercent_21 ki_1) ?_
        refine dg_l (fun _ _ _ _ _ _ _ hC => r_goto hC dX10_isPercent_22 (tgt := 26) (by decide)) ?_
        exact g_zret1 dX10_isPercent_26 rfl rfl hf
theorem cG_X10_isPercent (l : Launch) (E : dj_E) (Mo : Option dm_M) (G : dg_G) (x0 : Nat) {r : Int32} (h : gG_X10_isPercent G x0 = some r) : dg_Met l yX10_isPercent cX10_isPercent 1 (some .boolean) 0 0 E Mo [dj_v E x0] G (some (.int r)) G :=
  dg_met (plainFor_of_name (by decide)) (by simp only [lg_sl_ref, lg_sl_int, lg_sl_long, lg_sl_nil]; decide) (by simp only [lv_args_ref, lv_args_int, lv_args_long, lv_args_nil]) (wG_X10_isPercent G x0 h)
theorem qG_X10_isPercent : dg_cV "DebtorsHouse$Topic" yX10_isPercent cX10_isPercent 1 (some .boolean) 0 := ⟨q1056, Or.inl q1057, q111, q1058, by decide, by decide, by decide +kernel⟩
/-! DebtorsHouse$Fault.<init>(II)V -/
abbrev tG_X7_init : dg_T := (cX7_init, 3, RX7, none, 4, 80, "<init>", [])
def gG_X7_init (G : dg_G) (x0 : Nat) (x1 : Int32) (x2 : Int32) : Option dg_G :=
  (dg_beg G x0).bind fun G1 =>
  (dg_pI G1 7 0 x0 x1).bind fun G2 =>
  (dg_pI G2 7 1 x0 x2).bind fun G3 =>
  some G3
theorem wG_X7_init {l : Launch} {E : dj_E} {Mo : Option dm_M} (hfl : dj_fl l) {G' : dg_G} (G : dg_G) (x0 : Nat) (x1 : Int32) (x2 : Int32) (hf : gG_X7_init G x0 x1 x2 = some G') : dgW tG_X7_init l E Mo G' (.inr none) G 0 [(0, dj_v E x0), (1, .int x1), (2, .int x2)] [] := by
  unfold gG_X7_init at hf
  refine g_aload_n dX7_init_0 rfl (j := 0) rfl ?_
  obtain ⟨G1, h1, hf⟩ := dh_bd hf
  refine g_exc hfl rfl h1 q946 (Nat.le_of_ble_eq_true rfl) (Nat.le_of_ble_eq_true rfl) dX7_init_1 ?_
  refine g_aload_n dX7_init_4 rfl (j := 0) rfl ?_
  refine dg_l (fun _ _ _ _ _ _ _ hC => r_iload_n hC dX7_init_5 rfl (j := 1) rfl) ?_
  obtain ⟨G2, h2, hf⟩ := dh_bd hf
  refine g_putI fF_X7_7 (fun _ => rfl) (by decide) h2 dX7_init_6 ?_
  refine g_aload_n dX7_init_9 rfl (j := 0) rfl ?_
  refine dg_l (fun _ _ _ _ _ _ _ hC => r_iload_n hC dX7_init_10 rfl (j := 2) rfl) ?_
  obtain ⟨G3, h3, hf⟩ := dh_bd hf
  refine g_putI fF_X7_13 (fun _ => rfl) (by decide) h3 dX7_init_11 ?_
  exact g_vret dX7_init_14 rfl hf
theorem cG_X7_init (l : Launch) (hfl : dj_fl l) (E : dj_E) (Mo : Option dm_M) (G : dg_G) (x0 : Nat) (x1 : Int32) (x2 : Int32) {G' : dg_G} (h : gG_X7_init G x0 x1 x2 = some G') : dg_Met l yX7_init cX7_init 3 none 4 80 E Mo [dj_v E x0, .int x1, .int x2] G none G' :=
  dg_met (plainFor_of_name (by decide)) (by simp only [lg_sl_ref, lg_sl_int, lg_sl_long, lg_sl_nil]; decide) (by simp only [lv_args_ref, lv_args_int, lv_args_long, lv_args_nil]) (wG_X7_init hfl G x0 x1 x2 h)
theorem qG_X7_init : dg_cI yX7_init cX7_init 3 2 := ⟨q944, q108, q945, rfl, by decide, by decide, by decide +kernel⟩
/-! DebtorsHouse$Person.<init>(III)V -/
abbrev tG_X3_init : dg_T := (cX3_init, 4, RX3, none, 1, 20, "<init>", [])
def gG_X3_init (G : dg_G) (x0 : Nat) (x1 : Int32) (x2 : Int32) (x3 : Int32) : Option dg_G :=
  (dg_pos x0).bind fun u1 =>
  (dg_pI G 3 3 x0 (-1)).bind fun G2 =>
  (dg_pI G2 3 0 x0 x1).bind fun G3 =>
  (dg_pI G3 3 2 x0 x2).bind fun G4 =>
  (dg_pI G4 3 1 x0 x3).bind fun G5 =>
  some G5
theorem wG_X3_init {l : Launch} {E : dj_E} {Mo : Option dm_M} {G' : dg_G} (G : dg_G) (x0 : Nat) (x1 : Int32) (x2 : Int32) (x3 : Int32) (hf : gG_X3_init G x0 x1 x2 x3 = some G') : dgW tG_X3_init l E Mo G' (.inr none) G 0 [(0, dj_v E x0), (1, .int x1), (2, .int x2), (3, .int x3)] [] := by
  unfold gG_X3_init at hf
  refine g_aload_n dX3_init_0 rfl (j := 0) rfl ?_
  obtain ⟨u1, h1, hf⟩ := dh_bd hf
  refine g_obj h1 q269 (Nat.le_of_ble_eq_true rfl) (Nat.le_of_ble_eq_true rfl) dX3_init_1 ?_
  refine g_aload_n dX3_init_4 rfl (j := 0) rfl ?_
  refine dg_l (fun _ _ _ _ _ _ _ hC => r_iconst hC dX3_init_5 ki_m1) ?_
  obtain ⟨G2, h2, hf⟩ := dh_bd hf
  refine g_putI fF_X3_9 (fun q => by cases q) (by decide) h2 dX3_init_6 ?_
  refine g_aload_n dX3_init_9 rfl (j := 0) rfl ?_
  refine dg_l (fun _ _ _ _ _ _ _ hC => r_iload_n hC dX3_init_10 rfl (j := 1) rfl) ?_
  obtain ⟨G3, h3, hf⟩ := dh_bd hf
  refine g_putI fF_X3_15 (fun _ => rfl) (by decide) h3 dX3_init_11 ?_
  refine g_aload_n dX3_init_14 rfl (j := 0) rfl ?_
  refine dg_l (fun _ _ _ _ _ _ _ hC => r_iload_n hC dX3_init_15 rfl (j := 2) rfl) ?_
  obtain ⟨G4, h4, hf⟩ := dh_bd hf
  refine g_putI fF_X3_18 (fun q => by cases q) (by decide) h4 dX3_init_16 ?_
  refine g_aload_n dX3_init_19 rfl (j := 0) rfl ?_
  refine dg_l (fun _ _ _ _ _ _ _ hC => r_iload_n hC dX3_init_20 rfl (j := 3) rfl) ?_
  obtain ⟨G5, h5, hf⟩ := dh_bd hf
  refine g_putI fF_X3_21 (fun _ => rfl) (by decide) h5 dX3_init_21 ?_
  exact g_vret dX3_init_24 rfl hf
theorem cG_X3_init (l : Launch) (E : dj_E) (Mo : Option dm_M) (G : dg_G) (x0 : Nat) (x1 : Int32) (x2 : Int32) (x3 : Int32) {G' : dg_G} (h : gG_X3_init G x0 x1 x2 x3 = some G') : dg_Met l yX3_init cX3_init 4 none 1 20 E Mo [dj_v E x0, .int x1, .int x2, .int x3] G none G' :=
  dg_met (plainFor_of_name (by decide)) (by simp only [lg_sl_ref, lg_sl_int, lg_sl_long, lg_sl_nil]; decide) (by simp only [lv_args_ref, lv_args_int, lv_args_long, lv_args_nil]) (wG_X3_init G x0 x1 x2 x3 h)
theorem qG_X3_init : dg_cI yX3_init cX3_init 4 3 := ⟨q267, q88, q268, rfl, by decide, by decide, by decide +kernel⟩
/-! DebtorsHouse$Person.isHeld()Z -/
abbrev tG_X3_isHeld : dg_T := (cX3_isHeld, 1, RX3, (some .boolean), 0, 0, "isHeld", [])
def gG_X3_isHeld (G : dg_G) (x0 : Nat) : Option Int32 :=
  (dg_gI G 3 3 x0).bind fun v1 =>
  if v1 = (-1) then (
    some 0)
  else
  some 1
theorem wG_X3_isHeld {l : Launch} {E : dj_E} {Mo : Option dm_M} {r : Int32} (G : dg_G) (x0 : Nat) (hf : gG_X3_isHeld G x0 = some r) : dgW tG_X3_isHeld l E Mo G (.inr (some (.int r))) G 0 [(0, dj_v E x0)] [] := by
  unfold gG_X3_isHeld at hf
  refine g_aload_n dX3_isHeld_0 rfl (j := 0) rfl ?_
  obtain ⟨v1, h1, hf⟩ := dh_bd hf
  refine g_getI fR_X3_9 (by decide) h1 dX3_isHeld_1 ?_
  refine dg_l (fun _ _ _ _ _ _ _ hC => r_iconst hC dX3_isHeld_4 ki_m1) ?_
  refine dg_b (fun _ _ _ _ _ _ _ hC => r_icmp_eq hC dX3_isHeld_5 (tgt := 12) (by decide)) (fun c2 => ?_) (fun c2 => ?_)
  · have hf := dh_if hf c2
    refine dg_l (fun _ _ _ _ _ _ _ hC => r_iconst hC dX3_isHeld_12 ki_0) ?_
    exact g_zret1 dX3_isHeld_13 rfl rfl hf
  · have hf := dh_el hf c2
    refine dg_l (fun _ _ _ _ _ _ _ hC => r_iconst hC dX3_isHeld_8 ki_1) ?_
    refine dg_l (fun _ _ _ _ _ _ _ hC => r_goto hC dX3_isHeld_9 (tgt := 13) (by decide)) ?_
    exact g_zret1 dX3_isHeld_13 rfl rfl hf
theorem cG_X3_isHeld (l : Launch) (E : dj_E) (Mo : Option dm_M) (G : dg_G) (x0 : Nat) {r : Int32} (h : gG_X3_isHeld G x0 = some r) : dg_Met l yX3_isHeld cX3_isHeld 1 (some .boolean) 0 0 E Mo [dj_v E x0] G (some (.int r)) G :=
  dg_met (plainFor_of_name (by decide)) (by simp only [lg_sl_ref, lg_sl_int, lg_sl_long, lg_sl_nil]; decide) (by simp only [lv_args_ref, lv_args_int, lv_args_long, lv_args_nil]) (wG_X3_isHeld G x0 h)
theorem qG_X3_isHeld : dg_cV "DebtorsHouse$Person" yX3_isHeld cX3_isHeld 1 (some .boolean) 0 := ⟨q1114, Or.inl q1115, q88, q1116, by decide, by decide, by decide +kernel⟩
