set_option maxRecDepth 100000
/-! DebtorsHouse.feed(IIIII)I -/
abbrev tG_X0_feed : dg_T := (cX0_feed, 8, RX0, (some .int), 0, 0, "feed", [])
def gG_X0_feed_b74 (k21 : (dg_G → Nat → Int32 → Int32 → Int32 → Int32 → Int32 → Int32 → Option (Int32 × dg_G))) (G : dg_G) (x0 : Nat) (x1 : Int32) (x2 : Int32) (x3 : Int32) (x4 : Int32) (x5 : Int32) (x6 : Int32) (y0 : Int32) : Option (Int32 × dg_G) :=
  (dg_gR G 1 0 x0).bind fun v11 =>
  (dg_gR G 2 0 v11).bind fun v12 =>
  (dg_gR G 1 0 x0).bind fun v13 =>
  (dg_gI G 2 1 v13).bind fun v14 =>
  (dg_st G 51 v12 v14 (vp_nar .byte (Int8.toInt32 (Int32.toInt8 (y0 >>> ((24 - (8 * (x6 &&& 3))) &&& 31)))))).bind fun G15 =>
  (dg_gR G15 1 0 x0).bind fun v16 =>
  (dg_gI G15 2 1 v16).bind fun v17 =>
  (dg_pI G15 2 1 v16 (v17 + 1)).bind fun G18 =>
  k21 G18 x0 x1 x2 x3 x4 x5 (x6 + 1)
theorem wG_X0_feed_b74 {l : Launch} {E : dj_E} {Mo : Option dm_M} {r : Int32} {G' : dg_G} (k21 : (dg_G → Nat → Int32 → Int32 → Int32 → Int32 → Int32 → Int32 → Option (Int32 × dg_G))) (hk21 : ∀ (G : dg_G) (x0 : Nat) (x1 : Int32) (x2 : Int32) (x3 : Int32) (x4 : Int32) (x5 : Int32) (x6 : Int32), k21 G x0 x1 x2 x3 x4 x5 x6 = some (r, G') → dgW tG_X0_feed l E Mo G' (.inr (some (.int r))) G 21 [(0, dj_v E x0), (1, .int x1), (2, .int x2), (3, .int x3), (4, .int x4), (5, .int x5), (6, .int x6)] []) (G : dg_G) (x0 : Nat) (x1 : Int32) (x2 : Int32) (x3 : Int32) (x4 : Int32) (x5 : Int32) (x6 : Int32) (y0 : Int32) (hf : gG_X0_feed_b74 k21 G x0 x1 x2 x3 x4 x5 x6 y0 = some (r, G')) : dgW tG_X0_feed l E Mo G' (.inr (some (.int r))) G 74 [(0, dj_v E x0), (1, .int x1), (2, .int x2), (3, .int x3), (4, .int x4), (5, .int x5), (6, .int x6)] [.int y0] := by
  unfold gG_X0_feed_b74 at hf
  refine dg_l (fun _ _ _ _ _ _ _ hC => r_istore (lv' := [(7, .int y0), (0, dj_v E x0), (1, .int x1), (2, .int x2), (3, .int x3), (4, .int x4), (5, .int x5), (6, .int x6)]) hC dX0_feed_74 (Nat.le_of_ble_eq_true rfl) rfl) ?_
  refine g_aload_n dX0_feed_76 rfl (j := 1) rfl ?_
  obtain ⟨v11, h11, hf⟩ := dh_bd hf
  refine g_getR fR_X0_10 (by decide) h11 dX0_feed_77 ?_
  obtain ⟨v12, h12, hf⟩ := dh_bd hf
  refine g_getR fR_X0_211 (by decide) h12 dX0_feed_80 ?_
  refine g_aload_n dX0_feed_83 rfl (j := 1) rfl ?_
  obtain ⟨v13, h13, hf⟩ := dh_bd hf
  refine g_getR fR_X0_10 (by decide) h13 dX0_feed_84 ?_
  obtain ⟨v14, h14, hf⟩ := dh_bd hf
  refine g_getI fR_X0_208 (by decide) h14 dX0_feed_87 ?_
  refine dg_l (fun _ _ _ _ _ _ _ hC => r_iload hC dX0_feed_90 (j := 0) rfl) ?_
  refine dg_l (fun _ _ _ _ _ _ _ hC => r_bipush hC dX0_feed_92 kb_24) ?_
  refine dg_l (fun _ _ _ _ _ _ _ hC => r_bipush hC dX0_feed_94 kb_8) ?_
  refine dg_l (fun _ _ _ _ _ _ _ hC => r_iload hC dX0_feed_96 (j := 7) rfl) ?_
  refine dg_l (fun _ _ _ _ _ _ _ hC => r_iconst hC dX0_feed_98 ki_3) ?_
  refine dg_l (fun _ _ _ _ _ _ _ hC => r_iand hC dX0_feed_99) ?_
  refine dg_l (fun _ _ _ _ _ _ _ hC => r_imul hC dX0_feed_100) ?_
  refine dg_l (fun _ _ _ _ _ _ _ hC => r_isub hC dX0_feed_101) ?_
  refine dg_l (fun _ _ _ _ _ _ _ hC => r_ishr hC dX0_feed_102) ?_
  refine dg_l (fun _ _ _ _ _ _ _ hC => r_i2b hC dX0_feed_103) ?_
  obtain ⟨G15, h15, hf⟩ := dh_bd hf
  refine g_bast h15 dX0_feed_104 ?_
  refine g_aload_n dX0_feed_105 rfl (j := 1) rfl ?_
  obtain ⟨v16, h16, hf⟩ := dh_bd hf
  refine g_getR fR_X0_10 (by decide) h16 dX0_feed_106 ?_
  refine g_dup dX0_feed_109 ?_
  obtain ⟨v17, h17, hf⟩ := dh_bd hf
  refine g_getI fR_X0_208 (by decide) h17 dX0_feed_110 ?_
  refine dg_l (fun _ _ _ _ _ _ _ hC => r_iconst hC dX0_feed_113 ki_1) ?_
  refine dg_l (fun _ _ _ _ _ _ _ hC => r_iadd hC dX0_feed_114) ?_
  obtain ⟨G18, h18, hf⟩ := dh_bd hf
  refine g_putI fF_X0_208 (fun q => by cases q) (by decide) h18 dX0_feed_115 ?_
  refine dg_l (fun _ _ _ _ _ _ _ hC => r_iinc (lv' := [(6, .int (x6 + 1)), (7, .int y0), (0, dj_v E x0), (1, .int x1), (2, .int x2), (3, .int x3), (4, .int x4), (5, .int x5)]) hC dX0_feed_118 (j := 7) rfl (congrArg _ ki_1) (Nat.le_of_ble_eq_true rfl) rfl) ?_
  refine dg_l (fun _ _ _ _ _ _ _ hC => r_goto hC dX0_feed_121 (tgt := 21) (by decide)) ?_
  exact g_sub [2, 3, 4, 5, 6, 7, 0] rfl (hk21 G18 x0 x1 x2 x3 x4 x5 (x6 + 1) hf)
def gG_X0_feed_L21_F (k21 : (dg_G → Nat → Int32 → Int32 → Int32 → Int32 → Int32 → Int32 → Option (Int32 × dg_G))) (G : dg_G) (x0 : Nat) (x1 : Int32) (x2 : Int32) (x3 : Int32) (x4 : Int32) (x5 : Int32) (x6 : Int32) : Option (Int32 × dg_G) :=
  if 20 ≤ x6 then (
    (dg_gR G 1 0 x0).bind fun v5 =>
    (dg_gI G 2 1 v5).bind fun v6 =>
    some (v6, G))
  else
  if ¬ (4 ≤ x6) then (
    gG_X0_feed_b74 k21 G x0 x1 x2 x3 x4 x5 x6 x1)
  else
  if ¬ (8 ≤ x6) then (
    gG_X0_feed_b74 k21 G x0 x1 x2 x3 x4 x5 x6 x2)
  else
  if ¬ (12 ≤ x6) then (
    gG_X0_feed_b74 k21 G x0 x1 x2 x3 x4 x5 x6 x3)
  else
  if 16 ≤ x6 then (
    gG_X0_feed_b74 k21 G x0 x1 x2 x3 x4 x5 x6 x5)
  else
  gG_X0_feed_b74 k21 G x0 x1 x2 x3 x4 x5 x6 x4
theorem wG_X0_feed_L21_F {l : Launch} {E : dj_E} {Mo : Option dm_M} {r : Int32} {G' : dg_G} (k21 : (dg_G → Nat → Int32 → Int32 → Int32 → Int32 → Int32 → Int32 → Option (Int32 × dg_G))) (hk21 : ∀ (G : dg_G) (x0 : Nat) (x1 : Int32) (x2 : Int32) (x3 : Int32) (x4 : Int32) (x5 : Int32) (x6 : Int32), k21 G x0 x1 x2 x3 x4 x5 x6 = some (r, G') → dgW tG_X0_feed l E Mo G' (.inr (some (.int r))) G 21 [(0, dj_v E x0), (1, .int x1), (2, .int x2), (3, .int x3), (4, .int x4), (5, .int x5), (6, .int x6)] []) (G : dg_G) (x0 : Nat) (x1 : Int32) (x2 : Int32) (x3 : Int32) (x4 : Int32) (x5 : Int32) (x6 : Int32) (hf : gG_X0_feed_L21_F k21 G x0 x1 x2 x3 x4 x5 x6 = some (r, G')) : dgW tG_X0_feed l E Mo G' (.inr (some (.int r))) G 21 [(0, dj_v E x0), (1, .int x1), (2, .int x2), (3, .int x3), (4, .int x4), (5, .int x5), (6, .int x6)] [] := by
  unfold gG_X0_feed_L21_F at hf
  refine dg_l (fun _ _ _ _ _ _ _ hC => r_iload hC dX0_feed_21 (j := 6) rfl) ?_
  refine dg_l (fun _ _ _ _ _ _ _ hC => r_bipush hC dX0_feed_23 kb_20) ?_
  refine dg_b (fun _ _ _ _ _ _ _ hC => r_icmp_ge hC dX0_feed_25 (tgt := 124) (by decide)) (fun c4 => ?_) (fun c4 => ?_)
  · have hf := dh_if hf c4
    refine g_aload_n dX0_feed_124 rfl (j := 0) rfl ?_
    obtain ⟨v5, h5, hf⟩ := dh_bd hf
    refine g_getR fR_X0_10 (by decide) h5 dX0_feed_125 ?_
    obtain ⟨v6, h6, hf⟩ := dh_bd hf
    refine g_getI fR_X0_208 (by decide) h6 dX0_feed_128 ?_
    exact g_iret dX0_feed_131 rfl hf
  · have hf := dh_el hf c4
    refine dg_l (fun _ _ _ _ _ _ _ hC => r_iload hC dX0_feed_28 (j := 6) rfl) ?_
    refine dg_l (fun _ _ _ _ _ _ _ hC => r_iconst hC dX0_feed_30 ki_4) ?_
    refine dg_b (fun _ _ _ _ _ _ _ hC => r_icmp_ge hC dX0_feed_31 (tgt := 38) (by decide)) (fun c7 => ?_) (fun c7 => ?_)
    · have hf := dh_el hf (fun q => q c7)
      refine dg_l (fun _ _ _ _ _ _ _ hC => r_iload hC dX0_feed_38 (j := 6) rfl) ?_
      refine dg_l (fun _ _ _ _ _ _ _ hC => r_bipush hC dX0_feed_40 kb_8) ?_
      refine dg_b (fun _ _ _ _ _ _ _ hC => r_icmp_ge hC dX0_feed_42 (tgt := 49) (by decide)) (fun c8 => ?_) (fun c8 => ?_)
      · have hf := dh_el hf (fun q => q c8)
        refine dg_l (fun _ _ _ _ _ _ _ hC => r_iload hC dX0_feed_49 (j := 6) rfl) ?_
        refine dg_l (fun _ _ _ _ _ _ _ hC => r_bipush hC dX0_feed_51 kb_12) ?_
        refine dg_b (fun _ _ _ _ _ _ _ hC => r_icmp_ge hC dX0_feed_53 (tgt := 60) (by decide)) (fun c9 => ?_) (fun c9 => ?_)
        · have hf := dh_el hf (fun q => q c9)
          refine dg_l (fun _ _ _ _ _ _ _ hC => r_iload hC dX0_feed_60 (j := 6) rfl) ?_
          refine dg_l (fun _ _ _ _ _ _ _ hC => r_bipush hC dX0_feed_62 kb_16) ?_
          refine dg_b (fun _ _ _ _ _ _ _ hC => r_icmp_ge hC dX0_feed_64 (tgt := 72) (by decide)) (fun c10 => ?_) (fun c10 => ?_)
          · have hf := dh_if hf c10
            refine dg_l (fun _ _ _ _ _ _ _ hC => r_iload hC dX0_feed_72 (j := 5) rfl) ?_
            exact g_sub [0, 1, 2, 3, 4, 5, 6] rfl (wG_X0_feed_b74 k21 hk21 G x0 x1 x2 x3 x4 x5 x6 x5 hf)
          · have hf := dh_el hf c10
            refine dg_l (fun _ _ _ _ _ _ _ hC => r_iload hC dX0_feed_67 (j := 4) rfl) ?_
            refine dg_l (fun _ _ _ _ _ _ _ hC => r_goto hC dX0_feed_69 (tgt := 74) (by decide)) ?_
            exact g_sub [0, 1, 2, 3, 4, 5, 6] rfl (wG_X0_feed_b74 k21 hk21 G x0 x1 x2 x3 x4 x5 x6 x4 hf)
        · have hf := dh_if hf c9
          refine dg_l (fun _ _ _ _ _ _ _ hC => r_iload_n hC dX0_feed_56 rfl (j := 3) rfl) ?_
          refine dg_l (fun _ _ _ _ _ _ _ hC => r_goto hC dX0_feed_57 (tgt := 74) (by decide)) ?_
          exact g_sub [0, 1, 2, 3, 4, 5, 6] rfl (wG_X0_feed_b74 k21 hk21 G x0 x1 x2 x3 x4 x5 x6 x3 hf)
      · have hf := dh_if hf c8
        refine dg_l (fun _ _ _ _ _ _ _ hC => r_iload_n hC dX0_feed_45 rfl (j := 2) rfl) ?_
        refine dg_l (fun _ _ _ _ _ _ _ hC => r_goto hC dX0_feed_46 (tgt := 74) (by decide)) ?_
        exact g_sub [0, 1, 2, 3, 4, 5, 6] rfl (wG_X0_feed_b74 k21 hk21 G x0 x1 x2 x3 x4 x5 x6 x2 hf)
    · have hf := dh_if hf c7
      refine dg_l (fun _ _ _ _ _ _ _ hC => r_iload_n hC dX0_feed_34 rfl (j := 1) rfl) ?_
      refine dg_l (fun _ _ _ _ _ _ _ hC => r_goto hC dX0_feed_35 (tgt := 74) (by decide)) ?_
      exact g_sub [0, 1, 2, 3, 4, 5, 6] rfl (wG_X0_feed_b74 k21 hk21 G x0 x1 x2 x3 x4 x5 x6 x1 hf)
def gG_X0_feed_L21 : Nat → dg_G → Nat → Int32 → Int32 → Int32 → Int32 → Int32 → Int32 → Option (Int32 × dg_G)
  | 0 => fun _ _ _ _ _ _ _ _ => none
  | n + 1 => gG_X0_feed_L21_F (gG_X0_feed_L21 n)
theorem wG_X0_feed_L21 {l : Launch} {E : dj_E} {Mo : Option dm_M} {r : Int32} {G' : dg_G} : ∀ (n : Nat) (G : dg_G) (x0 : Nat) (x1 : Int32) (x2 : Int32) (x3 : Int32) (x4 : Int32) (x5 : Int32) (x6 : Int32) (_ : gG_X0_feed_L21 n G x0 x1 x2 x3 x4 x5 x6 = some (r, G')), dgW tG_X0_feed l E Mo G' (.inr (some (.int r))) G 21 [(0, dj_v E x0), (1, .int x1), (2, .int x2), (3, .int x3), (4, .int x4), (5, .int x5), (6, .int x6)] [] := by
  intro n
  induction n with
  | zero => intro G x0 x1 x2 x3 x4 x5 x6 hf; exact dh_no hf
  | succ n ih => intro G x0 x1 x2 x3 x4 x5 x6 hf; exact wG_X0_feed_L21_F (gG_X0_feed_L21 n) ih G x0 x1 x2 x3 x4 x5 x6 hf
def gG_X0_feed (G : dg_G) (x0 : Nat) (x1 : Int32) (x2 : Int32) (x3 : Int32) (x4 : Int32) (x5 : Int32) : Option (Int32 × dg_G) :=
  (dg_gR G 1 0 x0).bind fun v1 =>
  (dg_gI G 2 1 v1).bind fun v2 =>
  if (v2 + 20) ≤ 600 then (
    gG_X0_feed_L21 dh_fu G x0 x1 x2 x3 x4 x5 0)
  else
  some ((-1), G)
theorem wG_X0_feed {l : Launch} {E : dj_E} {Mo : Option dm_M} {r : Int32} {G' : dg_G} (G : dg_G) (x0 : Nat) (x1 : Int32) (x2 : Int32) (x3 : Int32) (x4 : Int32) (x5 : Int32) (hf : gG_X0_feed G x0 x1 x2 x3 x4 x5 = some (r, G')) : dgW tG_X0_feed l E Mo G' (.inr (some (.int r))) G 0 [(0, dj_v E x0), (1, .int x1), (2, .int x2), (3, .int x3), (4, .int x4), (5, .int x5)] [] := by
  unfold gG_X0_feed at hf
  refine g_aload_n dX0_feed_0 rfl (j := 0) rfl ?_
  obtain ⟨v1, h1, hf⟩ := dh_bd hf
  refine g_getR fR_X0_10 (by decide) h1 dX0_feed_1 ?_
  obtain ⟨v2, h2, hf⟩ := dh_bd hf
  refine g_getI fR_X0_208 (by decide) h2 dX0_feed_4 ?_
  refine dg_l (fun _ _ _ _ _ _ _ hC => r_bipush hC dX0_feed_7 kb_20) ?_
  refine dg_l (fun _ _ _ _ _ _ _ hC => r_iadd hC dX0_feed_9) ?_
  refine dg_l (fun _ _ _ _ _ _ _ hC => r_sipush hC dX0_feed_10 ks_600) ?_
  refine dg_b (fun _ _ _ _ _ _ _ hC => r_icmp_le hC dX0_feed_13 (tgt := 18) (by decide)) (fun c3 => ?_) (fun c3 => ?_)
  · have hf := dh_if hf c3
    refine dg_l (fun _ _ _ _ _ _ _ hC => r_iconst hC dX0_feed_18 ki_0) ?_
    refine dg_l (fun _ _ _ _ _ _ _ hC => r_istore (lv' := [(6, .int 0), (0, dj_v E x0), (1, .int x1), (2, .int x2), (3, .int x3), (4, .int x4), (5, .int x5)]) hC dX0_feed_19 (Nat.le_of_ble_eq_true rfl) rfl) ?_
    exact g_sub [1, 2, 3, 4, 5, 6, 0] rfl (wG_X0_feed_L21 dh_fu G x0 x1 x2 x3 x4 x5 0 hf)
  · have hf := dh_el hf c3
    refine dg_l (fun _ _ _ _ _ _ _ hC => r_iconst hC dX0_feed_16 ki_m1) ?_
    exact g_iret dX0_feed_17 rfl hf
theorem cG_X0_feed (l : Launch) (E : dj_E) (Mo : Option dm_M) (G : dg_G) (x0 : Nat) (x1 : Int32) (x2 : Int32) (x3 : Int32) (x4 : Int32) (x5 : Int32) {p : Int32 × dg_G} (h : gG_X0_feed G x0 x1 x2 x3 x4 x5 = some p) : dg_Met l yX0_feed cX0_feed 8 (some .int) 0 0 E Mo [dj_v E x0, .int x1, .int x2, .int x3, .int x4, .int x5] G (some (.int p.1)) p.2 :=
  dg_met (plainFor_of_name (by decide)) (by simp only [lg_sl_ref, lg_sl_int, lg_sl_long, lg_sl_nil]; decide) (by simp only [lv_args_ref, lv_args_int, lv_args_long, lv_args_nil]) (wG_X0_feed G x0 x1 x2 x3 x4 x5 h)
theorem qG_X0_feed : dg_cV "DebtorsHouse" yX0_feed cX0_feed 8 (some .int) 5 := ⟨q579, Or.inl q580, q81, q581, by decide, by decide, by decide +kernel⟩
/-! DebtorsHouse.end(I)I -/
abbrev tG_X0_end : dg_T := (cX0_end, 2, RX0, (some .int), 0, 0, "end", [])
def gG_X0_end (G : dg_G) (x0 : Nat) (x1 : Int32) : Option (Int32 × dg_G) :=
  if x1 < 0 then (
    some ((-1), G))
  else
  (dg_gR G 1 0 x0).bind fun v2 =>
  (dg_gI G 2 1 v2).bind fun v3 =>
  if ¬ (x1 ≤ v3) then (
    some ((-1), G))
  else
  (dg_gR G 1 0 x0).bind fun v5 =>
  (dg_pI G 2 1 v5 x1).bind fun G6 =>
  some (x1, G6)
theorem wG_X0_end {l : Launch} {E : dj_E} {Mo : Option dm_M} {r : Int32} {G' : dg_G} (G : dg_G) (x0 : Nat) (x1 : Int32) (hf : gG_X0_end G x0 x1 = some (r, G')) : dgW tG_X0_end l E Mo G' (.inr (some (.int r))) G 0 [(0, dj_v E x0), (1, .int x1)] [] := by
  unfold gG_X0_end at hf
  refine dg_l (fun _ _ _ _ _ _ _ hC => r_iload_n hC dX0_end_0 rfl (j := 1) rfl) ?_
  refine dg_b (fun _ _ _ _ _ _ _ hC => r_if_lt hC dX0_end_1 (tgt := 15) (by decide)) (fun c1 => ?_) (fun c1 => ?_)
  · have hf := dh_if hf c1
    refine dg_l (fun _ _ _ _ _ _ _ hC => r_iconst hC dX0_end_15 ki_m1) ?_
    exact g_iret dX0_end_16 rfl hf
  · have hf := dh_el hf c1
    refine dg_l (fun _ _ _ _ _ _ _ hC => r_iload_n hC dX0_end_4 rfl (j := 1) rfl) ?_
    refine g_aload_n dX0_end_5 rfl (j := 0) rfl ?_
    obtain ⟨v2, h2, hf⟩ := dh_bd hf
    refine g_getR fR_X0_10 (by decide) h2 dX0_end_6 ?_
    obtain ⟨v3, h3, hf⟩ := dh_bd hf
    refine g_getI fR_X0_208 (by decide) h3 dX0_end_9 ?_
    refine dg_b (fun _ _ _ _ _ _ _ hC => r_icmp_le hC dX0_end_12 (tgt := 17) (by decide)) (fun c4 => ?_) (fun c4 => ?_)
    · have hf := dh_el hf (fun q => q c4)
      refine g_aload_n dX0_end_17 rfl (j := 0) rfl ?_
      obtain ⟨v5, h5, hf⟩ := dh_bd hf
      refine g_getR fR_X0_10 (by decide) h5 dX0_end_18 ?_
      refine dg_l (fun _ _ _ _ _ _ _ hC => r_iload_n hC dX0_end_21 rfl (j := 1) rfl) ?_
      obtain ⟨G6, h6, hf⟩ := dh_bd hf
      refine g_putI fF_X0_208 (fun q => by cases q) (by decide) h6 dX0_end_22 ?_
      refine dg_l (fun _ _ _ _ _ _ _ hC => r_iload_n hC dX0_end_25 rfl (j := 1) rfl) ?_
      exact g_iret dX0_end_26 rfl hf
    · have hf := dh_if hf c4
      refine dg_l (fun _ _ _ _ _ _ _ hC => r_iconst hC dX0_end_15 ki_m1) ?_
      exact g_iret dX0_end_16 rfl hf
theorem cG_X0_end (l : Launch) (E : dj_E) (Mo : Option dm_M) (G : dg_G) (x0 : Nat) (x1 : Int32) {p : Int32 × dg_G} (h : gG_X0_end G x0 x1 = some p) : dg_Met l yX0_end cX0_end 2 (some .int) 0 0 E Mo [dj_v E x0, .int x1] G (some (.int p.1)) p.2 :=
  dg_met (plainFor_of_name (by decide)) (by simp only [lg_sl_ref, lg_sl_int, lg_sl_long, lg_sl_nil]; decide) (by simp only [lv_args_ref, lv_args_int, lv_args_long, lv_args_nil]) (wG_X0_end G x0 x1 h)
theorem qG_X0_end : dg_cV "DebtorsHouse" yX0_end cX0_end 2 (some .int) 1 := ⟨q583, Or.inl q584, q81, q585, by decide, by decide, by decide +kernel⟩
/-! DebtorsHouse.isDay(I)Z -/
abbrev tG_X0_isDay : dg_T := (cX0_isDay, 1, RX0, (some .boolean), 1, 22, "isDay", [])
def gG_X0_isDay (G : dg_G) (x0 : Int32) : Option Int32 :=
  (gG_X0_isIn G x0 0 9999).bind fun p1 =>
  (dh_bo p1).bind fun u2 =>
  some p1
theorem wG_X0_isDay {l : Launch} {E : dj_E} {Mo : Option dm_M} {r : Int32} (G : dg_G) (x0 : Int32) (hf : gG_X0_isDay G x0 = some r) : dgW tG_X0_isDay l E Mo G (.inr (some (.int r))) G 0 [(0, .int x0)] [] := by
  unfold gG_X0_isDay at hf
  refine dg_l (fun _ _ _ _ _ _ _ hC => r_iload_n hC dX0_isDay_0 rfl (j := 0) rfl) ?_
  refine dg_l (fun _ _ _ _ _ _ _ hC => r_iconst hC dX0_isDay_1 ki_0) ?_
  refine dg_l (fun _ _ _ _ _ _ _ hC => r_sipush hC dX0_isDay_2 ks_9999) ?_
  obtain ⟨p1, h1, hf⟩ := dh_bd hf
  refine g_callS (cG_X0_isIn _ E Mo G x0 0 9999 h1) q261 qG_X0_isIn (Nat.le_of_ble_eq_true rfl) (Nat.le_of_ble_eq_true rfl) rfl (dj_cat8 (Nat.le_of_ble_eq_true rfl)) dX0_isDay_5 ?_
  obtain ⟨u2, h2, hf⟩ := dh_bd hf
  exact g_zret1 dX0_isDay_8 rfl (dh_bo_n h2) hf
theorem cG_X0_isDay (l : Launch) (E : dj_E) (Mo : Option dm_M) (G : dg_G) (x0 : Int32) {r : Int32} (h : gG_X0_isDay G x0 = some r) : dg_Met l yX0_isDay cX0_isDay 1 (some .boolean) 1 22 E Mo [.int x0] G (some (.int r)) G :=
  dg_met (plainFor_of_name (by decide)) (by simp only [lg_sl_ref, lg_sl_int, lg_sl_long, lg_sl_nil]; decide) (by simp only [lv_args_ref, lv_args_int, lv_args_long, lv_args_nil]) (wG_X0_isDay G x0 h)
theorem qG_X0_isDay : dg_cS yX0_isDay cX0_isDay 1 (some .boolean) 1 := ⟨q592, q81, q593, by decide, by decide, by decide +kernel⟩
/-! DebtorsHouse.act(I)I -/
abbrev tG_X0_act : dg_T := (cX0_act, 4, RX0, (some .int), 11, 245, "act", dj_hh)
def gG_X0_act (G : dg_G) (x0 : Nat) (x1 : Int32) : Option (Int32 × dg_G) :=
  (dg_gR G 1 0 x0).bind fun v1 =>
  (dg_gI G 2 1 v1).bind fun v2 =>
  (dg_gR G 1 0 x0).bind fun v3 =>
  (dg_pI G 2 1 v3 0).bind fun G4 =>
  (dg_gR G4 1 0 x0).bind fun v5 =>
  (dg_pI G4 2 2 v5 0).bind fun G6 =>
  (dg_gR G6 1 0 x0).bind fun v7 =>
  (dg_pI G6 2 3 v7 (-1)).bind fun G8 =>
  (dg_gR G8 1 0 x0).bind fun v9 =>
  (dg_gR G8 2 10 v9).bind fun v10 =>
  (dg_is G8 10 v10).bind fun u11 =>
  (gG_J2_size G8 v10).bind fun p12 =>
  if p12 = 4 then (
    some ((-2), G8))
  else
  (gG_X0_isDay G8 x1).bind fun p14 =>
  if p14 = 0 then (
    some ((-2), G8))
  else
  (dg_gR G8 1 0 x0).bind fun v16 =>
  (dg_gR G8 2 10 v16).bind fun v17 =>
  (dg_gR (dg_nw G8 5) 1 0 x0).bind fun v19 =>
  (dg_gI (dg_nw G8 5) 2 4 v19).bind fun v20 =>
  (dg_gR (dg_nw (dg_nw G8 5) 6) 1 0 x0).bind fun v22 =>
  (dg_gR (dg_nw (dg_nw G8 5) 6) 2 0 v22).bind fun v23 =>
  (dg_pos (dg_n (dg_nw G8 5))).bind fun u24 =>
  (gG_X6_init (dg_nw (dg_nw G8 5) 6) (dg_n (dg_nw G8 5)) v23 v2).bind fun p25 =>
  (dg_is p25 6 (dg_n (dg_nw G8 5))).bind fun u26 =>
  (gG_X6_whole p25 (dg_n (dg_nw G8 5))).bind fun p27 =>
  dh_tm p27.1 (fun j27 => (
    (dg_is p27.2 7 j27).bind fun _ =>
    (dg_gR p27.2 1 0 x0).bind fun v28 =>
    (dg_gI p27.2 7 0 j27).bind fun v29 =>
    (dg_pI p27.2 2 2 v28 v29).bind fun G30 =>
    (dg_gR G30 1 0 x0).bind fun v31 =>
    (dg_gI G30 7 1 j27).bind fun v32 =>
    (dg_pI G30 2 3 v31 v32).bind fun G33 =>
    some ((-1), G33)))
  fun v27 =>
  (dg_pos (dg_n G8)).bind fun u34 =>
  (gG_X5_init p27.2 (dg_n G8) x1 v20 v27).bind fun p35 =>
  (dg_is p35 10 v17).bind fun u36 =>
  (gG_J2_add p35 v17 (dg_n G8)).bind fun p37 =>
  (dg_gR p37.2 1 0 x0).bind fun v38 =>
  (dg_gR p37.2 2 10 v38).bind fun v39 =>
  (dg_is p37.2 10 v39).bind fun u40 =>
  (gG_J2_size p37.2 v39).bind fun p41 =>
  some (p41 - 1, p37.2)
theorem wG_X0_act {l : Launch} {E : dj_E} {Mo : Option dm_M} (hfl : dj_fl l) {r : Int32} {G' : dg_G} (G : dg_G) (x0 : Nat) (x1 : Int32) (hf : gG_X0_act G x0 x1 = some (r, G')) : dgW tG_X0_act l E Mo G' (.inr (some (.int r))) G 0 [(0, dj_v E x0), (1, .int x1)] [] := by
  unfold gG_X0_act at hf
  refine g_aload_n dX0_act_0 rfl (j := 0) rfl ?_
  obtain ⟨v1, h1, hf⟩ := dh_bd hf
  refine g_getR fR_X0_10 (by decide) h1 dX0_act_1 ?_
  obtain ⟨v2, h2, hf⟩ := dh_bd hf
  refine g_getI fR_X0_208 (by decide) h2 dX0_act_4 ?_
  refine dg_l (fun _ _ _ _ _ _ _ hC => r_istore_n (lv' := [(2, .int v2), (0, dj_v E x0), (1, .int x1)]) hC dX0_act_7 rfl (Nat.le_of_ble_eq_true rfl) rfl) ?_
  refine g_aload_n dX0_act_8 rfl (j := 1) rfl ?_
  obtain ⟨v3, h3, hf⟩ := dh_bd hf
  refine g_getR fR_X0_10 (by decide) h3 dX0_act_9 ?_
  refine dg_l (fun _ _ _ _ _ _ _ hC => r_iconst hC dX0_act_12 ki_0) ?_
  obtain ⟨G4, h4, hf⟩ := dh_bd hf
  refine g_putI fF_X0_208 (fun q => by cases q) (by decide) h4 dX0_act_13 ?_
  refine g_aload_n dX0_act_16 rfl (j := 1) rfl ?_
  obtain ⟨v5, h5, hf⟩ := dh_bd hf
  refine g_getR fR_X0_10 (by decide) h5 dX0_act_17 ?_
  refine dg_l (fun _ _ _ _ _ _ _ hC => r_iconst hC dX0_act_20 ki_0) ?_
  obtain ⟨G6, h6, hf⟩ := dh_bd hf
  refine g_putI fF_X0_215 (fun q => by cases q) (by decide) h6 dX0_act_21 ?_
  refine g_aload_n dX0_act_24 rfl (j := 1) rfl ?_
  obtain ⟨v7, h7, hf⟩ := dh_bd hf
  refine g_getR fR_X0_10 (by decide) h7 dX0_act_25 ?_
  refine dg_l (fun _ _ _ _ _ _ _ hC => r_iconst hC dX0_act_28 ki_m1) ?_
  obtain ⟨G8, h8, hf⟩ := dh_bd hf
  refine g_putI fF_X0_218 (fun q => by cases q) (by decide) h8 dX0_act_29 ?_
  refine g_aload_n dX0_act_32 rfl (j := 1) rfl ?_
  obtain ⟨v9, h9, hf⟩ := dh_bd hf
  refine g_getR fR_X0_10 (by decide) h9 dX0_act_33 ?_
  obtain ⟨v10, h10, hf⟩ := dh_bd hf
  refine g_getR fR_X0_221 (by decide) h10 dX0_act_36 ?_
  obtain ⟨u11, h11, hf⟩ := dh_bd hf
  obtain ⟨p12, h12, hf⟩ := dh_bd hf
  refine g_callV (rc_O (ci := 10) rfl h11) (cG_J2_size _ E Mo G8 v10 h12) q256 qG_J2_size (Nat.le_of_ble_eq_true rfl) (Nat.le_of_ble_eq_true rfl) rfl (dj_cat8 (Nat.le_of_ble_eq_true rfl)) dX0_act_39 ?_
  refine dg_l (fun _ _ _ _ _ _ _ hC => r_iconst hC dX0_act_42 ki_4) ?_
  refine dg_b (fun _ _ _ _ _ _ _ hC => r_icmp_eq hC dX0_act_43 (tgt := 53) (by decide)) (fun c13 => ?_) (fun c13 => ?_)
  · have hf := dh_if hf c13
    refine dg_l (fun _ _ _ _ _ _ _ hC => r_bipush hC dX0_act_53 kb_m2) ?_
    exact g_iret dX0_act_55 rfl hf
  · have hf := dh_el hf c13
    refine dg_l (fun _ _ _ _ _ _ _ hC => r_iload_n hC dX0_act_46 rfl (j := 2) rfl) ?_
    obtain ⟨p14, h14, hf⟩ := dh_bd hf
    refine g_callS (cG_X0_isDay _ E Mo G8 x1 h14) q591 qG_X0_isDay (Nat.le_of_ble_eq_true rfl) (Nat.le_of_ble_eq_true rfl) rfl (dj_cat8 (Nat.le_of_ble_eq_true rfl)) dX0_act_47 ?_
    refine dg_bn (fun _ _ _ _ _ _ _ hC => r_if_ne hC dX0_act_50 (tgt := 56) (by decide)) (fun c15 => ?_) (fun c15 => ?_)
    · have hf := dh_el hf c15
      refine g_aload_n dX0_act_56 rfl (j := 1) rfl ?_
      obtain ⟨v16, h16, hf⟩ := dh_bd hf
      refine g_getR fR_X0_10 (by decide) h16 dX0_act_57 ?_
      obtain ⟨v17, h17, hf⟩ := dh_bd hf
      refine g_getR fR_X0_221 (by decide) h17 dX0_act_60 ?_
      refine g_new nI_X0_227 dX0_act_63 ?_
      refine g_dup dX0_act_66 ?_
      refine dg_l (fun _ _ _ _ _ _ _ hC => r_iload_n hC dX0_act_67 rfl (j := 2) rfl) ?_
      refine g_aload_n dX0_act_68 rfl (j := 1) rfl ?_
      obtain ⟨v19, h19, hf⟩ := dh_bd hf
      refine g_getR fR_X0_10 (by decide) h19 dX0_act_69 ?_
      obtain ⟨v20, h20, hf⟩ := dh_bd hf
      refine g_getI fR_X0_88 (by decide) h20 dX0_act_72 ?_
      refine g_new nI_X0_229 dX0_act_75 ?_
      refine g_dup dX0_act_78 ?_
      refine g_aload_n dX0_act_79 rfl (j := 1) rfl ?_
      obtain ⟨v22, h22, hf⟩ := dh_bd hf
      refine g_getR fR_X0_10 (by decide) h22 dX0_act_80 ?_
      obtain ⟨v23, h23, hf⟩ := dh_bd hf
      refine g_getR fR_X0_211 (by decide) h23 dX0_act_83 ?_
      refine dg_l (fun _ _ _ _ _ _ _ hC => r_iload_n hC dX0_act_86 rfl (j := 0) rfl) ?_
      obtain ⟨u24, h24, hf⟩ := dh_bd hf
      obtain ⟨p25, h25, hf⟩ := dh_bd hf
      refine g_callI h24 (cG_X6_init _ E Mo (dg_nw (dg_nw G8 5) 6) (dg_n (dg_nw G8 5)) v23 v2 h25) q598 qG_X6_init (Nat.le_of_ble_eq_true rfl) (Nat.le_of_ble_eq_true rfl) rfl (show (List.map (fun v : Value => v.category) [dj_v E (dg_n (dg_nw G8 5)), .int v20, .int x1, dj_v E (dg_n G8), dj_v E (dg_n G8), dj_v E v17]).sum ≤ 8 by simp only [List.map_cons, List.map_nil, List.sum_cons, List.sum_nil, dj_cat, dh_ci, dh_cl] <;> decide) dX0_act_87 ?_
      obtain ⟨u26, h26, hf⟩ := dh_bd hf
      obtain ⟨p27, h27, hf⟩ := dh_bd hf
      refine g_callVC rfl rfl (by decide) (rc_O (ci := 6) rfl h26) (cG_X6_whole _ hfl E Mo p25 (dg_n (dg_nw G8 5)) h27) q893 qG_X6_whole (Nat.le_of_ble_eq_true rfl) (Nat.le_of_ble_eq_true rfl) rfl (show (List.map (fun v : Value => v.category) [.int v20, .int x1, dj_v E (dg_n G8), dj_v E (dg_n G8), dj_v E v17]).sum ≤ 8 by simp only [List.map_cons, List.map_nil, List.sum_cons, List.sum_nil, dj_cat, dh_ci, dh_cl] <;> decide) dX0_act_90 (fun j27 e27 => ?_) (fun v27 e27 => ?_)
      · rw [e27] at hf
        replace hf := dh_tm_l hf
        obtain ⟨_, hu27, hf⟩ := dh_bd hf
        refine ⟨⟨_, hu27⟩, ?_⟩
        refine g_astore_n (i := 3) (lv1 := [(3, dj_v E j27), (2, .int v2), (0, dj_v E x0), (1, .int x1)]) dX0_act_113 rfl (Nat.le_of_ble_eq_true rfl) rfl ?_
        refine g_aload_n dX0_act_114 rfl (j := 2) rfl ?_
        obtain ⟨v28, h28, hf⟩ := dh_bd hf
        refine g_getR fR_X0_10 (by decide) h28 dX0_act_115 ?_
        refine g_aload_n dX0_act_118 rfl (j := 0) rfl ?_
        obtain ⟨v29, h29, hf⟩ := dh_bd hf
        refine g_getI fR_X0_243 (by decide) h29 dX0_act_119 ?_
        obtain ⟨G30, h30, hf⟩ := dh_bd hf
        refine g_putI fF_X0_215 (fun q => by cases q) (by decide) h30 dX0_act_122 ?_
        refine g_aload_n dX0_act_125 rfl (j := 2) rfl ?_
        obtain ⟨v31, h31, hf⟩ := dh_bd hf
        refine g_getR fR_X0_10 (by decide) h31 dX0_act_126 ?_
        refine g_aload_n dX0_act_129 rfl (j := 0) rfl ?_
        obtain ⟨v32, h32, hf⟩ := dh_bd hf
        refine g_getI fR_X0_246 (by decide) h32 dX0_act_130 ?_
        obtain ⟨G33, h33, hf⟩ := dh_bd hf
        refine g_putI fF_X0_218 (fun q => by cases q) (by decide) h33 dX0_act_133 ?_
        refine dg_l (fun _ _ _ _ _ _ _ hC => r_iconst hC dX0_act_136 ki_m1) ?_
        exact g_iret dX0_act_137 rfl hf
      rw [e27] at hf
      replace hf := dh_tm_r hf
      obtain ⟨u34, h34, hf⟩ := dh_bd hf
      obtain ⟨p35, h35, hf⟩ := dh_bd hf
      refine g_callI h34 (cG_X5_init _ E Mo p27.2 (dg_n G8) x1 v20 v27 h35) q1065 qG_X5_init (Nat.le_of_ble_eq_true rfl) (Nat.le_of_ble_eq_true rfl) rfl (dj_cat8 (Nat.le_of_ble_eq_true rfl)) dX0_act_93 ?_
      obtain ⟨u36, h36, hf⟩ := dh_bd hf
      obtain ⟨p37, h37, hf⟩ := dh_bd hf
      refine g_callV (rc_O (ci := 10) rfl h36) (cG_J2_add _ E Mo p35 v17 (dg_n G8) h37) q330 qG_J2_add (Nat.le_of_ble_eq_true rfl) (Nat.le_of_ble_eq_true rfl) rfl (dj_cat8 (Nat.le_of_ble_eq_true rfl)) dX0_act_96 ?_
      refine dg_l (fun _ _ _ _ _ _ _ hC => r_pop hC dX0_act_99 rfl) ?_
      refine g_aload_n dX0_act_100 rfl (j := 1) rfl ?_
      obtain ⟨v38, h38, hf⟩ := dh_bd hf
      refine g_getR fR_X0_10 (by decide) h38 dX0_act_101 ?_
      obtain ⟨v39, h39, hf⟩ := dh_bd hf
      refine g_getR fR_X0_221 (by decide) h39 dX0_act_104 ?_
      obtain ⟨u40, h40, hf⟩ := dh_bd hf
      obtain ⟨p41, h41, hf⟩ := dh_bd hf
      refine g_callV (rc_O (ci := 10) rfl h40) (cG_J2_size _ E Mo p37.2 v39 h41) q256 qG_J2_size (Nat.le_of_ble_eq_true rfl) (Nat.le_of_ble_eq_true rfl) rfl (dj_cat8 (Nat.le_of_ble_eq_true rfl)) dX0_act_107 ?_
      refine dg_l (fun _ _ _ _ _ _ _ hC => r_iconst hC dX0_act_110 ki_1) ?_
      refine dg_l (fun _ _ _ _ _ _ _ hC => r_isub hC dX0_act_111) ?_
      exact g_iret dX0_act_112 rfl hf
    · have hf := dh_if hf c15
      refine dg_l (fun _ _ _ _ _ _ _ hC => r_bipush hC dX0_act_53 kb_m2) ?_
      exact g_iret dX0_act_55 rfl hf
theorem cG_X0_act (l : Launch) (hfl : dj_fl l) (E : dj_E) (Mo : Option dm_M) (G : dg_G) (x0 : Nat) (x1 : Int32) {p : Int32 × dg_G} (h : gG_X0_act G x0 x1 = some p) : dg_MetW l yX0_act cX0_act 4 (some .int) 11 245 E Mo [dj_v E x0, .int x1] G (some (.int p.1)) p.2 :=
  dg_metW (plainFor_of_name (by decide)) (by simp only [lg_sl_ref, lg_sl_int, lg_sl_long, lg_sl_nil]; decide) (by simp only [lv_args_ref, lv_args_int, lv_args_long, lv_args_nil]) (wG_X0_act hfl G x0 x1 h)
theorem qG_X0_act : dg_cW yX0_act cX0_act 4 (some .int) 1 := ⟨q587, q588, q81, q589, by decide, by decide, by decide +kernel⟩
/-! DebtorsHouse.fault(I)I -/
abbrev tG_X0_fault : dg_T := (cX0_fault, 2, RX0, (some .int), 0, 0, "fault", [])
def gG_X0_fault (G : dg_G) (x0 : Nat) (x1 : Int32) : Option Int32 :=
  if x1 = 0 then (
    (dg_gR G 1 0 x0).bind fun v5 =>
    (dg_gI G 2 2 v5).bind fun v6 =>
    some v6)
  else
  if x1 = 1 then (
    (dg_gR G 1 0 x0).bind fun v3 =>
    (dg_gI G 2 3 v3).bind fun v4 =>
    some v4)
  else
  some (-1)
theorem wG_X0_fault {l : Launch} {E : dj_E} {Mo : Option dm_M} {r : Int32} (G : dg_G) (x0 : Nat) (x1 : Int32) (hf : gG_X0_fault G x0 x1 = some r) : dgW tG_X0_fault l E Mo G (.inr (some (.int r))) G 0 [(0, dj_v E x0), (1, .int x1)] [] := by
  unfold gG_X0_fault at hf
  refine dg_l (fun _ _ _ _ _ _ _ hC => r_iload_n hC dX0_fault_0 rfl (j := 1) rfl) ?_
  refine dg_bn (fun _ _ _ _ _ _ _ hC => r_if_ne hC dX0_fault_1 (tgt := 14) (by decide)) (fun c1 => ?_) (fun c1 => ?_)
  · have hf := dh_el hf c1
    refine dg_l (fun _ _ _ _ _ _ _ hC => r_iload_n hC dX0_fault_14 rfl (j := 1) rfl) ?_
    refine dg_l (fun _ _ _ _ _ _ _ hC => r_iconst hC dX0_fault_15 ki_1) ?_
    refine dg_bn (fun _ _ _ _ _ _ _ hC => r_icmp_ne hC dX0_fault_16 (tgt := 29) (by decide)) (fun c2 => ?_) (fun c2 => ?_)
    · have hf := dh_el hf c2
      refine dg_l (fun _ _ _ _ _ _ _ hC => r_iconst hC dX0_fault_29 ki_m1) ?_
      exact g_iret1 dX0_fault_30 rfl hf
    · have hf := dh_if hf c2
      refine g_aload_n dX0_fault_19 rfl (j := 0) rfl ?_
      obtain ⟨v3, h3, hf⟩ := dh_bd hf
      refine g_getR fR_X0_10 (by decide) h3 dX0_fault_20 ?_
      obtain ⟨v4, h4, hf⟩ := dh_bd hf
      refine g_getI fR_X0_218 (by decide) h4 dX0_fault_23 ?_
      refine dg_l (fun _ _ _ _ _ _ _ hC => r_goto hC dX0_fault_26 (tgt := 30) (by decide)) ?_
      exact g_iret1 dX0_fault_30 rfl hf
  · have hf := dh_if hf c1
    refine g_aload_n dX0_fault_4 rfl (j := 0) rfl ?_
    obtain ⟨v5, h5, hf⟩ := dh_bd hf
    refine g_getR fR_X0_10 (by decide) h5 dX0_fault_5 ?_
    obtain ⟨v6, h6, hf⟩ := dh_bd hf
    refine g_getI fR_X0_215 (by decide) h6 dX0_fault_8 ?_
    refine dg_l (fun _ _ _ _ _ _ _ hC => r_goto hC dX0_fault_11 (tgt := 30) (by decide)) ?_
    exact g_iret1 dX0_fault_30 rfl hf
theorem cG_X0_fault (l : Launch) (E : dj_E) (Mo : Option dm_M) (G : dg_G) (x0 : Nat) (x1 : Int32) {r : Int32} (h : gG_X0_fault G x0 x1 = some r) : dg_Met l yX0_fault cX0_fault 2 (some .int) 0 0 E Mo [dj_v E x0, .int x1] G (some (.int r)) G :=
  dg_met (plainFor_of_name (by decide)) (by simp only [lg_sl_ref, lg_sl_int, lg_sl_long, lg_sl_nil]; decide) (by simp only [lv_args_ref, lv_args_int, lv_args_long, lv_args_nil]) (wG_X0_fault G x0 x1 h)
theorem qG_X0_fault : dg_cV "DebtorsHouse" yX0_fault cX0_fault 2 (some .int) 1 := ⟨q1082, Or.inl q1083, q81, q1084, by decide, by decide, by decide +kernel⟩
/-! DebtorsHouse.good(II)I -/
abbrev tG_X0_good : dg_T := (cX0_good, 5, RX0, (some .int), 3, 64, "good", [])
def gG_X0_good_L5_F (k5 : (Nat → Int32 → Int32 → Int32 → Int32 → Option Int32)) (G : dg_G) (x0 : Nat) (x1 : Int32) (x2 : Int32) (x3 : Int32) (x4 : Int32) : Option Int32 :=
  (dg_gR G 1 0 x0).bind fun v1 =>
  (dg_gR G 2 10 v1).bind fun v2 =>
  (dg_is G 10 v2).bind fun u3 =>
  (gG_J2_size G v2).bind fun p4 =>
  if p4 ≤ x4 then (
    some x3)
  else
  (gG_X0_isDay G x1).bind fun p6 =>
  if p6 = 0 then (
    some x3)
  else
  (gG_X0_isDay G x2).bind fun p8 =>
  if p8 = 0 then (
    some x3)
  else
  (dg_gR G 1 0 x0).bind fun v10 =>
  (dg_gR G 2 10 v10).bind fun v11 =>
  (dg_is G 10 v11).bind fun u12 =>
  (gG_J2_get G v11 x4).bind fun p13 =>
  (dg_cast G 5 p13).bind fun u14 =>
  (dg_gI G 5 0 p13).bind fun v15 =>
  if x1 < v15 then (
    k5 x0 x1 x2 x3 (x4 + 1))
  else
  (dg_gR G 1 0 x0).bind fun v17 =>
  (dg_gR G 2 10 v17).bind fun v18 =>
  (dg_is G 10 v18).bind fun u19 =>
  (gG_J2_get G v18 x4).bind fun p20 =>
  (dg_cast G 5 p20).bind fun u21 =>
  (dg_gI G 5 1 p20).bind fun v22 =>
  if x2 < v22 then (
    k5 x0 x1 x2 x3 (x4 + 1))
  else
  k5 x0 x1 x2 x4 (x4 + 1)
theorem wG_X0_good_L5_F {l : Launch} {E : dj_E} {Mo : Option dm_M} {r : Int32} (G : dg_G) (k5 : (Nat → Int32 → Int32 → Int32 → Int32 → Option Int32)) (hk5 : ∀ (x0 : Nat) (x1 : Int32) (x2 : Int32) (x3 : Int32) (x4 : Int32), k5 x0 x1 x2 x3 x4 = some r → dgW tG_X0_good l E Mo G (.inr (some (.int r))) G 5 [(0, dj_v E x0), (1, .int x1), (2, .int x2), (3, .int x3), (4, .int x4)] []) (x0 : Nat) (x1 : Int32) (x2 : Int32) (x3 : Int32) (x4 : Int32) (hf : gG_X0_good_L5_F k5 G x0 x1 x2 x3 x4 = some r) : dgW tG_X0_good l E Mo G (.inr (some (.int r))) G 5 [(0, dj_v E x0), (1, .int x1), (2, .int x2), (3, .int x3), (4, .int x4)] [] := by
  unfold gG_X0_good_L5_F at hf
  refine dg_l (fun _ _ _ _ _ _ _ hC => r_iload hC dX0_good_5 (j := 4) rfl) ?_
  refine g_aload_n dX0_good_7 rfl (j := 0) rfl ?_
  obtain ⟨v1, h1, hf⟩ := dh_bd hf
  refine g_getR fR_X0_10 (by decide) h1 dX0_good_8 ?_
  obtain ⟨v2, h2, hf⟩ := dh_bd hf
  refine g_getR fR_X0_221 (by decide) h2 dX0_good_11 ?_
  obtain ⟨u3, h3, hf⟩ := dh_bd hf
  obtain ⟨p4, h4, hf⟩ := dh_bd hf
  refine g_callV (rc_O (ci := 10) rfl h3) (cG_J2_size _ E Mo G v2 h4) q256 qG_J2_size (Nat.le_of_ble_eq_true rfl) (Nat.le_of_ble_eq_true rfl) rfl (dj_cat8 (Nat.le_of_ble_eq_true rfl)) dX0_good_14 ?_
  refine dg_b (fun _ _ _ _ _ _ _ hC => r_icmp_ge hC dX0_good_17 (tgt := 87) (by decide)) (fun c5 => ?_) (fun c5 => ?_)
  · have hf := dh_if hf c5
    refine dg_l (fun _ _ _ _ _ _ _ hC => r_iload_n hC dX0_good_87 rfl (j := 3) rfl) ?_
    exact g_iret1 dX0_good_88 rfl hf
  · have hf := dh_el hf c5
    refine dg_l (fun _ _ _ _ _ _ _ hC => r_iload_n hC dX0_good_20 rfl (j := 1) rfl) ?_
    obtain ⟨p6, h6, hf⟩ := dh_bd hf
    refine g_callS (cG_X0_isDay _ E Mo G x1 h6) q591 qG_X0_isDay (Nat.le_of_ble_eq_true rfl) (Nat.le_of_ble_eq_true rfl) rfl (dj_cat8 (Nat.le_of_ble_eq_true rfl)) dX0_good_21 ?_
    refine dg_b (fun _ _ _ _ _ _ _ hC => r_if_eq hC dX0_good_24 (tgt := 87) (by decide)) (fun c7 => ?_) (fun c7 => ?_)
    · have hf := dh_if hf c7
      refine dg_l (fun _ _ _ _ _ _ _ hC => r_iload_n hC dX0_good_87 rfl (j := 3) rfl) ?_
      exact g_iret1 dX0_good_88 rfl hf
    · have hf := dh_el hf c7
      refine dg_l (fun _ _ _ _ _ _ _ hC => r_iload_n hC dX0_good_27 rfl (j := 2) rfl) ?_
      obtain ⟨p8, h8, hf⟩ := dh_bd hf
      refine g_callS (cG_X0_isDay _ E Mo G x2 h8) q591 qG_X0_isDay (Nat.le_of_ble_eq_true rfl) (Nat.le_of_ble_eq_true rfl) rfl (dj_cat8 (Nat.le_of_ble_eq_true rfl)) dX0_good_28 ?_
      refine dg_b (fun _ _ _ _ _ _ _ hC => r_if_eq hC dX0_good_31 (tgt := 87) (by decide)) (fun c9 => ?_) (fun c9 => ?_)
      · have hf := dh_if hf c9
        refine dg_l (fun _ _ _ _ _ _ _ hC => r_iload_n hC dX0_good_87 rfl (j := 3) rfl) ?_
        exact g_iret1 dX0_good_88 rfl hf
      · have hf := dh_el hf c9
        refine g_aload_n dX0_good_34 rfl (j := 0) rfl ?_
        obtain ⟨v10, h10, hf⟩ := dh_bd hf
        refine g_getR fR_X0_10 (by decide) h10 dX0_good_35 ?_
        obtain ⟨v11, h11, hf⟩ := dh_bd hf
        refine g_getR fR_X0_221 (by decide) h11 dX0_good_38 ?_
        refine dg_l (fun _ _ _ _ _ _ _ hC => r_iload hC dX0_good_41 (j := 4) rfl) ?_
        obtain ⟨u12, h12, hf⟩ := dh_bd hf
        obtain ⟨p13, h13, hf⟩ := dh_bd hf
        refine g_callV (rc_O (ci := 10) rfl h12) (cG_J2_get _ E Mo G v11 x4 h13) q489 qG_J2_get (Nat.le_of_ble_eq_true rfl) (Nat.le_of_ble_eq_true rfl) rfl (dj_cat8 (Nat.le_of_ble_eq_true rfl)) dX0_good_43 ?_
        obtain ⟨u14, h14, hf⟩ := dh_bd hf
        refine g_castO (ci := 5) rfl h14 q594 dX0_good_46 ?_
        obtain ⟨v15, h15, hf⟩ := dh_bd hf
        refine g_getI fR_X0_249 (by decide) h15 dX0_good_49 ?_
        refine dg_l (fun _ _ _ _ _ _ _ hC => r_iload_n hC dX0_good_52 rfl (j := 1) rfl) ?_
        refine dg_b (fun _ _ _ _ _ _ _ hC => r_icmp_gt hC dX0_good_53 (tgt := 81) (by decide)) (fun c16 => ?_) (fun c16 => ?_)
        · have hf := dh_if hf c16
          refine dg_l (fun _ _ _ _ _ _ _ hC => r_iinc (lv' := [(4, .int (x4 + 1)), (0, dj_v E x0), (1, .int x1), (2, .int x2), (3, .int x3)]) hC dX0_good_81 (j := 4) rfl (congrArg _ ki_1) (Nat.le_of_ble_eq_true rfl) rfl) ?_
          refine dg_l (fun _ _ _ _ _ _ _ hC => r_goto hC dX0_good_84 (tgt := 5) (by decide)) ?_
          exact g_sub [1, 2, 3, 4, 0] rfl (hk5 x0 x1 x2 x3 (x4 + 1) hf)
        · have hf := dh_el hf c16
          refine g_aload_n dX0_good_56 rfl (j := 0) rfl ?_
          obtain ⟨v17, h17, hf⟩ := dh_bd hf
          refine g_getR fR_X0_10 (by decide) h17 dX0_good_57 ?_
          obtain ⟨v18, h18, hf⟩ := dh_bd hf
          refine g_getR fR_X0_221 (by decide) h18 dX0_good_60 ?_
          refine dg_l (fun _ _ _ _ _ _ _ hC => r_iload hC dX0_good_63 (j := 4) rfl) ?_
          obtain ⟨u19, h19, hf⟩ := dh_bd hf
          obtain ⟨p20, h20, hf⟩ := dh_bd hf
          refine g_callV (rc_O (ci := 10) rfl h19) (cG_J2_get _ E Mo G v18 x4 h20) q489 qG_J2_get (Nat.le_of_ble_eq_true rfl) (Nat.le_of_ble_eq_true rfl) rfl (dj_cat8 (Nat.le_of_ble_eq_true rfl)) dX0_good_65 ?_
          obtain ⟨u21, h21, hf⟩ := dh_bd hf
          refine g_castO (ci := 5) rfl h21 q594 dX0_good_68 ?_
          obtain ⟨v22, h22, hf⟩ := dh_bd hf
          refine g_getI fR_X0_252 (by decide) h22 dX0_good_71 ?_
          refine dg_l (fun _ _ _ _ _ _ _ hC => r_iload_n hC dX0_good_74 rfl (j := 2) rfl) ?_
          refine dg_b (fun _ _ _ _ _ _ _ hC => r_icmp_gt hC dX0_good_75 (tgt := 81) (by decide)) (fun c23 => ?_) (fun c23 => ?_)
          · have hf := dh_if hf c23
            refine dg_l (fun _ _ _ _ _ _ _ hC => r_iinc (lv' := [(4, .int (x4 + 1)), (0, dj_v E x0), (1, .int x1), (2, .int x2), (3, .int x3)]) hC dX0_good_81 (j := 4) rfl (congrArg _ ki_1) (Nat.le_of_ble_eq_true rfl) rfl) ?_
            refine dg_l (fun _ _ _ _ _ _ _ hC => r_goto hC dX0_good_84 (tgt := 5) (by decide)) ?_
            exact g_sub [1, 2, 3, 4, 0] rfl (hk5 x0 x1 x2 x3 (x4 + 1) hf)
          · have hf := dh_el hf c23
            refine dg_l (fun _ _ _ _ _ _ _ hC => r_iload hC dX0_good_78 (j := 4) rfl) ?_
            refine dg_l (fun _ _ _ _ _ _ _ hC => r_istore_n (lv' := [(3, .int x4), (0, dj_v E x0), (1, .int x1), (2, .int x2), (4, .int x4)]) hC dX0_good_80 rfl (Nat.le_of_ble_eq_true rfl) rfl) ?_
            refine dg_l (fun _ _ _ _ _ _ _ hC => r_iinc (lv' := [(4, .int (x4 + 1)), (3, .int x4), (0, dj_v E x0), (1, .int x1), (2, .int x2)]) hC dX0_good_81 (j := 4) rfl (congrArg _ ki_1) (Nat.le_of_ble_eq_true rfl) rfl) ?_
            refine dg_l (fun _ _ _ _ _ _ _ hC => r_goto hC dX0_good_84 (tgt := 5) (by decide)) ?_
            exact g_sub [2, 3, 4, 1, 0] rfl (hk5 x0 x1 x2 x4 (x4 + 1) hf)
def gG_X0_good_L5 (G : dg_G) : Nat → Nat → Int32 → Int32 → Int32 → Int32 → Option Int32
  | 0 => fun _ _ _ _ _ => none
  | n + 1 => gG_X0_good_L5_F (gG_X0_good_L5 G n) G
theorem wG_X0_good_L5 {l : Launch} {E : dj_E} {Mo : Option dm_M} {r : Int32} (G : dg_G) : ∀ (n : Nat) (x0 : Nat) (x1 : Int32) (x2 : Int32) (x3 : Int32) (x4 : Int32) (_ : gG_X0_good_L5 G n x0 x1 x2 x3 x4 = some r), dgW tG_X0_good l E Mo G (.inr (some (.int r))) G 5 [(0, dj_v E x0), (1, .int x1), (2, .int x2), (3, .int x3), (4, .int x4)] [] := by
  intro n
  induction n with
  | zero => intro x0 x1 x2 x3 x4 hf; exact dh_no hf
  | succ n ih => intro x0 x1 x2 x3 x4 hf; exact wG_X0_good_L5_F G (gG_X0_good_L5 G n) ih x0 x1 x2 x3 x4 hf
def gG_X0_good (G : dg_G) (x0 : Nat) (x1 : Int32) (x2 : Int32) : Option Int32 :=
  gG_X0_good_L5 G dh_fu x0 x1 x2 (-1) 0
theorem wG_X0_good {l : Launch} {E : dj_E} {Mo : Option dm_M} {r : Int32} (G : dg_G) (x0 : Nat) (x1 : Int32) (x2 : Int32) (hf : gG_X0_good G x0 x1 x2 = some r) : dgW tG_X0_good l E Mo G (.inr (some (.int r))) G 0 [(0, dj_v E x0), (1, .int x1), (2, .int x2)] [] := by
  unfold gG_X0_good at hf
  refine dg_l (fun _ _ _ _ _ _ _ hC => r_iconst hC dX0_good_0 ki_m1) ?_
  refine dg_l (fun _ _ _ _ _ _ _ hC => r_istore_n (lv' := [(3, .int (-1)), (0, dj_v E x0), (1, .int x1), (2, .int x2)]) hC dX0_good_1 rfl (Nat.le_of_ble_eq_true rfl) rfl) ?_
  refine dg_l (fun _ _ _ _ _ _ _ hC => r_iconst hC dX0_good_2 ki_0) ?_
  refine dg_l (fun _ _ _ _ _ _ _ hC => r_istore (lv' := [(4, .int 0), (3, .int (-1)), (0, dj_v E x0), (1, .int x1), (2, .int x2)]) hC dX0_good_3 (Nat.le_of_ble_eq_true rfl) rfl) ?_
  exact g_sub [2, 3, 4, 1, 0] rfl (wG_X0_good_L5 G dh_fu x0 x1 x2 (-1) 0 hf)
theorem cG_X0_good (l : Launch) (E : dj_E) (Mo : Option dm_M) (G : dg_G) (x0 : Nat) (x1 : Int32) (x2 : Int32) {r : Int32} (h : gG_X0_good G x0 x1 x2 = some r) : dg_Met l yX0_good cX0_good 5 (some .int) 3 64 E Mo [dj_v E x0, .int x1, .int x2] G (some (.int r)) G :=
  dg_met (plainFor_of_name (by decide)) (by simp only [lg_sl_ref, lg_sl_int, lg_sl_long, lg_sl_nil]; decide) (by simp only [lv_args_ref, lv_args_int, lv_args_long, lv_args_nil]) (wG_X0_good G x0 x1 x2 h)
theorem qG_X0_good : dg_cV "DebtorsHouse" yX0_good cX0_good 5 (some .int) 2 := ⟨q1086, Or.inl q1087, q81, q1088, by decide, by decide, by decide +kernel⟩
/-! DebtorsHouse.asks(LDebtorsHouse$About;I)V -/
abbrev tG_X0_asks_2 : dg_T := (cX0_asks_2, 3, RX0, none, 1, 20, "asks", [])
def gG_X0_asks_2 (G : dg_G) (x0 : Nat) (x1 : Nat) (x2 : Int32) : Option dg_G :=
  (dg_gR G 1 2 x0).bind fun v1 =>
  (do_isA x1).bind fun u2 =>
  (gG_J6_ordinal G x1).bind fun p3 =>
  (dg_st G 50 v1 p3 x2).bind fun G4 =>
  some G4
theorem wG_X0_asks_2 {l : Launch} {E : dj_E} {Mo : Option dm_M} {G' : dg_G} (G : dg_G) (x0 : Nat) (x1 : Nat) (x2 : Int32) (hf : gG_X0_asks_2 G x0 x1 x2 = some G') : dgW tG_X0_asks_2 l E Mo G' (.inr none) G 0 [(0, dj_v E x0), (1, dj_v E x1), (2, .int x2)] [] := by
  unfold gG_X0_asks_2 at hf
  refine g_aload_n dX0_asks_2_0 rfl (j := 0) rfl ?_
  obtain ⟨v1, h1, hf⟩ := dh_bd hf
  refine g_getR fR_X0_24 (by decide) h1 dX0_asks_2_1 ?_
  refine g_aload_n dX0_asks_2_4 rfl (j := 1) rfl ?_
  obtain ⟨u2, h2, hf⟩ := dh_bd hf
  obtain ⟨p3, h3, hf⟩ := dh_bd hf
  refine g_callU (rc_A h2) (cG_J6_ordinal _ E Mo G x1 h3) q1104 q1105 q1106 q556 q93 q557 rfl ⟨by decide, by decide, by decide +kernel⟩ (Nat.le_of_ble_eq_true rfl) (Nat.le_of_ble_eq_true rfl) rfl (dj_cat8 (Nat.le_of_ble_eq_true rfl)) dX0_asks_2_5 ?_
  refine dg_l (fun _ _ _ _ _ _ _ hC => r_iload_n hC dX0_asks_2_8 rfl (j := 2) rfl) ?_
  obtain ⟨G4, h4, hf⟩ := dh_bd hf
  refine g_iast h4 dX0_asks_2_9 ?_
  exact g_vret dX0_asks_2_10 rfl hf
theorem cG_X0_asks_2 (l : Launch) (E : dj_E) (Mo : Option dm_M) (G : dg_G) (x0 : Nat) (x1 : Nat) (x2 : Int32) {G' : dg_G} (h : gG_X0_asks_2 G x0 x1 x2 = some G') : dg_Met l yX0_asks_2 cX0_asks_2 3 none 1 20 E Mo [dj_v E x0, dj_v E x1, .int x2] G none G' :=
  dg_met (plainFor_of_name (by decide)) (by simp only [lg_sl_ref, lg_sl_int, lg_sl_long, lg_sl_nil]; decide) (by simp only [lv_args_ref, lv_args_int, lv_args_long, lv_args_nil]) (wG_X0_asks_2 G x0 x1 x2 h)
theorem qG_X0_asks_2 : dg_cV "DebtorsHouse" yX0_asks_2 cX0_asks_2 3 none 2 := ⟨q1102, Or.inl qs25, q81, q1103, by decide, by decide, by decide +kernel⟩
