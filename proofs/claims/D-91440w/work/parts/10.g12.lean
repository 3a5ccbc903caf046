set_option maxRecDepth 100000
/-! DebtorsHouse.asks(LDebtorsHouse$Person;)V -/
abbrev tG_X0_asks : dg_T := (cX0_asks, 7, RX0, none, 4, 85, "asks", [])
def gG_X0_asks_b145 (G : dg_G) (x0 : Nat) (x1 : Nat) (y0 : Int32) (y1 : Nat) (y2 : Nat) : Option dg_G :=
  (dg_is G 1 y2).bind fun u15 =>
  (gG_X0_asks_2 G y2 y1 y0).bind fun p16 =>
  (dg_gI p16 3 1 x1).bind fun v17 =>
  (dg_is p16 1 x0).bind fun u18 =>
  (gG_X0_asks_2 p16 x0 15 v17).bind fun p19 =>
  (dg_gI p19 3 4 x1).bind fun v20 =>
  (dg_is p19 1 x0).bind fun u21 =>
  (gG_X0_asks_2 p19 x0 16 v20).bind fun p22 =>
  (dg_gR p22 1 0 x0).bind fun v23 =>
  (dg_gI p22 2 5 v23).bind fun v24 =>
  (dg_is p22 1 x0).bind fun u25 =>
  (gG_X0_asks_2 p22 x0 17 v24).bind fun p26 =>
  (dg_gI p26 3 2 x1).bind fun v27 =>
  (dg_is p26 1 x0).bind fun u28 =>
  (gG_X0_asks_2 p26 x0 18 v27).bind fun p29 =>
  some p29
theorem wG_X0_asks_b145 {l : Launch} {E : dj_E} {Mo : Option dm_M} {G' : dg_G} (G : dg_G) (x0 : Nat) (x1 : Nat) (y0 : Int32) (y1 : Nat) (y2 : Nat) (hf : gG_X0_asks_b145 G x0 x1 y0 y1 y2 = some G') : dgW tG_X0_asks l E Mo G' (.inr none) G 145 [(0, dj_v E x0), (1, dj_v E x1)] [.int y0, dj_v E y1, dj_v E y2] := by
  unfold gG_X0_asks_b145 at hf
  obtain ⟨u15, h15, hf⟩ := dh_bd hf
  obtain ⟨p16, h16, hf⟩ := dh_bd hf
  refine g_callV (rc_O (ci := 1) rfl h15) (cG_X0_asks_2 _ E Mo G y2 y1 y0 h16) q1100 qG_X0_asks_2 (Nat.le_of_ble_eq_true rfl) (Nat.le_of_ble_eq_true rfl) rfl (dj_cat8 (Nat.le_of_ble_eq_true rfl)) dX0_asks_145 ?_
  refine g_aload_n dX0_asks_148 rfl (j := 0) rfl ?_
  refine g_gets (j := 15) (by decide) (by decide) (fun _ h => ((dk_A h).1 4 (by decide)).1) q1117 dX0_asks_149 ?_
  refine g_aload_n dX0_asks_152 rfl (j := 1) rfl ?_
  obtain ⟨v17, h17, hf⟩ := dh_bd hf
  refine g_getI fR_X0_282 (by decide) h17 dX0_asks_153 ?_
  obtain ⟨u18, h18, hf⟩ := dh_bd hf
  obtain ⟨p19, h19, hf⟩ := dh_bd hf
  refine g_callV (rc_O (ci := 1) rfl h18) (cG_X0_asks_2 _ E Mo p16 x0 15 v17 h19) q1100 qG_X0_asks_2 (Nat.le_of_ble_eq_true rfl) (Nat.le_of_ble_eq_true rfl) rfl (dj_cat8 (Nat.le_of_ble_eq_true rfl)) dX0_asks_156 ?_
  refine g_aload_n dX0_asks_159 rfl (j := 0) rfl ?_
  refine g_gets (j := 16) (by decide) (by decide) (fun _ h => ((dk_A h).1 5 (by decide)).1) q1119 dX0_asks_160 ?_
  refine g_aload_n dX0_asks_163 rfl (j := 1) rfl ?_
  obtain ⟨v20, h20, hf⟩ := dh_bd hf
  refine g_getI fR_X0_288 (by decide) h20 dX0_asks_164 ?_
  obtain ⟨u21, h21, hf⟩ := dh_bd hf
  obtain ⟨p22, h22, hf⟩ := dh_bd hf
  refine g_callV (rc_O (ci := 1) rfl h21) (cG_X0_asks_2 _ E Mo p19 x0 16 v20 h22) q1100 qG_X0_asks_2 (Nat.le_of_ble_eq_true rfl) (Nat.le_of_ble_eq_true rfl) rfl (dj_cat8 (Nat.le_of_ble_eq_true rfl)) dX0_asks_167 ?_
  refine g_aload_n dX0_asks_170 rfl (j := 0) rfl ?_
  refine g_gets (j := 17) (by decide) (by decide) (fun _ h => ((dk_A h).1 6 (by decide)).1) q1121 dX0_asks_171 ?_
  refine g_aload_n dX0_asks_174 rfl (j := 0) rfl ?_
  obtain ⟨v23, h23, hf⟩ := dh_bd hf
  refine g_getR fR_X0_10 (by decide) h23 dX0_asks_175 ?_
  obtain ⟨v24, h24, hf⟩ := dh_bd hf
  refine g_getI fR_X0_294 (by decide) h24 dX0_asks_178 ?_
  obtain ⟨u25, h25, hf⟩ := dh_bd hf
  obtain ⟨p26, h26, hf⟩ := dh_bd hf
  refine g_callV (rc_O (ci := 1) rfl h25) (cG_X0_asks_2 _ E Mo p22 x0 17 v24 h26) q1100 qG_X0_asks_2 (Nat.le_of_ble_eq_true rfl) (Nat.le_of_ble_eq_true rfl) rfl (dj_cat8 (Nat.le_of_ble_eq_true rfl)) dX0_asks_181 ?_
  refine g_aload_n dX0_asks_184 rfl (j := 0) rfl ?_
  refine g_gets (j := 18) (by decide) (by decide) (fun _ h => ((dk_A h).1 7 (by decide)).1) q1123 dX0_asks_185 ?_
  refine g_aload_n dX0_asks_188 rfl (j := 1) rfl ?_
  obtain ⟨v27, h27, hf⟩ := dh_bd hf
  refine g_getI fR_X0_134 (by decide) h27 dX0_asks_189 ?_
  obtain ⟨u28, h28, hf⟩ := dh_bd hf
  obtain ⟨p29, h29, hf⟩ := dh_bd hf
  refine g_callV (rc_O (ci := 1) rfl h28) (cG_X0_asks_2 _ E Mo p26 x0 18 v27 h29) q1100 qG_X0_asks_2 (Nat.le_of_ble_eq_true rfl) (Nat.le_of_ble_eq_true rfl) rfl (dj_cat8 (Nat.le_of_ble_eq_true rfl)) dX0_asks_192 ?_
  exact g_vret dX0_asks_195 rfl hf
def gG_X0_asks_L11_F (k11 : (dg_G → Nat → Nat → Int32 → Int32 → Int32 → Int32 → Option dg_G)) (G : dg_G) (x0 : Nat) (x1 : Nat) (x2 : Int32) (x3 : Int32) (x4 : Int32) (x5 : Int32) : Option dg_G :=
  (dg_gR G 1 0 x0).bind fun v1 =>
  (dg_gR G 2 9 v1).bind fun v2 =>
  (dg_is G 10 v2).bind fun u3 =>
  (gG_J2_size G v2).bind fun p4 =>
  if p4 ≤ x5 then (
    (dg_is G 1 x0).bind fun u6 =>
    (gG_X0_asks_2 G x0 11 x2).bind fun p7 =>
    (dg_is p7 1 x0).bind fun u8 =>
    (gG_X0_asks_2 p7 x0 12 x3).bind fun p9 =>
    (dg_is p9 1 x0).bind fun u10 =>
    (gG_X0_asks_2 p9 x0 13 x4).bind fun p11 =>
    (dg_is p11 3 x1).bind fun u12 =>
    (gG_X3_isHeld p11 x1).bind fun p13 =>
    if p13 = 0 then (
      gG_X0_asks_b145 p11 x0 x1 0 14 x0)
    else
    (dg_gR p11 1 0 x0).bind fun v30 =>
    (dg_gI p11 2 4 v30).bind fun v31 =>
    (dg_gI p11 3 3 x1).bind fun v32 =>
    gG_X0_asks_b145 p11 x0 x1 (v31 - v32) 14 x0)
  else
  (dg_is G 1 x0).bind fun u33 =>
  (gG_X0_debtAt G x0 x5).bind fun p34 =>
  (dg_is G 4 p34).bind fun u35 =>
  (gG_X4_isLive G p34).bind fun p36 =>
  if p36 = 0 then (
    k11 G x0 x1 x2 x3 x4 (x5 + 1))
  else
  (dg_gI G 4 1 p34).bind fun v38 =>
  (dg_gI G 3 0 x1).bind fun v39 =>
  if ¬ (v38 = v39) then (
    k11 G x0 x1 x2 x3 x4 (x5 + 1))
  else
  (dg_gR G 1 0 x0).bind fun v41 =>
  (dg_gI G 2 4 v41).bind fun v42 =>
  (dg_is G 4 p34).bind fun u43 =>
  (gG_X4_due G p34 v42).bind fun p44 =>
  (dg_gI G 4 3 p34).bind fun v45 =>
  (gG_J5_min G x4 v45).bind fun p46 =>
  k11 G x0 x1 (x2 + p44) (x3 + 1) p46 (x5 + 1)
theorem wG_X0_asks_L11_F {l : Launch} {E : dj_E} {Mo : Option dm_M} {G' : dg_G} (k11 : (dg_G → Nat → Nat → Int32 → Int32 → Int32 → Int32 → Option dg_G)) (hk11 : ∀ (G : dg_G) (x0 : Nat) (x1 : Nat) (x2 : Int32) (x3 : Int32) (x4 : Int32) (x5 : Int32), k11 G x0 x1 x2 x3 x4 x5 = some G' → dgW tG_X0_asks l E Mo G' (.inr none) G 11 [(0, dj_v E x0), (1, dj_v E x1), (2, .int x2), (3, .int x3), (4, .int x4), (5, .int x5)] []) (G : dg_G) (x0 : Nat) (x1 : Nat) (x2 : Int32) (x3 : Int32) (x4 : Int32) (x5 : Int32) (hf : gG_X0_asks_L11_F k11 G x0 x1 x2 x3 x4 x5 = some G') : dgW tG_X0_asks l E Mo G' (.inr none) G 11 [(0, dj_v E x0), (1, dj_v E x1), (2, .int x2), (3, .int x3), (4, .int x4), (5, .int x5)] [] := by
  unfold gG_X0_asks_L11_F at hf
  refine dg_l (fun _ _ _ _ _ _ _ hC => r_iload hC dX0_asks_11 (j := 5) rfl) ?_
  refine g_aload_n dX0_asks_13 rfl (j := 0) rfl ?_
  obtain ⟨v1, h1, hf⟩ := dh_bd hf
  refine g_getR fR_X0_10 (by decide) h1 dX0_asks_14 ?_
  obtain ⟨v2, h2, hf⟩ := dh_bd hf
  refine g_getR fR_X0_63 (by decide) h2 dX0_asks_17 ?_
  obtain ⟨u3, h3, hf⟩ := dh_bd hf
  obtain ⟨p4, h4, hf⟩ := dh_bd hf
  refine g_callV (rc_O (ci := 10) rfl h3) (cG_J2_size _ E Mo G v2 h4) q256 qG_J2_size (Nat.le_of_ble_eq_true rfl) (Nat.le_of_ble_eq_true rfl) rfl (dj_cat8 (Nat.le_of_ble_eq_true rfl)) dX0_asks_20 ?_
  refine dg_b (fun _ _ _ _ _ _ _ hC => r_icmp_ge hC dX0_asks_23 (tgt := 93) (by decide)) (fun c5 => ?_) (fun c5 => ?_)
  · have hf := dh_if hf c5
    refine g_aload_n dX0_asks_93 rfl (j := 0) rfl ?_
    refine g_gets (j := 11) (by decide) (by decide) (fun _ h => ((dk_A h).1 0 (by decide)).1) q1098 dX0_asks_94 ?_
    refine dg_l (fun _ _ _ _ _ _ _ hC => r_iload_n hC dX0_asks_97 rfl (j := 2) rfl) ?_
    obtain ⟨u6, h6, hf⟩ := dh_bd hf
    obtain ⟨p7, h7, hf⟩ := dh_bd hf
    refine g_callV (rc_O (ci := 1) rfl h6) (cG_X0_asks_2 _ E Mo G x0 11 x2 h7) q1100 qG_X0_asks_2 (Nat.le_of_ble_eq_true rfl) (Nat.le_of_ble_eq_true rfl) rfl (dj_cat8 (Nat.le_of_ble_eq_true rfl)) dX0_asks_98 ?_
    refine g_aload_n dX0_asks_101 rfl (j := 0) rfl ?_
    refine g_gets (j := 12) (by decide) (by decide) (fun _ h => ((dk_A h).1 1 (by decide)).1) q1107 dX0_asks_102 ?_
    refine dg_l (fun _ _ _ _ _ _ _ hC => r_iload_n hC dX0_asks_105 rfl (j := 3) rfl) ?_
    obtain ⟨u8, h8, hf⟩ := dh_bd hf
    obtain ⟨p9, h9, hf⟩ := dh_bd hf
    refine g_callV (rc_O (ci := 1) rfl h8) (cG_X0_asks_2 _ E Mo p7 x0 12 x3 h9) q1100 qG_X0_asks_2 (Nat.le_of_ble_eq_true rfl) (Nat.le_of_ble_eq_true rfl) rfl (dj_cat8 (Nat.le_of_ble_eq_true rfl)) dX0_asks_106 ?_
    refine g_aload_n dX0_asks_109 rfl (j := 0) rfl ?_
    refine g_gets (j := 13) (by decide) (by decide) (fun _ h => ((dk_A h).1 2 (by decide)).1) q1109 dX0_asks_110 ?_
    refine dg_l (fun _ _ _ _ _ _ _ hC => r_iload hC dX0_asks_113 (j := 4) rfl) ?_
    obtain ⟨u10, h10, hf⟩ := dh_bd hf
    obtain ⟨p11, h11, hf⟩ := dh_bd hf
    refine g_callV (rc_O (ci := 1) rfl h10) (cG_X0_asks_2 _ E Mo p9 x0 13 x4 h11) q1100 qG_X0_asks_2 (Nat.le_of_ble_eq_true rfl) (Nat.le_of_ble_eq_true rfl) rfl (dj_cat8 (Nat.le_of_ble_eq_true rfl)) dX0_asks_115 ?_
    refine g_aload_n dX0_asks_118 rfl (j := 0) rfl ?_
    refine g_gets (j := 14) (by decide) (by decide) (fun _ h => ((dk_A h).1 3 (by decide)).1) q1111 dX0_asks_119 ?_
    refine g_aload_n dX0_asks_122 rfl (j := 1) rfl ?_
    obtain ⟨u12, h12, hf⟩ := dh_bd hf
    obtain ⟨p13, h13, hf⟩ := dh_bd hf
    refine g_callV (rc_O (ci := 3) rfl h12) (cG_X3_isHeld _ E Mo p11 x1 h13) q1113 qG_X3_isHeld (Nat.le_of_ble_eq_true rfl) (Nat.le_of_ble_eq_true rfl) rfl (dj_cat8 (Nat.le_of_ble_eq_true rfl)) dX0_asks_123 ?_
    refine dg_b (fun _ _ _ _ _ _ _ hC => r_if_eq hC dX0_asks_126 (tgt := 144) (by decide)) (fun c14 => ?_) (fun c14 => ?_)
    · have hf := dh_if hf c14
      refine dg_l (fun _ _ _ _ _ _ _ hC => r_iconst hC dX0_asks_144 ki_0) ?_
      exact g_sub [0, 1] rfl (wG_X0_asks_b145 p11 x0 x1 0 14 x0 hf)
    · have hf := dh_el hf c14
      refine g_aload_n dX0_asks_129 rfl (j := 0) rfl ?_
      obtain ⟨v30, h30, hf⟩ := dh_bd hf
      refine g_getR fR_X0_10 (by decide) h30 dX0_asks_130 ?_
      obtain ⟨v31, h31, hf⟩ := dh_bd hf
      refine g_getI fR_X0_88 (by decide) h31 dX0_asks_133 ?_
      refine g_aload_n dX0_asks_136 rfl (j := 1) rfl ?_
      obtain ⟨v32, h32, hf⟩ := dh_bd hf
      refine g_getI fR_X0_278 (by decide) h32 dX0_asks_137 ?_
      refine dg_l (fun _ _ _ _ _ _ _ hC => r_isub hC dX0_asks_140) ?_
      refine dg_l (fun _ _ _ _ _ _ _ hC => r_goto hC dX0_asks_141 (tgt := 145) (by decide)) ?_
      exact g_sub [0, 1] rfl (wG_X0_asks_b145 p11 x0 x1 (v31 - v32) 14 x0 hf)
  · have hf := dh_el hf c5
    refine g_aload_n dX0_asks_26 rfl (j := 0) rfl ?_
    refine dg_l (fun _ _ _ _ _ _ _ hC => r_iload hC dX0_asks_27 (j := 5) rfl) ?_
    obtain ⟨u33, h33, hf⟩ := dh_bd hf
    obtain ⟨p34, h34, hf⟩ := dh_bd hf
    refine g_callV (rc_O (ci := 1) rfl h33) (cG_X0_debtAt _ E Mo G x0 x5 h34) q485 qG_X0_debtAt (Nat.le_of_ble_eq_true rfl) (Nat.le_of_ble_eq_true rfl) rfl (dj_cat8 (Nat.le_of_ble_eq_true rfl)) dX0_asks_29 ?_
    refine g_astore (i := 6) (lv1 := [(6, dj_v E p34), (0, dj_v E x0), (1, dj_v E x1), (2, .int x2), (3, .int x3), (4, .int x4), (5, .int x5)]) dX0_asks_32 (Nat.le_of_ble_eq_true rfl) rfl ?_
    refine g_aload dX0_asks_34 (j := 0) rfl ?_
    obtain ⟨u35, h35, hf⟩ := dh_bd hf
    obtain ⟨p36, h36, hf⟩ := dh_bd hf
    refine g_callV (rc_O (ci := 4) rfl h35) (cG_X4_isLive _ E Mo G p34 h36) q503 qG_X4_isLive (Nat.le_of_ble_eq_true rfl) (Nat.le_of_ble_eq_true rfl) rfl (dj_cat8 (Nat.le_of_ble_eq_true rfl)) dX0_asks_36 ?_
    refine dg_b (fun _ _ _ _ _ _ _ hC => r_if_eq hC dX0_asks_39 (tgt := 87) (by decide)) (fun c37 => ?_) (fun c37 => ?_)
    · have hf := dh_if hf c37
      refine dg_l (fun _ _ _ _ _ _ _ hC => r_iinc (lv' := [(5, .int (x5 + 1)), (6, dj_v E p34), (0, dj_v E x0), (1, dj_v E x1), (2, .int x2), (3, .int x3), (4, .int x4)]) hC dX0_asks_87 (j := 6) rfl (congrArg _ ki_1) (Nat.le_of_ble_eq_true rfl) rfl) ?_
      refine dg_l (fun _ _ _ _ _ _ _ hC => r_goto hC dX0_asks_90 (tgt := 11) (by decide)) ?_
      exact g_sub [2, 3, 4, 5, 6, 0] rfl (hk11 G x0 x1 x2 x3 x4 (x5 + 1) hf)
    · have hf := dh_el hf c37
      refine g_aload dX0_asks_42 (j := 0) rfl ?_
      obtain ⟨v38, h38, hf⟩ := dh_bd hf
      refine g_getI fR_X0_128 (by decide) h38 dX0_asks_44 ?_
      refine g_aload_n dX0_asks_47 rfl (j := 2) rfl ?_
      obtain ⟨v39, h39, hf⟩ := dh_bd hf
      refine g_getI fR_X0_256 (by decide) h39 dX0_asks_48 ?_
      refine dg_b (fun _ _ _ _ _ _ _ hC => r_icmp_eq hC dX0_asks_51 (tgt := 57) (by decide)) (fun c40 => ?_) (fun c40 => ?_)
      · have hf := dh_el hf (fun q => q c40)
        refine dg_l (fun _ _ _ _ _ _ _ hC => r_iload_n hC dX0_asks_57 rfl (j := 3) rfl) ?_
        refine g_aload dX0_asks_58 (j := 0) rfl ?_
        refine g_aload_n dX0_asks_60 rfl (j := 1) rfl ?_
        obtain ⟨v41, h41, hf⟩ := dh_bd hf
        refine g_getR fR_X0_10 (by decide) h41 dX0_asks_61 ?_
        obtain ⟨v42, h42, hf⟩ := dh_bd hf
        refine g_getI fR_X0_88 (by decide) h42 dX0_asks_64 ?_
        obtain ⟨u43, h43, hf⟩ := dh_bd hf
        obtain ⟨p44, h44, hf⟩ := dh_bd hf
        refine g_callV (rc_O (ci := 4) rfl h43) (cG_X4_due _ E Mo G p34 v42 h44) q511 qG_X4_due (Nat.le_of_ble_eq_true rfl) (Nat.le_of_ble_eq_true rfl) rfl (dj_cat8 (Nat.le_of_ble_eq_true rfl)) dX0_asks_67 ?_
        refine dg_l (fun _ _ _ _ _ _ _ hC => r_iadd hC dX0_asks_70) ?_
        refine dg_l (fun _ _ _ _ _ _ _ hC => r_istore_n (lv' := [(2, .int (x2 + p44)), (6, dj_v E p34), (0, dj_v E x0), (1, dj_v E x1), (3, .int x3), (4, .int x4), (5, .int x5)]) hC dX0_asks_71 rfl (Nat.le_of_ble_eq_true rfl) (by simp only [List.filter, dj_cat] <;> rfl)) ?_
        refine dg_l (fun _ _ _ _ _ _ _ hC => r_iinc (lv' := [(3, .int (x3 + 1)), (2, .int (x2 + p44)), (6, dj_v E p34), (0, dj_v E x0), (1, dj_v E x1), (4, .int x4), (5, .int x5)]) hC dX0_asks_72 (j := 4) rfl (congrArg _ ki_1) (Nat.le_of_ble_eq_true rfl) rfl) ?_
        refine dg_l (fun _ _ _ _ _ _ _ hC => r_iload hC dX0_asks_75 (j := 5) rfl) ?_
        refine g_aload dX0_asks_77 (j := 2) rfl ?_
        obtain ⟨v45, h45, hf⟩ := dh_bd hf
        refine g_getI fR_X0_147 (by decide) h45 dX0_asks_79 ?_
        obtain ⟨p46, h46, hf⟩ := dh_bd hf
        refine g_callS (cG_J5_min _ E Mo G x4 v45 h46) q577 qG_J5_min (Nat.le_of_ble_eq_true rfl) (Nat.le_of_ble_eq_true rfl) rfl (dj_cat8 (Nat.le_of_ble_eq_true rfl)) dX0_asks_82 ?_
        refine dg_l (fun _ _ _ _ _ _ _ hC => r_istore (lv' := [(4, .int p46), (3, .int (x3 + 1)), (2, .int (x2 + p44)), (6, dj_v E p34), (0, dj_v E x0), (1, dj_v E x1), (5, .int x5)]) hC dX0_asks_85 (Nat.le_of_ble_eq_true rfl) rfl) ?_
        refine dg_l (fun _ _ _ _ _ _ _ hC => r_iinc (lv' := [(5, .int (x5 + 1)), (4, .int p46), (3, .int (x3 + 1)), (2, .int (x2 + p44)), (6, dj_v E p34), (0, dj_v E x0), (1, dj_v E x1)]) hC dX0_asks_87 (j := 6) rfl (congrArg _ ki_1) (Nat.le_of_ble_eq_true rfl) rfl) ?_
        refine dg_l (fun _ _ _ _ _ _ _ hC => r_goto hC dX0_asks_90 (tgt := 11) (by decide)) ?_
        exact g_sub [5, 6, 3, 2, 1, 0] rfl (hk11 G x0 x1 (x2 + p44) (x3 + 1) p46 (x5 + 1) hf)
      · have hf := dh_if hf c40
        refine dg_l (fun _ _ _ _ _ _ _ hC => r_goto hC dX0_asks_54 (tgt := 87) (by decide)) ?_
        refine dg_l (fun _ _ _ _ _ _ _ hC => r_iinc (lv' := [(5, .int (x5 + 1)), (6, dj_v E p34), (0, dj_v E x0), (1, dj_v E x1), (2, .int x2), (3, .int x3), (4, .int x4)]) hC dX0_asks_87 (j := 6) rfl (congrArg _ ki_1) (Nat.le_of_ble_eq_true rfl) rfl) ?_
        refine dg_l (fun _ _ _ _ _ _ _ hC => r_goto hC dX0_asks_90 (tgt := 11) (by decide)) ?_
        exact g_sub [2, 3, 4, 5, 6, 0] rfl (hk11 G x0 x1 x2 x3 x4 (x5 + 1) hf)
def gG_X0_asks_L11 : Nat → dg_G → Nat → Nat → Int32 → Int32 → Int32 → Int32 → Option dg_G
  | 0 => fun _ _ _ _ _ _ _ => none
  | n + 1 => gG_X0_asks_L11_F (gG_X0_asks_L11 n)
theorem wG_X0_asks_L11 {l : Launch} {E : dj_E} {Mo : Option dm_M} {G' : dg_G} : ∀ (n : Nat) (G : dg_G) (x0 : Nat) (x1 : Nat) (x2 : Int32) (x3 : Int32) (x4 : Int32) (x5 : Int32) (_ : gG_X0_asks_L11 n G x0 x1 x2 x3 x4 x5 = some G'), dgW tG_X0_asks l E Mo G' (.inr none) G 11 [(0, dj_v E x0), (1, dj_v E x1), (2, .int x2), (3, .int x3), (4, .int x4), (5, .int x5)] [] := by
  intro n
  induction n with
  | zero => intro G x0 x1 x2 x3 x4 x5 hf; exact dh_no hf
  | succ n ih => intro G x0 x1 x2 x3 x4 x5 hf; exact wG_X0_asks_L11_F (gG_X0_asks_L11 n) ih G x0 x1 x2 x3 x4 x5 hf
def gG_X0_asks (G : dg_G) (x0 : Nat) (x1 : Nat) : Option dg_G :=
  gG_X0_asks_L11 dh_fu G x0 x1 0 0 9 0
theorem wG_X0_asks {l : Launch} {E : dj_E} {Mo : Option dm_M} {G' : dg_G} (G : dg_G) (x0 : Nat) (x1 : Nat) (hf : gG_X0_asks G x0 x1 = some G') : dgW tG_X0_asks l E Mo G' (.inr none) G 0 [(0, dj_v E x0), (1, dj_v E x1)] [] := by
  unfold gG_X0_asks at hf
  refine dg_l (fun _ _ _ _ _ _ _ hC => r_iconst hC dX0_asks_0 ki_0) ?_
  refine dg_l (fun _ _ _ _ _ _ _ hC => r_istore_n (lv' := [(2, .int 0), (0, dj_v E x0), (1, dj_v E x1)]) hC dX0_asks_1 rfl (Nat.le_of_ble_eq_true rfl) (by simp only [List.filter, dj_cat] <;> rfl)) ?_
  refine dg_l (fun _ _ _ _ _ _ _ hC => r_iconst hC dX0_asks_2 ki_0) ?_
  refine dg_l (fun _ _ _ _ _ _ _ hC => r_istore_n (lv' := [(3, .int 0), (2, .int 0), (0, dj_v E x0), (1, dj_v E x1)]) hC dX0_asks_3 rfl (Nat.le_of_ble_eq_true rfl) rfl) ?_
  refine dg_l (fun _ _ _ _ _ _ _ hC => r_bipush hC dX0_asks_4 kb_9) ?_
  refine dg_l (fun _ _ _ _ _ _ _ hC => r_istore (lv' := [(4, .int 9), (3, .int 0), (2, .int 0), (0, dj_v E x0), (1, dj_v E x1)]) hC dX0_asks_6 (Nat.le_of_ble_eq_true rfl) rfl) ?_
  refine dg_l (fun _ _ _ _ _ _ _ hC => r_iconst hC dX0_asks_8 ki_0) ?_
  refine dg_l (fun _ _ _ _ _ _ _ hC => r_istore (lv' := [(5, .int 0), (4, .int 9), (3, .int 0), (2, .int 0), (0, dj_v E x0), (1, dj_v E x1)]) hC dX0_asks_9 (Nat.le_of_ble_eq_true rfl) rfl) ?_
  exact g_sub [4, 5, 3, 2, 1, 0] rfl (wG_X0_asks_L11 dh_fu G x0 x1 0 0 9 0 hf)
theorem cG_X0_asks (l : Launch) (E : dj_E) (Mo : Option dm_M) (G : dg_G) (x0 : Nat) (x1 : Nat) {G' : dg_G} (h : gG_X0_asks G x0 x1 = some G') : dg_Met l yX0_asks cX0_asks 7 none 4 85 E Mo [dj_v E x0, dj_v E x1] G none G' :=
  dg_met (plainFor_of_name (by decide)) (by simp only [lg_sl_ref, lg_sl_int, lg_sl_long, lg_sl_nil]; decide) (by simp only [lv_args_ref, lv_args_int, lv_args_long, lv_args_nil]) (wG_X0_asks G x0 x1 h)
theorem qG_X0_asks : dg_cV "DebtorsHouse" yX0_asks cX0_asks 7 none 1 := ⟨q1096, Or.inl qs24, q81, q1097, by decide, by decide, by decide +kernel⟩
/-! DebtorsHouse.tells(LDebtorsHouse$Topic;I)I -/
abbrev tG_X0_tells_2 : dg_T := (cX0_tells_2, 3, RX0, (some .int), 5, 110, "tells", [])
def gG_X0_tells_2 (G : dg_G) (x0 : Nat) (x1 : Nat) (x2 : Int32) : Option Int32 :=
  if x2 = (-1) then (
    (do_without x1).bind fun v10 =>
    some v10)
  else
  (dg_gR G 1 0 x0).bind fun v2 =>
  (dg_gR G 2 10 v2).bind fun v3 =>
  (dg_is G 10 v3).bind fun u4 =>
  (gG_J2_get G v3 x2).bind fun p5 =>
  (dg_cast G 5 p5).bind fun u6 =>
  (dg_gR G 1 2 x0).bind fun v7 =>
  (dg_is G 5 p5).bind fun u8 =>
  (gG_X5_tells G p5 x1 v7).bind fun p9 =>
  some p9
theorem wG_X0_tells_2 {l : Launch} {E : dj_E} {Mo : Option dm_M} {r : Int32} (G : dg_G) (x0 : Nat) (x1 : Nat) (x2 : Int32) (hf : gG_X0_tells_2 G x0 x1 x2 = some r) : dgW tG_X0_tells_2 l E Mo G (.inr (some (.int r))) G 0 [(0, dj_v E x0), (1, dj_v E x1), (2, .int x2)] [] := by
  unfold gG_X0_tells_2 at hf
  refine dg_l (fun _ _ _ _ _ _ _ hC => r_iload_n hC dX0_tells_2_0 rfl (j := 2) rfl) ?_
  refine dg_l (fun _ _ _ _ _ _ _ hC => r_iconst hC dX0_tells_2_1 ki_m1) ?_
  refine dg_bn (fun _ _ _ _ _ _ _ hC => r_icmp_ne hC dX0_tells_2_2 (tgt := 12) (by decide)) (fun c1 => ?_) (fun c1 => ?_)
  · have hf := dh_el hf c1
    refine g_aload_n dX0_tells_2_12 rfl (j := 0) rfl ?_
    obtain ⟨v2, h2, hf⟩ := dh_bd hf
    refine g_getR fR_X0_10 (by decide) h2 dX0_tells_2_13 ?_
    obtain ⟨v3, h3, hf⟩ := dh_bd hf
    refine g_getR fR_X0_221 (by decide) h3 dX0_tells_2_16 ?_
    refine dg_l (fun _ _ _ _ _ _ _ hC => r_iload_n hC dX0_tells_2_19 rfl (j := 2) rfl) ?_
    obtain ⟨u4, h4, hf⟩ := dh_bd hf
    obtain ⟨p5, h5, hf⟩ := dh_bd hf
    refine g_callV (rc_O (ci := 10) rfl h4) (cG_J2_get _ E Mo G v3 x2 h5) q489 qG_J2_get (Nat.le_of_ble_eq_true rfl) (Nat.le_of_ble_eq_true rfl) rfl (dj_cat8 (Nat.le_of_ble_eq_true rfl)) dX0_tells_2_20 ?_
    obtain ⟨u6, h6, hf⟩ := dh_bd hf
    refine g_castO (ci := 5) rfl h6 q594 dX0_tells_2_23 ?_
    refine g_aload_n dX0_tells_2_26 rfl (j := 1) rfl ?_
    refine g_aload_n dX0_tells_2_27 rfl (j := 0) rfl ?_
    obtain ⟨v7, h7, hf⟩ := dh_bd hf
    refine g_getR fR_X0_24 (by decide) h7 dX0_tells_2_28 ?_
    obtain ⟨u8, h8, hf⟩ := dh_bd hf
    obtain ⟨p9, h9, hf⟩ := dh_bd hf
    refine g_callV (rc_O (ci := 5) rfl h8) (cG_X5_tells _ E Mo G p5 x1 v7 h9) q1130 qG_X5_tells (Nat.le_of_ble_eq_true rfl) (Nat.le_of_ble_eq_true rfl) rfl (dj_cat8 (Nat.le_of_ble_eq_true rfl)) dX0_tells_2_31 ?_
    exact g_iret1 dX0_tells_2_34 rfl hf
  · have hf := dh_if hf c1
    refine g_aload_n dX0_tells_2_5 rfl (j := 1) rfl ?_
    obtain ⟨v10, h10, hf⟩ := dh_bd hf
    refine g_without h10 (List.mem_of_getElem? (i := 53) rfl) dX0_tells_2_6 ?_
    refine dg_l (fun _ _ _ _ _ _ _ hC => r_goto hC dX0_tells_2_9 (tgt := 34) (by decide)) ?_
    exact g_iret1 dX0_tells_2_34 rfl hf
theorem cG_X0_tells_2 (l : Launch) (E : dj_E) (Mo : Option dm_M) (G : dg_G) (x0 : Nat) (x1 : Nat) (x2 : Int32) {r : Int32} (h : gG_X0_tells_2 G x0 x1 x2 = some r) : dg_Met l yX0_tells_2 cX0_tells_2 3 (some .int) 5 110 E Mo [dj_v E x0, dj_v E x1, .int x2] G (some (.int r)) G :=
  dg_met (plainFor_of_name (by decide)) (by simp only [lg_sl_ref, lg_sl_int, lg_sl_long, lg_sl_nil]; decide) (by simp only [lv_args_ref, lv_args_int, lv_args_long, lv_args_nil]) (wG_X0_tells_2 G x0 x1 x2 h)
theorem qG_X0_tells_2 : dg_cV "DebtorsHouse" yX0_tells_2 cX0_tells_2 3 (some .int) 2 := ⟨q1128, Or.inl qs26, q81, q1129, by decide, by decide, by decide +kernel⟩
/-! DebtorsHouse.tells(III)I -/
abbrev tG_X0_tells : dg_T := (cX0_tells, 4, RX0, (some .int), 6, 132, "tells", [])
def gG_X0_tells (G : dg_G) (x0 : Nat) (x1 : Int32) (x2 : Int32) (x3 : Int32) : Option (Int32 × dg_G) :=
  (dg_is G 1 x0).bind fun u1 =>
  (gG_X0_isPerson G x0 x1).bind fun p2 =>
  if p2 = 0 then (
    some ((-1), G))
  else
  (do_len 31).bind fun v4 =>
  (gG_X0_isIn G x2 0 (v4 - 1)).bind fun p5 =>
  if p5 = 0 then (
    some ((-1), G))
  else
  (dg_gR G 1 0 x0).bind fun v7 =>
  (dg_gR G 2 10 v7).bind fun v8 =>
  (dg_is G 10 v8).bind fun u9 =>
  (gG_J2_size G v8).bind fun p10 =>
  (gG_X0_isIn G x3 (-1) (p10 - 1)).bind fun p11 =>
  if p11 = 0 then (
    some ((-1), G))
  else
  (dg_is G 1 x0).bind fun u13 =>
  (gG_X0_at G x0 x1).bind fun p14 =>
  (dg_is G 1 x0).bind fun u15 =>
  (gG_X0_asks G x0 p14).bind fun p16 =>
  (do_ld 31 x2).bind fun v17 =>
  if x3 = (-1) then (
    (dg_gR p16 1 0 x0).bind fun v21 =>
    (dg_gI p16 2 4 v21).bind fun v22 =>
    (dg_gR p16 1 0 x0).bind fun v23 =>
    (dg_gI p16 2 4 v23).bind fun v24 =>
    (dg_is p16 1 x0).bind fun u25 =>
    (gG_X0_good p16 x0 v22 v24).bind fun p26 =>
    (dg_is p16 1 x0).bind fun u27 =>
    (gG_X0_tells_2 p16 x0 v17 p26).bind fun p28 =>
    some (p28, p16))
  else
  (dg_is p16 1 x0).bind fun u19 =>
  (gG_X0_tells_2 p16 x0 v17 x3).bind fun p20 =>
  some (p20, p16)
theorem wG_X0_tells {l : Launch} {E : dj_E} {Mo : Option dm_M} {r : Int32} {G' : dg_G} (G : dg_G) (x0 : Nat) (x1 : Int32) (x2 : Int32) (x3 : Int32) (hf : gG_X0_tells G x0 x1 x2 x3 = some (r, G')) : dgW tG_X0_tells l E Mo G' (.inr (some (.int r))) G 0 [(0, dj_v E x0), (1, .int x1), (2, .int x2), (3, .int x3)] [] := by
  unfold gG_X0_tells at hf
  refine g_aload_n dX0_tells_0 rfl (j := 0) rfl ?_
  refine dg_l (fun _ _ _ _ _ _ _ hC => r_iload_n hC dX0_tells_1 rfl (j := 1) rfl) ?_
  obtain ⟨u1, h1, hf⟩ := dh_bd hf
  obtain ⟨p2, h2, hf⟩ := dh_bd hf
  refine g_callV (rc_O (ci := 1) rfl h1) (cG_X0_isPerson _ E Mo G x0 x1 h2) q402 qG_X0_isPerson (Nat.le_of_ble_eq_true rfl) (Nat.le_of_ble_eq_true rfl) rfl (dj_cat8 (Nat.le_of_ble_eq_true rfl)) dX0_tells_2 ?_
  refine dg_b (fun _ _ _ _ _ _ _ hC => r_if_eq hC dX0_tells_5 (tgt := 42) (by decide)) (fun c3 => ?_) (fun c3 => ?_)
  · have hf := dh_if hf c3
    refine dg_l (fun _ _ _ _ _ _ _ hC => r_iconst hC dX0_tells_42 ki_m1) ?_
    exact g_iret dX0_tells_43 rfl hf
  · have hf := dh_el hf c3
    refine dg_l (fun _ _ _ _ _ _ _ hC => r_iload_n hC dX0_tells_8 rfl (j := 2) rfl) ?_
    refine dg_l (fun _ _ _ _ _ _ _ hC => r_iconst hC dX0_tells_9 ki_0) ?_
    refine g_gets (j := 31) (by decide) (by decide) (fun _ h => dk_zT h) q1093 dX0_tells_10 ?_
    obtain ⟨v4, h4, hf⟩ := dh_bd hf
    refine g_lenT h4 dX0_tells_13 ?_
    refine dg_l (fun _ _ _ _ _ _ _ hC => r_iconst hC dX0_tells_14 ki_1) ?_
    refine dg_l (fun _ _ _ _ _ _ _ hC => r_isub hC dX0_tells_15) ?_
    obtain ⟨p5, h5, hf⟩ := dh_bd hf
    refine g_callS (cG_X0_isIn _ E Mo G x2 0 (v4 - 1) h5) q261 qG_X0_isIn (Nat.le_of_ble_eq_true rfl) (Nat.le_of_ble_eq_true rfl) rfl (dj_cat8 (Nat.le_of_ble_eq_true rfl)) dX0_tells_16 ?_
    refine dg_b (fun _ _ _ _ _ _ _ hC => r_if_eq hC dX0_tells_19 (tgt := 42) (by decide)) (fun c6 => ?_) (fun c6 => ?_)
    · have hf := dh_if hf c6
      refine dg_l (fun _ _ _ _ _ _ _ hC => r_iconst hC dX0_tells_42 ki_m1) ?_
      exact g_iret dX0_tells_43 rfl hf
    · have hf := dh_el hf c6
      refine dg_l (fun _ _ _ _ _ _ _ hC => r_iload_n hC dX0_tells_22 rfl (j := 3) rfl) ?_
      refine dg_l (fun _ _ _ _ _ _ _ hC => r_iconst hC dX0_tells_23 ki_m1) ?_
      refine g_aload_n dX0_tells_24 rfl (j := 0) rfl ?_
      obtain ⟨v7, h7, hf⟩ := dh_bd hf
      refine g_getR fR_X0_10 (by decide) h7 dX0_tells_25 ?_
      obtain ⟨v8, h8, hf⟩ := dh_bd hf
      refine g_getR fR_X0_221 (by decide) h8 dX0_tells_28 ?_
      obtain ⟨u9, h9, hf⟩ := dh_bd hf
      obtain ⟨p10, h10, hf⟩ := dh_bd hf
      refine g_callV (rc_O (ci := 10) rfl h9) (cG_J2_size _ E Mo G v8 h10) q256 qG_J2_size (Nat.le_of_ble_eq_true rfl) (Nat.le_of_ble_eq_true rfl) rfl (dj_cat8 (Nat.le_of_ble_eq_true rfl)) dX0_tells_31 ?_
      refine dg_l (fun _ _ _ _ _ _ _ hC => r_iconst hC dX0_tells_34 ki_1) ?_
      refine dg_l (fun _ _ _ _ _ _ _ hC => r_isub hC dX0_tells_35) ?_
      obtain ⟨p11, h11, hf⟩ := dh_bd hf
      refine g_callS (cG_X0_isIn _ E Mo G x3 (-1) (p10 - 1) h11) q261 qG_X0_isIn (Nat.le_of_ble_eq_true rfl) (Nat.le_of_ble_eq_true rfl) rfl (dj_cat8 (Nat.le_of_ble_eq_true rfl)) dX0_tells_36 ?_
      refine dg_bn (fun _ _ _ _ _ _ _ hC => r_if_ne hC dX0_tells_39 (tgt := 44) (by decide)) (fun c12 => ?_) (fun c12 => ?_)
      · have hf := dh_el hf c12
        refine g_aload_n dX0_tells_44 rfl (j := 0) rfl ?_
        refine g_aload_n dX0_tells_45 rfl (j := 0) rfl ?_
        refine dg_l (fun _ _ _ _ _ _ _ hC => r_iload_n hC dX0_tells_46 rfl (j := 1) rfl) ?_
        obtain ⟨u13, h13, hf⟩ := dh_bd hf
        obtain ⟨p14, h14, hf⟩ := dh_bd hf
        refine g_callV (rc_O (ci := 1) rfl h13) (cG_X0_at _ E Mo G x0 x1 h14) q525 qG_X0_at (Nat.le_of_ble_eq_true rfl) (Nat.le_of_ble_eq_true rfl) rfl (dj_cat8 (Nat.le_of_ble_eq_true rfl)) dX0_tells_47 ?_
        obtain ⟨u15, h15, hf⟩ := dh_bd hf
        obtain ⟨p16, h16, hf⟩ := dh_bd hf
        refine g_callV (rc_O (ci := 1) rfl h15) (cG_X0_asks _ E Mo G x0 p14 h16) q1094 qG_X0_asks (Nat.le_of_ble_eq_true rfl) (Nat.le_of_ble_eq_true rfl) rfl (dj_cat8 (Nat.le_of_ble_eq_true rfl)) dX0_tells_50 ?_
        refine g_aload_n dX0_tells_53 rfl (j := 0) rfl ?_
        refine g_gets (j := 31) (by decide) (by decide) (fun _ h => dk_zT h) q1093 dX0_tells_54 ?_
        refine dg_l (fun _ _ _ _ _ _ _ hC => r_iload_n hC dX0_tells_57 rfl (j := 2) rfl) ?_
        obtain ⟨v17, h17, hf⟩ := dh_bd hf
        refine g_ldT h17 dX0_tells_58 ?_
        refine dg_l (fun _ _ _ _ _ _ _ hC => r_iload_n hC dX0_tells_59 rfl (j := 3) rfl) ?_
        refine dg_l (fun _ _ _ _ _ _ _ hC => r_iconst hC dX0_tells_60 ki_m1) ?_
        refine dg_bn (fun _ _ _ _ _ _ _ hC => r_icmp_ne hC dX0_tells_61 (tgt := 85) (by decide)) (fun c18 => ?_) (fun c18 => ?_)
        · have hf := dh_el hf c18
          refine dg_l (fun _ _ _ _ _ _ _ hC => r_iload_n hC dX0_tells_85 rfl (j := 3) rfl) ?_
          obtain ⟨u19, h19, hf⟩ := dh_bd hf
          obtain ⟨p20, h20, hf⟩ := dh_bd hf
          refine g_callV (rc_O (ci := 1) rfl h19) (cG_X0_tells_2 _ E Mo p16 x0 v17 x3 h20) q1126 qG_X0_tells_2 (Nat.le_of_ble_eq_true rfl) (Nat.le_of_ble_eq_true rfl) rfl (dj_cat8 (Nat.le_of_ble_eq_true rfl)) dX0_tells_86 ?_
          exact g_iret dX0_tells_89 rfl hf
        · have hf := dh_if hf c18
          refine g_aload_n dX0_tells_64 rfl (j := 0) rfl ?_
          refine g_aload_n dX0_tells_65 rfl (j := 0) rfl ?_
          obtain ⟨v21, h21, hf⟩ := dh_bd hf
          refine g_getR fR_X0_10 (by decide) h21 dX0_tells_66 ?_
          obtain ⟨v22, h22, hf⟩ := dh_bd hf
          refine g_getI fR_X0_88 (by decide) h22 dX0_tells_69 ?_
          refine g_aload_n dX0_tells_72 rfl (j := 0) rfl ?_
          obtain ⟨v23, h23, hf⟩ := dh_bd hf
          refine g_getR fR_X0_10 (by decide) h23 dX0_tells_73 ?_
          obtain ⟨v24, h24, hf⟩ := dh_bd hf
          refine g_getI fR_X0_88 (by decide) h24 dX0_tells_76 ?_
          obtain ⟨u25, h25, hf⟩ := dh_bd hf
          obtain ⟨p26, h26, hf⟩ := dh_bd hf
          refine g_callV (rc_O (ci := 1) rfl h25) (cG_X0_good _ E Mo p16 x0 v22 v24 h26) q1125 qG_X0_good (Nat.le_of_ble_eq_true rfl) (Nat.le_of_ble_eq_true rfl) rfl (dj_cat8 (Nat.le_of_ble_eq_true rfl)) dX0_tells_79 ?_
          refine dg_l (fun _ _ _ _ _ _ _ hC => r_goto hC dX0_tells_82 (tgt := 86) (by decide)) ?_
          obtain ⟨u27, h27, hf⟩ := dh_bd hf
          obtain ⟨p28, h28, hf⟩ := dh_bd hf
          refine g_callV (rc_O (ci := 1) rfl h27) (cG_X0_tells_2 _ E Mo p16 x0 v17 p26 h28) q1126 qG_X0_tells_2 (Nat.le_of_ble_eq_true rfl) (Nat.le_of_ble_eq_true rfl) rfl (dj_cat8 (Nat.le_of_ble_eq_true rfl)) dX0_tells_86 ?_
          exact g_iret dX0_tells_89 rfl hf
      · have hf := dh_if hf c12
        refine dg_l (fun _ _ _ _ _ _ _ hC => r_iconst hC dX0_tells_42 ki_m1) ?_
        exact g_iret dX0_tells_43 rfl hf
theorem cG_X0_tells (l : Launch) (E : dj_E) (Mo : Option dm_M) (G : dg_G) (x0 : Nat) (x1 : Int32) (x2 : Int32) (x3 : Int32) {p : Int32 × dg_G} (h : gG_X0_tells G x0 x1 x2 x3 = some p) : dg_Met l yX0_tells cX0_tells 4 (some .int) 6 132 E Mo [dj_v E x0, .int x1, .int x2, .int x3] G (some (.int p.1)) p.2 :=
  dg_met (plainFor_of_name (by decide)) (by simp only [lg_sl_ref, lg_sl_int, lg_sl_long, lg_sl_nil]; decide) (by simp only [lv_args_ref, lv_args_int, lv_args_long, lv_args_nil]) (wG_X0_tells G x0 x1 x2 x3 h)
theorem qG_X0_tells : dg_cV "DebtorsHouse" yX0_tells cX0_tells 4 (some .int) 3 := ⟨q1090, Or.inl q1091, q81, q1092, by decide, by decide, by decide +kernel⟩
