set_option maxRecDepth 100000
/-! DebtorsHouse.lawful(III)Z -/
abbrev tG_X0_lawful : dg_T := (cX0_lawful, 9, RX0, (some .boolean), 6, 132, "lawful", [])
def gG_X0_lawful_b112 (k37 : (dg_G → Nat → Int32 → Int32 → Int32 → Int32 → Int32 → Int32 → Int32 → Option (Int32 × dg_G))) (G : dg_G) (x0 : Nat) (x1 : Int32) (x2 : Int32) (x3 : Int32) (x4 : Int32) (x5 : Int32) (x6 : Int32) (x7 : Int32) (x8 : Nat) : Option (Int32 × dg_G) :=
  (dg_gI G 4 2 x8).bind fun v47 =>
  (dg_gI G 4 3 x8).bind fun v48 =>
  (gG_J5_min G x6 v48).bind fun p49 =>
  k37 G x0 x1 x2 x3 (x4 + v47) (x5 + 1) p49 (x7 + 1)
theorem wG_X0_lawful_b112 {l : Launch} {E : dj_E} {Mo : Option dm_M} {r : Int32} {G' : dg_G} (k37 : (dg_G → Nat → Int32 → Int32 → Int32 → Int32 → Int32 → Int32 → Int32 → Option (Int32 × dg_G))) (hk37 : ∀ (G : dg_G) (x0 : Nat) (x1 : Int32) (x2 : Int32) (x3 : Int32) (x4 : Int32) (x5 : Int32) (x6 : Int32) (x7 : Int32), k37 G x0 x1 x2 x3 x4 x5 x6 x7 = some (r, G') → dgW tG_X0_lawful l E Mo G' (.inr (some (.int r))) G 37 [(0, dj_v E x0), (1, .int x1), (2, .int x2), (3, .int x3), (4, .int x4), (5, .int x5), (6, .int x6), (7, .int x7)] []) (G : dg_G) (x0 : Nat) (x1 : Int32) (x2 : Int32) (x3 : Int32) (x4 : Int32) (x5 : Int32) (x6 : Int32) (x7 : Int32) (x8 : Nat) (hf : gG_X0_lawful_b112 k37 G x0 x1 x2 x3 x4 x5 x6 x7 x8 = some (r, G')) : dgW tG_X0_lawful l E Mo G' (.inr (some (.int r))) G 112 [(0, dj_v E x0), (1, .int x1), (2, .int x2), (3, .int x3), (4, .int x4), (5, .int x5), (6, .int x6), (7, .int x7), (8, dj_v E x8)] [] := by
  unfold gG_X0_lawful_b112 at hf
  refine dg_l (fun _ _ _ _ _ _ _ hC => r_iload hC dX0_lawful_112 (j := 4) rfl) ?_
  refine g_aload dX0_lawful_114 (j := 8) rfl ?_
  obtain ⟨v47, h47, hf⟩ := dh_bd hf
  refine g_getI fR_X0_144 (by decide) h47 dX0_lawful_116 ?_
  refine dg_l (fun _ _ _ _ _ _ _ hC => r_iadd hC dX0_lawful_119) ?_
  refine dg_l (fun _ _ _ _ _ _ _ hC => r_istore (lv' := [(4, .int (x4 + v47)), (0, dj_v E x0), (1, .int x1), (2, .int x2), (3, .int x3), (5, .int x5), (6, .int x6), (7, .int x7), (8, dj_v E x8)]) hC dX0_lawful_120 (Nat.le_of_ble_eq_true rfl) rfl) ?_
  refine dg_l (fun _ _ _ _ _ _ _ hC => r_iinc (lv' := [(5, .int (x5 + 1)), (4, .int (x4 + v47)), (0, dj_v E x0), (1, .int x1), (2, .int x2), (3, .int x3), (6, .int x6), (7, .int x7), (8, dj_v E x8)]) hC dX0_lawful_122 (j := 5) rfl (congrArg _ ki_1) (Nat.le_of_ble_eq_true rfl) rfl) ?_
  refine dg_l (fun _ _ _ _ _ _ _ hC => r_iload hC dX0_lawful_125 (j := 6) rfl) ?_
  refine g_aload dX0_lawful_127 (j := 8) rfl ?_
  obtain ⟨v48, h48, hf⟩ := dh_bd hf
  refine g_getI fR_X0_147 (by decide) h48 dX0_lawful_129 ?_
  obtain ⟨p49, h49, hf⟩ := dh_bd hf
  refine g_callS (cG_J5_min _ E Mo G x6 v48 h49) q577 qG_J5_min (Nat.le_of_ble_eq_true rfl) (Nat.le_of_ble_eq_true rfl) rfl (dj_cat8 (Nat.le_of_ble_eq_true rfl)) dX0_lawful_132 ?_
  refine dg_l (fun _ _ _ _ _ _ _ hC => r_istore (lv' := [(6, .int p49), (5, .int (x5 + 1)), (4, .int (x4 + v47)), (0, dj_v E x0), (1, .int x1), (2, .int x2), (3, .int x3), (7, .int x7), (8, dj_v E x8)]) hC dX0_lawful_135 (Nat.le_of_ble_eq_true rfl) rfl) ?_
  refine dg_l (fun _ _ _ _ _ _ _ hC => r_iinc (lv' := [(7, .int (x7 + 1)), (6, .int p49), (5, .int (x5 + 1)), (4, .int (x4 + v47)), (0, dj_v E x0), (1, .int x1), (2, .int x2), (3, .int x3), (8, dj_v E x8)]) hC dX0_lawful_137 (j := 7) rfl (congrArg _ ki_1) (Nat.le_of_ble_eq_true rfl) rfl) ?_
  refine dg_l (fun _ _ _ _ _ _ _ hC => r_goto hC dX0_lawful_140 (tgt := 37) (by decide)) ?_
  exact g_sub [4, 5, 6, 7, 3, 2, 1, 0] rfl (hk37 G x0 x1 x2 x3 (x4 + v47) (x5 + 1) p49 (x7 + 1) hf)
def gG_X0_lawful_L37_F (k37 : (dg_G → Nat → Int32 → Int32 → Int32 → Int32 → Int32 → Int32 → Int32 → Option (Int32 × dg_G))) (G : dg_G) (x0 : Nat) (x1 : Int32) (x2 : Int32) (x3 : Int32) (x4 : Int32) (x5 : Int32) (x6 : Int32) (x7 : Int32) : Option (Int32 × dg_G) :=
  (dg_gR G 1 0 x0).bind fun v8 =>
  (dg_gR G 2 9 v8).bind fun v9 =>
  (dg_is G 10 v9).bind fun u10 =>
  (gG_J2_size G v9).bind fun p11 =>
  if ¬ (p11 ≤ x7) then (
    (dg_is G 1 x0).bind fun u37 =>
    (gG_X0_debtAt G x0 x7).bind fun p38 =>
    (dg_gI G 4 1 p38).bind fun v39 =>
    if v39 = x1 then (
      (dg_gI G 4 5 p38).bind fun v41 =>
      if x2 < v41 then (
        k37 G x0 x1 x2 x3 x4 x5 x6 (x7 + 1))
      else
      (dg_gI G 4 6 p38).bind fun v43 =>
      if x3 < v43 then (
        k37 G x0 x1 x2 x3 x4 x5 x6 (x7 + 1))
      else
      (dg_gI G 4 13 p38).bind fun v45 =>
      if v45 = (-1) then (
        gG_X0_lawful_b112 k37 G x0 x1 x2 x3 x4 x5 x6 x7 p38)
      else
      (dg_gI G 4 13 p38).bind fun v50 =>
      (gG_J5_min G x2 x3).bind fun p51 =>
      if p51 < v50 then (
        gG_X0_lawful_b112 k37 G x0 x1 x2 x3 x4 x5 x6 x7 p38)
      else
      k37 G x0 x1 x2 x3 x4 x5 x6 (x7 + 1))
    else
    k37 G x0 x1 x2 x3 x4 x5 x6 (x7 + 1))
  else
  if x5 = 0 then (
    some (0, G))
  else
  (dg_gR G 1 2 x0).bind fun v14 =>
  (gG_J3_fill G v14 0).bind fun p15 =>
  (dg_is p15 1 x0).bind fun u16 =>
  (gG_X0_asks_2 p15 x0 11 x4).bind fun p17 =>
  (dg_is p17 1 x0).bind fun u18 =>
  (gG_X0_asks_2 p17 x0 12 x5).bind fun p19 =>
  (dg_is p19 1 x0).bind fun u20 =>
  (gG_X0_asks_2 p19 x0 13 x6).bind fun p21 =>
  (dg_is p21 1 x0).bind fun u22 =>
  (gG_X0_at p21 x0 x1).bind fun p23 =>
  (dg_gI p21 3 1 p23).bind fun v24 =>
  (dg_is p21 1 x0).bind fun u25 =>
  (gG_X0_asks_2 p21 x0 15 v24).bind fun p26 =>
  (dg_is p26 1 x0).bind fun u27 =>
  (gG_X0_at p26 x0 x1).bind fun p28 =>
  (dg_gI p26 3 2 p28).bind fun v29 =>
  (dg_is p26 1 x0).bind fun u30 =>
  (gG_X0_asks_2 p26 x0 18 v29).bind fun p31 =>
  (dg_is p31 1 x0).bind fun u32 =>
  (gG_X0_good p31 x0 x2 x3).bind fun p33 =>
  (dg_is p31 1 x0).bind fun u34 =>
  (gG_X0_tells_2 p31 x0 1 p33).bind fun p35 =>
  if p35 = 0 then (
    some (0, p31))
  else
  some (1, p31)
theorem wG_X0_lawful_L37_F {l : Launch} {E : dj_E} {Mo : Option dm_M} {r : Int32} {G' : dg_G} (k37 : (dg_G → Nat → Int32 → Int32 → Int32 → Int32 → Int32 → Int32 → Int32 → Option (Int32 × dg_G))) (hk37 : ∀ (G : dg_G) (x0 : Nat) (x1 : Int32) (x2 : Int32) (x3 : Int32) (x4 : Int32) (x5 : Int32) (x6 : Int32) (x7 : Int32), k37 G x0 x1 x2 x3 x4 x5 x6 x7 = some (r, G') → dgW tG_X0_lawful l E Mo G' (.inr (some (.int r))) G 37 [(0, dj_v E x0), (1, .int x1), (2, .int x2), (3, .int x3), (4, .int x4), (5, .int x5), (6, .int x6), (7, .int x7)] []) (G : dg_G) (x0 : Nat) (x1 : Int32) (x2 : Int32) (x3 : Int32) (x4 : Int32) (x5 : Int32) (x6 : Int32) (x7 : Int32) (hf : gG_X0_lawful_L37_F k37 G x0 x1 x2 x3 x4 x5 x6 x7 = some (r, G')) : dgW tG_X0_lawful l E Mo G' (.inr (some (.int r))) G 37 [(0, dj_v E x0), (1, .int x1), (2, .int x2), (3, .int x3), (4, .int x4), (5, .int x5), (6, .int x6), (7, .int x7)] [] := by
  unfold gG_X0_lawful_L37_F at hf
  refine dg_l (fun _ _ _ _ _ _ _ hC => r_iload hC dX0_lawful_37 (j := 7) rfl) ?_
  refine g_aload_n dX0_lawful_39 rfl (j := 0) rfl ?_
  obtain ⟨v8, h8, hf⟩ := dh_bd hf
  refine g_getR fR_X0_10 (by decide) h8 dX0_lawful_40 ?_
  obtain ⟨v9, h9, hf⟩ := dh_bd hf
  refine g_getR fR_X0_63 (by decide) h9 dX0_lawful_43 ?_
  obtain ⟨u10, h10, hf⟩ := dh_bd hf
  obtain ⟨p11, h11, hf⟩ := dh_bd hf
  refine g_callV (rc_O (ci := 10) rfl h10) (cG_J2_size _ E Mo G v9 h11) q256 qG_J2_size (Nat.le_of_ble_eq_true rfl) (Nat.le_of_ble_eq_true rfl) rfl (dj_cat8 (Nat.le_of_ble_eq_true rfl)) dX0_lawful_46 ?_
  refine dg_b (fun _ _ _ _ _ _ _ hC => r_icmp_ge hC dX0_lawful_49 (tgt := 143) (by decide)) (fun c12 => ?_) (fun c12 => ?_)
  · have hf := dh_el hf (fun q => q c12)
    refine dg_l (fun _ _ _ _ _ _ _ hC => r_iload hC dX0_lawful_143 (j := 5) rfl) ?_
    refine dg_bn (fun _ _ _ _ _ _ _ hC => r_if_ne hC dX0_lawful_145 (tgt := 150) (by decide)) (fun c13 => ?_) (fun c13 => ?_)
    · have hf := dh_el hf c13
      refine g_aload_n dX0_lawful_150 rfl (j := 0) rfl ?_
      obtain ⟨v14, h14, hf⟩ := dh_bd hf
      refine g_getR fR_X0_24 (by decide) h14 dX0_lawful_151 ?_
      refine dg_l (fun _ _ _ _ _ _ _ hC => r_iconst hC dX0_lawful_154 ki_0) ?_
      obtain ⟨p15, h15, hf⟩ := dh_bd hf
      refine g_callS (cG_J3_fill _ E Mo G v14 0 h15) q567 qG_J3_fill (Nat.le_of_ble_eq_true rfl) (Nat.le_of_ble_eq_true rfl) rfl (dj_cat8 (Nat.le_of_ble_eq_true rfl)) dX0_lawful_155 ?_
      refine g_aload_n dX0_lawful_158 rfl (j := 0) rfl ?_
      refine g_gets (j := 11) (by decide) (by decide) (fun _ h => ((dk_A h).1 0 (by decide)).1) q1098 dX0_lawful_159 ?_
      refine dg_l (fun _ _ _ _ _ _ _ hC => r_iload hC dX0_lawful_162 (j := 4) rfl) ?_
      obtain ⟨u16, h16, hf⟩ := dh_bd hf
      obtain ⟨p17, h17, hf⟩ := dh_bd hf
      refine g_callV (rc_O (ci := 1) rfl h16) (cG_X0_asks_2 _ E Mo p15 x0 11 x4 h17) q1100 qG_X0_asks_2 (Nat.le_of_ble_eq_true rfl) (Nat.le_of_ble_eq_true rfl) rfl (dj_cat8 (Nat.le_of_ble_eq_true rfl)) dX0_lawful_164 ?_
      refine g_aload_n dX0_lawful_167 rfl (j := 0) rfl ?_
      refine g_gets (j := 12) (by decide) (by decide) (fun _ h => ((dk_A h).1 1 (by decide)).1) q1107 dX0_lawful_168 ?_
      refine dg_l (fun _ _ _ _ _ _ _ hC => r_iload hC dX0_lawful_171 (j := 5) rfl) ?_
      obtain ⟨u18, h18, hf⟩ := dh_bd hf
      obtain ⟨p19, h19, hf⟩ := dh_bd hf
      refine g_callV (rc_O (ci := 1) rfl h18) (cG_X0_asks_2 _ E Mo p17 x0 12 x5 h19) q1100 qG_X0_asks_2 (Nat.le_of_ble_eq_true rfl) (Nat.le_of_ble_eq_true rfl) rfl (dj_cat8 (Nat.le_of_ble_eq_true rfl)) dX0_lawful_173 ?_
      refine g_aload_n dX0_lawful_176 rfl (j := 0) rfl ?_
      refine g_gets (j := 13) (by decide) (by decide) (fun _ h => ((dk_A h).1 2 (by decide)).1) q1109 dX0_lawful_177 ?_
      refine dg_l (fun _ _ _ _ _ _ _ hC => r_iload hC dX0_lawful_180 (j := 6) rfl) ?_
      obtain ⟨u20, h20, hf⟩ := dh_bd hf
      obtain ⟨p21, h21, hf⟩ := dh_bd hf
      refine g_callV (rc_O (ci := 1) rfl h20) (cG_X0_asks_2 _ E Mo p19 x0 13 x6 h21) q1100 qG_X0_asks_2 (Nat.le_of_ble_eq_true rfl) (Nat.le_of_ble_eq_true rfl) rfl (dj_cat8 (Nat.le_of_ble_eq_true rfl)) dX0_lawful_182 ?_
      refine g_aload_n dX0_lawful_185 rfl (j := 0) rfl ?_
      refine g_gets (j := 15) (by decide) (by decide) (fun _ h => ((dk_A h).1 4 (by decide)).1) q1117 dX0_lawful_186 ?_
      refine g_aload_n dX0_lawful_189 rfl (j := 0) rfl ?_
      refine dg_l (fun _ _ _ _ _ _ _ hC => r_iload_n hC dX0_lawful_190 rfl (j := 1) rfl) ?_
      obtain ⟨u22, h22, hf⟩ := dh_bd hf
      obtain ⟨p23, h23, hf⟩ := dh_bd hf
      refine g_callV (rc_O (ci := 1) rfl h22) (cG_X0_at _ E Mo p21 x0 x1 h23) q525 qG_X0_at (Nat.le_of_ble_eq_true rfl) (Nat.le_of_ble_eq_true rfl) rfl (dj_cat8 (Nat.le_of_ble_eq_true rfl)) dX0_lawful_191 ?_
      obtain ⟨v24, h24, hf⟩ := dh_bd hf
      refine g_getI fR_X0_282 (by decide) h24 dX0_lawful_194 ?_
      obtain ⟨u25, h25, hf⟩ := dh_bd hf
      obtain ⟨p26, h26, hf⟩ := dh_bd hf
      refine g_callV (rc_O (ci := 1) rfl h25) (cG_X0_asks_2 _ E Mo p21 x0 15 v24 h26) q1100 qG_X0_asks_2 (Nat.le_of_ble_eq_true rfl) (Nat.le_of_ble_eq_true rfl) rfl (dj_cat8 (Nat.le_of_ble_eq_true rfl)) dX0_lawful_197 ?_
      refine g_aload_n dX0_lawful_200 rfl (j := 0) rfl ?_
      refine g_gets (j := 18) (by decide) (by decide) (fun _ h => ((dk_A h).1 7 (by decide)).1) q1123 dX0_lawful_201 ?_
      refine g_aload_n dX0_lawful_204 rfl (j := 0) rfl ?_
      refine dg_l (fun _ _ _ _ _ _ _ hC => r_iload_n hC dX0_lawful_205 rfl (j := 1) rfl) ?_
      obtain ⟨u27, h27, hf⟩ := dh_bd hf
      obtain ⟨p28, h28, hf⟩ := dh_bd hf
      refine g_callV (rc_O (ci := 1) rfl h27) (cG_X0_at _ E Mo p26 x0 x1 h28) q525 qG_X0_at (Nat.le_of_ble_eq_true rfl) (Nat.le_of_ble_eq_true rfl) rfl (dj_cat8 (Nat.le_of_ble_eq_true rfl)) dX0_lawful_206 ?_
      obtain ⟨v29, h29, hf⟩ := dh_bd hf
      refine g_getI fR_X0_134 (by decide) h29 dX0_lawful_209 ?_
      obtain ⟨u30, h30, hf⟩ := dh_bd hf
      obtain ⟨p31, h31, hf⟩ := dh_bd hf
      refine g_callV (rc_O (ci := 1) rfl h30) (cG_X0_asks_2 _ E Mo p26 x0 18 v29 h31) q1100 qG_X0_asks_2 (Nat.le_of_ble_eq_true rfl) (Nat.le_of_ble_eq_true rfl) rfl (dj_cat8 (Nat.le_of_ble_eq_true rfl)) dX0_lawful_212 ?_
      refine g_aload_n dX0_lawful_215 rfl (j := 0) rfl ?_
      refine g_gets (j := 1) (by decide) (by decide) (fun _ h => ((dk_T h).1 0 (by decide)).1) q1153 dX0_lawful_216 ?_
      refine g_aload_n dX0_lawful_219 rfl (j := 0) rfl ?_
      refine dg_l (fun _ _ _ _ _ _ _ hC => r_iload_n hC dX0_lawful_220 rfl (j := 2) rfl) ?_
      refine dg_l (fun _ _ _ _ _ _ _ hC => r_iload_n hC dX0_lawful_221 rfl (j := 3) rfl) ?_
      obtain ⟨u32, h32, hf⟩ := dh_bd hf
      obtain ⟨p33, h33, hf⟩ := dh_bd hf
      refine g_callV (rc_O (ci := 1) rfl h32) (cG_X0_good _ E Mo p31 x0 x2 x3 h33) q1125 qG_X0_good (Nat.le_of_ble_eq_true rfl) (Nat.le_of_ble_eq_true rfl) rfl (dj_cat8 (Nat.le_of_ble_eq_true rfl)) dX0_lawful_222 ?_
      obtain ⟨u34, h34, hf⟩ := dh_bd hf
      obtain ⟨p35, h35, hf⟩ := dh_bd hf
      refine g_callV (rc_O (ci := 1) rfl h34) (cG_X0_tells_2 _ E Mo p31 x0 1 p33 h35) q1126 qG_X0_tells_2 (Nat.le_of_ble_eq_true rfl) (Nat.le_of_ble_eq_true rfl) rfl (dj_cat8 (Nat.le_of_ble_eq_true rfl)) dX0_lawful_225 ?_
      refine dg_b (fun _ _ _ _ _ _ _ hC => r_if_eq hC dX0_lawful_228 (tgt := 235) (by decide)) (fun c36 => ?_) (fun c36 => ?_)
      · have hf := dh_if hf c36
        refine dg_l (fun _ _ _ _ _ _ _ hC => r_iconst hC dX0_lawful_235 ki_0) ?_
        exact g_zret dX0_lawful_236 rfl rfl hf
      · have hf := dh_el hf c36
        refine dg_l (fun _ _ _ _ _ _ _ hC => r_iconst hC dX0_lawful_231 ki_1) ?_
        refine dg_l (fun _ _ _ _ _ _ _ hC => r_goto hC dX0_lawful_232 (tgt := 236) (by decide)) ?_
        exact g_zret dX0_lawful_236 rfl rfl hf
    · have hf := dh_if hf c13
      refine dg_l (fun _ _ _ _ _ _ _ hC => r_iconst hC dX0_lawful_148 ki_0) ?_
      exact g_zret dX0_lawful_149 rfl rfl hf
  · have hf := dh_if hf c12
    refine g_aload_n dX0_lawful_52 rfl (j := 0) rfl ?_
    refine dg_l (fun _ _ _ _ _ _ _ hC => r_iload hC dX0_lawful_53 (j := 7) rfl) ?_
    obtain ⟨u37, h37, hf⟩ := dh_bd hf
    obtain ⟨p38, h38, hf⟩ := dh_bd hf
    refine g_callV (rc_O (ci := 1) rfl h37) (cG_X0_debtAt _ E Mo G x0 x7 h38) q485 qG_X0_debtAt (Nat.le_of_ble_eq_true rfl) (Nat.le_of_ble_eq_true rfl) rfl (dj_cat8 (Nat.le_of_ble_eq_true rfl)) dX0_lawful_55 ?_
    refine g_astore (i := 8) (lv1 := [(8, dj_v E p38), (0, dj_v E x0), (1, .int x1), (2, .int x2), (3, .int x3), (4, .int x4), (5, .int x5), (6, .int x6), (7, .int x7)]) dX0_lawful_58 (Nat.le_of_ble_eq_true rfl) rfl ?_
    refine g_aload dX0_lawful_60 (j := 0) rfl ?_
    obtain ⟨v39, h39, hf⟩ := dh_bd hf
    refine g_getI fR_X0_128 (by decide) h39 dX0_lawful_62 ?_
    refine dg_l (fun _ _ _ _ _ _ _ hC => r_iload_n hC dX0_lawful_65 rfl (j := 2) rfl) ?_
    refine dg_bn (fun _ _ _ _ _ _ _ hC => r_icmp_ne hC dX0_lawful_66 (tgt := 137) (by decide)) (fun c40 => ?_) (fun c40 => ?_)
    · have hf := dh_el hf c40
      refine dg_l (fun _ _ _ _ _ _ _ hC => r_iinc (lv' := [(7, .int (x7 + 1)), (8, dj_v E p38), (0, dj_v E x0), (1, .int x1), (2, .int x2), (3, .int x3), (4, .int x4), (5, .int x5), (6, .int x6)]) hC dX0_lawful_137 (j := 8) rfl (congrArg _ ki_1) (Nat.le_of_ble_eq_true rfl) rfl) ?_
      refine dg_l (fun _ _ _ _ _ _ _ hC => r_goto hC dX0_lawful_140 (tgt := 37) (by decide)) ?_
      exact g_sub [2, 3, 4, 5, 6, 7, 8, 0] rfl (hk37 G x0 x1 x2 x3 x4 x5 x6 (x7 + 1) hf)
    · have hf := dh_if hf c40
      refine g_aload dX0_lawful_69 (j := 0) rfl ?_
      obtain ⟨v41, h41, hf⟩ := dh_bd hf
      refine g_getI fR_X0_153 (by decide) h41 dX0_lawful_71 ?_
      refine dg_l (fun _ _ _ _ _ _ _ hC => r_iload_n hC dX0_lawful_74 rfl (j := 3) rfl) ?_
      refine dg_b (fun _ _ _ _ _ _ _ hC => r_icmp_gt hC dX0_lawful_75 (tgt := 137) (by decide)) (fun c42 => ?_) (fun c42 => ?_)
      · have hf := dh_if hf c42
        refine dg_l (fun _ _ _ _ _ _ _ hC => r_iinc (lv' := [(7, .int (x7 + 1)), (8, dj_v E p38), (0, dj_v E x0), (1, .int x1), (2, .int x2), (3, .int x3), (4, .int x4), (5, .int x5), (6, .int x6)]) hC dX0_lawful_137 (j := 8) rfl (congrArg _ ki_1) (Nat.le_of_ble_eq_true rfl) rfl) ?_
        refine dg_l (fun _ _ _ _ _ _ _ hC => r_goto hC dX0_lawful_140 (tgt := 37) (by decide)) ?_
        exact g_sub [2, 3, 4, 5, 6, 7, 8, 0] rfl (hk37 G x0 x1 x2 x3 x4 x5 x6 (x7 + 1) hf)
      · have hf := dh_el hf c42
        refine g_aload dX0_lawful_78 (j := 0) rfl ?_
        obtain ⟨v43, h43, hf⟩ := dh_bd hf
        refine g_getI fR_X0_156 (by decide) h43 dX0_lawful_80 ?_
        refine dg_l (fun _ _ _ _ _ _ _ hC => r_iload_n hC dX0_lawful_83 rfl (j := 4) rfl) ?_
        refine dg_b (fun _ _ _ _ _ _ _ hC => r_icmp_gt hC dX0_lawful_84 (tgt := 137) (by decide)) (fun c44 => ?_) (fun c44 => ?_)
        · have hf := dh_if hf c44
          refine dg_l (fun _ _ _ _ _ _ _ hC => r_iinc (lv' := [(7, .int (x7 + 1)), (8, dj_v E p38), (0, dj_v E x0), (1, .int x1), (2, .int x2), (3, .int x3), (4, .int x4), (5, .int x5), (6, .int x6)]) hC dX0_lawful_137 (j := 8) rfl (congrArg _ ki_1) (Nat.le_of_ble_eq_true rfl) rfl) ?_
          refine dg_l (fun _ _ _ _ _ _ _ hC => r_goto hC dX0_lawful_140 (tgt := 37) (by decide)) ?_
          exact g_sub [2, 3, 4, 5, 6, 7, 8, 0] rfl (hk37 G x0 x1 x2 x3 x4 x5 x6 (x7 + 1) hf)
        · have hf := dh_el hf c44
          refine g_aload dX0_lawful_87 (j := 0) rfl ?_
          obtain ⟨v45, h45, hf⟩ := dh_bd hf
          refine g_getI fR_X0_181 (by decide) h45 dX0_lawful_89 ?_
          refine dg_l (fun _ _ _ _ _ _ _ hC => r_iconst hC dX0_lawful_92 ki_m1) ?_
          refine dg_b (fun _ _ _ _ _ _ _ hC => r_icmp_eq hC dX0_lawful_93 (tgt := 112) (by decide)) (fun c46 => ?_) (fun c46 => ?_)
          · have hf := dh_if hf c46
            exact g_sub [1, 2, 3, 4, 5, 6, 7, 8, 0] rfl (wG_X0_lawful_b112 k37 hk37 G x0 x1 x2 x3 x4 x5 x6 x7 p38 hf)
          · have hf := dh_el hf c46
            refine g_aload dX0_lawful_96 (j := 0) rfl ?_
            obtain ⟨v50, h50, hf⟩ := dh_bd hf
            refine g_getI fR_X0_181 (by decide) h50 dX0_lawful_98 ?_
            refine dg_l (fun _ _ _ _ _ _ _ hC => r_iload_n hC dX0_lawful_101 rfl (j := 3) rfl) ?_
            refine dg_l (fun _ _ _ _ _ _ _ hC => r_iload_n hC dX0_lawful_102 rfl (j := 4) rfl) ?_
            obtain ⟨p51, h51, hf⟩ := dh_bd hf
            refine g_callS (cG_J5_min _ E Mo G x2 x3 h51) q577 qG_J5_min (Nat.le_of_ble_eq_true rfl) (Nat.le_of_ble_eq_true rfl) rfl (dj_cat8 (Nat.le_of_ble_eq_true rfl)) dX0_lawful_103 ?_
            refine dg_b (fun _ _ _ _ _ _ _ hC => r_icmp_gt hC dX0_lawful_106 (tgt := 112) (by decide)) (fun c52 => ?_) (fun c52 => ?_)
            · have hf := dh_if hf c52
              exact g_sub [1, 2, 3, 4, 5, 6, 7, 8, 0] rfl (wG_X0_lawful_b112 k37 hk37 G x0 x1 x2 x3 x4 x5 x6 x7 p38 hf)
            · have hf := dh_el hf c52
              refine dg_l (fun _ _ _ _ _ _ _ hC => r_goto hC dX0_lawful_109 (tgt := 137) (by decide)) ?_
              refine dg_l (fun _ _ _ _ _ _ _ hC => r_iinc (lv' := [(7, .int (x7 + 1)), (8, dj_v E p38), (0, dj_v E x0), (1, .int x1), (2, .int x2), (3, .int x3), (4, .int x4), (5, .int x5), (6, .int x6)]) hC dX0_lawful_137 (j := 8) rfl (congrArg _ ki_1) (Nat.le_of_ble_eq_true rfl) rfl) ?_
              refine dg_l (fun _ _ _ _ _ _ _ hC => r_goto hC dX0_lawful_140 (tgt := 37) (by decide)) ?_
              exact g_sub [2, 3, 4, 5, 6, 7, 8, 0] rfl (hk37 G x0 x1 x2 x3 x4 x5 x6 (x7 + 1) hf)
def gG_X0_lawful_L37 : Nat → dg_G → Nat → Int32 → Int32 → Int32 → Int32 → Int32 → Int32 → Int32 → Option (Int32 × dg_G)
  | 0 => fun _ _ _ _ _ _ _ _ _ => none
  | n + 1 => gG_X0_lawful_L37_F (gG_X0_lawful_L37 n)
theorem wG_X0_lawful_L37 {l : Launch} {E : dj_E} {Mo : Option dm_M} {r : Int32} {G' : dg_G} : ∀ (n : Nat) (G : dg_G) (x0 : Nat) (x1 : Int32) (x2 : Int32) (x3 : Int32) (x4 : Int32) (x5 : Int32) (x6 : Int32) (x7 : Int32) (_ : gG_X0_lawful_L37 n G x0 x1 x2 x3 x4 x5 x6 x7 = some (r, G')), dgW tG_X0_lawful l E Mo G' (.inr (some (.int r))) G 37 [(0, dj_v E x0), (1, .int x1), (2, .int x2), (3, .int x3), (4, .int x4), (5, .int x5), (6, .int x6), (7, .int x7)] [] := by
  intro n
  induction n with
  | zero => intro G x0 x1 x2 x3 x4 x5 x6 x7 hf; exact dh_no hf
  | succ n ih => intro G x0 x1 x2 x3 x4 x5 x6 x7 hf; exact wG_X0_lawful_L37_F (gG_X0_lawful_L37 n) ih G x0 x1 x2 x3 x4 x5 x6 x7 hf
def gG_X0_lawful (G : dg_G) (x0 : Nat) (x1 : Int32) (x2 : Int32) (x3 : Int32) : Option (Int32 × dg_G) :=
  (dg_is G 1 x0).bind fun u1 =>
  (gG_X0_isPerson G x0 x1).bind fun p2 =>
  if p2 = 0 then (
    some (0, G))
  else
  (gG_X0_isDay G x2).bind fun p4 =>
  if p4 = 0 then (
    some (0, G))
  else
  (gG_X0_isDay G x3).bind fun p6 =>
  if p6 = 0 then (
    some (0, G))
  else
  gG_X0_lawful_L37 dh_fu G x0 x1 x2 x3 0 0 9 0
theorem wG_X0_lawful {l : Launch} {E : dj_E} {Mo : Option dm_M} {r : Int32} {G' : dg_G} (G : dg_G) (x0 : Nat) (x1 : Int32) (x2 : Int32) (x3 : Int32) (hf : gG_X0_lawful G x0 x1 x2 x3 = some (r, G')) : dgW tG_X0_lawful l E Mo G' (.inr (some (.int r))) G 0 [(0, dj_v E x0), (1, .int x1), (2, .int x2), (3, .int x3)] [] := by
  unfold gG_X0_lawful at hf
  refine g_aload_n dX0_lawful_0 rfl (j := 0) rfl ?_
  refine dg_l (fun _ _ _ _ _ _ _ hC => r_iload_n hC dX0_lawful_1 rfl (j := 1) rfl) ?_
  obtain ⟨u1, h1, hf⟩ := dh_bd hf
  obtain ⟨p2, h2, hf⟩ := dh_bd hf
  refine g_callV (rc_O (ci := 1) rfl h1) (cG_X0_isPerson _ E Mo G x0 x1 h2) q402 qG_X0_isPerson (Nat.le_of_ble_eq_true rfl) (Nat.le_of_ble_eq_true rfl) rfl (dj_cat8 (Nat.le_of_ble_eq_true rfl)) dX0_lawful_2 ?_
  refine dg_b (fun _ _ _ _ _ _ _ hC => r_if_eq hC dX0_lawful_5 (tgt := 22) (by decide)) (fun c3 => ?_) (fun c3 => ?_)
  · have hf := dh_if hf c3
    refine dg_l (fun _ _ _ _ _ _ _ hC => r_iconst hC dX0_lawful_22 ki_0) ?_
    exact g_zret dX0_lawful_23 rfl rfl hf
  · have hf := dh_el hf c3
    refine dg_l (fun _ _ _ _ _ _ _ hC => r_iload_n hC dX0_lawful_8 rfl (j := 2) rfl) ?_
    obtain ⟨p4, h4, hf⟩ := dh_bd hf
    refine g_callS (cG_X0_isDay _ E Mo G x2 h4) q591 qG_X0_isDay (Nat.le_of_ble_eq_true rfl) (Nat.le_of_ble_eq_true rfl) rfl (dj_cat8 (Nat.le_of_ble_eq_true rfl)) dX0_lawful_9 ?_
    refine dg_b (fun _ _ _ _ _ _ _ hC => r_if_eq hC dX0_lawful_12 (tgt := 22) (by decide)) (fun c5 => ?_) (fun c5 => ?_)
    · have hf := dh_if hf c5
      refine dg_l (fun _ _ _ _ _ _ _ hC => r_iconst hC dX0_lawful_22 ki_0) ?_
      exact g_zret dX0_lawful_23 rfl rfl hf
    · have hf := dh_el hf c5
      refine dg_l (fun _ _ _ _ _ _ _ hC => r_iload_n hC dX0_lawful_15 rfl (j := 3) rfl) ?_
      obtain ⟨p6, h6, hf⟩ := dh_bd hf
      refine g_callS (cG_X0_isDay _ E Mo G x3 h6) q591 qG_X0_isDay (Nat.le_of_ble_eq_true rfl) (Nat.le_of_ble_eq_true rfl) rfl (dj_cat8 (Nat.le_of_ble_eq_true rfl)) dX0_lawful_16 ?_
      refine dg_bn (fun _ _ _ _ _ _ _ hC => r_if_ne hC dX0_lawful_19 (tgt := 24) (by decide)) (fun c7 => ?_) (fun c7 => ?_)
      · have hf := dh_el hf c7
        refine dg_l (fun _ _ _ _ _ _ _ hC => r_iconst hC dX0_lawful_24 ki_0) ?_
        refine dg_l (fun _ _ _ _ _ _ _ hC => r_istore (lv' := [(4, .int 0), (0, dj_v E x0), (1, .int x1), (2, .int x2), (3, .int x3)]) hC dX0_lawful_25 (Nat.le_of_ble_eq_true rfl) rfl) ?_
        refine dg_l (fun _ _ _ _ _ _ _ hC => r_iconst hC dX0_lawful_27 ki_0) ?_
        refine dg_l (fun _ _ _ _ _ _ _ hC => r_istore (lv' := [(5, .int 0), (4, .int 0), (0, dj_v E x0), (1, .int x1), (2, .int x2), (3, .int x3)]) hC dX0_lawful_28 (Nat.le_of_ble_eq_true rfl) rfl) ?_
        refine dg_l (fun _ _ _ _ _ _ _ hC => r_bipush hC dX0_lawful_30 kb_9) ?_
        refine dg_l (fun _ _ _ _ _ _ _ hC => r_istore (lv' := [(6, .int 9), (5, .int 0), (4, .int 0), (0, dj_v E x0), (1, .int x1), (2, .int x2), (3, .int x3)]) hC dX0_lawful_32 (Nat.le_of_ble_eq_true rfl) rfl) ?_
        refine dg_l (fun _ _ _ _ _ _ _ hC => r_iconst hC dX0_lawful_34 ki_0) ?_
        refine dg_l (fun _ _ _ _ _ _ _ hC => r_istore (lv' := [(7, .int 0), (6, .int 9), (5, .int 0), (4, .int 0), (0, dj_v E x0), (1, .int x1), (2, .int x2), (3, .int x3)]) hC dX0_lawful_35 (Nat.le_of_ble_eq_true rfl) rfl) ?_
        exact g_sub [4, 5, 6, 7, 3, 2, 1, 0] rfl (wG_X0_lawful_L37 dh_fu G x0 x1 x2 x3 0 0 9 0 hf)
      · have hf := dh_if hf c7
        refine dg_l (fun _ _ _ _ _ _ _ hC => r_iconst hC dX0_lawful_22 ki_0) ?_
        exact g_zret dX0_lawful_23 rfl rfl hf
theorem cG_X0_lawful (l : Launch) (E : dj_E) (Mo : Option dm_M) (G : dg_G) (x0 : Nat) (x1 : Int32) (x2 : Int32) (x3 : Int32) {p : Int32 × dg_G} (h : gG_X0_lawful G x0 x1 x2 x3 = some p) : dg_Met l yX0_lawful cX0_lawful 9 (some .boolean) 6 132 E Mo [dj_v E x0, .int x1, .int x2, .int x3] G (some (.int p.1)) p.2 :=
  dg_met (plainFor_of_name (by decide)) (by simp only [lg_sl_ref, lg_sl_int, lg_sl_long, lg_sl_nil]; decide) (by simp only [lv_args_ref, lv_args_int, lv_args_long, lv_args_nil]) (wG_X0_lawful G x0 x1 x2 x3 h)
theorem qG_X0_lawful : dg_cV "DebtorsHouse" yX0_lawful cX0_lawful 9 (some .boolean) 3 := ⟨q1150, Or.inl q1151, q81, q1152, by decide, by decide, by decide +kernel⟩
/-! DebtorsHouse.tells(LDebtorsHouse$Person;LDebtorsHouse$Topic;)I -/
abbrev tG_X0_tells_3 : dg_T := (cX0_tells_3, 3, RX0, (some .int), 6, 132, "tells", [])
def gG_X0_tells_3 (G : dg_G) (x0 : Nat) (x1 : Nat) (x2 : Nat) : Option (Int32 × dg_G) :=
  (dg_is G 1 x0).bind fun u1 =>
  (gG_X0_asks G x0 x1).bind fun p2 =>
  (dg_gR p2 1 0 x0).bind fun v3 =>
  (dg_gI p2 2 4 v3).bind fun v4 =>
  (dg_gR p2 1 0 x0).bind fun v5 =>
  (dg_gI p2 2 4 v5).bind fun v6 =>
  (dg_is p2 1 x0).bind fun u7 =>
  (gG_X0_good p2 x0 v4 v6).bind fun p8 =>
  (dg_is p2 1 x0).bind fun u9 =>
  (gG_X0_tells_2 p2 x0 x2 p8).bind fun p10 =>
  some (p10, p2)
theorem wG_X0_tells_3 {l : Launch} {E : dj_E} {Mo : Option dm_M} {r : Int32} {G' : dg_G} (G : dg_G) (x0 : Nat) (x1 : Nat) (x2 : Nat) (hf : gG_X0_tells_3 G x0 x1 x2 = some (r, G')) : dgW tG_X0_tells_3 l E Mo G' (.inr (some (.int r))) G 0 [(0, dj_v E x0), (1, dj_v E x1), (2, dj_v E x2)] [] := by
  unfold gG_X0_tells_3 at hf
  refine g_aload_n dX0_tells_3_0 rfl (j := 0) rfl ?_
  refine g_aload_n dX0_tells_3_1 rfl (j := 1) rfl ?_
  obtain ⟨u1, h1, hf⟩ := dh_bd hf
  obtain ⟨p2, h2, hf⟩ := dh_bd hf
  refine g_callV (rc_O (ci := 1) rfl h1) (cG_X0_asks _ E Mo G x0 x1 h2) q1094 qG_X0_asks (Nat.le_of_ble_eq_true rfl) (Nat.le_of_ble_eq_true rfl) rfl (dj_cat8 (Nat.le_of_ble_eq_true rfl)) dX0_tells_3_2 ?_
  refine g_aload_n dX0_tells_3_5 rfl (j := 0) rfl ?_
  refine g_aload_n dX0_tells_3_6 rfl (j := 2) rfl ?_
  refine g_aload_n dX0_tells_3_7 rfl (j := 0) rfl ?_
  refine g_aload_n dX0_tells_3_8 rfl (j := 0) rfl ?_
  obtain ⟨v3, h3, hf⟩ := dh_bd hf
  refine g_getR fR_X0_10 (by decide) h3 dX0_tells_3_9 ?_
  obtain ⟨v4, h4, hf⟩ := dh_bd hf
  refine g_getI fR_X0_88 (by decide) h4 dX0_tells_3_12 ?_
  refine g_aload_n dX0_tells_3_15 rfl (j := 0) rfl ?_
  obtain ⟨v5, h5, hf⟩ := dh_bd hf
  refine g_getR fR_X0_10 (by decide) h5 dX0_tells_3_16 ?_
  obtain ⟨v6, h6, hf⟩ := dh_bd hf
  refine g_getI fR_X0_88 (by decide) h6 dX0_tells_3_19 ?_
  obtain ⟨u7, h7, hf⟩ := dh_bd hf
  obtain ⟨p8, h8, hf⟩ := dh_bd hf
  refine g_callV (rc_O (ci := 1) rfl h7) (cG_X0_good _ E Mo p2 x0 v4 v6 h8) q1125 qG_X0_good (Nat.le_of_ble_eq_true rfl) (Nat.le_of_ble_eq_true rfl) rfl (dj_cat8 (Nat.le_of_ble_eq_true rfl)) dX0_tells_3_22 ?_
  obtain ⟨u9, h9, hf⟩ := dh_bd hf
  obtain ⟨p10, h10, hf⟩ := dh_bd hf
  refine g_callV (rc_O (ci := 1) rfl h9) (cG_X0_tells_2 _ E Mo p2 x0 x2 p8 h10) q1126 qG_X0_tells_2 (Nat.le_of_ble_eq_true rfl) (Nat.le_of_ble_eq_true rfl) rfl (dj_cat8 (Nat.le_of_ble_eq_true rfl)) dX0_tells_3_25 ?_
  exact g_iret dX0_tells_3_28 rfl hf
theorem cG_X0_tells_3 (l : Launch) (E : dj_E) (Mo : Option dm_M) (G : dg_G) (x0 : Nat) (x1 : Nat) (x2 : Nat) {p : Int32 × dg_G} (h : gG_X0_tells_3 G x0 x1 x2 = some p) : dg_Met l yX0_tells_3 cX0_tells_3 3 (some .int) 6 132 E Mo [dj_v E x0, dj_v E x1, dj_v E x2] G (some (.int p.1)) p.2 :=
  dg_met (plainFor_of_name (by decide)) (by simp only [lg_sl_ref, lg_sl_int, lg_sl_long, lg_sl_nil]; decide) (by simp only [lv_args_ref, lv_args_int, lv_args_long, lv_args_nil]) (wG_X0_tells_3 G x0 x1 x2 h)
theorem qG_X0_tells_3 : dg_cV "DebtorsHouse" yX0_tells_3 cX0_tells_3 3 (some .int) 2 := ⟨q1161, Or.inl qs27, q81, q1162, by decide, by decide, by decide +kernel⟩
/-! DebtorsHouse.hold(II)Z -/
abbrev tG_X0_hold : dg_T := (cX0_hold, 4, RX0, (some .boolean), 7, 154, "hold", [])
def gG_X0_hold (G : dg_G) (x0 : Nat) (x1 : Int32) (x2 : Int32) : Option (Int32 × dg_G) :=
  (dg_is G 1 x0).bind fun u1 =>
  (gG_X0_areTwo G x0 x1 x2).bind fun p2 =>
  if p2 = 0 then (
    some (0, G))
  else
  (dg_is G 1 x0).bind fun u4 =>
  (gG_X0_creditorsOf G x0 x2).bind fun p5 =>
  if ((p5 >>> (x1 &&& 31)) &&& 1) = 0 then (
    some (0, G))
  else
  (dg_is G 1 x0).bind fun u7 =>
  (gG_X0_at G x0 x2).bind fun p8 =>
  (dg_gI G 3 9 p8).bind fun v9 =>
  if ((v9 >>> (x1 &&& 31)) &&& 1) = 1 then (
    some (0, G))
  else
  (dg_is G 1 x0).bind fun u11 =>
  (gG_X0_at G x0 x2).bind fun p12 =>
  (dg_is G 1 x0).bind fun u13 =>
  (gG_X0_tells_3 G x0 p12 1).bind fun p14 =>
  if p14.1 = 0 then (
    some (0, p14.2))
  else
  (dg_is p14.2 3 p12).bind fun u16 =>
  (gG_X3_isHeld p14.2 p12).bind fun p17 =>
  if p17 = 0 then (
    (dg_gI p14.2 3 5 p12).bind fun v21 =>
    (dg_is p14.2 1 x0).bind fun u22 =>
    (gG_X0_tells_3 p14.2 x0 p12 2).bind fun p23 =>
    (dg_pI p23.2 3 5 p12 (v21 + p23.1)).bind fun G24 =>
    (dg_gR G24 1 0 x0).bind fun v25 =>
    (dg_gI G24 2 4 v25).bind fun v26 =>
    (dg_pI G24 3 3 p12 v26).bind fun G27 =>
    (dg_pI G27 3 4 p12 0).bind fun G28 =>
    (dg_gI G28 3 9 p12).bind fun v29 =>
    (dg_pI G28 3 9 p12 (v29 ||| (1 <<< (x1 &&& 31)))).bind fun G30 =>
    some (1, G30))
  else
  (dg_gI p14.2 3 9 p12).bind fun v19 =>
  (dg_pI p14.2 3 9 p12 (v19 ||| (1 <<< (x1 &&& 31)))).bind fun G20 =>
  some (1, G20)
theorem wG_X0_hold {l : Launch} {E : dj_E} {Mo : Option dm_M} {r : Int32} {G' : dg_G} (G : dg_G) (x0 : Nat) (x1 : Int32) (x2 : Int32) (hf : gG_X0_hold G x0 x1 x2 = some (r, G')) : dgW tG_X0_hold l E Mo G' (.inr (some (.int r))) G 0 [(0, dj_v E x0), (1, .int x1), (2, .int x2)] [] := by
  unfold gG_X0_hold at hf
  refine g_aload_n dX0_hold_0 rfl (j := 0) rfl ?_
  refine dg_l (fun _ _ _ _ _ _ _ hC => r_iload_n hC dX0_hold_1 rfl (j := 1) rfl) ?_
  refine dg_l (fun _ _ _ _ _ _ _ hC => r_iload_n hC dX0_hold_2 rfl (j := 2) rfl) ?_
  obtain ⟨u1, h1, hf⟩ := dh_bd hf
  obtain ⟨p2, h2, hf⟩ := dh_bd hf
  refine g_callV (rc_O (ci := 1) rfl h1) (cG_X0_areTwo _ E Mo G x0 x1 x2 h2) q398 qG_X0_areTwo (Nat.le_of_ble_eq_true rfl) (Nat.le_of_ble_eq_true rfl) rfl (dj_cat8 (Nat.le_of_ble_eq_true rfl)) dX0_hold_3 ?_
  refine dg_b (fun _ _ _ _ _ _ _ hC => r_if_eq hC dX0_hold_6 (tgt := 37) (by decide)) (fun c3 => ?_) (fun c3 => ?_)
  · have hf := dh_if hf c3
    refine dg_l (fun _ _ _ _ _ _ _ hC => r_iconst hC dX0_hold_37 ki_0) ?_
    exact g_zret dX0_hold_38 rfl rfl hf
  · have hf := dh_el hf c3
    refine g_aload_n dX0_hold_9 rfl (j := 0) rfl ?_
    refine dg_l (fun _ _ _ _ _ _ _ hC => r_iload_n hC dX0_hold_10 rfl (j := 2) rfl) ?_
    obtain ⟨u4, h4, hf⟩ := dh_bd hf
    obtain ⟨p5, h5, hf⟩ := dh_bd hf
    refine g_callV (rc_O (ci := 1) rfl h4) (cG_X0_creditorsOf _ E Mo G x0 x2 h5) q544 qG_X0_creditorsOf (Nat.le_of_ble_eq_true rfl) (Nat.le_of_ble_eq_true rfl) rfl (dj_cat8 (Nat.le_of_ble_eq_true rfl)) dX0_hold_11 ?_
    refine dg_l (fun _ _ _ _ _ _ _ hC => r_iload_n hC dX0_hold_14 rfl (j := 1) rfl) ?_
    refine dg_l (fun _ _ _ _ _ _ _ hC => r_ishr hC dX0_hold_15) ?_
    refine dg_l (fun _ _ _ _ _ _ _ hC => r_iconst hC dX0_hold_16 ki_1) ?_
    refine dg_l (fun _ _ _ _ _ _ _ hC => r_iand hC dX0_hold_17) ?_
    refine dg_b (fun _ _ _ _ _ _ _ hC => r_if_eq hC dX0_hold_18 (tgt := 37) (by decide)) (fun c6 => ?_) (fun c6 => ?_)
    · have hf := dh_if hf c6
      refine dg_l (fun _ _ _ _ _ _ _ hC => r_iconst hC dX0_hold_37 ki_0) ?_
      exact g_zret dX0_hold_38 rfl rfl hf
    · have hf := dh_el hf c6
      refine g_aload_n dX0_hold_21 rfl (j := 0) rfl ?_
      refine dg_l (fun _ _ _ _ _ _ _ hC => r_iload_n hC dX0_hold_22 rfl (j := 2) rfl) ?_
      obtain ⟨u7, h7, hf⟩ := dh_bd hf
      obtain ⟨p8, h8, hf⟩ := dh_bd hf
      refine g_callV (rc_O (ci := 1) rfl h7) (cG_X0_at _ E Mo G x0 x2 h8) q525 qG_X0_at (Nat.le_of_ble_eq_true rfl) (Nat.le_of_ble_eq_true rfl) rfl (dj_cat8 (Nat.le_of_ble_eq_true rfl)) dX0_hold_23 ?_
      obtain ⟨v9, h9, hf⟩ := dh_bd hf
      refine g_getI fR_X0_122 (by decide) h9 dX0_hold_26 ?_
      refine dg_l (fun _ _ _ _ _ _ _ hC => r_iload_n hC dX0_hold_29 rfl (j := 1) rfl) ?_
      refine dg_l (fun _ _ _ _ _ _ _ hC => r_ishr hC dX0_hold_30) ?_
      refine dg_l (fun _ _ _ _ _ _ _ hC => r_iconst hC dX0_hold_31 ki_1) ?_
      refine dg_l (fun _ _ _ _ _ _ _ hC => r_iand hC dX0_hold_32) ?_
      refine dg_l (fun _ _ _ _ _ _ _ hC => r_iconst hC dX0_hold_33 ki_1) ?_
      refine dg_bn (fun _ _ _ _ _ _ _ hC => r_icmp_ne hC dX0_hold_34 (tgt := 39) (by decide)) (fun c10 => ?_) (fun c10 => ?_)
      · have hf := dh_el hf c10
        refine g_aload_n dX0_hold_39 rfl (j := 0) rfl ?_
        refine dg_l (fun _ _ _ _ _ _ _ hC => r_iload_n hC dX0_hold_40 rfl (j := 2) rfl) ?_
        obtain ⟨u11, h11, hf⟩ := dh_bd hf
        obtain ⟨p12, h12, hf⟩ := dh_bd hf
        refine g_callV (rc_O (ci := 1) rfl h11) (cG_X0_at _ E Mo G x0 x2 h12) q525 qG_X0_at (Nat.le_of_ble_eq_true rfl) (Nat.le_of_ble_eq_true rfl) rfl (dj_cat8 (Nat.le_of_ble_eq_true rfl)) dX0_hold_41 ?_
        refine g_astore_n (i := 3) (lv1 := [(3, dj_v E p12), (0, dj_v E x0), (1, .int x1), (2, .int x2)]) dX0_hold_44 rfl (Nat.le_of_ble_eq_true rfl) rfl ?_
        refine g_aload_n dX0_hold_45 rfl (j := 1) rfl ?_
        refine g_aload_n dX0_hold_46 rfl (j := 0) rfl ?_
        refine g_gets (j := 1) (by decide) (by decide) (fun _ h => ((dk_T h).1 0 (by decide)).1) q1153 dX0_hold_47 ?_
        obtain ⟨u13, h13, hf⟩ := dh_bd hf
        obtain ⟨p14, h14, hf⟩ := dh_bd hf
        refine g_callV (rc_O (ci := 1) rfl h13) (cG_X0_tells_3 _ E Mo G x0 p12 1 h14) q1159 qG_X0_tells_3 (Nat.le_of_ble_eq_true rfl) (Nat.le_of_ble_eq_true rfl) rfl (dj_cat8 (Nat.le_of_ble_eq_true rfl)) dX0_hold_50 ?_
        refine dg_bn (fun _ _ _ _ _ _ _ hC => r_if_ne hC dX0_hold_53 (tgt := 58) (by decide)) (fun c15 => ?_) (fun c15 => ?_)
        · have hf := dh_el hf c15
          refine g_aload_n dX0_hold_58 rfl (j := 0) rfl ?_
          obtain ⟨u16, h16, hf⟩ := dh_bd hf
          obtain ⟨p17, h17, hf⟩ := dh_bd hf
          refine g_callV (rc_O (ci := 3) rfl h16) (cG_X3_isHeld _ E Mo p14.2 p12 h17) q1113 qG_X3_isHeld (Nat.le_of_ble_eq_true rfl) (Nat.le_of_ble_eq_true rfl) rfl (dj_cat8 (Nat.le_of_ble_eq_true rfl)) dX0_hold_59 ?_
          refine dg_bn (fun _ _ _ _ _ _ _ hC => r_if_ne hC dX0_hold_62 (tgt := 98) (by decide)) (fun c18 => ?_) (fun c18 => ?_)
          · have hf := dh_el hf c18
            refine g_aload_n dX0_hold_98 rfl (j := 0) rfl ?_
            refine g_dup dX0_hold_99 ?_
            obtain ⟨v19, h19, hf⟩ := dh_bd hf
            refine g_getI fR_X0_122 (by decide) h19 dX0_hold_100 ?_
            refine dg_l (fun _ _ _ _ _ _ _ hC => r_iconst hC dX0_hold_103 ki_1) ?_
            refine dg_l (fun _ _ _ _ _ _ _ hC => r_iload_n hC dX0_hold_104 rfl (j := 2) rfl) ?_
            refine dg_l (fun _ _ _ _ _ _ _ hC => r_ishl hC dX0_hold_105) ?_
            refine dg_l (fun _ _ _ _ _ _ _ hC => r_ior hC dX0_hold_106) ?_
            obtain ⟨G20, h20, hf⟩ := dh_bd hf
            refine g_putI fF_X0_122 (fun q => by cases q) (by decide) h20 dX0_hold_107 ?_
            refine dg_l (fun _ _ _ _ _ _ _ hC => r_iconst hC dX0_hold_110 ki_1) ?_
            exact g_zret dX0_hold_111 rfl rfl hf
          · have hf := dh_if hf c18
            refine g_aload_n dX0_hold_65 rfl (j := 0) rfl ?_
            refine g_dup dX0_hold_66 ?_
            obtain ⟨v21, h21, hf⟩ := dh_bd hf
            refine g_getI fR_X0_329 (by decide) h21 dX0_hold_67 ?_
            refine g_aload_n dX0_hold_70 rfl (j := 1) rfl ?_
            refine g_aload_n dX0_hold_71 rfl (j := 0) rfl ?_
            refine g_gets (j := 2) (by decide) (by decide) (fun _ h => ((dk_T h).1 1 (by decide)).1) q1163 dX0_hold_72 ?_
            obtain ⟨u22, h22, hf⟩ := dh_bd hf
            obtain ⟨p23, h23, hf⟩ := dh_bd hf
            refine g_callV (rc_O (ci := 1) rfl h22) (cG_X0_tells_3 _ E Mo p14.2 x0 p12 2 h23) q1159 qG_X0_tells_3 (Nat.le_of_ble_eq_true rfl) (Nat.le_of_ble_eq_true rfl) rfl (dj_cat8 (Nat.le_of_ble_eq_true rfl)) dX0_hold_75 ?_
            refine dg_l (fun _ _ _ _ _ _ _ hC => r_iadd hC dX0_hold_78) ?_
            obtain ⟨G24, h24, hf⟩ := dh_bd hf
            refine g_putI fF_X0_329 (fun q => by cases q) (by decide) h24 dX0_hold_79 ?_
            refine g_aload_n dX0_hold_82 rfl (j := 0) rfl ?_
            refine g_aload_n dX0_hold_83 rfl (j := 1) rfl ?_
            obtain ⟨v25, h25, hf⟩ := dh_bd hf
            refine g_getR fR_X0_10 (by decide) h25 dX0_hold_84 ?_
            obtain ⟨v26, h26, hf⟩ := dh_bd hf
            refine g_getI fR_X0_88 (by decide) h26 dX0_hold_87 ?_
            obtain ⟨G27, h27, hf⟩ := dh_bd hf
            refine g_putI fF_X0_278 (fun q => by cases q) (by decide) h27 dX0_hold_90 ?_
            refine g_aload_n dX0_hold_93 rfl (j := 0) rfl ?_
            refine dg_l (fun _ _ _ _ _ _ _ hC => r_iconst hC dX0_hold_94 ki_0) ?_
            obtain ⟨G28, h28, hf⟩ := dh_bd hf
            refine g_putI fF_X0_288 (fun q => by cases q) (by decide) h28 dX0_hold_95 ?_
            refine g_aload_n dX0_hold_98 rfl (j := 0) rfl ?_
            refine g_dup dX0_hold_99 ?_
            obtain ⟨v29, h29, hf⟩ := dh_bd hf
            refine g_getI fR_X0_122 (by decide) h29 dX0_hold_100 ?_
            refine dg_l (fun _ _ _ _ _ _ _ hC => r_iconst hC dX0_hold_103 ki_1) ?_
            refine dg_l (fun _ _ _ _ _ _ _ hC => r_iload_n hC dX0_hold_104 rfl (j := 2) rfl) ?_
            refine dg_l (fun _ _ _ _ _ _ _ hC => r_ishl hC dX0_hold_105) ?_
            refine dg_l (fun _ _ _ _ _ _ _ hC => r_ior hC dX0_hold_106) ?_
            obtain ⟨G30, h30, hf⟩ := dh_bd hf
            refine g_putI fF_X0_122 (fun q => by cases q) (by decide) h30 dX0_hold_107 ?_
            refine dg_l (fun _ _ _ _ _ _ _ hC => r_iconst hC dX0_hold_110 ki_1) ?_
            exact g_zret dX0_hold_111 rfl rfl hf
        · have hf := dh_if hf c15
          refine dg_l (fun _ _ _ _ _ _ _ hC => r_iconst hC dX0_hold_56 ki_0) ?_
          exact g_zret dX0_hold_57 rfl rfl hf
      · have hf := dh_if hf c10
        refine dg_l (fun _ _ _ _ _ _ _ hC => r_iconst hC dX0_hold_37 ki_0) ?_
        exact g_zret dX0_hold_38 rfl rfl hf
theorem cG_X0_hold (l : Launch) (E : dj_E) (Mo : Option dm_M) (G : dg_G) (x0 : Nat) (x1 : Int32) (x2 : Int32) {p : Int32 × dg_G} (h : gG_X0_hold G x0 x1 x2 = some p) : dg_Met l yX0_hold cX0_hold 4 (some .boolean) 7 154 E Mo [dj_v E x0, .int x1, .int x2] G (some (.int p.1)) p.2 :=
  dg_met (plainFor_of_name (by decide)) (by simp only [lg_sl_ref, lg_sl_int, lg_sl_long, lg_sl_nil]; decide) (by simp only [lv_args_ref, lv_args_int, lv_args_long, lv_args_nil]) (wG_X0_hold G x0 x1 x2 h)
theorem qG_X0_hold : dg_cV "DebtorsHouse" yX0_hold cX0_hold 4 (some .boolean) 2 := ⟨q1156, Or.inl q1157, q81, q1158, by decide, by decide, by decide +kernel⟩
/-! DebtorsHouse.tire(II)Z -/
abbrev tG_X0_tire : dg_T := (cX0_tire, 3, RX0, (some .boolean), 4, 85, "tire", [])
def gG_X0_tire (G : dg_G) (x0 : Nat) (x1 : Int32) (x2 : Int32) : Option (Int32 × dg_G) :=
  (dg_is G 1 x0).bind fun u1 =>
  (gG_X0_areTwo G x0 x1 x2).bind fun p2 =>
  if p2 = 0 then (
    some (0, G))
  else
  (dg_is G 1 x0).bind fun u4 =>
  (gG_X0_at G x0 x2).bind fun p5 =>
  (dg_gI G 3 9 p5).bind fun v6 =>
  if ((v6 >>> (x1 &&& 31)) &&& 1) = 0 then (
    some (0, G))
  else
  (dg_is G 1 x0).bind fun u8 =>
  (gG_X0_at G x0 x2).bind fun p9 =>
  (dg_gI G 3 9 p9).bind fun v10 =>
  (dg_pI G 3 9 p9 (v10 &&& ((1 <<< (x1 &&& 31)) ^^^ (-1)))).bind fun G11 =>
  some (1, G11)
theorem wG_X0_tire {l : Launch} {E : dj_E} {Mo : Option dm_M} {r : Int32} {G' : dg_G} (G : dg_G) (x0 : Nat) (x1 : Int32) (x2 : Int32) (hf : gG_X0_tire G x0 x1 x2 = some (r, G')) : dgW tG_X0_tire l E Mo G' (.inr (some (.int r))) G 0 [(0, dj_v E x0), (1, .int x1), (2, .int x2)] [] := by
  unfold gG_X0_tire at hf
  refine g_aload_n dX0_tire_0 rfl (j := 0) rfl ?_
  refine dg_l (fun _ _ _ _ _ _ _ hC => r_iload_n hC dX0_tire_1 rfl (j := 1) rfl) ?_
  refine dg_l (fun _ _ _ _ _ _ _ hC => r_iload_n hC dX0_tire_2 rfl (j := 2) rfl) ?_
  obtain ⟨u1, h1, hf⟩ := dh_bd hf
  obtain ⟨p2, h2, hf⟩ := dh_bd hf
  refine g_callV (rc_O (ci := 1) rfl h1) (cG_X0_areTwo _ E Mo G x0 x1 x2 h2) q398 qG_X0_areTwo (Nat.le_of_ble_eq_true rfl) (Nat.le_of_ble_eq_true rfl) rfl (dj_cat8 (Nat.le_of_ble_eq_true rfl)) dX0_tire_3 ?_
  refine dg_b (fun _ _ _ _ _ _ _ hC => r_if_eq hC dX0_tire_6 (tgt := 24) (by decide)) (fun c3 => ?_) (fun c3 => ?_)
  · have hf := dh_if hf c3
    refine dg_l (fun _ _ _ _ _ _ _ hC => r_iconst hC dX0_tire_24 ki_0) ?_
    exact g_zret dX0_tire_25 rfl rfl hf
  · have hf := dh_el hf c3
    refine g_aload_n dX0_tire_9 rfl (j := 0) rfl ?_
    refine dg_l (fun _ _ _ _ _ _ _ hC => r_iload_n hC dX0_tire_10 rfl (j := 2) rfl) ?_
    obtain ⟨u4, h4, hf⟩ := dh_bd hf
    obtain ⟨p5, h5, hf⟩ := dh_bd hf
    refine g_callV (rc_O (ci := 1) rfl h4) (cG_X0_at _ E Mo G x0 x2 h5) q525 qG_X0_at (Nat.le_of_ble_eq_true rfl) (Nat.le_of_ble_eq_true rfl) rfl (dj_cat8 (Nat.le_of_ble_eq_true rfl)) dX0_tire_11 ?_
    obtain ⟨v6, h6, hf⟩ := dh_bd hf
    refine g_getI fR_X0_122 (by decide) h6 dX0_tire_14 ?_
    refine dg_l (fun _ _ _ _ _ _ _ hC => r_iload_n hC dX0_tire_17 rfl (j := 1) rfl) ?_
    refine dg_l (fun _ _ _ _ _ _ _ hC => r_ishr hC dX0_tire_18) ?_
    refine dg_l (fun _ _ _ _ _ _ _ hC => r_iconst hC dX0_tire_19 ki_1) ?_
    refine dg_l (fun _ _ _ _ _ _ _ hC => r_iand hC dX0_tire_20) ?_
    refine dg_bn (fun _ _ _ _ _ _ _ hC => r_if_ne hC dX0_tire_21 (tgt := 26) (by decide)) (fun c7 => ?_) (fun c7 => ?_)
    · have hf := dh_el hf c7
      refine g_aload_n dX0_tire_26 rfl (j := 0) rfl ?_
      refine dg_l (fun _ _ _ _ _ _ _ hC => r_iload_n hC dX0_tire_27 rfl (j := 2) rfl) ?_
      obtain ⟨u8, h8, hf⟩ := dh_bd hf
      obtain ⟨p9, h9, hf⟩ := dh_bd hf
      refine g_callV (rc_O (ci := 1) rfl h8) (cG_X0_at _ E Mo G x0 x2 h9) q525 qG_X0_at (Nat.le_of_ble_eq_true rfl) (Nat.le_of_ble_eq_true rfl) rfl (dj_cat8 (Nat.le_of_ble_eq_true rfl)) dX0_tire_28 ?_
      refine g_dup dX0_tire_31 ?_
      obtain ⟨v10, h10, hf⟩ := dh_bd hf
      refine g_getI fR_X0_122 (by decide) h10 dX0_tire_32 ?_
      refine dg_l (fun _ _ _ _ _ _ _ hC => r_iconst hC dX0_tire_35 ki_1) ?_
      refine dg_l (fun _ _ _ _ _ _ _ hC => r_iload_n hC dX0_tire_36 rfl (j := 1) rfl) ?_
      refine dg_l (fun _ _ _ _ _ _ _ hC => r_ishl hC dX0_tire_37) ?_
      refine dg_l (fun _ _ _ _ _ _ _ hC => r_iconst hC dX0_tire_38 ki_m1) ?_
      refine dg_l (fun _ _ _ _ _ _ _ hC => r_ixor hC dX0_tire_39) ?_
      refine dg_l (fun _ _ _ _ _ _ _ hC => r_iand hC dX0_tire_40) ?_
      obtain ⟨G11, h11, hf⟩ := dh_bd hf
      refine g_putI fF_X0_122 (fun q => by cases q) (by decide) h11 dX0_tire_41 ?_
      refine dg_l (fun _ _ _ _ _ _ _ hC => r_iconst hC dX0_tire_44 ki_1) ?_
      exact g_zret dX0_tire_45 rfl rfl hf
    · have hf := dh_if hf c7
      refine dg_l (fun _ _ _ _ _ _ _ hC => r_iconst hC dX0_tire_24 ki_0) ?_
      exact g_zret dX0_tire_25 rfl rfl hf
theorem cG_X0_tire (l : Launch) (E : dj_E) (Mo : Option dm_M) (G : dg_G) (x0 : Nat) (x1 : Int32) (x2 : Int32) {p : Int32 × dg_G} (h : gG_X0_tire G x0 x1 x2 = some p) : dg_Met l yX0_tire cX0_tire 3 (some .boolean) 4 85 E Mo [dj_v E x0, .int x1, .int x2] G (some (.int p.1)) p.2 :=
  dg_met (plainFor_of_name (by decide)) (by simp only [lg_sl_ref, lg_sl_int, lg_sl_long, lg_sl_nil]; decide) (by simp only [lv_args_ref, lv_args_int, lv_args_long, lv_args_nil]) (wG_X0_tire G x0 x1 x2 h)
theorem qG_X0_tire : dg_cV "DebtorsHouse" yX0_tire cX0_tire 3 (some .boolean) 2 := ⟨q1166, Or.inl q1167, q81, q1168, by decide, by decide, by decide +kernel⟩
/-! DebtorsHouse.isHeld(I)Z -/
abbrev tG_X0_isHeld : dg_T := (cX0_isHeld, 2, RX0, (some .boolean), 4, 85, "isHeld", [])
def gG_X0_isHeld (G : dg_G) (x0 : Nat) (x1 : Int32) : Option Int32 :=
  (dg_is G 1 x0).bind fun u1 =>
  (gG_X0_isPerson G x0 x1).bind fun p2 =>
  if p2 = 0 then (
    some 0)
  else
  (dg_is G 1 x0).bind fun u4 =>
  (gG_X0_at G x0 x1).bind fun p5 =>
  (dg_is G 3 p5).bind fun u6 =>
  (gG_X3_isHeld G p5).bind fun p7 =>
  if p7 = 0 then (
    some 0)
  else
  some 1
theorem wG_X0_isHeld {l : Launch} {E : dj_E} {Mo : Option dm_M} {r : Int32} (G : dg_G) (x0 : Nat) (x1 : Int32) (hf : gG_X0_isHeld G x0 x1 = some r) : dgW tG_X0_isHeld l E Mo G (.inr (some (.int r))) G 0 [(0, dj_v E x0), (1, .int x1)] [] := by
  unfold gG_X0_isHeld at hf
  refine g_aload_n dX0_isHeld_0 rfl (j := 0) rfl ?_
  refine dg_l (fun _ _ _ _ _ _ _ hC => r_iload_n hC dX0_isHeld_1 rfl (j := 1) rfl) ?_
  obtain ⟨u1, h1, hf⟩ := dh_bd hf
  obtain ⟨p2, h2, hf⟩ := dh_bd hf
  refine g_callV (rc_O (ci := 1) rfl h1) (cG_X0_isPerson _ E Mo G x0 x1 h2) q402 qG_X0_isPerson (Nat.le_of_ble_eq_true rfl) (Nat.le_of_ble_eq_true rfl) rfl (dj_cat8 (Nat.le_of_ble_eq_true rfl)) dX0_isHeld_2 ?_
  refine dg_b (fun _ _ _ _ _ _ _ hC => r_if_eq hC dX0_isHeld_5 (tgt := 23) (by decide)) (fun c3 => ?_) (fun c3 => ?_)
  · have hf := dh_if hf c3
    refine dg_l (fun _ _ _ _ _ _ _ hC => r_iconst hC dX0_isHeld_23 ki_0) ?_
    exact g_zret1 dX0_isHeld_24 rfl rfl hf
  · have hf := dh_el hf c3
    refine g_aload_n dX0_isHeld_8 rfl (j := 0) rfl ?_
    refine dg_l (fun _ _ _ _ _ _ _ hC => r_iload_n hC dX0_isHeld_9 rfl (j := 1) rfl) ?_
    obtain ⟨u4, h4, hf⟩ := dh_bd hf
    obtain ⟨p5, h5, hf⟩ := dh_bd hf
    refine g_callV (rc_O (ci := 1) rfl h4) (cG_X0_at _ E Mo G x0 x1 h5) q525 qG_X0_at (Nat.le_of_ble_eq_true rfl) (Nat.le_of_ble_eq_true rfl) rfl (dj_cat8 (Nat.le_of_ble_eq_true rfl)) dX0_isHeld_10 ?_
    obtain ⟨u6, h6, hf⟩ := dh_bd hf
    obtain ⟨p7, h7, hf⟩ := dh_bd hf
    refine g_callV (rc_O (ci := 3) rfl h6) (cG_X3_isHeld _ E Mo G p5 h7) q1113 qG_X3_isHeld (Nat.le_of_ble_eq_true rfl) (Nat.le_of_ble_eq_true rfl) rfl (dj_cat8 (Nat.le_of_ble_eq_true rfl)) dX0_isHeld_13 ?_
    refine dg_b (fun _ _ _ _ _ _ _ hC => r_if_eq hC dX0_isHeld_16 (tgt := 23) (by decide)) (fun c8 => ?_) (fun c8 => ?_)
    · have hf := dh_if hf c8
      refine dg_l (fun _ _ _ _ _ _ _ hC => r_iconst hC dX0_isHeld_23 ki_0) ?_
      exact g_zret1 dX0_isHeld_24 rfl rfl hf
    · have hf := dh_el hf c8
      refine dg_l (fun _ _ _ _ _ _ _ hC => r_iconst hC dX0_isHeld_19 ki_1) ?_
      refine dg_l (fun _ _ _ _ _ _ _ hC => r_goto hC dX0_isHeld_20 (tgt := 24) (by decide)) ?_
      exact g_zret1 dX0_isHeld_24 rfl rfl hf
theorem cG_X0_isHeld (l : Launch) (E : dj_E) (Mo : Option dm_M) (G : dg_G) (x0 : Nat) (x1 : Int32) {r : Int32} (h : gG_X0_isHeld G x0 x1 = some r) : dg_Met l yX0_isHeld cX0_isHeld 2 (some .boolean) 4 85 E Mo [dj_v E x0, .int x1] G (some (.int r)) G :=
  dg_met (plainFor_of_name (by decide)) (by simp only [lg_sl_ref, lg_sl_int, lg_sl_long, lg_sl_nil]; decide) (by simp only [lv_args_ref, lv_args_int, lv_args_long, lv_args_nil]) (wG_X0_isHeld G x0 x1 h)
theorem qG_X0_isHeld : dg_cV "DebtorsHouse" yX0_isHeld cX0_isHeld 2 (some .boolean) 1 := ⟨q1175, Or.inl qs28, q81, q1176, by decide, by decide, by decide +kernel⟩
