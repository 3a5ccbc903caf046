set_option maxRecDepth 100000
/-! DebtorsHouse.least(III)Z -/
abbrev tG_X0_least : dg_T := (cX0_least, 4, RX0, (some .boolean), 3, 65, "least", [])
def gG_X0_least (G : dg_G) (x0 : Nat) (x1 : Int32) (x2 : Int32) (x3 : Int32) : Option (Int32 × dg_G) :=
  (dg_is G 1 x0).bind fun u1 =>
  (gG_X0_areTwo G x0 x1 x2).bind fun p2 =>
  if p2 = 0 then (
    some (0, G))
  else
  (gG_X0_isIn G x3 0 1000).bind fun p4 =>
  if p4 = 0 then (
    some (0, G))
  else
  (dg_gR G 1 0 x0).bind fun v6 =>
  (dg_gR G 2 11 v6).bind fun v7 =>
  (dg_ldR G 56 v7 x1).bind fun v8 =>
  (dg_st G 50 v8 x2 x3).bind fun G9 =>
  some (1, G9)
theorem wG_X0_least {l : Launch} {E : dj_E} {Mo : Option dm_M} {r : Int32} {G' : dg_G} (G : dg_G) (x0 : Nat) (x1 : Int32) (x2 : Int32) (x3 : Int32) (hf : gG_X0_least G x0 x1 x2 x3 = some (r, G')) : dgW tG_X0_least l E Mo G' (.inr (some (.int r))) G 0 [(0, dj_v E x0), (1, .int x1), (2, .int x2), (3, .int x3)] [] := by
  unfold gG_X0_least at hf
  refine g_aload_n dX0_least_0 rfl (j := 0) rfl ?_
  refine dg_l (fun _ _ _ _ _ _ _ hC => r_iload_n hC dX0_least_1 rfl (j := 1) rfl) ?_
  refine dg_l (fun _ _ _ _ _ _ _ hC => r_iload_n hC dX0_least_2 rfl (j := 2) rfl) ?_
  obtain ⟨u1, h1, hf⟩ := dh_bd hf
  obtain ⟨p2, h2, hf⟩ := dh_bd hf
  refine g_callV (rc_O (ci := 1) rfl h1) (cG_X0_areTwo _ E Mo G x0 x1 x2 h2) q398 qG_X0_areTwo (Nat.le_of_ble_eq_true rfl) (Nat.le_of_ble_eq_true rfl) rfl (dj_cat8 (Nat.le_of_ble_eq_true rfl)) dX0_least_3 ?_
  refine dg_b (fun _ _ _ _ _ _ _ hC => r_if_eq hC dX0_least_6 (tgt := 20) (by decide)) (fun c3 => ?_) (fun c3 => ?_)
  · have hf := dh_if hf c3
    refine dg_l (fun _ _ _ _ _ _ _ hC => r_iconst hC dX0_least_20 ki_0) ?_
    exact g_zret dX0_least_21 rfl rfl hf
  · have hf := dh_el hf c3
    refine dg_l (fun _ _ _ _ _ _ _ hC => r_iload_n hC dX0_least_9 rfl (j := 3) rfl) ?_
    refine dg_l (fun _ _ _ _ _ _ _ hC => r_iconst hC dX0_least_10 ki_0) ?_
    refine dg_l (fun _ _ _ _ _ _ _ hC => r_sipush hC dX0_least_11 ks_1000) ?_
    obtain ⟨p4, h4, hf⟩ := dh_bd hf
    refine g_callS (cG_X0_isIn _ E Mo G x3 0 1000 h4) q261 qG_X0_isIn (Nat.le_of_ble_eq_true rfl) (Nat.le_of_ble_eq_true rfl) rfl (dj_cat8 (Nat.le_of_ble_eq_true rfl)) dX0_least_14 ?_
    refine dg_bn (fun _ _ _ _ _ _ _ hC => r_if_ne hC dX0_least_17 (tgt := 22) (by decide)) (fun c5 => ?_) (fun c5 => ?_)
    · have hf := dh_el hf c5
      refine g_aload_n dX0_least_22 rfl (j := 0) rfl ?_
      obtain ⟨v6, h6, hf⟩ := dh_bd hf
      refine g_getR fR_X0_10 (by decide) h6 dX0_least_23 ?_
      obtain ⟨v7, h7, hf⟩ := dh_bd hf
      refine g_getR fR_X0_374 (by decide) h7 dX0_least_26 ?_
      refine dg_l (fun _ _ _ _ _ _ _ hC => r_iload_n hC dX0_least_29 rfl (j := 1) rfl) ?_
      obtain ⟨v8, h8, hf⟩ := dh_bd hf
      refine g_aald 6 (by decide) (by decide) rfl rfl h8 dX0_least_30 ?_
      refine dg_l (fun _ _ _ _ _ _ _ hC => r_iload_n hC dX0_least_31 rfl (j := 2) rfl) ?_
      refine dg_l (fun _ _ _ _ _ _ _ hC => r_iload_n hC dX0_least_32 rfl (j := 3) rfl) ?_
      obtain ⟨G9, h9, hf⟩ := dh_bd hf
      refine g_iast h9 dX0_least_33 ?_
      refine dg_l (fun _ _ _ _ _ _ _ hC => r_iconst hC dX0_least_34 ki_1) ?_
      exact g_zret dX0_least_35 rfl rfl hf
    · have hf := dh_if hf c5
      refine dg_l (fun _ _ _ _ _ _ _ hC => r_iconst hC dX0_least_20 ki_0) ?_
      exact g_zret dX0_least_21 rfl rfl hf
theorem cG_X0_least (l : Launch) (E : dj_E) (Mo : Option dm_M) (G : dg_G) (x0 : Nat) (x1 : Int32) (x2 : Int32) (x3 : Int32) {p : Int32 × dg_G} (h : gG_X0_least G x0 x1 x2 x3 = some p) : dg_Met l yX0_least cX0_least 4 (some .boolean) 3 65 E Mo [dj_v E x0, .int x1, .int x2, .int x3] G (some (.int p.1)) p.2 :=
  dg_met (plainFor_of_name (by decide)) (by simp only [lg_sl_ref, lg_sl_int, lg_sl_long, lg_sl_nil]; decide) (by simp only [lv_args_ref, lv_args_int, lv_args_long, lv_args_nil]) (wG_X0_least G x0 x1 x2 x3 h)
theorem qG_X0_least : dg_cV "DebtorsHouse" yX0_least cX0_least 4 (some .boolean) 3 := ⟨q1223, Or.inl q1224, q81, q1225, by decide, by decide, by decide +kernel⟩
/-! DebtorsHouse.binds(IIIJZII)Z -/
abbrev tG_X0_binds_2 : dg_T := (cX0_binds_2, 16, RX0, (some .boolean), 5, 106, "binds", [])
def gG_X0_binds_2_L164_F (k164 : (dg_G → Nat → Int32 → Int32 → Int32 → Int32 → Int32 → Int64 → Int64 → Int32 → Int32 → Int32 → Option (Int32 × dg_G))) (G : dg_G) (x0 : Nat) (x1 : Int32) (x2 : Int32) (x3 : Int32) (x7 : Int32) (x8 : Int32) (x9 : Int64) (x11 : Int64) (x13 : Int32) (x14 : Int32) (x15 : Int32) : Option (Int32 × dg_G) :=
  if 12 ≤ x15 then (
    if x13 ≤ 0 then (
      some (0, G))
    else
    if (100 * x14) < (x7 * x13) then (
      some (0, G))
    else
    if (lg_cmp (100 * x11) ((Int32.toInt64 x8) * x9)) < 0 then (
      some (0, G))
    else
    some (1, G))
  else
  (dg_gR G 1 5 x0).bind fun v14 =>
  (dg_ld G 52 v14 x15).bind fun v15 =>
  if v15 = 0 then (
    k164 G x0 x1 x2 x3 x7 x8 x9 x11 x13 x14 (x15 + 1))
  else
  (dg_gR G 1 4 x0).bind fun v17 =>
  (dg_ldL G v17 x15).bind fun v18 =>
  if x15 = x3 then (
    (dg_gR G 1 4 x0).bind fun v20 =>
    (dg_ldL G v20 x15).bind fun v21 =>
    k164 G x0 x1 x2 x3 x7 x8 (x9 + v18) (x11 + v21) (x13 + 1) (x14 + 1) (x15 + 1))
  else
  (dg_gR G 1 0 x0).bind fun v22 =>
  (dg_gR G 2 11 v22).bind fun v23 =>
  (dg_ldR G 56 v23 x15).bind fun v24 =>
  (dg_ld G 50 v24 x1).bind fun v25 =>
  if ¬ (v25 ≤ x2) then (
    k164 G x0 x1 x2 x3 x7 x8 (x9 + v18) x11 (x13 + 1) x14 (x15 + 1))
  else
  (dg_gR G 1 4 x0).bind fun v27 =>
  (dg_ldL G v27 x15).bind fun v28 =>
  k164 G x0 x1 x2 x3 x7 x8 (x9 + v18) (x11 + v28) (x13 + 1) (x14 + 1) (x15 + 1)
theorem wG_X0_binds_2_L164_F {l : Launch} {E : dj_E} {Mo : Option dm_M} {r : Int32} {G' : dg_G} (k164 : (dg_G → Nat → Int32 → Int32 → Int32 → Int32 → Int32 → Int64 → Int64 → Int32 → Int32 → Int32 → Option (Int32 × dg_G))) (hk164 : ∀ (G : dg_G) (x0 : Nat) (x1 : Int32) (x2 : Int32) (x3 : Int32) (x7 : Int32) (x8 : Int32) (x9 : Int64) (x11 : Int64) (x13 : Int32) (x14 : Int32) (x15 : Int32), k164 G x0 x1 x2 x3 x7 x8 x9 x11 x13 x14 x15 = some (r, G') → dgW tG_X0_binds_2 l E Mo G' (.inr (some (.int r))) G 164 [(0, dj_v E x0), (1, .int x1), (2, .int x2), (3, .int x3), (7, .int x7), (8, .int x8), (9, .long x9), (11, .long x11), (13, .int x13), (14, .int x14), (15, .int x15)] []) (G : dg_G) (x0 : Nat) (x1 : Int32) (x2 : Int32) (x3 : Int32) (x7 : Int32) (x8 : Int32) (x9 : Int64) (x11 : Int64) (x13 : Int32) (x14 : Int32) (x15 : Int32) (hf : gG_X0_binds_2_L164_F k164 G x0 x1 x2 x3 x7 x8 x9 x11 x13 x14 x15 = some (r, G')) : dgW tG_X0_binds_2 l E Mo G' (.inr (some (.int r))) G 164 [(0, dj_v E x0), (1, .int x1), (2, .int x2), (3, .int x3), (7, .int x7), (8, .int x8), (9, .long x9), (11, .long x11), (13, .int x13), (14, .int x14), (15, .int x15)] [] := by
  unfold gG_X0_binds_2_L164_F at hf
  refine dg_l (fun _ _ _ _ _ _ _ hC => r_iload hC dX0_binds_2_164 (j := 10) rfl) ?_
  refine dg_l (fun _ _ _ _ _ _ _ hC => r_bipush hC dX0_binds_2_166 kb_12) ?_
  refine dg_b (fun _ _ _ _ _ _ _ hC => r_icmp_ge hC dX0_binds_2_168 (tgt := 245) (by decide)) (fun c10 => ?_) (fun c10 => ?_)
  · have hf := dh_if hf c10
    refine dg_l (fun _ _ _ _ _ _ _ hC => r_iload hC dX0_binds_2_245 (j := 8) rfl) ?_
    refine dg_b (fun _ _ _ _ _ _ _ hC => r_if_le hC dX0_binds_2_247 (tgt := 283) (by decide)) (fun c11 => ?_) (fun c11 => ?_)
    · have hf := dh_if hf c11
      refine dg_l (fun _ _ _ _ _ _ _ hC => r_iconst hC dX0_binds_2_283 ki_0) ?_
      exact g_zret dX0_binds_2_284 rfl rfl hf
    · have hf := dh_el hf c11
      refine dg_l (fun _ _ _ _ _ _ _ hC => r_bipush hC dX0_binds_2_250 kb_100) ?_
      refine dg_l (fun _ _ _ _ _ _ _ hC => r_iload hC dX0_binds_2_252 (j := 9) rfl) ?_
      refine dg_l (fun _ _ _ _ _ _ _ hC => r_imul hC dX0_binds_2_254) ?_
      refine dg_l (fun _ _ _ _ _ _ _ hC => r_iload hC dX0_binds_2_255 (j := 4) rfl) ?_
      refine dg_l (fun _ _ _ _ _ _ _ hC => r_iload hC dX0_binds_2_257 (j := 8) rfl) ?_
      refine dg_l (fun _ _ _ _ _ _ _ hC => r_imul hC dX0_binds_2_259) ?_
      refine dg_b (fun _ _ _ _ _ _ _ hC => r_icmp_lt hC dX0_binds_2_260 (tgt := 283) (by decide)) (fun c12 => ?_) (fun c12 => ?_)
      · have hf := dh_if hf c12
        refine dg_l (fun _ _ _ _ _ _ _ hC => r_iconst hC dX0_binds_2_283 ki_0) ?_
        exact g_zret dX0_binds_2_284 rfl rfl hf
      · have hf := dh_el hf c12
        refine dg_l (fun _ _ _ _ _ _ _ hC => r_ldc2 hC q1248 dX0_binds_2_263) ?_
        refine dg_l (fun _ _ _ _ _ _ _ hC => r_lload hC dX0_binds_2_266 (j := 7) rfl) ?_
        refine dg_l (fun _ _ _ _ _ _ _ hC => r_lmul hC dX0_binds_2_268) ?_
        refine dg_l (fun _ _ _ _ _ _ _ hC => r_iload hC dX0_binds_2_269 (j := 5) rfl) ?_
        refine dg_l (fun _ _ _ _ _ _ _ hC => r_i2l hC dX0_binds_2_271) ?_
        refine dg_l (fun _ _ _ _ _ _ _ hC => r_lload hC dX0_binds_2_272 (j := 6) rfl) ?_
        refine dg_l (fun _ _ _ _ _ _ _ hC => r_lmul hC dX0_binds_2_274) ?_
        refine dg_l (fun _ _ _ _ _ _ _ hC => r_lcmp hC dX0_binds_2_275) ?_
        refine dg_b (fun _ _ _ _ _ _ _ hC => r_if_lt hC dX0_binds_2_276 (tgt := 283) (by decide)) (fun c13 => ?_) (fun c13 => ?_)
        · have hf := dh_if hf c13
          refine dg_l (fun _ _ _ _ _ _ _ hC => r_iconst hC dX0_binds_2_283 ki_0) ?_
          exact g_zret dX0_binds_2_284 rfl rfl hf
        · have hf := dh_el hf c13
          refine dg_l (fun _ _ _ _ _ _ _ hC => r_iconst hC dX0_binds_2_279 ki_1) ?_
          refine dg_l (fun _ _ _ _ _ _ _ hC => r_goto hC dX0_binds_2_280 (tgt := 284) (by decide)) ?_
          exact g_zret dX0_binds_2_284 rfl rfl hf
  · have hf := dh_el hf c10
    refine g_aload_n dX0_binds_2_171 rfl (j := 0) rfl ?_
    obtain ⟨v14, h14, hf⟩ := dh_bd hf
    refine g_getR fR_X0_35 (by decide) h14 dX0_binds_2_172 ?_
    refine dg_l (fun _ _ _ _ _ _ _ hC => r_iload hC dX0_binds_2_175 (j := 10) rfl) ?_
    obtain ⟨v15, h15, hf⟩ := dh_bd hf
    refine g_zald h15 dX0_binds_2_177 ?_
    refine dg_bn (fun _ _ _ _ _ _ _ hC => r_if_ne hC dX0_binds_2_178 (tgt := 184) (by decide)) (fun c16 => ?_) (fun c16 => ?_)
    · have hf := dh_el hf c16
      refine dg_l (fun _ _ _ _ _ _ _ hC => r_iinc (lv' := [(13, .int (x13 + 1)), (0, dj_v E x0), (1, .int x1), (2, .int x2), (3, .int x3), (7, .int x7), (8, .int x8), (9, .long x9), (11, .long x11), (14, .int x14), (15, .int x15)]) hC dX0_binds_2_184 (j := 8) rfl (congrArg _ ki_1) (Nat.le_of_ble_eq_true rfl) rfl) ?_
      refine dg_l (fun _ _ _ _ _ _ _ hC => r_lload hC dX0_binds_2_187 (j := 7) rfl) ?_
      refine g_aload_n dX0_binds_2_189 rfl (j := 1) rfl ?_
      obtain ⟨v17, h17, hf⟩ := dh_bd hf
      refine g_getR fR_X0_31 (by decide) h17 dX0_binds_2_190 ?_
      refine dg_l (fun _ _ _ _ _ _ _ hC => r_iload hC dX0_binds_2_193 (j := 10) rfl) ?_
      obtain ⟨v18, h18, hf⟩ := dh_bd hf
      refine g_lald h18 dX0_binds_2_195 ?_
      refine dg_l (fun _ _ _ _ _ _ _ hC => r_ladd hC dX0_binds_2_196) ?_
      refine dg_l (fun _ _ _ _ _ _ _ hC => r_lstore (lv' := [(9, .long (x9 + v18)), (13, .int (x13 + 1)), (0, dj_v E x0), (1, .int x1), (2, .int x2), (3, .int x3), (7, .int x7), (8, .int x8), (11, .long x11), (14, .int x14), (15, .int x15)]) hC dX0_binds_2_197 (Nat.le_of_ble_eq_true rfl) rfl) ?_
      refine dg_l (fun _ _ _ _ _ _ _ hC => r_iload hC dX0_binds_2_199 (j := 10) rfl) ?_
      refine dg_l (fun _ _ _ _ _ _ _ hC => r_iload_n hC dX0_binds_2_201 rfl (j := 5) rfl) ?_
      refine dg_b (fun _ _ _ _ _ _ _ hC => r_icmp_eq hC dX0_binds_2_202 (tgt := 224) (by decide)) (fun c19 => ?_) (fun c19 => ?_)
      · have hf := dh_if hf c19
        refine dg_l (fun _ _ _ _ _ _ _ hC => r_iinc (lv' := [(14, .int (x14 + 1)), (9, .long (x9 + v18)), (13, .int (x13 + 1)), (0, dj_v E x0), (1, .int x1), (2, .int x2), (3, .int x3), (7, .int x7), (8, .int x8), (11, .long x11), (15, .int x15)]) hC dX0_binds_2_224 (j := 9) rfl (congrArg _ ki_1) (Nat.le_of_ble_eq_true rfl) rfl) ?_
        refine dg_l (fun _ _ _ _ _ _ _ hC => r_lload hC dX0_binds_2_227 (j := 9) rfl) ?_
        refine g_aload_n dX0_binds_2_229 rfl (j := 3) rfl ?_
        obtain ⟨v20, h20, hf⟩ := dh_bd hf
        refine g_getR fR_X0_31 (by decide) h20 dX0_binds_2_230 ?_
        refine dg_l (fun _ _ _ _ _ _ _ hC => r_iload hC dX0_binds_2_233 (j := 10) rfl) ?_
        obtain ⟨v21, h21, hf⟩ := dh_bd hf
        refine g_lald h21 dX0_binds_2_235 ?_
        refine dg_l (fun _ _ _ _ _ _ _ hC => r_ladd hC dX0_binds_2_236) ?_
        refine dg_l (fun _ _ _ _ _ _ _ hC => r_lstore (lv' := [(11, .long (x11 + v21)), (14, .int (x14 + 1)), (9, .long (x9 + v18)), (13, .int (x13 + 1)), (0, dj_v E x0), (1, .int x1), (2, .int x2), (3, .int x3), (7, .int x7), (8, .int x8), (15, .int x15)]) hC dX0_binds_2_237 (Nat.le_of_ble_eq_true rfl) rfl) ?_
        refine dg_l (fun _ _ _ _ _ _ _ hC => r_iinc (lv' := [(15, .int (x15 + 1)), (11, .long (x11 + v21)), (14, .int (x14 + 1)), (9, .long (x9 + v18)), (13, .int (x13 + 1)), (0, dj_v E x0), (1, .int x1), (2, .int x2), (3, .int x3), (7, .int x7), (8, .int x8)]) hC dX0_binds_2_239 (j := 10) rfl (congrArg _ ki_1) (Nat.le_of_ble_eq_true rfl) rfl) ?_
        refine dg_l (fun _ _ _ _ _ _ _ hC => r_goto hC dX0_binds_2_242 (tgt := 164) (by decide)) ?_
        exact g_sub [5, 6, 7, 8, 9, 10, 3, 1, 4, 2, 0] rfl (hk164 G x0 x1 x2 x3 x7 x8 (x9 + v18) (x11 + v21) (x13 + 1) (x14 + 1) (x15 + 1) hf)
      · have hf := dh_el hf c19
        refine dg_l (fun _ _ _ _ _ _ _ hC => r_iload_n hC dX0_binds_2_205 rfl (j := 4) rfl) ?_
        refine g_aload_n dX0_binds_2_206 rfl (j := 2) rfl ?_
        obtain ⟨v22, h22, hf⟩ := dh_bd hf
        refine g_getR fR_X0_10 (by decide) h22 dX0_binds_2_207 ?_
        obtain ⟨v23, h23, hf⟩ := dh_bd hf
        refine g_getR fR_X0_374 (by decide) h23 dX0_binds_2_210 ?_
        refine dg_l (fun _ _ _ _ _ _ _ hC => r_iload hC dX0_binds_2_213 (j := 10) rfl) ?_
        obtain ⟨v24, h24, hf⟩ := dh_bd hf
        refine g_aald 6 (by decide) (by decide) rfl rfl h24 dX0_binds_2_215 ?_
        refine dg_l (fun _ _ _ _ _ _ _ hC => r_iload_n hC dX0_binds_2_216 rfl (j := 3) rfl) ?_
        obtain ⟨v25, h25, hf⟩ := dh_bd hf
        refine g_iald h25 dX0_binds_2_217 ?_
        refine dg_b (fun _ _ _ _ _ _ _ hC => r_icmp_ge hC dX0_binds_2_218 (tgt := 224) (by decide)) (fun c26 => ?_) (fun c26 => ?_)
        · have hf := dh_el hf (fun q => q c26)
          refine dg_l (fun _ _ _ _ _ _ _ hC => r_iinc (lv' := [(14, .int (x14 + 1)), (9, .long (x9 + v18)), (13, .int (x13 + 1)), (0, dj_v E x0), (1, .int x1), (2, .int x2), (3, .int x3), (7, .int x7), (8, .int x8), (11, .long x11), (15, .int x15)]) hC dX0_binds_2_224 (j := 9) rfl (congrArg _ ki_1) (Nat.le_of_ble_eq_true rfl) rfl) ?_
          refine dg_l (fun _ _ _ _ _ _ _ hC => r_lload hC dX0_binds_2_227 (j := 9) rfl) ?_
          refine g_aload_n dX0_binds_2_229 rfl (j := 3) rfl ?_
          obtain ⟨v27, h27, hf⟩ := dh_bd hf
          refine g_getR fR_X0_31 (by decide) h27 dX0_binds_2_230 ?_
          refine dg_l (fun _ _ _ _ _ _ _ hC => r_iload hC dX0_binds_2_233 (j := 10) rfl) ?_
          obtain ⟨v28, h28, hf⟩ := dh_bd hf
          refine g_lald h28 dX0_binds_2_235 ?_
          refine dg_l (fun _ _ _ _ _ _ _ hC => r_ladd hC dX0_binds_2_236) ?_
          refine dg_l (fun _ _ _ _ _ _ _ hC => r_lstore (lv' := [(11, .long (x11 + v28)), (14, .int (x14 + 1)), (9, .long (x9 + v18)), (13, .int (x13 + 1)), (0, dj_v E x0), (1, .int x1), (2, .int x2), (3, .int x3), (7, .int x7), (8, .int x8), (15, .int x15)]) hC dX0_binds_2_237 (Nat.le_of_ble_eq_true rfl) rfl) ?_
          refine dg_l (fun _ _ _ _ _ _ _ hC => r_iinc (lv' := [(15, .int (x15 + 1)), (11, .long (x11 + v28)), (14, .int (x14 + 1)), (9, .long (x9 + v18)), (13, .int (x13 + 1)), (0, dj_v E x0), (1, .int x1), (2, .int x2), (3, .int x3), (7, .int x7), (8, .int x8)]) hC dX0_binds_2_239 (j := 10) rfl (congrArg _ ki_1) (Nat.le_of_ble_eq_true rfl) rfl) ?_
          refine dg_l (fun _ _ _ _ _ _ _ hC => r_goto hC dX0_binds_2_242 (tgt := 164) (by decide)) ?_
          exact g_sub [5, 6, 7, 8, 9, 10, 3, 1, 4, 2, 0] rfl (hk164 G x0 x1 x2 x3 x7 x8 (x9 + v18) (x11 + v28) (x13 + 1) (x14 + 1) (x15 + 1) hf)
        · have hf := dh_if hf c26
          refine dg_l (fun _ _ _ _ _ _ _ hC => r_goto hC dX0_binds_2_221 (tgt := 239) (by decide)) ?_
          refine dg_l (fun _ _ _ _ _ _ _ hC => r_iinc (lv' := [(15, .int (x15 + 1)), (9, .long (x9 + v18)), (13, .int (x13 + 1)), (0, dj_v E x0), (1, .int x1), (2, .int x2), (3, .int x3), (7, .int x7), (8, .int x8), (11, .long x11), (14, .int x14)]) hC dX0_binds_2_239 (j := 10) rfl (congrArg _ ki_1) (Nat.le_of_ble_eq_true rfl) rfl) ?_
          refine dg_l (fun _ _ _ _ _ _ _ hC => r_goto hC dX0_binds_2_242 (tgt := 164) (by decide)) ?_
          exact g_sub [3, 4, 5, 6, 7, 8, 1, 9, 2, 10, 0] rfl (hk164 G x0 x1 x2 x3 x7 x8 (x9 + v18) x11 (x13 + 1) x14 (x15 + 1) hf)
    · have hf := dh_if hf c16
      refine dg_l (fun _ _ _ _ _ _ _ hC => r_goto hC dX0_binds_2_181 (tgt := 239) (by decide)) ?_
      refine dg_l (fun _ _ _ _ _ _ _ hC => r_iinc (lv' := [(15, .int (x15 + 1)), (0, dj_v E x0), (1, .int x1), (2, .int x2), (3, .int x3), (7, .int x7), (8, .int x8), (9, .long x9), (11, .long x11), (13, .int x13), (14, .int x14)]) hC dX0_binds_2_239 (j := 10) rfl (congrArg _ ki_1) (Nat.le_of_ble_eq_true rfl) rfl) ?_
      refine dg_l (fun _ _ _ _ _ _ _ hC => r_goto hC dX0_binds_2_242 (tgt := 164) (by decide)) ?_
      exact g_sub [1, 2, 3, 4, 5, 6, 7, 8, 9, 10, 0] rfl (hk164 G x0 x1 x2 x3 x7 x8 x9 x11 x13 x14 (x15 + 1) hf)
def gG_X0_binds_2_L164 : Nat → dg_G → Nat → Int32 → Int32 → Int32 → Int32 → Int32 → Int64 → Int64 → Int32 → Int32 → Int32 → Option (Int32 × dg_G)
  | 0 => fun _ _ _ _ _ _ _ _ _ _ _ _ => none
  | n + 1 => gG_X0_binds_2_L164_F (gG_X0_binds_2_L164 n)
theorem wG_X0_binds_2_L164 {l : Launch} {E : dj_E} {Mo : Option dm_M} {r : Int32} {G' : dg_G} : ∀ (n : Nat) (G : dg_G) (x0 : Nat) (x1 : Int32) (x2 : Int32) (x3 : Int32) (x7 : Int32) (x8 : Int32) (x9 : Int64) (x11 : Int64) (x13 : Int32) (x14 : Int32) (x15 : Int32) (_ : gG_X0_binds_2_L164 n G x0 x1 x2 x3 x7 x8 x9 x11 x13 x14 x15 = some (r, G')), dgW tG_X0_binds_2 l E Mo G' (.inr (some (.int r))) G 164 [(0, dj_v E x0), (1, .int x1), (2, .int x2), (3, .int x3), (7, .int x7), (8, .int x8), (9, .long x9), (11, .long x11), (13, .int x13), (14, .int x14), (15, .int x15)] [] := by
  intro n
  induction n with
  | zero => intro G x0 x1 x2 x3 x7 x8 x9 x11 x13 x14 x15 hf; exact dh_no hf
  | succ n ih => intro G x0 x1 x2 x3 x7 x8 x9 x11 x13 x14 x15 hf; exact wG_X0_binds_2_L164_F (gG_X0_binds_2_L164 n) ih G x0 x1 x2 x3 x7 x8 x9 x11 x13 x14 x15 hf
def gG_X0_binds_2_b116 (k19 : (dg_G → Nat → Int32 → Int32 → Int32 → Int64 → Int32 → Int32 → Int32 → Int32 → Option (Int32 × dg_G))) (G : dg_G) (x0 : Nat) (x1 : Int32) (x2 : Int32) (x3 : Int32) (x4 : Int64) (x6 : Int32) (x7 : Int32) (x8 : Int32) (x9 : Int32) (y0 : Int32) : Option (Int32 × dg_G) :=
  (dg_gR G 1 4 x0).bind fun v42 =>
  (dg_ldL G v42 y0).bind fun v43 =>
  (dg_is G 1 x0).bind fun u44 =>
  (gG_X0_due G x0 x9).bind fun p45 =>
  (dg_stL G v42 y0 (v43 + (Int32.toInt64 p45))).bind fun G46 =>
  (dg_gR G46 1 5 x0).bind fun v47 =>
  (dg_st G46 52 v47 y0 (vp_nar .boolean 1)).bind fun G48 =>
  k19 G48 x0 x1 x2 x3 x4 x6 x7 x8 (x9 + 1)
theorem wG_X0_binds_2_b116 {l : Launch} {E : dj_E} {Mo : Option dm_M} {r : Int32} {G' : dg_G} (k19 : (dg_G → Nat → Int32 → Int32 → Int32 → Int64 → Int32 → Int32 → Int32 → Int32 → Option (Int32 × dg_G))) (hk19 : ∀ (G : dg_G) (x0 : Nat) (x1 : Int32) (x2 : Int32) (x3 : Int32) (x4 : Int64) (x6 : Int32) (x7 : Int32) (x8 : Int32) (x9 : Int32), k19 G x0 x1 x2 x3 x4 x6 x7 x8 x9 = some (r, G') → dgW tG_X0_binds_2 l E Mo G' (.inr (some (.int r))) G 19 [(0, dj_v E x0), (1, .int x1), (2, .int x2), (3, .int x3), (4, .long x4), (6, .int x6), (7, .int x7), (8, .int x8), (9, .int x9)] []) (G : dg_G) (x0 : Nat) (x1 : Int32) (x2 : Int32) (x3 : Int32) (x4 : Int64) (x6 : Int32) (x7 : Int32) (x8 : Int32) (x9 : Int32) (y0 : Int32) (hf : gG_X0_binds_2_b116 k19 G x0 x1 x2 x3 x4 x6 x7 x8 x9 y0 = some (r, G')) : dgW tG_X0_binds_2 l E Mo G' (.inr (some (.int r))) G 116 [(0, dj_v E x0), (1, .int x1), (2, .int x2), (3, .int x3), (4, .long x4), (6, .int x6), (7, .int x7), (8, .int x8), (9, .int x9)] [.int y0] := by
  unfold gG_X0_binds_2_b116 at hf
  refine dg_l (fun _ _ _ _ _ _ _ hC => r_istore (lv' := [(12, .int y0), (0, dj_v E x0), (1, .int x1), (2, .int x2), (3, .int x3), (4, .long x4), (6, .int x6), (7, .int x7), (8, .int x8), (9, .int x9)]) hC dX0_binds_2_116 (Nat.le_of_ble_eq_true rfl) rfl) ?_
  refine g_aload_n dX0_binds_2_118 rfl (j := 1) rfl ?_
  obtain ⟨v42, h42, hf⟩ := dh_bd hf
  refine g_getR fR_X0_31 (by decide) h42 dX0_binds_2_119 ?_
  refine dg_l (fun _ _ _ _ _ _ _ hC => r_iload hC dX0_binds_2_122 (j := 0) rfl) ?_
  refine dg_l (fun _ _ _ _ _ _ _ hC => r_dup2_11 hC dX0_binds_2_124 rfl (dj_cat E _)) ?_
  obtain ⟨v43, h43, hf⟩ := dh_bd hf
  refine g_lald h43 dX0_binds_2_125 ?_
  refine g_aload_n dX0_binds_2_126 rfl (j := 1) rfl ?_
  refine dg_l (fun _ _ _ _ _ _ _ hC => r_iload hC dX0_binds_2_127 (j := 9) rfl) ?_
  obtain ⟨u44, h44, hf⟩ := dh_bd hf
  obtain ⟨p45, h45, hf⟩ := dh_bd hf
  refine g_callV (rc_O (ci := 1) rfl h44) (cG_X0_due _ E Mo G x0 x9 h45) q507 qG_X0_due (Nat.le_of_ble_eq_true rfl) (Nat.le_of_ble_eq_true rfl) rfl (dj_cat8 (Nat.le_of_ble_eq_true rfl)) dX0_binds_2_129 ?_
  refine dg_l (fun _ _ _ _ _ _ _ hC => r_i2l hC dX0_binds_2_132) ?_
  refine dg_l (fun _ _ _ _ _ _ _ hC => r_ladd hC dX0_binds_2_133) ?_
  obtain ⟨G46, h46, hf⟩ := dh_bd hf
  refine g_last h46 dX0_binds_2_134 ?_
  refine g_aload_n dX0_binds_2_135 rfl (j := 1) rfl ?_
  obtain ⟨v47, h47, hf⟩ := dh_bd hf
  refine g_getR fR_X0_35 (by decide) h47 dX0_binds_2_136 ?_
  refine dg_l (fun _ _ _ _ _ _ _ hC => r_iload hC dX0_binds_2_139 (j := 0) rfl) ?_
  refine dg_l (fun _ _ _ _ _ _ _ hC => r_iconst hC dX0_binds_2_141 ki_1) ?_
  obtain ⟨G48, h48, hf⟩ := dh_bd hf
  refine g_zast h48 dX0_binds_2_142 ?_
  refine dg_l (fun _ _ _ _ _ _ _ hC => r_iinc (lv' := [(9, .int (x9 + 1)), (12, .int y0), (0, dj_v E x0), (1, .int x1), (2, .int x2), (3, .int x3), (4, .long x4), (6, .int x6), (7, .int x7), (8, .int x8)]) hC dX0_binds_2_143 (j := 9) rfl (congrArg _ ki_1) (Nat.le_of_ble_eq_true rfl) rfl) ?_
  refine dg_l (fun _ _ _ _ _ _ _ hC => r_goto hC dX0_binds_2_146 (tgt := 19) (by decide)) ?_
  exact g_sub [2, 3, 4, 5, 6, 7, 8, 9, 0] rfl (hk19 G48 x0 x1 x2 x3 x4 x6 x7 x8 (x9 + 1) hf)
def gG_X0_binds_2_b102 (k19 : (dg_G → Nat → Int32 → Int32 → Int32 → Int64 → Int32 → Int32 → Int32 → Int32 → Option (Int32 × dg_G))) (G : dg_G) (x0 : Nat) (x1 : Int32) (x2 : Int32) (x3 : Int32) (x4 : Int64) (x6 : Int32) (x7 : Int32) (x8 : Int32) (x9 : Int32) (x10 : Nat) (x11 : Int32) : Option (Int32 × dg_G) :=
  if ¬ (x11 = 0) then (
    gG_X0_binds_2_b116 k19 G x0 x1 x2 x3 x4 x6 x7 x8 x9 x3)
  else
  (dg_gI G 4 7 x10).bind fun v41 =>
  gG_X0_binds_2_b116 k19 G x0 x1 x2 x3 x4 x6 x7 x8 x9 v41
theorem wG_X0_binds_2_b102 {l : Launch} {E : dj_E} {Mo : Option dm_M} {r : Int32} {G' : dg_G} (k19 : (dg_G → Nat → Int32 → Int32 → Int32 → Int64 → Int32 → Int32 → Int32 → Int32 → Option (Int32 × dg_G))) (hk19 : ∀ (G : dg_G) (x0 : Nat) (x1 : Int32) (x2 : Int32) (x3 : Int32) (x4 : Int64) (x6 : Int32) (x7 : Int32) (x8 : Int32) (x9 : Int32), k19 G x0 x1 x2 x3 x4 x6 x7 x8 x9 = some (r, G') → dgW tG_X0_binds_2 l E Mo G' (.inr (some (.int r))) G 19 [(0, dj_v E x0), (1, .int x1), (2, .int x2), (3, .int x3), (4, .long x4), (6, .int x6), (7, .int x7), (8, .int x8), (9, .int x9)] []) (G : dg_G) (x0 : Nat) (x1 : Int32) (x2 : Int32) (x3 : Int32) (x4 : Int64) (x6 : Int32) (x7 : Int32) (x8 : Int32) (x9 : Int32) (x10 : Nat) (x11 : Int32) (hf : gG_X0_binds_2_b102 k19 G x0 x1 x2 x3 x4 x6 x7 x8 x9 x10 x11 = some (r, G')) : dgW tG_X0_binds_2 l E Mo G' (.inr (some (.int r))) G 102 [(0, dj_v E x0), (1, .int x1), (2, .int x2), (3, .int x3), (4, .long x4), (6, .int x6), (7, .int x7), (8, .int x8), (9, .int x9), (10, dj_v E x10), (11, .int x11)] [] := by
  unfold gG_X0_binds_2_b102 at hf
  refine dg_l (fun _ _ _ _ _ _ _ hC => r_iload hC dX0_binds_2_102 (j := 10) rfl) ?_
  refine dg_b (fun _ _ _ _ _ _ _ hC => r_if_eq hC dX0_binds_2_104 (tgt := 111) (by decide)) (fun c40 => ?_) (fun c40 => ?_)
  · have hf := dh_el hf (fun q => q c40)
    refine g_aload dX0_binds_2_111 (j := 9) rfl ?_
    obtain ⟨v41, h41, hf⟩ := dh_bd hf
    refine g_getI fR_X0_131 (by decide) h41 dX0_binds_2_113 ?_
    exact g_sub [0, 1, 2, 3, 4, 5, 6, 7, 8] rfl (wG_X0_binds_2_b116 k19 hk19 G x0 x1 x2 x3 x4 x6 x7 x8 x9 v41 hf)
  · have hf := dh_if hf c40
    refine dg_l (fun _ _ _ _ _ _ _ hC => r_iload_n hC dX0_binds_2_107 rfl (j := 3) rfl) ?_
    refine dg_l (fun _ _ _ _ _ _ _ hC => r_goto hC dX0_binds_2_108 (tgt := 116) (by decide)) ?_
    exact g_sub [0, 1, 2, 3, 4, 5, 6, 7, 8] rfl (wG_X0_binds_2_b116 k19 hk19 G x0 x1 x2 x3 x4 x6 x7 x8 x9 x3 hf)
def gG_X0_binds_2_b94 (k19 : (dg_G → Nat → Int32 → Int32 → Int32 → Int64 → Int32 → Int32 → Int32 → Int32 → Option (Int32 × dg_G))) (G : dg_G) (x0 : Nat) (x1 : Int32) (x2 : Int32) (x3 : Int32) (x4 : Int64) (x6 : Int32) (x7 : Int32) (x8 : Int32) (x9 : Int32) (x10 : Nat) (x11 : Int32) : Option (Int32 × dg_G) :=
  if x6 = 0 then (
    k19 G x0 x1 x2 x3 x4 x6 x7 x8 (x9 + 1))
  else
  gG_X0_binds_2_b102 k19 G x0 x1 x2 x3 x4 x6 x7 x8 x9 x10 x11
theorem wG_X0_binds_2_b94 {l : Launch} {E : dj_E} {Mo : Option dm_M} {r : Int32} {G' : dg_G} (k19 : (dg_G → Nat → Int32 → Int32 → Int32 → Int64 → Int32 → Int32 → Int32 → Int32 → Option (Int32 × dg_G))) (hk19 : ∀ (G : dg_G) (x0 : Nat) (x1 : Int32) (x2 : Int32) (x3 : Int32) (x4 : Int64) (x6 : Int32) (x7 : Int32) (x8 : Int32) (x9 : Int32), k19 G x0 x1 x2 x3 x4 x6 x7 x8 x9 = some (r, G') → dgW tG_X0_binds_2 l E Mo G' (.inr (some (.int r))) G 19 [(0, dj_v E x0), (1, .int x1), (2, .int x2), (3, .int x3), (4, .long x4), (6, .int x6), (7, .int x7), (8, .int x8), (9, .int x9)] []) (G : dg_G) (x0 : Nat) (x1 : Int32) (x2 : Int32) (x3 : Int32) (x4 : Int64) (x6 : Int32) (x7 : Int32) (x8 : Int32) (x9 : Int32) (x10 : Nat) (x11 : Int32) (hf : gG_X0_binds_2_b94 k19 G x0 x1 x2 x3 x4 x6 x7 x8 x9 x10 x11 = some (r, G')) : dgW tG_X0_binds_2 l E Mo G' (.inr (some (.int r))) G 94 [(0, dj_v E x0), (1, .int x1), (2, .int x2), (3, .int x3), (4, .long x4), (6, .int x6), (7, .int x7), (8, .int x8), (9, .int x9), (10, dj_v E x10), (11, .int x11)] [] := by
  unfold gG_X0_binds_2_b94 at hf
  refine dg_l (fun _ _ _ _ _ _ _ hC => r_iload hC dX0_binds_2_94 (j := 5) rfl) ?_
  refine dg_bn (fun _ _ _ _ _ _ _ hC => r_if_ne hC dX0_binds_2_96 (tgt := 102) (by decide)) (fun c39 => ?_) (fun c39 => ?_)
  · have hf := dh_el hf c39
    exact g_sub [0, 1, 2, 3, 4, 5, 6, 7, 8, 9, 10] rfl (wG_X0_binds_2_b102 k19 hk19 G x0 x1 x2 x3 x4 x6 x7 x8 x9 x10 x11 hf)
  · have hf := dh_if hf c39
    refine dg_l (fun _ _ _ _ _ _ _ hC => r_goto hC dX0_binds_2_99 (tgt := 143) (by decide)) ?_
    refine dg_l (fun _ _ _ _ _ _ _ hC => r_iinc (lv' := [(9, .int (x9 + 1)), (0, dj_v E x0), (1, .int x1), (2, .int x2), (3, .int x3), (4, .long x4), (6, .int x6), (7, .int x7), (8, .int x8), (10, dj_v E x10), (11, .int x11)]) hC dX0_binds_2_143 (j := 8) rfl (congrArg _ ki_1) (Nat.le_of_ble_eq_true rfl) rfl) ?_
    refine dg_l (fun _ _ _ _ _ _ _ hC => r_goto hC dX0_binds_2_146 (tgt := 19) (by decide)) ?_
    exact g_sub [1, 2, 3, 4, 5, 6, 7, 8, 0] rfl (hk19 G x0 x1 x2 x3 x4 x6 x7 x8 (x9 + 1) hf)
def gG_X0_binds_2_b79 (k19 : (dg_G → Nat → Int32 → Int32 → Int32 → Int64 → Int32 → Int32 → Int32 → Int32 → Option (Int32 × dg_G))) (G : dg_G) (x0 : Nat) (x1 : Int32) (x2 : Int32) (x3 : Int32) (x4 : Int64) (x6 : Int32) (x7 : Int32) (x8 : Int32) (x9 : Int32) (x10 : Nat) (y0 : Int32) : Option (Int32 × dg_G) :=
  (dg_gI G 4 14 x10).bind fun v37 =>
  if v37 = 0 then (
    if y0 = 0 then (
      gG_X0_binds_2_b102 k19 G x0 x1 x2 x3 x4 x6 x7 x8 x9 x10 y0)
    else
    gG_X0_binds_2_b94 k19 G x0 x1 x2 x3 x4 x6 x7 x8 x9 x10 y0)
  else
  gG_X0_binds_2_b94 k19 G x0 x1 x2 x3 x4 x6 x7 x8 x9 x10 y0
theorem wG_X0_binds_2_b79 {l : Launch} {E : dj_E} {Mo : Option dm_M} {r : Int32} {G' : dg_G} (k19 : (dg_G → Nat → Int32 → Int32 → Int32 → Int64 → Int32 → Int32 → Int32 → Int32 → Option (Int32 × dg_G))) (hk19 : ∀ (G : dg_G) (x0 : Nat) (x1 : Int32) (x2 : Int32) (x3 : Int32) (x4 : Int64) (x6 : Int32) (x7 : Int32) (x8 : Int32) (x9 : Int32), k19 G x0 x1 x2 x3 x4 x6 x7 x8 x9 = some (r, G') → dgW tG_X0_binds_2 l E Mo G' (.inr (some (.int r))) G 19 [(0, dj_v E x0), (1, .int x1), (2, .int x2), (3, .int x3), (4, .long x4), (6, .int x6), (7, .int x7), (8, .int x8), (9, .int x9)] []) (G : dg_G) (x0 : Nat) (x1 : Int32) (x2 : Int32) (x3 : Int32) (x4 : Int64) (x6 : Int32) (x7 : Int32) (x8 : Int32) (x9 : Int32) (x10 : Nat) (y0 : Int32) (hf : gG_X0_binds_2_b79 k19 G x0 x1 x2 x3 x4 x6 x7 x8 x9 x10 y0 = some (r, G')) : dgW tG_X0_binds_2 l E Mo G' (.inr (some (.int r))) G 79 [(0, dj_v E x0), (1, .int x1), (2, .int x2), (3, .int x3), (4, .long x4), (6, .int x6), (7, .int x7), (8, .int x8), (9, .int x9), (10, dj_v E x10)] [.int y0] := by
  unfold gG_X0_binds_2_b79 at hf
  refine dg_l (fun _ _ _ _ _ _ _ hC => r_istore (lv' := [(11, .int y0), (0, dj_v E x0), (1, .int x1), (2, .int x2), (3, .int x3), (4, .long x4), (6, .int x6), (7, .int x7), (8, .int x8), (9, .int x9), (10, dj_v E x10)]) hC dX0_binds_2_79 (Nat.le_of_ble_eq_true rfl) (by simp only [List.filter, dj_cat] <;> rfl)) ?_
  refine g_aload dX0_binds_2_81 (j := 10) rfl ?_
  obtain ⟨v37, h37, hf⟩ := dh_bd hf
  refine g_getI fR_X0_174 (by decide) h37 dX0_binds_2_83 ?_
  refine dg_bn (fun _ _ _ _ _ _ _ hC => r_if_ne hC dX0_binds_2_86 (tgt := 94) (by decide)) (fun c38 => ?_) (fun c38 => ?_)
  · have hf := dh_el hf c38
    exact g_sub [1, 2, 3, 4, 5, 6, 7, 8, 9, 10, 0] rfl (wG_X0_binds_2_b94 k19 hk19 G x0 x1 x2 x3 x4 x6 x7 x8 x9 x10 y0 hf)
  · have hf := dh_if hf c38
    refine dg_l (fun _ _ _ _ _ _ _ hC => r_iload hC dX0_binds_2_89 (j := 0) rfl) ?_
    refine dg_b (fun _ _ _ _ _ _ _ hC => r_if_eq hC dX0_binds_2_91 (tgt := 102) (by decide)) (fun c49 => ?_) (fun c49 => ?_)
    · have hf := dh_if hf c49
      exact g_sub [1, 2, 3, 4, 5, 6, 7, 8, 9, 10, 0] rfl (wG_X0_binds_2_b102 k19 hk19 G x0 x1 x2 x3 x4 x6 x7 x8 x9 x10 y0 hf)
    · have hf := dh_el hf c49
      exact g_sub [1, 2, 3, 4, 5, 6, 7, 8, 9, 10, 0] rfl (wG_X0_binds_2_b94 k19 hk19 G x0 x1 x2 x3 x4 x6 x7 x8 x9 x10 y0 hf)
def gG_X0_binds_2_L19_F (k19 : (dg_G → Nat → Int32 → Int32 → Int32 → Int64 → Int32 → Int32 → Int32 → Int32 → Option (Int32 × dg_G))) (G : dg_G) (x0 : Nat) (x1 : Int32) (x2 : Int32) (x3 : Int32) (x4 : Int64) (x6 : Int32) (x7 : Int32) (x8 : Int32) (x9 : Int32) : Option (Int32 × dg_G) :=
  (dg_gR G 1 0 x0).bind fun v5 =>
  (dg_gR G 2 9 v5).bind fun v6 =>
  (dg_is G 10 v6).bind fun u7 =>
  (gG_J2_size G v6).bind fun p8 =>
  if p8 ≤ x9 then (
    gG_X0_binds_2_L164 dh_fu G x0 x1 x2 x3 x7 x8 0 0 0 0 0)
  else
  (dg_is G 1 x0).bind fun u29 =>
  (gG_X0_debtAt G x0 x9).bind fun p30 =>
  (dg_is G 4 p30).bind fun u31 =>
  (gG_X4_isLive G p30).bind fun p32 =>
  if p32 = 0 then (
    k19 G x0 x1 x2 x3 x4 x6 x7 x8 (x9 + 1))
  else
  (dg_gI G 4 1 p30).bind fun v34 =>
  if ¬ (v34 = x1) then (
    k19 G x0 x1 x2 x3 x4 x6 x7 x8 (x9 + 1))
  else
  if (lg_cmp ((x4 >>> (Int32.toInt64 x9 &&& 63)) &&& 1) 1) = 0 then (
    gG_X0_binds_2_b79 k19 G x0 x1 x2 x3 x4 x6 x7 x8 x9 p30 1)
  else
  gG_X0_binds_2_b79 k19 G x0 x1 x2 x3 x4 x6 x7 x8 x9 p30 0
theorem wG_X0_binds_2_L19_F {l : Launch} {E : dj_E} {Mo : Option dm_M} {r : Int32} {G' : dg_G} (k19 : (dg_G → Nat → Int32 → Int32 → Int32 → Int64 → Int32 → Int32 → Int32 → Int32 → Option (Int32 × dg_G))) (hk19 : ∀ (G : dg_G) (x0 : Nat) (x1 : Int32) (x2 : Int32) (x3 : Int32) (x4 : Int64) (x6 : Int32) (x7 : Int32) (x8 : Int32) (x9 : Int32), k19 G x0 x1 x2 x3 x4 x6 x7 x8 x9 = some (r, G') → dgW tG_X0_binds_2 l E Mo G' (.inr (some (.int r))) G 19 [(0, dj_v E x0), (1, .int x1), (2, .int x2), (3, .int x3), (4, .long x4), (6, .int x6), (7, .int x7), (8, .int x8), (9, .int x9)] []) (G : dg_G) (x0 : Nat) (x1 : Int32) (x2 : Int32) (x3 : Int32) (x4 : Int64) (x6 : Int32) (x7 : Int32) (x8 : Int32) (x9 : Int32) (hf : gG_X0_binds_2_L19_F k19 G x0 x1 x2 x3 x4 x6 x7 x8 x9 = some (r, G')) : dgW tG_X0_binds_2 l E Mo G' (.inr (some (.int r))) G 19 [(0, dj_v E x0), (1, .int x1), (2, .int x2), (3, .int x3), (4, .long x4), (6, .int x6), (7, .int x7), (8, .int x8), (9, .int x9)] [] := by
  unfold gG_X0_binds_2_L19_F at hf
  refine dg_l (fun _ _ _ _ _ _ _ hC => r_iload hC dX0_binds_2_19 (j := 8) rfl) ?_
  refine g_aload_n dX0_binds_2_21 rfl (j := 0) rfl ?_
  obtain ⟨v5, h5, hf⟩ := dh_bd hf
  refine g_getR fR_X0_10 (by decide) h5 dX0_binds_2_22 ?_
  obtain ⟨v6, h6, hf⟩ := dh_bd hf
  refine g_getR fR_X0_63 (by decide) h6 dX0_binds_2_25 ?_
  obtain ⟨u7, h7, hf⟩ := dh_bd hf
  obtain ⟨p8, h8, hf⟩ := dh_bd hf
  refine g_callV (rc_O (ci := 10) rfl h7) (cG_J2_size _ E Mo G v6 h8) q256 qG_J2_size (Nat.le_of_ble_eq_true rfl) (Nat.le_of_ble_eq_true rfl) rfl (dj_cat8 (Nat.le_of_ble_eq_true rfl)) dX0_binds_2_28 ?_
  refine dg_b (fun _ _ _ _ _ _ _ hC => r_icmp_ge hC dX0_binds_2_31 (tgt := 149) (by decide)) (fun c9 => ?_) (fun c9 => ?_)
  · have hf := dh_if hf c9
    refine dg_l (fun _ _ _ _ _ _ _ hC => r_lconst hC dX0_binds_2_149 kl_0) ?_
    refine dg_l (fun _ _ _ _ _ _ _ hC => r_lstore (lv' := [(9, .long 0), (0, dj_v E x0), (1, .int x1), (2, .int x2), (3, .int x3), (4, .long x4), (6, .int x6), (7, .int x7), (8, .int x8)]) hC dX0_binds_2_150 (Nat.le_of_ble_eq_true rfl) rfl) ?_
    refine dg_l (fun _ _ _ _ _ _ _ hC => r_lconst hC dX0_binds_2_152 kl_0) ?_
    refine dg_l (fun _ _ _ _ _ _ _ hC => r_lstore (lv' := [(11, .long 0), (9, .long 0), (0, dj_v E x0), (1, .int x1), (2, .int x2), (3, .int x3), (4, .long x4), (6, .int x6), (7, .int x7), (8, .int x8)]) hC dX0_binds_2_153 (Nat.le_of_ble_eq_true rfl) rfl) ?_
    refine dg_l (fun _ _ _ _ _ _ _ hC => r_iconst hC dX0_binds_2_155 ki_0) ?_
    refine dg_l (fun _ _ _ _ _ _ _ hC => r_istore (lv' := [(13, .int 0), (11, .long 0), (9, .long 0), (0, dj_v E x0), (1, .int x1), (2, .int x2), (3, .int x3), (4, .long x4), (6, .int x6), (7, .int x7), (8, .int x8)]) hC dX0_binds_2_156 (Nat.le_of_ble_eq_true rfl) rfl) ?_
    refine dg_l (fun _ _ _ _ _ _ _ hC => r_iconst hC dX0_binds_2_158 ki_0) ?_
    refine dg_l (fun _ _ _ _ _ _ _ hC => r_istore (lv' := [(14, .int 0), (13, .int 0), (11, .long 0), (9, .long 0), (0, dj_v E x0), (1, .int x1), (2, .int x2), (3, .int x3), (4, .long x4), (6, .int x6), (7, .int x7), (8, .int x8)]) hC dX0_binds_2_159 (Nat.le_of_ble_eq_true rfl) rfl) ?_
    refine dg_l (fun _ _ _ _ _ _ _ hC => r_iconst hC dX0_binds_2_161 ki_0) ?_
    refine dg_l (fun _ _ _ _ _ _ _ hC => r_istore (lv' := [(15, .int 0), (14, .int 0), (13, .int 0), (11, .long 0), (9, .long 0), (0, dj_v E x0), (1, .int x1), (2, .int x2), (3, .int x3), (4, .long x4), (6, .int x6), (7, .int x7), (8, .int x8)]) hC dX0_binds_2_162 (Nat.le_of_ble_eq_true rfl) rfl) ?_
    exact g_sub [5, 6, 7, 8, 11, 12, 4, 3, 2, 1, 0] rfl (wG_X0_binds_2_L164 dh_fu G x0 x1 x2 x3 x7 x8 0 0 0 0 0 hf)
  · have hf := dh_el hf c9
    refine g_aload_n dX0_binds_2_34 rfl (j := 0) rfl ?_
    refine dg_l (fun _ _ _ _ _ _ _ hC => r_iload hC dX0_binds_2_35 (j := 8) rfl) ?_
    obtain ⟨u29, h29, hf⟩ := dh_bd hf
    obtain ⟨p30, h30, hf⟩ := dh_bd hf
    refine g_callV (rc_O (ci := 1) rfl h29) (cG_X0_debtAt _ E Mo G x0 x9 h30) q485 qG_X0_debtAt (Nat.le_of_ble_eq_true rfl) (Nat.le_of_ble_eq_true rfl) rfl (dj_cat8 (Nat.le_of_ble_eq_true rfl)) dX0_binds_2_37 ?_
    refine g_astore (i := 10) (lv1 := [(10, dj_v E p30), (0, dj_v E x0), (1, .int x1), (2, .int x2), (3, .int x3), (4, .long x4), (6, .int x6), (7, .int x7), (8, .int x8), (9, .int x9)]) dX0_binds_2_40 (Nat.le_of_ble_eq_true rfl) rfl ?_
    refine g_aload dX0_binds_2_42 (j := 0) rfl ?_
    obtain ⟨u31, h31, hf⟩ := dh_bd hf
    obtain ⟨p32, h32, hf⟩ := dh_bd hf
    refine g_callV (rc_O (ci := 4) rfl h31) (cG_X4_isLive _ E Mo G p30 h32) q503 qG_X4_isLive (Nat.le_of_ble_eq_true rfl) (Nat.le_of_ble_eq_true rfl) rfl (dj_cat8 (Nat.le_of_ble_eq_true rfl)) dX0_binds_2_44 ?_
    refine dg_b (fun _ _ _ _ _ _ _ hC => r_if_eq hC dX0_binds_2_47 (tgt := 143) (by decide)) (fun c33 => ?_) (fun c33 => ?_)
    · have hf := dh_if hf c33
      refine dg_l (fun _ _ _ _ _ _ _ hC => r_iinc (lv' := [(9, .int (x9 + 1)), (10, dj_v E p30), (0, dj_v E x0), (1, .int x1), (2, .int x2), (3, .int x3), (4, .long x4), (6, .int x6), (7, .int x7), (8, .int x8)]) hC dX0_binds_2_143 (j := 9) rfl (congrArg _ ki_1) (Nat.le_of_ble_eq_true rfl) rfl) ?_
      refine dg_l (fun _ _ _ _ _ _ _ hC => r_goto hC dX0_binds_2_146 (tgt := 19) (by decide)) ?_
      exact g_sub [2, 3, 4, 5, 6, 7, 8, 9, 0] rfl (hk19 G x0 x1 x2 x3 x4 x6 x7 x8 (x9 + 1) hf)
    · have hf := dh_el hf c33
      refine g_aload dX0_binds_2_50 (j := 0) rfl ?_
      obtain ⟨v34, h34, hf⟩ := dh_bd hf
      refine g_getI fR_X0_128 (by decide) h34 dX0_binds_2_52 ?_
      refine dg_l (fun _ _ _ _ _ _ _ hC => r_iload_n hC dX0_binds_2_55 rfl (j := 2) rfl) ?_
      refine dg_b (fun _ _ _ _ _ _ _ hC => r_icmp_eq hC dX0_binds_2_56 (tgt := 62) (by decide)) (fun c35 => ?_) (fun c35 => ?_)
      · have hf := dh_el hf (fun q => q c35)
        refine dg_l (fun _ _ _ _ _ _ _ hC => r_lload hC dX0_binds_2_62 (j := 5) rfl) ?_
        refine dg_l (fun _ _ _ _ _ _ _ hC => r_iload hC dX0_binds_2_64 (j := 9) rfl) ?_
        refine dg_l (fun _ _ _ _ _ _ _ hC => r_lshr hC dX0_binds_2_66) ?_
        refine dg_l (fun _ _ _ _ _ _ _ hC => r_lconst hC dX0_binds_2_67 kl_1) ?_
        refine dg_l (fun _ _ _ _ _ _ _ hC => r_land hC dX0_binds_2_68) ?_
        refine dg_l (fun _ _ _ _ _ _ _ hC => r_lconst hC dX0_binds_2_69 kl_1) ?_
        refine dg_l (fun _ _ _ _ _ _ _ hC => r_lcmp hC dX0_binds_2_70) ?_
        refine dg_bn (fun _ _ _ _ _ _ _ hC => r_if_ne hC dX0_binds_2_71 (tgt := 78) (by decide)) (fun c36 => ?_) (fun c36 => ?_)
        · have hf := dh_el hf c36
          refine dg_l (fun _ _ _ _ _ _ _ hC => r_iconst hC dX0_binds_2_78 ki_0) ?_
          exact g_sub [1, 2, 3, 4, 5, 6, 7, 8, 9, 0] rfl (wG_X0_binds_2_b79 k19 hk19 G x0 x1 x2 x3 x4 x6 x7 x8 x9 p30 0 hf)
        · have hf := dh_if hf c36
          refine dg_l (fun _ _ _ _ _ _ _ hC => r_iconst hC dX0_binds_2_74 ki_1) ?_
          refine dg_l (fun _ _ _ _ _ _ _ hC => r_goto hC dX0_binds_2_75 (tgt := 79) (by decide)) ?_
          exact g_sub [1, 2, 3, 4, 5, 6, 7, 8, 9, 0] rfl (wG_X0_binds_2_b79 k19 hk19 G x0 x1 x2 x3 x4 x6 x7 x8 x9 p30 1 hf)
      · have hf := dh_if hf c35
        refine dg_l (fun _ _ _ _ _ _ _ hC => r_goto hC dX0_binds_2_59 (tgt := 143) (by decide)) ?_
        refine dg_l (fun _ _ _ _ _ _ _ hC => r_iinc (lv' := [(9, .int (x9 + 1)), (10, dj_v E p30), (0, dj_v E x0), (1, .int x1), (2, .int x2), (3, .int x3), (4, .long x4), (6, .int x6), (7, .int x7), (8, .int x8)]) hC dX0_binds_2_143 (j := 9) rfl (congrArg _ ki_1) (Nat.le_of_ble_eq_true rfl) rfl) ?_
        refine dg_l (fun _ _ _ _ _ _ _ hC => r_goto hC dX0_binds_2_146 (tgt := 19) (by decide)) ?_
        exact g_sub [2, 3, 4, 5, 6, 7, 8, 9, 0] rfl (hk19 G x0 x1 x2 x3 x4 x6 x7 x8 (x9 + 1) hf)
def gG_X0_binds_2_L19 : Nat → dg_G → Nat → Int32 → Int32 → Int32 → Int64 → Int32 → Int32 → Int32 → Int32 → Option (Int32 × dg_G)
  | 0 => fun _ _ _ _ _ _ _ _ _ _ => none
  | n + 1 => gG_X0_binds_2_L19_F (gG_X0_binds_2_L19 n)
theorem wG_X0_binds_2_L19 {l : Launch} {E : dj_E} {Mo : Option dm_M} {r : Int32} {G' : dg_G} : ∀ (n : Nat) (G : dg_G) (x0 : Nat) (x1 : Int32) (x2 : Int32) (x3 : Int32) (x4 : Int64) (x6 : Int32) (x7 : Int32) (x8 : Int32) (x9 : Int32) (_ : gG_X0_binds_2_L19 n G x0 x1 x2 x3 x4 x6 x7 x8 x9 = some (r, G')), dgW tG_X0_binds_2 l E Mo G' (.inr (some (.int r))) G 19 [(0, dj_v E x0), (1, .int x1), (2, .int x2), (3, .int x3), (4, .long x4), (6, .int x6), (7, .int x7), (8, .int x8), (9, .int x9)] [] := by
  intro n
  induction n with
  | zero => intro G x0 x1 x2 x3 x4 x6 x7 x8 x9 hf; exact dh_no hf
  | succ n ih => intro G x0 x1 x2 x3 x4 x6 x7 x8 x9 hf; exact wG_X0_binds_2_L19_F (gG_X0_binds_2_L19 n) ih G x0 x1 x2 x3 x4 x6 x7 x8 x9 hf
def gG_X0_binds_2 (G : dg_G) (x0 : Nat) (x1 : Int32) (x2 : Int32) (x3 : Int32) (x4 : Int64) (x6 : Int32) (x7 : Int32) (x8 : Int32) : Option (Int32 × dg_G) :=
  (dg_gR G 1 4 x0).bind fun v1 =>
  (gG_J3_fill_2 G v1 0).bind fun p2 =>
  (dg_gR p2 1 5 x0).bind fun v3 =>
  (gG_J3_fill_3 p2 v3 0).bind fun p4 =>
  gG_X0_binds_2_L19 dh_fu p4 x0 x1 x2 x3 x4 x6 x7 x8 0
theorem wG_X0_binds_2 {l : Launch} {E : dj_E} {Mo : Option dm_M} {r : Int32} {G' : dg_G} (G : dg_G) (x0 : Nat) (x1 : Int32) (x2 : Int32) (x3 : Int32) (x4 : Int64) (x6 : Int32) (x7 : Int32) (x8 : Int32) (hf : gG_X0_binds_2 G x0 x1 x2 x3 x4 x6 x7 x8 = some (r, G')) : dgW tG_X0_binds_2 l E Mo G' (.inr (some (.int r))) G 0 [(0, dj_v E x0), (1, .int x1), (2, .int x2), (3, .int x3), (4, .long x4), (6, .int x6), (7, .int x7), (8, .int x8)] [] := by
  unfold gG_X0_binds_2 at hf
  refine g_aload_n dX0_binds_2_0 rfl (j := 0) rfl ?_
  obtain ⟨v1, h1, hf⟩ := dh_bd hf
  refine g_getR fR_X0_31 (by decide) h1 dX0_binds_2_1 ?_
  refine dg_l (fun _ _ _ _ _ _ _ hC => r_lconst hC dX0_binds_2_4 kl_0) ?_
  obtain ⟨p2, h2, hf⟩ := dh_bd hf
  refine g_callS (cG_J3_fill_2 _ E Mo G v1 0 h2) q1242 qG_J3_fill_2 (Nat.le_of_ble_eq_true rfl) (Nat.le_of_ble_eq_true rfl) rfl (dj_cat8 (Nat.le_of_ble_eq_true rfl)) dX0_binds_2_5 ?_
  refine g_aload_n dX0_binds_2_8 rfl (j := 0) rfl ?_
  obtain ⟨v3, h3, hf⟩ := dh_bd hf
  refine g_getR fR_X0_35 (by decide) h3 dX0_binds_2_9 ?_
  refine dg_l (fun _ _ _ _ _ _ _ hC => r_iconst hC dX0_binds_2_12 ki_0) ?_
  obtain ⟨p4, h4, hf⟩ := dh_bd hf
  refine g_callS (cG_J3_fill_3 _ E Mo p2 v3 0 h4) q1245 qG_J3_fill_3 (Nat.le_of_ble_eq_true rfl) (Nat.le_of_ble_eq_true rfl) rfl (dj_cat8 (Nat.le_of_ble_eq_true rfl)) dX0_binds_2_13 ?_
  refine dg_l (fun _ _ _ _ _ _ _ hC => r_iconst hC dX0_binds_2_16 ki_0) ?_
  refine dg_l (fun _ _ _ _ _ _ _ hC => r_istore (lv' := [(9, .int 0), (0, dj_v E x0), (1, .int x1), (2, .int x2), (3, .int x3), (4, .long x4), (6, .int x6), (7, .int x7), (8, .int x8)]) hC dX0_binds_2_17 (Nat.le_of_ble_eq_true rfl) rfl) ?_
  exact g_sub [1, 2, 3, 4, 5, 6, 7, 8, 0] rfl (wG_X0_binds_2_L19 dh_fu p4 x0 x1 x2 x3 x4 x6 x7 x8 0 hf)
theorem cG_X0_binds_2 (l : Launch) (E : dj_E) (Mo : Option dm_M) (G : dg_G) (x0 : Nat) (x1 : Int32) (x2 : Int32) (x3 : Int32) (x4 : Int64) (x6 : Int32) (x7 : Int32) (x8 : Int32) {p : Int32 × dg_G} (h : gG_X0_binds_2 G x0 x1 x2 x3 x4 x6 x7 x8 = some p) : dg_Met l yX0_binds_2 cX0_binds_2 16 (some .boolean) 5 106 E Mo [dj_v E x0, .int x1, .int x2, .int x3, .long x4, .int x6, .int x7, .int x8] G (some (.int p.1)) p.2 :=
  dg_met (plainFor_of_name (by decide)) (by simp only [lg_sl_ref, lg_sl_int, lg_sl_long, lg_sl_nil]; decide) (by simp only [lv_args_ref, lv_args_int, lv_args_long, lv_args_nil]) (wG_X0_binds_2 G x0 x1 x2 x3 x4 x6 x7 x8 h)
theorem qG_X0_binds_2 : dg_cV "DebtorsHouse" yX0_binds_2 cX0_binds_2 16 (some .boolean) 7 := ⟨q1240, Or.inl qs32, q81, q1241, by decide, by decide, by decide +kernel⟩
/-! DebtorsHouse.binds0(II)Z -/
abbrev tG_X0_binds0 : dg_T := (cX0_binds0, 4, RX0, (some .boolean), 7, 154, "binds0", [])
def gG_X0_binds0 (G : dg_G) (x0 : Nat) (x1 : Int32) (x2 : Int32) : Option (Int32 × dg_G) :=
  (dg_is G 1 x0).bind fun u1 =>
  (gG_X0_at G x0 x1).bind fun p2 =>
  (dg_is G 1 x0).bind fun u3 =>
  (gG_X0_tells_3 G x0 p2 7).bind fun p4 =>
  if p4.1 = 0 then (
    (dg_is p4.2 1 x0).bind fun u6 =>
    (gG_X0_tells_3 p4.2 x0 p2 5).bind fun p7 =>
    (dg_is p7.2 1 x0).bind fun u8 =>
    (gG_X0_tells_3 p7.2 x0 p2 6).bind fun p9 =>
    (dg_is p9.2 1 x0).bind fun u10 =>
    (gG_X0_binds_2 p9.2 x0 x1 x2 (-1) 0 0 p7.1 p9.1).bind fun p11 =>
    (dh_bo p11.1).bind fun u12 =>
    some (p11.1, p11.2))
  else
  (dg_is p4.2 1 x0).bind fun u13 =>
  (gG_X0_tells_3 p4.2 x0 p2 5).bind fun p14 =>
  (dg_is p14.2 1 x0).bind fun u15 =>
  (gG_X0_tells_3 p14.2 x0 p2 6).bind fun p16 =>
  (dg_is p16.2 1 x0).bind fun u17 =>
  (gG_X0_binds_2 p16.2 x0 x1 x2 (-1) 0 1 p14.1 p16.1).bind fun p18 =>
  (dh_bo p18.1).bind fun u19 =>
  some (p18.1, p18.2)
theorem wG_X0_binds0 {l : Launch} {E : dj_E} {Mo : Option dm_M} {r : Int32} {G' : dg_G} (G : dg_G) (x0 : Nat) (x1 : Int32) (x2 : Int32) (hf : gG_X0_binds0 G x0 x1 x2 = some (r, G')) : dgW tG_X0_binds0 l E Mo G' (.inr (some (.int r))) G 0 [(0, dj_v E x0), (1, .int x1), (2, .int x2)] [] := by
  unfold gG_X0_binds0 at hf
  refine g_aload_n dX0_binds0_0 rfl (j := 0) rfl ?_
  refine dg_l (fun _ _ _ _ _ _ _ hC => r_iload_n hC dX0_binds0_1 rfl (j := 1) rfl) ?_
  obtain ⟨u1, h1, hf⟩ := dh_bd hf
  obtain ⟨p2, h2, hf⟩ := dh_bd hf
  refine g_callV (rc_O (ci := 1) rfl h1) (cG_X0_at _ E Mo G x0 x1 h2) q525 qG_X0_at (Nat.le_of_ble_eq_true rfl) (Nat.le_of_ble_eq_true rfl) rfl (dj_cat8 (Nat.le_of_ble_eq_true rfl)) dX0_binds0_2 ?_
  refine g_astore_n (i := 3) (lv1 := [(3, dj_v E p2), (0, dj_v E x0), (1, .int x1), (2, .int x2)]) dX0_binds0_5 rfl (Nat.le_of_ble_eq_true rfl) rfl ?_
  refine g_aload_n dX0_binds0_6 rfl (j := 1) rfl ?_
  refine dg_l (fun _ _ _ _ _ _ _ hC => r_iload_n hC dX0_binds0_7 rfl (j := 2) rfl) ?_
  refine dg_l (fun _ _ _ _ _ _ _ hC => r_iload_n hC dX0_binds0_8 rfl (j := 3) rfl) ?_
  refine dg_l (fun _ _ _ _ _ _ _ hC => r_iconst hC dX0_binds0_9 ki_m1) ?_
  refine dg_l (fun _ _ _ _ _ _ _ hC => r_lconst hC dX0_binds0_10 kl_0) ?_
  refine g_aload_n dX0_binds0_11 rfl (j := 1) rfl ?_
  refine g_aload_n dX0_binds0_12 rfl (j := 0) rfl ?_
  refine g_gets (j := 7) (by decide) (by decide) (fun _ h => ((dk_T h).1 6 (by decide)).1) q1234 dX0_binds0_13 ?_
  obtain ⟨u3, h3, hf⟩ := dh_bd hf
  obtain ⟨p4, h4, hf⟩ := dh_bd hf
  refine g_callV (rc_O (ci := 1) rfl h3) (cG_X0_tells_3 _ E Mo G x0 p2 7 h4) q1159 qG_X0_tells_3 (Nat.le_of_ble_eq_true rfl) (Nat.le_of_ble_eq_true rfl) rfl (show (List.map (fun v : Value => v.category) [.long 0, .int (-1), .int x2, .int x1, dj_v E x0]).sum ≤ 8 by simp only [List.map_cons, List.map_nil, List.sum_cons, List.sum_nil, dj_cat, dh_ci, dh_cl] <;> decide) dX0_binds0_16 ?_
  refine dg_b (fun _ _ _ _ _ _ _ hC => r_if_eq hC dX0_binds0_19 (tgt := 26) (by decide)) (fun c5 => ?_) (fun c5 => ?_)
  · have hf := dh_if hf c5
    refine dg_l (fun _ _ _ _ _ _ _ hC => r_iconst hC dX0_binds0_26 ki_0) ?_
    refine g_aload_n dX0_binds0_27 rfl (j := 1) rfl ?_
    refine g_aload_n dX0_binds0_28 rfl (j := 0) rfl ?_
    refine g_gets (j := 5) (by decide) (by decide) (fun _ h => ((dk_T h).1 4 (by decide)).1) q1236 dX0_binds0_29 ?_
    obtain ⟨u6, h6, hf⟩ := dh_bd hf
    obtain ⟨p7, h7, hf⟩ := dh_bd hf
    refine g_callV (rc_O (ci := 1) rfl h6) (cG_X0_tells_3 _ E Mo p4.2 x0 p2 5 h7) q1159 qG_X0_tells_3 (Nat.le_of_ble_eq_true rfl) (Nat.le_of_ble_eq_true rfl) rfl (show (List.map (fun v : Value => v.category) [.int 0, .long 0, .int (-1), .int x2, .int x1, dj_v E x0]).sum ≤ 8 by simp only [List.map_cons, List.map_nil, List.sum_cons, List.sum_nil, dj_cat, dh_ci, dh_cl] <;> decide) dX0_binds0_32 ?_
    refine g_aload_n dX0_binds0_35 rfl (j := 1) rfl ?_
    refine g_aload_n dX0_binds0_36 rfl (j := 0) rfl ?_
    refine g_gets (j := 6) (by decide) (by decide) (fun _ h => ((dk_T h).1 5 (by decide)).1) q1237 dX0_binds0_37 ?_
    obtain ⟨u8, h8, hf⟩ := dh_bd hf
    obtain ⟨p9, h9, hf⟩ := dh_bd hf
    refine g_callV (rc_O (ci := 1) rfl h8) (cG_X0_tells_3 _ E Mo p7.2 x0 p2 6 h9) q1159 qG_X0_tells_3 (Nat.le_of_ble_eq_true rfl) (Nat.le_of_ble_eq_true rfl) rfl (show (List.map (fun v : Value => v.category) [.int p7.1, .int 0, .long 0, .int (-1), .int x2, .int x1, dj_v E x0]).sum ≤ 8 by simp only [List.map_cons, List.map_nil, List.sum_cons, List.sum_nil, dj_cat, dh_ci, dh_cl] <;> decide) dX0_binds0_40 ?_
    obtain ⟨u10, h10, hf⟩ := dh_bd hf
    obtain ⟨p11, h11, hf⟩ := dh_bd hf
    refine g_callV (rc_O (ci := 1) rfl h10) (cG_X0_binds_2 _ E Mo p9.2 x0 x1 x2 (-1) 0 0 p7.1 p9.1 h11) q1238 qG_X0_binds_2 (Nat.le_of_ble_eq_true rfl) (Nat.le_of_ble_eq_true rfl) rfl (dj_cat8 (Nat.le_of_ble_eq_true rfl)) dX0_binds0_43 ?_
    obtain ⟨u12, h12, hf⟩ := dh_bd hf
    exact g_zret dX0_binds0_46 rfl (dh_bo_n h12) hf
  · have hf := dh_el hf c5
    refine dg_l (fun _ _ _ _ _ _ _ hC => r_iconst hC dX0_binds0_22 ki_1) ?_
    refine dg_l (fun _ _ _ _ _ _ _ hC => r_goto hC dX0_binds0_23 (tgt := 27) (by decide)) ?_
    refine g_aload_n dX0_binds0_27 rfl (j := 1) rfl ?_
    refine g_aload_n dX0_binds0_28 rfl (j := 0) rfl ?_
    refine g_gets (j := 5) (by decide) (by decide) (fun _ h => ((dk_T h).1 4 (by decide)).1) q1236 dX0_binds0_29 ?_
    obtain ⟨u13, h13, hf⟩ := dh_bd hf
    obtain ⟨p14, h14, hf⟩ := dh_bd hf
    refine g_callV (rc_O (ci := 1) rfl h13) (cG_X0_tells_3 _ E Mo p4.2 x0 p2 5 h14) q1159 qG_X0_tells_3 (Nat.le_of_ble_eq_true rfl) (Nat.le_of_ble_eq_true rfl) rfl (show (List.map (fun v : Value => v.category) [.int 1, .long 0, .int (-1), .int x2, .int x1, dj_v E x0]).sum ≤ 8 by simp only [List.map_cons, List.map_nil, List.sum_cons, List.sum_nil, dj_cat, dh_ci, dh_cl] <;> decide) dX0_binds0_32 ?_
    refine g_aload_n dX0_binds0_35 rfl (j := 1) rfl ?_
    refine g_aload_n dX0_binds0_36 rfl (j := 0) rfl ?_
    refine g_gets (j := 6) (by decide) (by decide) (fun _ h => ((dk_T h).1 5 (by decide)).1) q1237 dX0_binds0_37 ?_
    obtain ⟨u15, h15, hf⟩ := dh_bd hf
    obtain ⟨p16, h16, hf⟩ := dh_bd hf
    refine g_callV (rc_O (ci := 1) rfl h15) (cG_X0_tells_3 _ E Mo p14.2 x0 p2 6 h16) q1159 qG_X0_tells_3 (Nat.le_of_ble_eq_true rfl) (Nat.le_of_ble_eq_true rfl) rfl (show (List.map (fun v : Value => v.category) [.int p14.1, .int 1, .long 0, .int (-1), .int x2, .int x1, dj_v E x0]).sum ≤ 8 by simp only [List.map_cons, List.map_nil, List.sum_cons, List.sum_nil, dj_cat, dh_ci, dh_cl] <;> decide) dX0_binds0_40 ?_
    obtain ⟨u17, h17, hf⟩ := dh_bd hf
    obtain ⟨p18, h18, hf⟩ := dh_bd hf
    refine g_callV (rc_O (ci := 1) rfl h17) (cG_X0_binds_2 _ E Mo p16.2 x0 x1 x2 (-1) 0 1 p14.1 p16.1 h18) q1238 qG_X0_binds_2 (Nat.le_of_ble_eq_true rfl) (Nat.le_of_ble_eq_true rfl) rfl (dj_cat8 (Nat.le_of_ble_eq_true rfl)) dX0_binds0_43 ?_
    obtain ⟨u19, h19, hf⟩ := dh_bd hf
    exact g_zret dX0_binds0_46 rfl (dh_bo_n h19) hf
theorem cG_X0_binds0 (l : Launch) (E : dj_E) (Mo : Option dm_M) (G : dg_G) (x0 : Nat) (x1 : Int32) (x2 : Int32) {p : Int32 × dg_G} (h : gG_X0_binds0 G x0 x1 x2 = some p) : dg_Met l yX0_binds0 cX0_binds0 4 (some .boolean) 7 154 E Mo [dj_v E x0, .int x1, .int x2] G (some (.int p.1)) p.2 :=
  dg_met (plainFor_of_name (by decide)) (by simp only [lg_sl_ref, lg_sl_int, lg_sl_long, lg_sl_nil]; decide) (by simp only [lv_args_ref, lv_args_int, lv_args_long, lv_args_nil]) (wG_X0_binds0 G x0 x1 x2 h)
theorem qG_X0_binds0 : dg_cV "DebtorsHouse" yX0_binds0 cX0_binds0 4 (some .boolean) 2 := ⟨q1232, Or.inl qs31, q81, q1233, by decide, by decide, by decide +kernel⟩
/-! DebtorsHouse.binds(II)Z -/
abbrev tG_X0_binds : dg_T := (cX0_binds, 3, RX0, (some .boolean), 8, 177, "binds", [])
def gG_X0_binds (G : dg_G) (x0 : Nat) (x1 : Int32) (x2 : Int32) : Option (Int32 × dg_G) :=
  (dg_is G 1 x0).bind fun u1 =>
  (gG_X0_isPerson G x0 x1).bind fun p2 =>
  if p2 = 0 then (
    some (0, G))
  else
  (gG_X0_isIn G x2 0 1000).bind fun p4 =>
  if p4 = 0 then (
    some (0, G))
  else
  (dg_is G 1 x0).bind fun u6 =>
  (gG_X0_binds0 G x0 x1 x2).bind fun p7 =>
  if p7.1 = 0 then (
    some (0, p7.2))
  else
  some (1, p7.2)
theorem wG_X0_binds {l : Launch} {E : dj_E} {Mo : Option dm_M} {r : Int32} {G' : dg_G} (G : dg_G) (x0 : Nat) (x1 : Int32) (x2 : Int32) (hf : gG_X0_binds G x0 x1 x2 = some (r, G')) : dgW tG_X0_binds l E Mo G' (.inr (some (.int r))) G 0 [(0, dj_v E x0), (1, .int x1), (2, .int x2)] [] := by
  unfold gG_X0_binds at hf
  refine g_aload_n dX0_binds_0 rfl (j := 0) rfl ?_
  refine dg_l (fun _ _ _ _ _ _ _ hC => r_iload_n hC dX0_binds_1 rfl (j := 1) rfl) ?_
  obtain ⟨u1, h1, hf⟩ := dh_bd hf
  obtain ⟨p2, h2, hf⟩ := dh_bd hf
  refine g_callV (rc_O (ci := 1) rfl h1) (cG_X0_isPerson _ E Mo G x0 x1 h2) q402 qG_X0_isPerson (Nat.le_of_ble_eq_true rfl) (Nat.le_of_ble_eq_true rfl) rfl (dj_cat8 (Nat.le_of_ble_eq_true rfl)) dX0_binds_2 ?_
  refine dg_b (fun _ _ _ _ _ _ _ hC => r_if_eq hC dX0_binds_5 (tgt := 32) (by decide)) (fun c3 => ?_) (fun c3 => ?_)
  · have hf := dh_if hf c3
    refine dg_l (fun _ _ _ _ _ _ _ hC => r_iconst hC dX0_binds_32 ki_0) ?_
    exact g_zret dX0_binds_33 rfl rfl hf
  · have hf := dh_el hf c3
    refine dg_l (fun _ _ _ _ _ _ _ hC => r_iload_n hC dX0_binds_8 rfl (j := 2) rfl) ?_
    refine dg_l (fun _ _ _ _ _ _ _ hC => r_iconst hC dX0_binds_9 ki_0) ?_
    refine dg_l (fun _ _ _ _ _ _ _ hC => r_sipush hC dX0_binds_10 ks_1000) ?_
    obtain ⟨p4, h4, hf⟩ := dh_bd hf
    refine g_callS (cG_X0_isIn _ E Mo G x2 0 1000 h4) q261 qG_X0_isIn (Nat.le_of_ble_eq_true rfl) (Nat.le_of_ble_eq_true rfl) rfl (dj_cat8 (Nat.le_of_ble_eq_true rfl)) dX0_binds_13 ?_
    refine dg_b (fun _ _ _ _ _ _ _ hC => r_if_eq hC dX0_binds_16 (tgt := 32) (by decide)) (fun c5 => ?_) (fun c5 => ?_)
    · have hf := dh_if hf c5
      refine dg_l (fun _ _ _ _ _ _ _ hC => r_iconst hC dX0_binds_32 ki_0) ?_
      exact g_zret dX0_binds_33 rfl rfl hf
    · have hf := dh_el hf c5
      refine g_aload_n dX0_binds_19 rfl (j := 0) rfl ?_
      refine dg_l (fun _ _ _ _ _ _ _ hC => r_iload_n hC dX0_binds_20 rfl (j := 1) rfl) ?_
      refine dg_l (fun _ _ _ _ _ _ _ hC => r_iload_n hC dX0_binds_21 rfl (j := 2) rfl) ?_
      obtain ⟨u6, h6, hf⟩ := dh_bd hf
      obtain ⟨p7, h7, hf⟩ := dh_bd hf
      refine g_callV (rc_O (ci := 1) rfl h6) (cG_X0_binds0 _ E Mo G x0 x1 x2 h7) q1230 qG_X0_binds0 (Nat.le_of_ble_eq_true rfl) (Nat.le_of_ble_eq_true rfl) rfl (dj_cat8 (Nat.le_of_ble_eq_true rfl)) dX0_binds_22 ?_
      refine dg_b (fun _ _ _ _ _ _ _ hC => r_if_eq hC dX0_binds_25 (tgt := 32) (by decide)) (fun c8 => ?_) (fun c8 => ?_)
      · have hf := dh_if hf c8
        refine dg_l (fun _ _ _ _ _ _ _ hC => r_iconst hC dX0_binds_32 ki_0) ?_
        exact g_zret dX0_binds_33 rfl rfl hf
      · have hf := dh_el hf c8
        refine dg_l (fun _ _ _ _ _ _ _ hC => r_iconst hC dX0_binds_28 ki_1) ?_
        refine dg_l (fun _ _ _ _ _ _ _ hC => r_goto hC dX0_binds_29 (tgt := 33) (by decide)) ?_
        exact g_zret dX0_binds_33 rfl rfl hf
theorem cG_X0_binds (l : Launch) (E : dj_E) (Mo : Option dm_M) (G : dg_G) (x0 : Nat) (x1 : Int32) (x2 : Int32) {p : Int32 × dg_G} (h : gG_X0_binds G x0 x1 x2 = some p) : dg_Met l yX0_binds cX0_binds 3 (some .boolean) 8 177 E Mo [dj_v E x0, .int x1, .int x2] G (some (.int p.1)) p.2 :=
  dg_met (plainFor_of_name (by decide)) (by simp only [lg_sl_ref, lg_sl_int, lg_sl_long, lg_sl_nil]; decide) (by simp only [lv_args_ref, lv_args_int, lv_args_long, lv_args_nil]) (wG_X0_binds G x0 x1 x2 h)
theorem qG_X0_binds : dg_cV "DebtorsHouse" yX0_binds cX0_binds 3 (some .boolean) 2 := ⟨q1227, Or.inl q1228, q81, q1229, by decide, by decide, by decide +kernel⟩
/-! DebtorsHouse.offer(I)I -/
abbrev tG_X0_offer : dg_T := (cX0_offer, 3, RX0, (some .int), 8, 177, "offer", [])
def gG_X0_offer_L12_F (k12 : (dg_G → Nat → Int32 → Int32 → Option (Int32 × dg_G))) (G : dg_G) (x0 : Nat) (x1 : Int32) (x2 : Int32) : Option (Int32 × dg_G) :=
  if 1000 < x2 then (
    some ((-1), G))
  else
  (dg_is G 1 x0).bind fun u5 =>
  (gG_X0_binds0 G x0 x1 x2).bind fun p6 =>
  if p6.1 = 0 then (
    k12 p6.2 x0 x1 (x2 + 1))
  else
  some (x2, p6.2)
theorem wG_X0_offer_L12_F {l : Launch} {E : dj_E} {Mo : Option dm_M} {r : Int32} {G' : dg_G} (k12 : (dg_G → Nat → Int32 → Int32 → Option (Int32 × dg_G))) (hk12 : ∀ (G : dg_G) (x0 : Nat) (x1 : Int32) (x2 : Int32), k12 G x0 x1 x2 = some (r, G') → dgW tG_X0_offer l E Mo G' (.inr (some (.int r))) G 12 [(0, dj_v E x0), (1, .int x1), (2, .int x2)] []) (G : dg_G) (x0 : Nat) (x1 : Int32) (x2 : Int32) (hf : gG_X0_offer_L12_F k12 G x0 x1 x2 = some (r, G')) : dgW tG_X0_offer l E Mo G' (.inr (some (.int r))) G 12 [(0, dj_v E x0), (1, .int x1), (2, .int x2)] [] := by
  unfold gG_X0_offer_L12_F at hf
  refine dg_l (fun _ _ _ _ _ _ _ hC => r_iload_n hC dX0_offer_12 rfl (j := 2) rfl) ?_
  refine dg_l (fun _ _ _ _ _ _ _ hC => r_sipush hC dX0_offer_13 ks_1000) ?_
  refine dg_b (fun _ _ _ _ _ _ _ hC => r_icmp_gt hC dX0_offer_16 (tgt := 36) (by decide)) (fun c4 => ?_) (fun c4 => ?_)
  · have hf := dh_if hf c4
    refine dg_l (fun _ _ _ _ _ _ _ hC => r_iconst hC dX0_offer_36 ki_m1) ?_
    exact g_iret dX0_offer_37 rfl hf
  · have hf := dh_el hf c4
    refine g_aload_n dX0_offer_19 rfl (j := 0) rfl ?_
    refine dg_l (fun _ _ _ _ _ _ _ hC => r_iload_n hC dX0_offer_20 rfl (j := 1) rfl) ?_
    refine dg_l (fun _ _ _ _ _ _ _ hC => r_iload_n hC dX0_offer_21 rfl (j := 2) rfl) ?_
    obtain ⟨u5, h5, hf⟩ := dh_bd hf
    obtain ⟨p6, h6, hf⟩ := dh_bd hf
    refine g_callV (rc_O (ci := 1) rfl h5) (cG_X0_binds0 _ E Mo G x0 x1 x2 h6) q1230 qG_X0_binds0 (Nat.le_of_ble_eq_true rfl) (Nat.le_of_ble_eq_true rfl) rfl (dj_cat8 (Nat.le_of_ble_eq_true rfl)) dX0_offer_22 ?_
    refine dg_b (fun _ _ _ _ _ _ _ hC => r_if_eq hC dX0_offer_25 (tgt := 30) (by decide)) (fun c7 => ?_) (fun c7 => ?_)
    · have hf := dh_if hf c7
      refine dg_l (fun _ _ _ _ _ _ _ hC => r_iinc (lv' := [(2, .int (x2 + 1)), (0, dj_v E x0), (1, .int x1)]) hC dX0_offer_30 (j := 2) rfl (congrArg _ ki_1) (Nat.le_of_ble_eq_true rfl) rfl) ?_
      refine dg_l (fun _ _ _ _ _ _ _ hC => r_goto hC dX0_offer_33 (tgt := 12) (by decide)) ?_
      exact g_sub [1, 2, 0] rfl (hk12 p6.2 x0 x1 (x2 + 1) hf)
    · have hf := dh_el hf c7
      refine dg_l (fun _ _ _ _ _ _ _ hC => r_iload_n hC dX0_offer_28 rfl (j := 2) rfl) ?_
      exact g_iret dX0_offer_29 rfl hf
def gG_X0_offer_L12 : Nat → dg_G → Nat → Int32 → Int32 → Option (Int32 × dg_G)
  | 0 => fun _ _ _ _ => none
  | n + 1 => gG_X0_offer_L12_F (gG_X0_offer_L12 n)
theorem wG_X0_offer_L12 {l : Launch} {E : dj_E} {Mo : Option dm_M} {r : Int32} {G' : dg_G} : ∀ (n : Nat) (G : dg_G) (x0 : Nat) (x1 : Int32) (x2 : Int32) (_ : gG_X0_offer_L12 n G x0 x1 x2 = some (r, G')), dgW tG_X0_offer l E Mo G' (.inr (some (.int r))) G 12 [(0, dj_v E x0), (1, .int x1), (2, .int x2)] [] := by
  intro n
  induction n with
  | zero => intro G x0 x1 x2 hf; exact dh_no hf
  | succ n ih => intro G x0 x1 x2 hf; exact wG_X0_offer_L12_F (gG_X0_offer_L12 n) ih G x0 x1 x2 hf
def gG_X0_offer (G : dg_G) (x0 : Nat) (x1 : Int32) : Option (Int32 × dg_G) :=
  (dg_is G 1 x0).bind fun u1 =>
  (gG_X0_isPerson G x0 x1).bind fun p2 =>
  if p2 = 0 then (
    some ((-1), G))
  else
  gG_X0_offer_L12 dh_fu G x0 x1 0
theorem wG_X0_offer {l : Launch} {E : dj_E} {Mo : Option dm_M} {r : Int32} {G' : dg_G} (G : dg_G) (x0 : Nat) (x1 : Int32) (hf : gG_X0_offer G x0 x1 = some (r, G')) : dgW tG_X0_offer l E Mo G' (.inr (some (.int r))) G 0 [(0, dj_v E x0), (1, .int x1)] [] := by
  unfold gG_X0_offer at hf
  refine g_aload_n dX0_offer_0 rfl (j := 0) rfl ?_
  refine dg_l (fun _ _ _ _ _ _ _ hC => r_iload_n hC dX0_offer_1 rfl (j := 1) rfl) ?_
  obtain ⟨u1, h1, hf⟩ := dh_bd hf
  obtain ⟨p2, h2, hf⟩ := dh_bd hf
  refine g_callV (rc_O (ci := 1) rfl h1) (cG_X0_isPerson _ E Mo G x0 x1 h2) q402 qG_X0_isPerson (Nat.le_of_ble_eq_true rfl) (Nat.le_of_ble_eq_true rfl) rfl (dj_cat8 (Nat.le_of_ble_eq_true rfl)) dX0_offer_2 ?_
  refine dg_bn (fun _ _ _ _ _ _ _ hC => r_if_ne hC dX0_offer_5 (tgt := 10) (by decide)) (fun c3 => ?_) (fun c3 => ?_)
  · have hf := dh_el hf c3
    refine dg_l (fun _ _ _ _ _ _ _ hC => r_iconst hC dX0_offer_10 ki_0) ?_
    refine dg_l (fun _ _ _ _ _ _ _ hC => r_istore_n (lv' := [(2, .int 0), (0, dj_v E x0), (1, .int x1)]) hC dX0_offer_11 rfl (Nat.le_of_ble_eq_true rfl) rfl) ?_
    exact g_sub [1, 2, 0] rfl (wG_X0_offer_L12 dh_fu G x0 x1 0 hf)
  · have hf := dh_if hf c3
    refine dg_l (fun _ _ _ _ _ _ _ hC => r_iconst hC dX0_offer_8 ki_m1) ?_
    exact g_iret dX0_offer_9 rfl hf
theorem cG_X0_offer (l : Launch) (E : dj_E) (Mo : Option dm_M) (G : dg_G) (x0 : Nat) (x1 : Int32) {p : Int32 × dg_G} (h : gG_X0_offer G x0 x1 = some p) : dg_Met l yX0_offer cX0_offer 3 (some .int) 8 177 E Mo [dj_v E x0, .int x1] G (some (.int p.1)) p.2 :=
  dg_met (plainFor_of_name (by decide)) (by simp only [lg_sl_ref, lg_sl_int, lg_sl_long, lg_sl_nil]; decide) (by simp only [lv_args_ref, lv_args_int, lv_args_long, lv_args_nil]) (wG_X0_offer G x0 x1 h)
theorem qG_X0_offer : dg_cV "DebtorsHouse" yX0_offer cX0_offer 3 (some .int) 1 := ⟨q1250, Or.inl q1251, q81, q1252, by decide, by decide, by decide +kernel⟩
/-! DebtorsHouse.part(II)I -/
abbrev tG_X0_part : dg_T := (cX0_part, 2, RX0, (some .int), 0, 0, "part", [])
def gG_X0_part (G : dg_G) (x0 : Int32) (x1 : Int32) : Option Int32 :=
  some (Int64.toInt32 (((Int32.toInt64 x0) * (Int32.toInt64 x1)) / 1000))
theorem wG_X0_part {l : Launch} {E : dj_E} {Mo : Option dm_M} {r : Int32} (G : dg_G) (x0 : Int32) (x1 : Int32) (hf : gG_X0_part G x0 x1 = some r) : dgW tG_X0_part l E Mo G (.inr (some (.int r))) G 0 [(0, .int x0), (1, .int x1)] [] := by
  unfold gG_X0_part at hf
  refine dg_l (fun _ _ _ _ _ _ _ hC => r_iload_n hC dX0_part_0 rfl (j := 0) rfl) ?_
  refine dg_l (fun _ _ _ _ _ _ _ hC => r_i2l hC dX0_part_1) ?_
  refine dg_l (fun _ _ _ _ _ _ _ hC => r_iload_n hC dX0_part_2 rfl (j := 1) rfl) ?_
  refine dg_l (fun _ _ _ _ _ _ _ hC => r_i2l hC dX0_part_3) ?_
  refine dg_l (fun _ _ _ _ _ _ _ hC => r_lmul hC dX0_part_4) ?_
  refine dg_l (fun _ _ _ _ _ _ _ hC => r_ldc2 hC q1261 dX0_part_5) ?_
  refine dg_l (fun _ _ _ _ _ _ _ hC => r_ldiv hC dX0_part_8 (by decide)) ?_
  refine dg_l (fun _ _ _ _ _ _ _ hC => r_l2i hC dX0_part_9) ?_
  exact g_iret1 dX0_part_10 rfl hf
theorem cG_X0_part (l : Launch) (E : dj_E) (Mo : Option dm_M) (G : dg_G) (x0 : Int32) (x1 : Int32) {r : Int32} (h : gG_X0_part G x0 x1 = some r) : dg_Met l yX0_part cX0_part 2 (some .int) 0 0 E Mo [.int x0, .int x1] G (some (.int r)) G :=
  dg_met (plainFor_of_name (by decide)) (by simp only [lg_sl_ref, lg_sl_int, lg_sl_long, lg_sl_nil]; decide) (by simp only [lv_args_ref, lv_args_int, lv_args_long, lv_args_nil]) (wG_X0_part G x0 x1 h)
theorem qG_X0_part : dg_cS yX0_part cX0_part 2 (some .int) 2 := ⟨q1259, q81, q1260, by decide, by decide, by decide +kernel⟩
