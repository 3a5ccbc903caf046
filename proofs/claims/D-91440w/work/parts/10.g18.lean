set_option maxRecDepth 100000
/-! DebtorsHouse.swing(IIII)I -/
abbrev tG_X0_swing : dg_T := (cX0_swing, 18, RX0, (some .int), 7, 154, "swing", [])
def gG_X0_swing_b284 (k176 : (dg_G → Nat → Int32 → Int32 → Int32 → Int32 → Nat → Int32 → Int32 → Int32 → Int32 → Int32 → Int32 → Int32 → Option (Int32 × dg_G))) (G : dg_G) (x0 : Nat) (x1 : Int32) (x2 : Int32) (x3 : Int32) (x4 : Int32) (x5 : Nat) (x6 : Int32) (x8 : Int32) (x9 : Int32) (x10 : Int32) (x11 : Int32) (x12 : Int32) (x13 : Int32) (x14 : Int64) (x16 : Int32) : Option (Int32 × dg_G) :=
  (dg_is G 1 x0).bind fun u28 =>
  (gG_X0_binds_2 G x0 x1 x3 x2 x14 x8 x9 x10).bind fun p29 =>
  if p29.1 = 0 then (
    k176 p29.2 x0 x1 x2 x3 x4 x5 x6 x8 x9 x10 x11 x12 (x13 + 1))
  else
  k176 p29.2 x0 x1 x2 x3 x4 x5 x6 x8 x9 x10 x13 x16 (x13 + 1)
theorem wG_X0_swing_b284 {l : Launch} {E : dj_E} {Mo : Option dm_M} {r : Int32} {G' : dg_G} (k176 : (dg_G → Nat → Int32 → Int32 → Int32 → Int32 → Nat → Int32 → Int32 → Int32 → Int32 → Int32 → Int32 → Int32 → Option (Int32 × dg_G))) (hk176 : ∀ (G : dg_G) (x0 : Nat) (x1 : Int32) (x2 : Int32) (x3 : Int32) (x4 : Int32) (x5 : Nat) (x6 : Int32) (x8 : Int32) (x9 : Int32) (x10 : Int32) (x11 : Int32) (x12 : Int32) (x13 : Int32), k176 G x0 x1 x2 x3 x4 x5 x6 x8 x9 x10 x11 x12 x13 = some (r, G') → dgW tG_X0_swing l E Mo G' (.inr (some (.int r))) G 176 [(0, dj_v E x0), (1, .int x1), (2, .int x2), (3, .int x3), (4, .int x4), (5, dj_v E x5), (6, .int x6), (8, .int x8), (9, .int x9), (10, .int x10), (11, .int x11), (12, .int x12), (13, .int x13)] []) (G : dg_G) (x0 : Nat) (x1 : Int32) (x2 : Int32) (x3 : Int32) (x4 : Int32) (x5 : Nat) (x6 : Int32) (x8 : Int32) (x9 : Int32) (x10 : Int32) (x11 : Int32) (x12 : Int32) (x13 : Int32) (x14 : Int64) (x16 : Int32) (hf : gG_X0_swing_b284 k176 G x0 x1 x2 x3 x4 x5 x6 x8 x9 x10 x11 x12 x13 x14 x16 = some (r, G')) : dgW tG_X0_swing l E Mo G' (.inr (some (.int r))) G 284 [(0, dj_v E x0), (1, .int x1), (2, .int x2), (3, .int x3), (4, .int x4), (5, dj_v E x5), (6, .int x6), (8, .int x8), (9, .int x9), (10, .int x10), (11, .int x11), (12, .int x12), (13, .int x13), (14, .long x14), (16, .int x16)] [] := by
  unfold gG_X0_swing_b284 at hf
  refine g_aload_n dX0_swing_284 rfl (j := 0) rfl ?_
  refine dg_l (fun _ _ _ _ _ _ _ hC => r_iload_n hC dX0_swing_285 rfl (j := 1) rfl) ?_
  refine dg_l (fun _ _ _ _ _ _ _ hC => r_iload_n hC dX0_swing_286 rfl (j := 3) rfl) ?_
  refine dg_l (fun _ _ _ _ _ _ _ hC => r_iload_n hC dX0_swing_287 rfl (j := 2) rfl) ?_
  refine dg_l (fun _ _ _ _ _ _ _ hC => r_lload hC dX0_swing_288 (j := 13) rfl) ?_
  refine dg_l (fun _ _ _ _ _ _ _ hC => r_iload hC dX0_swing_290 (j := 7) rfl) ?_
  refine dg_l (fun _ _ _ _ _ _ _ hC => r_iload hC dX0_swing_292 (j := 8) rfl) ?_
  refine dg_l (fun _ _ _ _ _ _ _ hC => r_iload hC dX0_swing_294 (j := 9) rfl) ?_
  obtain ⟨u28, h28, hf⟩ := dh_bd hf
  obtain ⟨p29, h29, hf⟩ := dh_bd hf
  refine g_callV (rc_O (ci := 1) rfl h28) (cG_X0_binds_2 _ E Mo G x0 x1 x3 x2 x14 x8 x9 x10 h29) q1238 qG_X0_binds_2 (Nat.le_of_ble_eq_true rfl) (Nat.le_of_ble_eq_true rfl) rfl (dj_cat8 (Nat.le_of_ble_eq_true rfl)) dX0_swing_296 ?_
  refine dg_bn (fun _ _ _ _ _ _ _ hC => r_if_ne hC dX0_swing_299 (tgt := 305) (by decide)) (fun c30 => ?_) (fun c30 => ?_)
  · have hf := dh_el hf c30
    refine dg_l (fun _ _ _ _ _ _ _ hC => r_iload hC dX0_swing_305 (j := 12) rfl) ?_
    refine dg_l (fun _ _ _ _ _ _ _ hC => r_istore (lv' := [(11, .int x13), (0, dj_v E x0), (1, .int x1), (2, .int x2), (3, .int x3), (4, .int x4), (5, dj_v E x5), (6, .int x6), (8, .int x8), (9, .int x9), (10, .int x10), (12, .int x12), (13, .int x13), (14, .long x14), (16, .int x16)]) hC dX0_swing_307 (Nat.le_of_ble_eq_true rfl) rfl) ?_
    refine dg_l (fun _ _ _ _ _ _ _ hC => r_iload hC dX0_swing_309 (j := 14) rfl) ?_
    refine dg_l (fun _ _ _ _ _ _ _ hC => r_istore (lv' := [(12, .int x16), (11, .int x13), (0, dj_v E x0), (1, .int x1), (2, .int x2), (3, .int x3), (4, .int x4), (5, dj_v E x5), (6, .int x6), (8, .int x8), (9, .int x9), (10, .int x10), (13, .int x13), (14, .long x14), (16, .int x16)]) hC dX0_swing_311 (Nat.le_of_ble_eq_true rfl) rfl) ?_
    refine dg_l (fun _ _ _ _ _ _ _ hC => r_iinc (lv' := [(13, .int (x13 + 1)), (12, .int x16), (11, .int x13), (0, dj_v E x0), (1, .int x1), (2, .int x2), (3, .int x3), (4, .int x4), (5, dj_v E x5), (6, .int x6), (8, .int x8), (9, .int x9), (10, .int x10), (14, .long x14), (16, .int x16)]) hC dX0_swing_313 (j := 12) rfl (congrArg _ ki_1) (Nat.le_of_ble_eq_true rfl) rfl) ?_
    refine dg_l (fun _ _ _ _ _ _ _ hC => r_goto hC dX0_swing_316 (tgt := 176) (by decide)) ?_
    exact g_sub [3, 4, 5, 6, 7, 8, 9, 10, 11, 12, 2, 1, 0] rfl (hk176 p29.2 x0 x1 x2 x3 x4 x5 x6 x8 x9 x10 x13 x16 (x13 + 1) hf)
  · have hf := dh_if hf c30
    refine dg_l (fun _ _ _ _ _ _ _ hC => r_goto hC dX0_swing_302 (tgt := 313) (by decide)) ?_
    refine dg_l (fun _ _ _ _ _ _ _ hC => r_iinc (lv' := [(13, .int (x13 + 1)), (0, dj_v E x0), (1, .int x1), (2, .int x2), (3, .int x3), (4, .int x4), (5, dj_v E x5), (6, .int x6), (8, .int x8), (9, .int x9), (10, .int x10), (11, .int x11), (12, .int x12), (14, .long x14), (16, .int x16)]) hC dX0_swing_313 (j := 12) rfl (congrArg _ ki_1) (Nat.le_of_ble_eq_true rfl) rfl) ?_
    refine dg_l (fun _ _ _ _ _ _ _ hC => r_goto hC dX0_swing_316 (tgt := 176) (by decide)) ?_
    exact g_sub [1, 2, 3, 4, 5, 6, 7, 8, 9, 10, 11, 12, 0] rfl (hk176 p29.2 x0 x1 x2 x3 x4 x5 x6 x8 x9 x10 x11 x12 (x13 + 1) hf)
def gG_X0_swing_L194_F (k176 : (dg_G → Nat → Int32 → Int32 → Int32 → Int32 → Nat → Int32 → Int32 → Int32 → Int32 → Int32 → Int32 → Int32 → Option (Int32 × dg_G))) (k194 : (dg_G → Nat → Int32 → Int32 → Int32 → Int32 → Nat → Int32 → Int32 → Int32 → Int32 → Int32 → Int32 → Int32 → Int64 → Int32 → Int32 → Option (Int32 × dg_G))) (G : dg_G) (x0 : Nat) (x1 : Int32) (x2 : Int32) (x3 : Int32) (x4 : Int32) (x5 : Nat) (x6 : Int32) (x8 : Int32) (x9 : Int32) (x10 : Int32) (x11 : Int32) (x12 : Int32) (x13 : Int32) (x14 : Int64) (x16 : Int32) (x17 : Int32) : Option (Int32 × dg_G) :=
  if x6 ≤ x17 then (
    if x11 = (-1) then (
      gG_X0_swing_b284 k176 G x0 x1 x2 x3 x4 x5 x6 x8 x9 x10 x11 x12 x13 x14 x16)
    else
    if x12 ≤ x16 then (
      k176 G x0 x1 x2 x3 x4 x5 x6 x8 x9 x10 x11 x12 (x13 + 1))
    else
    gG_X0_swing_b284 k176 G x0 x1 x2 x3 x4 x5 x6 x8 x9 x10 x11 x12 x13 x14 x16)
  else
  if ((x13 >>> (x17 &&& 31)) &&& 1) = 0 then (
    k194 G x0 x1 x2 x3 x4 x5 x6 x8 x9 x10 x11 x12 x13 x14 x16 (x17 + 1))
  else
  (dg_ld G 50 x5 x17).bind fun v33 =>
  (dg_ld G 50 x5 x17).bind fun v34 =>
  (dg_is G 1 x0).bind fun u35 =>
  (gG_X0_due G x0 v34).bind fun p36 =>
  (dg_gR G 1 0 x0).bind fun v37 =>
  (dg_gR G 2 11 v37).bind fun v38 =>
  (dg_ld G 50 x5 x17).bind fun v39 =>
  (dg_is G 1 x0).bind fun u40 =>
  (gG_X0_debtAt G x0 v39).bind fun p41 =>
  (dg_gI G 4 7 p41).bind fun v42 =>
  (dg_ldR G 56 v38 v42).bind fun v43 =>
  (dg_ld G 50 v43 x1).bind fun v44 =>
  (gG_X0_part G p36 v44).bind fun p45 =>
  k194 G x0 x1 x2 x3 x4 x5 x6 x8 x9 x10 x11 x12 x13 (x14 ||| (1 <<< (Int32.toInt64 v33 &&& 63))) (x16 + p45) (x17 + 1)
theorem wG_X0_swing_L194_F {l : Launch} {E : dj_E} {Mo : Option dm_M} {r : Int32} {G' : dg_G} (k176 : (dg_G → Nat → Int32 → Int32 → Int32 → Int32 → Nat → Int32 → Int32 → Int32 → Int32 → Int32 → Int32 → Int32 → Option (Int32 × dg_G))) (hk176 : ∀ (G : dg_G) (x0 : Nat) (x1 : Int32) (x2 : Int32) (x3 : Int32) (x4 : Int32) (x5 : Nat) (x6 : Int32) (x8 : Int32) (x9 : Int32) (x10 : Int32) (x11 : Int32) (x12 : Int32) (x13 : Int32), k176 G x0 x1 x2 x3 x4 x5 x6 x8 x9 x10 x11 x12 x13 = some (r, G') → dgW tG_X0_swing l E Mo G' (.inr (some (.int r))) G 176 [(0, dj_v E x0), (1, .int x1), (2, .int x2), (3, .int x3), (4, .int x4), (5, dj_v E x5), (6, .int x6), (8, .int x8), (9, .int x9), (10, .int x10), (11, .int x11), (12, .int x12), (13, .int x13)] []) (k194 : (dg_G → Nat → Int32 → Int32 → Int32 → Int32 → Nat → Int32 → Int32 → Int32 → Int32 → Int32 → Int32 → Int32 → Int64 → Int32 → Int32 → Option (Int32 × dg_G))) (hk194 : ∀ (G : dg_G) (x0 : Nat) (x1 : Int32) (x2 : Int32) (x3 : Int32) (x4 : Int32) (x5 : Nat) (x6 : Int32) (x8 : Int32) (x9 : Int32) (x10 : Int32) (x11 : Int32) (x12 : Int32) (x13 : Int32) (x14 : Int64) (x16 : Int32) (x17 : Int32), k194 G x0 x1 x2 x3 x4 x5 x6 x8 x9 x10 x11 x12 x13 x14 x16 x17 = some (r, G') → dgW tG_X0_swing l E Mo G' (.inr (some (.int r))) G 194 [(0, dj_v E x0), (1, .int x1), (2, .int x2), (3, .int x3), (4, .int x4), (5, dj_v E x5), (6, .int x6), (8, .int x8), (9, .int x9), (10, .int x10), (11, .int x11), (12, .int x12), (13, .int x13), (14, .long x14), (16, .int x16), (17, .int x17)] []) (G : dg_G) (x0 : Nat) (x1 : Int32) (x2 : Int32) (x3 : Int32) (x4 : Int32) (x5 : Nat) (x6 : Int32) (x8 : Int32) (x9 : Int32) (x10 : Int32) (x11 : Int32) (x12 : Int32) (x13 : Int32) (x14 : Int64) (x16 : Int32) (x17 : Int32) (hf : gG_X0_swing_L194_F k176 k194 G x0 x1 x2 x3 x4 x5 x6 x8 x9 x10 x11 x12 x13 x14 x16 x17 = some (r, G')) : dgW tG_X0_swing l E Mo G' (.inr (some (.int r))) G 194 [(0, dj_v E x0), (1, .int x1), (2, .int x2), (3, .int x3), (4, .int x4), (5, dj_v E x5), (6, .int x6), (8, .int x8), (9, .int x9), (10, .int x10), (11, .int x11), (12, .int x12), (13, .int x13), (14, .long x14), (16, .int x16), (17, .int x17)] [] := by
  unfold gG_X0_swing_L194_F at hf
  refine dg_l (fun _ _ _ _ _ _ _ hC => r_iload hC dX0_swing_194 (j := 15) rfl) ?_
  refine dg_l (fun _ _ _ _ _ _ _ hC => r_iload hC dX0_swing_196 (j := 6) rfl) ?_
  refine dg_b (fun _ _ _ _ _ _ _ hC => r_icmp_ge hC dX0_swing_198 (tgt := 271) (by decide)) (fun c26 => ?_) (fun c26 => ?_)
  · have hf := dh_if hf c26
    refine dg_l (fun _ _ _ _ _ _ _ hC => r_iload hC dX0_swing_271 (j := 10) rfl) ?_
    refine dg_l (fun _ _ _ _ _ _ _ hC => r_iconst hC dX0_swing_273 ki_m1) ?_
    refine dg_b (fun _ _ _ _ _ _ _ hC => r_icmp_eq hC dX0_swing_274 (tgt := 284) (by decide)) (fun c27 => ?_) (fun c27 => ?_)
    · have hf := dh_if hf c27
      exact g_sub [0, 1, 2, 3, 4, 5, 6, 7, 8, 9, 10, 11, 12, 13, 14] rfl (wG_X0_swing_b284 k176 hk176 G x0 x1 x2 x3 x4 x5 x6 x8 x9 x10 x11 x12 x13 x14 x16 hf)
    · have hf := dh_el hf c27
      refine dg_l (fun _ _ _ _ _ _ _ hC => r_iload hC dX0_swing_277 (j := 14) rfl) ?_
      refine dg_l (fun _ _ _ _ _ _ _ hC => r_iload hC dX0_swing_279 (j := 11) rfl) ?_
      refine dg_b (fun _ _ _ _ _ _ _ hC => r_icmp_ge hC dX0_swing_281 (tgt := 313) (by decide)) (fun c31 => ?_) (fun c31 => ?_)
      · have hf := dh_if hf c31
        refine dg_l (fun _ _ _ _ _ _ _ hC => r_iinc (lv' := [(13, .int (x13 + 1)), (0, dj_v E x0), (1, .int x1), (2, .int x2), (3, .int x3), (4, .int x4), (5, dj_v E x5), (6, .int x6), (8, .int x8), (9, .int x9), (10, .int x10), (11, .int x11), (12, .int x12), (14, .long x14), (16, .int x16), (17, .int x17)]) hC dX0_swing_313 (j := 12) rfl (congrArg _ ki_1) (Nat.le_of_ble_eq_true rfl) rfl) ?_
        refine dg_l (fun _ _ _ _ _ _ _ hC => r_goto hC dX0_swing_316 (tgt := 176) (by decide)) ?_
        exact g_sub [1, 2, 3, 4, 5, 6, 7, 8, 9, 10, 11, 12, 0] rfl (hk176 G x0 x1 x2 x3 x4 x5 x6 x8 x9 x10 x11 x12 (x13 + 1) hf)
      · have hf := dh_el hf c31
        exact g_sub [0, 1, 2, 3, 4, 5, 6, 7, 8, 9, 10, 11, 12, 13, 14] rfl (wG_X0_swing_b284 k176 hk176 G x0 x1 x2 x3 x4 x5 x6 x8 x9 x10 x11 x12 x13 x14 x16 hf)
  · have hf := dh_el hf c26
    refine dg_l (fun _ _ _ _ _ _ _ hC => r_iload hC dX0_swing_201 (j := 12) rfl) ?_
    refine dg_l (fun _ _ _ _ _ _ _ hC => r_iload hC dX0_swing_203 (j := 15) rfl) ?_
    refine dg_l (fun _ _ _ _ _ _ _ hC => r_ishr hC dX0_swing_205) ?_
    refine dg_l (fun _ _ _ _ _ _ _ hC => r_iconst hC dX0_swing_206 ki_1) ?_
    refine dg_l (fun _ _ _ _ _ _ _ hC => r_iand hC dX0_swing_207) ?_
    refine dg_bn (fun _ _ _ _ _ _ _ hC => r_if_ne hC dX0_swing_208 (tgt := 214) (by decide)) (fun c32 => ?_) (fun c32 => ?_)
    · have hf := dh_el hf c32
      refine dg_l (fun _ _ _ _ _ _ _ hC => r_lload hC dX0_swing_214 (j := 13) rfl) ?_
      refine dg_l (fun _ _ _ _ _ _ _ hC => r_lconst hC dX0_swing_216 kl_1) ?_
      refine g_aload dX0_swing_217 (j := 5) rfl ?_
      refine dg_l (fun _ _ _ _ _ _ _ hC => r_iload hC dX0_swing_219 (j := 15) rfl) ?_
      obtain ⟨v33, h33, hf⟩ := dh_bd hf
      refine g_iald h33 dX0_swing_221 ?_
      refine dg_l (fun _ _ _ _ _ _ _ hC => r_lshl hC dX0_swing_222) ?_
      refine dg_l (fun _ _ _ _ _ _ _ hC => r_lor hC dX0_swing_223) ?_
      refine dg_l (fun _ _ _ _ _ _ _ hC => r_lstore (lv' := [(14, .long (x14 ||| (1 <<< (Int32.toInt64 v33 &&& 63)))), (0, dj_v E x0), (1, .int x1), (2, .int x2), (3, .int x3), (4, .int x4), (5, dj_v E x5), (6, .int x6), (8, .int x8), (9, .int x9), (10, .int x10), (11, .int x11), (12, .int x12), (13, .int x13), (16, .int x16), (17, .int x17)]) hC dX0_swing_224 (Nat.le_of_ble_eq_true rfl) rfl) ?_
      refine dg_l (fun _ _ _ _ _ _ _ hC => r_iload hC dX0_swing_226 (j := 14) rfl) ?_
      refine g_aload_n dX0_swing_228 rfl (j := 1) rfl ?_
      refine g_aload dX0_swing_229 (j := 6) rfl ?_
      refine dg_l (fun _ _ _ _ _ _ _ hC => r_iload hC dX0_swing_231 (j := 15) rfl) ?_
      obtain ⟨v34, h34, hf⟩ := dh_bd hf
      refine g_iald h34 dX0_swing_233 ?_
      obtain ⟨u35, h35, hf⟩ := dh_bd hf
      obtain ⟨p36, h36, hf⟩ := dh_bd hf
      refine g_callV (rc_O (ci := 1) rfl h35) (cG_X0_due _ E Mo G x0 v34 h36) q507 qG_X0_due (Nat.le_of_ble_eq_true rfl) (Nat.le_of_ble_eq_true rfl) rfl (dj_cat8 (Nat.le_of_ble_eq_true rfl)) dX0_swing_234 ?_
      refine g_aload_n dX0_swing_237 rfl (j := 1) rfl ?_
      obtain ⟨v37, h37, hf⟩ := dh_bd hf
      refine g_getR fR_X0_10 (by decide) h37 dX0_swing_238 ?_
      obtain ⟨v38, h38, hf⟩ := dh_bd hf
      refine g_getR fR_X0_374 (by decide) h38 dX0_swing_241 ?_
      refine g_aload_n dX0_swing_244 rfl (j := 1) rfl ?_
      refine g_aload dX0_swing_245 (j := 6) rfl ?_
      refine dg_l (fun _ _ _ _ _ _ _ hC => r_iload hC dX0_swing_247 (j := 15) rfl) ?_
      obtain ⟨v39, h39, hf⟩ := dh_bd hf
      refine g_iald h39 dX0_swing_249 ?_
      obtain ⟨u40, h40, hf⟩ := dh_bd hf
      obtain ⟨p41, h41, hf⟩ := dh_bd hf
      refine g_callV (rc_O (ci := 1) rfl h40) (cG_X0_debtAt _ E Mo G x0 v39 h41) q485 qG_X0_debtAt (Nat.le_of_ble_eq_true rfl) (Nat.le_of_ble_eq_true rfl) rfl (dj_cat8 (Nat.le_of_ble_eq_true rfl)) dX0_swing_250 ?_
      obtain ⟨v42, h42, hf⟩ := dh_bd hf
      refine g_getI fR_X0_131 (by decide) h42 dX0_swing_253 ?_
      obtain ⟨v43, h43, hf⟩ := dh_bd hf
      refine g_aald 6 (by decide) (by decide) rfl rfl h43 dX0_swing_256 ?_
      refine dg_l (fun _ _ _ _ _ _ _ hC => r_iload_n hC dX0_swing_257 rfl (j := 2) rfl) ?_
      obtain ⟨v44, h44, hf⟩ := dh_bd hf
      refine g_iald h44 dX0_swing_258 ?_
      obtain ⟨p45, h45, hf⟩ := dh_bd hf
      refine g_callS (cG_X0_part _ E Mo G p36 v44 h45) q1258 qG_X0_part (Nat.le_of_ble_eq_true rfl) (Nat.le_of_ble_eq_true rfl) rfl (dj_cat8 (Nat.le_of_ble_eq_true rfl)) dX0_swing_259 ?_
      refine dg_l (fun _ _ _ _ _ _ _ hC => r_iadd hC dX0_swing_262) ?_
      refine dg_l (fun _ _ _ _ _ _ _ hC => r_istore (lv' := [(16, .int (x16 + p45)), (14, .long (x14 ||| (1 <<< (Int32.toInt64 v33 &&& 63)))), (0, dj_v E x0), (1, .int x1), (2, .int x2), (3, .int x3), (4, .int x4), (5, dj_v E x5), (6, .int x6), (8, .int x8), (9, .int x9), (10, .int x10), (11, .int x11), (12, .int x12), (13, .int x13), (17, .int x17)]) hC dX0_swing_263 (Nat.le_of_ble_eq_true rfl) rfl) ?_
      refine dg_l (fun _ _ _ _ _ _ _ hC => r_iinc (lv' := [(17, .int (x17 + 1)), (16, .int (x16 + p45)), (14, .long (x14 ||| (1 <<< (Int32.toInt64 v33 &&& 63)))), (0, dj_v E x0), (1, .int x1), (2, .int x2), (3, .int x3), (4, .int x4), (5, dj_v E x5), (6, .int x6), (8, .int x8), (9, .int x9), (10, .int x10), (11, .int x11), (12, .int x12), (13, .int x13)]) hC dX0_swing_265 (j := 15) rfl (congrArg _ ki_1) (Nat.le_of_ble_eq_true rfl) rfl) ?_
      refine dg_l (fun _ _ _ _ _ _ _ hC => r_goto hC dX0_swing_268 (tgt := 194) (by decide)) ?_
      exact g_sub [3, 4, 5, 6, 7, 8, 9, 10, 11, 12, 13, 14, 15, 2, 1, 0] rfl (hk194 G x0 x1 x2 x3 x4 x5 x6 x8 x9 x10 x11 x12 x13 (x14 ||| (1 <<< (Int32.toInt64 v33 &&& 63))) (x16 + p45) (x17 + 1) hf)
    · have hf := dh_if hf c32
      refine dg_l (fun _ _ _ _ _ _ _ hC => r_goto hC dX0_swing_211 (tgt := 265) (by decide)) ?_
      refine dg_l (fun _ _ _ _ _ _ _ hC => r_iinc (lv' := [(17, .int (x17 + 1)), (0, dj_v E x0), (1, .int x1), (2, .int x2), (3, .int x3), (4, .int x4), (5, dj_v E x5), (6, .int x6), (8, .int x8), (9, .int x9), (10, .int x10), (11, .int x11), (12, .int x12), (13, .int x13), (14, .long x14), (16, .int x16)]) hC dX0_swing_265 (j := 15) rfl (congrArg _ ki_1) (Nat.le_of_ble_eq_true rfl) rfl) ?_
      refine dg_l (fun _ _ _ _ _ _ _ hC => r_goto hC dX0_swing_268 (tgt := 194) (by decide)) ?_
      exact g_sub [1, 2, 3, 4, 5, 6, 7, 8, 9, 10, 11, 12, 13, 14, 15, 0] rfl (hk194 G x0 x1 x2 x3 x4 x5 x6 x8 x9 x10 x11 x12 x13 x14 x16 (x17 + 1) hf)
def gG_X0_swing_L194 (k176 : (dg_G → Nat → Int32 → Int32 → Int32 → Int32 → Nat → Int32 → Int32 → Int32 → Int32 → Int32 → Int32 → Int32 → Option (Int32 × dg_G))) : Nat → dg_G → Nat → Int32 → Int32 → Int32 → Int32 → Nat → Int32 → Int32 → Int32 → Int32 → Int32 → Int32 → Int32 → Int64 → Int32 → Int32 → Option (Int32 × dg_G)
  | 0 => fun _ _ _ _ _ _ _ _ _ _ _ _ _ _ _ _ _ => none
  | n + 1 => gG_X0_swing_L194_F k176 (gG_X0_swing_L194 k176 n)
theorem wG_X0_swing_L194 {l : Launch} {E : dj_E} {Mo : Option dm_M} {r : Int32} {G' : dg_G} (k176 : (dg_G → Nat → Int32 → Int32 → Int32 → Int32 → Nat → Int32 → Int32 → Int32 → Int32 → Int32 → Int32 → Int32 → Option (Int32 × dg_G))) (hk176 : ∀ (G : dg_G) (x0 : Nat) (x1 : Int32) (x2 : Int32) (x3 : Int32) (x4 : Int32) (x5 : Nat) (x6 : Int32) (x8 : Int32) (x9 : Int32) (x10 : Int32) (x11 : Int32) (x12 : Int32) (x13 : Int32), k176 G x0 x1 x2 x3 x4 x5 x6 x8 x9 x10 x11 x12 x13 = some (r, G') → dgW tG_X0_swing l E Mo G' (.inr (some (.int r))) G 176 [(0, dj_v E x0), (1, .int x1), (2, .int x2), (3, .int x3), (4, .int x4), (5, dj_v E x5), (6, .int x6), (8, .int x8), (9, .int x9), (10, .int x10), (11, .int x11), (12, .int x12), (13, .int x13)] []) : ∀ (n : Nat) (G : dg_G) (x0 : Nat) (x1 : Int32) (x2 : Int32) (x3 : Int32) (x4 : Int32) (x5 : Nat) (x6 : Int32) (x8 : Int32) (x9 : Int32) (x10 : Int32) (x11 : Int32) (x12 : Int32) (x13 : Int32) (x14 : Int64) (x16 : Int32) (x17 : Int32) (_ : gG_X0_swing_L194 k176 n G x0 x1 x2 x3 x4 x5 x6 x8 x9 x10 x11 x12 x13 x14 x16 x17 = some (r, G')), dgW tG_X0_swing l E Mo G' (.inr (some (.int r))) G 194 [(0, dj_v E x0), (1, .int x1), (2, .int x2), (3, .int x3), (4, .int x4), (5, dj_v E x5), (6, .int x6), (8, .int x8), (9, .int x9), (10, .int x10), (11, .int x11), (12, .int x12), (13, .int x13), (14, .long x14), (16, .int x16), (17, .int x17)] [] := by
  intro n
  induction n with
  | zero => intro G x0 x1 x2 x3 x4 x5 x6 x8 x9 x10 x11 x12 x13 x14 x16 x17 hf; exact dh_no hf
  | succ n ih => intro G x0 x1 x2 x3 x4 x5 x6 x8 x9 x10 x11 x12 x13 x14 x16 x17 hf; exact wG_X0_swing_L194_F k176 hk176 (gG_X0_swing_L194 k176 n) ih G x0 x1 x2 x3 x4 x5 x6 x8 x9 x10 x11 x12 x13 x14 x16 x17 hf
def gG_X0_swing_L176_F (k176 : (dg_G → Nat → Int32 → Int32 → Int32 → Int32 → Nat → Int32 → Int32 → Int32 → Int32 → Int32 → Int32 → Int32 → Option (Int32 × dg_G))) (G : dg_G) (x0 : Nat) (x1 : Int32) (x2 : Int32) (x3 : Int32) (x4 : Int32) (x5 : Nat) (x6 : Int32) (x8 : Int32) (x9 : Int32) (x10 : Int32) (x11 : Int32) (x12 : Int32) (x13 : Int32) : Option (Int32 × dg_G) :=
  if ¬ ((1 <<< (x6 &&& 31)) ≤ x13) then (
    gG_X0_swing_L194 k176 dh_fu G x0 x1 x2 x3 x4 x5 x6 x8 x9 x10 x11 x12 x13 0 0 0)
  else
  if x11 = (-1) then (
    some ((-1), G))
  else
  if x4 = 0 then (
    some (x12, G))
  else
  some (x11, G)
theorem wG_X0_swing_L176_F {l : Launch} {E : dj_E} {Mo : Option dm_M} {r : Int32} {G' : dg_G} (k176 : (dg_G → Nat → Int32 → Int32 → Int32 → Int32 → Nat → Int32 → Int32 → Int32 → Int32 → Int32 → Int32 → Int32 → Option (Int32 × dg_G))) (hk176 : ∀ (G : dg_G) (x0 : Nat) (x1 : Int32) (x2 : Int32) (x3 : Int32) (x4 : Int32) (x5 : Nat) (x6 : Int32) (x8 : Int32) (x9 : Int32) (x10 : Int32) (x11 : Int32) (x12 : Int32) (x13 : Int32), k176 G x0 x1 x2 x3 x4 x5 x6 x8 x9 x10 x11 x12 x13 = some (r, G') → dgW tG_X0_swing l E Mo G' (.inr (some (.int r))) G 176 [(0, dj_v E x0), (1, .int x1), (2, .int x2), (3, .int x3), (4, .int x4), (5, dj_v E x5), (6, .int x6), (8, .int x8), (9, .int x9), (10, .int x10), (11, .int x11), (12, .int x12), (13, .int x13)] []) (G : dg_G) (x0 : Nat) (x1 : Int32) (x2 : Int32) (x3 : Int32) (x4 : Int32) (x5 : Nat) (x6 : Int32) (x8 : Int32) (x9 : Int32) (x10 : Int32) (x11 : Int32) (x12 : Int32) (x13 : Int32) (hf : gG_X0_swing_L176_F k176 G x0 x1 x2 x3 x4 x5 x6 x8 x9 x10 x11 x12 x13 = some (r, G')) : dgW tG_X0_swing l E Mo G' (.inr (some (.int r))) G 176 [(0, dj_v E x0), (1, .int x1), (2, .int x2), (3, .int x3), (4, .int x4), (5, dj_v E x5), (6, .int x6), (8, .int x8), (9, .int x9), (10, .int x10), (11, .int x11), (12, .int x12), (13, .int x13)] [] := by
  unfold gG_X0_swing_L176_F at hf
  refine dg_l (fun _ _ _ _ _ _ _ hC => r_iload hC dX0_swing_176 (j := 12) rfl) ?_
  refine dg_l (fun _ _ _ _ _ _ _ hC => r_iconst hC dX0_swing_178 ki_1) ?_
  refine dg_l (fun _ _ _ _ _ _ _ hC => r_iload hC dX0_swing_179 (j := 6) rfl) ?_
  refine dg_l (fun _ _ _ _ _ _ _ hC => r_ishl hC dX0_swing_181) ?_
  refine dg_b (fun _ _ _ _ _ _ _ hC => r_icmp_ge hC dX0_swing_182 (tgt := 319) (by decide)) (fun c23 => ?_) (fun c23 => ?_)
  · have hf := dh_el hf (fun q => q c23)
    refine dg_l (fun _ _ _ _ _ _ _ hC => r_iload hC dX0_swing_319 (j := 10) rfl) ?_
    refine dg_l (fun _ _ _ _ _ _ _ hC => r_iconst hC dX0_swing_321 ki_m1) ?_
    refine dg_bn (fun _ _ _ _ _ _ _ hC => r_icmp_ne hC dX0_swing_322 (tgt := 329) (by decide)) (fun c24 => ?_) (fun c24 => ?_)
    · have hf := dh_el hf c24
      refine dg_l (fun _ _ _ _ _ _ _ hC => r_iload hC dX0_swing_329 (j := 4) rfl) ?_
      refine dg_bn (fun _ _ _ _ _ _ _ hC => r_if_ne hC dX0_swing_331 (tgt := 339) (by decide)) (fun c25 => ?_) (fun c25 => ?_)
      · have hf := dh_el hf c25
        refine dg_l (fun _ _ _ _ _ _ _ hC => r_iload hC dX0_swing_339 (j := 10) rfl) ?_
        exact g_iret dX0_swing_341 rfl hf
      · have hf := dh_if hf c25
        refine dg_l (fun _ _ _ _ _ _ _ hC => r_iload hC dX0_swing_334 (j := 11) rfl) ?_
        refine dg_l (fun _ _ _ _ _ _ _ hC => r_goto hC dX0_swing_336 (tgt := 341) (by decide)) ?_
        exact g_iret dX0_swing_341 rfl hf
    · have hf := dh_if hf c24
      refine dg_l (fun _ _ _ _ _ _ _ hC => r_iconst hC dX0_swing_325 ki_m1) ?_
      refine dg_l (fun _ _ _ _ _ _ _ hC => r_goto hC dX0_swing_326 (tgt := 341) (by decide)) ?_
      exact g_iret dX0_swing_341 rfl hf
  · have hf := dh_if hf c23
    refine dg_l (fun _ _ _ _ _ _ _ hC => r_lconst hC dX0_swing_185 kl_0) ?_
    refine dg_l (fun _ _ _ _ _ _ _ hC => r_lstore (lv' := [(14, .long 0), (0, dj_v E x0), (1, .int x1), (2, .int x2), (3, .int x3), (4, .int x4), (5, dj_v E x5), (6, .int x6), (8, .int x8), (9, .int x9), (10, .int x10), (11, .int x11), (12, .int x12), (13, .int x13)]) hC dX0_swing_186 (Nat.le_of_ble_eq_true rfl) rfl) ?_
    refine dg_l (fun _ _ _ _ _ _ _ hC => r_iconst hC dX0_swing_188 ki_0) ?_
    refine dg_l (fun _ _ _ _ _ _ _ hC => r_istore (lv' := [(16, .int 0), (14, .long 0), (0, dj_v E x0), (1, .int x1), (2, .int x2), (3, .int x3), (4, .int x4), (5, dj_v E x5), (6, .int x6), (8, .int x8), (9, .int x9), (10, .int x10), (11, .int x11), (12, .int x12), (13, .int x13)]) hC dX0_swing_189 (Nat.le_of_ble_eq_true rfl) rfl) ?_
    refine dg_l (fun _ _ _ _ _ _ _ hC => r_iconst hC dX0_swing_191 ki_0) ?_
    refine dg_l (fun _ _ _ _ _ _ _ hC => r_istore (lv' := [(17, .int 0), (16, .int 0), (14, .long 0), (0, dj_v E x0), (1, .int x1), (2, .int x2), (3, .int x3), (4, .int x4), (5, dj_v E x5), (6, .int x6), (8, .int x8), (9, .int x9), (10, .int x10), (11, .int x11), (12, .int x12), (13, .int x13)]) hC dX0_swing_192 (Nat.le_of_ble_eq_true rfl) rfl) ?_
    exact g_sub [3, 4, 5, 6, 7, 8, 9, 10, 11, 12, 13, 14, 15, 2, 1, 0] rfl (wG_X0_swing_L194 k176 hk176 dh_fu G x0 x1 x2 x3 x4 x5 x6 x8 x9 x10 x11 x12 x13 0 0 0 hf)
def gG_X0_swing_L176 : Nat → dg_G → Nat → Int32 → Int32 → Int32 → Int32 → Nat → Int32 → Int32 → Int32 → Int32 → Int32 → Int32 → Int32 → Option (Int32 × dg_G)
  | 0 => fun _ _ _ _ _ _ _ _ _ _ _ _ _ _ => none
  | n + 1 => gG_X0_swing_L176_F (gG_X0_swing_L176 n)
theorem wG_X0_swing_L176 {l : Launch} {E : dj_E} {Mo : Option dm_M} {r : Int32} {G' : dg_G} : ∀ (n : Nat) (G : dg_G) (x0 : Nat) (x1 : Int32) (x2 : Int32) (x3 : Int32) (x4 : Int32) (x5 : Nat) (x6 : Int32) (x8 : Int32) (x9 : Int32) (x10 : Int32) (x11 : Int32) (x12 : Int32) (x13 : Int32) (_ : gG_X0_swing_L176 n G x0 x1 x2 x3 x4 x5 x6 x8 x9 x10 x11 x12 x13 = some (r, G')), dgW tG_X0_swing l E Mo G' (.inr (some (.int r))) G 176 [(0, dj_v E x0), (1, .int x1), (2, .int x2), (3, .int x3), (4, .int x4), (5, dj_v E x5), (6, .int x6), (8, .int x8), (9, .int x9), (10, .int x10), (11, .int x11), (12, .int x12), (13, .int x13)] [] := by
  intro n
  induction n with
  | zero => intro G x0 x1 x2 x3 x4 x5 x6 x8 x9 x10 x11 x12 x13 hf; exact dh_no hf
  | succ n ih => intro G x0 x1 x2 x3 x4 x5 x6 x8 x9 x10 x11 x12 x13 hf; exact wG_X0_swing_L176_F (gG_X0_swing_L176 n) ih G x0 x1 x2 x3 x4 x5 x6 x8 x9 x10 x11 x12 x13 hf
def gG_X0_swing_b143 (G : dg_G) (x0 : Nat) (x1 : Int32) (x2 : Int32) (x3 : Int32) (x4 : Int32) (x5 : Nat) (x6 : Int32) (x7 : Nat) (y0 : Int32) : Option (Int32 × dg_G) :=
  (dg_is G 1 x0).bind fun u19 =>
  (gG_X0_tells_3 G x0 x7 5).bind fun p20 =>
  (dg_is p20.2 1 x0).bind fun u21 =>
  (gG_X0_tells_3 p20.2 x0 x7 6).bind fun p22 =>
  gG_X0_swing_L176 dh_fu p22.2 x0 x1 x2 x3 x4 x5 x6 y0 p20.1 p22.1 (-1) 0 0
theorem wG_X0_swing_b143 {l : Launch} {E : dj_E} {Mo : Option dm_M} {r : Int32} {G' : dg_G} (G : dg_G) (x0 : Nat) (x1 : Int32) (x2 : Int32) (x3 : Int32) (x4 : Int32) (x5 : Nat) (x6 : Int32) (x7 : Nat) (y0 : Int32) (hf : gG_X0_swing_b143 G x0 x1 x2 x3 x4 x5 x6 x7 y0 = some (r, G')) : dgW tG_X0_swing l E Mo G' (.inr (some (.int r))) G 143 [(0, dj_v E x0), (1, .int x1), (2, .int x2), (3, .int x3), (4, .int x4), (5, dj_v E x5), (6, .int x6), (7, dj_v E x7)] [.int y0] := by
  unfold gG_X0_swing_b143 at hf
  refine dg_l (fun _ _ _ _ _ _ _ hC => r_istore (lv' := [(8, .int y0), (0, dj_v E x0), (1, .int x1), (2, .int x2), (3, .int x3), (4, .int x4), (5, dj_v E x5), (6, .int x6), (7, dj_v E x7)]) hC dX0_swing_143 (Nat.le_of_ble_eq_true rfl) (by simp only [List.filter, dj_cat] <;> rfl)) ?_
  refine g_aload_n dX0_swing_145 rfl (j := 1) rfl ?_
  refine g_aload dX0_swing_146 (j := 8) rfl ?_
  refine g_gets (j := 5) (by decide) (by decide) (fun _ h => ((dk_T h).1 4 (by decide)).1) q1236 dX0_swing_148 ?_
  obtain ⟨u19, h19, hf⟩ := dh_bd hf
  obtain ⟨p20, h20, hf⟩ := dh_bd hf
  refine g_callV (rc_O (ci := 1) rfl h19) (cG_X0_tells_3 _ E Mo G x0 x7 5 h20) q1159 qG_X0_tells_3 (Nat.le_of_ble_eq_true rfl) (Nat.le_of_ble_eq_true rfl) rfl (dj_cat8 (Nat.le_of_ble_eq_true rfl)) dX0_swing_151 ?_
  refine dg_l (fun _ _ _ _ _ _ _ hC => r_istore (lv' := [(9, .int p20.1), (8, .int y0), (0, dj_v E x0), (1, .int x1), (2, .int x2), (3, .int x3), (4, .int x4), (5, dj_v E x5), (6, .int x6), (7, dj_v E x7)]) hC dX0_swing_154 (Nat.le_of_ble_eq_true rfl) rfl) ?_
  refine g_aload_n dX0_swing_156 rfl (j := 2) rfl ?_
  refine g_aload dX0_swing_157 (j := 9) rfl ?_
  refine g_gets (j := 6) (by decide) (by decide) (fun _ h => ((dk_T h).1 5 (by decide)).1) q1237 dX0_swing_159 ?_
  obtain ⟨u21, h21, hf⟩ := dh_bd hf
  obtain ⟨p22, h22, hf⟩ := dh_bd hf
  refine g_callV (rc_O (ci := 1) rfl h21) (cG_X0_tells_3 _ E Mo p20.2 x0 x7 6 h22) q1159 qG_X0_tells_3 (Nat.le_of_ble_eq_true rfl) (Nat.le_of_ble_eq_true rfl) rfl (dj_cat8 (Nat.le_of_ble_eq_true rfl)) dX0_swing_162 ?_
  refine dg_l (fun _ _ _ _ _ _ _ hC => r_istore (lv' := [(10, .int p22.1), (9, .int p20.1), (8, .int y0), (0, dj_v E x0), (1, .int x1), (2, .int x2), (3, .int x3), (4, .int x4), (5, dj_v E x5), (6, .int x6), (7, dj_v E x7)]) hC dX0_swing_165 (Nat.le_of_ble_eq_true rfl) rfl) ?_
  refine dg_l (fun _ _ _ _ _ _ _ hC => r_iconst hC dX0_swing_167 ki_m1) ?_
  refine dg_l (fun _ _ _ _ _ _ _ hC => r_istore (lv' := [(11, .int (-1)), (10, .int p22.1), (9, .int p20.1), (8, .int y0), (0, dj_v E x0), (1, .int x1), (2, .int x2), (3, .int x3), (4, .int x4), (5, dj_v E x5), (6, .int x6), (7, dj_v E x7)]) hC dX0_swing_168 (Nat.le_of_ble_eq_true rfl) rfl) ?_
  refine dg_l (fun _ _ _ _ _ _ _ hC => r_iconst hC dX0_swing_170 ki_0) ?_
  refine dg_l (fun _ _ _ _ _ _ _ hC => r_istore (lv' := [(12, .int 0), (11, .int (-1)), (10, .int p22.1), (9, .int p20.1), (8, .int y0), (0, dj_v E x0), (1, .int x1), (2, .int x2), (3, .int x3), (4, .int x4), (5, dj_v E x5), (6, .int x6), (7, dj_v E x7)]) hC dX0_swing_171 (Nat.le_of_ble_eq_true rfl) rfl) ?_
  refine dg_l (fun _ _ _ _ _ _ _ hC => r_iconst hC dX0_swing_173 ki_0) ?_
  refine dg_l (fun _ _ _ _ _ _ _ hC => r_istore (lv' := [(13, .int 0), (12, .int 0), (11, .int (-1)), (10, .int p22.1), (9, .int p20.1), (8, .int y0), (0, dj_v E x0), (1, .int x1), (2, .int x2), (3, .int x3), (4, .int x4), (5, dj_v E x5), (6, .int x6), (7, dj_v E x7)]) hC dX0_swing_174 (Nat.le_of_ble_eq_true rfl) rfl) ?_
  exact g_sub [6, 7, 8, 9, 10, 11, 12, 5, 4, 3, 2, 1, 0] rfl (wG_X0_swing_L176 dh_fu p22.2 x0 x1 x2 x3 x4 x5 x6 y0 p20.1 p22.1 (-1) 0 0 hf)
def gG_X0_swing_b119 (G : dg_G) (x0 : Nat) (x1 : Int32) (x2 : Int32) (x3 : Int32) (x4 : Int32) (x5 : Nat) (x6 : Int32) : Option (Int32 × dg_G) :=
  (dg_is G 1 x0).bind fun u14 =>
  (gG_X0_at G x0 x1).bind fun p15 =>
  (dg_is G 1 x0).bind fun u16 =>
  (gG_X0_tells_3 G x0 p15 7).bind fun p17 =>
  if p17.1 = 0 then (
    gG_X0_swing_b143 p17.2 x0 x1 x2 x3 x4 x5 x6 p15 0)
  else
  gG_X0_swing_b143 p17.2 x0 x1 x2 x3 x4 x5 x6 p15 1
theorem wG_X0_swing_b119 {l : Launch} {E : dj_E} {Mo : Option dm_M} {r : Int32} {G' : dg_G} (G : dg_G) (x0 : Nat) (x1 : Int32) (x2 : Int32) (x3 : Int32) (x4 : Int32) (x5 : Nat) (x6 : Int32) (hf : gG_X0_swing_b119 G x0 x1 x2 x3 x4 x5 x6 = some (r, G')) : dgW tG_X0_swing l E Mo G' (.inr (some (.int r))) G 119 [(0, dj_v E x0), (1, .int x1), (2, .int x2), (3, .int x3), (4, .int x4), (5, dj_v E x5), (6, .int x6)] [] := by
  unfold gG_X0_swing_b119 at hf
  refine g_aload_n dX0_swing_119 rfl (j := 0) rfl ?_
  refine dg_l (fun _ _ _ _ _ _ _ hC => r_iload_n hC dX0_swing_120 rfl (j := 1) rfl) ?_
  obtain ⟨u14, h14, hf⟩ := dh_bd hf
  obtain ⟨p15, h15, hf⟩ := dh_bd hf
  refine g_callV (rc_O (ci := 1) rfl h14) (cG_X0_at _ E Mo G x0 x1 h15) q525 qG_X0_at (Nat.le_of_ble_eq_true rfl) (Nat.le_of_ble_eq_true rfl) rfl (dj_cat8 (Nat.le_of_ble_eq_true rfl)) dX0_swing_121 ?_
  refine g_astore (i := 7) (lv1 := [(7, dj_v E p15), (0, dj_v E x0), (1, .int x1), (2, .int x2), (3, .int x3), (4, .int x4), (5, dj_v E x5), (6, .int x6)]) dX0_swing_124 (Nat.le_of_ble_eq_true rfl) rfl ?_
  refine g_aload_n dX0_swing_126 rfl (j := 1) rfl ?_
  refine g_aload dX0_swing_127 (j := 0) rfl ?_
  refine g_gets (j := 7) (by decide) (by decide) (fun _ h => ((dk_T h).1 6 (by decide)).1) q1234 dX0_swing_129 ?_
  obtain ⟨u16, h16, hf⟩ := dh_bd hf
  obtain ⟨p17, h17, hf⟩ := dh_bd hf
  refine g_callV (rc_O (ci := 1) rfl h16) (cG_X0_tells_3 _ E Mo G x0 p15 7 h17) q1159 qG_X0_tells_3 (Nat.le_of_ble_eq_true rfl) (Nat.le_of_ble_eq_true rfl) rfl (dj_cat8 (Nat.le_of_ble_eq_true rfl)) dX0_swing_132 ?_
  refine dg_b (fun _ _ _ _ _ _ _ hC => r_if_eq hC dX0_swing_135 (tgt := 142) (by decide)) (fun c18 => ?_) (fun c18 => ?_)
  · have hf := dh_if hf c18
    refine dg_l (fun _ _ _ _ _ _ _ hC => r_iconst hC dX0_swing_142 ki_0) ?_
    exact g_sub [1, 2, 3, 4, 5, 6, 7, 0] rfl (wG_X0_swing_b143 p17.2 x0 x1 x2 x3 x4 x5 x6 p15 0 hf)
  · have hf := dh_el hf c18
    refine dg_l (fun _ _ _ _ _ _ _ hC => r_iconst hC dX0_swing_138 ki_1) ?_
    refine dg_l (fun _ _ _ _ _ _ _ hC => r_goto hC dX0_swing_139 (tgt := 143) (by decide)) ?_
    exact g_sub [1, 2, 3, 4, 5, 6, 7, 0] rfl (wG_X0_swing_b143 p17.2 x0 x1 x2 x3 x4 x5 x6 p15 1 hf)
def gG_X0_swing_L44_F (k44 : (dg_G → Nat → Int32 → Int32 → Int32 → Int32 → Nat → Int32 → Int32 → Option (Int32 × dg_G))) (G : dg_G) (x0 : Nat) (x1 : Int32) (x2 : Int32) (x3 : Int32) (x4 : Int32) (x5 : Nat) (x6 : Int32) (x7 : Int32) : Option (Int32 × dg_G) :=
  (dg_gR G 1 0 x0).bind fun v9 =>
  (dg_gR G 2 9 v9).bind fun v10 =>
  (dg_is G 10 v10).bind fun u11 =>
  (gG_J2_size G v10).bind fun p12 =>
  if p12 ≤ x7 then (
    gG_X0_swing_b119 G x0 x1 x2 x3 x4 x5 x6)
  else
  if 10 ≤ x6 then (
    gG_X0_swing_b119 G x0 x1 x2 x3 x4 x5 x6)
  else
  (dg_is G 1 x0).bind fun u47 =>
  (gG_X0_debtAt G x0 x7).bind fun p48 =>
  (dg_is G 4 p48).bind fun u49 =>
  (gG_X4_isLive G p48).bind fun p50 =>
  if p50 = 0 then (
    k44 G x0 x1 x2 x3 x4 x5 x6 (x7 + 1))
  else
  (dg_gI G 4 1 p48).bind fun v52 =>
  if v52 = x1 then (
    (dg_gI G 4 7 p48).bind fun v54 =>
    if v54 = x2 then (
      k44 G x0 x1 x2 x3 x4 x5 x6 (x7 + 1))
    else
    (dg_st G 50 x5 x6 x7).bind fun G56 =>
    k44 G56 x0 x1 x2 x3 x4 x5 (x6 + 1) (x7 + 1))
  else
  k44 G x0 x1 x2 x3 x4 x5 x6 (x7 + 1)
theorem wG_X0_swing_L44_F {l : Launch} {E : dj_E} {Mo : Option dm_M} {r : Int32} {G' : dg_G} (k44 : (dg_G → Nat → Int32 → Int32 → Int32 → Int32 → Nat → Int32 → Int32 → Option (Int32 × dg_G))) (hk44 : ∀ (G : dg_G) (x0 : Nat) (x1 : Int32) (x2 : Int32) (x3 : Int32) (x4 : Int32) (x5 : Nat) (x6 : Int32) (x7 : Int32), k44 G x0 x1 x2 x3 x4 x5 x6 x7 = some (r, G') → dgW tG_X0_swing l E Mo G' (.inr (some (.int r))) G 44 [(0, dj_v E x0), (1, .int x1), (2, .int x2), (3, .int x3), (4, .int x4), (5, dj_v E x5), (6, .int x6), (7, .int x7)] []) (G : dg_G) (x0 : Nat) (x1 : Int32) (x2 : Int32) (x3 : Int32) (x4 : Int32) (x5 : Nat) (x6 : Int32) (x7 : Int32) (hf : gG_X0_swing_L44_F k44 G x0 x1 x2 x3 x4 x5 x6 x7 = some (r, G')) : dgW tG_X0_swing l E Mo G' (.inr (some (.int r))) G 44 [(0, dj_v E x0), (1, .int x1), (2, .int x2), (3, .int x3), (4, .int x4), (5, dj_v E x5), (6, .int x6), (7, .int x7)] [] := by
  unfold gG_X0_swing_L44_F at hf
  refine dg_l (fun _ _ _ _ _ _ _ hC => r_iload hC dX0_swing_44 (j := 7) rfl) ?_
  refine g_aload_n dX0_swing_46 rfl (j := 0) rfl ?_
  obtain ⟨v9, h9, hf⟩ := dh_bd hf
  refine g_getR fR_X0_10 (by decide) h9 dX0_swing_47 ?_
  obtain ⟨v10, h10, hf⟩ := dh_bd hf
  refine g_getR fR_X0_63 (by decide) h10 dX0_swing_50 ?_
  obtain ⟨u11, h11, hf⟩ := dh_bd hf
  obtain ⟨p12, h12, hf⟩ := dh_bd hf
  refine g_callV (rc_O (ci := 10) rfl h11) (cG_J2_size _ E Mo G v10 h12) q256 qG_J2_size (Nat.le_of_ble_eq_true rfl) (Nat.le_of_ble_eq_true rfl) rfl (dj_cat8 (Nat.le_of_ble_eq_true rfl)) dX0_swing_53 ?_
  refine dg_b (fun _ _ _ _ _ _ _ hC => r_icmp_ge hC dX0_swing_56 (tgt := 119) (by decide)) (fun c13 => ?_) (fun c13 => ?_)
  · have hf := dh_if hf c13
    exact g_sub [0, 1, 2, 3, 4, 5, 6] rfl (wG_X0_swing_b119 G x0 x1 x2 x3 x4 x5 x6 hf)
  · have hf := dh_el hf c13
    refine dg_l (fun _ _ _ _ _ _ _ hC => r_iload hC dX0_swing_59 (j := 6) rfl) ?_
    refine dg_l (fun _ _ _ _ _ _ _ hC => r_bipush hC dX0_swing_61 kb_10) ?_
    refine dg_b (fun _ _ _ _ _ _ _ hC => r_icmp_ge hC dX0_swing_63 (tgt := 119) (by decide)) (fun c46 => ?_) (fun c46 => ?_)
    · have hf := dh_if hf c46
      exact g_sub [0, 1, 2, 3, 4, 5, 6] rfl (wG_X0_swing_b119 G x0 x1 x2 x3 x4 x5 x6 hf)
    · have hf := dh_el hf c46
      refine g_aload_n dX0_swing_66 rfl (j := 0) rfl ?_
      refine dg_l (fun _ _ _ _ _ _ _ hC => r_iload hC dX0_swing_67 (j := 7) rfl) ?_
      obtain ⟨u47, h47, hf⟩ := dh_bd hf
      obtain ⟨p48, h48, hf⟩ := dh_bd hf
      refine g_callV (rc_O (ci := 1) rfl h47) (cG_X0_debtAt _ E Mo G x0 x7 h48) q485 qG_X0_debtAt (Nat.le_of_ble_eq_true rfl) (Nat.le_of_ble_eq_true rfl) rfl (dj_cat8 (Nat.le_of_ble_eq_true rfl)) dX0_swing_69 ?_
      refine g_astore (i := 8) (lv1 := [(8, dj_v E p48), (0, dj_v E x0), (1, .int x1), (2, .int x2), (3, .int x3), (4, .int x4), (5, dj_v E x5), (6, .int x6), (7, .int x7)]) dX0_swing_72 (Nat.le_of_ble_eq_true rfl) rfl ?_
      refine g_aload dX0_swing_74 (j := 0) rfl ?_
      obtain ⟨u49, h49, hf⟩ := dh_bd hf
      obtain ⟨p50, h50, hf⟩ := dh_bd hf
      refine g_callV (rc_O (ci := 4) rfl h49) (cG_X4_isLive _ E Mo G p48 h50) q503 qG_X4_isLive (Nat.le_of_ble_eq_true rfl) (Nat.le_of_ble_eq_true rfl) rfl (dj_cat8 (Nat.le_of_ble_eq_true rfl)) dX0_swing_76 ?_
      refine dg_b (fun _ _ _ _ _ _ _ hC => r_if_eq hC dX0_swing_79 (tgt := 113) (by decide)) (fun c51 => ?_) (fun c51 => ?_)
      · have hf := dh_if hf c51
        refine dg_l (fun _ _ _ _ _ _ _ hC => r_iinc (lv' := [(7, .int (x7 + 1)), (8, dj_v E p48), (0, dj_v E x0), (1, .int x1), (2, .int x2), (3, .int x3), (4, .int x4), (5, dj_v E x5), (6, .int x6)]) hC dX0_swing_113 (j := 8) rfl (congrArg _ ki_1) (Nat.le_of_ble_eq_true rfl) rfl) ?_
        refine dg_l (fun _ _ _ _ _ _ _ hC => r_goto hC dX0_swing_116 (tgt := 44) (by decide)) ?_
        exact g_sub [2, 3, 4, 5, 6, 7, 8, 0] rfl (hk44 G x0 x1 x2 x3 x4 x5 x6 (x7 + 1) hf)
      · have hf := dh_el hf c51
        refine g_aload dX0_swing_82 (j := 0) rfl ?_
        obtain ⟨v52, h52, hf⟩ := dh_bd hf
        refine g_getI fR_X0_128 (by decide) h52 dX0_swing_84 ?_
        refine dg_l (fun _ _ _ _ _ _ _ hC => r_iload_n hC dX0_swing_87 rfl (j := 2) rfl) ?_
        refine dg_bn (fun _ _ _ _ _ _ _ hC => r_icmp_ne hC dX0_swing_88 (tgt := 113) (by decide)) (fun c53 => ?_) (fun c53 => ?_)
        · have hf := dh_el hf c53
          refine dg_l (fun _ _ _ _ _ _ _ hC => r_iinc (lv' := [(7, .int (x7 + 1)), (8, dj_v E p48), (0, dj_v E x0), (1, .int x1), (2, .int x2), (3, .int x3), (4, .int x4), (5, dj_v E x5), (6, .int x6)]) hC dX0_swing_113 (j := 8) rfl (congrArg _ ki_1) (Nat.le_of_ble_eq_true rfl) rfl) ?_
          refine dg_l (fun _ _ _ _ _ _ _ hC => r_goto hC dX0_swing_116 (tgt := 44) (by decide)) ?_
          exact g_sub [2, 3, 4, 5, 6, 7, 8, 0] rfl (hk44 G x0 x1 x2 x3 x4 x5 x6 (x7 + 1) hf)
        · have hf := dh_if hf c53
          refine g_aload dX0_swing_91 (j := 0) rfl ?_
          obtain ⟨v54, h54, hf⟩ := dh_bd hf
          refine g_getI fR_X0_131 (by decide) h54 dX0_swing_93 ?_
          refine dg_l (fun _ _ _ _ _ _ _ hC => r_iload_n hC dX0_swing_96 rfl (j := 3) rfl) ?_
          refine dg_bn (fun _ _ _ _ _ _ _ hC => r_icmp_ne hC dX0_swing_97 (tgt := 103) (by decide)) (fun c55 => ?_) (fun c55 => ?_)
          · have hf := dh_el hf c55
            refine g_aload dX0_swing_103 (j := 6) rfl ?_
            refine dg_l (fun _ _ _ _ _ _ _ hC => r_iload hC dX0_swing_105 (j := 7) rfl) ?_
            refine dg_l (fun _ _ _ _ _ _ _ hC => r_iload hC dX0_swing_107 (j := 8) rfl) ?_
            obtain ⟨G56, h56, hf⟩ := dh_bd hf
            refine g_iast h56 dX0_swing_109 ?_
            refine dg_l (fun _ _ _ _ _ _ _ hC => r_iinc (lv' := [(6, .int (x6 + 1)), (8, dj_v E p48), (0, dj_v E x0), (1, .int x1), (2, .int x2), (3, .int x3), (4, .int x4), (5, dj_v E x5), (7, .int x7)]) hC dX0_swing_110 (j := 7) rfl (congrArg _ ki_1) (Nat.le_of_ble_eq_true rfl) (by simp only [List.filter, dj_cat] <;> rfl)) ?_
            refine dg_l (fun _ _ _ _ _ _ _ hC => r_iinc (lv' := [(7, .int (x7 + 1)), (6, .int (x6 + 1)), (8, dj_v E p48), (0, dj_v E x0), (1, .int x1), (2, .int x2), (3, .int x3), (4, .int x4), (5, dj_v E x5)]) hC dX0_swing_113 (j := 8) rfl (congrArg _ ki_1) (Nat.le_of_ble_eq_true rfl) rfl) ?_
            refine dg_l (fun _ _ _ _ _ _ _ hC => r_goto hC dX0_swing_116 (tgt := 44) (by decide)) ?_
            exact g_sub [3, 4, 5, 6, 7, 8, 1, 0] rfl (hk44 G56 x0 x1 x2 x3 x4 x5 (x6 + 1) (x7 + 1) hf)
          · have hf := dh_if hf c55
            refine dg_l (fun _ _ _ _ _ _ _ hC => r_goto hC dX0_swing_100 (tgt := 113) (by decide)) ?_
            refine dg_l (fun _ _ _ _ _ _ _ hC => r_iinc (lv' := [(7, .int (x7 + 1)), (8, dj_v E p48), (0, dj_v E x0), (1, .int x1), (2, .int x2), (3, .int x3), (4, .int x4), (5, dj_v E x5), (6, .int x6)]) hC dX0_swing_113 (j := 8) rfl (congrArg _ ki_1) (Nat.le_of_ble_eq_true rfl) rfl) ?_
            refine dg_l (fun _ _ _ _ _ _ _ hC => r_goto hC dX0_swing_116 (tgt := 44) (by decide)) ?_
            exact g_sub [2, 3, 4, 5, 6, 7, 8, 0] rfl (hk44 G x0 x1 x2 x3 x4 x5 x6 (x7 + 1) hf)
def gG_X0_swing_L44 : Nat → dg_G → Nat → Int32 → Int32 → Int32 → Int32 → Nat → Int32 → Int32 → Option (Int32 × dg_G)
  | 0 => fun _ _ _ _ _ _ _ _ _ => none
  | n + 1 => gG_X0_swing_L44_F (gG_X0_swing_L44 n)
theorem wG_X0_swing_L44 {l : Launch} {E : dj_E} {Mo : Option dm_M} {r : Int32} {G' : dg_G} : ∀ (n : Nat) (G : dg_G) (x0 : Nat) (x1 : Int32) (x2 : Int32) (x3 : Int32) (x4 : Int32) (x5 : Nat) (x6 : Int32) (x7 : Int32) (_ : gG_X0_swing_L44 n G x0 x1 x2 x3 x4 x5 x6 x7 = some (r, G')), dgW tG_X0_swing l E Mo G' (.inr (some (.int r))) G 44 [(0, dj_v E x0), (1, .int x1), (2, .int x2), (3, .int x3), (4, .int x4), (5, dj_v E x5), (6, .int x6), (7, .int x7)] [] := by
  intro n
  induction n with
  | zero => intro G x0 x1 x2 x3 x4 x5 x6 x7 hf; exact dh_no hf
  | succ n ih => intro G x0 x1 x2 x3 x4 x5 x6 x7 hf; exact wG_X0_swing_L44_F (gG_X0_swing_L44 n) ih G x0 x1 x2 x3 x4 x5 x6 x7 hf
def gG_X0_swing (G : dg_G) (x0 : Nat) (x1 : Int32) (x2 : Int32) (x3 : Int32) (x4 : Int32) : Option (Int32 × dg_G) :=
  (dg_is G 1 x0).bind fun u1 =>
  (gG_X0_areTwo G x0 x1 x2).bind fun p2 =>
  if p2 = 0 then (
    some ((-1), G))
  else
  (gG_X0_isIn G x3 0 1000).bind fun p4 =>
  if p4 = 0 then (
    some ((-1), G))
  else
  (gG_X0_isIn G x4 0 1).bind fun p6 =>
  if p6 = 0 then (
    some ((-1), G))
  else
  (dg_new G 50 10).bind fun G8 =>
  gG_X0_swing_L44 dh_fu G8 x0 x1 x2 x3 x4 (dg_n G) 0 0
theorem wG_X0_swing {l : Launch} {E : dj_E} {Mo : Option dm_M} {r : Int32} {G' : dg_G} (G : dg_G) (x0 : Nat) (x1 : Int32) (x2 : Int32) (x3 : Int32) (x4 : Int32) (hf : gG_X0_swing G x0 x1 x2 x3 x4 = some (r, G')) : dgW tG_X0_swing l E Mo G' (.inr (some (.int r))) G 0 [(0, dj_v E x0), (1, .int x1), (2, .int x2), (3, .int x3), (4, .int x4)] [] := by
  unfold gG_X0_swing at hf
  refine g_aload_n dX0_swing_0 rfl (j := 0) rfl ?_
  refine dg_l (fun _ _ _ _ _ _ _ hC => r_iload_n hC dX0_swing_1 rfl (j := 1) rfl) ?_
  refine dg_l (fun _ _ _ _ _ _ _ hC => r_iload_n hC dX0_swing_2 rfl (j := 2) rfl) ?_
  obtain ⟨u1, h1, hf⟩ := dh_bd hf
  obtain ⟨p2, h2, hf⟩ := dh_bd hf
  refine g_callV (rc_O (ci := 1) rfl h1) (cG_X0_areTwo _ E Mo G x0 x1 x2 h2) q398 qG_X0_areTwo (Nat.le_of_ble_eq_true rfl) (Nat.le_of_ble_eq_true rfl) rfl (dj_cat8 (Nat.le_of_ble_eq_true rfl)) dX0_swing_3 ?_
  refine dg_b (fun _ _ _ _ _ _ _ hC => r_if_eq hC dX0_swing_6 (tgt := 30) (by decide)) (fun c3 => ?_) (fun c3 => ?_)
  · have hf := dh_if hf c3
    refine dg_l (fun _ _ _ _ _ _ _ hC => r_iconst hC dX0_swing_30 ki_m1) ?_
    exact g_iret dX0_swing_31 rfl hf
  · have hf := dh_el hf c3
    refine dg_l (fun _ _ _ _ _ _ _ hC => r_iload_n hC dX0_swing_9 rfl (j := 3) rfl) ?_
    refine dg_l (fun _ _ _ _ _ _ _ hC => r_iconst hC dX0_swing_10 ki_0) ?_
    refine dg_l (fun _ _ _ _ _ _ _ hC => r_sipush hC dX0_swing_11 ks_1000) ?_
    obtain ⟨p4, h4, hf⟩ := dh_bd hf
    refine g_callS (cG_X0_isIn _ E Mo G x3 0 1000 h4) q261 qG_X0_isIn (Nat.le_of_ble_eq_true rfl) (Nat.le_of_ble_eq_true rfl) rfl (dj_cat8 (Nat.le_of_ble_eq_true rfl)) dX0_swing_14 ?_
    refine dg_b (fun _ _ _ _ _ _ _ hC => r_if_eq hC dX0_swing_17 (tgt := 30) (by decide)) (fun c5 => ?_) (fun c5 => ?_)
    · have hf := dh_if hf c5
      refine dg_l (fun _ _ _ _ _ _ _ hC => r_iconst hC dX0_swing_30 ki_m1) ?_
      exact g_iret dX0_swing_31 rfl hf
    · have hf := dh_el hf c5
      refine dg_l (fun _ _ _ _ _ _ _ hC => r_iload hC dX0_swing_20 (j := 4) rfl) ?_
      refine dg_l (fun _ _ _ _ _ _ _ hC => r_iconst hC dX0_swing_22 ki_0) ?_
      refine dg_l (fun _ _ _ _ _ _ _ hC => r_iconst hC dX0_swing_23 ki_1) ?_
      obtain ⟨p6, h6, hf⟩ := dh_bd hf
      refine g_callS (cG_X0_isIn _ E Mo G x4 0 1 h6) q261 qG_X0_isIn (Nat.le_of_ble_eq_true rfl) (Nat.le_of_ble_eq_true rfl) rfl (dj_cat8 (Nat.le_of_ble_eq_true rfl)) dX0_swing_24 ?_
      refine dg_bn (fun _ _ _ _ _ _ _ hC => r_if_ne hC dX0_swing_27 (tgt := 32) (by decide)) (fun c7 => ?_) (fun c7 => ?_)
      · have hf := dh_el hf c7
        refine dg_l (fun _ _ _ _ _ _ _ hC => r_bipush hC dX0_swing_32 kb_10) ?_
        obtain ⟨G8, h8, hf⟩ := dh_bd hf
        refine g_newa 0 (atype := .int) (ty := .int) (by decide) rfl rfl (fun _ _ h => h) rfl (by decide) q215 h8 dX0_swing_34 ?_
        refine g_astore (i := 5) (lv1 := [(5, dj_v E (dg_n G)), (0, dj_v E x0), (1, .int x1), (2, .int x2), (3, .int x3), (4, .int x4)]) dX0_swing_36 (Nat.le_of_ble_eq_true rfl) rfl ?_
        refine dg_l (fun _ _ _ _ _ _ _ hC => r_iconst hC dX0_swing_38 ki_0) ?_
        refine dg_l (fun _ _ _ _ _ _ _ hC => r_istore (lv' := [(6, .int 0), (5, dj_v E (dg_n G)), (0, dj_v E x0), (1, .int x1), (2, .int x2), (3, .int x3), (4, .int x4)]) hC dX0_swing_39 (Nat.le_of_ble_eq_true rfl) (by simp only [List.filter, dj_cat] <;> rfl)) ?_
        refine dg_l (fun _ _ _ _ _ _ _ hC => r_iconst hC dX0_swing_41 ki_0) ?_
        refine dg_l (fun _ _ _ _ _ _ _ hC => r_istore (lv' := [(7, .int 0), (6, .int 0), (5, dj_v E (dg_n G)), (0, dj_v E x0), (1, .int x1), (2, .int x2), (3, .int x3), (4, .int x4)]) hC dX0_swing_42 (Nat.le_of_ble_eq_true rfl) rfl) ?_
        exact g_sub [3, 4, 5, 6, 7, 2, 1, 0] rfl (wG_X0_swing_L44 dh_fu G8 x0 x1 x2 x3 x4 (dg_n G) 0 0 hf)
      · have hf := dh_if hf c7
        refine dg_l (fun _ _ _ _ _ _ _ hC => r_iconst hC dX0_swing_30 ki_m1) ?_
        exact g_iret dX0_swing_31 rfl hf
theorem cG_X0_swing (l : Launch) (E : dj_E) (Mo : Option dm_M) (G : dg_G) (x0 : Nat) (x1 : Int32) (x2 : Int32) (x3 : Int32) (x4 : Int32) {p : Int32 × dg_G} (h : gG_X0_swing G x0 x1 x2 x3 x4 = some p) : dg_Met l yX0_swing cX0_swing 18 (some .int) 7 154 E Mo [dj_v E x0, .int x1, .int x2, .int x3, .int x4] G (some (.int p.1)) p.2 :=
  dg_met (plainFor_of_name (by decide)) (by simp only [lg_sl_ref, lg_sl_int, lg_sl_long, lg_sl_nil]; decide) (by simp only [lv_args_ref, lv_args_int, lv_args_long, lv_args_nil]) (wG_X0_swing G x0 x1 x2 x3 x4 h)
theorem qG_X0_swing : dg_cV "DebtorsHouse" yX0_swing cX0_swing 18 (some .int) 4 := ⟨q1271, Or.inl q1272, q81, q1273, by decide, by decide, by decide +kernel⟩
