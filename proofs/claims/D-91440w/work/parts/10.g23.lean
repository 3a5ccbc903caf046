set_option maxRecDepth 100000
/-! DebtorsHouse.count(I)I -/
abbrev tG_X0_count : dg_T := (cX0_count, 7, RX0, (some .int), 5, 107, "count", [])
def gG_X0_count_L68_F (k68 : (Nat → Int32 → Int32 → Int32 → Int32 → Int32 → Int32 → Option Int32)) (G : dg_G) (x0 : Nat) (x1 : Int32) (x2 : Int32) (x3 : Int32) (x4 : Int32) (x5 : Int32) (x6 : Int32) : Option Int32 :=
  (dg_gR G 1 0 x0).bind fun v6 =>
  (dg_gR G 2 8 v6).bind fun v7 =>
  (dg_is G 10 v7).bind fun u8 =>
  (gG_J2_size G v7).bind fun p9 =>
  if ¬ (p9 ≤ x6) then (
    (dg_is G 1 x0).bind fun u45 =>
    (gG_X0_at G x0 x6).bind fun p46 =>
    (dg_is G 3 p46).bind fun u47 =>
    (gG_X3_isHeld G p46).bind fun p48 =>
    if p48 = 0 then (
      (dg_is G 1 x0).bind fun u50 =>
      (gG_X0_at G x0 x6).bind fun p51 =>
      (dg_gI G 3 2 p51).bind fun v52 =>
      k68 x0 x1 x2 (x3 + 0) (x4 + v52) x5 (x6 + 1))
    else
    (dg_is G 1 x0).bind fun u53 =>
    (gG_X0_at G x0 x6).bind fun p54 =>
    (dg_gI G 3 2 p54).bind fun v55 =>
    k68 x0 x1 x2 (x3 + 1) (x4 + v55) x5 (x6 + 1))
  else
  if x1 = 0 then (
    (dg_gR G 1 0 x0).bind fun v12 =>
    (dg_gR G 2 8 v12).bind fun v13 =>
    (dg_is G 10 v13).bind fun u14 =>
    (gG_J2_size G v13).bind fun p15 =>
    some p15)
  else
  if x1 = 1 then (
    (dg_gR G 1 0 x0).bind fun v17 =>
    (dg_gR G 2 9 v17).bind fun v18 =>
    (dg_is G 10 v18).bind fun u19 =>
    (gG_J2_size G v18).bind fun p20 =>
    some p20)
  else
  if x1 = 2 then (
    some x2)
  else
  if x1 = 3 then (
    (dg_gR G 1 0 x0).bind fun v23 =>
    (dg_gR G 2 10 v23).bind fun v24 =>
    (dg_is G 10 v24).bind fun u25 =>
    (gG_J2_size G v24).bind fun p26 =>
    some p26)
  else
  if x1 = 4 then (
    (dg_gR G 1 0 x0).bind fun v28 =>
    (dg_gI G 2 4 v28).bind fun v29 =>
    some v29)
  else
  if x1 = 5 then (
    (dg_gR G 1 0 x0).bind fun v31 =>
    (dg_gI G 2 5 v31).bind fun v32 =>
    some v32)
  else
  if x1 = 6 then (
    some x3)
  else
  if x1 = 7 then (
    (dg_gR G 1 0 x0).bind fun v35 =>
    (dg_gI G 2 7 v35).bind fun v36 =>
    some v36)
  else
  if x1 = 8 then (
    (dg_gR G 1 0 x0).bind fun v38 =>
    (dg_gI G 2 6 v38).bind fun v39 =>
    some v39)
  else
  if x1 = 9 then (
    some x4)
  else
  if x1 = 10 then (
    some x5)
  else
  if x1 = 11 then (
    (dg_is G 1 x0).bind fun u43 =>
    (gG_X0_rows G x0).bind fun p44 =>
    some p44)
  else
  some (-1)
theorem wG_X0_count_L68_F {l : Launch} {E : dj_E} {Mo : Option dm_M} {r : Int32} (G : dg_G) (k68 : (Nat → Int32 → Int32 → Int32 → Int32 → Int32 → Int32 → Option Int32)) (hk68 : ∀ (x0 : Nat) (x1 : Int32) (x2 : Int32) (x3 : Int32) (x4 : Int32) (x5 : Int32) (x6 : Int32), k68 x0 x1 x2 x3 x4 x5 x6 = some r → dgW tG_X0_count l E Mo G (.inr (some (.int r))) G 68 [(0, dj_v E x0), (1, .int x1), (2, .int x2), (3, .int x3), (4, .int x4), (5, .int x5), (6, .int x6)] []) (x0 : Nat) (x1 : Int32) (x2 : Int32) (x3 : Int32) (x4 : Int32) (x5 : Int32) (x6 : Int32) (hf : gG_X0_count_L68_F k68 G x0 x1 x2 x3 x4 x5 x6 = some r) : dgW tG_X0_count l E Mo G (.inr (some (.int r))) G 68 [(0, dj_v E x0), (1, .int x1), (2, .int x2), (3, .int x3), (4, .int x4), (5, .int x5), (6, .int x6)] [] := by
  unfold gG_X0_count_L68_F at hf
  refine dg_l (fun _ _ _ _ _ _ _ hC => r_iload hC dX0_count_68 (j := 6) rfl) ?_
  refine g_aload_n dX0_count_70 rfl (j := 0) rfl ?_
  obtain ⟨v6, h6, hf⟩ := dh_bd hf
  refine g_getR fR_X0_10 (by decide) h6 dX0_count_71 ?_
  obtain ⟨v7, h7, hf⟩ := dh_bd hf
  refine g_getR fR_X0_51 (by decide) h7 dX0_count_74 ?_
  obtain ⟨u8, h8, hf⟩ := dh_bd hf
  obtain ⟨p9, h9, hf⟩ := dh_bd hf
  refine g_callV (rc_O (ci := 10) rfl h8) (cG_J2_size _ E Mo G v7 h9) q256 qG_J2_size (Nat.le_of_ble_eq_true rfl) (Nat.le_of_ble_eq_true rfl) rfl (dj_cat8 (Nat.le_of_ble_eq_true rfl)) dX0_count_77 ?_
  refine dg_b (fun _ _ _ _ _ _ _ hC => r_icmp_ge hC dX0_count_80 (tgt := 123) (by decide)) (fun c10 => ?_) (fun c10 => ?_)
  · have hf := dh_el hf (fun q => q c10)
    refine dg_l (fun _ _ _ _ _ _ _ hC => r_iload_n hC dX0_count_123 rfl (j := 1) rfl) ?_
    by_cases c11 : x1 = 0
    · have hf := dh_if hf c11
      refine dg_l (fun _ _ _ _ _ _ _ hC => r_tableAt hC dX0_count_124 (tgt := 188) 0 (by rw [c11]; rfl) (by decide) (by decide) rfl (by decide)) ?_
      refine g_aload_n dX0_count_188 rfl (j := 0) rfl ?_
      obtain ⟨v12, h12, hf⟩ := dh_bd hf
      refine g_getR fR_X0_10 (by decide) h12 dX0_count_189 ?_
      obtain ⟨v13, h13, hf⟩ := dh_bd hf
      refine g_getR fR_X0_51 (by decide) h13 dX0_count_192 ?_
      obtain ⟨u14, h14, hf⟩ := dh_bd hf
      obtain ⟨p15, h15, hf⟩ := dh_bd hf
      refine g_callV (rc_O (ci := 10) rfl h14) (cG_J2_size _ E Mo G v13 h15) q256 qG_J2_size (Nat.le_of_ble_eq_true rfl) (Nat.le_of_ble_eq_true rfl) rfl (dj_cat8 (Nat.le_of_ble_eq_true rfl)) dX0_count_195 ?_
      exact g_iret1 dX0_count_198 rfl hf
    have hf := dh_el hf c11
    by_cases c16 : x1 = 1
    · have hf := dh_if hf c16
      refine dg_l (fun _ _ _ _ _ _ _ hC => r_tableAt hC dX0_count_124 (tgt := 199) 1 (by rw [c16]; rfl) (by decide) (by decide) rfl (by decide)) ?_
      refine g_aload_n dX0_count_199 rfl (j := 0) rfl ?_
      obtain ⟨v17, h17, hf⟩ := dh_bd hf
      refine g_getR fR_X0_10 (by decide) h17 dX0_count_200 ?_
      obtain ⟨v18, h18, hf⟩ := dh_bd hf
      refine g_getR fR_X0_63 (by decide) h18 dX0_count_203 ?_
      obtain ⟨u19, h19, hf⟩ := dh_bd hf
      obtain ⟨p20, h20, hf⟩ := dh_bd hf
      refine g_callV (rc_O (ci := 10) rfl h19) (cG_J2_size _ E Mo G v18 h20) q256 qG_J2_size (Nat.le_of_ble_eq_true rfl) (Nat.le_of_ble_eq_true rfl) rfl (dj_cat8 (Nat.le_of_ble_eq_true rfl)) dX0_count_206 ?_
      exact g_iret1 dX0_count_209 rfl hf
    have hf := dh_el hf c16
    by_cases c21 : x1 = 2
    · have hf := dh_if hf c21
      refine dg_l (fun _ _ _ _ _ _ _ hC => r_tableAt hC dX0_count_124 (tgt := 210) 2 (by rw [c21]; rfl) (by decide) (by decide) rfl (by decide)) ?_
      refine dg_l (fun _ _ _ _ _ _ _ hC => r_iload_n hC dX0_count_210 rfl (j := 2) rfl) ?_
      exact g_iret1 dX0_count_211 rfl hf
    have hf := dh_el hf c21
    by_cases c22 : x1 = 3
    · have hf := dh_if hf c22
      refine dg_l (fun _ _ _ _ _ _ _ hC => r_tableAt hC dX0_count_124 (tgt := 212) 3 (by rw [c22]; rfl) (by decide) (by decide) rfl (by decide)) ?_
      refine g_aload_n dX0_count_212 rfl (j := 0) rfl ?_
      obtain ⟨v23, h23, hf⟩ := dh_bd hf
      refine g_getR fR_X0_10 (by decide) h23 dX0_count_213 ?_
      obtain ⟨v24, h24, hf⟩ := dh_bd hf
      refine g_getR fR_X0_221 (by decide) h24 dX0_count_216 ?_
      obtain ⟨u25, h25, hf⟩ := dh_bd hf
      obtain ⟨p26, h26, hf⟩ := dh_bd hf
      refine g_callV (rc_O (ci := 10) rfl h25) (cG_J2_size _ E Mo G v24 h26) q256 qG_J2_size (Nat.le_of_ble_eq_true rfl) (Nat.le_of_ble_eq_true rfl) rfl (dj_cat8 (Nat.le_of_ble_eq_true rfl)) dX0_count_219 ?_
      exact g_iret1 dX0_count_222 rfl hf
    have hf := dh_el hf c22
    by_cases c27 : x1 = 4
    · have hf := dh_if hf c27
      refine dg_l (fun _ _ _ _ _ _ _ hC => r_tableAt hC dX0_count_124 (tgt := 223) 4 (by rw [c27]; rfl) (by decide) (by decide) rfl (by decide)) ?_
      refine g_aload_n dX0_count_223 rfl (j := 0) rfl ?_
      obtain ⟨v28, h28, hf⟩ := dh_bd hf
      refine g_getR fR_X0_10 (by decide) h28 dX0_count_224 ?_
      obtain ⟨v29, h29, hf⟩ := dh_bd hf
      refine g_getI fR_X0_88 (by decide) h29 dX0_count_227 ?_
      exact g_iret1 dX0_count_230 rfl hf
    have hf := dh_el hf c27
    by_cases c30 : x1 = 5
    · have hf := dh_if hf c30
      refine dg_l (fun _ _ _ _ _ _ _ hC => r_tableAt hC dX0_count_124 (tgt := 231) 5 (by rw [c30]; rfl) (by decide) (by decide) rfl (by decide)) ?_
      refine g_aload_n dX0_count_231 rfl (j := 0) rfl ?_
      obtain ⟨v31, h31, hf⟩ := dh_bd hf
      refine g_getR fR_X0_10 (by decide) h31 dX0_count_232 ?_
      obtain ⟨v32, h32, hf⟩ := dh_bd hf
      refine g_getI fR_X0_294 (by decide) h32 dX0_count_235 ?_
      exact g_iret1 dX0_count_238 rfl hf
    have hf := dh_el hf c30
    by_cases c33 : x1 = 6
    · have hf := dh_if hf c33
      refine dg_l (fun _ _ _ _ _ _ _ hC => r_tableAt hC dX0_count_124 (tgt := 239) 6 (by rw [c33]; rfl) (by decide) (by decide) rfl (by decide)) ?_
      refine dg_l (fun _ _ _ _ _ _ _ hC => r_iload_n hC dX0_count_239 rfl (j := 3) rfl) ?_
      exact g_iret1 dX0_count_240 rfl hf
    have hf := dh_el hf c33
    by_cases c34 : x1 = 7
    · have hf := dh_if hf c34
      refine dg_l (fun _ _ _ _ _ _ _ hC => r_tableAt hC dX0_count_124 (tgt := 241) 7 (by rw [c34]; rfl) (by decide) (by decide) rfl (by decide)) ?_
      refine g_aload_n dX0_count_241 rfl (j := 0) rfl ?_
      obtain ⟨v35, h35, hf⟩ := dh_bd hf
      refine g_getR fR_X0_10 (by decide) h35 dX0_count_242 ?_
      obtain ⟨v36, h36, hf⟩ := dh_bd hf
      refine g_getI fR_X0_190 (by decide) h36 dX0_count_245 ?_
      exact g_iret1 dX0_count_248 rfl hf
    have hf := dh_el hf c34
    by_cases c37 : x1 = 8
    · have hf := dh_if hf c37
      refine dg_l (fun _ _ _ _ _ _ _ hC => r_tableAt hC dX0_count_124 (tgt := 249) 8 (by rw [c37]; rfl) (by decide) (by decide) rfl (by decide)) ?_
      refine g_aload_n dX0_count_249 rfl (j := 0) rfl ?_
      obtain ⟨v38, h38, hf⟩ := dh_bd hf
      refine g_getR fR_X0_10 (by decide) h38 dX0_count_250 ?_
      obtain ⟨v39, h39, hf⟩ := dh_bd hf
      refine g_getI fR_X0_340 (by decide) h39 dX0_count_253 ?_
      exact g_iret1 dX0_count_256 rfl hf
    have hf := dh_el hf c37
    by_cases c40 : x1 = 9
    · have hf := dh_if hf c40
      refine dg_l (fun _ _ _ _ _ _ _ hC => r_tableAt hC dX0_count_124 (tgt := 257) 9 (by rw [c40]; rfl) (by decide) (by decide) rfl (by decide)) ?_
      refine dg_l (fun _ _ _ _ _ _ _ hC => r_iload hC dX0_count_257 (j := 4) rfl) ?_
      exact g_iret1 dX0_count_259 rfl hf
    have hf := dh_el hf c40
    by_cases c41 : x1 = 10
    · have hf := dh_if hf c41
      refine dg_l (fun _ _ _ _ _ _ _ hC => r_tableAt hC dX0_count_124 (tgt := 260) 10 (by rw [c41]; rfl) (by decide) (by decide) rfl (by decide)) ?_
      refine dg_l (fun _ _ _ _ _ _ _ hC => r_iload hC dX0_count_260 (j := 5) rfl) ?_
      exact g_iret1 dX0_count_262 rfl hf
    have hf := dh_el hf c41
    by_cases c42 : x1 = 11
    · have hf := dh_if hf c42
      refine dg_l (fun _ _ _ _ _ _ _ hC => r_tableAt hC dX0_count_124 (tgt := 263) 11 (by rw [c42]; rfl) (by decide) (by decide) rfl (by decide)) ?_
      refine g_aload_n dX0_count_263 rfl (j := 0) rfl ?_
      obtain ⟨u43, h43, hf⟩ := dh_bd hf
      obtain ⟨p44, h44, hf⟩ := dh_bd hf
      refine g_callV (rc_O (ci := 1) rfl h43) (cG_X0_rows _ E Mo G x0 h44) q1300 qG_X0_rows (Nat.le_of_ble_eq_true rfl) (Nat.le_of_ble_eq_true rfl) rfl (dj_cat8 (Nat.le_of_ble_eq_true rfl)) dX0_count_264 ?_
      exact g_iret1 dX0_count_267 rfl hf
    have hf := dh_el hf c42
    refine dg_l (fun _ _ _ _ _ _ _ hC => r_tableOut hC dX0_count_124 (tgt := 268) (by have := lv_neT c11 (a := 0) rfl; have := lv_neT c16 (a := 1) rfl; have := lv_neT c21 (a := 2) rfl; have := lv_neT c22 (a := 3) rfl; have := lv_neT c27 (a := 4) rfl; have := lv_neT c30 (a := 5) rfl; have := lv_neT c33 (a := 6) rfl; have := lv_neT c34 (a := 7) rfl; have := lv_neT c37 (a := 8) rfl; have := lv_neT c40 (a := 9) rfl; have := lv_neT c41 (a := 10) rfl; have := lv_neT c42 (a := 11) rfl; omega) (by decide)) ?_
    refine dg_l (fun _ _ _ _ _ _ _ hC => r_iconst hC dX0_count_268 ki_m1) ?_
    exact g_iret1 dX0_count_269 rfl hf
  · have hf := dh_if hf c10
    refine dg_l (fun _ _ _ _ _ _ _ hC => r_iload_n hC dX0_count_83 rfl (j := 3) rfl) ?_
    refine g_aload_n dX0_count_84 rfl (j := 0) rfl ?_
    refine dg_l (fun _ _ _ _ _ _ _ hC => r_iload hC dX0_count_85 (j := 6) rfl) ?_
    obtain ⟨u45, h45, hf⟩ := dh_bd hf
    obtain ⟨p46, h46, hf⟩ := dh_bd hf
    refine g_callV (rc_O (ci := 1) rfl h45) (cG_X0_at _ E Mo G x0 x6 h46) q525 qG_X0_at (Nat.le_of_ble_eq_true rfl) (Nat.le_of_ble_eq_true rfl) rfl (dj_cat8 (Nat.le_of_ble_eq_true rfl)) dX0_count_87 ?_
    obtain ⟨u47, h47, hf⟩ := dh_bd hf
    obtain ⟨p48, h48, hf⟩ := dh_bd hf
    refine g_callV (rc_O (ci := 3) rfl h47) (cG_X3_isHeld _ E Mo G p46 h48) q1113 qG_X3_isHeld (Nat.le_of_ble_eq_true rfl) (Nat.le_of_ble_eq_true rfl) rfl (dj_cat8 (Nat.le_of_ble_eq_true rfl)) dX0_count_90 ?_
    refine dg_b (fun _ _ _ _ _ _ _ hC => r_if_eq hC dX0_count_93 (tgt := 100) (by decide)) (fun c49 => ?_) (fun c49 => ?_)
    · have hf := dh_if hf c49
      refine dg_l (fun _ _ _ _ _ _ _ hC => r_iconst hC dX0_count_100 ki_0) ?_
      refine dg_l (fun _ _ _ _ _ _ _ hC => r_iadd hC dX0_count_101) ?_
      refine dg_l (fun _ _ _ _ _ _ _ hC => r_istore_n (lv' := [(3, .int (x3 + 0)), (0, dj_v E x0), (1, .int x1), (2, .int x2), (4, .int x4), (5, .int x5), (6, .int x6)]) hC dX0_count_102 rfl (Nat.le_of_ble_eq_true rfl) rfl) ?_
      refine dg_l (fun _ _ _ _ _ _ _ hC => r_iload hC dX0_count_103 (j := 4) rfl) ?_
      refine g_aload_n dX0_count_105 rfl (j := 1) rfl ?_
      refine dg_l (fun _ _ _ _ _ _ _ hC => r_iload hC dX0_count_106 (j := 6) rfl) ?_
      obtain ⟨u50, h50, hf⟩ := dh_bd hf
      obtain ⟨p51, h51, hf⟩ := dh_bd hf
      refine g_callV (rc_O (ci := 1) rfl h50) (cG_X0_at _ E Mo G x0 x6 h51) q525 qG_X0_at (Nat.le_of_ble_eq_true rfl) (Nat.le_of_ble_eq_true rfl) rfl (dj_cat8 (Nat.le_of_ble_eq_true rfl)) dX0_count_108 ?_
      obtain ⟨v52, h52, hf⟩ := dh_bd hf
      refine g_getI fR_X0_134 (by decide) h52 dX0_count_111 ?_
      refine dg_l (fun _ _ _ _ _ _ _ hC => r_iadd hC dX0_count_114) ?_
      refine dg_l (fun _ _ _ _ _ _ _ hC => r_istore (lv' := [(4, .int (x4 + v52)), (3, .int (x3 + 0)), (0, dj_v E x0), (1, .int x1), (2, .int x2), (5, .int x5), (6, .int x6)]) hC dX0_count_115 (Nat.le_of_ble_eq_true rfl) rfl) ?_
      refine dg_l (fun _ _ _ _ _ _ _ hC => r_iinc (lv' := [(6, .int (x6 + 1)), (4, .int (x4 + v52)), (3, .int (x3 + 0)), (0, dj_v E x0), (1, .int x1), (2, .int x2), (5, .int x5)]) hC dX0_count_117 (j := 6) rfl (congrArg _ ki_1) (Nat.le_of_ble_eq_true rfl) rfl) ?_
      refine dg_l (fun _ _ _ _ _ _ _ hC => r_goto hC dX0_count_120 (tgt := 68) (by decide)) ?_
      exact g_sub [3, 4, 5, 2, 1, 6, 0] rfl (hk68 x0 x1 x2 (x3 + 0) (x4 + v52) x5 (x6 + 1) hf)
    · have hf := dh_el hf c49
      refine dg_l (fun _ _ _ _ _ _ _ hC => r_iconst hC dX0_count_96 ki_1) ?_
      refine dg_l (fun _ _ _ _ _ _ _ hC => r_goto hC dX0_count_97 (tgt := 101) (by decide)) ?_
      refine dg_l (fun _ _ _ _ _ _ _ hC => r_iadd hC dX0_count_101) ?_
      refine dg_l (fun _ _ _ _ _ _ _ hC => r_istore_n (lv' := [(3, .int (x3 + 1)), (0, dj_v E x0), (1, .int x1), (2, .int x2), (4, .int x4), (5, .int x5), (6, .int x6)]) hC dX0_count_102 rfl (Nat.le_of_ble_eq_true rfl) rfl) ?_
      refine dg_l (fun _ _ _ _ _ _ _ hC => r_iload hC dX0_count_103 (j := 4) rfl) ?_
      refine g_aload_n dX0_count_105 rfl (j := 1) rfl ?_
      refine dg_l (fun _ _ _ _ _ _ _ hC => r_iload hC dX0_count_106 (j := 6) rfl) ?_
      obtain ⟨u53, h53, hf⟩ := dh_bd hf
      obtain ⟨p54, h54, hf⟩ := dh_bd hf
      refine g_callV (rc_O (ci := 1) rfl h53) (cG_X0_at _ E Mo G x0 x6 h54) q525 qG_X0_at (Nat.le_of_ble_eq_true rfl) (Nat.le_of_ble_eq_true rfl) rfl (dj_cat8 (Nat.le_of_ble_eq_true rfl)) dX0_count_108 ?_
      obtain ⟨v55, h55, hf⟩ := dh_bd hf
      refine g_getI fR_X0_134 (by decide) h55 dX0_count_111 ?_
      refine dg_l (fun _ _ _ _ _ _ _ hC => r_iadd hC dX0_count_114) ?_
      refine dg_l (fun _ _ _ _ _ _ _ hC => r_istore (lv' := [(4, .int (x4 + v55)), (3, .int (x3 + 1)), (0, dj_v E x0), (1, .int x1), (2, .int x2), (5, .int x5), (6, .int x6)]) hC dX0_count_115 (Nat.le_of_ble_eq_true rfl) rfl) ?_
      refine dg_l (fun _ _ _ _ _ _ _ hC => r_iinc (lv' := [(6, .int (x6 + 1)), (4, .int (x4 + v55)), (3, .int (x3 + 1)), (0, dj_v E x0), (1, .int x1), (2, .int x2), (5, .int x5)]) hC dX0_count_117 (j := 6) rfl (congrArg _ ki_1) (Nat.le_of_ble_eq_true rfl) rfl) ?_
      refine dg_l (fun _ _ _ _ _ _ _ hC => r_goto hC dX0_count_120 (tgt := 68) (by decide)) ?_
      exact g_sub [3, 4, 5, 2, 1, 6, 0] rfl (hk68 x0 x1 x2 (x3 + 1) (x4 + v55) x5 (x6 + 1) hf)
def gG_X0_count_L68 (G : dg_G) : Nat → Nat → Int32 → Int32 → Int32 → Int32 → Int32 → Int32 → Option Int32
  | 0 => fun _ _ _ _ _ _ _ => none
  | n + 1 => gG_X0_count_L68_F (gG_X0_count_L68 G n) G
theorem wG_X0_count_L68 {l : Launch} {E : dj_E} {Mo : Option dm_M} {r : Int32} (G : dg_G) : ∀ (n : Nat) (x0 : Nat) (x1 : Int32) (x2 : Int32) (x3 : Int32) (x4 : Int32) (x5 : Int32) (x6 : Int32) (_ : gG_X0_count_L68 G n x0 x1 x2 x3 x4 x5 x6 = some r), dgW tG_X0_count l E Mo G (.inr (some (.int r))) G 68 [(0, dj_v E x0), (1, .int x1), (2, .int x2), (3, .int x3), (4, .int x4), (5, .int x5), (6, .int x6)] [] := by
  intro n
  induction n with
  | zero => intro x0 x1 x2 x3 x4 x5 x6 hf; exact dh_no hf
  | succ n ih => intro x0 x1 x2 x3 x4 x5 x6 hf; exact wG_X0_count_L68_F G (gG_X0_count_L68 G n) ih x0 x1 x2 x3 x4 x5 x6 hf
def gG_X0_count_L13_F (k13 : (Nat → Int32 → Int32 → Int32 → Int32 → Int32 → Int32 → Option Int32)) (G : dg_G) (x0 : Nat) (x1 : Int32) (x2 : Int32) (x3 : Int32) (x4 : Int32) (x5 : Int32) (x6 : Int32) : Option Int32 :=
  (dg_gR G 1 0 x0).bind fun v1 =>
  (dg_gR G 2 9 v1).bind fun v2 =>
  (dg_is G 10 v2).bind fun u3 =>
  (gG_J2_size G v2).bind fun p4 =>
  if p4 ≤ x6 then (
    gG_X0_count_L68 G dh_fu x0 x1 x2 x3 x4 x5 0)
  else
  (dg_is G 1 x0).bind fun u56 =>
  (gG_X0_debtAt G x0 x6).bind fun p57 =>
  (dg_is G 4 p57).bind fun u58 =>
  (gG_X4_isLive G p57).bind fun p59 =>
  if p59 = 0 then (
    (dg_is G 1 x0).bind fun u61 =>
    (gG_X0_due G x0 x6).bind fun p62 =>
    k13 x0 x1 (x2 + 0) x3 x4 (x5 + p62) (x6 + 1))
  else
  (dg_is G 1 x0).bind fun u63 =>
  (gG_X0_due G x0 x6).bind fun p64 =>
  k13 x0 x1 (x2 + 1) x3 x4 (x5 + p64) (x6 + 1)
theorem wG_X0_count_L13_F {l : Launch} {E : dj_E} {Mo : Option dm_M} {r : Int32} (G : dg_G) (k13 : (Nat → Int32 → Int32 → Int32 → Int32 → Int32 → Int32 → Option Int32)) (hk13 : ∀ (x0 : Nat) (x1 : Int32) (x2 : Int32) (x3 : Int32) (x4 : Int32) (x5 : Int32) (x6 : Int32), k13 x0 x1 x2 x3 x4 x5 x6 = some r → dgW tG_X0_count l E Mo G (.inr (some (.int r))) G 13 [(0, dj_v E x0), (1, .int x1), (2, .int x2), (3, .int x3), (4, .int x4), (5, .int x5), (6, .int x6)] []) (x0 : Nat) (x1 : Int32) (x2 : Int32) (x3 : Int32) (x4 : Int32) (x5 : Int32) (x6 : Int32) (hf : gG_X0_count_L13_F k13 G x0 x1 x2 x3 x4 x5 x6 = some r) : dgW tG_X0_count l E Mo G (.inr (some (.int r))) G 13 [(0, dj_v E x0), (1, .int x1), (2, .int x2), (3, .int x3), (4, .int x4), (5, .int x5), (6, .int x6)] [] := by
  unfold gG_X0_count_L13_F at hf
  refine dg_l (fun _ _ _ _ _ _ _ hC => r_iload hC dX0_count_13 (j := 6) rfl) ?_
  refine g_aload_n dX0_count_15 rfl (j := 0) rfl ?_
  obtain ⟨v1, h1, hf⟩ := dh_bd hf
  refine g_getR fR_X0_10 (by decide) h1 dX0_count_16 ?_
  obtain ⟨v2, h2, hf⟩ := dh_bd hf
  refine g_getR fR_X0_63 (by decide) h2 dX0_count_19 ?_
  obtain ⟨u3, h3, hf⟩ := dh_bd hf
  obtain ⟨p4, h4, hf⟩ := dh_bd hf
  refine g_callV (rc_O (ci := 10) rfl h3) (cG_J2_size _ E Mo G v2 h4) q256 qG_J2_size (Nat.le_of_ble_eq_true rfl) (Nat.le_of_ble_eq_true rfl) rfl (dj_cat8 (Nat.le_of_ble_eq_true rfl)) dX0_count_22 ?_
  refine dg_b (fun _ _ _ _ _ _ _ hC => r_icmp_ge hC dX0_count_25 (tgt := 65) (by decide)) (fun c5 => ?_) (fun c5 => ?_)
  · have hf := dh_if hf c5
    refine dg_l (fun _ _ _ _ _ _ _ hC => r_iconst hC dX0_count_65 ki_0) ?_
    refine dg_l (fun _ _ _ _ _ _ _ hC => r_istore (lv' := [(6, .int 0), (0, dj_v E x0), (1, .int x1), (2, .int x2), (3, .int x3), (4, .int x4), (5, .int x5)]) hC dX0_count_66 (Nat.le_of_ble_eq_true rfl) rfl) ?_
    exact g_sub [1, 2, 3, 4, 5, 6, 0] rfl (wG_X0_count_L68 G dh_fu x0 x1 x2 x3 x4 x5 0 hf)
  · have hf := dh_el hf c5
    refine dg_l (fun _ _ _ _ _ _ _ hC => r_iload_n hC dX0_count_28 rfl (j := 2) rfl) ?_
    refine g_aload_n dX0_count_29 rfl (j := 0) rfl ?_
    refine dg_l (fun _ _ _ _ _ _ _ hC => r_iload hC dX0_count_30 (j := 6) rfl) ?_
    obtain ⟨u56, h56, hf⟩ := dh_bd hf
    obtain ⟨p57, h57, hf⟩ := dh_bd hf
    refine g_callV (rc_O (ci := 1) rfl h56) (cG_X0_debtAt _ E Mo G x0 x6 h57) q485 qG_X0_debtAt (Nat.le_of_ble_eq_true rfl) (Nat.le_of_ble_eq_true rfl) rfl (dj_cat8 (Nat.le_of_ble_eq_true rfl)) dX0_count_32 ?_
    obtain ⟨u58, h58, hf⟩ := dh_bd hf
    obtain ⟨p59, h59, hf⟩ := dh_bd hf
    refine g_callV (rc_O (ci := 4) rfl h58) (cG_X4_isLive _ E Mo G p57 h59) q503 qG_X4_isLive (Nat.le_of_ble_eq_true rfl) (Nat.le_of_ble_eq_true rfl) rfl (dj_cat8 (Nat.le_of_ble_eq_true rfl)) dX0_count_35 ?_
    refine dg_b (fun _ _ _ _ _ _ _ hC => r_if_eq hC dX0_count_38 (tgt := 45) (by decide)) (fun c60 => ?_) (fun c60 => ?_)
    · have hf := dh_if hf c60
      refine dg_l (fun _ _ _ _ _ _ _ hC => r_iconst hC dX0_count_45 ki_0) ?_
      refine dg_l (fun _ _ _ _ _ _ _ hC => r_iadd hC dX0_count_46) ?_
      refine dg_l (fun _ _ _ _ _ _ _ hC => r_istore_n (lv' := [(2, .int (x2 + 0)), (0, dj_v E x0), (1, .int x1), (3, .int x3), (4, .int x4), (5, .int x5), (6, .int x6)]) hC dX0_count_47 rfl (Nat.le_of_ble_eq_true rfl) rfl) ?_
      refine dg_l (fun _ _ _ _ _ _ _ hC => r_iload hC dX0_count_48 (j := 5) rfl) ?_
      refine g_aload_n dX0_count_50 rfl (j := 1) rfl ?_
      refine dg_l (fun _ _ _ _ _ _ _ hC => r_iload hC dX0_count_51 (j := 6) rfl) ?_
      obtain ⟨u61, h61, hf⟩ := dh_bd hf
      obtain ⟨p62, h62, hf⟩ := dh_bd hf
      refine g_callV (rc_O (ci := 1) rfl h61) (cG_X0_due _ E Mo G x0 x6 h62) q507 qG_X0_due (Nat.le_of_ble_eq_true rfl) (Nat.le_of_ble_eq_true rfl) rfl (dj_cat8 (Nat.le_of_ble_eq_true rfl)) dX0_count_53 ?_
      refine dg_l (fun _ _ _ _ _ _ _ hC => r_iadd hC dX0_count_56) ?_
      refine dg_l (fun _ _ _ _ _ _ _ hC => r_istore (lv' := [(5, .int (x5 + p62)), (2, .int (x2 + 0)), (0, dj_v E x0), (1, .int x1), (3, .int x3), (4, .int x4), (6, .int x6)]) hC dX0_count_57 (Nat.le_of_ble_eq_true rfl) rfl) ?_
      refine dg_l (fun _ _ _ _ _ _ _ hC => r_iinc (lv' := [(6, .int (x6 + 1)), (5, .int (x5 + p62)), (2, .int (x2 + 0)), (0, dj_v E x0), (1, .int x1), (3, .int x3), (4, .int x4)]) hC dX0_count_59 (j := 6) rfl (congrArg _ ki_1) (Nat.le_of_ble_eq_true rfl) rfl) ?_
      refine dg_l (fun _ _ _ _ _ _ _ hC => r_goto hC dX0_count_62 (tgt := 13) (by decide)) ?_
      exact g_sub [3, 4, 2, 5, 6, 1, 0] rfl (hk13 x0 x1 (x2 + 0) x3 x4 (x5 + p62) (x6 + 1) hf)
    · have hf := dh_el hf c60
      refine dg_l (fun _ _ _ _ _ _ _ hC => r_iconst hC dX0_count_41 ki_1) ?_
      refine dg_l (fun _ _ _ _ _ _ _ hC => r_goto hC dX0_count_42 (tgt := 46) (by decide)) ?_
      refine dg_l (fun _ _ _ _ _ _ _ hC => r_iadd hC dX0_count_46) ?_
      refine dg_l (fun _ _ _ _ _ _ _ hC => r_istore_n (lv' := [(2, .int (x2 + 1)), (0, dj_v E x0), (1, .int x1), (3, .int x3), (4, .int x4), (5, .int x5), (6, .int x6)]) hC dX0_count_47 rfl (Nat.le_of_ble_eq_true rfl) rfl) ?_
      refine dg_l (fun _ _ _ _ _ _ _ hC => r_iload hC dX0_count_48 (j := 5) rfl) ?_
      refine g_aload_n dX0_count_50 rfl (j := 1) rfl ?_
      refine dg_l (fun _ _ _ _ _ _ _ hC => r_iload hC dX0_count_51 (j := 6) rfl) ?_
      obtain ⟨u63, h63, hf⟩ := dh_bd hf
      obtain ⟨p64, h64, hf⟩ := dh_bd hf
      refine g_callV (rc_O (ci := 1) rfl h63) (cG_X0_due _ E Mo G x0 x6 h64) q507 qG_X0_due (Nat.le_of_ble_eq_true rfl) (Nat.le_of_ble_eq_true rfl) rfl (dj_cat8 (Nat.le_of_ble_eq_true rfl)) dX0_count_53 ?_
      refine dg_l (fun _ _ _ _ _ _ _ hC => r_iadd hC dX0_count_56) ?_
      refine dg_l (fun _ _ _ _ _ _ _ hC => r_istore (lv' := [(5, .int (x5 + p64)), (2, .int (x2 + 1)), (0, dj_v E x0), (1, .int x1), (3, .int x3), (4, .int x4), (6, .int x6)]) hC dX0_count_57 (Nat.le_of_ble_eq_true rfl) rfl) ?_
      refine dg_l (fun _ _ _ _ _ _ _ hC => r_iinc (lv' := [(6, .int (x6 + 1)), (5, .int (x5 + p64)), (2, .int (x2 + 1)), (0, dj_v E x0), (1, .int x1), (3, .int x3), (4, .int x4)]) hC dX0_count_59 (j := 6) rfl (congrArg _ ki_1) (Nat.le_of_ble_eq_true rfl) rfl) ?_
      refine dg_l (fun _ _ _ _ _ _ _ hC => r_goto hC dX0_count_62 (tgt := 13) (by decide)) ?_
      exact g_sub [3, 4, 2, 5, 6, 1, 0] rfl (hk13 x0 x1 (x2 + 1) x3 x4 (x5 + p64) (x6 + 1) hf)
def gG_X0_count_L13 (G : dg_G) : Nat → Nat → Int32 → Int32 → Int32 → Int32 → Int32 → Int32 → Option Int32
  | 0 => fun _ _ _ _ _ _ _ => none
  | n + 1 => gG_X0_count_L13_F (gG_X0_count_L13 G n) G
theorem wG_X0_count_L13 {l : Launch} {E : dj_E} {Mo : Option dm_M} {r : Int32} (G : dg_G) : ∀ (n : Nat) (x0 : Nat) (x1 : Int32) (x2 : Int32) (x3 : Int32) (x4 : Int32) (x5 : Int32) (x6 : Int32) (_ : gG_X0_count_L13 G n x0 x1 x2 x3 x4 x5 x6 = some r), dgW tG_X0_count l E Mo G (.inr (some (.int r))) G 13 [(0, dj_v E x0), (1, .int x1), (2, .int x2), (3, .int x3), (4, .int x4), (5, .int x5), (6, .int x6)] [] := by
  intro n
  induction n with
  | zero => intro x0 x1 x2 x3 x4 x5 x6 hf; exact dh_no hf
  | succ n ih => intro x0 x1 x2 x3 x4 x5 x6 hf; exact wG_X0_count_L13_F G (gG_X0_count_L13 G n) ih x0 x1 x2 x3 x4 x5 x6 hf
def gG_X0_count (G : dg_G) (x0 : Nat) (x1 : Int32) : Option Int32 :=
  gG_X0_count_L13 G dh_fu x0 x1 0 0 0 0 0
theorem wG_X0_count {l : Launch} {E : dj_E} {Mo : Option dm_M} {r : Int32} (G : dg_G) (x0 : Nat) (x1 : Int32) (hf : gG_X0_count G x0 x1 = some r) : dgW tG_X0_count l E Mo G (.inr (some (.int r))) G 0 [(0, dj_v E x0), (1, .int x1)] [] := by
  unfold gG_X0_count at hf
  refine dg_l (fun _ _ _ _ _ _ _ hC => r_iconst hC dX0_count_0 ki_0) ?_
  refine dg_l (fun _ _ _ _ _ _ _ hC => r_istore_n (lv' := [(2, .int 0), (0, dj_v E x0), (1, .int x1)]) hC dX0_count_1 rfl (Nat.le_of_ble_eq_true rfl) rfl) ?_
  refine dg_l (fun _ _ _ _ _ _ _ hC => r_iconst hC dX0_count_2 ki_0) ?_
  refine dg_l (fun _ _ _ _ _ _ _ hC => r_istore_n (lv' := [(3, .int 0), (2, .int 0), (0, dj_v E x0), (1, .int x1)]) hC dX0_count_3 rfl (Nat.le_of_ble_eq_true rfl) rfl) ?_
  refine dg_l (fun _ _ _ _ _ _ _ hC => r_iconst hC dX0_count_4 ki_0) ?_
  refine dg_l (fun _ _ _ _ _ _ _ hC => r_istore (lv' := [(4, .int 0), (3, .int 0), (2, .int 0), (0, dj_v E x0), (1, .int x1)]) hC dX0_count_5 (Nat.le_of_ble_eq_true rfl) rfl) ?_
  refine dg_l (fun _ _ _ _ _ _ _ hC => r_iconst hC dX0_count_7 ki_0) ?_
  refine dg_l (fun _ _ _ _ _ _ _ hC => r_istore (lv' := [(5, .int 0), (4, .int 0), (3, .int 0), (2, .int 0), (0, dj_v E x0), (1, .int x1)]) hC dX0_count_8 (Nat.le_of_ble_eq_true rfl) rfl) ?_
  refine dg_l (fun _ _ _ _ _ _ _ hC => r_iconst hC dX0_count_10 ki_0) ?_
  refine dg_l (fun _ _ _ _ _ _ _ hC => r_istore (lv' := [(6, .int 0), (5, .int 0), (4, .int 0), (3, .int 0), (2, .int 0), (0, dj_v E x0), (1, .int x1)]) hC dX0_count_11 (Nat.le_of_ble_eq_true rfl) rfl) ?_
  exact g_sub [5, 6, 4, 3, 2, 1, 0] rfl (wG_X0_count_L13 G dh_fu x0 x1 0 0 0 0 0 hf)
theorem cG_X0_count (l : Launch) (E : dj_E) (Mo : Option dm_M) (G : dg_G) (x0 : Nat) (x1 : Int32) {r : Int32} (h : gG_X0_count G x0 x1 = some r) : dg_Met l yX0_count cX0_count 7 (some .int) 5 107 E Mo [dj_v E x0, .int x1] G (some (.int r)) G :=
  dg_met (plainFor_of_name (by decide)) (by simp only [lg_sl_ref, lg_sl_int, lg_sl_long, lg_sl_nil]; decide) (by simp only [lv_args_ref, lv_args_int, lv_args_long, lv_args_nil]) (wG_X0_count G x0 x1 h)
theorem qG_X0_count : dg_cV "DebtorsHouse" yX0_count cX0_count 7 (some .int) 1 := ⟨q1335, Or.inl q1336, q81, q1337, by decide, by decide, by decide +kernel⟩
/-! DebtorsHouse.image(I)Z -/
abbrev tG_X0_image : dg_T := (cX0_image, 2, RX0, (some .boolean), 8, 179, "image", [])
def gG_X0_image (G : dg_G) (x0 : Nat) (x1 : Int32) : Option (Int32 × dg_G) :=
  (gG_X0_isIn G x1 0 2).bind fun p1 =>
  if p1 = 0 then (
    some (0, G))
  else
  (dg_gR G 1 1 x0).bind fun v3 =>
  (dg_ldR G 55 v3 x1).bind fun v4 =>
  if v4 = 0 then (
    (dg_gR G 1 1 x0).bind fun v11 =>
    (dg_pos (dg_n G)).bind fun u13 =>
    (gG_X1_init (dg_nw G 2) (dg_n G)).bind fun p14 =>
    (dg_stR p14 55 v11 x1 (dg_n G)).bind fun G15 =>
    (dg_gR G15 1 1 x0).bind fun v16 =>
    (dg_ldR G15 55 v16 x1).bind fun v17 =>
    (dg_gR G15 1 0 x0).bind fun v18 =>
    (dg_is G15 2 v17).bind fun u19 =>
    (gG_X1_be G15 v17 v18).bind fun p20 =>
    some (1, p20))
  else
  (dg_gR G 1 1 x0).bind fun v6 =>
  (dg_ldR G 55 v6 x1).bind fun v7 =>
  (dg_gR G 1 0 x0).bind fun v8 =>
  (dg_is G 2 v7).bind fun u9 =>
  (gG_X1_be G v7 v8).bind fun p10 =>
  some (1, p10)
theorem wG_X0_image {l : Launch} {E : dj_E} {Mo : Option dm_M} {r : Int32} {G' : dg_G} (G : dg_G) (x0 : Nat) (x1 : Int32) (hf : gG_X0_image G x0 x1 = some (r, G')) : dgW tG_X0_image l E Mo G' (.inr (some (.int r))) G 0 [(0, dj_v E x0), (1, .int x1)] [] := by
  unfold gG_X0_image at hf
  refine dg_l (fun _ _ _ _ _ _ _ hC => r_iload_n hC dX0_image_0 rfl (j := 1) rfl) ?_
  refine dg_l (fun _ _ _ _ _ _ _ hC => r_iconst hC dX0_image_1 ki_0) ?_
  refine dg_l (fun _ _ _ _ _ _ _ hC => r_iconst hC dX0_image_2 ki_2) ?_
  obtain ⟨p1, h1, hf⟩ := dh_bd hf
  refine g_callS (cG_X0_isIn _ E Mo G x1 0 2 h1) q261 qG_X0_isIn (Nat.le_of_ble_eq_true rfl) (Nat.le_of_ble_eq_true rfl) rfl (dj_cat8 (Nat.le_of_ble_eq_true rfl)) dX0_image_3 ?_
  refine dg_bn (fun _ _ _ _ _ _ _ hC => r_if_ne hC dX0_image_6 (tgt := 11) (by decide)) (fun c2 => ?_) (fun c2 => ?_)
  · have hf := dh_el hf c2
    refine g_aload_n dX0_image_11 rfl (j := 0) rfl ?_
    obtain ⟨v3, h3, hf⟩ := dh_bd hf
    refine g_getR fR_X0_16 (by decide) h3 dX0_image_12 ?_
    refine dg_l (fun _ _ _ _ _ _ _ hC => r_iload_n hC dX0_image_15 rfl (j := 1) rfl) ?_
    obtain ⟨v4, h4, hf⟩ := dh_bd hf
    refine g_aald 5 (by decide) (by decide) rfl rfl h4 dX0_image_16 ?_
    refine g_ifnonnull dX0_image_17 (tgt := 33) (by decide) (fun c5 => ?_) (fun c5 => ?_)
    · have hf := dh_el hf c5
      refine g_aload_n dX0_image_33 rfl (j := 0) rfl ?_
      obtain ⟨v6, h6, hf⟩ := dh_bd hf
      refine g_getR fR_X0_16 (by decide) h6 dX0_image_34 ?_
      refine dg_l (fun _ _ _ _ _ _ _ hC => r_iload_n hC dX0_image_37 rfl (j := 1) rfl) ?_
      obtain ⟨v7, h7, hf⟩ := dh_bd hf
      refine g_aald 5 (by decide) (by decide) rfl rfl h7 dX0_image_38 ?_
      refine g_aload_n dX0_image_39 rfl (j := 0) rfl ?_
      obtain ⟨v8, h8, hf⟩ := dh_bd hf
      refine g_getR fR_X0_10 (by decide) h8 dX0_image_40 ?_
      obtain ⟨u9, h9, hf⟩ := dh_bd hf
      obtain ⟨p10, h10, hf⟩ := dh_bd hf
      refine g_callV (rc_O (ci := 2) rfl h9) (cG_X1_be _ E Mo G v7 v8 h10) q1342 qG_X1_be (Nat.le_of_ble_eq_true rfl) (Nat.le_of_ble_eq_true rfl) rfl (dj_cat8 (Nat.le_of_ble_eq_true rfl)) dX0_image_43 ?_
      refine dg_l (fun _ _ _ _ _ _ _ hC => r_iconst hC dX0_image_46 ki_1) ?_
      exact g_zret dX0_image_47 rfl rfl hf
    · have hf := dh_if hf c5
      refine g_aload_n dX0_image_20 rfl (j := 0) rfl ?_
      obtain ⟨v11, h11, hf⟩ := dh_bd hf
      refine g_getR fR_X0_16 (by decide) h11 dX0_image_21 ?_
      refine dg_l (fun _ _ _ _ _ _ _ hC => r_iload_n hC dX0_image_24 rfl (j := 1) rfl) ?_
      refine g_new nI_X0_7 dX0_image_25 ?_
      refine g_dup dX0_image_28 ?_
      obtain ⟨u13, h13, hf⟩ := dh_bd hf
      obtain ⟨p14, h14, hf⟩ := dh_bd hf
      refine g_callI h13 (cG_X1_init _ E Mo (dg_nw G 2) (dg_n G) h14) q124 qG_X1_init (Nat.le_of_ble_eq_true rfl) (Nat.le_of_ble_eq_true rfl) rfl (dj_cat8 (Nat.le_of_ble_eq_true rfl)) dX0_image_29 ?_
      obtain ⟨G15, h15, hf⟩ := dh_bd hf
      refine g_aast 5 (by decide) h15 dX0_image_32 ?_
      refine g_aload_n dX0_image_33 rfl (j := 0) rfl ?_
      obtain ⟨v16, h16, hf⟩ := dh_bd hf
      refine g_getR fR_X0_16 (by decide) h16 dX0_image_34 ?_
      refine dg_l (fun _ _ _ _ _ _ _ hC => r_iload_n hC dX0_image_37 rfl (j := 1) rfl) ?_
      obtain ⟨v17, h17, hf⟩ := dh_bd hf
      refine g_aald 5 (by decide) (by decide) rfl rfl h17 dX0_image_38 ?_
      refine g_aload_n dX0_image_39 rfl (j := 0) rfl ?_
      obtain ⟨v18, h18, hf⟩ := dh_bd hf
      refine g_getR fR_X0_10 (by decide) h18 dX0_image_40 ?_
      obtain ⟨u19, h19, hf⟩ := dh_bd hf
      obtain ⟨p20, h20, hf⟩ := dh_bd hf
      refine g_callV (rc_O (ci := 2) rfl h19) (cG_X1_be _ E Mo G15 v17 v18 h20) q1342 qG_X1_be (Nat.le_of_ble_eq_true rfl) (Nat.le_of_ble_eq_true rfl) rfl (dj_cat8 (Nat.le_of_ble_eq_true rfl)) dX0_image_43 ?_
      refine dg_l (fun _ _ _ _ _ _ _ hC => r_iconst hC dX0_image_46 ki_1) ?_
      exact g_zret dX0_image_47 rfl rfl hf
  · have hf := dh_if hf c2
    refine dg_l (fun _ _ _ _ _ _ _ hC => r_iconst hC dX0_image_9 ki_0) ?_
    exact g_zret dX0_image_10 rfl rfl hf
theorem cG_X0_image (l : Launch) (E : dj_E) (Mo : Option dm_M) (G : dg_G) (x0 : Nat) (x1 : Int32) {p : Int32 × dg_G} (h : gG_X0_image G x0 x1 = some p) : dg_Met l yX0_image cX0_image 2 (some .boolean) 8 179 E Mo [dj_v E x0, .int x1] G (some (.int p.1)) p.2 :=
  dg_met (plainFor_of_name (by decide)) (by simp only [lg_sl_ref, lg_sl_int, lg_sl_long, lg_sl_nil]; decide) (by simp only [lv_args_ref, lv_args_int, lv_args_long, lv_args_nil]) (wG_X0_image G x0 x1 h)
theorem qG_X0_image : dg_cV "DebtorsHouse" yX0_image cX0_image 2 (some .boolean) 1 := ⟨q1339, Or.inl q1340, q81, q1341, by decide, by decide, by decide +kernel⟩
/-! DebtorsHouse.again(I)Z -/
abbrev tG_X0_again : dg_T := (cX0_again, 2, RX0, (some .boolean), 8, 179, "again", [])
def gG_X0_again (G : dg_G) (x0 : Nat) (x1 : Int32) : Option (Int32 × dg_G) :=
  (gG_X0_isIn G x1 0 2).bind fun p1 =>
  if p1 = 0 then (
    some (0, G))
  else
  (dg_gR G 1 1 x0).bind fun v3 =>
  (dg_ldR G 55 v3 x1).bind fun v4 =>
  if v4 = 0 then (
    some (0, G))
  else
  (dg_gR G 1 0 x0).bind fun v6 =>
  (dg_gR G 1 1 x0).bind fun v7 =>
  (dg_ldR G 55 v7 x1).bind fun v8 =>
  (dg_is G 2 v6).bind fun u9 =>
  (gG_X1_be G v6 v8).bind fun p10 =>
  some (1, p10)
theorem wG_X0_again {l : Launch} {E : dj_E} {Mo : Option dm_M} {r : Int32} {G' : dg_G} (G : dg_G) (x0 : Nat) (x1 : Int32) (hf : gG_X0_again G x0 x1 = some (r, G')) : dgW tG_X0_again l E Mo G' (.inr (some (.int r))) G 0 [(0, dj_v E x0), (1, .int x1)] [] := by
  unfold gG_X0_again at hf
  refine dg_l (fun _ _ _ _ _ _ _ hC => r_iload_n hC dX0_again_0 rfl (j := 1) rfl) ?_
  refine dg_l (fun _ _ _ _ _ _ _ hC => r_iconst hC dX0_again_1 ki_0) ?_
  refine dg_l (fun _ _ _ _ _ _ _ hC => r_iconst hC dX0_again_2 ki_2) ?_
  obtain ⟨p1, h1, hf⟩ := dh_bd hf
  refine g_callS (cG_X0_isIn _ E Mo G x1 0 2 h1) q261 qG_X0_isIn (Nat.le_of_ble_eq_true rfl) (Nat.le_of_ble_eq_true rfl) rfl (dj_cat8 (Nat.le_of_ble_eq_true rfl)) dX0_again_3 ?_
  refine dg_b (fun _ _ _ _ _ _ _ hC => r_if_eq hC dX0_again_6 (tgt := 18) (by decide)) (fun c2 => ?_) (fun c2 => ?_)
  · have hf := dh_if hf c2
    refine dg_l (fun _ _ _ _ _ _ _ hC => r_iconst hC dX0_again_18 ki_0) ?_
    exact g_zret dX0_again_19 rfl rfl hf
  · have hf := dh_el hf c2
    refine g_aload_n dX0_again_9 rfl (j := 0) rfl ?_
    obtain ⟨v3, h3, hf⟩ := dh_bd hf
    refine g_getR fR_X0_16 (by decide) h3 dX0_again_10 ?_
    refine dg_l (fun _ _ _ _ _ _ _ hC => r_iload_n hC dX0_again_13 rfl (j := 1) rfl) ?_
    obtain ⟨v4, h4, hf⟩ := dh_bd hf
    refine g_aald 5 (by decide) (by decide) rfl rfl h4 dX0_again_14 ?_
    refine g_ifnonnull dX0_again_15 (tgt := 20) (by decide) (fun c5 => ?_) (fun c5 => ?_)
    · have hf := dh_el hf c5
      refine g_aload_n dX0_again_20 rfl (j := 0) rfl ?_
      obtain ⟨v6, h6, hf⟩ := dh_bd hf
      refine g_getR fR_X0_10 (by decide) h6 dX0_again_21 ?_
      refine g_aload_n dX0_again_24 rfl (j := 0) rfl ?_
      obtain ⟨v7, h7, hf⟩ := dh_bd hf
      refine g_getR fR_X0_16 (by decide) h7 dX0_again_25 ?_
      refine dg_l (fun _ _ _ _ _ _ _ hC => r_iload_n hC dX0_again_28 rfl (j := 1) rfl) ?_
      obtain ⟨v8, h8, hf⟩ := dh_bd hf
      refine g_aald 5 (by decide) (by decide) rfl rfl h8 dX0_again_29 ?_
      obtain ⟨u9, h9, hf⟩ := dh_bd hf
      obtain ⟨p10, h10, hf⟩ := dh_bd hf
      refine g_callV (rc_O (ci := 2) rfl h9) (cG_X1_be _ E Mo G v6 v8 h10) q1342 qG_X1_be (Nat.le_of_ble_eq_true rfl) (Nat.le_of_ble_eq_true rfl) rfl (dj_cat8 (Nat.le_of_ble_eq_true rfl)) dX0_again_30 ?_
      refine dg_l (fun _ _ _ _ _ _ _ hC => r_iconst hC dX0_again_33 ki_1) ?_
      exact g_zret dX0_again_34 rfl rfl hf
    · have hf := dh_if hf c5
      refine dg_l (fun _ _ _ _ _ _ _ hC => r_iconst hC dX0_again_18 ki_0) ?_
      exact g_zret dX0_again_19 rfl rfl hf
theorem cG_X0_again (l : Launch) (E : dj_E) (Mo : Option dm_M) (G : dg_G) (x0 : Nat) (x1 : Int32) {p : Int32 × dg_G} (h : gG_X0_again G x0 x1 = some p) : dg_Met l yX0_again cX0_again 2 (some .boolean) 8 179 E Mo [dj_v E x0, .int x1] G (some (.int p.1)) p.2 :=
  dg_met (plainFor_of_name (by decide)) (by simp only [lg_sl_ref, lg_sl_int, lg_sl_long, lg_sl_nil]; decide) (by simp only [lv_args_ref, lv_args_int, lv_args_long, lv_args_nil]) (wG_X0_again G x0 x1 h)
theorem qG_X0_again : dg_cV "DebtorsHouse" yX0_again cX0_again 2 (some .boolean) 1 := ⟨q1384, Or.inl q1385, q81, q1386, by decide, by decide, by decide +kernel⟩
