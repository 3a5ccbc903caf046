set_option maxRecDepth 100000
/-! DebtorsHouse.surrender(I)I -/
abbrev tG_X0_surrender : dg_T := (cX0_surrender, 8, RX0, (some .int), 7, 154, "surrender", [])
def gG_X0_surrender_L126_F (k126 : (dg_G → Nat → Int32 → Nat → Int32 → Int32 → Int32 → Int32 → Option (Int32 × dg_G))) (G : dg_G) (x0 : Nat) (x1 : Int32) (x2 : Nat) (x3 : Int32) (x4 : Int32) (x5 : Int32) (x6 : Int32) : Option (Int32 × dg_G) :=
  (dg_gR G 1 0 x0).bind fun v20 =>
  (dg_gR G 2 9 v20).bind fun v21 =>
  (dg_is G 10 v21).bind fun u22 =>
  (gG_J2_size G v21).bind fun p23 =>
  if p23 ≤ x6 then (
    (dg_pI G 3 2 x2 (x3 + x5)).bind fun G25 =>
    (dg_pZ G25 3 14 x2 1).bind fun G26 =>
    (dg_is G26 1 x0).bind fun u27 =>
    (gG_X0_looks G26 x0).bind fun p28 =>
    some (x4 - x5, p28))
  else
  (dg_is G 1 x0).bind fun u29 =>
  (gG_X0_debtAt G x0 x6).bind fun p30 =>
  (dg_is G 4 p30).bind fun u31 =>
  (gG_X4_isLive G p30).bind fun p32 =>
  if p32 = 0 then (
    k126 G x0 x1 x2 x3 x4 x5 (x6 + 1))
  else
  (dg_gI G 4 1 p30).bind fun v34 =>
  if ¬ (v34 = x1) then (
    k126 G x0 x1 x2 x3 x4 x5 (x6 + 1))
  else
  (dg_gI G 4 7 p30).bind fun v36 =>
  (dg_is G 1 x0).bind fun u37 =>
  (gG_X0_at G x0 v36).bind fun p38 =>
  (dg_gI G 3 2 p38).bind fun v39 =>
  (dg_gR G 1 7 x0).bind fun v40 =>
  (dg_ld G 50 v40 x6).bind fun v41 =>
  (dg_pI G 3 2 p38 (v39 + v41)).bind fun G42 =>
  (dg_gR G42 1 6 x0).bind fun v43 =>
  (dg_ld G42 50 v43 x6).bind fun v44 =>
  (dg_gR G42 1 7 x0).bind fun v45 =>
  (dg_ld G42 50 v45 x6).bind fun v46 =>
  (dg_pI G42 4 12 p30 (v44 - v46)).bind fun G47 =>
  (dg_gI G47 4 12 p30).bind fun v48 =>
  if v48 = 0 then (
    (dg_gR G47 1 0 x0).bind fun v54 =>
    (dg_gI G47 2 4 v54).bind fun v55 =>
    (dg_is G47 4 p30).bind fun u56 =>
    (gG_X4_ends G47 p30 22 v55).bind fun p57 =>
    k126 p57 x0 x1 x2 x3 x4 x5 (x6 + 1))
  else
  (dg_gR G47 1 0 x0).bind fun v50 =>
  (dg_gI G47 2 4 v50).bind fun v51 =>
  (dg_is G47 4 p30).bind fun u52 =>
  (gG_X4_ends G47 p30 24 v51).bind fun p53 =>
  k126 p53 x0 x1 x2 x3 x4 x5 (x6 + 1)
theorem wG_X0_surrender_L126_F {l : Launch} {E : dj_E} {Mo : Option dm_M} {r : Int32} {G' : dg_G} (k126 : (dg_G → Nat → Int32 → Nat → Int32 → Int32 → Int32 → Int32 → Option (Int32 × dg_G))) (hk126 : ∀ (G : dg_G) (x0 : Nat) (x1 : Int32) (x2 : Nat) (x3 : Int32) (x4 : Int32) (x5 : Int32) (x6 : Int32), k126 G x0 x1 x2 x3 x4 x5 x6 = some (r, G') → dgW tG_X0_surrender l E Mo G' (.inr (some (.int r))) G 126 [(0, dj_v E x0), (1, .int x1), (2, dj_v E x2), (3, .int x3), (4, .int x4), (5, .int x5), (6, .int x6)] []) (G : dg_G) (x0 : Nat) (x1 : Int32) (x2 : Nat) (x3 : Int32) (x4 : Int32) (x5 : Int32) (x6 : Int32) (hf : gG_X0_surrender_L126_F k126 G x0 x1 x2 x3 x4 x5 x6 = some (r, G')) : dgW tG_X0_surrender l E Mo G' (.inr (some (.int r))) G 126 [(0, dj_v E x0), (1, .int x1), (2, dj_v E x2), (3, .int x3), (4, .int x4), (5, .int x5), (6, .int x6)] [] := by
  unfold gG_X0_surrender_L126_F at hf
  refine dg_l (fun _ _ _ _ _ _ _ hC => r_iload hC dX0_surrender_126 (j := 6) rfl) ?_
  refine g_aload_n dX0_surrender_128 rfl (j := 0) rfl ?_
  obtain ⟨v20, h20, hf⟩ := dh_bd hf
  refine g_getR fR_X0_10 (by decide) h20 dX0_surrender_129 ?_
  obtain ⟨v21, h21, hf⟩ := dh_bd hf
  refine g_getR fR_X0_63 (by decide) h21 dX0_surrender_132 ?_
  obtain ⟨u22, h22, hf⟩ := dh_bd hf
  obtain ⟨p23, h23, hf⟩ := dh_bd hf
  refine g_callV (rc_O (ci := 10) rfl h22) (cG_J2_size _ E Mo G v21 h23) q256 qG_J2_size (Nat.le_of_ble_eq_true rfl) (Nat.le_of_ble_eq_true rfl) rfl (dj_cat8 (Nat.le_of_ble_eq_true rfl)) dX0_surrender_135 ?_
  refine dg_b (fun _ _ _ _ _ _ _ hC => r_icmp_ge hC dX0_surrender_138 (tgt := 248) (by decide)) (fun c24 => ?_) (fun c24 => ?_)
  · have hf := dh_if hf c24
    refine g_aload_n dX0_surrender_248 rfl (j := 2) rfl ?_
    refine dg_l (fun _ _ _ _ _ _ _ hC => r_iload_n hC dX0_surrender_249 rfl (j := 3) rfl) ?_
    refine dg_l (fun _ _ _ _ _ _ _ hC => r_iload hC dX0_surrender_250 (j := 5) rfl) ?_
    refine dg_l (fun _ _ _ _ _ _ _ hC => r_iadd hC dX0_surrender_252) ?_
    obtain ⟨G25, h25, hf⟩ := dh_bd hf
    refine g_putI fF_X0_134 (fun q => by cases q) (by decide) h25 dX0_surrender_253 ?_
    refine g_aload_n dX0_surrender_256 rfl (j := 2) rfl ?_
    refine dg_l (fun _ _ _ _ _ _ _ hC => r_iconst hC dX0_surrender_257 ki_1) ?_
    obtain ⟨G26, h26, hf⟩ := dh_bd hf
    refine g_putZ fF_X0_368 (fun q => by cases q) (by decide) h26 dX0_surrender_258 ?_
    refine g_aload_n dX0_surrender_261 rfl (j := 0) rfl ?_
    obtain ⟨u27, h27, hf⟩ := dh_bd hf
    obtain ⟨p28, h28, hf⟩ := dh_bd hf
    refine g_callV (rc_O (ci := 1) rfl h27) (cG_X0_looks _ E Mo G26 x0 h28) q540 qG_X0_looks (Nat.le_of_ble_eq_true rfl) (Nat.le_of_ble_eq_true rfl) rfl (dj_cat8 (Nat.le_of_ble_eq_true rfl)) dX0_surrender_262 ?_
    refine dg_l (fun _ _ _ _ _ _ _ hC => r_iload hC dX0_surrender_265 (j := 4) rfl) ?_
    refine dg_l (fun _ _ _ _ _ _ _ hC => r_iload hC dX0_surrender_267 (j := 5) rfl) ?_
    refine dg_l (fun _ _ _ _ _ _ _ hC => r_isub hC dX0_surrender_269) ?_
    exact g_iret dX0_surrender_270 rfl hf
  · have hf := dh_el hf c24
    refine g_aload_n dX0_surrender_141 rfl (j := 0) rfl ?_
    refine dg_l (fun _ _ _ _ _ _ _ hC => r_iload hC dX0_surrender_142 (j := 6) rfl) ?_
    obtain ⟨u29, h29, hf⟩ := dh_bd hf
    obtain ⟨p30, h30, hf⟩ := dh_bd hf
    refine g_callV (rc_O (ci := 1) rfl h29) (cG_X0_debtAt _ E Mo G x0 x6 h30) q485 qG_X0_debtAt (Nat.le_of_ble_eq_true rfl) (Nat.le_of_ble_eq_true rfl) rfl (dj_cat8 (Nat.le_of_ble_eq_true rfl)) dX0_surrender_144 ?_
    refine g_astore (i := 7) (lv1 := [(7, dj_v E p30), (0, dj_v E x0), (1, .int x1), (2, dj_v E x2), (3, .int x3), (4, .int x4), (5, .int x5), (6, .int x6)]) dX0_surrender_147 (Nat.le_of_ble_eq_true rfl) rfl ?_
    refine g_aload dX0_surrender_149 (j := 0) rfl ?_
    obtain ⟨u31, h31, hf⟩ := dh_bd hf
    obtain ⟨p32, h32, hf⟩ := dh_bd hf
    refine g_callV (rc_O (ci := 4) rfl h31) (cG_X4_isLive _ E Mo G p30 h32) q503 qG_X4_isLive (Nat.le_of_ble_eq_true rfl) (Nat.le_of_ble_eq_true rfl) rfl (dj_cat8 (Nat.le_of_ble_eq_true rfl)) dX0_surrender_151 ?_
    refine dg_b (fun _ _ _ _ _ _ _ hC => r_if_eq hC dX0_surrender_154 (tgt := 242) (by decide)) (fun c33 => ?_) (fun c33 => ?_)
    · have hf := dh_if hf c33
      refine dg_l (fun _ _ _ _ _ _ _ hC => r_iinc (lv' := [(6, .int (x6 + 1)), (7, dj_v E p30), (0, dj_v E x0), (1, .int x1), (2, dj_v E x2), (3, .int x3), (4, .int x4), (5, .int x5)]) hC dX0_surrender_242 (j := 7) rfl (congrArg _ ki_1) (Nat.le_of_ble_eq_true rfl) rfl) ?_
      refine dg_l (fun _ _ _ _ _ _ _ hC => r_goto hC dX0_surrender_245 (tgt := 126) (by decide)) ?_
      exact g_sub [2, 3, 4, 5, 6, 7, 0] rfl (hk126 G x0 x1 x2 x3 x4 x5 (x6 + 1) hf)
    · have hf := dh_el hf c33
      refine g_aload dX0_surrender_157 (j := 0) rfl ?_
      obtain ⟨v34, h34, hf⟩ := dh_bd hf
      refine g_getI fR_X0_128 (by decide) h34 dX0_surrender_159 ?_
      refine dg_l (fun _ _ _ _ _ _ _ hC => r_iload_n hC dX0_surrender_162 rfl (j := 2) rfl) ?_
      refine dg_b (fun _ _ _ _ _ _ _ hC => r_icmp_eq hC dX0_surrender_163 (tgt := 169) (by decide)) (fun c35 => ?_) (fun c35 => ?_)
      · have hf := dh_el hf (fun q => q c35)
        refine g_aload_n dX0_surrender_169 rfl (j := 1) rfl ?_
        refine g_aload dX0_surrender_170 (j := 0) rfl ?_
        obtain ⟨v36, h36, hf⟩ := dh_bd hf
        refine g_getI fR_X0_131 (by decide) h36 dX0_surrender_172 ?_
        obtain ⟨u37, h37, hf⟩ := dh_bd hf
        obtain ⟨p38, h38, hf⟩ := dh_bd hf
        refine g_callV (rc_O (ci := 1) rfl h37) (cG_X0_at _ E Mo G x0 v36 h38) q525 qG_X0_at (Nat.le_of_ble_eq_true rfl) (Nat.le_of_ble_eq_true rfl) rfl (dj_cat8 (Nat.le_of_ble_eq_true rfl)) dX0_surrender_175 ?_
        refine g_dup dX0_surrender_178 ?_
        obtain ⟨v39, h39, hf⟩ := dh_bd hf
        refine g_getI fR_X0_134 (by decide) h39 dX0_surrender_179 ?_
        refine g_aload_n dX0_surrender_182 rfl (j := 1) rfl ?_
        obtain ⟨v40, h40, hf⟩ := dh_bd hf
        refine g_getR fR_X0_42 (by decide) h40 dX0_surrender_183 ?_
        refine dg_l (fun _ _ _ _ _ _ _ hC => r_iload hC dX0_surrender_186 (j := 7) rfl) ?_
        obtain ⟨v41, h41, hf⟩ := dh_bd hf
        refine g_iald h41 dX0_surrender_188 ?_
        refine dg_l (fun _ _ _ _ _ _ _ hC => r_iadd hC dX0_surrender_189) ?_
        obtain ⟨G42, h42, hf⟩ := dh_bd hf
        refine g_putI fF_X0_134 (fun q => by cases q) (by decide) h42 dX0_surrender_190 ?_
        refine g_aload dX0_surrender_193 (j := 0) rfl ?_
        refine g_aload_n dX0_surrender_195 rfl (j := 1) rfl ?_
        obtain ⟨v43, h43, hf⟩ := dh_bd hf
        refine g_getR fR_X0_39 (by decide) h43 dX0_surrender_196 ?_
        refine dg_l (fun _ _ _ _ _ _ _ hC => r_iload hC dX0_surrender_199 (j := 7) rfl) ?_
        obtain ⟨v44, h44, hf⟩ := dh_bd hf
        refine g_iald h44 dX0_surrender_201 ?_
        refine g_aload_n dX0_surrender_202 rfl (j := 1) rfl ?_
        obtain ⟨v45, h45, hf⟩ := dh_bd hf
        refine g_getR fR_X0_42 (by decide) h45 dX0_surrender_203 ?_
        refine dg_l (fun _ _ _ _ _ _ _ hC => r_iload hC dX0_surrender_206 (j := 7) rfl) ?_
        obtain ⟨v46, h46, hf⟩ := dh_bd hf
        refine g_iald h46 dX0_surrender_208 ?_
        refine dg_l (fun _ _ _ _ _ _ _ hC => r_isub hC dX0_surrender_209) ?_
        obtain ⟨G47, h47, hf⟩ := dh_bd hf
        refine g_putI fF_X0_178 (fun q => by cases q) (by decide) h47 dX0_surrender_210 ?_
        refine g_aload dX0_surrender_213 (j := 0) rfl ?_
        refine g_aload dX0_surrender_215 (j := 0) rfl ?_
        obtain ⟨v48, h48, hf⟩ := dh_bd hf
        refine g_getI fR_X0_178 (by decide) h48 dX0_surrender_217 ?_
        refine dg_bn (fun _ _ _ _ _ _ _ hC => r_if_ne hC dX0_surrender_220 (tgt := 229) (by decide)) (fun c49 => ?_) (fun c49 => ?_)
        · have hf := dh_el hf c49
          refine g_gets (j := 24) (by decide) (by decide) (fun _ h => ((dk_S h).1 3 (by decide)).1) q1287 dX0_surrender_229 ?_
          refine g_aload_n dX0_surrender_232 rfl (j := 1) rfl ?_
          obtain ⟨v50, h50, hf⟩ := dh_bd hf
          refine g_getR fR_X0_10 (by decide) h50 dX0_surrender_233 ?_
          obtain ⟨v51, h51, hf⟩ := dh_bd hf
          refine g_getI fR_X0_88 (by decide) h51 dX0_surrender_236 ?_
          obtain ⟨u52, h52, hf⟩ := dh_bd hf
          obtain ⟨p53, h53, hf⟩ := dh_bd hf
          refine g_callV (rc_O (ci := 4) rfl h52) (cG_X4_ends _ E Mo G47 p30 24 v51 h53) q1265 qG_X4_ends (Nat.le_of_ble_eq_true rfl) (Nat.le_of_ble_eq_true rfl) rfl (dj_cat8 (Nat.le_of_ble_eq_true rfl)) dX0_surrender_239 ?_
          refine dg_l (fun _ _ _ _ _ _ _ hC => r_iinc (lv' := [(6, .int (x6 + 1)), (7, dj_v E p30), (0, dj_v E x0), (1, .int x1), (2, dj_v E x2), (3, .int x3), (4, .int x4), (5, .int x5)]) hC dX0_surrender_242 (j := 7) rfl (congrArg _ ki_1) (Nat.le_of_ble_eq_true rfl) rfl) ?_
          refine dg_l (fun _ _ _ _ _ _ _ hC => r_goto hC dX0_surrender_245 (tgt := 126) (by decide)) ?_
          exact g_sub [2, 3, 4, 5, 6, 7, 0] rfl (hk126 p53 x0 x1 x2 x3 x4 x5 (x6 + 1) hf)
        · have hf := dh_if hf c49
          refine g_gets (j := 22) (by decide) (by decide) (fun _ h => ((dk_S h).1 1 (by decide)).1) q1262 dX0_surrender_223 ?_
          refine dg_l (fun _ _ _ _ _ _ _ hC => r_goto hC dX0_surrender_226 (tgt := 232) (by decide)) ?_
          refine g_aload_n dX0_surrender_232 rfl (j := 1) rfl ?_
          obtain ⟨v54, h54, hf⟩ := dh_bd hf
          refine g_getR fR_X0_10 (by decide) h54 dX0_surrender_233 ?_
          obtain ⟨v55, h55, hf⟩ := dh_bd hf
          refine g_getI fR_X0_88 (by decide) h55 dX0_surrender_236 ?_
          obtain ⟨u56, h56, hf⟩ := dh_bd hf
          obtain ⟨p57, h57, hf⟩ := dh_bd hf
          refine g_callV (rc_O (ci := 4) rfl h56) (cG_X4_ends _ E Mo G47 p30 22 v55 h57) q1265 qG_X4_ends (Nat.le_of_ble_eq_true rfl) (Nat.le_of_ble_eq_true rfl) rfl (dj_cat8 (Nat.le_of_ble_eq_true rfl)) dX0_surrender_239 ?_
          refine dg_l (fun _ _ _ _ _ _ _ hC => r_iinc (lv' := [(6, .int (x6 + 1)), (7, dj_v E p30), (0, dj_v E x0), (1, .int x1), (2, dj_v E x2), (3, .int x3), (4, .int x4), (5, .int x5)]) hC dX0_surrender_242 (j := 7) rfl (congrArg _ ki_1) (Nat.le_of_ble_eq_true rfl) rfl) ?_
          refine dg_l (fun _ _ _ _ _ _ _ hC => r_goto hC dX0_surrender_245 (tgt := 126) (by decide)) ?_
          exact g_sub [2, 3, 4, 5, 6, 7, 0] rfl (hk126 p57 x0 x1 x2 x3 x4 x5 (x6 + 1) hf)
      · have hf := dh_if hf c35
        refine dg_l (fun _ _ _ _ _ _ _ hC => r_goto hC dX0_surrender_166 (tgt := 242) (by decide)) ?_
        refine dg_l (fun _ _ _ _ _ _ _ hC => r_iinc (lv' := [(6, .int (x6 + 1)), (7, dj_v E p30), (0, dj_v E x0), (1, .int x1), (2, dj_v E x2), (3, .int x3), (4, .int x4), (5, .int x5)]) hC dX0_surrender_242 (j := 7) rfl (congrArg _ ki_1) (Nat.le_of_ble_eq_true rfl) rfl) ?_
        refine dg_l (fun _ _ _ _ _ _ _ hC => r_goto hC dX0_surrender_245 (tgt := 126) (by decide)) ?_
        exact g_sub [2, 3, 4, 5, 6, 7, 0] rfl (hk126 G x0 x1 x2 x3 x4 x5 (x6 + 1) hf)
def gG_X0_surrender_L126 : Nat → dg_G → Nat → Int32 → Nat → Int32 → Int32 → Int32 → Int32 → Option (Int32 × dg_G)
  | 0 => fun _ _ _ _ _ _ _ _ => none
  | n + 1 => gG_X0_surrender_L126_F (gG_X0_surrender_L126 n)
theorem wG_X0_surrender_L126 {l : Launch} {E : dj_E} {Mo : Option dm_M} {r : Int32} {G' : dg_G} : ∀ (n : Nat) (G : dg_G) (x0 : Nat) (x1 : Int32) (x2 : Nat) (x3 : Int32) (x4 : Int32) (x5 : Int32) (x6 : Int32) (_ : gG_X0_surrender_L126 n G x0 x1 x2 x3 x4 x5 x6 = some (r, G')), dgW tG_X0_surrender l E Mo G' (.inr (some (.int r))) G 126 [(0, dj_v E x0), (1, .int x1), (2, dj_v E x2), (3, .int x3), (4, .int x4), (5, .int x5), (6, .int x6)] [] := by
  intro n
  induction n with
  | zero => intro G x0 x1 x2 x3 x4 x5 x6 hf; exact dh_no hf
  | succ n ih => intro G x0 x1 x2 x3 x4 x5 x6 hf; exact wG_X0_surrender_L126_F (gG_X0_surrender_L126 n) ih G x0 x1 x2 x3 x4 x5 x6 hf
def gG_X0_surrender_L56_F (k56 : (dg_G → Nat → Int32 → Nat → Int32 → Int32 → Int32 → Option (Int32 × dg_G))) (G : dg_G) (x0 : Nat) (x1 : Int32) (x2 : Nat) (x3 : Int32) (x4 : Int32) (x5 : Int32) : Option (Int32 × dg_G) :=
  (dg_gR G 1 0 x0).bind fun v13 =>
  (dg_gR G 2 9 v13).bind fun v14 =>
  (dg_is G 10 v14).bind fun u15 =>
  (gG_J2_size G v14).bind fun p16 =>
  if p16 ≤ x5 then (
    (dg_is G 1 x0).bind fun u18 =>
    (gG_X0_parts G x0 x4).bind fun p19 =>
    gG_X0_surrender_L126 dh_fu p19.2 x0 x1 x2 x3 x4 p19.1 0)
  else
  (dg_gR G 1 6 x0).bind fun v58 =>
  (dg_is G 1 x0).bind fun u59 =>
  (gG_X0_debtAt G x0 x5).bind fun p60 =>
  (dg_gI G 4 1 p60).bind fun v61 =>
  if v61 = x1 then (
    (dg_is G 1 x0).bind fun u66 =>
    (gG_X0_due G x0 x5).bind fun p67 =>
    (dg_st G 50 v58 x5 p67).bind fun G68 =>
    (dg_gR G68 1 7 x0).bind fun v69 =>
    (dg_st G68 50 v69 x5 0).bind fun G70 =>
    k56 G70 x0 x1 x2 x3 x4 (x5 + 1))
  else
  (dg_st G 50 v58 x5 0).bind fun G63 =>
  (dg_gR G63 1 7 x0).bind fun v64 =>
  (dg_st G63 50 v64 x5 0).bind fun G65 =>
  k56 G65 x0 x1 x2 x3 x4 (x5 + 1)
theorem wG_X0_surrender_L56_F {l : Launch} {E : dj_E} {Mo : Option dm_M} {r : Int32} {G' : dg_G} (k56 : (dg_G → Nat → Int32 → Nat → Int32 → Int32 → Int32 → Option (Int32 × dg_G))) (hk56 : ∀ (G : dg_G) (x0 : Nat) (x1 : Int32) (x2 : Nat) (x3 : Int32) (x4 : Int32) (x5 : Int32), k56 G x0 x1 x2 x3 x4 x5 = some (r, G') → dgW tG_X0_surrender l E Mo G' (.inr (some (.int r))) G 56 [(0, dj_v E x0), (1, .int x1), (2, dj_v E x2), (3, .int x3), (4, .int x4), (5, .int x5)] []) (G : dg_G) (x0 : Nat) (x1 : Int32) (x2 : Nat) (x3 : Int32) (x4 : Int32) (x5 : Int32) (hf : gG_X0_surrender_L56_F k56 G x0 x1 x2 x3 x4 x5 = some (r, G')) : dgW tG_X0_surrender l E Mo G' (.inr (some (.int r))) G 56 [(0, dj_v E x0), (1, .int x1), (2, dj_v E x2), (3, .int x3), (4, .int x4), (5, .int x5)] [] := by
  unfold gG_X0_surrender_L56_F at hf
  refine dg_l (fun _ _ _ _ _ _ _ hC => r_iload hC dX0_surrender_56 (j := 5) rfl) ?_
  refine g_aload_n dX0_surrender_58 rfl (j := 0) rfl ?_
  obtain ⟨v13, h13, hf⟩ := dh_bd hf
  refine g_getR fR_X0_10 (by decide) h13 dX0_surrender_59 ?_
  obtain ⟨v14, h14, hf⟩ := dh_bd hf
  refine g_getR fR_X0_63 (by decide) h14 dX0_surrender_62 ?_
  obtain ⟨u15, h15, hf⟩ := dh_bd hf
  obtain ⟨p16, h16, hf⟩ := dh_bd hf
  refine g_callV (rc_O (ci := 10) rfl h15) (cG_J2_size _ E Mo G v14 h16) q256 qG_J2_size (Nat.le_of_ble_eq_true rfl) (Nat.le_of_ble_eq_true rfl) rfl (dj_cat8 (Nat.le_of_ble_eq_true rfl)) dX0_surrender_65 ?_
  refine dg_b (fun _ _ _ _ _ _ _ hC => r_icmp_ge hC dX0_surrender_68 (tgt := 115) (by decide)) (fun c17 => ?_) (fun c17 => ?_)
  · have hf := dh_if hf c17
    refine g_aload_n dX0_surrender_115 rfl (j := 0) rfl ?_
    refine dg_l (fun _ _ _ _ _ _ _ hC => r_iload hC dX0_surrender_116 (j := 4) rfl) ?_
    obtain ⟨u18, h18, hf⟩ := dh_bd hf
    obtain ⟨p19, h19, hf⟩ := dh_bd hf
    refine g_callV (rc_O (ci := 1) rfl h18) (cG_X0_parts _ E Mo G x0 x4 h19) q1279 qG_X0_parts (Nat.le_of_ble_eq_true rfl) (Nat.le_of_ble_eq_true rfl) rfl (dj_cat8 (Nat.le_of_ble_eq_true rfl)) dX0_surrender_118 ?_
    refine dg_l (fun _ _ _ _ _ _ _ hC => r_istore (lv' := [(5, .int p19.1), (0, dj_v E x0), (1, .int x1), (2, dj_v E x2), (3, .int x3), (4, .int x4)]) hC dX0_surrender_121 (Nat.le_of_ble_eq_true rfl) rfl) ?_
    refine dg_l (fun _ _ _ _ _ _ _ hC => r_iconst hC dX0_surrender_123 ki_0) ?_
    refine dg_l (fun _ _ _ _ _ _ _ hC => r_istore (lv' := [(6, .int 0), (5, .int p19.1), (0, dj_v E x0), (1, .int x1), (2, dj_v E x2), (3, .int x3), (4, .int x4)]) hC dX0_surrender_124 (Nat.le_of_ble_eq_true rfl) rfl) ?_
    exact g_sub [2, 3, 4, 5, 6, 1, 0] rfl (wG_X0_surrender_L126 dh_fu p19.2 x0 x1 x2 x3 x4 p19.1 0 hf)
  · have hf := dh_el hf c17
    refine g_aload_n dX0_surrender_71 rfl (j := 0) rfl ?_
    obtain ⟨v58, h58, hf⟩ := dh_bd hf
    refine g_getR fR_X0_39 (by decide) h58 dX0_surrender_72 ?_
    refine dg_l (fun _ _ _ _ _ _ _ hC => r_iload hC dX0_surrender_75 (j := 5) rfl) ?_
    refine g_aload_n dX0_surrender_77 rfl (j := 0) rfl ?_
    refine dg_l (fun _ _ _ _ _ _ _ hC => r_iload hC dX0_surrender_78 (j := 5) rfl) ?_
    obtain ⟨u59, h59, hf⟩ := dh_bd hf
    obtain ⟨p60, h60, hf⟩ := dh_bd hf
    refine g_callV (rc_O (ci := 1) rfl h59) (cG_X0_debtAt _ E Mo G x0 x5 h60) q485 qG_X0_debtAt (Nat.le_of_ble_eq_true rfl) (Nat.le_of_ble_eq_true rfl) rfl (dj_cat8 (Nat.le_of_ble_eq_true rfl)) dX0_surrender_80 ?_
    obtain ⟨v61, h61, hf⟩ := dh_bd hf
    refine g_getI fR_X0_128 (by decide) h61 dX0_surrender_83 ?_
    refine dg_l (fun _ _ _ _ _ _ _ hC => r_iload_n hC dX0_surrender_86 rfl (j := 1) rfl) ?_
    refine dg_bn (fun _ _ _ _ _ _ _ hC => r_icmp_ne hC dX0_surrender_87 (tgt := 99) (by decide)) (fun c62 => ?_) (fun c62 => ?_)
    · have hf := dh_el hf c62
      refine dg_l (fun _ _ _ _ _ _ _ hC => r_iconst hC dX0_surrender_99 ki_0) ?_
      obtain ⟨G63, h63, hf⟩ := dh_bd hf
      refine g_iast h63 dX0_surrender_100 ?_
      refine g_aload_n dX0_surrender_101 rfl (j := 0) rfl ?_
      obtain ⟨v64, h64, hf⟩ := dh_bd hf
      refine g_getR fR_X0_42 (by decide) h64 dX0_surrender_102 ?_
      refine dg_l (fun _ _ _ _ _ _ _ hC => r_iload hC dX0_surrender_105 (j := 5) rfl) ?_
      refine dg_l (fun _ _ _ _ _ _ _ hC => r_iconst hC dX0_surrender_107 ki_0) ?_
      obtain ⟨G65, h65, hf⟩ := dh_bd hf
      refine g_iast h65 dX0_surrender_108 ?_
      refine dg_l (fun _ _ _ _ _ _ _ hC => r_iinc (lv' := [(5, .int (x5 + 1)), (0, dj_v E x0), (1, .int x1), (2, dj_v E x2), (3, .int x3), (4, .int x4)]) hC dX0_surrender_109 (j := 5) rfl (congrArg _ ki_1) (Nat.le_of_ble_eq_true rfl) rfl) ?_
      refine dg_l (fun _ _ _ _ _ _ _ hC => r_goto hC dX0_surrender_112 (tgt := 56) (by decide)) ?_
      exact g_sub [1, 2, 3, 4, 5, 0] rfl (hk56 G65 x0 x1 x2 x3 x4 (x5 + 1) hf)
    · have hf := dh_if hf c62
      refine g_aload_n dX0_surrender_90 rfl (j := 0) rfl ?_
      refine dg_l (fun _ _ _ _ _ _ _ hC => r_iload hC dX0_surrender_91 (j := 5) rfl) ?_
      obtain ⟨u66, h66, hf⟩ := dh_bd hf
      obtain ⟨p67, h67, hf⟩ := dh_bd hf
      refine g_callV (rc_O (ci := 1) rfl h66) (cG_X0_due _ E Mo G x0 x5 h67) q507 qG_X0_due (Nat.le_of_ble_eq_true rfl) (Nat.le_of_ble_eq_true rfl) rfl (dj_cat8 (Nat.le_of_ble_eq_true rfl)) dX0_surrender_93 ?_
      refine dg_l (fun _ _ _ _ _ _ _ hC => r_goto hC dX0_surrender_96 (tgt := 100) (by decide)) ?_
      obtain ⟨G68, h68, hf⟩ := dh_bd hf
      refine g_iast h68 dX0_surrender_100 ?_
      refine g_aload_n dX0_surrender_101 rfl (j := 0) rfl ?_
      obtain ⟨v69, h69, hf⟩ := dh_bd hf
      refine g_getR fR_X0_42 (by decide) h69 dX0_surrender_102 ?_
      refine dg_l (fun _ _ _ _ _ _ _ hC => r_iload hC dX0_surrender_105 (j := 5) rfl) ?_
      refine dg_l (fun _ _ _ _ _ _ _ hC => r_iconst hC dX0_surrender_107 ki_0) ?_
      obtain ⟨G70, h70, hf⟩ := dh_bd hf
      refine g_iast h70 dX0_surrender_108 ?_
      refine dg_l (fun _ _ _ _ _ _ _ hC => r_iinc (lv' := [(5, .int (x5 + 1)), (0, dj_v E x0), (1, .int x1), (2, dj_v E x2), (3, .int x3), (4, .int x4)]) hC dX0_surrender_109 (j := 5) rfl (congrArg _ ki_1) (Nat.le_of_ble_eq_true rfl) rfl) ?_
      refine dg_l (fun _ _ _ _ _ _ _ hC => r_goto hC dX0_surrender_112 (tgt := 56) (by decide)) ?_
      exact g_sub [1, 2, 3, 4, 5, 0] rfl (hk56 G70 x0 x1 x2 x3 x4 (x5 + 1) hf)
def gG_X0_surrender_L56 : Nat → dg_G → Nat → Int32 → Nat → Int32 → Int32 → Int32 → Option (Int32 × dg_G)
  | 0 => fun _ _ _ _ _ _ _ => none
  | n + 1 => gG_X0_surrender_L56_F (gG_X0_surrender_L56 n)
theorem wG_X0_surrender_L56 {l : Launch} {E : dj_E} {Mo : Option dm_M} {r : Int32} {G' : dg_G} : ∀ (n : Nat) (G : dg_G) (x0 : Nat) (x1 : Int32) (x2 : Nat) (x3 : Int32) (x4 : Int32) (x5 : Int32) (_ : gG_X0_surrender_L56 n G x0 x1 x2 x3 x4 x5 = some (r, G')), dgW tG_X0_surrender l E Mo G' (.inr (some (.int r))) G 56 [(0, dj_v E x0), (1, .int x1), (2, dj_v E x2), (3, .int x3), (4, .int x4), (5, .int x5)] [] := by
  intro n
  induction n with
  | zero => intro G x0 x1 x2 x3 x4 x5 hf; exact dh_no hf
  | succ n ih => intro G x0 x1 x2 x3 x4 x5 hf; exact wG_X0_surrender_L56_F (gG_X0_surrender_L56 n) ih G x0 x1 x2 x3 x4 x5 hf
def gG_X0_surrender (G : dg_G) (x0 : Nat) (x1 : Int32) : Option (Int32 × dg_G) :=
  (dg_is G 1 x0).bind fun u1 =>
  (gG_X0_isPerson G x0 x1).bind fun p2 =>
  if p2 = 0 then (
    some ((-1), G))
  else
  (dg_is G 1 x0).bind fun u4 =>
  (gG_X0_creditorsOf G x0 x1).bind fun p5 =>
  if p5 = 0 then (
    some ((-1), G))
  else
  (dg_is G 1 x0).bind fun u7 =>
  (gG_X0_at G x0 x1).bind fun p8 =>
  (dg_gI G 3 2 p8).bind fun v9 =>
  (dg_is G 1 x0).bind fun u10 =>
  (gG_X0_tells_3 G x0 p8 8).bind fun p11 =>
  (dg_gI p11.2 3 2 p8).bind fun v12 =>
  gG_X0_surrender_L56 dh_fu p11.2 x0 x1 p8 (Int64.toInt32 (((Int32.toInt64 v9) * (Int32.toInt64 p11.1)) / 100)) (v12 - (Int64.toInt32 (((Int32.toInt64 v9) * (Int32.toInt64 p11.1)) / 100))) 0
theorem wG_X0_surrender {l : Launch} {E : dj_E} {Mo : Option dm_M} {r : Int32} {G' : dg_G} (G : dg_G) (x0 : Nat) (x1 : Int32) (hf : gG_X0_surrender G x0 x1 = some (r, G')) : dgW tG_X0_surrender l E Mo G' (.inr (some (.int r))) G 0 [(0, dj_v E x0), (1, .int x1)] [] := by
  unfold gG_X0_surrender at hf
  refine g_aload_n dX0_surrender_0 rfl (j := 0) rfl ?_
  refine dg_l (fun _ _ _ _ _ _ _ hC => r_iload_n hC dX0_surrender_1 rfl (j := 1) rfl) ?_
  obtain ⟨u1, h1, hf⟩ := dh_bd hf
  obtain ⟨p2, h2, hf⟩ := dh_bd hf
  refine g_callV (rc_O (ci := 1) rfl h1) (cG_X0_isPerson _ E Mo G x0 x1 h2) q402 qG_X0_isPerson (Nat.le_of_ble_eq_true rfl) (Nat.le_of_ble_eq_true rfl) rfl (dj_cat8 (Nat.le_of_ble_eq_true rfl)) dX0_surrender_2 ?_
  refine dg_b (fun _ _ _ _ _ _ _ hC => r_if_eq hC dX0_surrender_5 (tgt := 16) (by decide)) (fun c3 => ?_) (fun c3 => ?_)
  · have hf := dh_if hf c3
    refine dg_l (fun _ _ _ _ _ _ _ hC => r_iconst hC dX0_surrender_16 ki_m1) ?_
    exact g_iret dX0_surrender_17 rfl hf
  · have hf := dh_el hf c3
    refine g_aload_n dX0_surrender_8 rfl (j := 0) rfl ?_
    refine dg_l (fun _ _ _ _ _ _ _ hC => r_iload_n hC dX0_surrender_9 rfl (j := 1) rfl) ?_
    obtain ⟨u4, h4, hf⟩ := dh_bd hf
    obtain ⟨p5, h5, hf⟩ := dh_bd hf
    refine g_callV (rc_O (ci := 1) rfl h4) (cG_X0_creditorsOf _ E Mo G x0 x1 h5) q544 qG_X0_creditorsOf (Nat.le_of_ble_eq_true rfl) (Nat.le_of_ble_eq_true rfl) rfl (dj_cat8 (Nat.le_of_ble_eq_true rfl)) dX0_surrender_10 ?_
    refine dg_bn (fun _ _ _ _ _ _ _ hC => r_if_ne hC dX0_surrender_13 (tgt := 18) (by decide)) (fun c6 => ?_) (fun c6 => ?_)
    · have hf := dh_el hf c6
      refine g_aload_n dX0_surrender_18 rfl (j := 0) rfl ?_
      refine dg_l (fun _ _ _ _ _ _ _ hC => r_iload_n hC dX0_surrender_19 rfl (j := 1) rfl) ?_
      obtain ⟨u7, h7, hf⟩ := dh_bd hf
      obtain ⟨p8, h8, hf⟩ := dh_bd hf
      refine g_callV (rc_O (ci := 1) rfl h7) (cG_X0_at _ E Mo G x0 x1 h8) q525 qG_X0_at (Nat.le_of_ble_eq_true rfl) (Nat.le_of_ble_eq_true rfl) rfl (dj_cat8 (Nat.le_of_ble_eq_true rfl)) dX0_surrender_20 ?_
      refine g_astore_n (i := 2) (lv1 := [(2, dj_v E p8), (0, dj_v E x0), (1, .int x1)]) dX0_surrender_23 rfl (Nat.le_of_ble_eq_true rfl) rfl ?_
      refine g_aload_n dX0_surrender_24 rfl (j := 0) rfl ?_
      obtain ⟨v9, h9, hf⟩ := dh_bd hf
      refine g_getI fR_X0_134 (by decide) h9 dX0_surrender_25 ?_
      refine dg_l (fun _ _ _ _ _ _ _ hC => r_i2l hC dX0_surrender_28) ?_
      refine g_aload_n dX0_surrender_29 rfl (j := 1) rfl ?_
      refine g_aload_n dX0_surrender_30 rfl (j := 0) rfl ?_
      refine g_gets (j := 8) (by decide) (by decide) (fun _ h => ((dk_T h).1 7 (by decide)).1) q1278 dX0_surrender_31 ?_
      obtain ⟨u10, h10, hf⟩ := dh_bd hf
      obtain ⟨p11, h11, hf⟩ := dh_bd hf
      refine g_callV (rc_O (ci := 1) rfl h10) (cG_X0_tells_3 _ E Mo G x0 p8 8 h11) q1159 qG_X0_tells_3 (Nat.le_of_ble_eq_true rfl) (Nat.le_of_ble_eq_true rfl) rfl (dj_cat8 (Nat.le_of_ble_eq_true rfl)) dX0_surrender_34 ?_
      refine dg_l (fun _ _ _ _ _ _ _ hC => r_i2l hC dX0_surrender_37) ?_
      refine dg_l (fun _ _ _ _ _ _ _ hC => r_lmul hC dX0_surrender_38) ?_
      refine dg_l (fun _ _ _ _ _ _ _ hC => r_ldc2 hC q1248 dX0_surrender_39) ?_
      refine dg_l (fun _ _ _ _ _ _ _ hC => r_ldiv hC dX0_surrender_42 (by decide)) ?_
      refine dg_l (fun _ _ _ _ _ _ _ hC => r_l2i hC dX0_surrender_43) ?_
      refine dg_l (fun _ _ _ _ _ _ _ hC => r_istore_n (lv' := [(3, .int (Int64.toInt32 (((Int32.toInt64 v9) * (Int32.toInt64 p11.1)) / 100))), (2, dj_v E p8), (0, dj_v E x0), (1, .int x1)]) hC dX0_surrender_44 rfl (Nat.le_of_ble_eq_true rfl) (by simp only [List.filter, dj_cat] <;> rfl)) ?_
      refine g_aload_n dX0_surrender_45 rfl (j := 1) rfl ?_
      obtain ⟨v12, h12, hf⟩ := dh_bd hf
      refine g_getI fR_X0_134 (by decide) h12 dX0_surrender_46 ?_
      refine dg_l (fun _ _ _ _ _ _ _ hC => r_iload_n hC dX0_surrender_49 rfl (j := 0) rfl) ?_
      refine dg_l (fun _ _ _ _ _ _ _ hC => r_isub hC dX0_surrender_50) ?_
      refine dg_l (fun _ _ _ _ _ _ _ hC => r_istore (lv' := [(4, .int (v12 - (Int64.toInt32 (((Int32.toInt64 v9) * (Int32.toInt64 p11.1)) / 100)))), (3, .int (Int64.toInt32 (((Int32.toInt64 v9) * (Int32.toInt64 p11.1)) / 100))), (2, dj_v E p8), (0, dj_v E x0), (1, .int x1)]) hC dX0_surrender_51 (Nat.le_of_ble_eq_true rfl) rfl) ?_
      refine dg_l (fun _ _ _ _ _ _ _ hC => r_iconst hC dX0_surrender_53 ki_0) ?_
      refine dg_l (fun _ _ _ _ _ _ _ hC => r_istore (lv' := [(5, .int 0), (4, .int (v12 - (Int64.toInt32 (((Int32.toInt64 v9) * (Int32.toInt64 p11.1)) / 100)))), (3, .int (Int64.toInt32 (((Int32.toInt64 v9) * (Int32.toInt64 p11.1)) / 100))), (2, dj_v E p8), (0, dj_v E x0), (1, .int x1)]) hC dX0_surrender_54 (Nat.le_of_ble_eq_true rfl) rfl) ?_
      exact g_sub [4, 5, 3, 2, 1, 0] rfl (wG_X0_surrender_L56 dh_fu p11.2 x0 x1 p8 (Int64.toInt32 (((Int32.toInt64 v9) * (Int32.toInt64 p11.1)) / 100)) (v12 - (Int64.toInt32 (((Int32.toInt64 v9) * (Int32.toInt64 p11.1)) / 100))) 0 hf)
    · have hf := dh_if hf c6
      refine dg_l (fun _ _ _ _ _ _ _ hC => r_iconst hC dX0_surrender_16 ki_m1) ?_
      exact g_iret dX0_surrender_17 rfl hf
theorem cG_X0_surrender (l : Launch) (E : dj_E) (Mo : Option dm_M) (G : dg_G) (x0 : Nat) (x1 : Int32) {p : Int32 × dg_G} (h : gG_X0_surrender G x0 x1 = some p) : dg_Met l yX0_surrender cX0_surrender 8 (some .int) 7 154 E Mo [dj_v E x0, .int x1] G (some (.int p.1)) p.2 :=
  dg_met (plainFor_of_name (by decide)) (by simp only [lg_sl_ref, lg_sl_int, lg_sl_long, lg_sl_nil]; decide) (by simp only [lv_args_ref, lv_args_int, lv_args_long, lv_args_nil]) (wG_X0_surrender G x0 x1 h)
theorem qG_X0_surrender : dg_cV "DebtorsHouse" yX0_surrender cX0_surrender 8 (some .int) 1 := ⟨q1275, Or.inl q1276, q81, q1277, by decide, by decide, by decide +kernel⟩
