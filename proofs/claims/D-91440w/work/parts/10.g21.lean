set_option maxRecDepth 100000
/-! DebtorsHouse.found(II)I -/
abbrev tG_X0_found : dg_T := (cX0_found, 7, RX0, (some .int), 7, 154, "found", [])
def gG_X0_found_L161_F (k161 : (dg_G → Nat → Int32 → Nat → Int32 → Int32 → Option (Int32 × dg_G))) (G : dg_G) (x0 : Nat) (x2 : Int32) (x3 : Nat) (x5 : Int32) (x6 : Int32) : Option (Int32 × dg_G) :=
  (dg_gR G 1 0 x0).bind fun v25 =>
  (dg_gR G 2 9 v25).bind fun v26 =>
  (dg_is G 10 v26).bind fun u27 =>
  (gG_J2_size G v26).bind fun p28 =>
  if p28 ≤ x6 then (
    (dg_gI G 3 2 x3).bind fun v30 =>
    (dg_pI G 3 2 x3 (v30 + x5)).bind fun G31 =>
    some (x2 - x5, G31))
  else
  (dg_is G 1 x0).bind fun u32 =>
  (gG_X0_debtAt G x0 x6).bind fun p33 =>
  (dg_gI G 4 7 p33).bind fun v34 =>
  (dg_is G 1 x0).bind fun u35 =>
  (gG_X0_at G x0 v34).bind fun p36 =>
  (dg_gI G 3 2 p36).bind fun v37 =>
  (dg_gR G 1 7 x0).bind fun v38 =>
  (dg_ld G 50 v38 x6).bind fun v39 =>
  (dg_pI G 3 2 p36 (v37 + v39)).bind fun G40 =>
  (dg_is G40 1 x0).bind fun u41 =>
  (gG_X0_debtAt G40 x0 x6).bind fun p42 =>
  (dg_gI G40 4 12 p42).bind fun v43 =>
  (dg_gR G40 1 7 x0).bind fun v44 =>
  (dg_ld G40 50 v44 x6).bind fun v45 =>
  (dg_pI G40 4 12 p42 (v43 - v45)).bind fun G46 =>
  k161 G46 x0 x2 x3 x5 (x6 + 1)
theorem wG_X0_found_L161_F {l : Launch} {E : dj_E} {Mo : Option dm_M} {r : Int32} {G' : dg_G} (k161 : (dg_G → Nat → Int32 → Nat → Int32 → Int32 → Option (Int32 × dg_G))) (hk161 : ∀ (G : dg_G) (x0 : Nat) (x2 : Int32) (x3 : Nat) (x5 : Int32) (x6 : Int32), k161 G x0 x2 x3 x5 x6 = some (r, G') → dgW tG_X0_found l E Mo G' (.inr (some (.int r))) G 161 [(0, dj_v E x0), (2, .int x2), (3, dj_v E x3), (5, .int x5), (6, .int x6)] []) (G : dg_G) (x0 : Nat) (x2 : Int32) (x3 : Nat) (x5 : Int32) (x6 : Int32) (hf : gG_X0_found_L161_F k161 G x0 x2 x3 x5 x6 = some (r, G')) : dgW tG_X0_found l E Mo G' (.inr (some (.int r))) G 161 [(0, dj_v E x0), (2, .int x2), (3, dj_v E x3), (5, .int x5), (6, .int x6)] [] := by
  unfold gG_X0_found_L161_F at hf
  refine dg_l (fun _ _ _ _ _ _ _ hC => r_iload hC dX0_found_161 (j := 4) rfl) ?_
  refine g_aload_n dX0_found_163 rfl (j := 0) rfl ?_
  obtain ⟨v25, h25, hf⟩ := dh_bd hf
  refine g_getR fR_X0_10 (by decide) h25 dX0_found_164 ?_
  obtain ⟨v26, h26, hf⟩ := dh_bd hf
  refine g_getR fR_X0_63 (by decide) h26 dX0_found_167 ?_
  obtain ⟨u27, h27, hf⟩ := dh_bd hf
  obtain ⟨p28, h28, hf⟩ := dh_bd hf
  refine g_callV (rc_O (ci := 10) rfl h27) (cG_J2_size _ E Mo G v26 h28) q256 qG_J2_size (Nat.le_of_ble_eq_true rfl) (Nat.le_of_ble_eq_true rfl) rfl (dj_cat8 (Nat.le_of_ble_eq_true rfl)) dX0_found_170 ?_
  refine dg_b (fun _ _ _ _ _ _ _ hC => r_icmp_ge hC dX0_found_173 (tgt := 231) (by decide)) (fun c29 => ?_) (fun c29 => ?_)
  · have hf := dh_if hf c29
    refine g_aload_n dX0_found_231 rfl (j := 2) rfl ?_
    refine g_dup dX0_found_232 ?_
    obtain ⟨v30, h30, hf⟩ := dh_bd hf
    refine g_getI fR_X0_134 (by decide) h30 dX0_found_233 ?_
    refine dg_l (fun _ _ _ _ _ _ _ hC => r_iload hC dX0_found_236 (j := 3) rfl) ?_
    refine dg_l (fun _ _ _ _ _ _ _ hC => r_iadd hC dX0_found_238) ?_
    obtain ⟨G31, h31, hf⟩ := dh_bd hf
    refine g_putI fF_X0_134 (fun q => by cases q) (by decide) h31 dX0_found_239 ?_
    refine dg_l (fun _ _ _ _ _ _ _ hC => r_iload_n hC dX0_found_242 rfl (j := 1) rfl) ?_
    refine dg_l (fun _ _ _ _ _ _ _ hC => r_iload hC dX0_found_243 (j := 3) rfl) ?_
    refine dg_l (fun _ _ _ _ _ _ _ hC => r_isub hC dX0_found_245) ?_
    exact g_iret dX0_found_246 rfl hf
  · have hf := dh_el hf c29
    refine g_aload_n dX0_found_176 rfl (j := 0) rfl ?_
    refine g_aload_n dX0_found_177 rfl (j := 0) rfl ?_
    refine dg_l (fun _ _ _ _ _ _ _ hC => r_iload hC dX0_found_178 (j := 4) rfl) ?_
    obtain ⟨u32, h32, hf⟩ := dh_bd hf
    obtain ⟨p33, h33, hf⟩ := dh_bd hf
    refine g_callV (rc_O (ci := 1) rfl h32) (cG_X0_debtAt _ E Mo G x0 x6 h33) q485 qG_X0_debtAt (Nat.le_of_ble_eq_true rfl) (Nat.le_of_ble_eq_true rfl) rfl (dj_cat8 (Nat.le_of_ble_eq_true rfl)) dX0_found_180 ?_
    obtain ⟨v34, h34, hf⟩ := dh_bd hf
    refine g_getI fR_X0_131 (by decide) h34 dX0_found_183 ?_
    obtain ⟨u35, h35, hf⟩ := dh_bd hf
    obtain ⟨p36, h36, hf⟩ := dh_bd hf
    refine g_callV (rc_O (ci := 1) rfl h35) (cG_X0_at _ E Mo G x0 v34 h36) q525 qG_X0_at (Nat.le_of_ble_eq_true rfl) (Nat.le_of_ble_eq_true rfl) rfl (dj_cat8 (Nat.le_of_ble_eq_true rfl)) dX0_found_186 ?_
    refine g_dup dX0_found_189 ?_
    obtain ⟨v37, h37, hf⟩ := dh_bd hf
    refine g_getI fR_X0_134 (by decide) h37 dX0_found_190 ?_
    refine g_aload_n dX0_found_193 rfl (j := 0) rfl ?_
    obtain ⟨v38, h38, hf⟩ := dh_bd hf
    refine g_getR fR_X0_42 (by decide) h38 dX0_found_194 ?_
    refine dg_l (fun _ _ _ _ _ _ _ hC => r_iload hC dX0_found_197 (j := 4) rfl) ?_
    obtain ⟨v39, h39, hf⟩ := dh_bd hf
    refine g_iald h39 dX0_found_199 ?_
    refine dg_l (fun _ _ _ _ _ _ _ hC => r_iadd hC dX0_found_200) ?_
    obtain ⟨G40, h40, hf⟩ := dh_bd hf
    refine g_putI fF_X0_134 (fun q => by cases q) (by decide) h40 dX0_found_201 ?_
    refine g_aload_n dX0_found_204 rfl (j := 0) rfl ?_
    refine dg_l (fun _ _ _ _ _ _ _ hC => r_iload hC dX0_found_205 (j := 4) rfl) ?_
    obtain ⟨u41, h41, hf⟩ := dh_bd hf
    obtain ⟨p42, h42, hf⟩ := dh_bd hf
    refine g_callV (rc_O (ci := 1) rfl h41) (cG_X0_debtAt _ E Mo G40 x0 x6 h42) q485 qG_X0_debtAt (Nat.le_of_ble_eq_true rfl) (Nat.le_of_ble_eq_true rfl) rfl (dj_cat8 (Nat.le_of_ble_eq_true rfl)) dX0_found_207 ?_
    refine g_dup dX0_found_210 ?_
    obtain ⟨v43, h43, hf⟩ := dh_bd hf
    refine g_getI fR_X0_178 (by decide) h43 dX0_found_211 ?_
    refine g_aload_n dX0_found_214 rfl (j := 0) rfl ?_
    obtain ⟨v44, h44, hf⟩ := dh_bd hf
    refine g_getR fR_X0_42 (by decide) h44 dX0_found_215 ?_
    refine dg_l (fun _ _ _ _ _ _ _ hC => r_iload hC dX0_found_218 (j := 4) rfl) ?_
    obtain ⟨v45, h45, hf⟩ := dh_bd hf
    refine g_iald h45 dX0_found_220 ?_
    refine dg_l (fun _ _ _ _ _ _ _ hC => r_isub hC dX0_found_221) ?_
    obtain ⟨G46, h46, hf⟩ := dh_bd hf
    refine g_putI fF_X0_178 (fun q => by cases q) (by decide) h46 dX0_found_222 ?_
    refine dg_l (fun _ _ _ _ _ _ _ hC => r_iinc (lv' := [(6, .int (x6 + 1)), (0, dj_v E x0), (2, .int x2), (3, dj_v E x3), (5, .int x5)]) hC dX0_found_225 (j := 4) rfl (congrArg _ ki_1) (Nat.le_of_ble_eq_true rfl) rfl) ?_
    refine dg_l (fun _ _ _ _ _ _ _ hC => r_goto hC dX0_found_228 (tgt := 161) (by decide)) ?_
    exact g_sub [1, 2, 3, 4, 0] rfl (hk161 G46 x0 x2 x3 x5 (x6 + 1) hf)
def gG_X0_found_L161 : Nat → dg_G → Nat → Int32 → Nat → Int32 → Int32 → Option (Int32 × dg_G)
  | 0 => fun _ _ _ _ _ _ => none
  | n + 1 => gG_X0_found_L161_F (gG_X0_found_L161 n)
theorem wG_X0_found_L161 {l : Launch} {E : dj_E} {Mo : Option dm_M} {r : Int32} {G' : dg_G} : ∀ (n : Nat) (G : dg_G) (x0 : Nat) (x2 : Int32) (x3 : Nat) (x5 : Int32) (x6 : Int32) (_ : gG_X0_found_L161 n G x0 x2 x3 x5 x6 = some (r, G')), dgW tG_X0_found l E Mo G' (.inr (some (.int r))) G 161 [(0, dj_v E x0), (2, .int x2), (3, dj_v E x3), (5, .int x5), (6, .int x6)] [] := by
  intro n
  induction n with
  | zero => intro G x0 x2 x3 x5 x6 hf; exact dh_no hf
  | succ n ih => intro G x0 x2 x3 x5 x6 hf; exact wG_X0_found_L161_F (gG_X0_found_L161 n) ih G x0 x2 x3 x5 x6 hf
def gG_X0_found_b79 (k32 : (dg_G → Nat → Int32 → Int32 → Nat → Int32 → Int32 → Option (Int32 × dg_G))) (G : dg_G) (x0 : Nat) (x1 : Int32) (x2 : Int32) (x3 : Nat) (x4 : Int32) (x5 : Int32) (y0 : Int32) (y1 : Int32) (y2 : Nat) : Option (Int32 × dg_G) :=
  (dg_st G 50 y2 y1 y0).bind fun G54 =>
  (dg_gR G54 1 7 x0).bind fun v55 =>
  (dg_st G54 50 v55 x5 0).bind fun G56 =>
  if x4 = 0 then (
    (dg_gR G56 1 6 x0).bind fun v58 =>
    (dg_ld G56 50 v58 x5).bind fun v59 =>
    if v59 ≤ 0 then (
      k32 G56 x0 x1 x2 x3 0 (x5 + 1))
    else
    k32 G56 x0 x1 x2 x3 1 (x5 + 1))
  else
  k32 G56 x0 x1 x2 x3 1 (x5 + 1)
theorem wG_X0_found_b79 {l : Launch} {E : dj_E} {Mo : Option dm_M} {r : Int32} {G' : dg_G} (k32 : (dg_G → Nat → Int32 → Int32 → Nat → Int32 → Int32 → Option (Int32 × dg_G))) (hk32 : ∀ (G : dg_G) (x0 : Nat) (x1 : Int32) (x2 : Int32) (x3 : Nat) (x4 : Int32) (x5 : Int32), k32 G x0 x1 x2 x3 x4 x5 = some (r, G') → dgW tG_X0_found l E Mo G' (.inr (some (.int r))) G 32 [(0, dj_v E x0), (1, .int x1), (2, .int x2), (3, dj_v E x3), (4, .int x4), (5, .int x5)] []) (G : dg_G) (x0 : Nat) (x1 : Int32) (x2 : Int32) (x3 : Nat) (x4 : Int32) (x5 : Int32) (y0 : Int32) (y1 : Int32) (y2 : Nat) (hf : gG_X0_found_b79 k32 G x0 x1 x2 x3 x4 x5 y0 y1 y2 = some (r, G')) : dgW tG_X0_found l E Mo G' (.inr (some (.int r))) G 79 [(0, dj_v E x0), (1, .int x1), (2, .int x2), (3, dj_v E x3), (4, .int x4), (5, .int x5)] [.int y0, .int y1, dj_v E y2] := by
  unfold gG_X0_found_b79 at hf
  obtain ⟨G54, h54, hf⟩ := dh_bd hf
  refine g_iast h54 dX0_found_79 ?_
  refine g_aload_n dX0_found_80 rfl (j := 0) rfl ?_
  obtain ⟨v55, h55, hf⟩ := dh_bd hf
  refine g_getR fR_X0_42 (by decide) h55 dX0_found_81 ?_
  refine dg_l (fun _ _ _ _ _ _ _ hC => r_iload hC dX0_found_84 (j := 5) rfl) ?_
  refine dg_l (fun _ _ _ _ _ _ _ hC => r_iconst hC dX0_found_86 ki_0) ?_
  obtain ⟨G56, h56, hf⟩ := dh_bd hf
  refine g_iast h56 dX0_found_87 ?_
  refine dg_l (fun _ _ _ _ _ _ _ hC => r_iload hC dX0_found_88 (j := 4) rfl) ?_
  refine dg_bn (fun _ _ _ _ _ _ _ hC => r_if_ne hC dX0_found_90 (tgt := 103) (by decide)) (fun c57 => ?_) (fun c57 => ?_)
  · have hf := dh_el hf c57
    refine dg_l (fun _ _ _ _ _ _ _ hC => r_iconst hC dX0_found_103 ki_1) ?_
    refine dg_l (fun _ _ _ _ _ _ _ hC => r_goto hC dX0_found_104 (tgt := 108) (by decide)) ?_
    refine dg_l (fun _ _ _ _ _ _ _ hC => r_istore (lv' := [(4, .int 1), (0, dj_v E x0), (1, .int x1), (2, .int x2), (3, dj_v E x3), (5, .int x5)]) hC dX0_found_108 (Nat.le_of_ble_eq_true rfl) (by simp only [List.filter, dj_cat] <;> rfl)) ?_
    refine dg_l (fun _ _ _ _ _ _ _ hC => r_iinc (lv' := [(5, .int (x5 + 1)), (4, .int 1), (0, dj_v E x0), (1, .int x1), (2, .int x2), (3, dj_v E x3)]) hC dX0_found_110 (j := 5) rfl (congrArg _ ki_1) (Nat.le_of_ble_eq_true rfl) rfl) ?_
    refine dg_l (fun _ _ _ _ _ _ _ hC => r_goto hC dX0_found_113 (tgt := 32) (by decide)) ?_
    exact g_sub [2, 3, 4, 5, 1, 0] rfl (hk32 G56 x0 x1 x2 x3 1 (x5 + 1) hf)
  · have hf := dh_if hf c57
    refine g_aload_n dX0_found_93 rfl (j := 0) rfl ?_
    obtain ⟨v58, h58, hf⟩ := dh_bd hf
    refine g_getR fR_X0_39 (by decide) h58 dX0_found_94 ?_
    refine dg_l (fun _ _ _ _ _ _ _ hC => r_iload hC dX0_found_97 (j := 5) rfl) ?_
    obtain ⟨v59, h59, hf⟩ := dh_bd hf
    refine g_iald h59 dX0_found_99 ?_
    refine dg_b (fun _ _ _ _ _ _ _ hC => r_if_le hC dX0_found_100 (tgt := 107) (by decide)) (fun c60 => ?_) (fun c60 => ?_)
    · have hf := dh_if hf c60
      refine dg_l (fun _ _ _ _ _ _ _ hC => r_iconst hC dX0_found_107 ki_0) ?_
      refine dg_l (fun _ _ _ _ _ _ _ hC => r_istore (lv' := [(4, .int 0), (0, dj_v E x0), (1, .int x1), (2, .int x2), (3, dj_v E x3), (5, .int x5)]) hC dX0_found_108 (Nat.le_of_ble_eq_true rfl) (by simp only [List.filter, dj_cat] <;> rfl)) ?_
      refine dg_l (fun _ _ _ _ _ _ _ hC => r_iinc (lv' := [(5, .int (x5 + 1)), (4, .int 0), (0, dj_v E x0), (1, .int x1), (2, .int x2), (3, dj_v E x3)]) hC dX0_found_110 (j := 5) rfl (congrArg _ ki_1) (Nat.le_of_ble_eq_true rfl) rfl) ?_
      refine dg_l (fun _ _ _ _ _ _ _ hC => r_goto hC dX0_found_113 (tgt := 32) (by decide)) ?_
      exact g_sub [2, 3, 4, 5, 1, 0] rfl (hk32 G56 x0 x1 x2 x3 0 (x5 + 1) hf)
    · have hf := dh_el hf c60
      refine dg_l (fun _ _ _ _ _ _ _ hC => r_iconst hC dX0_found_103 ki_1) ?_
      refine dg_l (fun _ _ _ _ _ _ _ hC => r_goto hC dX0_found_104 (tgt := 108) (by decide)) ?_
      refine dg_l (fun _ _ _ _ _ _ _ hC => r_istore (lv' := [(4, .int 1), (0, dj_v E x0), (1, .int x1), (2, .int x2), (3, dj_v E x3), (5, .int x5)]) hC dX0_found_108 (Nat.le_of_ble_eq_true rfl) (by simp only [List.filter, dj_cat] <;> rfl)) ?_
      refine dg_l (fun _ _ _ _ _ _ _ hC => r_iinc (lv' := [(5, .int (x5 + 1)), (4, .int 1), (0, dj_v E x0), (1, .int x1), (2, .int x2), (3, dj_v E x3)]) hC dX0_found_110 (j := 5) rfl (congrArg _ ki_1) (Nat.le_of_ble_eq_true rfl) rfl) ?_
      refine dg_l (fun _ _ _ _ _ _ _ hC => r_goto hC dX0_found_113 (tgt := 32) (by decide)) ?_
      exact g_sub [2, 3, 4, 5, 1, 0] rfl (hk32 G56 x0 x1 x2 x3 1 (x5 + 1) hf)
def gG_X0_found_L32_F (k32 : (dg_G → Nat → Int32 → Int32 → Nat → Int32 → Int32 → Option (Int32 × dg_G))) (G : dg_G) (x0 : Nat) (x1 : Int32) (x2 : Int32) (x3 : Nat) (x4 : Int32) (x5 : Int32) : Option (Int32 × dg_G) :=
  (dg_gR G 1 0 x0).bind fun v8 =>
  (dg_gR G 2 9 v8).bind fun v9 =>
  (dg_is G 10 v9).bind fun u10 =>
  (gG_J2_size G v9).bind fun p11 =>
  if ¬ (p11 ≤ x5) then (
    (dg_gR G 1 6 x0).bind fun v49 =>
    (dg_is G 1 x0).bind fun u50 =>
    (gG_X0_debtAt G x0 x5).bind fun p51 =>
    (dg_gI G 4 1 p51).bind fun v52 =>
    if v52 = x1 then (
      (dg_is G 1 x0).bind fun u61 =>
      (gG_X0_debtAt G x0 x5).bind fun p62 =>
      (dg_gI G 4 12 p62).bind fun v63 =>
      gG_X0_found_b79 k32 G x0 x1 x2 x3 x4 x5 v63 x5 v49)
    else
    gG_X0_found_b79 k32 G x0 x1 x2 x3 x4 x5 0 x5 v49)
  else
  (dg_gI G 3 14 x3).bind fun v13 =>
  if v13 = 0 then (
    (dg_gI G 3 2 x3).bind fun v15 =>
    (dg_pI G 3 2 x3 (v15 + x2)).bind fun G16 =>
    some (0, G16))
  else
  if x4 = 0 then (
    (dg_gI G 3 2 x3).bind fun v18 =>
    (dg_pI G 3 2 x3 (v18 + x2)).bind fun G19 =>
    some (0, G19))
  else
  (dg_is G 1 x0).bind fun u20 =>
  (gG_X0_tells_3 G x0 x3 9).bind fun p21 =>
  if p21.1 = 0 then (
    (dg_gI p21.2 3 2 x3).bind fun v47 =>
    (dg_pI p21.2 3 2 x3 (v47 + x2)).bind fun G48 =>
    some (0, G48))
  else
  (dg_is p21.2 1 x0).bind fun u23 =>
  (gG_X0_parts p21.2 x0 x2).bind fun p24 =>
  gG_X0_found_L161 dh_fu p24.2 x0 x2 x3 p24.1 0
theorem wG_X0_found_L32_F {l : Launch} {E : dj_E} {Mo : Option dm_M} {r : Int32} {G' : dg_G} (k32 : (dg_G → Nat → Int32 → Int32 → Nat → Int32 → Int32 → Option (Int32 × dg_G))) (hk32 : ∀ (G : dg_G) (x0 : Nat) (x1 : Int32) (x2 : Int32) (x3 : Nat) (x4 : Int32) (x5 : Int32), k32 G x0 x1 x2 x3 x4 x5 = some (r, G') → dgW tG_X0_found l E Mo G' (.inr (some (.int r))) G 32 [(0, dj_v E x0), (1, .int x1), (2, .int x2), (3, dj_v E x3), (4, .int x4), (5, .int x5)] []) (G : dg_G) (x0 : Nat) (x1 : Int32) (x2 : Int32) (x3 : Nat) (x4 : Int32) (x5 : Int32) (hf : gG_X0_found_L32_F k32 G x0 x1 x2 x3 x4 x5 = some (r, G')) : dgW tG_X0_found l E Mo G' (.inr (some (.int r))) G 32 [(0, dj_v E x0), (1, .int x1), (2, .int x2), (3, dj_v E x3), (4, .int x4), (5, .int x5)] [] := by
  unfold gG_X0_found_L32_F at hf
  refine dg_l (fun _ _ _ _ _ _ _ hC => r_iload hC dX0_found_32 (j := 5) rfl) ?_
  refine g_aload_n dX0_found_34 rfl (j := 0) rfl ?_
  obtain ⟨v8, h8, hf⟩ := dh_bd hf
  refine g_getR fR_X0_10 (by decide) h8 dX0_found_35 ?_
  obtain ⟨v9, h9, hf⟩ := dh_bd hf
  refine g_getR fR_X0_63 (by decide) h9 dX0_found_38 ?_
  obtain ⟨u10, h10, hf⟩ := dh_bd hf
  obtain ⟨p11, h11, hf⟩ := dh_bd hf
  refine g_callV (rc_O (ci := 10) rfl h10) (cG_J2_size _ E Mo G v9 h11) q256 qG_J2_size (Nat.le_of_ble_eq_true rfl) (Nat.le_of_ble_eq_true rfl) rfl (dj_cat8 (Nat.le_of_ble_eq_true rfl)) dX0_found_41 ?_
  refine dg_b (fun _ _ _ _ _ _ _ hC => r_icmp_ge hC dX0_found_44 (tgt := 116) (by decide)) (fun c12 => ?_) (fun c12 => ?_)
  · have hf := dh_el hf (fun q => q c12)
    refine g_aload_n dX0_found_116 rfl (j := 3) rfl ?_
    obtain ⟨v13, h13, hf⟩ := dh_bd hf
    refine g_getI fR_X0_368 (by decide) h13 dX0_found_117 ?_
    refine dg_b (fun _ _ _ _ _ _ _ hC => r_if_eq hC dX0_found_120 (tgt := 139) (by decide)) (fun c14 => ?_) (fun c14 => ?_)
    · have hf := dh_if hf c14
      refine g_aload_n dX0_found_139 rfl (j := 3) rfl ?_
      refine g_dup dX0_found_140 ?_
      obtain ⟨v15, h15, hf⟩ := dh_bd hf
      refine g_getI fR_X0_134 (by decide) h15 dX0_found_141 ?_
      refine dg_l (fun _ _ _ _ _ _ _ hC => r_iload_n hC dX0_found_144 rfl (j := 2) rfl) ?_
      refine dg_l (fun _ _ _ _ _ _ _ hC => r_iadd hC dX0_found_145) ?_
      obtain ⟨G16, h16, hf⟩ := dh_bd hf
      refine g_putI fF_X0_134 (fun q => by cases q) (by decide) h16 dX0_found_146 ?_
      refine dg_l (fun _ _ _ _ _ _ _ hC => r_iconst hC dX0_found_149 ki_0) ?_
      exact g_iret dX0_found_150 rfl hf
    · have hf := dh_el hf c14
      refine dg_l (fun _ _ _ _ _ _ _ hC => r_iload hC dX0_found_123 (j := 4) rfl) ?_
      refine dg_b (fun _ _ _ _ _ _ _ hC => r_if_eq hC dX0_found_125 (tgt := 139) (by decide)) (fun c17 => ?_) (fun c17 => ?_)
      · have hf := dh_if hf c17
        refine g_aload_n dX0_found_139 rfl (j := 3) rfl ?_
        refine g_dup dX0_found_140 ?_
        obtain ⟨v18, h18, hf⟩ := dh_bd hf
        refine g_getI fR_X0_134 (by decide) h18 dX0_found_141 ?_
        refine dg_l (fun _ _ _ _ _ _ _ hC => r_iload_n hC dX0_found_144 rfl (j := 2) rfl) ?_
        refine dg_l (fun _ _ _ _ _ _ _ hC => r_iadd hC dX0_found_145) ?_
        obtain ⟨G19, h19, hf⟩ := dh_bd hf
        refine g_putI fF_X0_134 (fun q => by cases q) (by decide) h19 dX0_found_146 ?_
        refine dg_l (fun _ _ _ _ _ _ _ hC => r_iconst hC dX0_found_149 ki_0) ?_
        exact g_iret dX0_found_150 rfl hf
      · have hf := dh_el hf c17
        refine g_aload_n dX0_found_128 rfl (j := 0) rfl ?_
        refine g_aload_n dX0_found_129 rfl (j := 3) rfl ?_
        refine g_gets (j := 9) (by decide) (by decide) (fun _ h => ((dk_T h).1 8 (by decide)).1) q1293 dX0_found_130 ?_
        obtain ⟨u20, h20, hf⟩ := dh_bd hf
        obtain ⟨p21, h21, hf⟩ := dh_bd hf
        refine g_callV (rc_O (ci := 1) rfl h20) (cG_X0_tells_3 _ E Mo G x0 x3 9 h21) q1159 qG_X0_tells_3 (Nat.le_of_ble_eq_true rfl) (Nat.le_of_ble_eq_true rfl) rfl (dj_cat8 (Nat.le_of_ble_eq_true rfl)) dX0_found_133 ?_
        refine dg_bn (fun _ _ _ _ _ _ _ hC => r_if_ne hC dX0_found_136 (tgt := 151) (by decide)) (fun c22 => ?_) (fun c22 => ?_)
        · have hf := dh_el hf c22
          refine g_aload_n dX0_found_151 rfl (j := 0) rfl ?_
          refine dg_l (fun _ _ _ _ _ _ _ hC => r_iload_n hC dX0_found_152 rfl (j := 2) rfl) ?_
          obtain ⟨u23, h23, hf⟩ := dh_bd hf
          obtain ⟨p24, h24, hf⟩ := dh_bd hf
          refine g_callV (rc_O (ci := 1) rfl h23) (cG_X0_parts _ E Mo p21.2 x0 x2 h24) q1279 qG_X0_parts (Nat.le_of_ble_eq_true rfl) (Nat.le_of_ble_eq_true rfl) rfl (dj_cat8 (Nat.le_of_ble_eq_true rfl)) dX0_found_153 ?_
          refine dg_l (fun _ _ _ _ _ _ _ hC => r_istore (lv' := [(5, .int p24.1), (0, dj_v E x0), (1, .int x1), (2, .int x2), (3, dj_v E x3), (4, .int x4)]) hC dX0_found_156 (Nat.le_of_ble_eq_true rfl) rfl) ?_
          refine dg_l (fun _ _ _ _ _ _ _ hC => r_iconst hC dX0_found_158 ki_0) ?_
          refine dg_l (fun _ _ _ _ _ _ _ hC => r_istore (lv' := [(6, .int 0), (5, .int p24.1), (0, dj_v E x0), (1, .int x1), (2, .int x2), (3, dj_v E x3), (4, .int x4)]) hC dX0_found_159 (Nat.le_of_ble_eq_true rfl) rfl) ?_
          exact g_sub [2, 4, 5, 1, 0] rfl (wG_X0_found_L161 dh_fu p24.2 x0 x2 x3 p24.1 0 hf)
        · have hf := dh_if hf c22
          refine g_aload_n dX0_found_139 rfl (j := 3) rfl ?_
          refine g_dup dX0_found_140 ?_
          obtain ⟨v47, h47, hf⟩ := dh_bd hf
          refine g_getI fR_X0_134 (by decide) h47 dX0_found_141 ?_
          refine dg_l (fun _ _ _ _ _ _ _ hC => r_iload_n hC dX0_found_144 rfl (j := 2) rfl) ?_
          refine dg_l (fun _ _ _ _ _ _ _ hC => r_iadd hC dX0_found_145) ?_
          obtain ⟨G48, h48, hf⟩ := dh_bd hf
          refine g_putI fF_X0_134 (fun q => by cases q) (by decide) h48 dX0_found_146 ?_
          refine dg_l (fun _ _ _ _ _ _ _ hC => r_iconst hC dX0_found_149 ki_0) ?_
          exact g_iret dX0_found_150 rfl hf
  · have hf := dh_if hf c12
    refine g_aload_n dX0_found_47 rfl (j := 0) rfl ?_
    obtain ⟨v49, h49, hf⟩ := dh_bd hf
    refine g_getR fR_X0_39 (by decide) h49 dX0_found_48 ?_
    refine dg_l (fun _ _ _ _ _ _ _ hC => r_iload hC dX0_found_51 (j := 5) rfl) ?_
    refine g_aload_n dX0_found_53 rfl (j := 0) rfl ?_
    refine dg_l (fun _ _ _ _ _ _ _ hC => r_iload hC dX0_found_54 (j := 5) rfl) ?_
    obtain ⟨u50, h50, hf⟩ := dh_bd hf
    obtain ⟨p51, h51, hf⟩ := dh_bd hf
    refine g_callV (rc_O (ci := 1) rfl h50) (cG_X0_debtAt _ E Mo G x0 x5 h51) q485 qG_X0_debtAt (Nat.le_of_ble_eq_true rfl) (Nat.le_of_ble_eq_true rfl) rfl (dj_cat8 (Nat.le_of_ble_eq_true rfl)) dX0_found_56 ?_
    obtain ⟨v52, h52, hf⟩ := dh_bd hf
    refine g_getI fR_X0_128 (by decide) h52 dX0_found_59 ?_
    refine dg_l (fun _ _ _ _ _ _ _ hC => r_iload_n hC dX0_found_62 rfl (j := 1) rfl) ?_
    refine dg_bn (fun _ _ _ _ _ _ _ hC => r_icmp_ne hC dX0_found_63 (tgt := 78) (by decide)) (fun c53 => ?_) (fun c53 => ?_)
    · have hf := dh_el hf c53
      refine dg_l (fun _ _ _ _ _ _ _ hC => r_iconst hC dX0_found_78 ki_0) ?_
      exact g_sub [0, 1, 2, 3, 4, 5] rfl (wG_X0_found_b79 k32 hk32 G x0 x1 x2 x3 x4 x5 0 x5 v49 hf)
    · have hf := dh_if hf c53
      refine g_aload_n dX0_found_66 rfl (j := 0) rfl ?_
      refine dg_l (fun _ _ _ _ _ _ _ hC => r_iload hC dX0_found_67 (j := 5) rfl) ?_
      obtain ⟨u61, h61, hf⟩ := dh_bd hf
      obtain ⟨p62, h62, hf⟩ := dh_bd hf
      refine g_callV (rc_O (ci := 1) rfl h61) (cG_X0_debtAt _ E Mo G x0 x5 h62) q485 qG_X0_debtAt (Nat.le_of_ble_eq_true rfl) (Nat.le_of_ble_eq_true rfl) rfl (dj_cat8 (Nat.le_of_ble_eq_true rfl)) dX0_found_69 ?_
      obtain ⟨v63, h63, hf⟩ := dh_bd hf
      refine g_getI fR_X0_178 (by decide) h63 dX0_found_72 ?_
      refine dg_l (fun _ _ _ _ _ _ _ hC => r_goto hC dX0_found_75 (tgt := 79) (by decide)) ?_
      exact g_sub [0, 1, 2, 3, 4, 5] rfl (wG_X0_found_b79 k32 hk32 G x0 x1 x2 x3 x4 x5 v63 x5 v49 hf)
def gG_X0_found_L32 : Nat → dg_G → Nat → Int32 → Int32 → Nat → Int32 → Int32 → Option (Int32 × dg_G)
  | 0 => fun _ _ _ _ _ _ _ => none
  | n + 1 => gG_X0_found_L32_F (gG_X0_found_L32 n)
theorem wG_X0_found_L32 {l : Launch} {E : dj_E} {Mo : Option dm_M} {r : Int32} {G' : dg_G} : ∀ (n : Nat) (G : dg_G) (x0 : Nat) (x1 : Int32) (x2 : Int32) (x3 : Nat) (x4 : Int32) (x5 : Int32) (_ : gG_X0_found_L32 n G x0 x1 x2 x3 x4 x5 = some (r, G')), dgW tG_X0_found l E Mo G' (.inr (some (.int r))) G 32 [(0, dj_v E x0), (1, .int x1), (2, .int x2), (3, dj_v E x3), (4, .int x4), (5, .int x5)] [] := by
  intro n
  induction n with
  | zero => intro G x0 x1 x2 x3 x4 x5 hf; exact dh_no hf
  | succ n ih => intro G x0 x1 x2 x3 x4 x5 hf; exact wG_X0_found_L32_F (gG_X0_found_L32 n) ih G x0 x1 x2 x3 x4 x5 hf
def gG_X0_found (G : dg_G) (x0 : Nat) (x1 : Int32) (x2 : Int32) : Option (Int32 × dg_G) :=
  (dg_is G 1 x0).bind fun u1 =>
  (gG_X0_isPerson G x0 x1).bind fun p2 =>
  if p2 = 0 then (
    some ((-1), G))
  else
  (gG_X0_isIn G x2 1 1000000).bind fun p4 =>
  if p4 = 0 then (
    some ((-1), G))
  else
  (dg_is G 1 x0).bind fun u6 =>
  (gG_X0_at G x0 x1).bind fun p7 =>
  gG_X0_found_L32 dh_fu G x0 x1 x2 p7 0 0
theorem wG_X0_found {l : Launch} {E : dj_E} {Mo : Option dm_M} {r : Int32} {G' : dg_G} (G : dg_G) (x0 : Nat) (x1 : Int32) (x2 : Int32) (hf : gG_X0_found G x0 x1 x2 = some (r, G')) : dgW tG_X0_found l E Mo G' (.inr (some (.int r))) G 0 [(0, dj_v E x0), (1, .int x1), (2, .int x2)] [] := by
  unfold gG_X0_found at hf
  refine g_aload_n dX0_found_0 rfl (j := 0) rfl ?_
  refine dg_l (fun _ _ _ _ _ _ _ hC => r_iload_n hC dX0_found_1 rfl (j := 1) rfl) ?_
  obtain ⟨u1, h1, hf⟩ := dh_bd hf
  obtain ⟨p2, h2, hf⟩ := dh_bd hf
  refine g_callV (rc_O (ci := 1) rfl h1) (cG_X0_isPerson _ E Mo G x0 x1 h2) q402 qG_X0_isPerson (Nat.le_of_ble_eq_true rfl) (Nat.le_of_ble_eq_true rfl) rfl (dj_cat8 (Nat.le_of_ble_eq_true rfl)) dX0_found_2 ?_
  refine dg_b (fun _ _ _ _ _ _ _ hC => r_if_eq hC dX0_found_5 (tgt := 18) (by decide)) (fun c3 => ?_) (fun c3 => ?_)
  · have hf := dh_if hf c3
    refine dg_l (fun _ _ _ _ _ _ _ hC => r_iconst hC dX0_found_18 ki_m1) ?_
    exact g_iret dX0_found_19 rfl hf
  · have hf := dh_el hf c3
    refine dg_l (fun _ _ _ _ _ _ _ hC => r_iload_n hC dX0_found_8 rfl (j := 2) rfl) ?_
    refine dg_l (fun _ _ _ _ _ _ _ hC => r_iconst hC dX0_found_9 ki_1) ?_
    refine dg_l (fun _ _ _ _ _ _ _ hC => r_ldc hC q260 dX0_found_10) ?_
    obtain ⟨p4, h4, hf⟩ := dh_bd hf
    refine g_callS (cG_X0_isIn _ E Mo G x2 1 1000000 h4) q261 qG_X0_isIn (Nat.le_of_ble_eq_true rfl) (Nat.le_of_ble_eq_true rfl) rfl (dj_cat8 (Nat.le_of_ble_eq_true rfl)) dX0_found_12 ?_
    refine dg_bn (fun _ _ _ _ _ _ _ hC => r_if_ne hC dX0_found_15 (tgt := 20) (by decide)) (fun c5 => ?_) (fun c5 => ?_)
    · have hf := dh_el hf c5
      refine g_aload_n dX0_found_20 rfl (j := 0) rfl ?_
      refine dg_l (fun _ _ _ _ _ _ _ hC => r_iload_n hC dX0_found_21 rfl (j := 1) rfl) ?_
      obtain ⟨u6, h6, hf⟩ := dh_bd hf
      obtain ⟨p7, h7, hf⟩ := dh_bd hf
      refine g_callV (rc_O (ci := 1) rfl h6) (cG_X0_at _ E Mo G x0 x1 h7) q525 qG_X0_at (Nat.le_of_ble_eq_true rfl) (Nat.le_of_ble_eq_true rfl) rfl (dj_cat8 (Nat.le_of_ble_eq_true rfl)) dX0_found_22 ?_
      refine g_astore_n (i := 3) (lv1 := [(3, dj_v E p7), (0, dj_v E x0), (1, .int x1), (2, .int x2)]) dX0_found_25 rfl (Nat.le_of_ble_eq_true rfl) rfl ?_
      refine dg_l (fun _ _ _ _ _ _ _ hC => r_iconst hC dX0_found_26 ki_0) ?_
      refine dg_l (fun _ _ _ _ _ _ _ hC => r_istore (lv' := [(4, .int 0), (3, dj_v E p7), (0, dj_v E x0), (1, .int x1), (2, .int x2)]) hC dX0_found_27 (Nat.le_of_ble_eq_true rfl) (by simp only [List.filter, dj_cat] <;> rfl)) ?_
      refine dg_l (fun _ _ _ _ _ _ _ hC => r_iconst hC dX0_found_29 ki_0) ?_
      refine dg_l (fun _ _ _ _ _ _ _ hC => r_istore (lv' := [(5, .int 0), (4, .int 0), (3, dj_v E p7), (0, dj_v E x0), (1, .int x1), (2, .int x2)]) hC dX0_found_30 (Nat.le_of_ble_eq_true rfl) rfl) ?_
      exact g_sub [3, 4, 5, 2, 1, 0] rfl (wG_X0_found_L32 dh_fu G x0 x1 x2 p7 0 0 hf)
    · have hf := dh_if hf c5
      refine dg_l (fun _ _ _ _ _ _ _ hC => r_iconst hC dX0_found_18 ki_m1) ?_
      exact g_iret dX0_found_19 rfl hf
theorem cG_X0_found (l : Launch) (E : dj_E) (Mo : Option dm_M) (G : dg_G) (x0 : Nat) (x1 : Int32) (x2 : Int32) {p : Int32 × dg_G} (h : gG_X0_found G x0 x1 x2 = some p) : dg_Met l yX0_found cX0_found 7 (some .int) 7 154 E Mo [dj_v E x0, .int x1, .int x2] G (some (.int p.1)) p.2 :=
  dg_met (plainFor_of_name (by decide)) (by simp only [lg_sl_ref, lg_sl_int, lg_sl_long, lg_sl_nil]; decide) (by simp only [lv_args_ref, lv_args_int, lv_args_long, lv_args_nil]) (wG_X0_found G x0 x1 x2 h)
theorem qG_X0_found : dg_cV "DebtorsHouse" yX0_found cX0_found 7 (some .int) 2 := ⟨q1290, Or.inl q1291, q81, q1292, by decide, by decide, by decide +kernel⟩
/-! DebtorsHouse.rows()I -/
abbrev tG_X0_rows : dg_T := (cX0_rows, 3, RX0, (some .int), 4, 85, "rows", [])
def gG_X0_rows_L4_F (k4 : (Nat → Int32 → Int32 → Option Int32)) (G : dg_G) (x0 : Nat) (x1 : Int32) (x2 : Int32) : Option Int32 :=
  (dg_gR G 1 0 x0).bind fun v1 =>
  (dg_gR G 2 8 v1).bind fun v2 =>
  (dg_is G 10 v2).bind fun u3 =>
  (gG_J2_size G v2).bind fun p4 =>
  if p4 ≤ x2 then (
    some x1)
  else
  (dg_is G 1 x0).bind fun u6 =>
  (gG_X0_at G x0 x2).bind fun p7 =>
  (dg_gI G 3 10 p7).bind fun v8 =>
  k4 x0 (x1 + v8) (x2 + 1)
theorem wG_X0_rows_L4_F {l : Launch} {E : dj_E} {Mo : Option dm_M} {r : Int32} (G : dg_G) (k4 : (Nat → Int32 → Int32 → Option Int32)) (hk4 : ∀ (x0 : Nat) (x1 : Int32) (x2 : Int32), k4 x0 x1 x2 = some r → dgW tG_X0_rows l E Mo G (.inr (some (.int r))) G 4 [(0, dj_v E x0), (1, .int x1), (2, .int x2)] []) (x0 : Nat) (x1 : Int32) (x2 : Int32) (hf : gG_X0_rows_L4_F k4 G x0 x1 x2 = some r) : dgW tG_X0_rows l E Mo G (.inr (some (.int r))) G 4 [(0, dj_v E x0), (1, .int x1), (2, .int x2)] [] := by
  unfold gG_X0_rows_L4_F at hf
  refine dg_l (fun _ _ _ _ _ _ _ hC => r_iload_n hC dX0_rows_4 rfl (j := 2) rfl) ?_
  refine g_aload_n dX0_rows_5 rfl (j := 0) rfl ?_
  obtain ⟨v1, h1, hf⟩ := dh_bd hf
  refine g_getR fR_X0_10 (by decide) h1 dX0_rows_6 ?_
  obtain ⟨v2, h2, hf⟩ := dh_bd hf
  refine g_getR fR_X0_51 (by decide) h2 dX0_rows_9 ?_
  obtain ⟨u3, h3, hf⟩ := dh_bd hf
  obtain ⟨p4, h4, hf⟩ := dh_bd hf
  refine g_callV (rc_O (ci := 10) rfl h3) (cG_J2_size _ E Mo G v2 h4) q256 qG_J2_size (Nat.le_of_ble_eq_true rfl) (Nat.le_of_ble_eq_true rfl) rfl (dj_cat8 (Nat.le_of_ble_eq_true rfl)) dX0_rows_12 ?_
  refine dg_b (fun _ _ _ _ _ _ _ hC => r_icmp_ge hC dX0_rows_15 (tgt := 35) (by decide)) (fun c5 => ?_) (fun c5 => ?_)
  · have hf := dh_if hf c5
    refine dg_l (fun _ _ _ _ _ _ _ hC => r_iload_n hC dX0_rows_35 rfl (j := 1) rfl) ?_
    exact g_iret1 dX0_rows_36 rfl hf
  · have hf := dh_el hf c5
    refine dg_l (fun _ _ _ _ _ _ _ hC => r_iload_n hC dX0_rows_18 rfl (j := 1) rfl) ?_
    refine g_aload_n dX0_rows_19 rfl (j := 0) rfl ?_
    refine dg_l (fun _ _ _ _ _ _ _ hC => r_iload_n hC dX0_rows_20 rfl (j := 2) rfl) ?_
    obtain ⟨u6, h6, hf⟩ := dh_bd hf
    obtain ⟨p7, h7, hf⟩ := dh_bd hf
    refine g_callV (rc_O (ci := 1) rfl h6) (cG_X0_at _ E Mo G x0 x2 h7) q525 qG_X0_at (Nat.le_of_ble_eq_true rfl) (Nat.le_of_ble_eq_true rfl) rfl (dj_cat8 (Nat.le_of_ble_eq_true rfl)) dX0_rows_21 ?_
    obtain ⟨v8, h8, hf⟩ := dh_bd hf
    refine g_getI fR_X0_434 (by decide) h8 dX0_rows_24 ?_
    refine dg_l (fun _ _ _ _ _ _ _ hC => r_iadd hC dX0_rows_27) ?_
    refine dg_l (fun _ _ _ _ _ _ _ hC => r_istore_n (lv' := [(1, .int (x1 + v8)), (0, dj_v E x0), (2, .int x2)]) hC dX0_rows_28 rfl (Nat.le_of_ble_eq_true rfl) (by simp only [List.filter, dj_cat] <;> rfl)) ?_
    refine dg_l (fun _ _ _ _ _ _ _ hC => r_iinc (lv' := [(2, .int (x2 + 1)), (1, .int (x1 + v8)), (0, dj_v E x0)]) hC dX0_rows_29 (j := 2) rfl (congrArg _ ki_1) (Nat.le_of_ble_eq_true rfl) rfl) ?_
    refine dg_l (fun _ _ _ _ _ _ _ hC => r_goto hC dX0_rows_32 (tgt := 4) (by decide)) ?_
    exact g_sub [2, 1, 0] rfl (hk4 x0 (x1 + v8) (x2 + 1) hf)
def gG_X0_rows_L4 (G : dg_G) : Nat → Nat → Int32 → Int32 → Option Int32
  | 0 => fun _ _ _ => none
  | n + 1 => gG_X0_rows_L4_F (gG_X0_rows_L4 G n) G
theorem wG_X0_rows_L4 {l : Launch} {E : dj_E} {Mo : Option dm_M} {r : Int32} (G : dg_G) : ∀ (n : Nat) (x0 : Nat) (x1 : Int32) (x2 : Int32) (_ : gG_X0_rows_L4 G n x0 x1 x2 = some r), dgW tG_X0_rows l E Mo G (.inr (some (.int r))) G 4 [(0, dj_v E x0), (1, .int x1), (2, .int x2)] [] := by
  intro n
  induction n with
  | zero => intro x0 x1 x2 hf; exact dh_no hf
  | succ n ih => intro x0 x1 x2 hf; exact wG_X0_rows_L4_F G (gG_X0_rows_L4 G n) ih x0 x1 x2 hf
def gG_X0_rows (G : dg_G) (x0 : Nat) : Option Int32 :=
  gG_X0_rows_L4 G dh_fu x0 0 0
theorem wG_X0_rows {l : Launch} {E : dj_E} {Mo : Option dm_M} {r : Int32} (G : dg_G) (x0 : Nat) (hf : gG_X0_rows G x0 = some r) : dgW tG_X0_rows l E Mo G (.inr (some (.int r))) G 0 [(0, dj_v E x0)] [] := by
  unfold gG_X0_rows at hf
  refine dg_l (fun _ _ _ _ _ _ _ hC => r_iconst hC dX0_rows_0 ki_0) ?_
  refine dg_l (fun _ _ _ _ _ _ _ hC => r_istore_n (lv' := [(1, .int 0), (0, dj_v E x0)]) hC dX0_rows_1 rfl (Nat.le_of_ble_eq_true rfl) (by simp only [List.filter, dj_cat] <;> rfl)) ?_
  refine dg_l (fun _ _ _ _ _ _ _ hC => r_iconst hC dX0_rows_2 ki_0) ?_
  refine dg_l (fun _ _ _ _ _ _ _ hC => r_istore_n (lv' := [(2, .int 0), (1, .int 0), (0, dj_v E x0)]) hC dX0_rows_3 rfl (Nat.le_of_ble_eq_true rfl) rfl) ?_
  exact g_sub [2, 1, 0] rfl (wG_X0_rows_L4 G dh_fu x0 0 0 hf)
theorem cG_X0_rows (l : Launch) (E : dj_E) (Mo : Option dm_M) (G : dg_G) (x0 : Nat) {r : Int32} (h : gG_X0_rows G x0 = some r) : dg_Met l yX0_rows cX0_rows 3 (some .int) 4 85 E Mo [dj_v E x0] G (some (.int r)) G :=
  dg_met (plainFor_of_name (by decide)) (by simp only [lg_sl_ref, lg_sl_int, lg_sl_long, lg_sl_nil]; decide) (by simp only [lv_args_ref, lv_args_int, lv_args_long, lv_args_nil]) (wG_X0_rows G x0 h)
theorem qG_X0_rows : dg_cV "DebtorsHouse" yX0_rows cX0_rows 3 (some .int) 0 := ⟨q1302, Or.inl qs35, q81, q1303, by decide, by decide, by decide +kernel⟩
/-! DebtorsHouse.book(II)I -/
abbrev tG_X0_book : dg_T := (cX0_book, 3, RX0, (some .int), 5, 107, "book", [])
def gG_X0_book (G : dg_G) (x0 : Nat) (x1 : Int32) (x2 : Int32) : Option (Int32 × dg_G) :=
  (dg_is G 1 x0).bind fun u1 =>
  (gG_X0_isPerson G x0 x1).bind fun p2 =>
  if p2 = 0 then (
    some ((-1), G))
  else
  if x2 = 0 then (
    some ((-1), G))
  else
  (gG_X0_isIn G x2 (-100000) 100000).bind fun p5 =>
  if p5 = 0 then (
    some ((-1), G))
  else
  (dg_is G 1 x0).bind fun u7 =>
  (gG_X0_rows G x0).bind fun p8 =>
  if p8 = 60 then (
    some ((-1), G))
  else
  (dg_is G 1 x0).bind fun u10 =>
  (gG_X0_at G x0 x1).bind fun p11 =>
  (dg_is G 3 p11).bind fun u12 =>
  (gG_X3_writes G p11 x2).bind fun p13 =>
  (dg_is p13 1 x0).bind fun u14 =>
  (gG_X0_at p13 x0 x1).bind fun p15 =>
  (dg_gI p13 3 12 p15).bind fun v16 =>
  some (-v16, p13)
theorem wG_X0_book {l : Launch} {E : dj_E} {Mo : Option dm_M} {r : Int32} {G' : dg_G} (G : dg_G) (x0 : Nat) (x1 : Int32) (x2 : Int32) (hf : gG_X0_book G x0 x1 x2 = some (r, G')) : dgW tG_X0_book l E Mo G' (.inr (some (.int r))) G 0 [(0, dj_v E x0), (1, .int x1), (2, .int x2)] [] := by
  unfold gG_X0_book at hf
  refine g_aload_n dX0_book_0 rfl (j := 0) rfl ?_
  refine dg_l (fun _ _ _ _ _ _ _ hC => r_iload_n hC dX0_book_1 rfl (j := 1) rfl) ?_
  obtain ⟨u1, h1, hf⟩ := dh_bd hf
  obtain ⟨p2, h2, hf⟩ := dh_bd hf
  refine g_callV (rc_O (ci := 1) rfl h1) (cG_X0_isPerson _ E Mo G x0 x1 h2) q402 qG_X0_isPerson (Nat.le_of_ble_eq_true rfl) (Nat.le_of_ble_eq_true rfl) rfl (dj_cat8 (Nat.le_of_ble_eq_true rfl)) dX0_book_2 ?_
  refine dg_b (fun _ _ _ _ _ _ _ hC => r_if_eq hC dX0_book_5 (tgt := 33) (by decide)) (fun c3 => ?_) (fun c3 => ?_)
  · have hf := dh_if hf c3
    refine dg_l (fun _ _ _ _ _ _ _ hC => r_iconst hC dX0_book_33 ki_m1) ?_
    exact g_iret dX0_book_34 rfl hf
  · have hf := dh_el hf c3
    refine dg_l (fun _ _ _ _ _ _ _ hC => r_iload_n hC dX0_book_8 rfl (j := 2) rfl) ?_
    refine dg_b (fun _ _ _ _ _ _ _ hC => r_if_eq hC dX0_book_9 (tgt := 33) (by decide)) (fun c4 => ?_) (fun c4 => ?_)
    · have hf := dh_if hf c4
      refine dg_l (fun _ _ _ _ _ _ _ hC => r_iconst hC dX0_book_33 ki_m1) ?_
      exact g_iret dX0_book_34 rfl hf
    · have hf := dh_el hf c4
      refine dg_l (fun _ _ _ _ _ _ _ hC => r_iload_n hC dX0_book_12 rfl (j := 2) rfl) ?_
      refine dg_l (fun _ _ _ _ _ _ _ hC => r_ldcw hC q1299 dX0_book_13) ?_
      refine dg_l (fun _ _ _ _ _ _ _ hC => r_ldc hC q406 dX0_book_16) ?_
      obtain ⟨p5, h5, hf⟩ := dh_bd hf
      refine g_callS (cG_X0_isIn _ E Mo G x2 (-100000) 100000 h5) q261 qG_X0_isIn (Nat.le_of_ble_eq_true rfl) (Nat.le_of_ble_eq_true rfl) rfl (dj_cat8 (Nat.le_of_ble_eq_true rfl)) dX0_book_18 ?_
      refine dg_b (fun _ _ _ _ _ _ _ hC => r_if_eq hC dX0_book_21 (tgt := 33) (by decide)) (fun c6 => ?_) (fun c6 => ?_)
      · have hf := dh_if hf c6
        refine dg_l (fun _ _ _ _ _ _ _ hC => r_iconst hC dX0_book_33 ki_m1) ?_
        exact g_iret dX0_book_34 rfl hf
      · have hf := dh_el hf c6
        refine g_aload_n dX0_book_24 rfl (j := 0) rfl ?_
        obtain ⟨u7, h7, hf⟩ := dh_bd hf
        obtain ⟨p8, h8, hf⟩ := dh_bd hf
        refine g_callV (rc_O (ci := 1) rfl h7) (cG_X0_rows _ E Mo G x0 h8) q1300 qG_X0_rows (Nat.le_of_ble_eq_true rfl) (Nat.le_of_ble_eq_true rfl) rfl (dj_cat8 (Nat.le_of_ble_eq_true rfl)) dX0_book_25 ?_
        refine dg_l (fun _ _ _ _ _ _ _ hC => r_bipush hC dX0_book_28 kb_60) ?_
        refine dg_bn (fun _ _ _ _ _ _ _ hC => r_icmp_ne hC dX0_book_30 (tgt := 35) (by decide)) (fun c9 => ?_) (fun c9 => ?_)
        · have hf := dh_el hf c9
          refine g_aload_n dX0_book_35 rfl (j := 0) rfl ?_
          refine dg_l (fun _ _ _ _ _ _ _ hC => r_iload_n hC dX0_book_36 rfl (j := 1) rfl) ?_
          obtain ⟨u10, h10, hf⟩ := dh_bd hf
          obtain ⟨p11, h11, hf⟩ := dh_bd hf
          refine g_callV (rc_O (ci := 1) rfl h10) (cG_X0_at _ E Mo G x0 x1 h11) q525 qG_X0_at (Nat.le_of_ble_eq_true rfl) (Nat.le_of_ble_eq_true rfl) rfl (dj_cat8 (Nat.le_of_ble_eq_true rfl)) dX0_book_37 ?_
          refine dg_l (fun _ _ _ _ _ _ _ hC => r_iload_n hC dX0_book_40 rfl (j := 2) rfl) ?_
          obtain ⟨u12, h12, hf⟩ := dh_bd hf
          obtain ⟨p13, h13, hf⟩ := dh_bd hf
          refine g_callV (rc_O (ci := 3) rfl h12) (cG_X3_writes _ E Mo G p11 x2 h13) q1304 qG_X3_writes (Nat.le_of_ble_eq_true rfl) (Nat.le_of_ble_eq_true rfl) rfl (dj_cat8 (Nat.le_of_ble_eq_true rfl)) dX0_book_41 ?_
          refine g_aload_n dX0_book_44 rfl (j := 0) rfl ?_
          refine dg_l (fun _ _ _ _ _ _ _ hC => r_iload_n hC dX0_book_45 rfl (j := 1) rfl) ?_
          obtain ⟨u14, h14, hf⟩ := dh_bd hf
          obtain ⟨p15, h15, hf⟩ := dh_bd hf
          refine g_callV (rc_O (ci := 1) rfl h14) (cG_X0_at _ E Mo p13 x0 x1 h15) q525 qG_X0_at (Nat.le_of_ble_eq_true rfl) (Nat.le_of_ble_eq_true rfl) rfl (dj_cat8 (Nat.le_of_ble_eq_true rfl)) dX0_book_46 ?_
          obtain ⟨v16, h16, hf⟩ := dh_bd hf
          refine g_getI fR_X0_371 (by decide) h16 dX0_book_49 ?_
          refine dg_l (fun _ _ _ _ _ _ _ hC => r_ineg hC dX0_book_52) ?_
          exact g_iret dX0_book_53 rfl hf
        · have hf := dh_if hf c9
          refine dg_l (fun _ _ _ _ _ _ _ hC => r_iconst hC dX0_book_33 ki_m1) ?_
          exact g_iret dX0_book_34 rfl hf
theorem cG_X0_book (l : Launch) (E : dj_E) (Mo : Option dm_M) (G : dg_G) (x0 : Nat) (x1 : Int32) (x2 : Int32) {p : Int32 × dg_G} (h : gG_X0_book G x0 x1 x2 = some p) : dg_Met l yX0_book cX0_book 3 (some .int) 5 107 E Mo [dj_v E x0, .int x1, .int x2] G (some (.int p.1)) p.2 :=
  dg_met (plainFor_of_name (by decide)) (by simp only [lg_sl_ref, lg_sl_int, lg_sl_long, lg_sl_nil]; decide) (by simp only [lv_args_ref, lv_args_int, lv_args_long, lv_args_nil]) (wG_X0_book G x0 x1 x2 h)
theorem qG_X0_book : dg_cV "DebtorsHouse" yX0_book cX0_book 3 (some .int) 2 := ⟨q1296, Or.inl q1297, q81, q1298, by decide, by decide, by decide +kernel⟩
/-! DebtorsHouse.dueTo(II)I -/
abbrev tG_X0_dueTo : dg_T := (cX0_dueTo, 5, RX0, (some .int), 5, 106, "dueTo", [])
def gG_X0_dueTo_L5_F (k5 : (Nat → Int32 → Int32 → Int32 → Int32 → Option Int32)) (G : dg_G) (x0 : Nat) (x1 : Int32) (x2 : Int32) (x3 : Int32) (x4 : Int32) : Option Int32 :=
  (dg_gR G 1 0 x0).bind fun v1 =>
  (dg_gR G 2 9 v1).bind fun v2 =>
  (dg_is G 10 v2).bind fun u3 =>
  (gG_J2_size G v2).bind fun p4 =>
  if p4 ≤ x4 then (
    some x3)
  else
  (dg_is G 1 x0).bind fun u6 =>
  (gG_X0_debtAt G x0 x4).bind fun p7 =>
  (dg_gI G 4 1 p7).bind fun v8 =>
  if v8 = x1 then (
    (dg_is G 1 x0).bind fun u10 =>
    (gG_X0_debtAt G x0 x4).bind fun p11 =>
    (dg_gI G 4 7 p11).bind fun v12 =>
    if v12 = x2 then (
      (dg_is G 1 x0).bind fun u14 =>
      (gG_X0_due G x0 x4).bind fun p15 =>
      k5 x0 x1 x2 (x3 + p15) (x4 + 1))
    else
    k5 x0 x1 x2 (x3 + 0) (x4 + 1))
  else
  k5 x0 x1 x2 (x3 + 0) (x4 + 1)
theorem wG_X0_dueTo_L5_F {l : Launch} {E : dj_E} {Mo : Option dm_M} {r : Int32} (G : dg_G) (k5 : (Nat → Int32 → Int32 → Int32 → Int32 → Option Int32)) (hk5 : ∀ (x0 : Nat) (x1 : Int32) (x2 : Int32) (x3 : Int32) (x4 : Int32), k5 x0 x1 x2 x3 x4 = some r → dgW tG_X0_dueTo l E Mo G (.inr (some (.int r))) G 5 [(0, dj_v E x0), (1, .int x1), (2, .int x2), (3, .int x3), (4, .int x4)] []) (x0 : Nat) (x1 : Int32) (x2 : Int32) (x3 : Int32) (x4 : Int32) (hf : gG_X0_dueTo_L5_F k5 G x0 x1 x2 x3 x4 = some r) : dgW tG_X0_dueTo l E Mo G (.inr (some (.int r))) G 5 [(0, dj_v E x0), (1, .int x1), (2, .int x2), (3, .int x3), (4, .int x4)] [] := by
  unfold gG_X0_dueTo_L5_F at hf
  refine dg_l (fun _ _ _ _ _ _ _ hC => r_iload hC dX0_dueTo_5 (j := 4) rfl) ?_
  refine g_aload_n dX0_dueTo_7 rfl (j := 0) rfl ?_
  obtain ⟨v1, h1, hf⟩ := dh_bd hf
  refine g_getR fR_X0_10 (by decide) h1 dX0_dueTo_8 ?_
  obtain ⟨v2, h2, hf⟩ := dh_bd hf
  refine g_getR fR_X0_63 (by decide) h2 dX0_dueTo_11 ?_
  obtain ⟨u3, h3, hf⟩ := dh_bd hf
  obtain ⟨p4, h4, hf⟩ := dh_bd hf
  refine g_callV (rc_O (ci := 10) rfl h3) (cG_J2_size _ E Mo G v2 h4) q256 qG_J2_size (Nat.le_of_ble_eq_true rfl) (Nat.le_of_ble_eq_true rfl) rfl (dj_cat8 (Nat.le_of_ble_eq_true rfl)) dX0_dueTo_14 ?_
  refine dg_b (fun _ _ _ _ _ _ _ hC => r_icmp_ge hC dX0_dueTo_17 (tgt := 65) (by decide)) (fun c5 => ?_) (fun c5 => ?_)
  · have hf := dh_if hf c5
    refine dg_l (fun _ _ _ _ _ _ _ hC => r_iload_n hC dX0_dueTo_65 rfl (j := 3) rfl) ?_
    exact g_iret1 dX0_dueTo_66 rfl hf
  · have hf := dh_el hf c5
    refine dg_l (fun _ _ _ _ _ _ _ hC => r_iload_n hC dX0_dueTo_20 rfl (j := 3) rfl) ?_
    refine g_aload_n dX0_dueTo_21 rfl (j := 0) rfl ?_
    refine dg_l (fun _ _ _ _ _ _ _ hC => r_iload hC dX0_dueTo_22 (j := 4) rfl) ?_
    obtain ⟨u6, h6, hf⟩ := dh_bd hf
    obtain ⟨p7, h7, hf⟩ := dh_bd hf
    refine g_callV (rc_O (ci := 1) rfl h6) (cG_X0_debtAt _ E Mo G x0 x4 h7) q485 qG_X0_debtAt (Nat.le_of_ble_eq_true rfl) (Nat.le_of_ble_eq_true rfl) rfl (dj_cat8 (Nat.le_of_ble_eq_true rfl)) dX0_dueTo_24 ?_
    obtain ⟨v8, h8, hf⟩ := dh_bd hf
    refine g_getI fR_X0_128 (by decide) h8 dX0_dueTo_27 ?_
    refine dg_l (fun _ _ _ _ _ _ _ hC => r_iload_n hC dX0_dueTo_30 rfl (j := 1) rfl) ?_
    refine dg_bn (fun _ _ _ _ _ _ _ hC => r_icmp_ne hC dX0_dueTo_31 (tgt := 56) (by decide)) (fun c9 => ?_) (fun c9 => ?_)
    · have hf := dh_el hf c9
      refine dg_l (fun _ _ _ _ _ _ _ hC => r_iconst hC dX0_dueTo_56 ki_0) ?_
      refine dg_l (fun _ _ _ _ _ _ _ hC => r_iadd hC dX0_dueTo_57) ?_
      refine dg_l (fun _ _ _ _ _ _ _ hC => r_istore_n (lv' := [(3, .int (x3 + 0)), (0, dj_v E x0), (1, .int x1), (2, .int x2), (4, .int x4)]) hC dX0_dueTo_58 rfl (Nat.le_of_ble_eq_true rfl) rfl) ?_
      refine dg_l (fun _ _ _ _ _ _ _ hC => r_iinc (lv' := [(4, .int (x4 + 1)), (3, .int (x3 + 0)), (0, dj_v E x0), (1, .int x1), (2, .int x2)]) hC dX0_dueTo_59 (j := 4) rfl (congrArg _ ki_1) (Nat.le_of_ble_eq_true rfl) rfl) ?_
      refine dg_l (fun _ _ _ _ _ _ _ hC => r_goto hC dX0_dueTo_62 (tgt := 5) (by decide)) ?_
      exact g_sub [2, 3, 4, 1, 0] rfl (hk5 x0 x1 x2 (x3 + 0) (x4 + 1) hf)
    · have hf := dh_if hf c9
      refine g_aload_n dX0_dueTo_34 rfl (j := 0) rfl ?_
      refine dg_l (fun _ _ _ _ _ _ _ hC => r_iload hC dX0_dueTo_35 (j := 4) rfl) ?_
      obtain ⟨u10, h10, hf⟩ := dh_bd hf
      obtain ⟨p11, h11, hf⟩ := dh_bd hf
      refine g_callV (rc_O (ci := 1) rfl h10) (cG_X0_debtAt _ E Mo G x0 x4 h11) q485 qG_X0_debtAt (Nat.le_of_ble_eq_true rfl) (Nat.le_of_ble_eq_true rfl) rfl (dj_cat8 (Nat.le_of_ble_eq_true rfl)) dX0_dueTo_37 ?_
      obtain ⟨v12, h12, hf⟩ := dh_bd hf
      refine g_getI fR_X0_131 (by decide) h12 dX0_dueTo_40 ?_
      refine dg_l (fun _ _ _ _ _ _ _ hC => r_iload_n hC dX0_dueTo_43 rfl (j := 2) rfl) ?_
      refine dg_bn (fun _ _ _ _ _ _ _ hC => r_icmp_ne hC dX0_dueTo_44 (tgt := 56) (by decide)) (fun c13 => ?_) (fun c13 => ?_)
      · have hf := dh_el hf c13
        refine dg_l (fun _ _ _ _ _ _ _ hC => r_iconst hC dX0_dueTo_56 ki_0) ?_
        refine dg_l (fun _ _ _ _ _ _ _ hC => r_iadd hC dX0_dueTo_57) ?_
        refine dg_l (fun _ _ _ _ _ _ _ hC => r_istore_n (lv' := [(3, .int (x3 + 0)), (0, dj_v E x0), (1, .int x1), (2, .int x2), (4, .int x4)]) hC dX0_dueTo_58 rfl (Nat.le_of_ble_eq_true rfl) rfl) ?_
        refine dg_l (fun _ _ _ _ _ _ _ hC => r_iinc (lv' := [(4, .int (x4 + 1)), (3, .int (x3 + 0)), (0, dj_v E x0), (1, .int x1), (2, .int x2)]) hC dX0_dueTo_59 (j := 4) rfl (congrArg _ ki_1) (Nat.le_of_ble_eq_true rfl) rfl) ?_
        refine dg_l (fun _ _ _ _ _ _ _ hC => r_goto hC dX0_dueTo_62 (tgt := 5) (by decide)) ?_
        exact g_sub [2, 3, 4, 1, 0] rfl (hk5 x0 x1 x2 (x3 + 0) (x4 + 1) hf)
      · have hf := dh_if hf c13
        refine g_aload_n dX0_dueTo_47 rfl (j := 0) rfl ?_
        refine dg_l (fun _ _ _ _ _ _ _ hC => r_iload hC dX0_dueTo_48 (j := 4) rfl) ?_
        obtain ⟨u14, h14, hf⟩ := dh_bd hf
        obtain ⟨p15, h15, hf⟩ := dh_bd hf
        refine g_callV (rc_O (ci := 1) rfl h14) (cG_X0_due _ E Mo G x0 x4 h15) q507 qG_X0_due (Nat.le_of_ble_eq_true rfl) (Nat.le_of_ble_eq_true rfl) rfl (dj_cat8 (Nat.le_of_ble_eq_true rfl)) dX0_dueTo_50 ?_
        refine dg_l (fun _ _ _ _ _ _ _ hC => r_goto hC dX0_dueTo_53 (tgt := 57) (by decide)) ?_
        refine dg_l (fun _ _ _ _ _ _ _ hC => r_iadd hC dX0_dueTo_57) ?_
        refine dg_l (fun _ _ _ _ _ _ _ hC => r_istore_n (lv' := [(3, .int (x3 + p15)), (0, dj_v E x0), (1, .int x1), (2, .int x2), (4, .int x4)]) hC dX0_dueTo_58 rfl (Nat.le_of_ble_eq_true rfl) rfl) ?_
        refine dg_l (fun _ _ _ _ _ _ _ hC => r_iinc (lv' := [(4, .int (x4 + 1)), (3, .int (x3 + p15)), (0, dj_v E x0), (1, .int x1), (2, .int x2)]) hC dX0_dueTo_59 (j := 4) rfl (congrArg _ ki_1) (Nat.le_of_ble_eq_true rfl) rfl) ?_
        refine dg_l (fun _ _ _ _ _ _ _ hC => r_goto hC dX0_dueTo_62 (tgt := 5) (by decide)) ?_
        exact g_sub [2, 3, 4, 1, 0] rfl (hk5 x0 x1 x2 (x3 + p15) (x4 + 1) hf)
def gG_X0_dueTo_L5 (G : dg_G) : Nat → Nat → Int32 → Int32 → Int32 → Int32 → Option Int32
  | 0 => fun _ _ _ _ _ => none
  | n + 1 => gG_X0_dueTo_L5_F (gG_X0_dueTo_L5 G n) G
theorem wG_X0_dueTo_L5 {l : Launch} {E : dj_E} {Mo : Option dm_M} {r : Int32} (G : dg_G) : ∀ (n : Nat) (x0 : Nat) (x1 : Int32) (x2 : Int32) (x3 : Int32) (x4 : Int32) (_ : gG_X0_dueTo_L5 G n x0 x1 x2 x3 x4 = some r), dgW tG_X0_dueTo l E Mo G (.inr (some (.int r))) G 5 [(0, dj_v E x0), (1, .int x1), (2, .int x2), (3, .int x3), (4, .int x4)] [] := by
  intro n
  induction n with
  | zero => intro x0 x1 x2 x3 x4 hf; exact dh_no hf
  | succ n ih => intro x0 x1 x2 x3 x4 hf; exact wG_X0_dueTo_L5_F G (gG_X0_dueTo_L5 G n) ih x0 x1 x2 x3 x4 hf
def gG_X0_dueTo (G : dg_G) (x0 : Nat) (x1 : Int32) (x2 : Int32) : Option Int32 :=
  gG_X0_dueTo_L5 G dh_fu x0 x1 x2 0 0
theorem wG_X0_dueTo {l : Launch} {E : dj_E} {Mo : Option dm_M} {r : Int32} (G : dg_G) (x0 : Nat) (x1 : Int32) (x2 : Int32) (hf : gG_X0_dueTo G x0 x1 x2 = some r) : dgW tG_X0_dueTo l E Mo G (.inr (some (.int r))) G 0 [(0, dj_v E x0), (1, .int x1), (2, .int x2)] [] := by
  unfold gG_X0_dueTo at hf
  refine dg_l (fun _ _ _ _ _ _ _ hC => r_iconst hC dX0_dueTo_0 ki_0) ?_
  refine dg_l (fun _ _ _ _ _ _ _ hC => r_istore_n (lv' := [(3, .int 0), (0, dj_v E x0), (1, .int x1), (2, .int x2)]) hC dX0_dueTo_1 rfl (Nat.le_of_ble_eq_true rfl) rfl) ?_
  refine dg_l (fun _ _ _ _ _ _ _ hC => r_iconst hC dX0_dueTo_2 ki_0) ?_
  refine dg_l (fun _ _ _ _ _ _ _ hC => r_istore (lv' := [(4, .int 0), (3, .int 0), (0, dj_v E x0), (1, .int x1), (2, .int x2)]) hC dX0_dueTo_3 (Nat.le_of_ble_eq_true rfl) rfl) ?_
  exact g_sub [2, 3, 4, 1, 0] rfl (wG_X0_dueTo_L5 G dh_fu x0 x1 x2 0 0 hf)
theorem cG_X0_dueTo (l : Launch) (E : dj_E) (Mo : Option dm_M) (G : dg_G) (x0 : Nat) (x1 : Int32) (x2 : Int32) {r : Int32} (h : gG_X0_dueTo G x0 x1 x2 = some r) : dg_Met l yX0_dueTo cX0_dueTo 5 (some .int) 5 106 E Mo [dj_v E x0, .int x1, .int x2] G (some (.int r)) G :=
  dg_met (plainFor_of_name (by decide)) (by simp only [lg_sl_ref, lg_sl_int, lg_sl_long, lg_sl_nil]; decide) (by simp only [lv_args_ref, lv_args_int, lv_args_long, lv_args_nil]) (wG_X0_dueTo G x0 x1 x2 h)
theorem qG_X0_dueTo : dg_cV "DebtorsHouse" yX0_dueTo cX0_dueTo 5 (some .int) 2 := ⟨q1320, Or.inl qs37, q81, q1321, by decide, by decide, by decide +kernel⟩
