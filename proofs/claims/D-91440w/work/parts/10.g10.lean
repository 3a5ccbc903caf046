set_option maxRecDepth 100000
/-! DebtorsHouse.ring()I -/
abbrev tG_X0_ring : dg_T := (cX0_ring, 5, RX0, (some .int), 5, 110, "ring", [])
def gG_X0_ring_L142_F (k128 : (dg_G → Nat → Int32 → Int32 → Option (Int32 × dg_G))) (k142 : (dg_G → Nat → Int32 → Int32 → Int32 → Option (Int32 × dg_G))) (G : dg_G) (x0 : Nat) (x1 : Int32) (x3 : Int32) (x4 : Int32) : Option (Int32 × dg_G) :=
  (dg_is G 1 x0).bind fun u24 =>
  (gG_X0_debtAt G x0 x4).bind fun p25 =>
  (dg_is G 4 p25).bind fun u26 =>
  (gG_X4_isLive G p25).bind fun p27 =>
  if p27 = 0 then (
    k142 G x0 x1 x3 (x4 + 1))
  else
  (dg_is G 1 x0).bind fun u29 =>
  (gG_X0_debtAt G x0 x4).bind fun p30 =>
  (dg_gI G 4 1 p30).bind fun v31 =>
  if v31 = x3 then (
    (dg_gR G 1 3 x0).bind fun v33 =>
    (dg_is G 1 x0).bind fun u34 =>
    (gG_X0_debtAt G x0 x4).bind fun p35 =>
    (dg_gI G 4 7 p35).bind fun v36 =>
    (dg_ld G 50 v33 v36).bind fun v37 =>
    (dg_gR G 1 3 x0).bind fun v38 =>
    (dg_ld G 50 v38 x3).bind fun v39 =>
    if ¬ (v37 = (v39 - 1)) then (
      k142 G x0 x1 x3 (x4 + 1))
    else
    (dg_gR G 1 0 x0).bind fun v41 =>
    (dg_gR G 2 12 v41).bind fun v42 =>
    (dg_gR G 1 0 x0).bind fun v43 =>
    (dg_gI G 2 7 v43).bind fun v44 =>
    (dg_st G 50 v42 v44 x4).bind fun G45 =>
    (dg_gR G45 1 0 x0).bind fun v46 =>
    (dg_gI G45 2 7 v46).bind fun v47 =>
    (dg_pI G45 2 7 v46 (v47 + 1)).bind fun G48 =>
    (dg_gR G48 1 0 x0).bind fun v49 =>
    (dg_gR G48 2 12 v49).bind fun v50 =>
    (dg_gR G48 1 0 x0).bind fun v51 =>
    (dg_gI G48 2 7 v51).bind fun v52 =>
    (dg_ld G48 50 v50 (v52 - 1)).bind fun v53 =>
    (dg_is G48 1 x0).bind fun u54 =>
    (gG_X0_debtAt G48 x0 v53).bind fun p55 =>
    (dg_gI G48 4 7 p55).bind fun v56 =>
    k128 G48 x0 x1 v56)
  else
  k142 G x0 x1 x3 (x4 + 1)
theorem wG_X0_ring_L142_F {l : Launch} {E : dj_E} {Mo : Option dm_M} {r : Int32} {G' : dg_G} (k128 : (dg_G → Nat → Int32 → Int32 → Option (Int32 × dg_G))) (hk128 : ∀ (G : dg_G) (x0 : Nat) (x1 : Int32) (x3 : Int32), k128 G x0 x1 x3 = some (r, G') → dgW tG_X0_ring l E Mo G' (.inr (some (.int r))) G 128 [(0, dj_v E x0), (1, .int x1), (3, .int x3)] []) (k142 : (dg_G → Nat → Int32 → Int32 → Int32 → Option (Int32 × dg_G))) (hk142 : ∀ (G : dg_G) (x0 : Nat) (x1 : Int32) (x3 : Int32) (x4 : Int32), k142 G x0 x1 x3 x4 = some (r, G') → dgW tG_X0_ring l E Mo G' (.inr (some (.int r))) G 142 [(0, dj_v E x0), (1, .int x1), (3, .int x3), (4, .int x4)] []) (G : dg_G) (x0 : Nat) (x1 : Int32) (x3 : Int32) (x4 : Int32) (hf : gG_X0_ring_L142_F k128 k142 G x0 x1 x3 x4 = some (r, G')) : dgW tG_X0_ring l E Mo G' (.inr (some (.int r))) G 142 [(0, dj_v E x0), (1, .int x1), (3, .int x3), (4, .int x4)] [] := by
  unfold gG_X0_ring_L142_F at hf
  refine g_aload_n dX0_ring_142 rfl (j := 0) rfl ?_
  refine dg_l (fun _ _ _ _ _ _ _ hC => r_iload hC dX0_ring_143 (j := 3) rfl) ?_
  obtain ⟨u24, h24, hf⟩ := dh_bd hf
  obtain ⟨p25, h25, hf⟩ := dh_bd hf
  refine g_callV (rc_O (ci := 1) rfl h24) (cG_X0_debtAt _ E Mo G x0 x4 h25) q485 qG_X0_debtAt (Nat.le_of_ble_eq_true rfl) (Nat.le_of_ble_eq_true rfl) rfl (dj_cat8 (Nat.le_of_ble_eq_true rfl)) dX0_ring_145 ?_
  obtain ⟨u26, h26, hf⟩ := dh_bd hf
  obtain ⟨p27, h27, hf⟩ := dh_bd hf
  refine g_callV (rc_O (ci := 4) rfl h26) (cG_X4_isLive _ E Mo G p25 h27) q503 qG_X4_isLive (Nat.le_of_ble_eq_true rfl) (Nat.le_of_ble_eq_true rfl) rfl (dj_cat8 (Nat.le_of_ble_eq_true rfl)) dX0_ring_148 ?_
  refine dg_b (fun _ _ _ _ _ _ _ hC => r_if_eq hC dX0_ring_151 (tgt := 192) (by decide)) (fun c28 => ?_) (fun c28 => ?_)
  · have hf := dh_if hf c28
    refine dg_l (fun _ _ _ _ _ _ _ hC => r_iinc (lv' := [(4, .int (x4 + 1)), (0, dj_v E x0), (1, .int x1), (3, .int x3)]) hC dX0_ring_192 (j := 3) rfl (congrArg _ ki_1) (Nat.le_of_ble_eq_true rfl) rfl) ?_
    refine dg_l (fun _ _ _ _ _ _ _ hC => r_goto hC dX0_ring_195 (tgt := 142) (by decide)) ?_
    exact g_sub [1, 2, 3, 0] rfl (hk142 G x0 x1 x3 (x4 + 1) hf)
  · have hf := dh_el hf c28
    refine g_aload_n dX0_ring_154 rfl (j := 0) rfl ?_
    refine dg_l (fun _ _ _ _ _ _ _ hC => r_iload hC dX0_ring_155 (j := 3) rfl) ?_
    obtain ⟨u29, h29, hf⟩ := dh_bd hf
    obtain ⟨p30, h30, hf⟩ := dh_bd hf
    refine g_callV (rc_O (ci := 1) rfl h29) (cG_X0_debtAt _ E Mo G x0 x4 h30) q485 qG_X0_debtAt (Nat.le_of_ble_eq_true rfl) (Nat.le_of_ble_eq_true rfl) rfl (dj_cat8 (Nat.le_of_ble_eq_true rfl)) dX0_ring_157 ?_
    obtain ⟨v31, h31, hf⟩ := dh_bd hf
    refine g_getI fR_X0_128 (by decide) h31 dX0_ring_160 ?_
    refine dg_l (fun _ _ _ _ _ _ _ hC => r_iload_n hC dX0_ring_163 rfl (j := 2) rfl) ?_
    refine dg_bn (fun _ _ _ _ _ _ _ hC => r_icmp_ne hC dX0_ring_164 (tgt := 192) (by decide)) (fun c32 => ?_) (fun c32 => ?_)
    · have hf := dh_el hf c32
      refine dg_l (fun _ _ _ _ _ _ _ hC => r_iinc (lv' := [(4, .int (x4 + 1)), (0, dj_v E x0), (1, .int x1), (3, .int x3)]) hC dX0_ring_192 (j := 3) rfl (congrArg _ ki_1) (Nat.le_of_ble_eq_true rfl) rfl) ?_
      refine dg_l (fun _ _ _ _ _ _ _ hC => r_goto hC dX0_ring_195 (tgt := 142) (by decide)) ?_
      exact g_sub [1, 2, 3, 0] rfl (hk142 G x0 x1 x3 (x4 + 1) hf)
    · have hf := dh_if hf c32
      refine g_aload_n dX0_ring_167 rfl (j := 0) rfl ?_
      obtain ⟨v33, h33, hf⟩ := dh_bd hf
      refine g_getR fR_X0_28 (by decide) h33 dX0_ring_168 ?_
      refine g_aload_n dX0_ring_171 rfl (j := 0) rfl ?_
      refine dg_l (fun _ _ _ _ _ _ _ hC => r_iload hC dX0_ring_172 (j := 3) rfl) ?_
      obtain ⟨u34, h34, hf⟩ := dh_bd hf
      obtain ⟨p35, h35, hf⟩ := dh_bd hf
      refine g_callV (rc_O (ci := 1) rfl h34) (cG_X0_debtAt _ E Mo G x0 x4 h35) q485 qG_X0_debtAt (Nat.le_of_ble_eq_true rfl) (Nat.le_of_ble_eq_true rfl) rfl (dj_cat8 (Nat.le_of_ble_eq_true rfl)) dX0_ring_174 ?_
      obtain ⟨v36, h36, hf⟩ := dh_bd hf
      refine g_getI fR_X0_131 (by decide) h36 dX0_ring_177 ?_
      obtain ⟨v37, h37, hf⟩ := dh_bd hf
      refine g_iald h37 dX0_ring_180 ?_
      refine g_aload_n dX0_ring_181 rfl (j := 0) rfl ?_
      obtain ⟨v38, h38, hf⟩ := dh_bd hf
      refine g_getR fR_X0_28 (by decide) h38 dX0_ring_182 ?_
      refine dg_l (fun _ _ _ _ _ _ _ hC => r_iload_n hC dX0_ring_185 rfl (j := 2) rfl) ?_
      obtain ⟨v39, h39, hf⟩ := dh_bd hf
      refine g_iald h39 dX0_ring_186 ?_
      refine dg_l (fun _ _ _ _ _ _ _ hC => r_iconst hC dX0_ring_187 ki_1) ?_
      refine dg_l (fun _ _ _ _ _ _ _ hC => r_isub hC dX0_ring_188) ?_
      refine dg_b (fun _ _ _ _ _ _ _ hC => r_icmp_eq hC dX0_ring_189 (tgt := 198) (by decide)) (fun c40 => ?_) (fun c40 => ?_)
      · have hf := dh_el hf (fun q => q c40)
        refine g_aload_n dX0_ring_198 rfl (j := 0) rfl ?_
        obtain ⟨v41, h41, hf⟩ := dh_bd hf
        refine g_getR fR_X0_10 (by decide) h41 dX0_ring_199 ?_
        obtain ⟨v42, h42, hf⟩ := dh_bd hf
        refine g_getR fR_X0_197 (by decide) h42 dX0_ring_202 ?_
        refine g_aload_n dX0_ring_205 rfl (j := 0) rfl ?_
        obtain ⟨v43, h43, hf⟩ := dh_bd hf
        refine g_getR fR_X0_10 (by decide) h43 dX0_ring_206 ?_
        obtain ⟨v44, h44, hf⟩ := dh_bd hf
        refine g_getI fR_X0_190 (by decide) h44 dX0_ring_209 ?_
        refine dg_l (fun _ _ _ _ _ _ _ hC => r_iload hC dX0_ring_212 (j := 3) rfl) ?_
        obtain ⟨G45, h45, hf⟩ := dh_bd hf
        refine g_iast h45 dX0_ring_214 ?_
        refine g_aload_n dX0_ring_215 rfl (j := 0) rfl ?_
        obtain ⟨v46, h46, hf⟩ := dh_bd hf
        refine g_getR fR_X0_10 (by decide) h46 dX0_ring_216 ?_
        refine g_dup dX0_ring_219 ?_
        obtain ⟨v47, h47, hf⟩ := dh_bd hf
        refine g_getI fR_X0_190 (by decide) h47 dX0_ring_220 ?_
        refine dg_l (fun _ _ _ _ _ _ _ hC => r_iconst hC dX0_ring_223 ki_1) ?_
        refine dg_l (fun _ _ _ _ _ _ _ hC => r_iadd hC dX0_ring_224) ?_
        obtain ⟨G48, h48, hf⟩ := dh_bd hf
        refine g_putI fF_X0_190 (fun q => by cases q) (by decide) h48 dX0_ring_225 ?_
        refine g_aload_n dX0_ring_228 rfl (j := 0) rfl ?_
        refine g_aload_n dX0_ring_229 rfl (j := 0) rfl ?_
        obtain ⟨v49, h49, hf⟩ := dh_bd hf
        refine g_getR fR_X0_10 (by decide) h49 dX0_ring_230 ?_
        obtain ⟨v50, h50, hf⟩ := dh_bd hf
        refine g_getR fR_X0_197 (by decide) h50 dX0_ring_233 ?_
        refine g_aload_n dX0_ring_236 rfl (j := 0) rfl ?_
        obtain ⟨v51, h51, hf⟩ := dh_bd hf
        refine g_getR fR_X0_10 (by decide) h51 dX0_ring_237 ?_
        obtain ⟨v52, h52, hf⟩ := dh_bd hf
        refine g_getI fR_X0_190 (by decide) h52 dX0_ring_240 ?_
        refine dg_l (fun _ _ _ _ _ _ _ hC => r_iconst hC dX0_ring_243 ki_1) ?_
        refine dg_l (fun _ _ _ _ _ _ _ hC => r_isub hC dX0_ring_244) ?_
        obtain ⟨v53, h53, hf⟩ := dh_bd hf
        refine g_iald h53 dX0_ring_245 ?_
        obtain ⟨u54, h54, hf⟩ := dh_bd hf
        obtain ⟨p55, h55, hf⟩ := dh_bd hf
        refine g_callV (rc_O (ci := 1) rfl h54) (cG_X0_debtAt _ E Mo G48 x0 v53 h55) q485 qG_X0_debtAt (Nat.le_of_ble_eq_true rfl) (Nat.le_of_ble_eq_true rfl) rfl (dj_cat8 (Nat.le_of_ble_eq_true rfl)) dX0_ring_246 ?_
        obtain ⟨v56, h56, hf⟩ := dh_bd hf
        refine g_getI fR_X0_131 (by decide) h56 dX0_ring_249 ?_
        refine dg_l (fun _ _ _ _ _ _ _ hC => r_istore_n (lv' := [(3, .int v56), (0, dj_v E x0), (1, .int x1), (4, .int x4)]) hC dX0_ring_252 rfl (Nat.le_of_ble_eq_true rfl) rfl) ?_
        refine dg_l (fun _ _ _ _ _ _ _ hC => r_goto hC dX0_ring_253 (tgt := 128) (by decide)) ?_
        exact g_sub [1, 2, 0] rfl (hk128 G48 x0 x1 v56 hf)
      · have hf := dh_if hf c40
        refine dg_l (fun _ _ _ _ _ _ _ hC => r_iinc (lv' := [(4, .int (x4 + 1)), (0, dj_v E x0), (1, .int x1), (3, .int x3)]) hC dX0_ring_192 (j := 3) rfl (congrArg _ ki_1) (Nat.le_of_ble_eq_true rfl) rfl) ?_
        refine dg_l (fun _ _ _ _ _ _ _ hC => r_goto hC dX0_ring_195 (tgt := 142) (by decide)) ?_
        exact g_sub [1, 2, 3, 0] rfl (hk142 G x0 x1 x3 (x4 + 1) hf)
def gG_X0_ring_L142 (k128 : (dg_G → Nat → Int32 → Int32 → Option (Int32 × dg_G))) : Nat → dg_G → Nat → Int32 → Int32 → Int32 → Option (Int32 × dg_G)
  | 0 => fun _ _ _ _ _ => none
  | n + 1 => gG_X0_ring_L142_F k128 (gG_X0_ring_L142 k128 n)
theorem wG_X0_ring_L142 {l : Launch} {E : dj_E} {Mo : Option dm_M} {r : Int32} {G' : dg_G} (k128 : (dg_G → Nat → Int32 → Int32 → Option (Int32 × dg_G))) (hk128 : ∀ (G : dg_G) (x0 : Nat) (x1 : Int32) (x3 : Int32), k128 G x0 x1 x3 = some (r, G') → dgW tG_X0_ring l E Mo G' (.inr (some (.int r))) G 128 [(0, dj_v E x0), (1, .int x1), (3, .int x3)] []) : ∀ (n : Nat) (G : dg_G) (x0 : Nat) (x1 : Int32) (x3 : Int32) (x4 : Int32) (_ : gG_X0_ring_L142 k128 n G x0 x1 x3 x4 = some (r, G')), dgW tG_X0_ring l E Mo G' (.inr (some (.int r))) G 142 [(0, dj_v E x0), (1, .int x1), (3, .int x3), (4, .int x4)] [] := by
  intro n
  induction n with
  | zero => intro G x0 x1 x3 x4 hf; exact dh_no hf
  | succ n ih => intro G x0 x1 x3 x4 hf; exact wG_X0_ring_L142_F k128 hk128 (gG_X0_ring_L142 k128 n) ih G x0 x1 x3 x4 hf
def gG_X0_ring_L128_F (k128 : (dg_G → Nat → Int32 → Int32 → Option (Int32 × dg_G))) (G : dg_G) (x0 : Nat) (x1 : Int32) (x3 : Int32) : Option (Int32 × dg_G) :=
  (dg_gR G 1 3 x0).bind fun v19 =>
  (dg_ld G 50 v19 x3).bind fun v20 =>
  if ¬ (v20 ≤ 0) then (
    gG_X0_ring_L142 k128 dh_fu G x0 x1 x3 (x1 + 1))
  else
  (dg_gR G 1 0 x0).bind fun v22 =>
  (dg_gI G 2 7 v22).bind fun v23 =>
  some (v23, G)
theorem wG_X0_ring_L128_F {l : Launch} {E : dj_E} {Mo : Option dm_M} {r : Int32} {G' : dg_G} (k128 : (dg_G → Nat → Int32 → Int32 → Option (Int32 × dg_G))) (hk128 : ∀ (G : dg_G) (x0 : Nat) (x1 : Int32) (x3 : Int32), k128 G x0 x1 x3 = some (r, G') → dgW tG_X0_ring l E Mo G' (.inr (some (.int r))) G 128 [(0, dj_v E x0), (1, .int x1), (3, .int x3)] []) (G : dg_G) (x0 : Nat) (x1 : Int32) (x3 : Int32) (hf : gG_X0_ring_L128_F k128 G x0 x1 x3 = some (r, G')) : dgW tG_X0_ring l E Mo G' (.inr (some (.int r))) G 128 [(0, dj_v E x0), (1, .int x1), (3, .int x3)] [] := by
  unfold gG_X0_ring_L128_F at hf
  refine g_aload_n dX0_ring_128 rfl (j := 0) rfl ?_
  obtain ⟨v19, h19, hf⟩ := dh_bd hf
  refine g_getR fR_X0_28 (by decide) h19 dX0_ring_129 ?_
  refine dg_l (fun _ _ _ _ _ _ _ hC => r_iload_n hC dX0_ring_132 rfl (j := 2) rfl) ?_
  obtain ⟨v20, h20, hf⟩ := dh_bd hf
  refine g_iald h20 dX0_ring_133 ?_
  refine dg_b (fun _ _ _ _ _ _ _ hC => r_if_le hC dX0_ring_134 (tgt := 256) (by decide)) (fun c21 => ?_) (fun c21 => ?_)
  · have hf := dh_el hf (fun q => q c21)
    refine g_aload_n dX0_ring_256 rfl (j := 0) rfl ?_
    obtain ⟨v22, h22, hf⟩ := dh_bd hf
    refine g_getR fR_X0_10 (by decide) h22 dX0_ring_257 ?_
    obtain ⟨v23, h23, hf⟩ := dh_bd hf
    refine g_getI fR_X0_190 (by decide) h23 dX0_ring_260 ?_
    exact g_iret dX0_ring_263 rfl hf
  · have hf := dh_if hf c21
    refine dg_l (fun _ _ _ _ _ _ _ hC => r_iload_n hC dX0_ring_137 rfl (j := 1) rfl) ?_
    refine dg_l (fun _ _ _ _ _ _ _ hC => r_iconst hC dX0_ring_138 ki_1) ?_
    refine dg_l (fun _ _ _ _ _ _ _ hC => r_iadd hC dX0_ring_139) ?_
    refine dg_l (fun _ _ _ _ _ _ _ hC => r_istore (lv' := [(4, .int (x1 + 1)), (0, dj_v E x0), (1, .int x1), (3, .int x3)]) hC dX0_ring_140 (Nat.le_of_ble_eq_true rfl) rfl) ?_
    exact g_sub [1, 2, 3, 0] rfl (wG_X0_ring_L142 k128 hk128 dh_fu G x0 x1 x3 (x1 + 1) hf)
def gG_X0_ring_L128 : Nat → dg_G → Nat → Int32 → Int32 → Option (Int32 × dg_G)
  | 0 => fun _ _ _ _ => none
  | n + 1 => gG_X0_ring_L128_F (gG_X0_ring_L128 n)
theorem wG_X0_ring_L128 {l : Launch} {E : dj_E} {Mo : Option dm_M} {r : Int32} {G' : dg_G} : ∀ (n : Nat) (G : dg_G) (x0 : Nat) (x1 : Int32) (x3 : Int32) (_ : gG_X0_ring_L128 n G x0 x1 x3 = some (r, G')), dgW tG_X0_ring l E Mo G' (.inr (some (.int r))) G 128 [(0, dj_v E x0), (1, .int x1), (3, .int x3)] [] := by
  intro n
  induction n with
  | zero => intro G x0 x1 x3 hf; exact dh_no hf
  | succ n ih => intro G x0 x1 x3 hf; exact wG_X0_ring_L128_F (gG_X0_ring_L128 n) ih G x0 x1 x3 hf
def gG_X0_ring_L15_F (k15 : (dg_G → Nat → Int32 → Int32 → Int32 → Option (Int32 × dg_G))) (G : dg_G) (x0 : Nat) (x1 : Int32) (x2 : Int32) (x3 : Int32) : Option (Int32 × dg_G) :=
  (dg_gR G 1 0 x0).bind fun v3 =>
  (dg_gR G 2 9 v3).bind fun v4 =>
  (dg_is G 10 v4).bind fun u5 =>
  (gG_J2_size G v4).bind fun p6 =>
  if p6 ≤ x3 then (
    if x1 = (-1) then (
      some ((-1), G))
    else
    (dg_is G 1 x0).bind fun u9 =>
    (gG_X0_distances G x0 x1).bind fun p10 =>
    (dg_gR p10 1 0 x0).bind fun v11 =>
    (dg_gR p10 2 12 v11).bind fun v12 =>
    (dg_st p10 50 v12 0 x1).bind fun G13 =>
    (dg_gR G13 1 0 x0).bind fun v14 =>
    (dg_pI G13 2 7 v14 1).bind fun G15 =>
    (dg_is G15 1 x0).bind fun u16 =>
    (gG_X0_debtAt G15 x0 x1).bind fun p17 =>
    (dg_gI G15 4 7 p17).bind fun v18 =>
    gG_X0_ring_L128 dh_fu G15 x0 x1 v18)
  else
  (dg_is G 1 x0).bind fun u57 =>
  (gG_X0_debtAt G x0 x3).bind fun p58 =>
  (dg_is G 4 p58).bind fun u59 =>
  (gG_X4_isLive G p58).bind fun p60 =>
  if p60 = 0 then (
    k15 G x0 x1 x2 (x3 + 1))
  else
  (dg_is G 1 x0).bind fun u62 =>
  (gG_X0_distances G x0 x3).bind fun p63 =>
  (dg_gR p63 1 3 x0).bind fun v64 =>
  (dg_is p63 1 x0).bind fun u65 =>
  (gG_X0_debtAt p63 x0 x3).bind fun p66 =>
  (dg_gI p63 4 7 p66).bind fun v67 =>
  (dg_ld p63 50 v64 v67).bind fun v68 =>
  if v68 = (-1) then (
    k15 p63 x0 x1 x2 (x3 + 1))
  else
  if v68 < x2 then (
    k15 p63 x0 x3 v68 (x3 + 1))
  else
  k15 p63 x0 x1 x2 (x3 + 1)
theorem wG_X0_ring_L15_F {l : Launch} {E : dj_E} {Mo : Option dm_M} {r : Int32} {G' : dg_G} (k15 : (dg_G → Nat → Int32 → Int32 → Int32 → Option (Int32 × dg_G))) (hk15 : ∀ (G : dg_G) (x0 : Nat) (x1 : Int32) (x2 : Int32) (x3 : Int32), k15 G x0 x1 x2 x3 = some (r, G') → dgW tG_X0_ring l E Mo G' (.inr (some (.int r))) G 15 [(0, dj_v E x0), (1, .int x1), (2, .int x2), (3, .int x3)] []) (G : dg_G) (x0 : Nat) (x1 : Int32) (x2 : Int32) (x3 : Int32) (hf : gG_X0_ring_L15_F k15 G x0 x1 x2 x3 = some (r, G')) : dgW tG_X0_ring l E Mo G' (.inr (some (.int r))) G 15 [(0, dj_v E x0), (1, .int x1), (2, .int x2), (3, .int x3)] [] := by
  unfold gG_X0_ring_L15_F at hf
  refine dg_l (fun _ _ _ _ _ _ _ hC => r_iload_n hC dX0_ring_15 rfl (j := 3) rfl) ?_
  refine g_aload_n dX0_ring_16 rfl (j := 0) rfl ?_
  obtain ⟨v3, h3, hf⟩ := dh_bd hf
  refine g_getR fR_X0_10 (by decide) h3 dX0_ring_17 ?_
  obtain ⟨v4, h4, hf⟩ := dh_bd hf
  refine g_getR fR_X0_63 (by decide) h4 dX0_ring_20 ?_
  obtain ⟨u5, h5, hf⟩ := dh_bd hf
  obtain ⟨p6, h6, hf⟩ := dh_bd hf
  refine g_callV (rc_O (ci := 10) rfl h5) (cG_J2_size _ E Mo G v4 h6) q256 qG_J2_size (Nat.le_of_ble_eq_true rfl) (Nat.le_of_ble_eq_true rfl) rfl (dj_cat8 (Nat.le_of_ble_eq_true rfl)) dX0_ring_23 ?_
  refine dg_b (fun _ _ _ _ _ _ _ hC => r_icmp_ge hC dX0_ring_26 (tgt := 89) (by decide)) (fun c7 => ?_) (fun c7 => ?_)
  · have hf := dh_if hf c7
    refine dg_l (fun _ _ _ _ _ _ _ hC => r_iload_n hC dX0_ring_89 rfl (j := 1) rfl) ?_
    refine dg_l (fun _ _ _ _ _ _ _ hC => r_iconst hC dX0_ring_90 ki_m1) ?_
    refine dg_bn (fun _ _ _ _ _ _ _ hC => r_icmp_ne hC dX0_ring_91 (tgt := 96) (by decide)) (fun c8 => ?_) (fun c8 => ?_)
    · have hf := dh_el hf c8
      refine g_aload_n dX0_ring_96 rfl (j := 0) rfl ?_
      refine dg_l (fun _ _ _ _ _ _ _ hC => r_iload_n hC dX0_ring_97 rfl (j := 1) rfl) ?_
      obtain ⟨u9, h9, hf⟩ := dh_bd hf
      obtain ⟨p10, h10, hf⟩ := dh_bd hf
      refine g_callV (rc_O (ci := 1) rfl h9) (cG_X0_distances _ E Mo G x0 x1 h10) q563 qG_X0_distances (Nat.le_of_ble_eq_true rfl) (Nat.le_of_ble_eq_true rfl) rfl (dj_cat8 (Nat.le_of_ble_eq_true rfl)) dX0_ring_98 ?_
      refine g_aload_n dX0_ring_101 rfl (j := 0) rfl ?_
      obtain ⟨v11, h11, hf⟩ := dh_bd hf
      refine g_getR fR_X0_10 (by decide) h11 dX0_ring_102 ?_
      obtain ⟨v12, h12, hf⟩ := dh_bd hf
      refine g_getR fR_X0_197 (by decide) h12 dX0_ring_105 ?_
      refine dg_l (fun _ _ _ _ _ _ _ hC => r_iconst hC dX0_ring_108 ki_0) ?_
      refine dg_l (fun _ _ _ _ _ _ _ hC => r_iload_n hC dX0_ring_109 rfl (j := 1) rfl) ?_
      obtain ⟨G13, h13, hf⟩ := dh_bd hf
      refine g_iast h13 dX0_ring_110 ?_
      refine g_aload_n dX0_ring_111 rfl (j := 0) rfl ?_
      obtain ⟨v14, h14, hf⟩ := dh_bd hf
      refine g_getR fR_X0_10 (by decide) h14 dX0_ring_112 ?_
      refine dg_l (fun _ _ _ _ _ _ _ hC => r_iconst hC dX0_ring_115 ki_1) ?_
      obtain ⟨G15, h15, hf⟩ := dh_bd hf
      refine g_putI fF_X0_190 (fun q => by cases q) (by decide) h15 dX0_ring_116 ?_
      refine g_aload_n dX0_ring_119 rfl (j := 0) rfl ?_
      refine dg_l (fun _ _ _ _ _ _ _ hC => r_iload_n hC dX0_ring_120 rfl (j := 1) rfl) ?_
      obtain ⟨u16, h16, hf⟩ := dh_bd hf
      obtain ⟨p17, h17, hf⟩ := dh_bd hf
      refine g_callV (rc_O (ci := 1) rfl h16) (cG_X0_debtAt _ E Mo G15 x0 x1 h17) q485 qG_X0_debtAt (Nat.le_of_ble_eq_true rfl) (Nat.le_of_ble_eq_true rfl) rfl (dj_cat8 (Nat.le_of_ble_eq_true rfl)) dX0_ring_121 ?_
      obtain ⟨v18, h18, hf⟩ := dh_bd hf
      refine g_getI fR_X0_131 (by decide) h18 dX0_ring_124 ?_
      refine dg_l (fun _ _ _ _ _ _ _ hC => r_istore_n (lv' := [(3, .int v18), (0, dj_v E x0), (1, .int x1), (2, .int x2)]) hC dX0_ring_127 rfl (Nat.le_of_ble_eq_true rfl) rfl) ?_
      exact g_sub [1, 2, 0] rfl (wG_X0_ring_L128 dh_fu G15 x0 x1 v18 hf)
    · have hf := dh_if hf c8
      refine dg_l (fun _ _ _ _ _ _ _ hC => r_iconst hC dX0_ring_94 ki_m1) ?_
      exact g_iret dX0_ring_95 rfl hf
  · have hf := dh_el hf c7
    refine g_aload_n dX0_ring_29 rfl (j := 0) rfl ?_
    refine dg_l (fun _ _ _ _ _ _ _ hC => r_iload_n hC dX0_ring_30 rfl (j := 3) rfl) ?_
    obtain ⟨u57, h57, hf⟩ := dh_bd hf
    obtain ⟨p58, h58, hf⟩ := dh_bd hf
    refine g_callV (rc_O (ci := 1) rfl h57) (cG_X0_debtAt _ E Mo G x0 x3 h58) q485 qG_X0_debtAt (Nat.le_of_ble_eq_true rfl) (Nat.le_of_ble_eq_true rfl) rfl (dj_cat8 (Nat.le_of_ble_eq_true rfl)) dX0_ring_31 ?_
    obtain ⟨u59, h59, hf⟩ := dh_bd hf
    obtain ⟨p60, h60, hf⟩ := dh_bd hf
    refine g_callV (rc_O (ci := 4) rfl h59) (cG_X4_isLive _ E Mo G p58 h60) q503 qG_X4_isLive (Nat.le_of_ble_eq_true rfl) (Nat.le_of_ble_eq_true rfl) rfl (dj_cat8 (Nat.le_of_ble_eq_true rfl)) dX0_ring_34 ?_
    refine dg_bn (fun _ _ _ _ _ _ _ hC => r_if_ne hC dX0_ring_37 (tgt := 43) (by decide)) (fun c61 => ?_) (fun c61 => ?_)
    · have hf := dh_el hf c61
      refine g_aload_n dX0_ring_43 rfl (j := 0) rfl ?_
      refine dg_l (fun _ _ _ _ _ _ _ hC => r_iload_n hC dX0_ring_44 rfl (j := 3) rfl) ?_
      obtain ⟨u62, h62, hf⟩ := dh_bd hf
      obtain ⟨p63, h63, hf⟩ := dh_bd hf
      refine g_callV (rc_O (ci := 1) rfl h62) (cG_X0_distances _ E Mo G x0 x3 h63) q563 qG_X0_distances (Nat.le_of_ble_eq_true rfl) (Nat.le_of_ble_eq_true rfl) rfl (dj_cat8 (Nat.le_of_ble_eq_true rfl)) dX0_ring_45 ?_
      refine g_aload_n dX0_ring_48 rfl (j := 0) rfl ?_
      obtain ⟨v64, h64, hf⟩ := dh_bd hf
      refine g_getR fR_X0_28 (by decide) h64 dX0_ring_49 ?_
      refine g_aload_n dX0_ring_52 rfl (j := 0) rfl ?_
      refine dg_l (fun _ _ _ _ _ _ _ hC => r_iload_n hC dX0_ring_53 rfl (j := 3) rfl) ?_
      obtain ⟨u65, h65, hf⟩ := dh_bd hf
      obtain ⟨p66, h66, hf⟩ := dh_bd hf
      refine g_callV (rc_O (ci := 1) rfl h65) (cG_X0_debtAt _ E Mo p63 x0 x3 h66) q485 qG_X0_debtAt (Nat.le_of_ble_eq_true rfl) (Nat.le_of_ble_eq_true rfl) rfl (dj_cat8 (Nat.le_of_ble_eq_true rfl)) dX0_ring_54 ?_
      obtain ⟨v67, h67, hf⟩ := dh_bd hf
      refine g_getI fR_X0_131 (by decide) h67 dX0_ring_57 ?_
      obtain ⟨v68, h68, hf⟩ := dh_bd hf
      refine g_iald h68 dX0_ring_60 ?_
      refine dg_l (fun _ _ _ _ _ _ _ hC => r_istore (lv' := [(4, .int v68), (0, dj_v E x0), (1, .int x1), (2, .int x2), (3, .int x3)]) hC dX0_ring_61 (Nat.le_of_ble_eq_true rfl) rfl) ?_
      refine dg_l (fun _ _ _ _ _ _ _ hC => r_iload hC dX0_ring_63 (j := 0) rfl) ?_
      refine dg_l (fun _ _ _ _ _ _ _ hC => r_iconst hC dX0_ring_65 ki_m1) ?_
      refine dg_b (fun _ _ _ _ _ _ _ hC => r_icmp_eq hC dX0_ring_66 (tgt := 83) (by decide)) (fun c69 => ?_) (fun c69 => ?_)
      · have hf := dh_if hf c69
        refine dg_l (fun _ _ _ _ _ _ _ hC => r_iinc (lv' := [(3, .int (x3 + 1)), (4, .int v68), (0, dj_v E x0), (1, .int x1), (2, .int x2)]) hC dX0_ring_83 (j := 4) rfl (congrArg _ ki_1) (Nat.le_of_ble_eq_true rfl) rfl) ?_
        refine dg_l (fun _ _ _ _ _ _ _ hC => r_goto hC dX0_ring_86 (tgt := 15) (by decide)) ?_
        exact g_sub [2, 3, 4, 0] rfl (hk15 p63 x0 x1 x2 (x3 + 1) hf)
      · have hf := dh_el hf c69
        refine dg_l (fun _ _ _ _ _ _ _ hC => r_iload hC dX0_ring_69 (j := 0) rfl) ?_
        refine dg_l (fun _ _ _ _ _ _ _ hC => r_iload_n hC dX0_ring_71 rfl (j := 3) rfl) ?_
        refine dg_b (fun _ _ _ _ _ _ _ hC => r_icmp_lt hC dX0_ring_72 (tgt := 78) (by decide)) (fun c70 => ?_) (fun c70 => ?_)
        · have hf := dh_if hf c70
          refine dg_l (fun _ _ _ _ _ _ _ hC => r_iload_n hC dX0_ring_78 rfl (j := 4) rfl) ?_
          refine dg_l (fun _ _ _ _ _ _ _ hC => r_istore_n (lv' := [(1, .int x3), (4, .int v68), (0, dj_v E x0), (2, .int x2), (3, .int x3)]) hC dX0_ring_79 rfl (Nat.le_of_ble_eq_true rfl) (by simp only [List.filter, dj_cat] <;> rfl)) ?_
          refine dg_l (fun _ _ _ _ _ _ _ hC => r_iload hC dX0_ring_80 (j := 1) rfl) ?_
          refine dg_l (fun _ _ _ _ _ _ _ hC => r_istore_n (lv' := [(2, .int v68), (1, .int x3), (4, .int v68), (0, dj_v E x0), (3, .int x3)]) hC dX0_ring_82 rfl (Nat.le_of_ble_eq_true rfl) rfl) ?_
          refine dg_l (fun _ _ _ _ _ _ _ hC => r_iinc (lv' := [(3, .int (x3 + 1)), (2, .int v68), (1, .int x3), (4, .int v68), (0, dj_v E x0)]) hC dX0_ring_83 (j := 4) rfl (congrArg _ ki_1) (Nat.le_of_ble_eq_true rfl) rfl) ?_
          refine dg_l (fun _ _ _ _ _ _ _ hC => r_goto hC dX0_ring_86 (tgt := 15) (by decide)) ?_
          exact g_sub [4, 2, 1, 0] rfl (hk15 p63 x0 x3 v68 (x3 + 1) hf)
        · have hf := dh_el hf c70
          refine dg_l (fun _ _ _ _ _ _ _ hC => r_goto hC dX0_ring_75 (tgt := 83) (by decide)) ?_
          refine dg_l (fun _ _ _ _ _ _ _ hC => r_iinc (lv' := [(3, .int (x3 + 1)), (4, .int v68), (0, dj_v E x0), (1, .int x1), (2, .int x2)]) hC dX0_ring_83 (j := 4) rfl (congrArg _ ki_1) (Nat.le_of_ble_eq_true rfl) rfl) ?_
          refine dg_l (fun _ _ _ _ _ _ _ hC => r_goto hC dX0_ring_86 (tgt := 15) (by decide)) ?_
          exact g_sub [2, 3, 4, 0] rfl (hk15 p63 x0 x1 x2 (x3 + 1) hf)
    · have hf := dh_if hf c61
      refine dg_l (fun _ _ _ _ _ _ _ hC => r_goto hC dX0_ring_40 (tgt := 83) (by decide)) ?_
      refine dg_l (fun _ _ _ _ _ _ _ hC => r_iinc (lv' := [(3, .int (x3 + 1)), (0, dj_v E x0), (1, .int x1), (2, .int x2)]) hC dX0_ring_83 (j := 3) rfl (congrArg _ ki_1) (Nat.le_of_ble_eq_true rfl) rfl) ?_
      refine dg_l (fun _ _ _ _ _ _ _ hC => r_goto hC dX0_ring_86 (tgt := 15) (by decide)) ?_
      exact g_sub [1, 2, 3, 0] rfl (hk15 G x0 x1 x2 (x3 + 1) hf)
def gG_X0_ring_L15 : Nat → dg_G → Nat → Int32 → Int32 → Int32 → Option (Int32 × dg_G)
  | 0 => fun _ _ _ _ _ => none
  | n + 1 => gG_X0_ring_L15_F (gG_X0_ring_L15 n)
theorem wG_X0_ring_L15 {l : Launch} {E : dj_E} {Mo : Option dm_M} {r : Int32} {G' : dg_G} : ∀ (n : Nat) (G : dg_G) (x0 : Nat) (x1 : Int32) (x2 : Int32) (x3 : Int32) (_ : gG_X0_ring_L15 n G x0 x1 x2 x3 = some (r, G')), dgW tG_X0_ring l E Mo G' (.inr (some (.int r))) G 15 [(0, dj_v E x0), (1, .int x1), (2, .int x2), (3, .int x3)] [] := by
  intro n
  induction n with
  | zero => intro G x0 x1 x2 x3 hf; exact dh_no hf
  | succ n ih => intro G x0 x1 x2 x3 hf; exact wG_X0_ring_L15_F (gG_X0_ring_L15 n) ih G x0 x1 x2 x3 hf
def gG_X0_ring (G : dg_G) (x0 : Nat) : Option (Int32 × dg_G) :=
  (dg_gR G 1 0 x0).bind fun v1 =>
  (dg_pI G 2 7 v1 0).bind fun G2 =>
  gG_X0_ring_L15 dh_fu G2 x0 (-1) 12 0
theorem wG_X0_ring {l : Launch} {E : dj_E} {Mo : Option dm_M} {r : Int32} {G' : dg_G} (G : dg_G) (x0 : Nat) (hf : gG_X0_ring G x0 = some (r, G')) : dgW tG_X0_ring l E Mo G' (.inr (some (.int r))) G 0 [(0, dj_v E x0)] [] := by
  unfold gG_X0_ring at hf
  refine g_aload_n dX0_ring_0 rfl (j := 0) rfl ?_
  obtain ⟨v1, h1, hf⟩ := dh_bd hf
  refine g_getR fR_X0_10 (by decide) h1 dX0_ring_1 ?_
  refine dg_l (fun _ _ _ _ _ _ _ hC => r_iconst hC dX0_ring_4 ki_0) ?_
  obtain ⟨G2, h2, hf⟩ := dh_bd hf
  refine g_putI fF_X0_190 (fun q => by cases q) (by decide) h2 dX0_ring_5 ?_
  refine dg_l (fun _ _ _ _ _ _ _ hC => r_iconst hC dX0_ring_8 ki_m1) ?_
  refine dg_l (fun _ _ _ _ _ _ _ hC => r_istore_n (lv' := [(1, .int (-1)), (0, dj_v E x0)]) hC dX0_ring_9 rfl (Nat.le_of_ble_eq_true rfl) (by simp only [List.filter, dj_cat] <;> rfl)) ?_
  refine dg_l (fun _ _ _ _ _ _ _ hC => r_bipush hC dX0_ring_10 kb_12) ?_
  refine dg_l (fun _ _ _ _ _ _ _ hC => r_istore_n (lv' := [(2, .int 12), (1, .int (-1)), (0, dj_v E x0)]) hC dX0_ring_12 rfl (Nat.le_of_ble_eq_true rfl) rfl) ?_
  refine dg_l (fun _ _ _ _ _ _ _ hC => r_iconst hC dX0_ring_13 ki_0) ?_
  refine dg_l (fun _ _ _ _ _ _ _ hC => r_istore_n (lv' := [(3, .int 0), (2, .int 12), (1, .int (-1)), (0, dj_v E x0)]) hC dX0_ring_14 rfl (Nat.le_of_ble_eq_true rfl) rfl) ?_
  exact g_sub [3, 2, 1, 0] rfl (wG_X0_ring_L15 dh_fu G2 x0 (-1) 12 0 hf)
theorem cG_X0_ring (l : Launch) (E : dj_E) (Mo : Option dm_M) (G : dg_G) (x0 : Nat) {p : Int32 × dg_G} (h : gG_X0_ring G x0 = some p) : dg_Met l yX0_ring cX0_ring 5 (some .int) 5 110 E Mo [dj_v E x0] G (some (.int p.1)) p.2 :=
  dg_met (plainFor_of_name (by decide)) (by simp only [lg_sl_ref, lg_sl_int, lg_sl_long, lg_sl_nil]; decide) (by simp only [lv_args_ref, lv_args_int, lv_args_long, lv_args_nil]) (wG_X0_ring G x0 h)
theorem qG_X0_ring : dg_cV "DebtorsHouse" yX0_ring cX0_ring 5 (some .int) 0 := ⟨q560, Or.inl q561, q81, q562, by decide, by decide, by decide +kernel⟩
/-! DebtorsHouse.row(I)I -/
abbrev tG_X0_row : dg_T := (cX0_row, 2, RX0, (some .int), 1, 22, "row", [])
def gG_X0_row (G : dg_G) (x0 : Nat) (x1 : Int32) : Option Int32 :=
  (dg_gR G 1 0 x0).bind fun v1 =>
  (dg_gI G 2 7 v1).bind fun v2 =>
  (gG_X0_isIn G x1 0 (v2 - 1)).bind fun p3 =>
  if p3 = 0 then (
    some (-1))
  else
  (dg_gR G 1 0 x0).bind fun v5 =>
  (dg_gR G 2 12 v5).bind fun v6 =>
  (dg_ld G 50 v6 x1).bind fun v7 =>
  some v7
theorem wG_X0_row {l : Launch} {E : dj_E} {Mo : Option dm_M} {r : Int32} (G : dg_G) (x0 : Nat) (x1 : Int32) (hf : gG_X0_row G x0 x1 = some r) : dgW tG_X0_row l E Mo G (.inr (some (.int r))) G 0 [(0, dj_v E x0), (1, .int x1)] [] := by
  unfold gG_X0_row at hf
  refine dg_l (fun _ _ _ _ _ _ _ hC => r_iload_n hC dX0_row_0 rfl (j := 1) rfl) ?_
  refine dg_l (fun _ _ _ _ _ _ _ hC => r_iconst hC dX0_row_1 ki_0) ?_
  refine g_aload_n dX0_row_2 rfl (j := 0) rfl ?_
  obtain ⟨v1, h1, hf⟩ := dh_bd hf
  refine g_getR fR_X0_10 (by decide) h1 dX0_row_3 ?_
  obtain ⟨v2, h2, hf⟩ := dh_bd hf
  refine g_getI fR_X0_190 (by decide) h2 dX0_row_6 ?_
  refine dg_l (fun _ _ _ _ _ _ _ hC => r_iconst hC dX0_row_9 ki_1) ?_
  refine dg_l (fun _ _ _ _ _ _ _ hC => r_isub hC dX0_row_10) ?_
  obtain ⟨p3, h3, hf⟩ := dh_bd hf
  refine g_callS (cG_X0_isIn _ E Mo G x1 0 (v2 - 1) h3) q261 qG_X0_isIn (Nat.le_of_ble_eq_true rfl) (Nat.le_of_ble_eq_true rfl) rfl (dj_cat8 (Nat.le_of_ble_eq_true rfl)) dX0_row_11 ?_
  refine dg_b (fun _ _ _ _ _ _ _ hC => r_if_eq hC dX0_row_14 (tgt := 29) (by decide)) (fun c4 => ?_) (fun c4 => ?_)
  · have hf := dh_if hf c4
    refine dg_l (fun _ _ _ _ _ _ _ hC => r_iconst hC dX0_row_29 ki_m1) ?_
    exact g_iret1 dX0_row_30 rfl hf
  · have hf := dh_el hf c4
    refine g_aload_n dX0_row_17 rfl (j := 0) rfl ?_
    obtain ⟨v5, h5, hf⟩ := dh_bd hf
    refine g_getR fR_X0_10 (by decide) h5 dX0_row_18 ?_
    obtain ⟨v6, h6, hf⟩ := dh_bd hf
    refine g_getR fR_X0_197 (by decide) h6 dX0_row_21 ?_
    refine dg_l (fun _ _ _ _ _ _ _ hC => r_iload_n hC dX0_row_24 rfl (j := 1) rfl) ?_
    obtain ⟨v7, h7, hf⟩ := dh_bd hf
    refine g_iald h7 dX0_row_25 ?_
    refine dg_l (fun _ _ _ _ _ _ _ hC => r_goto hC dX0_row_26 (tgt := 30) (by decide)) ?_
    exact g_iret1 dX0_row_30 rfl hf
theorem cG_X0_row (l : Launch) (E : dj_E) (Mo : Option dm_M) (G : dg_G) (x0 : Nat) (x1 : Int32) {r : Int32} (h : gG_X0_row G x0 x1 = some r) : dg_Met l yX0_row cX0_row 2 (some .int) 1 22 E Mo [dj_v E x0, .int x1] G (some (.int r)) G :=
  dg_met (plainFor_of_name (by decide)) (by simp only [lg_sl_ref, lg_sl_int, lg_sl_long, lg_sl_nil]; decide) (by simp only [lv_args_ref, lv_args_int, lv_args_long, lv_args_nil]) (wG_X0_row G x0 x1 h)
theorem qG_X0_row : dg_cV "DebtorsHouse" yX0_row cX0_row 2 (some .int) 1 := ⟨q569, Or.inl q570, q81, q571, by decide, by decide, by decide +kernel⟩
/-! DebtorsHouse.net()I -/
abbrev tG_X0_net : dg_T := (cX0_net, 3, RX0, (some .int), 6, 134, "net", [])
def gG_X0_net_L63_F (k63 : (dg_G → Nat → Int32 → Int32 → Option (Int32 × dg_G))) (G : dg_G) (x0 : Nat) (x1 : Int32) (x2 : Int32) : Option (Int32 × dg_G) :=
  (dg_gR G 1 0 x0).bind fun v12 =>
  (dg_gI G 2 7 v12).bind fun v13 =>
  if v13 ≤ x2 then (
    (dg_is G 1 x0).bind fun u15 =>
    (gG_X0_looks G x0).bind fun p16 =>
    some (x1, p16))
  else
  (dg_gR G 1 0 x0).bind fun v17 =>
  (dg_gR G 2 12 v17).bind fun v18 =>
  (dg_ld G 50 v18 x2).bind fun v19 =>
  (dg_is G 1 x0).bind fun u20 =>
  (gG_X0_debtAt G x0 v19).bind fun p21 =>
  (dg_gR G 1 0 x0).bind fun v22 =>
  (dg_gI G 2 4 v22).bind fun v23 =>
  (dg_is G 4 p21).bind fun u24 =>
  (gG_X4_less G p21 x1 v23).bind fun p25 =>
  k63 p25 x0 x1 (x2 + 1)
theorem wG_X0_net_L63_F {l : Launch} {E : dj_E} {Mo : Option dm_M} {r : Int32} {G' : dg_G} (k63 : (dg_G → Nat → Int32 → Int32 → Option (Int32 × dg_G))) (hk63 : ∀ (G : dg_G) (x0 : Nat) (x1 : Int32) (x2 : Int32), k63 G x0 x1 x2 = some (r, G') → dgW tG_X0_net l E Mo G' (.inr (some (.int r))) G 63 [(0, dj_v E x0), (1, .int x1), (2, .int x2)] []) (G : dg_G) (x0 : Nat) (x1 : Int32) (x2 : Int32) (hf : gG_X0_net_L63_F k63 G x0 x1 x2 = some (r, G')) : dgW tG_X0_net l E Mo G' (.inr (some (.int r))) G 63 [(0, dj_v E x0), (1, .int x1), (2, .int x2)] [] := by
  unfold gG_X0_net_L63_F at hf
  refine dg_l (fun _ _ _ _ _ _ _ hC => r_iload_n hC dX0_net_63 rfl (j := 2) rfl) ?_
  refine g_aload_n dX0_net_64 rfl (j := 0) rfl ?_
  obtain ⟨v12, h12, hf⟩ := dh_bd hf
  refine g_getR fR_X0_10 (by decide) h12 dX0_net_65 ?_
  obtain ⟨v13, h13, hf⟩ := dh_bd hf
  refine g_getI fR_X0_190 (by decide) h13 dX0_net_68 ?_
  refine dg_b (fun _ _ _ _ _ _ _ hC => r_icmp_ge hC dX0_net_71 (tgt := 104) (by decide)) (fun c14 => ?_) (fun c14 => ?_)
  · have hf := dh_if hf c14
    refine g_aload_n dX0_net_104 rfl (j := 0) rfl ?_
    obtain ⟨u15, h15, hf⟩ := dh_bd hf
    obtain ⟨p16, h16, hf⟩ := dh_bd hf
    refine g_callV (rc_O (ci := 1) rfl h15) (cG_X0_looks _ E Mo G x0 h16) q540 qG_X0_looks (Nat.le_of_ble_eq_true rfl) (Nat.le_of_ble_eq_true rfl) rfl (dj_cat8 (Nat.le_of_ble_eq_true rfl)) dX0_net_105 ?_
    refine dg_l (fun _ _ _ _ _ _ _ hC => r_iload_n hC dX0_net_108 rfl (j := 1) rfl) ?_
    exact g_iret dX0_net_109 rfl hf
  · have hf := dh_el hf c14
    refine g_aload_n dX0_net_74 rfl (j := 0) rfl ?_
    refine g_aload_n dX0_net_75 rfl (j := 0) rfl ?_
    obtain ⟨v17, h17, hf⟩ := dh_bd hf
    refine g_getR fR_X0_10 (by decide) h17 dX0_net_76 ?_
    obtain ⟨v18, h18, hf⟩ := dh_bd hf
    refine g_getR fR_X0_197 (by decide) h18 dX0_net_79 ?_
    refine dg_l (fun _ _ _ _ _ _ _ hC => r_iload_n hC dX0_net_82 rfl (j := 2) rfl) ?_
    obtain ⟨v19, h19, hf⟩ := dh_bd hf
    refine g_iald h19 dX0_net_83 ?_
    obtain ⟨u20, h20, hf⟩ := dh_bd hf
    obtain ⟨p21, h21, hf⟩ := dh_bd hf
    refine g_callV (rc_O (ci := 1) rfl h20) (cG_X0_debtAt _ E Mo G x0 v19 h21) q485 qG_X0_debtAt (Nat.le_of_ble_eq_true rfl) (Nat.le_of_ble_eq_true rfl) rfl (dj_cat8 (Nat.le_of_ble_eq_true rfl)) dX0_net_84 ?_
    refine dg_l (fun _ _ _ _ _ _ _ hC => r_iload_n hC dX0_net_87 rfl (j := 1) rfl) ?_
    refine g_aload_n dX0_net_88 rfl (j := 0) rfl ?_
    obtain ⟨v22, h22, hf⟩ := dh_bd hf
    refine g_getR fR_X0_10 (by decide) h22 dX0_net_89 ?_
    obtain ⟨v23, h23, hf⟩ := dh_bd hf
    refine g_getI fR_X0_88 (by decide) h23 dX0_net_92 ?_
    obtain ⟨u24, h24, hf⟩ := dh_bd hf
    obtain ⟨p25, h25, hf⟩ := dh_bd hf
    refine g_callV (rc_O (ci := 4) rfl h24) (cG_X4_less _ E Mo G p21 x1 v23 h25) q529 qG_X4_less (Nat.le_of_ble_eq_true rfl) (Nat.le_of_ble_eq_true rfl) rfl (dj_cat8 (Nat.le_of_ble_eq_true rfl)) dX0_net_95 ?_
    refine dg_l (fun _ _ _ _ _ _ _ hC => r_iinc (lv' := [(2, .int (x2 + 1)), (0, dj_v E x0), (1, .int x1)]) hC dX0_net_98 (j := 2) rfl (congrArg _ ki_1) (Nat.le_of_ble_eq_true rfl) rfl) ?_
    refine dg_l (fun _ _ _ _ _ _ _ hC => r_goto hC dX0_net_101 (tgt := 63) (by decide)) ?_
    exact g_sub [1, 2, 0] rfl (hk63 p25 x0 x1 (x2 + 1) hf)
def gG_X0_net_L63 : Nat → dg_G → Nat → Int32 → Int32 → Option (Int32 × dg_G)
  | 0 => fun _ _ _ _ => none
  | n + 1 => gG_X0_net_L63_F (gG_X0_net_L63 n)
theorem wG_X0_net_L63 {l : Launch} {E : dj_E} {Mo : Option dm_M} {r : Int32} {G' : dg_G} : ∀ (n : Nat) (G : dg_G) (x0 : Nat) (x1 : Int32) (x2 : Int32) (_ : gG_X0_net_L63 n G x0 x1 x2 = some (r, G')), dgW tG_X0_net l E Mo G' (.inr (some (.int r))) G 63 [(0, dj_v E x0), (1, .int x1), (2, .int x2)] [] := by
  intro n
  induction n with
  | zero => intro G x0 x1 x2 hf; exact dh_no hf
  | succ n ih => intro G x0 x1 x2 hf; exact wG_X0_net_L63_F (gG_X0_net_L63 n) ih G x0 x1 x2 hf
def gG_X0_net_L26_F (k26 : (dg_G → Nat → Int32 → Int32 → Option (Int32 × dg_G))) (G : dg_G) (x0 : Nat) (x1 : Int32) (x2 : Int32) : Option (Int32 × dg_G) :=
  (dg_gR G 1 0 x0).bind fun v9 =>
  (dg_gI G 2 7 v9).bind fun v10 =>
  if v10 ≤ x2 then (
    gG_X0_net_L63 dh_fu G x0 x1 0)
  else
  (dg_gR G 1 0 x0).bind fun v26 =>
  (dg_gR G 2 12 v26).bind fun v27 =>
  (dg_ld G 50 v27 x2).bind fun v28 =>
  (dg_is G 1 x0).bind fun u29 =>
  (gG_X0_due G x0 v28).bind fun p30 =>
  (gG_J5_min G x1 p30).bind fun p31 =>
  k26 G x0 p31 (x2 + 1)
theorem wG_X0_net_L26_F {l : Launch} {E : dj_E} {Mo : Option dm_M} {r : Int32} {G' : dg_G} (k26 : (dg_G → Nat → Int32 → Int32 → Option (Int32 × dg_G))) (hk26 : ∀ (G : dg_G) (x0 : Nat) (x1 : Int32) (x2 : Int32), k26 G x0 x1 x2 = some (r, G') → dgW tG_X0_net l E Mo G' (.inr (some (.int r))) G 26 [(0, dj_v E x0), (1, .int x1), (2, .int x2)] []) (G : dg_G) (x0 : Nat) (x1 : Int32) (x2 : Int32) (hf : gG_X0_net_L26_F k26 G x0 x1 x2 = some (r, G')) : dgW tG_X0_net l E Mo G' (.inr (some (.int r))) G 26 [(0, dj_v E x0), (1, .int x1), (2, .int x2)] [] := by
  unfold gG_X0_net_L26_F at hf
  refine dg_l (fun _ _ _ _ _ _ _ hC => r_iload_n hC dX0_net_26 rfl (j := 2) rfl) ?_
  refine g_aload_n dX0_net_27 rfl (j := 0) rfl ?_
  obtain ⟨v9, h9, hf⟩ := dh_bd hf
  refine g_getR fR_X0_10 (by decide) h9 dX0_net_28 ?_
  obtain ⟨v10, h10, hf⟩ := dh_bd hf
  refine g_getI fR_X0_190 (by decide) h10 dX0_net_31 ?_
  refine dg_b (fun _ _ _ _ _ _ _ hC => r_icmp_ge hC dX0_net_34 (tgt := 61) (by decide)) (fun c11 => ?_) (fun c11 => ?_)
  · have hf := dh_if hf c11
    refine dg_l (fun _ _ _ _ _ _ _ hC => r_iconst hC dX0_net_61 ki_0) ?_
    refine dg_l (fun _ _ _ _ _ _ _ hC => r_istore_n (lv' := [(2, .int 0), (0, dj_v E x0), (1, .int x1)]) hC dX0_net_62 rfl (Nat.le_of_ble_eq_true rfl) rfl) ?_
    exact g_sub [1, 2, 0] rfl (wG_X0_net_L63 dh_fu G x0 x1 0 hf)
  · have hf := dh_el hf c11
    refine dg_l (fun _ _ _ _ _ _ _ hC => r_iload_n hC dX0_net_37 rfl (j := 1) rfl) ?_
    refine g_aload_n dX0_net_38 rfl (j := 0) rfl ?_
    refine g_aload_n dX0_net_39 rfl (j := 0) rfl ?_
    obtain ⟨v26, h26, hf⟩ := dh_bd hf
    refine g_getR fR_X0_10 (by decide) h26 dX0_net_40 ?_
    obtain ⟨v27, h27, hf⟩ := dh_bd hf
    refine g_getR fR_X0_197 (by decide) h27 dX0_net_43 ?_
    refine dg_l (fun _ _ _ _ _ _ _ hC => r_iload_n hC dX0_net_46 rfl (j := 2) rfl) ?_
    obtain ⟨v28, h28, hf⟩ := dh_bd hf
    refine g_iald h28 dX0_net_47 ?_
    obtain ⟨u29, h29, hf⟩ := dh_bd hf
    obtain ⟨p30, h30, hf⟩ := dh_bd hf
    refine g_callV (rc_O (ci := 1) rfl h29) (cG_X0_due _ E Mo G x0 v28 h30) q507 qG_X0_due (Nat.le_of_ble_eq_true rfl) (Nat.le_of_ble_eq_true rfl) rfl (dj_cat8 (Nat.le_of_ble_eq_true rfl)) dX0_net_48 ?_
    obtain ⟨p31, h31, hf⟩ := dh_bd hf
    refine g_callS (cG_J5_min _ E Mo G x1 p30 h31) q577 qG_J5_min (Nat.le_of_ble_eq_true rfl) (Nat.le_of_ble_eq_true rfl) rfl (dj_cat8 (Nat.le_of_ble_eq_true rfl)) dX0_net_51 ?_
    refine dg_l (fun _ _ _ _ _ _ _ hC => r_istore_n (lv' := [(1, .int p31), (0, dj_v E x0), (2, .int x2)]) hC dX0_net_54 rfl (Nat.le_of_ble_eq_true rfl) (by simp only [List.filter, dj_cat] <;> rfl)) ?_
    refine dg_l (fun _ _ _ _ _ _ _ hC => r_iinc (lv' := [(2, .int (x2 + 1)), (1, .int p31), (0, dj_v E x0)]) hC dX0_net_55 (j := 2) rfl (congrArg _ ki_1) (Nat.le_of_ble_eq_true rfl) rfl) ?_
    refine dg_l (fun _ _ _ _ _ _ _ hC => r_goto hC dX0_net_58 (tgt := 26) (by decide)) ?_
    exact g_sub [2, 1, 0] rfl (hk26 G x0 p31 (x2 + 1) hf)
def gG_X0_net_L26 : Nat → dg_G → Nat → Int32 → Int32 → Option (Int32 × dg_G)
  | 0 => fun _ _ _ _ => none
  | n + 1 => gG_X0_net_L26_F (gG_X0_net_L26 n)
theorem wG_X0_net_L26 {l : Launch} {E : dj_E} {Mo : Option dm_M} {r : Int32} {G' : dg_G} : ∀ (n : Nat) (G : dg_G) (x0 : Nat) (x1 : Int32) (x2 : Int32) (_ : gG_X0_net_L26 n G x0 x1 x2 = some (r, G')), dgW tG_X0_net l E Mo G' (.inr (some (.int r))) G 26 [(0, dj_v E x0), (1, .int x1), (2, .int x2)] [] := by
  intro n
  induction n with
  | zero => intro G x0 x1 x2 hf; exact dh_no hf
  | succ n ih => intro G x0 x1 x2 hf; exact wG_X0_net_L26_F (gG_X0_net_L26 n) ih G x0 x1 x2 hf
def gG_X0_net (G : dg_G) (x0 : Nat) : Option (Int32 × dg_G) :=
  (dg_is G 1 x0).bind fun u1 =>
  (gG_X0_ring G x0).bind fun p2 =>
  if p2.1 = (-1) then (
    some ((-1), p2.2))
  else
  (dg_gR p2.2 1 0 x0).bind fun v4 =>
  (dg_gR p2.2 2 12 v4).bind fun v5 =>
  (dg_ld p2.2 50 v5 0).bind fun v6 =>
  (dg_is p2.2 1 x0).bind fun u7 =>
  (gG_X0_due p2.2 x0 v6).bind fun p8 =>
  gG_X0_net_L26 dh_fu p2.2 x0 p8 1
theorem wG_X0_net {l : Launch} {E : dj_E} {Mo : Option dm_M} {r : Int32} {G' : dg_G} (G : dg_G) (x0 : Nat) (hf : gG_X0_net G x0 = some (r, G')) : dgW tG_X0_net l E Mo G' (.inr (some (.int r))) G 0 [(0, dj_v E x0)] [] := by
  unfold gG_X0_net at hf
  refine g_aload_n dX0_net_0 rfl (j := 0) rfl ?_
  obtain ⟨u1, h1, hf⟩ := dh_bd hf
  obtain ⟨p2, h2, hf⟩ := dh_bd hf
  refine g_callV (rc_O (ci := 1) rfl h1) (cG_X0_ring _ E Mo G x0 h2) q576 qG_X0_ring (Nat.le_of_ble_eq_true rfl) (Nat.le_of_ble_eq_true rfl) rfl (dj_cat8 (Nat.le_of_ble_eq_true rfl)) dX0_net_1 ?_
  refine dg_l (fun _ _ _ _ _ _ _ hC => r_iconst hC dX0_net_4 ki_m1) ?_
  refine dg_bn (fun _ _ _ _ _ _ _ hC => r_icmp_ne hC dX0_net_5 (tgt := 10) (by decide)) (fun c3 => ?_) (fun c3 => ?_)
  · have hf := dh_el hf c3
    refine g_aload_n dX0_net_10 rfl (j := 0) rfl ?_
    refine g_aload_n dX0_net_11 rfl (j := 0) rfl ?_
    obtain ⟨v4, h4, hf⟩ := dh_bd hf
    refine g_getR fR_X0_10 (by decide) h4 dX0_net_12 ?_
    obtain ⟨v5, h5, hf⟩ := dh_bd hf
    refine g_getR fR_X0_197 (by decide) h5 dX0_net_15 ?_
    refine dg_l (fun _ _ _ _ _ _ _ hC => r_iconst hC dX0_net_18 ki_0) ?_
    obtain ⟨v6, h6, hf⟩ := dh_bd hf
    refine g_iald h6 dX0_net_19 ?_
    obtain ⟨u7, h7, hf⟩ := dh_bd hf
    obtain ⟨p8, h8, hf⟩ := dh_bd hf
    refine g_callV (rc_O (ci := 1) rfl h7) (cG_X0_due _ E Mo p2.2 x0 v6 h8) q507 qG_X0_due (Nat.le_of_ble_eq_true rfl) (Nat.le_of_ble_eq_true rfl) rfl (dj_cat8 (Nat.le_of_ble_eq_true rfl)) dX0_net_20 ?_
    refine dg_l (fun _ _ _ _ _ _ _ hC => r_istore_n (lv' := [(1, .int p8), (0, dj_v E x0)]) hC dX0_net_23 rfl (Nat.le_of_ble_eq_true rfl) (by simp only [List.filter, dj_cat] <;> rfl)) ?_
    refine dg_l (fun _ _ _ _ _ _ _ hC => r_iconst hC dX0_net_24 ki_1) ?_
    refine dg_l (fun _ _ _ _ _ _ _ hC => r_istore_n (lv' := [(2, .int 1), (1, .int p8), (0, dj_v E x0)]) hC dX0_net_25 rfl (Nat.le_of_ble_eq_true rfl) rfl) ?_
    exact g_sub [2, 1, 0] rfl (wG_X0_net_L26 dh_fu p2.2 x0 p8 1 hf)
  · have hf := dh_if hf c3
    refine dg_l (fun _ _ _ _ _ _ _ hC => r_iconst hC dX0_net_8 ki_m1) ?_
    exact g_iret dX0_net_9 rfl hf
theorem cG_X0_net (l : Launch) (E : dj_E) (Mo : Option dm_M) (G : dg_G) (x0 : Nat) {p : Int32 × dg_G} (h : gG_X0_net G x0 = some p) : dg_Met l yX0_net cX0_net 3 (some .int) 6 134 E Mo [dj_v E x0] G (some (.int p.1)) p.2 :=
  dg_met (plainFor_of_name (by decide)) (by simp only [lg_sl_ref, lg_sl_int, lg_sl_long, lg_sl_nil]; decide) (by simp only [lv_args_ref, lv_args_int, lv_args_long, lv_args_nil]) (wG_X0_net G x0 h)
theorem qG_X0_net : dg_cV "DebtorsHouse" yX0_net cX0_net 3 (some .int) 0 := ⟨q573, Or.inl q574, q81, q575, by decide, by decide, by decide +kernel⟩
