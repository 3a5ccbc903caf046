set_option maxRecDepth 100000
/-! DebtorsHouse.lacks(II)J -/
abbrev tG_X0_lacks : dg_T := (cX0_lacks, 7, RX0, (some .long), 6, 130, "lacks", [])
def gG_X0_lacks_L21_F (k21 : (Nat → Int32 → Nat → Int64 → Int32 → Option Int64)) (G : dg_G) (x0 : Nat) (x1 : Int32) (x3 : Nat) (x4 : Int64) (x6 : Int32) : Option Int64 :=
  if 8 ≤ x6 then (
    (dg_gI G 3 0 x3).bind fun v7 =>
    (dg_is G 1 x0).bind fun u8 =>
    (gG_X0_owedBy G x0 v7).bind fun p9 =>
    (dg_gI G 3 5 x3).bind fun v10 =>
    (gG_J5_max_2 G 0 (((Int32.toInt64 p9) + (Int32.toInt64 v10)) - x4)).bind fun p11 =>
    some p11)
  else
  if ((x1 >>> (x6 &&& 31)) &&& 1) = 1 then (
    (dg_gR G 1 9 x0).bind fun v13 =>
    (dg_ld G 50 v13 x6).bind fun v14 =>
    (dg_gI G 3 0 x3).bind fun v15 =>
    (dg_is G 1 x0).bind fun u16 =>
    (gG_X0_dueTo G x0 v14 v15).bind fun p17 =>
    k21 x0 x1 x3 (x4 + (Int32.toInt64 p17)) (x6 + 1))
  else
  k21 x0 x1 x3 x4 (x6 + 1)
theorem wG_X0_lacks_L21_F {l : Launch} {E : dj_E} {Mo : Option dm_M} {r : Int64} (G : dg_G) (k21 : (Nat → Int32 → Nat → Int64 → Int32 → Option Int64)) (hk21 : ∀ (x0 : Nat) (x1 : Int32) (x3 : Nat) (x4 : Int64) (x6 : Int32), k21 x0 x1 x3 x4 x6 = some r → dgW tG_X0_lacks l E Mo G (.inr (some (.long r))) G 21 [(0, dj_v E x0), (1, .int x1), (3, dj_v E x3), (4, .long x4), (6, .int x6)] []) (x0 : Nat) (x1 : Int32) (x3 : Nat) (x4 : Int64) (x6 : Int32) (hf : gG_X0_lacks_L21_F k21 G x0 x1 x3 x4 x6 = some r) : dgW tG_X0_lacks l E Mo G (.inr (some (.long r))) G 21 [(0, dj_v E x0), (1, .int x1), (3, dj_v E x3), (4, .long x4), (6, .int x6)] [] := by
  unfold gG_X0_lacks_L21_F at hf
  refine dg_l (fun _ _ _ _ _ _ _ hC => r_iload hC dX0_lacks_21 (j := 4) rfl) ?_
  refine dg_l (fun _ _ _ _ _ _ _ hC => r_bipush hC dX0_lacks_23 kb_8) ?_
  refine dg_b (fun _ _ _ _ _ _ _ hC => r_icmp_ge hC dX0_lacks_25 (tgt := 65) (by decide)) (fun c6 => ?_) (fun c6 => ?_)
  · have hf := dh_if hf c6
    refine dg_l (fun _ _ _ _ _ _ _ hC => r_lconst hC dX0_lacks_65 kl_0) ?_
    refine g_aload_n dX0_lacks_66 rfl (j := 0) rfl ?_
    refine g_aload_n dX0_lacks_67 rfl (j := 2) rfl ?_
    obtain ⟨v7, h7, hf⟩ := dh_bd hf
    refine g_getI fR_X0_256 (by decide) h7 dX0_lacks_68 ?_
    obtain ⟨u8, h8, hf⟩ := dh_bd hf
    obtain ⟨p9, h9, hf⟩ := dh_bd hf
    refine g_callV (rc_O (ci := 1) rfl h8) (cG_X0_owedBy _ E Mo G x0 v7 h9) q1214 qG_X0_owedBy (Nat.le_of_ble_eq_true rfl) (Nat.le_of_ble_eq_true rfl) rfl (dj_cat8 (Nat.le_of_ble_eq_true rfl)) dX0_lacks_71 ?_
    refine dg_l (fun _ _ _ _ _ _ _ hC => r_i2l hC dX0_lacks_74) ?_
    refine g_aload_n dX0_lacks_75 rfl (j := 2) rfl ?_
    obtain ⟨v10, h10, hf⟩ := dh_bd hf
    refine g_getI fR_X0_329 (by decide) h10 dX0_lacks_76 ?_
    refine dg_l (fun _ _ _ _ _ _ _ hC => r_i2l hC dX0_lacks_79) ?_
    refine dg_l (fun _ _ _ _ _ _ _ hC => r_ladd hC dX0_lacks_80) ?_
    refine dg_l (fun _ _ _ _ _ _ _ hC => r_lload hC dX0_lacks_81 (j := 3) rfl) ?_
    refine dg_l (fun _ _ _ _ _ _ _ hC => r_lsub hC dX0_lacks_83) ?_
    obtain ⟨p11, h11, hf⟩ := dh_bd hf
    refine g_callS (cG_J5_max_2 _ E Mo G 0 (((Int32.toInt64 p9) + (Int32.toInt64 v10)) - x4) h11) q1322 qG_J5_max_2 (Nat.le_of_ble_eq_true rfl) (Nat.le_of_ble_eq_true rfl) rfl (dj_cat8 (Nat.le_of_ble_eq_true rfl)) dX0_lacks_84 ?_
    exact g_lret1 dX0_lacks_87 rfl hf
  · have hf := dh_el hf c6
    refine dg_l (fun _ _ _ _ _ _ _ hC => r_iload_n hC dX0_lacks_28 rfl (j := 1) rfl) ?_
    refine dg_l (fun _ _ _ _ _ _ _ hC => r_iload hC dX0_lacks_29 (j := 4) rfl) ?_
    refine dg_l (fun _ _ _ _ _ _ _ hC => r_ishr hC dX0_lacks_31) ?_
    refine dg_l (fun _ _ _ _ _ _ _ hC => r_iconst hC dX0_lacks_32 ki_1) ?_
    refine dg_l (fun _ _ _ _ _ _ _ hC => r_iand hC dX0_lacks_33) ?_
    refine dg_l (fun _ _ _ _ _ _ _ hC => r_iconst hC dX0_lacks_34 ki_1) ?_
    refine dg_bn (fun _ _ _ _ _ _ _ hC => r_icmp_ne hC dX0_lacks_35 (tgt := 59) (by decide)) (fun c12 => ?_) (fun c12 => ?_)
    · have hf := dh_el hf c12
      refine dg_l (fun _ _ _ _ _ _ _ hC => r_iinc (lv' := [(6, .int (x6 + 1)), (0, dj_v E x0), (1, .int x1), (3, dj_v E x3), (4, .long x4)]) hC dX0_lacks_59 (j := 4) rfl (congrArg _ ki_1) (Nat.le_of_ble_eq_true rfl) rfl) ?_
      refine dg_l (fun _ _ _ _ _ _ _ hC => r_goto hC dX0_lacks_62 (tgt := 21) (by decide)) ?_
      exact g_sub [1, 2, 3, 4, 0] rfl (hk21 x0 x1 x3 x4 (x6 + 1) hf)
    · have hf := dh_if hf c12
      refine dg_l (fun _ _ _ _ _ _ _ hC => r_lload hC dX0_lacks_38 (j := 3) rfl) ?_
      refine g_aload_n dX0_lacks_40 rfl (j := 0) rfl ?_
      refine g_aload_n dX0_lacks_41 rfl (j := 0) rfl ?_
      obtain ⟨v13, h13, hf⟩ := dh_bd hf
      refine g_getR fR_X0_48 (by decide) h13 dX0_lacks_42 ?_
      refine dg_l (fun _ _ _ _ _ _ _ hC => r_iload hC dX0_lacks_45 (j := 4) rfl) ?_
      obtain ⟨v14, h14, hf⟩ := dh_bd hf
      refine g_iald h14 dX0_lacks_47 ?_
      refine g_aload_n dX0_lacks_48 rfl (j := 2) rfl ?_
      obtain ⟨v15, h15, hf⟩ := dh_bd hf
      refine g_getI fR_X0_256 (by decide) h15 dX0_lacks_49 ?_
      obtain ⟨u16, h16, hf⟩ := dh_bd hf
      obtain ⟨p17, h17, hf⟩ := dh_bd hf
      refine g_callV (rc_O (ci := 1) rfl h16) (cG_X0_dueTo _ E Mo G x0 v14 v15 h17) q1318 qG_X0_dueTo (Nat.le_of_ble_eq_true rfl) (Nat.le_of_ble_eq_true rfl) rfl (dj_cat8 (Nat.le_of_ble_eq_true rfl)) dX0_lacks_52 ?_
      refine dg_l (fun _ _ _ _ _ _ _ hC => r_i2l hC dX0_lacks_55) ?_
      refine dg_l (fun _ _ _ _ _ _ _ hC => r_ladd hC dX0_lacks_56) ?_
      refine dg_l (fun _ _ _ _ _ _ _ hC => r_lstore (lv' := [(4, .long (x4 + (Int32.toInt64 p17))), (0, dj_v E x0), (1, .int x1), (3, dj_v E x3), (6, .int x6)]) hC dX0_lacks_57 (Nat.le_of_ble_eq_true rfl) (by simp only [List.filter, dj_cat] <;> rfl)) ?_
      refine dg_l (fun _ _ _ _ _ _ _ hC => r_iinc (lv' := [(6, .int (x6 + 1)), (4, .long (x4 + (Int32.toInt64 p17))), (0, dj_v E x0), (1, .int x1), (3, dj_v E x3)]) hC dX0_lacks_59 (j := 4) rfl (congrArg _ ki_1) (Nat.le_of_ble_eq_true rfl) rfl) ?_
      refine dg_l (fun _ _ _ _ _ _ _ hC => r_goto hC dX0_lacks_62 (tgt := 21) (by decide)) ?_
      exact g_sub [2, 3, 4, 1, 0] rfl (hk21 x0 x1 x3 (x4 + (Int32.toInt64 p17)) (x6 + 1) hf)
def gG_X0_lacks_L21 (G : dg_G) : Nat → Nat → Int32 → Nat → Int64 → Int32 → Option Int64
  | 0 => fun _ _ _ _ _ => none
  | n + 1 => gG_X0_lacks_L21_F (gG_X0_lacks_L21 G n) G
theorem wG_X0_lacks_L21 {l : Launch} {E : dj_E} {Mo : Option dm_M} {r : Int64} (G : dg_G) : ∀ (n : Nat) (x0 : Nat) (x1 : Int32) (x3 : Nat) (x4 : Int64) (x6 : Int32) (_ : gG_X0_lacks_L21 G n x0 x1 x3 x4 x6 = some r), dgW tG_X0_lacks l E Mo G (.inr (some (.long r))) G 21 [(0, dj_v E x0), (1, .int x1), (3, dj_v E x3), (4, .long x4), (6, .int x6)] [] := by
  intro n
  induction n with
  | zero => intro x0 x1 x3 x4 x6 hf; exact dh_no hf
  | succ n ih => intro x0 x1 x3 x4 x6 hf; exact wG_X0_lacks_L21_F G (gG_X0_lacks_L21 G n) ih x0 x1 x3 x4 x6 hf
def gG_X0_lacks (G : dg_G) (x0 : Nat) (x1 : Int32) (x2 : Int32) : Option Int64 :=
  (dg_gR G 1 9 x0).bind fun v1 =>
  (dg_ld G 50 v1 x2).bind fun v2 =>
  (dg_is G 1 x0).bind fun u3 =>
  (gG_X0_at G x0 v2).bind fun p4 =>
  (dg_gI G 3 2 p4).bind fun v5 =>
  gG_X0_lacks_L21 G dh_fu x0 x1 p4 (Int32.toInt64 v5) 0
theorem wG_X0_lacks {l : Launch} {E : dj_E} {Mo : Option dm_M} {r : Int64} (G : dg_G) (x0 : Nat) (x1 : Int32) (x2 : Int32) (hf : gG_X0_lacks G x0 x1 x2 = some r) : dgW tG_X0_lacks l E Mo G (.inr (some (.long r))) G 0 [(0, dj_v E x0), (1, .int x1), (2, .int x2)] [] := by
  unfold gG_X0_lacks at hf
  refine g_aload_n dX0_lacks_0 rfl (j := 0) rfl ?_
  refine g_aload_n dX0_lacks_1 rfl (j := 0) rfl ?_
  obtain ⟨v1, h1, hf⟩ := dh_bd hf
  refine g_getR fR_X0_48 (by decide) h1 dX0_lacks_2 ?_
  refine dg_l (fun _ _ _ _ _ _ _ hC => r_iload_n hC dX0_lacks_5 rfl (j := 2) rfl) ?_
  obtain ⟨v2, h2, hf⟩ := dh_bd hf
  refine g_iald h2 dX0_lacks_6 ?_
  obtain ⟨u3, h3, hf⟩ := dh_bd hf
  obtain ⟨p4, h4, hf⟩ := dh_bd hf
  refine g_callV (rc_O (ci := 1) rfl h3) (cG_X0_at _ E Mo G x0 v2 h4) q525 qG_X0_at (Nat.le_of_ble_eq_true rfl) (Nat.le_of_ble_eq_true rfl) rfl (dj_cat8 (Nat.le_of_ble_eq_true rfl)) dX0_lacks_7 ?_
  refine g_astore_n (i := 3) (lv1 := [(3, dj_v E p4), (0, dj_v E x0), (1, .int x1), (2, .int x2)]) dX0_lacks_10 rfl (Nat.le_of_ble_eq_true rfl) rfl ?_
  refine g_aload_n dX0_lacks_11 rfl (j := 0) rfl ?_
  obtain ⟨v5, h5, hf⟩ := dh_bd hf
  refine g_getI fR_X0_134 (by decide) h5 dX0_lacks_12 ?_
  refine dg_l (fun _ _ _ _ _ _ _ hC => r_i2l hC dX0_lacks_15) ?_
  refine dg_l (fun _ _ _ _ _ _ _ hC => r_lstore (lv' := [(4, .long (Int32.toInt64 v5)), (3, dj_v E p4), (0, dj_v E x0), (1, .int x1), (2, .int x2)]) hC dX0_lacks_16 (Nat.le_of_ble_eq_true rfl) (by simp only [List.filter, dj_cat] <;> rfl)) ?_
  refine dg_l (fun _ _ _ _ _ _ _ hC => r_iconst hC dX0_lacks_18 ki_0) ?_
  refine dg_l (fun _ _ _ _ _ _ _ hC => r_istore (lv' := [(6, .int 0), (4, .long (Int32.toInt64 v5)), (3, dj_v E p4), (0, dj_v E x0), (1, .int x1), (2, .int x2)]) hC dX0_lacks_19 (Nat.le_of_ble_eq_true rfl) rfl) ?_
  exact g_sub [3, 4, 2, 1, 0] rfl (wG_X0_lacks_L21 G dh_fu x0 x1 p4 (Int32.toInt64 v5) 0 hf)
theorem cG_X0_lacks (l : Launch) (E : dj_E) (Mo : Option dm_M) (G : dg_G) (x0 : Nat) (x1 : Int32) (x2 : Int32) {r : Int64} (h : gG_X0_lacks G x0 x1 x2 = some r) : dg_Met l yX0_lacks cX0_lacks 7 (some .long) 6 130 E Mo [dj_v E x0, .int x1, .int x2] G (some (.long r)) G :=
  dg_met (plainFor_of_name (by decide)) (by simp only [lg_sl_ref, lg_sl_int, lg_sl_long, lg_sl_nil]; decide) (by simp only [lv_args_ref, lv_args_int, lv_args_long, lv_args_nil]) (wG_X0_lacks G x0 x1 x2 h)
theorem qG_X0_lacks : dg_cV "DebtorsHouse" yX0_lacks cX0_lacks 7 (some .long) 2 := ⟨q1316, Or.inl qs36, q81, q1317, by decide, by decide, by decide +kernel⟩
/-! DebtorsHouse.free(II)I -/
abbrev tG_X0_free : dg_T := (cX0_free, 8, RX0, (some .int), 7, 156, "free", [])
def gG_X0_free_L252_F (k252 : (dg_G → Nat → Int32 → Int32 → Int32 → Int32 → Int32 → Option (Int32 × dg_G))) (G : dg_G) (x0 : Nat) (x2 : Int32) (x3 : Int32) (x4 : Int32) (x5 : Int32) (x6 : Int32) : Option (Int32 × dg_G) :=
  if ¬ (x3 ≤ x6) then (
    if ((x4 >>> (x6 &&& 31)) &&& 1) = 1 then (
      (dg_gR G 1 9 x0).bind fun v20 =>
      (dg_ld G 50 v20 x6).bind fun v21 =>
      k252 G x0 x2 x3 x4 (x5 ||| (1 <<< (v21 &&& 31))) (x6 + 1))
    else
    k252 G x0 x2 x3 x4 x5 (x6 + 1))
  else
  if x2 = 0 then (
    (gG_J17_bitCount G x4).bind fun p18 =>
    some (p18, G))
  else
  if x2 = 1 then (
    some (x5, G))
  else
  (dg_gR G 1 8 x0).bind fun v16 =>
  (dg_ldL G v16 x4).bind fun v17 =>
  some (Int64.toInt32 v17, G)
theorem wG_X0_free_L252_F {l : Launch} {E : dj_E} {Mo : Option dm_M} {r : Int32} {G' : dg_G} (k252 : (dg_G → Nat → Int32 → Int32 → Int32 → Int32 → Int32 → Option (Int32 × dg_G))) (hk252 : ∀ (G : dg_G) (x0 : Nat) (x2 : Int32) (x3 : Int32) (x4 : Int32) (x5 : Int32) (x6 : Int32), k252 G x0 x2 x3 x4 x5 x6 = some (r, G') → dgW tG_X0_free l E Mo G' (.inr (some (.int r))) G 252 [(0, dj_v E x0), (2, .int x2), (3, .int x3), (4, .int x4), (5, .int x5), (6, .int x6)] []) (G : dg_G) (x0 : Nat) (x2 : Int32) (x3 : Int32) (x4 : Int32) (x5 : Int32) (x6 : Int32) (hf : gG_X0_free_L252_F k252 G x0 x2 x3 x4 x5 x6 = some (r, G')) : dgW tG_X0_free l E Mo G' (.inr (some (.int r))) G 252 [(0, dj_v E x0), (2, .int x2), (3, .int x3), (4, .int x4), (5, .int x5), (6, .int x6)] [] := by
  unfold gG_X0_free_L252_F at hf
  refine dg_l (fun _ _ _ _ _ _ _ hC => r_iload hC dX0_free_252 (j := 5) rfl) ?_
  refine dg_l (fun _ _ _ _ _ _ _ hC => r_iload_n hC dX0_free_254 rfl (j := 2) rfl) ?_
  refine dg_b (fun _ _ _ _ _ _ _ hC => r_icmp_ge hC dX0_free_255 (tgt := 289) (by decide)) (fun c13 => ?_) (fun c13 => ?_)
  · have hf := dh_el hf (fun q => q c13)
    refine dg_l (fun _ _ _ _ _ _ _ hC => r_iload_n hC dX0_free_289 rfl (j := 1) rfl) ?_
    refine dg_bn (fun _ _ _ _ _ _ _ hC => r_if_ne hC dX0_free_290 (tgt := 301) (by decide)) (fun c14 => ?_) (fun c14 => ?_)
    · have hf := dh_el hf c14
      refine dg_l (fun _ _ _ _ _ _ _ hC => r_iload_n hC dX0_free_301 rfl (j := 1) rfl) ?_
      refine dg_l (fun _ _ _ _ _ _ _ hC => r_iconst hC dX0_free_302 ki_1) ?_
      refine dg_bn (fun _ _ _ _ _ _ _ hC => r_icmp_ne hC dX0_free_303 (tgt := 311) (by decide)) (fun c15 => ?_) (fun c15 => ?_)
      · have hf := dh_el hf c15
        refine g_aload_n dX0_free_311 rfl (j := 0) rfl ?_
        obtain ⟨v16, h16, hf⟩ := dh_bd hf
        refine g_getR fR_X0_45 (by decide) h16 dX0_free_312 ?_
        refine dg_l (fun _ _ _ _ _ _ _ hC => r_iload hC dX0_free_315 (j := 3) rfl) ?_
        obtain ⟨v17, h17, hf⟩ := dh_bd hf
        refine g_lald h17 dX0_free_317 ?_
        refine dg_l (fun _ _ _ _ _ _ _ hC => r_l2i hC dX0_free_318) ?_
        exact g_iret dX0_free_319 rfl hf
      · have hf := dh_if hf c15
        refine dg_l (fun _ _ _ _ _ _ _ hC => r_iload hC dX0_free_306 (j := 4) rfl) ?_
        refine dg_l (fun _ _ _ _ _ _ _ hC => r_goto hC dX0_free_308 (tgt := 319) (by decide)) ?_
        exact g_iret dX0_free_319 rfl hf
    · have hf := dh_if hf c14
      refine dg_l (fun _ _ _ _ _ _ _ hC => r_iload hC dX0_free_293 (j := 3) rfl) ?_
      obtain ⟨p18, h18, hf⟩ := dh_bd hf
      refine g_callS (cG_J17_bitCount _ E Mo G x4 h18) q1328 qG_J17_bitCount (Nat.le_of_ble_eq_true rfl) (Nat.le_of_ble_eq_true rfl) rfl (dj_cat8 (Nat.le_of_ble_eq_true rfl)) dX0_free_295 ?_
      refine dg_l (fun _ _ _ _ _ _ _ hC => r_goto hC dX0_free_298 (tgt := 319) (by decide)) ?_
      exact g_iret dX0_free_319 rfl hf
  · have hf := dh_if hf c13
    refine dg_l (fun _ _ _ _ _ _ _ hC => r_iload hC dX0_free_258 (j := 3) rfl) ?_
    refine dg_l (fun _ _ _ _ _ _ _ hC => r_iload hC dX0_free_260 (j := 5) rfl) ?_
    refine dg_l (fun _ _ _ _ _ _ _ hC => r_ishr hC dX0_free_262) ?_
    refine dg_l (fun _ _ _ _ _ _ _ hC => r_iconst hC dX0_free_263 ki_1) ?_
    refine dg_l (fun _ _ _ _ _ _ _ hC => r_iand hC dX0_free_264) ?_
    refine dg_l (fun _ _ _ _ _ _ _ hC => r_iconst hC dX0_free_265 ki_1) ?_
    refine dg_bn (fun _ _ _ _ _ _ _ hC => r_icmp_ne hC dX0_free_266 (tgt := 283) (by decide)) (fun c19 => ?_) (fun c19 => ?_)
    · have hf := dh_el hf c19
      refine dg_l (fun _ _ _ _ _ _ _ hC => r_iinc (lv' := [(6, .int (x6 + 1)), (0, dj_v E x0), (2, .int x2), (3, .int x3), (4, .int x4), (5, .int x5)]) hC dX0_free_283 (j := 5) rfl (congrArg _ ki_1) (Nat.le_of_ble_eq_true rfl) rfl) ?_
      refine dg_l (fun _ _ _ _ _ _ _ hC => r_goto hC dX0_free_286 (tgt := 252) (by decide)) ?_
      exact g_sub [1, 2, 3, 4, 5, 0] rfl (hk252 G x0 x2 x3 x4 x5 (x6 + 1) hf)
    · have hf := dh_if hf c19
      refine dg_l (fun _ _ _ _ _ _ _ hC => r_iload hC dX0_free_269 (j := 4) rfl) ?_
      refine dg_l (fun _ _ _ _ _ _ _ hC => r_iconst hC dX0_free_271 ki_1) ?_
      refine g_aload_n dX0_free_272 rfl (j := 0) rfl ?_
      obtain ⟨v20, h20, hf⟩ := dh_bd hf
      refine g_getR fR_X0_48 (by decide) h20 dX0_free_273 ?_
      refine dg_l (fun _ _ _ _ _ _ _ hC => r_iload hC dX0_free_276 (j := 5) rfl) ?_
      obtain ⟨v21, h21, hf⟩ := dh_bd hf
      refine g_iald h21 dX0_free_278 ?_
      refine dg_l (fun _ _ _ _ _ _ _ hC => r_ishl hC dX0_free_279) ?_
      refine dg_l (fun _ _ _ _ _ _ _ hC => r_ior hC dX0_free_280) ?_
      refine dg_l (fun _ _ _ _ _ _ _ hC => r_istore (lv' := [(5, .int (x5 ||| (1 <<< (v21 &&& 31)))), (0, dj_v E x0), (2, .int x2), (3, .int x3), (4, .int x4), (6, .int x6)]) hC dX0_free_281 (Nat.le_of_ble_eq_true rfl) rfl) ?_
      refine dg_l (fun _ _ _ _ _ _ _ hC => r_iinc (lv' := [(6, .int (x6 + 1)), (5, .int (x5 ||| (1 <<< (v21 &&& 31)))), (0, dj_v E x0), (2, .int x2), (3, .int x3), (4, .int x4)]) hC dX0_free_283 (j := 5) rfl (congrArg _ ki_1) (Nat.le_of_ble_eq_true rfl) rfl) ?_
      refine dg_l (fun _ _ _ _ _ _ _ hC => r_goto hC dX0_free_286 (tgt := 252) (by decide)) ?_
      exact g_sub [2, 3, 4, 5, 1, 0] rfl (hk252 G x0 x2 x3 x4 (x5 ||| (1 <<< (v21 &&& 31))) (x6 + 1) hf)
def gG_X0_free_L252 : Nat → dg_G → Nat → Int32 → Int32 → Int32 → Int32 → Int32 → Option (Int32 × dg_G)
  | 0 => fun _ _ _ _ _ _ _ => none
  | n + 1 => gG_X0_free_L252_F (gG_X0_free_L252 n)
theorem wG_X0_free_L252 {l : Launch} {E : dj_E} {Mo : Option dm_M} {r : Int32} {G' : dg_G} : ∀ (n : Nat) (G : dg_G) (x0 : Nat) (x2 : Int32) (x3 : Int32) (x4 : Int32) (x5 : Int32) (x6 : Int32) (_ : gG_X0_free_L252 n G x0 x2 x3 x4 x5 x6 = some (r, G')), dgW tG_X0_free l E Mo G' (.inr (some (.int r))) G 252 [(0, dj_v E x0), (2, .int x2), (3, .int x3), (4, .int x4), (5, .int x5), (6, .int x6)] [] := by
  intro n
  induction n with
  | zero => intro G x0 x2 x3 x4 x5 x6 hf; exact dh_no hf
  | succ n ih => intro G x0 x2 x3 x4 x5 x6 hf; exact wG_X0_free_L252_F (gG_X0_free_L252 n) ih G x0 x2 x3 x4 x5 x6 hf
def gG_X0_free_L113_F (k92 : (dg_G → Nat → Int32 → Int32 → Int32 → Int32 → Int32 → Option (Int32 × dg_G))) (k113 : (dg_G → Nat → Int32 → Int32 → Int32 → Int32 → Int32 → Int32 → Option (Int32 × dg_G))) (G : dg_G) (x0 : Nat) (x1 : Int32) (x2 : Int32) (x3 : Int32) (x4 : Int32) (x5 : Int32) (x6 : Int32) : Option (Int32 × dg_G) :=
  if ¬ (x3 ≤ x6) then (
    if ((x5 >>> (x6 &&& 31)) &&& 1) = 0 then (
      k113 G x0 x1 x2 x3 x4 x5 (x6 + 1))
    else
    (dg_gR G 1 8 x0).bind fun v38 =>
    (dg_gR G 1 8 x0).bind fun v39 =>
    (dg_ldL G v39 x5).bind fun v40 =>
    (dg_gR G 1 8 x0).bind fun v41 =>
    (dg_ldL G v41 (x5 &&& ((1 <<< (x6 &&& 31)) ^^^ (-1)))).bind fun v42 =>
    (dg_is G 1 x0).bind fun u43 =>
    (gG_X0_lacks G x0 (x5 &&& ((1 <<< (x6 &&& 31)) ^^^ (-1))) x6).bind fun p44 =>
    (gG_J5_min_2 G v40 (v42 + p44)).bind fun p45 =>
    (dg_stL G v38 x5 p45).bind fun G46 =>
    k113 G46 x0 x1 x2 x3 x4 x5 (x6 + 1))
  else
  (gG_J17_bitCount G x5).bind fun p25 =>
  (gG_J17_bitCount G x4).bind fun p26 =>
  (dg_gR G 1 8 x0).bind fun v27 =>
  (dg_ldL G v27 x5).bind fun v28 =>
  if 0 < (lg_cmp v28 (Int32.toInt64 x1)) then (
    k92 G x0 x1 x2 x3 x4 (x5 + 1))
  else
  if 0 < (p25 - p26) then (
    k92 G x0 x1 x2 x3 x5 (x5 + 1))
  else
  if (p25 - p26) = 0 then (
    (dg_gR G 1 8 x0).bind fun v32 =>
    (dg_ldL G v32 x5).bind fun v33 =>
    (dg_gR G 1 8 x0).bind fun v34 =>
    (dg_ldL G v34 x4).bind fun v35 =>
    if 0 ≤ (lg_cmp v33 v35) then (
      k92 G x0 x1 x2 x3 x4 (x5 + 1))
    else
    k92 G x0 x1 x2 x3 x5 (x5 + 1))
  else
  k92 G x0 x1 x2 x3 x4 (x5 + 1)
theorem wG_X0_free_L113_F {l : Launch} {E : dj_E} {Mo : Option dm_M} {r : Int32} {G' : dg_G} (k92 : (dg_G → Nat → Int32 → Int32 → Int32 → Int32 → Int32 → Option (Int32 × dg_G))) (hk92 : ∀ (G : dg_G) (x0 : Nat) (x1 : Int32) (x2 : Int32) (x3 : Int32) (x4 : Int32) (x5 : Int32), k92 G x0 x1 x2 x3 x4 x5 = some (r, G') → dgW tG_X0_free l E Mo G' (.inr (some (.int r))) G 92 [(0, dj_v E x0), (1, .int x1), (2, .int x2), (3, .int x3), (4, .int x4), (5, .int x5)] []) (k113 : (dg_G → Nat → Int32 → Int32 → Int32 → Int32 → Int32 → Int32 → Option (Int32 × dg_G))) (hk113 : ∀ (G : dg_G) (x0 : Nat) (x1 : Int32) (x2 : Int32) (x3 : Int32) (x4 : Int32) (x5 : Int32) (x6 : Int32), k113 G x0 x1 x2 x3 x4 x5 x6 = some (r, G') → dgW tG_X0_free l E Mo G' (.inr (some (.int r))) G 113 [(0, dj_v E x0), (1, .int x1), (2, .int x2), (3, .int x3), (4, .int x4), (5, .int x5), (6, .int x6)] []) (G : dg_G) (x0 : Nat) (x1 : Int32) (x2 : Int32) (x3 : Int32) (x4 : Int32) (x5 : Int32) (x6 : Int32) (hf : gG_X0_free_L113_F k92 k113 G x0 x1 x2 x3 x4 x5 x6 = some (r, G')) : dgW tG_X0_free l E Mo G' (.inr (some (.int r))) G 113 [(0, dj_v E x0), (1, .int x1), (2, .int x2), (3, .int x3), (4, .int x4), (5, .int x5), (6, .int x6)] [] := by
  unfold gG_X0_free_L113_F at hf
  refine dg_l (fun _ _ _ _ _ _ _ hC => r_iload hC dX0_free_113 (j := 6) rfl) ?_
  refine dg_l (fun _ _ _ _ _ _ _ hC => r_iload_n hC dX0_free_115 rfl (j := 3) rfl) ?_
  refine dg_b (fun _ _ _ _ _ _ _ hC => r_icmp_ge hC dX0_free_116 (tgt := 182) (by decide)) (fun c24 => ?_) (fun c24 => ?_)
  · have hf := dh_el hf (fun q => q c24)
    refine dg_l (fun _ _ _ _ _ _ _ hC => r_iload hC dX0_free_182 (j := 5) rfl) ?_
    obtain ⟨p25, h25, hf⟩ := dh_bd hf
    refine g_callS (cG_J17_bitCount _ E Mo G x5 h25) q1328 qG_J17_bitCount (Nat.le_of_ble_eq_true rfl) (Nat.le_of_ble_eq_true rfl) rfl (dj_cat8 (Nat.le_of_ble_eq_true rfl)) dX0_free_184 ?_
    refine dg_l (fun _ _ _ _ _ _ _ hC => r_iload hC dX0_free_187 (j := 4) rfl) ?_
    obtain ⟨p26, h26, hf⟩ := dh_bd hf
    refine g_callS (cG_J17_bitCount _ E Mo G x4 h26) q1328 qG_J17_bitCount (Nat.le_of_ble_eq_true rfl) (Nat.le_of_ble_eq_true rfl) rfl (dj_cat8 (Nat.le_of_ble_eq_true rfl)) dX0_free_189 ?_
    refine dg_l (fun _ _ _ _ _ _ _ hC => r_isub hC dX0_free_192) ?_
    refine dg_l (fun _ _ _ _ _ _ _ hC => r_istore (lv' := [(6, .int (p25 - p26)), (0, dj_v E x0), (1, .int x1), (2, .int x2), (3, .int x3), (4, .int x4), (5, .int x5)]) hC dX0_free_193 (Nat.le_of_ble_eq_true rfl) rfl) ?_
    refine g_aload_n dX0_free_195 rfl (j := 1) rfl ?_
    obtain ⟨v27, h27, hf⟩ := dh_bd hf
    refine g_getR fR_X0_45 (by decide) h27 dX0_free_196 ?_
    refine dg_l (fun _ _ _ _ _ _ _ hC => r_iload hC dX0_free_199 (j := 6) rfl) ?_
    obtain ⟨v28, h28, hf⟩ := dh_bd hf
    refine g_lald h28 dX0_free_201 ?_
    refine dg_l (fun _ _ _ _ _ _ _ hC => r_iload_n hC dX0_free_202 rfl (j := 2) rfl) ?_
    refine dg_l (fun _ _ _ _ _ _ _ hC => r_i2l hC dX0_free_203) ?_
    refine dg_l (fun _ _ _ _ _ _ _ hC => r_lcmp hC dX0_free_204) ?_
    refine dg_b (fun _ _ _ _ _ _ _ hC => r_if_gt hC dX0_free_205 (tgt := 240) (by decide)) (fun c29 => ?_) (fun c29 => ?_)
    · have hf := dh_if hf c29
      refine dg_l (fun _ _ _ _ _ _ _ hC => r_iinc (lv' := [(5, .int (x5 + 1)), (6, .int (p25 - p26)), (0, dj_v E x0), (1, .int x1), (2, .int x2), (3, .int x3), (4, .int x4)]) hC dX0_free_240 (j := 6) rfl (congrArg _ ki_1) (Nat.le_of_ble_eq_true rfl) rfl) ?_
      refine dg_l (fun _ _ _ _ _ _ _ hC => r_goto hC dX0_free_243 (tgt := 92) (by decide)) ?_
      exact g_sub [2, 3, 4, 5, 6, 0] rfl (hk92 G x0 x1 x2 x3 x4 (x5 + 1) hf)
    · have hf := dh_el hf c29
      refine dg_l (fun _ _ _ _ _ _ _ hC => r_iload hC dX0_free_208 (j := 0) rfl) ?_
      refine dg_b (fun _ _ _ _ _ _ _ hC => r_if_gt hC dX0_free_210 (tgt := 236) (by decide)) (fun c30 => ?_) (fun c30 => ?_)
      · have hf := dh_if hf c30
        refine dg_l (fun _ _ _ _ _ _ _ hC => r_iload hC dX0_free_236 (j := 6) rfl) ?_
        refine dg_l (fun _ _ _ _ _ _ _ hC => r_istore (lv' := [(4, .int x5), (6, .int (p25 - p26)), (0, dj_v E x0), (1, .int x1), (2, .int x2), (3, .int x3), (5, .int x5)]) hC dX0_free_238 (Nat.le_of_ble_eq_true rfl) rfl) ?_
        refine dg_l (fun _ _ _ _ _ _ _ hC => r_iinc (lv' := [(5, .int (x5 + 1)), (4, .int x5), (6, .int (p25 - p26)), (0, dj_v E x0), (1, .int x1), (2, .int x2), (3, .int x3)]) hC dX0_free_240 (j := 6) rfl (congrArg _ ki_1) (Nat.le_of_ble_eq_true rfl) rfl) ?_
        refine dg_l (fun _ _ _ _ _ _ _ hC => r_goto hC dX0_free_243 (tgt := 92) (by decide)) ?_
        exact g_sub [3, 4, 5, 6, 1, 0] rfl (hk92 G x0 x1 x2 x3 x5 (x5 + 1) hf)
      · have hf := dh_el hf c30
        refine dg_l (fun _ _ _ _ _ _ _ hC => r_iload hC dX0_free_213 (j := 0) rfl) ?_
        refine dg_bn (fun _ _ _ _ _ _ _ hC => r_if_ne hC dX0_free_215 (tgt := 240) (by decide)) (fun c31 => ?_) (fun c31 => ?_)
        · have hf := dh_el hf c31
          refine dg_l (fun _ _ _ _ _ _ _ hC => r_iinc (lv' := [(5, .int (x5 + 1)), (6, .int (p25 - p26)), (0, dj_v E x0), (1, .int x1), (2, .int x2), (3, .int x3), (4, .int x4)]) hC dX0_free_240 (j := 6) rfl (congrArg _ ki_1) (Nat.le_of_ble_eq_true rfl) rfl) ?_
          refine dg_l (fun _ _ _ _ _ _ _ hC => r_goto hC dX0_free_243 (tgt := 92) (by decide)) ?_
          exact g_sub [2, 3, 4, 5, 6, 0] rfl (hk92 G x0 x1 x2 x3 x4 (x5 + 1) hf)
        · have hf := dh_if hf c31
          refine g_aload_n dX0_free_218 rfl (j := 1) rfl ?_
          obtain ⟨v32, h32, hf⟩ := dh_bd hf
          refine g_getR fR_X0_45 (by decide) h32 dX0_free_219 ?_
          refine dg_l (fun _ _ _ _ _ _ _ hC => r_iload hC dX0_free_222 (j := 6) rfl) ?_
          obtain ⟨v33, h33, hf⟩ := dh_bd hf
          refine g_lald h33 dX0_free_224 ?_
          refine g_aload_n dX0_free_225 rfl (j := 1) rfl ?_
          obtain ⟨v34, h34, hf⟩ := dh_bd hf
          refine g_getR fR_X0_45 (by decide) h34 dX0_free_226 ?_
          refine dg_l (fun _ _ _ _ _ _ _ hC => r_iload hC dX0_free_229 (j := 5) rfl) ?_
          obtain ⟨v35, h35, hf⟩ := dh_bd hf
          refine g_lald h35 dX0_free_231 ?_
          refine dg_l (fun _ _ _ _ _ _ _ hC => r_lcmp hC dX0_free_232) ?_
          refine dg_b (fun _ _ _ _ _ _ _ hC => r_if_ge hC dX0_free_233 (tgt := 240) (by decide)) (fun c36 => ?_) (fun c36 => ?_)
          · have hf := dh_if hf c36
            refine dg_l (fun _ _ _ _ _ _ _ hC => r_iinc (lv' := [(5, .int (x5 + 1)), (6, .int (p25 - p26)), (0, dj_v E x0), (1, .int x1), (2, .int x2), (3, .int x3), (4, .int x4)]) hC dX0_free_240 (j := 6) rfl (congrArg _ ki_1) (Nat.le_of_ble_eq_true rfl) rfl) ?_
            refine dg_l (fun _ _ _ _ _ _ _ hC => r_goto hC dX0_free_243 (tgt := 92) (by decide)) ?_
            exact g_sub [2, 3, 4, 5, 6, 0] rfl (hk92 G x0 x1 x2 x3 x4 (x5 + 1) hf)
          · have hf := dh_el hf c36
            refine dg_l (fun _ _ _ _ _ _ _ hC => r_iload hC dX0_free_236 (j := 6) rfl) ?_
            refine dg_l (fun _ _ _ _ _ _ _ hC => r_istore (lv' := [(4, .int x5), (6, .int (p25 - p26)), (0, dj_v E x0), (1, .int x1), (2, .int x2), (3, .int x3), (5, .int x5)]) hC dX0_free_238 (Nat.le_of_ble_eq_true rfl) rfl) ?_
            refine dg_l (fun _ _ _ _ _ _ _ hC => r_iinc (lv' := [(5, .int (x5 + 1)), (4, .int x5), (6, .int (p25 - p26)), (0, dj_v E x0), (1, .int x1), (2, .int x2), (3, .int x3)]) hC dX0_free_240 (j := 6) rfl (congrArg _ ki_1) (Nat.le_of_ble_eq_true rfl) rfl) ?_
            refine dg_l (fun _ _ _ _ _ _ _ hC => r_goto hC dX0_free_243 (tgt := 92) (by decide)) ?_
            exact g_sub [3, 4, 5, 6, 1, 0] rfl (hk92 G x0 x1 x2 x3 x5 (x5 + 1) hf)
  · have hf := dh_if hf c24
    refine dg_l (fun _ _ _ _ _ _ _ hC => r_iload hC dX0_free_119 (j := 5) rfl) ?_
    refine dg_l (fun _ _ _ _ _ _ _ hC => r_iload hC dX0_free_121 (j := 6) rfl) ?_
    refine dg_l (fun _ _ _ _ _ _ _ hC => r_ishr hC dX0_free_123) ?_
    refine dg_l (fun _ _ _ _ _ _ _ hC => r_iconst hC dX0_free_124 ki_1) ?_
    refine dg_l (fun _ _ _ _ _ _ _ hC => r_iand hC dX0_free_125) ?_
    refine dg_bn (fun _ _ _ _ _ _ _ hC => r_if_ne hC dX0_free_126 (tgt := 132) (by decide)) (fun c37 => ?_) (fun c37 => ?_)
    · have hf := dh_el hf c37
      refine dg_l (fun _ _ _ _ _ _ _ hC => r_iload hC dX0_free_132 (j := 5) rfl) ?_
      refine dg_l (fun _ _ _ _ _ _ _ hC => r_iconst hC dX0_free_134 ki_1) ?_
      refine dg_l (fun _ _ _ _ _ _ _ hC => r_iload hC dX0_free_135 (j := 6) rfl) ?_
      refine dg_l (fun _ _ _ _ _ _ _ hC => r_ishl hC dX0_free_137) ?_
      refine dg_l (fun _ _ _ _ _ _ _ hC => r_iconst hC dX0_free_138 ki_m1) ?_
      refine dg_l (fun _ _ _ _ _ _ _ hC => r_ixor hC dX0_free_139) ?_
      refine dg_l (fun _ _ _ _ _ _ _ hC => r_iand hC dX0_free_140) ?_
      refine dg_l (fun _ _ _ _ _ _ _ hC => r_istore (lv' := [(7, .int (x5 &&& ((1 <<< (x6 &&& 31)) ^^^ (-1)))), (0, dj_v E x0), (1, .int x1), (2, .int x2), (3, .int x3), (4, .int x4), (5, .int x5), (6, .int x6)]) hC dX0_free_141 (Nat.le_of_ble_eq_true rfl) rfl) ?_
      refine g_aload_n dX0_free_143 rfl (j := 1) rfl ?_
      obtain ⟨v38, h38, hf⟩ := dh_bd hf
      refine g_getR fR_X0_45 (by decide) h38 dX0_free_144 ?_
      refine dg_l (fun _ _ _ _ _ _ _ hC => r_iload hC dX0_free_147 (j := 6) rfl) ?_
      refine g_aload_n dX0_free_149 rfl (j := 1) rfl ?_
      obtain ⟨v39, h39, hf⟩ := dh_bd hf
      refine g_getR fR_X0_45 (by decide) h39 dX0_free_150 ?_
      refine dg_l (fun _ _ _ _ _ _ _ hC => r_iload hC dX0_free_153 (j := 6) rfl) ?_
      obtain ⟨v40, h40, hf⟩ := dh_bd hf
      refine g_lald h40 dX0_free_155 ?_
      refine g_aload_n dX0_free_156 rfl (j := 1) rfl ?_
      obtain ⟨v41, h41, hf⟩ := dh_bd hf
      refine g_getR fR_X0_45 (by decide) h41 dX0_free_157 ?_
      refine dg_l (fun _ _ _ _ _ _ _ hC => r_iload hC dX0_free_160 (j := 0) rfl) ?_
      obtain ⟨v42, h42, hf⟩ := dh_bd hf
      refine g_lald h42 dX0_free_162 ?_
      refine g_aload_n dX0_free_163 rfl (j := 1) rfl ?_
      refine dg_l (fun _ _ _ _ _ _ _ hC => r_iload hC dX0_free_164 (j := 0) rfl) ?_
      refine dg_l (fun _ _ _ _ _ _ _ hC => r_iload hC dX0_free_166 (j := 7) rfl) ?_
      obtain ⟨u43, h43, hf⟩ := dh_bd hf
      obtain ⟨p44, h44, hf⟩ := dh_bd hf
      refine g_callV (rc_O (ci := 1) rfl h43) (cG_X0_lacks _ E Mo G x0 (x5 &&& ((1 <<< (x6 &&& 31)) ^^^ (-1))) x6 h44) q1314 qG_X0_lacks (Nat.le_of_ble_eq_true rfl) (Nat.le_of_ble_eq_true rfl) rfl (dj_cat8 (Nat.le_of_ble_eq_true rfl)) dX0_free_168 ?_
      refine dg_l (fun _ _ _ _ _ _ _ hC => r_ladd hC dX0_free_171) ?_
      obtain ⟨p45, h45, hf⟩ := dh_bd hf
      refine g_callS (cG_J5_min_2 _ E Mo G v40 (v42 + p44) h45) q1325 qG_J5_min_2 (Nat.le_of_ble_eq_true rfl) (Nat.le_of_ble_eq_true rfl) rfl (dj_cat8 (Nat.le_of_ble_eq_true rfl)) dX0_free_172 ?_
      obtain ⟨G46, h46, hf⟩ := dh_bd hf
      refine g_last h46 dX0_free_175 ?_
      refine dg_l (fun _ _ _ _ _ _ _ hC => r_iinc (lv' := [(6, .int (x6 + 1)), (7, .int (x5 &&& ((1 <<< (x6 &&& 31)) ^^^ (-1)))), (0, dj_v E x0), (1, .int x1), (2, .int x2), (3, .int x3), (4, .int x4), (5, .int x5)]) hC dX0_free_176 (j := 7) rfl (congrArg _ ki_1) (Nat.le_of_ble_eq_true rfl) rfl) ?_
      refine dg_l (fun _ _ _ _ _ _ _ hC => r_goto hC dX0_free_179 (tgt := 113) (by decide)) ?_
      exact g_sub [2, 3, 4, 5, 6, 7, 0] rfl (hk113 G46 x0 x1 x2 x3 x4 x5 (x6 + 1) hf)
    · have hf := dh_if hf c37
      refine dg_l (fun _ _ _ _ _ _ _ hC => r_goto hC dX0_free_129 (tgt := 176) (by decide)) ?_
      refine dg_l (fun _ _ _ _ _ _ _ hC => r_iinc (lv' := [(6, .int (x6 + 1)), (0, dj_v E x0), (1, .int x1), (2, .int x2), (3, .int x3), (4, .int x4), (5, .int x5)]) hC dX0_free_176 (j := 6) rfl (congrArg _ ki_1) (Nat.le_of_ble_eq_true rfl) rfl) ?_
      refine dg_l (fun _ _ _ _ _ _ _ hC => r_goto hC dX0_free_179 (tgt := 113) (by decide)) ?_
      exact g_sub [1, 2, 3, 4, 5, 6, 0] rfl (hk113 G x0 x1 x2 x3 x4 x5 (x6 + 1) hf)
def gG_X0_free_L113 (k92 : (dg_G → Nat → Int32 → Int32 → Int32 → Int32 → Int32 → Option (Int32 × dg_G))) : Nat → dg_G → Nat → Int32 → Int32 → Int32 → Int32 → Int32 → Int32 → Option (Int32 × dg_G)
  | 0 => fun _ _ _ _ _ _ _ _ => none
  | n + 1 => gG_X0_free_L113_F k92 (gG_X0_free_L113 k92 n)
theorem wG_X0_free_L113 {l : Launch} {E : dj_E} {Mo : Option dm_M} {r : Int32} {G' : dg_G} (k92 : (dg_G → Nat → Int32 → Int32 → Int32 → Int32 → Int32 → Option (Int32 × dg_G))) (hk92 : ∀ (G : dg_G) (x0 : Nat) (x1 : Int32) (x2 : Int32) (x3 : Int32) (x4 : Int32) (x5 : Int32), k92 G x0 x1 x2 x3 x4 x5 = some (r, G') → dgW tG_X0_free l E Mo G' (.inr (some (.int r))) G 92 [(0, dj_v E x0), (1, .int x1), (2, .int x2), (3, .int x3), (4, .int x4), (5, .int x5)] []) : ∀ (n : Nat) (G : dg_G) (x0 : Nat) (x1 : Int32) (x2 : Int32) (x3 : Int32) (x4 : Int32) (x5 : Int32) (x6 : Int32) (_ : gG_X0_free_L113 k92 n G x0 x1 x2 x3 x4 x5 x6 = some (r, G')), dgW tG_X0_free l E Mo G' (.inr (some (.int r))) G 113 [(0, dj_v E x0), (1, .int x1), (2, .int x2), (3, .int x3), (4, .int x4), (5, .int x5), (6, .int x6)] [] := by
  intro n
  induction n with
  | zero => intro G x0 x1 x2 x3 x4 x5 x6 hf; exact dh_no hf
  | succ n ih => intro G x0 x1 x2 x3 x4 x5 x6 hf; exact wG_X0_free_L113_F k92 hk92 (gG_X0_free_L113 k92 n) ih G x0 x1 x2 x3 x4 x5 x6 hf
def gG_X0_free_L92_F (k92 : (dg_G → Nat → Int32 → Int32 → Int32 → Int32 → Int32 → Option (Int32 × dg_G))) (G : dg_G) (x0 : Nat) (x1 : Int32) (x2 : Int32) (x3 : Int32) (x4 : Int32) (x5 : Int32) : Option (Int32 × dg_G) :=
  if (1 <<< (x3 &&& 31)) ≤ x5 then (
    gG_X0_free_L252 dh_fu G x0 x2 x3 x4 0 0)
  else
  (dg_gR G 1 8 x0).bind fun v22 =>
  (dg_stL G v22 x5 9223372036854775807).bind fun G23 =>
  gG_X0_free_L113 k92 dh_fu G23 x0 x1 x2 x3 x4 x5 0
theorem wG_X0_free_L92_F {l : Launch} {E : dj_E} {Mo : Option dm_M} {r : Int32} {G' : dg_G} (k92 : (dg_G → Nat → Int32 → Int32 → Int32 → Int32 → Int32 → Option (Int32 × dg_G))) (hk92 : ∀ (G : dg_G) (x0 : Nat) (x1 : Int32) (x2 : Int32) (x3 : Int32) (x4 : Int32) (x5 : Int32), k92 G x0 x1 x2 x3 x4 x5 = some (r, G') → dgW tG_X0_free l E Mo G' (.inr (some (.int r))) G 92 [(0, dj_v E x0), (1, .int x1), (2, .int x2), (3, .int x3), (4, .int x4), (5, .int x5)] []) (G : dg_G) (x0 : Nat) (x1 : Int32) (x2 : Int32) (x3 : Int32) (x4 : Int32) (x5 : Int32) (hf : gG_X0_free_L92_F k92 G x0 x1 x2 x3 x4 x5 = some (r, G')) : dgW tG_X0_free l E Mo G' (.inr (some (.int r))) G 92 [(0, dj_v E x0), (1, .int x1), (2, .int x2), (3, .int x3), (4, .int x4), (5, .int x5)] [] := by
  unfold gG_X0_free_L92_F at hf
  refine dg_l (fun _ _ _ _ _ _ _ hC => r_iload hC dX0_free_92 (j := 5) rfl) ?_
  refine dg_l (fun _ _ _ _ _ _ _ hC => r_iconst hC dX0_free_94 ki_1) ?_
  refine dg_l (fun _ _ _ _ _ _ _ hC => r_iload_n hC dX0_free_95 rfl (j := 3) rfl) ?_
  refine dg_l (fun _ _ _ _ _ _ _ hC => r_ishl hC dX0_free_96) ?_
  refine dg_b (fun _ _ _ _ _ _ _ hC => r_icmp_ge hC dX0_free_97 (tgt := 246) (by decide)) (fun c12 => ?_) (fun c12 => ?_)
  · have hf := dh_if hf c12
    refine dg_l (fun _ _ _ _ _ _ _ hC => r_iconst hC dX0_free_246 ki_0) ?_
    refine dg_l (fun _ _ _ _ _ _ _ hC => r_istore (lv' := [(5, .int 0), (0, dj_v E x0), (1, .int x1), (2, .int x2), (3, .int x3), (4, .int x4)]) hC dX0_free_247 (Nat.le_of_ble_eq_true rfl) rfl) ?_
    refine dg_l (fun _ _ _ _ _ _ _ hC => r_iconst hC dX0_free_249 ki_0) ?_
    refine dg_l (fun _ _ _ _ _ _ _ hC => r_istore (lv' := [(6, .int 0), (5, .int 0), (0, dj_v E x0), (1, .int x1), (2, .int x2), (3, .int x3), (4, .int x4)]) hC dX0_free_250 (Nat.le_of_ble_eq_true rfl) rfl) ?_
    exact g_sub [2, 4, 5, 6, 1, 0] rfl (wG_X0_free_L252 dh_fu G x0 x2 x3 x4 0 0 hf)
  · have hf := dh_el hf c12
    refine g_aload_n dX0_free_100 rfl (j := 0) rfl ?_
    obtain ⟨v22, h22, hf⟩ := dh_bd hf
    refine g_getR fR_X0_45 (by decide) h22 dX0_free_101 ?_
    refine dg_l (fun _ _ _ _ _ _ _ hC => r_iload hC dX0_free_104 (j := 5) rfl) ?_
    refine dg_l (fun _ _ _ _ _ _ _ hC => r_ldc2 hC q1313 dX0_free_106) ?_
    obtain ⟨G23, h23, hf⟩ := dh_bd hf
    refine g_last h23 dX0_free_109 ?_
    refine dg_l (fun _ _ _ _ _ _ _ hC => r_iconst hC dX0_free_110 ki_0) ?_
    refine dg_l (fun _ _ _ _ _ _ _ hC => r_istore (lv' := [(6, .int 0), (0, dj_v E x0), (1, .int x1), (2, .int x2), (3, .int x3), (4, .int x4), (5, .int x5)]) hC dX0_free_111 (Nat.le_of_ble_eq_true rfl) rfl) ?_
    exact g_sub [1, 2, 3, 4, 5, 6, 0] rfl (wG_X0_free_L113 k92 hk92 dh_fu G23 x0 x1 x2 x3 x4 x5 0 hf)
def gG_X0_free_L92 : Nat → dg_G → Nat → Int32 → Int32 → Int32 → Int32 → Int32 → Option (Int32 × dg_G)
  | 0 => fun _ _ _ _ _ _ _ => none
  | n + 1 => gG_X0_free_L92_F (gG_X0_free_L92 n)
theorem wG_X0_free_L92 {l : Launch} {E : dj_E} {Mo : Option dm_M} {r : Int32} {G' : dg_G} : ∀ (n : Nat) (G : dg_G) (x0 : Nat) (x1 : Int32) (x2 : Int32) (x3 : Int32) (x4 : Int32) (x5 : Int32) (_ : gG_X0_free_L92 n G x0 x1 x2 x3 x4 x5 = some (r, G')), dgW tG_X0_free l E Mo G' (.inr (some (.int r))) G 92 [(0, dj_v E x0), (1, .int x1), (2, .int x2), (3, .int x3), (4, .int x4), (5, .int x5)] [] := by
  intro n
  induction n with
  | zero => intro G x0 x1 x2 x3 x4 x5 hf; exact dh_no hf
  | succ n ih => intro G x0 x1 x2 x3 x4 x5 hf; exact wG_X0_free_L92_F (gG_X0_free_L92 n) ih G x0 x1 x2 x3 x4 x5 hf
def gG_X0_free_L26_F (k26 : (dg_G → Nat → Int32 → Int32 → Int32 → Int32 → Option (Int32 × dg_G))) (G : dg_G) (x0 : Nat) (x1 : Int32) (x2 : Int32) (x3 : Int32) (x4 : Int32) : Option (Int32 × dg_G) :=
  (dg_gR G 1 0 x0).bind fun v5 =>
  (dg_gR G 2 8 v5).bind fun v6 =>
  (dg_is G 10 v6).bind fun u7 =>
  (gG_J2_size G v6).bind fun p8 =>
  if p8 ≤ x4 then (
    (dg_gR G 1 8 x0).bind fun v10 =>
    (dg_stL G v10 0 0).bind fun G11 =>
    gG_X0_free_L92 dh_fu G11 x0 x1 x2 x3 0 1)
  else
  if 8 ≤ x3 then (
    (dg_gR G 1 8 x0).bind fun v48 =>
    (dg_stL G v48 0 0).bind fun G49 =>
    gG_X0_free_L92 dh_fu G49 x0 x1 x2 x3 0 1)
  else
  (dg_is G 1 x0).bind fun u50 =>
  (gG_X0_at G x0 x4).bind fun p51 =>
  (dg_is G 3 p51).bind fun u52 =>
  (gG_X3_isHeld G p51).bind fun p53 =>
  if p53 = 0 then (
    k26 G x0 x1 x2 x3 (x4 + 1))
  else
  (dg_gR G 1 9 x0).bind fun v55 =>
  (dg_st G 50 v55 x3 x4).bind fun G56 =>
  k26 G56 x0 x1 x2 (x3 + 1) (x4 + 1)
theorem wG_X0_free_L26_F {l : Launch} {E : dj_E} {Mo : Option dm_M} {r : Int32} {G' : dg_G} (k26 : (dg_G → Nat → Int32 → Int32 → Int32 → Int32 → Option (Int32 × dg_G))) (hk26 : ∀ (G : dg_G) (x0 : Nat) (x1 : Int32) (x2 : Int32) (x3 : Int32) (x4 : Int32), k26 G x0 x1 x2 x3 x4 = some (r, G') → dgW tG_X0_free l E Mo G' (.inr (some (.int r))) G 26 [(0, dj_v E x0), (1, .int x1), (2, .int x2), (3, .int x3), (4, .int x4)] []) (G : dg_G) (x0 : Nat) (x1 : Int32) (x2 : Int32) (x3 : Int32) (x4 : Int32) (hf : gG_X0_free_L26_F k26 G x0 x1 x2 x3 x4 = some (r, G')) : dgW tG_X0_free l E Mo G' (.inr (some (.int r))) G 26 [(0, dj_v E x0), (1, .int x1), (2, .int x2), (3, .int x3), (4, .int x4)] [] := by
  unfold gG_X0_free_L26_F at hf
  refine dg_l (fun _ _ _ _ _ _ _ hC => r_iload hC dX0_free_26 (j := 4) rfl) ?_
  refine g_aload_n dX0_free_28 rfl (j := 0) rfl ?_
  obtain ⟨v5, h5, hf⟩ := dh_bd hf
  refine g_getR fR_X0_10 (by decide) h5 dX0_free_29 ?_
  obtain ⟨v6, h6, hf⟩ := dh_bd hf
  refine g_getR fR_X0_51 (by decide) h6 dX0_free_32 ?_
  obtain ⟨u7, h7, hf⟩ := dh_bd hf
  obtain ⟨p8, h8, hf⟩ := dh_bd hf
  refine g_callV (rc_O (ci := 10) rfl h7) (cG_J2_size _ E Mo G v6 h8) q256 qG_J2_size (Nat.le_of_ble_eq_true rfl) (Nat.le_of_ble_eq_true rfl) rfl (dj_cat8 (Nat.le_of_ble_eq_true rfl)) dX0_free_35 ?_
  refine dg_b (fun _ _ _ _ _ _ _ hC => r_icmp_ge hC dX0_free_38 (tgt := 79) (by decide)) (fun c9 => ?_) (fun c9 => ?_)
  · have hf := dh_if hf c9
    refine dg_l (fun _ _ _ _ _ _ _ hC => r_iconst hC dX0_free_79 ki_0) ?_
    refine dg_l (fun _ _ _ _ _ _ _ hC => r_istore (lv' := [(4, .int 0), (0, dj_v E x0), (1, .int x1), (2, .int x2), (3, .int x3)]) hC dX0_free_80 (Nat.le_of_ble_eq_true rfl) rfl) ?_
    refine g_aload_n dX0_free_82 rfl (j := 1) rfl ?_
    obtain ⟨v10, h10, hf⟩ := dh_bd hf
    refine g_getR fR_X0_45 (by decide) h10 dX0_free_83 ?_
    refine dg_l (fun _ _ _ _ _ _ _ hC => r_iconst hC dX0_free_86 ki_0) ?_
    refine dg_l (fun _ _ _ _ _ _ _ hC => r_lconst hC dX0_free_87 kl_0) ?_
    obtain ⟨G11, h11, hf⟩ := dh_bd hf
    refine g_last h11 dX0_free_88 ?_
    refine dg_l (fun _ _ _ _ _ _ _ hC => r_iconst hC dX0_free_89 ki_1) ?_
    refine dg_l (fun _ _ _ _ _ _ _ hC => r_istore (lv' := [(5, .int 1), (4, .int 0), (0, dj_v E x0), (1, .int x1), (2, .int x2), (3, .int x3)]) hC dX0_free_90 (Nat.le_of_ble_eq_true rfl) rfl) ?_
    exact g_sub [2, 3, 4, 5, 1, 0] rfl (wG_X0_free_L92 dh_fu G11 x0 x1 x2 x3 0 1 hf)
  · have hf := dh_el hf c9
    refine dg_l (fun _ _ _ _ _ _ _ hC => r_iload_n hC dX0_free_41 rfl (j := 3) rfl) ?_
    refine dg_l (fun _ _ _ _ _ _ _ hC => r_bipush hC dX0_free_42 kb_8) ?_
    refine dg_b (fun _ _ _ _ _ _ _ hC => r_icmp_ge hC dX0_free_44 (tgt := 79) (by decide)) (fun c47 => ?_) (fun c47 => ?_)
    · have hf := dh_if hf c47
      refine dg_l (fun _ _ _ _ _ _ _ hC => r_iconst hC dX0_free_79 ki_0) ?_
      refine dg_l (fun _ _ _ _ _ _ _ hC => r_istore (lv' := [(4, .int 0), (0, dj_v E x0), (1, .int x1), (2, .int x2), (3, .int x3)]) hC dX0_free_80 (Nat.le_of_ble_eq_true rfl) rfl) ?_
      refine g_aload_n dX0_free_82 rfl (j := 1) rfl ?_
      obtain ⟨v48, h48, hf⟩ := dh_bd hf
      refine g_getR fR_X0_45 (by decide) h48 dX0_free_83 ?_
      refine dg_l (fun _ _ _ _ _ _ _ hC => r_iconst hC dX0_free_86 ki_0) ?_
      refine dg_l (fun _ _ _ _ _ _ _ hC => r_lconst hC dX0_free_87 kl_0) ?_
      obtain ⟨G49, h49, hf⟩ := dh_bd hf
      refine g_last h49 dX0_free_88 ?_
      refine dg_l (fun _ _ _ _ _ _ _ hC => r_iconst hC dX0_free_89 ki_1) ?_
      refine dg_l (fun _ _ _ _ _ _ _ hC => r_istore (lv' := [(5, .int 1), (4, .int 0), (0, dj_v E x0), (1, .int x1), (2, .int x2), (3, .int x3)]) hC dX0_free_90 (Nat.le_of_ble_eq_true rfl) rfl) ?_
      exact g_sub [2, 3, 4, 5, 1, 0] rfl (wG_X0_free_L92 dh_fu G49 x0 x1 x2 x3 0 1 hf)
    · have hf := dh_el hf c47
      refine g_aload_n dX0_free_47 rfl (j := 0) rfl ?_
      refine dg_l (fun _ _ _ _ _ _ _ hC => r_iload hC dX0_free_48 (j := 4) rfl) ?_
      obtain ⟨u50, h50, hf⟩ := dh_bd hf
      obtain ⟨p51, h51, hf⟩ := dh_bd hf
      refine g_callV (rc_O (ci := 1) rfl h50) (cG_X0_at _ E Mo G x0 x4 h51) q525 qG_X0_at (Nat.le_of_ble_eq_true rfl) (Nat.le_of_ble_eq_true rfl) rfl (dj_cat8 (Nat.le_of_ble_eq_true rfl)) dX0_free_50 ?_
      obtain ⟨u52, h52, hf⟩ := dh_bd hf
      obtain ⟨p53, h53, hf⟩ := dh_bd hf
      refine g_callV (rc_O (ci := 3) rfl h52) (cG_X3_isHeld _ E Mo G p51 h53) q1113 qG_X3_isHeld (Nat.le_of_ble_eq_true rfl) (Nat.le_of_ble_eq_true rfl) rfl (dj_cat8 (Nat.le_of_ble_eq_true rfl)) dX0_free_53 ?_
      refine dg_bn (fun _ _ _ _ _ _ _ hC => r_if_ne hC dX0_free_56 (tgt := 62) (by decide)) (fun c54 => ?_) (fun c54 => ?_)
      · have hf := dh_el hf c54
        refine g_aload_n dX0_free_62 rfl (j := 0) rfl ?_
        obtain ⟨v55, h55, hf⟩ := dh_bd hf
        refine g_getR fR_X0_48 (by decide) h55 dX0_free_63 ?_
        refine dg_l (fun _ _ _ _ _ _ _ hC => r_iload_n hC dX0_free_66 rfl (j := 3) rfl) ?_
        refine dg_l (fun _ _ _ _ _ _ _ hC => r_iload hC dX0_free_67 (j := 4) rfl) ?_
        obtain ⟨G56, h56, hf⟩ := dh_bd hf
        refine g_iast h56 dX0_free_69 ?_
        refine dg_l (fun _ _ _ _ _ _ _ hC => r_iinc (lv' := [(3, .int (x3 + 1)), (0, dj_v E x0), (1, .int x1), (2, .int x2), (4, .int x4)]) hC dX0_free_70 (j := 3) rfl (congrArg _ ki_1) (Nat.le_of_ble_eq_true rfl) rfl) ?_
        refine dg_l (fun _ _ _ _ _ _ _ hC => r_iinc (lv' := [(4, .int (x4 + 1)), (3, .int (x3 + 1)), (0, dj_v E x0), (1, .int x1), (2, .int x2)]) hC dX0_free_73 (j := 4) rfl (congrArg _ ki_1) (Nat.le_of_ble_eq_true rfl) rfl) ?_
        refine dg_l (fun _ _ _ _ _ _ _ hC => r_goto hC dX0_free_76 (tgt := 26) (by decide)) ?_
        exact g_sub [2, 3, 4, 1, 0] rfl (hk26 G56 x0 x1 x2 (x3 + 1) (x4 + 1) hf)
      · have hf := dh_if hf c54
        refine dg_l (fun _ _ _ _ _ _ _ hC => r_goto hC dX0_free_59 (tgt := 73) (by decide)) ?_
        refine dg_l (fun _ _ _ _ _ _ _ hC => r_iinc (lv' := [(4, .int (x4 + 1)), (0, dj_v E x0), (1, .int x1), (2, .int x2), (3, .int x3)]) hC dX0_free_73 (j := 4) rfl (congrArg _ ki_1) (Nat.le_of_ble_eq_true rfl) rfl) ?_
        refine dg_l (fun _ _ _ _ _ _ _ hC => r_goto hC dX0_free_76 (tgt := 26) (by decide)) ?_
        exact g_sub [1, 2, 3, 4, 0] rfl (hk26 G x0 x1 x2 x3 (x4 + 1) hf)
def gG_X0_free_L26 : Nat → dg_G → Nat → Int32 → Int32 → Int32 → Int32 → Option (Int32 × dg_G)
  | 0 => fun _ _ _ _ _ _ => none
  | n + 1 => gG_X0_free_L26_F (gG_X0_free_L26 n)
theorem wG_X0_free_L26 {l : Launch} {E : dj_E} {Mo : Option dm_M} {r : Int32} {G' : dg_G} : ∀ (n : Nat) (G : dg_G) (x0 : Nat) (x1 : Int32) (x2 : Int32) (x3 : Int32) (x4 : Int32) (_ : gG_X0_free_L26 n G x0 x1 x2 x3 x4 = some (r, G')), dgW tG_X0_free l E Mo G' (.inr (some (.int r))) G 26 [(0, dj_v E x0), (1, .int x1), (2, .int x2), (3, .int x3), (4, .int x4)] [] := by
  intro n
  induction n with
  | zero => intro G x0 x1 x2 x3 x4 hf; exact dh_no hf
  | succ n ih => intro G x0 x1 x2 x3 x4 hf; exact wG_X0_free_L26_F (gG_X0_free_L26 n) ih G x0 x1 x2 x3 x4 hf
def gG_X0_free (G : dg_G) (x0 : Nat) (x1 : Int32) (x2 : Int32) : Option (Int32 × dg_G) :=
  (gG_X0_isIn G x1 0 1000000).bind fun p1 =>
  if p1 = 0 then (
    some ((-1), G))
  else
  (gG_X0_isIn G x2 0 2).bind fun p3 =>
  if p3 = 0 then (
    some ((-1), G))
  else
  gG_X0_free_L26 dh_fu G x0 x1 x2 0 0
theorem wG_X0_free {l : Launch} {E : dj_E} {Mo : Option dm_M} {r : Int32} {G' : dg_G} (G : dg_G) (x0 : Nat) (x1 : Int32) (x2 : Int32) (hf : gG_X0_free G x0 x1 x2 = some (r, G')) : dgW tG_X0_free l E Mo G' (.inr (some (.int r))) G 0 [(0, dj_v E x0), (1, .int x1), (2, .int x2)] [] := by
  unfold gG_X0_free at hf
  refine dg_l (fun _ _ _ _ _ _ _ hC => r_iload_n hC dX0_free_0 rfl (j := 1) rfl) ?_
  refine dg_l (fun _ _ _ _ _ _ _ hC => r_iconst hC dX0_free_1 ki_0) ?_
  refine dg_l (fun _ _ _ _ _ _ _ hC => r_ldc hC q260 dX0_free_2) ?_
  obtain ⟨p1, h1, hf⟩ := dh_bd hf
  refine g_callS (cG_X0_isIn _ E Mo G x1 0 1000000 h1) q261 qG_X0_isIn (Nat.le_of_ble_eq_true rfl) (Nat.le_of_ble_eq_true rfl) rfl (dj_cat8 (Nat.le_of_ble_eq_true rfl)) dX0_free_4 ?_
  refine dg_b (fun _ _ _ _ _ _ _ hC => r_if_eq hC dX0_free_7 (tgt := 19) (by decide)) (fun c2 => ?_) (fun c2 => ?_)
  · have hf := dh_if hf c2
    refine dg_l (fun _ _ _ _ _ _ _ hC => r_iconst hC dX0_free_19 ki_m1) ?_
    exact g_iret dX0_free_20 rfl hf
  · have hf := dh_el hf c2
    refine dg_l (fun _ _ _ _ _ _ _ hC => r_iload_n hC dX0_free_10 rfl (j := 2) rfl) ?_
    refine dg_l (fun _ _ _ _ _ _ _ hC => r_iconst hC dX0_free_11 ki_0) ?_
    refine dg_l (fun _ _ _ _ _ _ _ hC => r_iconst hC dX0_free_12 ki_2) ?_
    obtain ⟨p3, h3, hf⟩ := dh_bd hf
    refine g_callS (cG_X0_isIn _ E Mo G x2 0 2 h3) q261 qG_X0_isIn (Nat.le_of_ble_eq_true rfl) (Nat.le_of_ble_eq_true rfl) rfl (dj_cat8 (Nat.le_of_ble_eq_true rfl)) dX0_free_13 ?_
    refine dg_bn (fun _ _ _ _ _ _ _ hC => r_if_ne hC dX0_free_16 (tgt := 21) (by decide)) (fun c4 => ?_) (fun c4 => ?_)
    · have hf := dh_el hf c4
      refine dg_l (fun _ _ _ _ _ _ _ hC => r_iconst hC dX0_free_21 ki_0) ?_
      refine dg_l (fun _ _ _ _ _ _ _ hC => r_istore_n (lv' := [(3, .int 0), (0, dj_v E x0), (1, .int x1), (2, .int x2)]) hC dX0_free_22 rfl (Nat.le_of_ble_eq_true rfl) rfl) ?_
      refine dg_l (fun _ _ _ _ _ _ _ hC => r_iconst hC dX0_free_23 ki_0) ?_
      refine dg_l (fun _ _ _ _ _ _ _ hC => r_istore (lv' := [(4, .int 0), (3, .int 0), (0, dj_v E x0), (1, .int x1), (2, .int x2)]) hC dX0_free_24 (Nat.le_of_ble_eq_true rfl) rfl) ?_
      exact g_sub [2, 3, 4, 1, 0] rfl (wG_X0_free_L26 dh_fu G x0 x1 x2 0 0 hf)
    · have hf := dh_if hf c4
      refine dg_l (fun _ _ _ _ _ _ _ hC => r_iconst hC dX0_free_19 ki_m1) ?_
      exact g_iret dX0_free_20 rfl hf
theorem cG_X0_free (l : Launch) (E : dj_E) (Mo : Option dm_M) (G : dg_G) (x0 : Nat) (x1 : Int32) (x2 : Int32) {p : Int32 × dg_G} (h : gG_X0_free G x0 x1 x2 = some p) : dg_Met l yX0_free cX0_free 8 (some .int) 7 156 E Mo [dj_v E x0, .int x1, .int x2] G (some (.int p.1)) p.2 :=
  dg_met (plainFor_of_name (by decide)) (by simp only [lg_sl_ref, lg_sl_int, lg_sl_long, lg_sl_nil]; decide) (by simp only [lv_args_ref, lv_args_int, lv_args_long, lv_args_nil]) (wG_X0_free G x0 x1 x2 h)
theorem qG_X0_free : dg_cV "DebtorsHouse" yX0_free cX0_free 8 (some .int) 2 := ⟨q1310, Or.inl q1311, q81, q1312, by decide, by decide, by decide +kernel⟩
