set_option maxRecDepth 100000
/-! java/lang/Math.min(II)I -/
abbrev tG_J5_min : dg_T := (cJ5_min, 2, RJ5, (some .int), 0, 0, "min", [])
def gG_J5_min (G : dg_G) (x0 : Int32) (x1 : Int32) : Option Int32 :=
  if x1 < x0 then (
    some x1)
  else
  some x0
theorem wG_J5_min {l : Launch} {E : dj_E} {Mo : Option dm_M} {r : Int32} (G : dg_G) (x0 : Int32) (x1 : Int32) (hf : gG_J5_min G x0 x1 = some r) : dgW tG_J5_min l E Mo G (.inr (some (.int r))) G 0 [(0, .int x0), (1, .int x1)] [] := by
  unfold gG_J5_min at hf
  refine dg_l (fun _ _ _ _ _ _ _ hC => r_iload_n hC dJ5_min_0 rfl (j := 0) rfl) ?_
  refine dg_l (fun _ _ _ _ _ _ _ hC => r_iload_n hC dJ5_min_1 rfl (j := 1) rfl) ?_
  refine dg_b (fun _ _ _ _ _ _ _ hC => r_icmp_gt hC dJ5_min_2 (tgt := 9) (by decide)) (fun c1 => ?_) (fun c1 => ?_)
  · have hf := dh_if hf c1
    refine dg_l (fun _ _ _ _ _ _ _ hC => r_iload_n hC dJ5_min_9 rfl (j := 1) rfl) ?_
    exact g_iret1 dJ5_min_10 rfl hf
  · have hf := dh_el hf c1
    refine dg_l (fun _ _ _ _ _ _ _ hC => r_iload_n hC dJ5_min_5 rfl (j := 0) rfl) ?_
    refine dg_l (fun _ _ _ _ _ _ _ hC => r_goto hC dJ5_min_6 (tgt := 10) (by decide)) ?_
    exact g_iret1 dJ5_min_10 rfl hf
theorem cG_J5_min (l : Launch) (E : dj_E) (Mo : Option dm_M) (G : dg_G) (x0 : Int32) (x1 : Int32) {r : Int32} (h : gG_J5_min G x0 x1 = some r) : dg_Met l yJ5_min cJ5_min 2 (some .int) 0 0 E Mo [.int x0, .int x1] G (some (.int r)) G :=
  dg_met (by decide +kernel) (by simp only [lg_sl_ref, lg_sl_int, lg_sl_long, lg_sl_nil]; decide) (by simp only [lv_args_ref, lv_args_int, lv_args_long, lv_args_nil]) (wG_J5_min G x0 x1 h)
theorem qG_J5_min : dg_cS yJ5_min cJ5_min 2 (some .int) 2 := ⟨q388, q90, q389, by decide, by decide, by decide +kernel⟩
/-! java/lang/Math.max(II)I -/
abbrev tG_J5_max : dg_T := (cJ5_max, 2, RJ5, (some .int), 0, 0, "max", [])
def gG_J5_max (G : dg_G) (x0 : Int32) (x1 : Int32) : Option Int32 :=
  if x0 < x1 then (
    some x1)
  else
  some x0
theorem wG_J5_max {l : Launch} {E : dj_E} {Mo : Option dm_M} {r : Int32} (G : dg_G) (x0 : Int32) (x1 : Int32) (hf : gG_J5_max G x0 x1 = some r) : dgW tG_J5_max l E Mo G (.inr (some (.int r))) G 0 [(0, .int x0), (1, .int x1)] [] := by
  unfold gG_J5_max at hf
  refine dg_l (fun _ _ _ _ _ _ _ hC => r_iload_n hC dJ5_max_0 rfl (j := 0) rfl) ?_
  refine dg_l (fun _ _ _ _ _ _ _ hC => r_iload_n hC dJ5_max_1 rfl (j := 1) rfl) ?_
  refine dg_b (fun _ _ _ _ _ _ _ hC => r_icmp_lt hC dJ5_max_2 (tgt := 9) (by decide)) (fun c1 => ?_) (fun c1 => ?_)
  · have hf := dh_if hf c1
    refine dg_l (fun _ _ _ _ _ _ _ hC => r_iload_n hC dJ5_max_9 rfl (j := 1) rfl) ?_
    exact g_iret1 dJ5_max_10 rfl hf
  · have hf := dh_el hf c1
    refine dg_l (fun _ _ _ _ _ _ _ hC => r_iload_n hC dJ5_max_5 rfl (j := 0) rfl) ?_
    refine dg_l (fun _ _ _ _ _ _ _ hC => r_goto hC dJ5_max_6 (tgt := 10) (by decide)) ?_
    exact g_iret1 dJ5_max_10 rfl hf
theorem cG_J5_max (l : Launch) (E : dj_E) (Mo : Option dm_M) (G : dg_G) (x0 : Int32) (x1 : Int32) {r : Int32} (h : gG_J5_max G x0 x1 = some r) : dg_Met l yJ5_max cJ5_max 2 (some .int) 0 0 E Mo [.int x0, .int x1] G (some (.int r)) G :=
  dg_met (by decide +kernel) (by simp only [lg_sl_ref, lg_sl_int, lg_sl_long, lg_sl_nil]; decide) (by simp only [lv_args_ref, lv_args_int, lv_args_long, lv_args_nil]) (wG_J5_max G x0 x1 h)
theorem qG_J5_max : dg_cS yJ5_max cJ5_max 2 (some .int) 2 := ⟨q352, q90, q353, by decide, by decide, by decide +kernel⟩
/-! java/lang/Math.min(JJ)J -/
abbrev tG_J5_min_2 : dg_T := (cJ5_min_2, 4, RJ5, (some .long), 0, 0, "min", [])
def gG_J5_min_2 (G : dg_G) (x0 : Int64) (x2 : Int64) : Option Int64 :=
  if 0 < (lg_cmp x0 x2) then (
    some x2)
  else
  some x0
theorem wG_J5_min_2 {l : Launch} {E : dj_E} {Mo : Option dm_M} {r : Int64} (G : dg_G) (x0 : Int64) (x2 : Int64) (hf : gG_J5_min_2 G x0 x2 = some r) : dgW tG_J5_min_2 l E Mo G (.inr (some (.long r))) G 0 [(0, .long x0), (2, .long x2)] [] := by
  unfold gG_J5_min_2 at hf
  refine dg_l (fun _ _ _ _ _ _ _ hC => r_lload_n hC dJ5_min_2_0 rfl (j := 0) rfl) ?_
  refine dg_l (fun _ _ _ _ _ _ _ hC => r_lload_n hC dJ5_min_2_1 rfl (j := 1) rfl) ?_
  refine dg_l (fun _ _ _ _ _ _ _ hC => r_lcmp hC dJ5_min_2_2) ?_
  refine dg_b (fun _ _ _ _ _ _ _ hC => r_if_gt hC dJ5_min_2_3 (tgt := 10) (by decide)) (fun c1 => ?_) (fun c1 => ?_)
  · have hf := dh_if hf c1
    refine dg_l (fun _ _ _ _ _ _ _ hC => r_lload_n hC dJ5_min_2_10 rfl (j := 1) rfl) ?_
    exact g_lret1 dJ5_min_2_11 rfl hf
  · have hf := dh_el hf c1
    refine dg_l (fun _ _ _ _ _ _ _ hC => r_lload_n hC dJ5_min_2_6 rfl (j := 0) rfl) ?_
    refine dg_l (fun _ _ _ _ _ _ _ hC => r_goto hC dJ5_min_2_7 (tgt := 11) (by decide)) ?_
    exact g_lret1 dJ5_min_2_11 rfl hf
theorem cG_J5_min_2 (l : Launch) (E : dj_E) (Mo : Option dm_M) (G : dg_G) (x0 : Int64) (x2 : Int64) {r : Int64} (h : gG_J5_min_2 G x0 x2 = some r) : dg_Met l yJ5_min_2 cJ5_min_2 4 (some .long) 0 0 E Mo [.long x0, .long x2] G (some (.long r)) G :=
  dg_met (by decide +kernel) (by simp only [lg_sl_ref, lg_sl_int, lg_sl_long, lg_sl_nil]; decide) (by simp only [lv_args_ref, lv_args_int, lv_args_long, lv_args_nil]) (wG_J5_min_2 G x0 x2 h)
theorem qG_J5_min_2 : dg_cS yJ5_min_2 cJ5_min_2 4 (some .long) 2 := ⟨q1326, q90, q1327, by decide, by decide, by decide +kernel⟩
/-! java/lang/Math.max(JJ)J -/
abbrev tG_J5_max_2 : dg_T := (cJ5_max_2, 4, RJ5, (some .long), 0, 0, "max", [])
def gG_J5_max_2 (G : dg_G) (x0 : Int64) (x2 : Int64) : Option Int64 :=
  if (lg_cmp x0 x2) < 0 then (
    some x2)
  else
  some x0
theorem wG_J5_max_2 {l : Launch} {E : dj_E} {Mo : Option dm_M} {r : Int64} (G : dg_G) (x0 : Int64) (x2 : Int64) (hf : gG_J5_max_2 G x0 x2 = some r) : dgW tG_J5_max_2 l E Mo G (.inr (some (.long r))) G 0 [(0, .long x0), (2, .long x2)] [] := by
  unfold gG_J5_max_2 at hf
  refine dg_l (fun _ _ _ _ _ _ _ hC => r_lload_n hC dJ5_max_2_0 rfl (j := 0) rfl) ?_
  refine dg_l (fun _ _ _ _ _ _ _ hC => r_lload_n hC dJ5_max_2_1 rfl (j := 1) rfl) ?_
  refine dg_l (fun _ _ _ _ _ _ _ hC => r_lcmp hC dJ5_max_2_2) ?_
  refine dg_b (fun _ _ _ _ _ _ _ hC => r_if_lt hC dJ5_max_2_3 (tgt := 10) (by decide)) (fun c1 => ?_) (fun c1 => ?_)
  · have hf := dh_if hf c1
    refine dg_l (fun _ _ _ _ _ _ _ hC => r_lload_n hC dJ5_max_2_10 rfl (j := 1) rfl) ?_
    exact g_lret1 dJ5_max_2_11 rfl hf
  · have hf := dh_el hf c1
    refine dg_l (fun _ _ _ _ _ _ _ hC => r_lload_n hC dJ5_max_2_6 rfl (j := 0) rfl) ?_
    refine dg_l (fun _ _ _ _ _ _ _ hC => r_goto hC dJ5_max_2_7 (tgt := 11) (by decide)) ?_
    exact g_lret1 dJ5_max_2_11 rfl hf
theorem cG_J5_max_2 (l : Launch) (E : dj_E) (Mo : Option dm_M) (G : dg_G) (x0 : Int64) (x2 : Int64) {r : Int64} (h : gG_J5_max_2 G x0 x2 = some r) : dg_Met l yJ5_max_2 cJ5_max_2 4 (some .long) 0 0 E Mo [.long x0, .long x2] G (some (.long r)) G :=
  dg_met (by decide +kernel) (by simp only [lg_sl_ref, lg_sl_int, lg_sl_long, lg_sl_nil]; decide) (by simp only [lv_args_ref, lv_args_int, lv_args_long, lv_args_nil]) (wG_J5_max_2 G x0 x2 h)
theorem qG_J5_max_2 : dg_cS yJ5_max_2 cJ5_max_2 4 (some .long) 2 := ⟨q1323, q90, q1324, by decide, by decide, by decide +kernel⟩
/-! java/lang/Integer.bitCount(I)I -/
abbrev tG_J17_bitCount : dg_T := (cJ17_bitCount, 1, RJ17, (some .int), 0, 0, "bitCount", [])
def gG_J17_bitCount (G : dg_G) (x0 : Int32) : Option Int32 :=
  some ((((((((x0 - (((x0.toUInt32 >>> ((1 : Int32).toUInt32 &&& Int32.toUInt32 31)).toInt32) &&& 1431655765)) &&& 858993459) + ((((x0 - (((x0.toUInt32 >>> ((1 : Int32).toUInt32 &&& Int32.toUInt32 31)).toInt32) &&& 1431655765) : Int32).toUInt32 >>> ((2 : Int32).toUInt32 &&& Int32.toUInt32 31)).toInt32) &&& 858993459)) + (((((x0 - (((x0.toUInt32 >>> ((1 : Int32).toUInt32 &&& Int32.toUInt32 31)).toInt32) &&& 1431655765)) &&& 858993459) + ((((x0 - (((x0.toUInt32 >>> ((1 : Int32).toUInt32 &&& Int32.toUInt32 31)).toInt32) &&& 1431655765) : Int32).toUInt32 >>> ((2 : Int32).toUInt32 &&& Int32.toUInt32 31)).toInt32) &&& 858993459) : Int32).toUInt32 >>> ((4 : Int32).toUInt32 &&& Int32.toUInt32 31)).toInt32)) &&& 252645135) + (((((((x0 - (((x0.toUInt32 >>> ((1 : Int32).toUInt32 &&& Int32.toUInt32 31)).toInt32) &&& 1431655765)) &&& 858993459) + ((((x0 - (((x0.toUInt32 >>> ((1 : Int32).toUInt32 &&& Int32.toUInt32 31)).toInt32) &&& 1431655765) : Int32).toUInt32 >>> ((2 : Int32).toUInt32 &&& Int32.toUInt32 31)).toInt32) &&& 858993459)) + (((((x0 - (((x0.toUInt32 >>> ((1 : Int32).toUInt32 &&& Int32.toUInt32 31)).toInt32) &&& 1431655765)) &&& 858993459) + ((((x0 - (((x0.toUInt32 >>> ((1 : Int32).toUInt32 &&& Int32.toUInt32 31)).toInt32) &&& 1431655765) : Int32).toUInt32 >>> ((2 : Int32).toUInt32 &&& Int32.toUInt32 31)).toInt32) &&& 858993459) : Int32).toUInt32 >>> ((4 : Int32).toUInt32 &&& Int32.toUInt32 31)).toInt32)) &&& 252645135 : Int32).toUInt32 >>> ((8 : Int32).toUInt32 &&& Int32.toUInt32 31)).toInt32)) + ((((((((x0 - (((x0.toUInt32 >>> ((1 : Int32).toUInt32 &&& Int32.toUInt32 31)).toInt32) &&& 1431655765)) &&& 858993459) + ((((x0 - (((x0.toUInt32 >>> ((1 : Int32).toUInt32 &&& Int32.toUInt32 31)).toInt32) &&& 1431655765) : Int32).toUInt32 >>> ((2 : Int32).toUInt32 &&& Int32.toUInt32 31)).toInt32) &&& 858993459)) + (((((x0 - (((x0.toUInt32 >>> ((1 : Int32).toUInt32 &&& Int32.toUInt32 31)).toInt32) &&& 1431655765)) &&& 858993459) + ((((x0 - (((x0.toUInt32 >>> ((1 : Int32).toUInt32 &&& Int32.toUInt32 31)).toInt32) &&& 1431655765) : Int32).toUInt32 >>> ((2 : Int32).toUInt32 &&& Int32.toUInt32 31)).toInt32) &&& 858993459) : Int32).toUInt32 >>> ((4 : Int32).toUInt32 &&& Int32.toUInt32 31)).toInt32)) &&& 252645135) + (((((((x0 - (((x0.toUInt32 >>> ((1 : Int32).toUInt32 &&& Int32.toUInt32 31)).toInt32) &&& 1431655765)) &&& 858993459) + ((((x0 - (((x0.toUInt32 >>> ((1 : Int32).toUInt32 &&& Int32.toUInt32 31)).toInt32) &&& 1431655765) : Int32).toUInt32 >>> ((2 : Int32).toUInt32 &&& Int32.toUInt32 31)).toInt32) &&& 858993459)) + (((((x0 - (((x0.toUInt32 >>> ((1 : Int32).toUInt32 &&& Int32.toUInt32 31)).toInt32) &&& 1431655765)) &&& 858993459) + ((((x0 - (((x0.toUInt32 >>> ((1 : Int32).toUInt32 &&& Int32.toUInt32 31)).toInt32) &&& 1431655765) : Int32).toUInt32 >>> ((2 : Int32).toUInt32 &&& Int32.toUInt32 31)).toInt32) &&& 858993459) : Int32).toUInt32 >>> ((4 : Int32).toUInt32 &&& Int32.toUInt32 31)).toInt32)) &&& 252645135 : Int32).toUInt32 >>> ((8 : Int32).toUInt32 &&& Int32.toUInt32 31)).toInt32) : Int32).toUInt32 >>> ((16 : Int32).toUInt32 &&& Int32.toUInt32 31)).toInt32)) &&& 63)
theorem wG_J17_bitCount {l : Launch} {E : dj_E} {Mo : Option dm_M} {r : Int32} (G : dg_G) (x0 : Int32) (hf : gG_J17_bitCount G x0 = some r) : dgW tG_J17_bitCount l E Mo G (.inr (some (.int r))) G 0 [(0, .int x0)] [] := by
  unfold gG_J17_bitCount at hf
  refine dg_l (fun _ _ _ _ _ _ _ hC => r_iload_n hC dJ17_bitCount_0 rfl (j := 0) rfl) ?_
  refine dg_l (fun _ _ _ _ _ _ _ hC => r_iload_n hC dJ17_bitCount_1 rfl (j := 0) rfl) ?_
  refine dg_l (fun _ _ _ _ _ _ _ hC => r_iconst hC dJ17_bitCount_2 ki_1) ?_
  refine dg_l (fun _ _ _ _ _ _ _ hC => r_iushr hC dJ17_bitCount_3) ?_
  refine dg_l (fun _ _ _ _ _ _ _ hC => r_ldcw hC q1331 dJ17_bitCount_4) ?_
  refine dg_l (fun _ _ _ _ _ _ _ hC => r_iand hC dJ17_bitCount_7) ?_
  refine dg_l (fun _ _ _ _ _ _ _ hC => r_isub hC dJ17_bitCount_8) ?_
  refine dg_l (fun _ _ _ _ _ _ _ hC => r_istore_n (lv' := [(0, .int (x0 - (((x0.toUInt32 >>> ((1 : Int32).toUInt32 &&& Int32.toUInt32 31)).toInt32) &&& 1431655765)))]) hC dJ17_bitCount_9 rfl (Nat.le_of_ble_eq_true rfl) rfl) ?_
  refine dg_l (fun _ _ _ _ _ _ _ hC => r_iload_n hC dJ17_bitCount_10 rfl (j := 0) rfl) ?_
  refine dg_l (fun _ _ _ _ _ _ _ hC => r_ldcw hC q1332 dJ17_bitCount_11) ?_
  refine dg_l (fun _ _ _ _ _ _ _ hC => r_iand hC dJ17_bitCount_14) ?_
  refine dg_l (fun _ _ _ _ _ _ _ hC => r_iload_n hC dJ17_bitCount_15 rfl (j := 0) rfl) ?_
  refine dg_l (fun _ _ _ _ _ _ _ hC => r_iconst hC dJ17_bitCount_16 ki_2) ?_
  refine dg_l (fun _ _ _ _ _ _ _ hC => r_iushr hC dJ17_bitCount_17) ?_
  refine dg_l (fun _ _ _ _ _ _ _ hC => r_ldcw hC q1332 dJ17_bitCount_18) ?_
  refine dg_l (fun _ _ _ _ _ _ _ hC => r_iand hC dJ17_bitCount_21) ?_
  refine dg_l (fun _ _ _ _ _ _ _ hC => r_iadd hC dJ17_bitCount_22) ?_
  refine dg_l (fun _ _ _ _ _ _ _ hC => r_istore_n (lv' := [(0, .int (((x0 - (((x0.toUInt32 >>> ((1 : Int32).toUInt32 &&& Int32.toUInt32 31)).toInt32) &&& 1431655765)) &&& 858993459) + ((((x0 - (((x0.toUInt32 >>> ((1 : Int32).toUInt32 &&& Int32.toUInt32 31)).toInt32) &&& 1431655765) : Int32).toUInt32 >>> ((2 : Int32).toUInt32 &&& Int32.toUInt32 31)).toInt32) &&& 858993459)))]) hC dJ17_bitCount_23 rfl (Nat.le_of_ble_eq_true rfl) rfl) ?_
  refine dg_l (fun _ _ _ _ _ _ _ hC => r_iload_n hC dJ17_bitCount_24 rfl (j := 0) rfl) ?_
  refine dg_l (fun _ _ _ _ _ _ _ hC => r_iload_n hC dJ17_bitCount_25 rfl (j := 0) rfl) ?_
  refine dg_l (fun _ _ _ _ _ _ _ hC => r_iconst hC dJ17_bitCount_26 ki_4) ?_
  refine dg_l (fun _ _ _ _ _ _ _ hC => r_iushr hC dJ17_bitCount_27) ?_
  refine dg_l (fun _ _ _ _ _ _ _ hC => r_iadd hC dJ17_bitCount_28) ?_
  refine dg_l (fun _ _ _ _ _ _ _ hC => r_ldcw hC q1333 dJ17_bitCount_29) ?_
  refine dg_l (fun _ _ _ _ _ _ _ hC => r_iand hC dJ17_bitCount_32) ?_
  refine dg_l (fun _ _ _ _ _ _ _ hC => r_istore_n (lv' := [(0, .int (((((x0 - (((x0.toUInt32 >>> ((1 : Int32).toUInt32 &&& Int32.toUInt32 31)).toInt32) &&& 1431655765)) &&& 858993459) + ((((x0 - (((x0.toUInt32 >>> ((1 : Int32).toUInt32 &&& Int32.toUInt32 31)).toInt32) &&& 1431655765) : Int32).toUInt32 >>> ((2 : Int32).toUInt32 &&& Int32.toUInt32 31)).toInt32) &&& 858993459)) + (((((x0 - (((x0.toUInt32 >>> ((1 : Int32).toUInt32 &&& Int32.toUInt32 31)).toInt32) &&& 1431655765)) &&& 858993459) + ((((x0 - (((x0.toUInt32 >>> ((1 : Int32).toUInt32 &&& Int32.toUInt32 31)).toInt32) &&& 1431655765) : Int32).toUInt32 >>> ((2 : Int32).toUInt32 &&& Int32.toUInt32 31)).toInt32) &&& 858993459) : Int32).toUInt32 >>> ((4 : Int32).toUInt32 &&& Int32.toUInt32 31)).toInt32)) &&& 252645135))]) hC dJ17_bitCount_33 rfl (Nat.le_of_ble_eq_true rfl) rfl) ?_
  refine dg_l (fun _ _ _ _ _ _ _ hC => r_iload_n hC dJ17_bitCount_34 rfl (j := 0) rfl) ?_
  refine dg_l (fun _ _ _ _ _ _ _ hC => r_iload_n hC dJ17_bitCount_35 rfl (j := 0) rfl) ?_
  refine dg_l (fun _ _ _ _ _ _ _ hC => r_bipush hC dJ17_bitCount_36 kb_8) ?_
  refine dg_l (fun _ _ _ _ _ _ _ hC => r_iushr hC dJ17_bitCount_38) ?_
  refine dg_l (fun _ _ _ _ _ _ _ hC => r_iadd hC dJ17_bitCount_39) ?_
  refine dg_l (fun _ _ _ _ _ _ _ hC => r_istore_n (lv' := [(0, .int ((((((x0 - (((x0.toUInt32 >>> ((1 : Int32).toUInt32 &&& Int32.toUInt32 31)).toInt32) &&& 1431655765)) &&& 858993459) + ((((x0 - (((x0.toUInt32 >>> ((1 : Int32).toUInt32 &&& Int32.toUInt32 31)).toInt32) &&& 1431655765) : Int32).toUInt32 >>> ((2 : Int32).toUInt32 &&& Int32.toUInt32 31)).toInt32) &&& 858993459)) + (((((x0 - (((x0.toUInt32 >>> ((1 : Int32).toUInt32 &&& Int32.toUInt32 31)).toInt32) &&& 1431655765)) &&& 858993459) + ((((x0 - (((x0.toUInt32 >>> ((1 : Int32).toUInt32 &&& Int32.toUInt32 31)).toInt32) &&& 1431655765) : Int32).toUInt32 >>> ((2 : Int32).toUInt32 &&& Int32.toUInt32 31)).toInt32) &&& 858993459) : Int32).toUInt32 >>> ((4 : Int32).toUInt32 &&& Int32.toUInt32 31)).toInt32)) &&& 252645135) + (((((((x0 - (((x0.toUInt32 >>> ((1 : Int32).toUInt32 &&& Int32.toUInt32 31)).toInt32) &&& 1431655765)) &&& 858993459) + ((((x0 - (((x0.toUInt32 >>> ((1 : Int32).toUInt32 &&& Int32.toUInt32 31)).toInt32) &&& 1431655765) : Int32).toUInt32 >>> ((2 : Int32).toUInt32 &&& Int32.toUInt32 31)).toInt32) &&& 858993459)) + (((((x0 - (((x0.toUInt32 >>> ((1 : Int32).toUInt32 &&& Int32.toUInt32 31)).toInt32) &&& 1431655765)) &&& 858993459) + ((((x0 - (((x0.toUInt32 >>> ((1 : Int32).toUInt32 &&& Int32.toUInt32 31)).toInt32) &&& 1431655765) : Int32).toUInt32 >>> ((2 : Int32).toUInt32 &&& Int32.toUInt32 31)).toInt32) &&& 858993459) : Int32).toUInt32 >>> ((4 : Int32).toUInt32 &&& Int32.toUInt32 31)).toInt32)) &&& 252645135 : Int32).toUInt32 >>> ((8 : Int32).toUInt32 &&& Int32.toUInt32 31)).toInt32)))]) hC dJ17_bitCount_40 rfl (Nat.le_of_ble_eq_true rfl) rfl) ?_
  refine dg_l (fun _ _ _ _ _ _ _ hC => r_iload_n hC dJ17_bitCount_41 rfl (j := 0) rfl) ?_
  refine dg_l (fun _ _ _ _ _ _ _ hC => r_iload_n hC dJ17_bitCount_42 rfl (j := 0) rfl) ?_
  refine dg_l (fun _ _ _ _ _ _ _ hC => r_bipush hC dJ17_bitCount_43 kb_16) ?_
  refine dg_l (fun _ _ _ _ _ _ _ hC => r_iushr hC dJ17_bitCount_45) ?_
  refine dg_l (fun _ _ _ _ _ _ _ hC => r_iadd hC dJ17_bitCount_46) ?_
  refine dg_l (fun _ _ _ _ _ _ _ hC => r_istore_n (lv' := [(0, .int (((((((x0 - (((x0.toUInt32 >>> ((1 : Int32).toUInt32 &&& Int32.toUInt32 31)).toInt32) &&& 1431655765)) &&& 858993459) + ((((x0 - (((x0.toUInt32 >>> ((1 : Int32).toUInt32 &&& Int32.toUInt32 31)).toInt32) &&& 1431655765) : Int32).toUInt32 >>> ((2 : Int32).toUInt32 &&& Int32.toUInt32 31)).toInt32) &&& 858993459)) + (((((x0 - (((x0.toUInt32 >>> ((1 : Int32).toUInt32 &&& Int32.toUInt32 31)).toInt32) &&& 1431655765)) &&& 858993459) + ((((x0 - (((x0.toUInt32 >>> ((1 : Int32).toUInt32 &&& Int32.toUInt32 31)).toInt32) &&& 1431655765) : Int32).toUInt32 >>> ((2 : Int32).toUInt32 &&& Int32.toUInt32 31)).toInt32) &&& 858993459) : Int32).toUInt32 >>> ((4 : Int32).toUInt32 &&& Int32.toUInt32 31)).toInt32)) &&& 252645135) + (((((((x0 - (((x0.toUInt32 >>> ((1 : Int32).toUInt32 &&& Int32.toUInt32 31)).toInt32) &&& 1431655765)) &&& 858993459) + ((((x0 - (((x0.toUInt32 >>> ((1 : Int32).toUInt32 &&& Int32.toUInt32 31)).toInt32) &&& 1431655765) : Int32).toUInt32 >>> ((2 : Int32).toUInt32 &&& Int32.toUInt32 31)).toInt32) &&& 858993459)) + (((((x0 - (((x0.toUInt32 >>> ((1 : Int32).toUInt32 &&& Int32.toUInt32 31)).toInt32) &&& 1431655765)) &&& 858993459) + ((((x0 - (((x0.toUInt32 >>> ((1 : Int32).toUInt32 &&& Int32.toUInt32 31)).toInt32) &&& 1431655765) : Int32).toUInt32 >>> ((2 : Int32).toUInt32 &&& Int32.toUInt32 31)).toInt32) &&& 858993459) : Int32).toUInt32 >>> ((4 : Int32).toUInt32 &&& Int32.toUInt32 31)).toInt32)) &&& 252645135 : Int32).toUInt32 >>> ((8 : Int32).toUInt32 &&& Int32.toUInt32 31)).toInt32)) + ((((((((x0 - (((x0.toUInt32 >>> ((1 : Int32).toUInt32 &&& Int32.toUInt32 31)).toInt32) &&& 1431655765)) &&& 858993459) + ((((x0 - (((x0.toUInt32 >>> ((1 : Int32).toUInt32 &&& Int32.toUInt32 31)).toInt32) &&& 1431655765) : Int32).toUInt32 >>> ((2 : Int32).toUInt32 &&& Int32.toUInt32 31)).toInt32) &&& 858993459)) + (((((x0 - (((x0.toUInt32 >>> ((1 : Int32).toUInt32 &&& Int32.toUInt32 31)).toInt32) &&& 1431655765)) &&& 858993459) + ((((x0 - (((x0.toUInt32 >>> ((1 : Int32).toUInt32 &&& Int32.toUInt32 31)).toInt32) &&& 1431655765) : Int32).toUInt32 >>> ((2 : Int32).toUInt32 &&& Int32.toUInt32 31)).toInt32) &&& 858993459) : Int32).toUInt32 >>> ((4 : Int32).toUInt32 &&& Int32.toUInt32 31)).toInt32)) &&& 252645135) + (((((((x0 - (((x0.toUInt32 >>> ((1 : Int32).toUInt32 &&& Int32.toUInt32 31)).toInt32) &&& 1431655765)) &&& 858993459) + ((((x0 - (((x0.toUInt32 >>> ((1 : Int32).toUInt32 &&& Int32.toUInt32 31)).toInt32) &&& 1431655765) : Int32).toUInt32 >>> ((2 : Int32).toUInt32 &&& Int32.toUInt32 31)).toInt32) &&& 858993459)) + (((((x0 - (((x0.toUInt32 >>> ((1 : Int32).toUInt32 &&& Int32.toUInt32 31)).toInt32) &&& 1431655765)) &&& 858993459) + ((((x0 - (((x0.toUInt32 >>> ((1 : Int32).toUInt32 &&& Int32.toUInt32 31)).toInt32) &&& 1431655765) : Int32).toUInt32 >>> ((2 : Int32).toUInt32 &&& Int32.toUInt32 31)).toInt32) &&& 858993459) : Int32).toUInt32 >>> ((4 : Int32).toUInt32 &&& Int32.toUInt32 31)).toInt32)) &&& 252645135 : Int32).toUInt32 >>> ((8 : Int32).toUInt32 &&& Int32.toUInt32 31)).toInt32) : Int32).toUInt32 >>> ((16 : Int32).toUInt32 &&& Int32.toUInt32 31)).toInt32)))]) hC dJ17_bitCount_47 rfl (Nat.le_of_ble_eq_true rfl) rfl) ?_
  refine dg_l (fun _ _ _ _ _ _ _ hC => r_iload_n hC dJ17_bitCount_48 rfl (j := 0) rfl) ?_
  refine dg_l (fun _ _ _ _ _ _ _ hC => r_bipush hC dJ17_bitCount_49 kb_63) ?_
  refine dg_l (fun _ _ _ _ _ _ _ hC => r_iand hC dJ17_bitCount_51) ?_
  exact g_iret1 dJ17_bitCount_52 rfl hf
theorem cG_J17_bitCount (l : Launch) (E : dj_E) (Mo : Option dm_M) (G : dg_G) (x0 : Int32) {r : Int32} (h : gG_J17_bitCount G x0 = some r) : dg_Met l yJ17_bitCount cJ17_bitCount 1 (some .int) 0 0 E Mo [.int x0] G (some (.int r)) G :=
  dg_met (plainFor_of_name (by decide)) (by simp only [lg_sl_ref, lg_sl_int, lg_sl_long, lg_sl_nil]; decide) (by simp only [lv_args_ref, lv_args_int, lv_args_long, lv_args_nil]) (wG_J17_bitCount G x0 h)
theorem qG_J17_bitCount : dg_cS yJ17_bitCount cJ17_bitCount 1 (some .int) 1 := ⟨q1329, q113, q1330, by decide, by decide, by decide +kernel⟩
/-! java/lang/Enum.ordinal()I -/
abbrev tG_J6_ordinal : dg_T := (cJ6_ordinal, 1, RJ6, (some .int), 0, 0, "ordinal", [])
def gG_J6_ordinal (G : dg_G) (x0 : Nat) : Option Int32 :=
  (do_ord x0).bind fun v1 =>
  some v1
theorem wG_J6_ordinal {l : Launch} {E : dj_E} {Mo : Option dm_M} {r : Int32} (G : dg_G) (x0 : Nat) (hf : gG_J6_ordinal G x0 = some r) : dgW tG_J6_ordinal l E Mo G (.inr (some (.int r))) G 0 [(0, dj_v E x0)] [] := by
  unfold gG_J6_ordinal at hf
  refine g_aload_n dJ6_ordinal_0 rfl (j := 0) rfl ?_
  obtain ⟨v1, h1, hf⟩ := dh_bd hf
  refine g_ord h1 rfl rfl dJ6_ordinal_1 ?_
  exact g_iret1 dJ6_ordinal_4 rfl hf
theorem cG_J6_ordinal (l : Launch) (E : dj_E) (Mo : Option dm_M) (G : dg_G) (x0 : Nat) {r : Int32} (h : gG_J6_ordinal G x0 = some r) : dg_Met l yJ6_ordinal cJ6_ordinal 1 (some .int) 0 0 E Mo [dj_v E x0] G (some (.int r)) G :=
  dg_met (plainFor_of_name (by decide)) (by simp only [lg_sl_ref, lg_sl_int, lg_sl_long, lg_sl_nil]; decide) (by simp only [lv_args_ref, lv_args_int, lv_args_long, lv_args_nil]) (wG_J6_ordinal G x0 h)
/-! java/util/Arrays.fill([II)V -/
abbrev tG_J3_fill : dg_T := (cJ3_fill, 4, RJ3, none, 0, 0, "fill", [])
def gG_J3_fill_L5_F (k5 : (dg_G → Nat → Int32 → Int32 → Int32 → Option dg_G)) (G : dg_G) (x0 : Nat) (x1 : Int32) (x2 : Int32) (x3 : Int32) : Option dg_G :=
  if x3 ≤ x2 then (
    some G)
  else
  (dg_st G 50 x0 x2 x1).bind fun G3 =>
  k5 G3 x0 x1 (x2 + 1) x3
theorem wG_J3_fill_L5_F {l : Launch} {E : dj_E} {Mo : Option dm_M} {G' : dg_G} (k5 : (dg_G → Nat → Int32 → Int32 → Int32 → Option dg_G)) (hk5 : ∀ (G : dg_G) (x0 : Nat) (x1 : Int32) (x2 : Int32) (x3 : Int32), k5 G x0 x1 x2 x3 = some G' → dgW tG_J3_fill l E Mo G' (.inr none) G 5 [(0, dj_v E x0), (1, .int x1), (2, .int x2), (3, .int x3)] []) (G : dg_G) (x0 : Nat) (x1 : Int32) (x2 : Int32) (x3 : Int32) (hf : gG_J3_fill_L5_F k5 G x0 x1 x2 x3 = some G') : dgW tG_J3_fill l E Mo G' (.inr none) G 5 [(0, dj_v E x0), (1, .int x1), (2, .int x2), (3, .int x3)] [] := by
  unfold gG_J3_fill_L5_F at hf
  refine dg_l (fun _ _ _ _ _ _ _ hC => r_iload_n hC dJ3_fill_5 rfl (j := 2) rfl) ?_
  refine dg_l (fun _ _ _ _ _ _ _ hC => r_iload_n hC dJ3_fill_6 rfl (j := 3) rfl) ?_
  refine dg_b (fun _ _ _ _ _ _ _ hC => r_icmp_ge hC dJ3_fill_7 (tgt := 20) (by decide)) (fun c2 => ?_) (fun c2 => ?_)
  · have hf := dh_if hf c2
    exact g_vret dJ3_fill_20 rfl hf
  · have hf := dh_el hf c2
    refine g_aload_n dJ3_fill_10 rfl (j := 0) rfl ?_
    refine dg_l (fun _ _ _ _ _ _ _ hC => r_iload_n hC dJ3_fill_11 rfl (j := 2) rfl) ?_
    refine dg_l (fun _ _ _ _ _ _ _ hC => r_iload_n hC dJ3_fill_12 rfl (j := 1) rfl) ?_
    obtain ⟨G3, h3, hf⟩ := dh_bd hf
    refine g_iast h3 dJ3_fill_13 ?_
    refine dg_l (fun _ _ _ _ _ _ _ hC => r_iinc (lv' := [(2, .int (x2 + 1)), (0, dj_v E x0), (1, .int x1), (3, .int x3)]) hC dJ3_fill_14 (j := 2) rfl (congrArg _ ki_1) (Nat.le_of_ble_eq_true rfl) rfl) ?_
    refine dg_l (fun _ _ _ _ _ _ _ hC => r_goto hC dJ3_fill_17 (tgt := 5) (by decide)) ?_
    exact g_sub [1, 2, 0, 3] rfl (hk5 G3 x0 x1 (x2 + 1) x3 hf)
def gG_J3_fill_L5 : Nat → dg_G → Nat → Int32 → Int32 → Int32 → Option dg_G
  | 0 => fun _ _ _ _ _ => none
  | n + 1 => gG_J3_fill_L5_F (gG_J3_fill_L5 n)
theorem wG_J3_fill_L5 {l : Launch} {E : dj_E} {Mo : Option dm_M} {G' : dg_G} : ∀ (n : Nat) (G : dg_G) (x0 : Nat) (x1 : Int32) (x2 : Int32) (x3 : Int32) (_ : gG_J3_fill_L5 n G x0 x1 x2 x3 = some G'), dgW tG_J3_fill l E Mo G' (.inr none) G 5 [(0, dj_v E x0), (1, .int x1), (2, .int x2), (3, .int x3)] [] := by
  intro n
  induction n with
  | zero => intro G x0 x1 x2 x3 hf; exact dh_no hf
  | succ n ih => intro G x0 x1 x2 x3 hf; exact wG_J3_fill_L5_F (gG_J3_fill_L5 n) ih G x0 x1 x2 x3 hf
def gG_J3_fill (G : dg_G) (x0 : Nat) (x1 : Int32) : Option dg_G :=
  (dg_ln G x0).bind fun v1 =>
  gG_J3_fill_L5 dh_fu G x0 x1 0 v1
theorem wG_J3_fill {l : Launch} {E : dj_E} {Mo : Option dm_M} {G' : dg_G} (G : dg_G) (x0 : Nat) (x1 : Int32) (hf : gG_J3_fill G x0 x1 = some G') : dgW tG_J3_fill l E Mo G' (.inr none) G 0 [(0, dj_v E x0), (1, .int x1)] [] := by
  unfold gG_J3_fill at hf
  refine dg_l (fun _ _ _ _ _ _ _ hC => r_iconst hC dJ3_fill_0 ki_0) ?_
  refine dg_l (fun _ _ _ _ _ _ _ hC => r_istore_n (lv' := [(2, .int 0), (0, dj_v E x0), (1, .int x1)]) hC dJ3_fill_1 rfl (Nat.le_of_ble_eq_true rfl) rfl) ?_
  refine g_aload_n dJ3_fill_2 rfl (j := 1) rfl ?_
  obtain ⟨v1, h1, hf⟩ := dh_bd hf
  refine g_len h1 dJ3_fill_3 ?_
  refine dg_l (fun _ _ _ _ _ _ _ hC => r_istore_n (lv' := [(3, .int v1), (2, .int 0), (0, dj_v E x0), (1, .int x1)]) hC dJ3_fill_4 rfl (Nat.le_of_ble_eq_true rfl) rfl) ?_
  exact g_sub [2, 3, 1, 0] rfl (wG_J3_fill_L5 dh_fu G x0 x1 0 v1 hf)
theorem cG_J3_fill (l : Launch) (E : dj_E) (Mo : Option dm_M) (G : dg_G) (x0 : Nat) (x1 : Int32) {G' : dg_G} (h : gG_J3_fill G x0 x1 = some G') : dg_Met l yJ3_fill cJ3_fill 4 none 0 0 E Mo [dj_v E x0, .int x1] G none G' :=
  dg_met (plainFor_of_name (by decide)) (by simp only [lg_sl_ref, lg_sl_int, lg_sl_long, lg_sl_nil]; decide) (by simp only [lv_args_ref, lv_args_int, lv_args_long, lv_args_nil]) (wG_J3_fill G x0 x1 h)
theorem qG_J3_fill : dg_cS yJ3_fill cJ3_fill 4 none 2 := ⟨q160, q86, q161, by decide, by decide, by decide +kernel⟩
/-! java/util/Arrays.fill([JJ)V -/
abbrev tG_J3_fill_2 : dg_T := (cJ3_fill_2, 5, RJ3, none, 0, 0, "fill", [])
def gG_J3_fill_2_L6_F (k6 : (dg_G → Nat → Int64 → Int32 → Int32 → Option dg_G)) (G : dg_G) (x0 : Nat) (x1 : Int64) (x3 : Int32) (x4 : Int32) : Option dg_G :=
  if x4 ≤ x3 then (
    some G)
  else
  (dg_stL G x0 x3 x1).bind fun G3 =>
  k6 G3 x0 x1 (x3 + 1) x4
theorem wG_J3_fill_2_L6_F {l : Launch} {E : dj_E} {Mo : Option dm_M} {G' : dg_G} (k6 : (dg_G → Nat → Int64 → Int32 → Int32 → Option dg_G)) (hk6 : ∀ (G : dg_G) (x0 : Nat) (x1 : Int64) (x3 : Int32) (x4 : Int32), k6 G x0 x1 x3 x4 = some G' → dgW tG_J3_fill_2 l E Mo G' (.inr none) G 6 [(0, dj_v E x0), (1, .long x1), (3, .int x3), (4, .int x4)] []) (G : dg_G) (x0 : Nat) (x1 : Int64) (x3 : Int32) (x4 : Int32) (hf : gG_J3_fill_2_L6_F k6 G x0 x1 x3 x4 = some G') : dgW tG_J3_fill_2 l E Mo G' (.inr none) G 6 [(0, dj_v E x0), (1, .long x1), (3, .int x3), (4, .int x4)] [] := by
  unfold gG_J3_fill_2_L6_F at hf
  refine dg_l (fun _ _ _ _ _ _ _ hC => r_iload_n hC dJ3_fill_2_6 rfl (j := 2) rfl) ?_
  refine dg_l (fun _ _ _ _ _ _ _ hC => r_iload hC dJ3_fill_2_7 (j := 3) rfl) ?_
  refine dg_b (fun _ _ _ _ _ _ _ hC => r_icmp_ge hC dJ3_fill_2_9 (tgt := 22) (by decide)) (fun c2 => ?_) (fun c2 => ?_)
  · have hf := dh_if hf c2
    exact g_vret dJ3_fill_2_22 rfl hf
  · have hf := dh_el hf c2
    refine g_aload_n dJ3_fill_2_12 rfl (j := 0) rfl ?_
    refine dg_l (fun _ _ _ _ _ _ _ hC => r_iload_n hC dJ3_fill_2_13 rfl (j := 2) rfl) ?_
    refine dg_l (fun _ _ _ _ _ _ _ hC => r_lload_n hC dJ3_fill_2_14 rfl (j := 1) rfl) ?_
    obtain ⟨G3, h3, hf⟩ := dh_bd hf
    refine g_last h3 dJ3_fill_2_15 ?_
    refine dg_l (fun _ _ _ _ _ _ _ hC => r_iinc (lv' := [(3, .int (x3 + 1)), (0, dj_v E x0), (1, .long x1), (4, .int x4)]) hC dJ3_fill_2_16 (j := 2) rfl (congrArg _ ki_1) (Nat.le_of_ble_eq_true rfl) rfl) ?_
    refine dg_l (fun _ _ _ _ _ _ _ hC => r_goto hC dJ3_fill_2_19 (tgt := 6) (by decide)) ?_
    exact g_sub [1, 2, 0, 3] rfl (hk6 G3 x0 x1 (x3 + 1) x4 hf)
def gG_J3_fill_2_L6 : Nat → dg_G → Nat → Int64 → Int32 → Int32 → Option dg_G
  | 0 => fun _ _ _ _ _ => none
  | n + 1 => gG_J3_fill_2_L6_F (gG_J3_fill_2_L6 n)
theorem wG_J3_fill_2_L6 {l : Launch} {E : dj_E} {Mo : Option dm_M} {G' : dg_G} : ∀ (n : Nat) (G : dg_G) (x0 : Nat) (x1 : Int64) (x3 : Int32) (x4 : Int32) (_ : gG_J3_fill_2_L6 n G x0 x1 x3 x4 = some G'), dgW tG_J3_fill_2 l E Mo G' (.inr none) G 6 [(0, dj_v E x0), (1, .long x1), (3, .int x3), (4, .int x4)] [] := by
  intro n
  induction n with
  | zero => intro G x0 x1 x3 x4 hf; exact dh_no hf
  | succ n ih => intro G x0 x1 x3 x4 hf; exact wG_J3_fill_2_L6_F (gG_J3_fill_2_L6 n) ih G x0 x1 x3 x4 hf
def gG_J3_fill_2 (G : dg_G) (x0 : Nat) (x1 : Int64) : Option dg_G :=
  (dg_ln G x0).bind fun v1 =>
  gG_J3_fill_2_L6 dh_fu G x0 x1 0 v1
theorem wG_J3_fill_2 {l : Launch} {E : dj_E} {Mo : Option dm_M} {G' : dg_G} (G : dg_G) (x0 : Nat) (x1 : Int64) (hf : gG_J3_fill_2 G x0 x1 = some G') : dgW tG_J3_fill_2 l E Mo G' (.inr none) G 0 [(0, dj_v E x0), (1, .long x1)] [] := by
  unfold gG_J3_fill_2 at hf
  refine dg_l (fun _ _ _ _ _ _ _ hC => r_iconst hC dJ3_fill_2_0 ki_0) ?_
  refine dg_l (fun _ _ _ _ _ _ _ hC => r_istore_n (lv' := [(3, .int 0), (0, dj_v E x0), (1, .long x1)]) hC dJ3_fill_2_1 rfl (Nat.le_of_ble_eq_true rfl) rfl) ?_
  refine g_aload_n dJ3_fill_2_2 rfl (j := 1) rfl ?_
  obtain ⟨v1, h1, hf⟩ := dh_bd hf
  refine g_len h1 dJ3_fill_2_3 ?_
  refine dg_l (fun _ _ _ _ _ _ _ hC => r_istore (lv' := [(4, .int v1), (3, .int 0), (0, dj_v E x0), (1, .long x1)]) hC dJ3_fill_2_4 (Nat.le_of_ble_eq_true rfl) rfl) ?_
  exact g_sub [2, 3, 1, 0] rfl (wG_J3_fill_2_L6 dh_fu G x0 x1 0 v1 hf)
theorem cG_J3_fill_2 (l : Launch) (E : dj_E) (Mo : Option dm_M) (G : dg_G) (x0 : Nat) (x1 : Int64) {G' : dg_G} (h : gG_J3_fill_2 G x0 x1 = some G') : dg_Met l yJ3_fill_2 cJ3_fill_2 5 none 0 0 E Mo [dj_v E x0, .long x1] G none G' :=
  dg_met (plainFor_of_name (by decide)) (by simp only [lg_sl_ref, lg_sl_int, lg_sl_long, lg_sl_nil]; decide) (by simp only [lv_args_ref, lv_args_int, lv_args_long, lv_args_nil]) (wG_J3_fill_2 G x0 x1 h)
theorem qG_J3_fill_2 : dg_cS yJ3_fill_2 cJ3_fill_2 5 none 2 := ⟨q1243, q86, q1244, by decide, by decide, by decide +kernel⟩
/-! java/util/Arrays.fill([ZZ)V -/
abbrev tG_J3_fill_3 : dg_T := (cJ3_fill_3, 4, RJ3, none, 0, 0, "fill", [])
def gG_J3_fill_3_L5_F (k5 : (dg_G → Nat → Int32 → Int32 → Int32 → Option dg_G)) (G : dg_G) (x0 : Nat) (x1 : Int32) (x2 : Int32) (x3 : Int32) : Option dg_G :=
  if x3 ≤ x2 then (
    some G)
  else
  (dg_st G 52 x0 x2 (vp_nar .boolean x1)).bind fun G3 =>
  k5 G3 x0 x1 (x2 + 1) x3
theorem wG_J3_fill_3_L5_F {l : Launch} {E : dj_E} {Mo : Option dm_M} {G' : dg_G} (k5 : (dg_G → Nat → Int32 → Int32 → Int32 → Option dg_G)) (hk5 : ∀ (G : dg_G) (x0 : Nat) (x1 : Int32) (x2 : Int32) (x3 : Int32), k5 G x0 x1 x2 x3 = some G' → dgW tG_J3_fill_3 l E Mo G' (.inr none) G 5 [(0, dj_v E x0), (1, .int x1), (2, .int x2), (3, .int x3)] []) (G : dg_G) (x0 : Nat) (x1 : Int32) (x2 : Int32) (x3 : Int32) (hf : gG_J3_fill_3_L5_F k5 G x0 x1 x2 x3 = some G') : dgW tG_J3_fill_3 l E Mo G' (.inr none) G 5 [(0, dj_v E x0), (1, .int x1), (2, .int x2), (3, .int x3)] [] := by
  unfold gG_J3_fill_3_L5_F at hf
  refine dg_l (fun _ _ _ _ _ _ _ hC => r_iload_n hC dJ3_fill_3_5 rfl (j := 2) rfl) ?_
  refine dg_l (fun _ _ _ _ _ _ _ hC => r_iload_n hC dJ3_fill_3_6 rfl (j := 3) rfl) ?_
  refine dg_b (fun _ _ _ _ _ _ _ hC => r_icmp_ge hC dJ3_fill_3_7 (tgt := 20) (by decide)) (fun c2 => ?_) (fun c2 => ?_)
  · have hf := dh_if hf c2
    exact g_vret dJ3_fill_3_20 rfl hf
  · have hf := dh_el hf c2
    refine g_aload_n dJ3_fill_3_10 rfl (j := 0) rfl ?_
    refine dg_l (fun _ _ _ _ _ _ _ hC => r_iload_n hC dJ3_fill_3_11 rfl (j := 2) rfl) ?_
    refine dg_l (fun _ _ _ _ _ _ _ hC => r_iload_n hC dJ3_fill_3_12 rfl (j := 1) rfl) ?_
    obtain ⟨G3, h3, hf⟩ := dh_bd hf
    refine g_zast h3 dJ3_fill_3_13 ?_
    refine dg_l (fun _ _ _ _ _ _ _ hC => r_iinc (lv' := [(2, .int (x2 + 1)), (0, dj_v E x0), (1, .int x1), (3, .int x3)]) hC dJ3_fill_3_14 (j := 2) rfl (congrArg _ ki_1) (Nat.le_of_ble_eq_true rfl) rfl) ?_
    refine dg_l (fun _ _ _ _ _ _ _ hC => r_goto hC dJ3_fill_3_17 (tgt := 5) (by decide)) ?_
    exact g_sub [1, 2, 0, 3] rfl (hk5 G3 x0 x1 (x2 + 1) x3 hf)
def gG_J3_fill_3_L5 : Nat → dg_G → Nat → Int32 → Int32 → Int32 → Option dg_G
  | 0 => fun _ _ _ _ _ => none
  | n + 1 => gG_J3_fill_3_L5_F (gG_J3_fill_3_L5 n)
theorem wG_J3_fill_3_L5 {l : Launch} {E : dj_E} {Mo : Option dm_M} {G' : dg_G} : ∀ (n : Nat) (G : dg_G) (x0 : Nat) (x1 : Int32) (x2 : Int32) (x3 : Int32) (_ : gG_J3_fill_3_L5 n G x0 x1 x2 x3 = some G'), dgW tG_J3_fill_3 l E Mo G' (.inr none) G 5 [(0, dj_v E x0), (1, .int x1), (2, .int x2), (3, .int x3)] [] := by
  intro n
  induction n with
  | zero => intro G x0 x1 x2 x3 hf; exact dh_no hf
  | succ n ih => intro G x0 x1 x2 x3 hf; exact wG_J3_fill_3_L5_F (gG_J3_fill_3_L5 n) ih G x0 x1 x2 x3 hf
def gG_J3_fill_3 (G : dg_G) (x0 : Nat) (x1 : Int32) : Option dg_G :=
  (dg_ln G x0).bind fun v1 =>
  gG_J3_fill_3_L5 dh_fu G x0 x1 0 v1
theorem wG_J3_fill_3 {l : Launch} {E : dj_E} {Mo : Option dm_M} {G' : dg_G} (G : dg_G) (x0 : Nat) (x1 : Int32) (hf : gG_J3_fill_3 G x0 x1 = some G') : dgW tG_J3_fill_3 l E Mo G' (.inr none) G 0 [(0, dj_v E x0), (1, .int x1)] [] := by
  unfold gG_J3_fill_3 at hf
  refine dg_l (fun _ _ _ _ _ _ _ hC => r_iconst hC dJ3_fill_3_0 ki_0) ?_
  refine dg_l (fun _ _ _ _ _ _ _ hC => r_istore_n (lv' := [(2, .int 0), (0, dj_v E x0), (1, .int x1)]) hC dJ3_fill_3_1 rfl (Nat.le_of_ble_eq_true rfl) rfl) ?_
  refine g_aload_n dJ3_fill_3_2 rfl (j := 1) rfl ?_
  obtain ⟨v1, h1, hf⟩ := dh_bd hf
  refine g_len h1 dJ3_fill_3_3 ?_
  refine dg_l (fun _ _ _ _ _ _ _ hC => r_istore_n (lv' := [(3, .int v1), (2, .int 0), (0, dj_v E x0), (1, .int x1)]) hC dJ3_fill_3_4 rfl (Nat.le_of_ble_eq_true rfl) rfl) ?_
  exact g_sub [2, 3, 1, 0] rfl (wG_J3_fill_3_L5 dh_fu G x0 x1 0 v1 hf)
theorem cG_J3_fill_3 (l : Launch) (E : dj_E) (Mo : Option dm_M) (G : dg_G) (x0 : Nat) (x1 : Int32) {G' : dg_G} (h : gG_J3_fill_3 G x0 x1 = some G') : dg_Met l yJ3_fill_3 cJ3_fill_3 4 none 0 0 E Mo [dj_v E x0, .int x1] G none G' :=
  dg_met (plainFor_of_name (by decide)) (by simp only [lg_sl_ref, lg_sl_int, lg_sl_long, lg_sl_nil]; decide) (by simp only [lv_args_ref, lv_args_int, lv_args_long, lv_args_nil]) (wG_J3_fill_3 G x0 x1 h)
theorem qG_J3_fill_3 : dg_cS yJ3_fill_3 cJ3_fill_3 4 none 2 := ⟨q1246, q86, q1247, by decide, by decide, by decide +kernel⟩
/-! java/util/Arrays.checkLength(II)V -/
abbrev tG_J3_checkLength : dg_T := (cJ3_checkLength, 2, RJ3, none, 0, 0, "checkLength", [])
def gG_J3_checkLength (G : dg_G) (x0 : Int32) (x1 : Int32) : Option dg_G :=
  if x0 ≤ x1 then (
    some G)
  else
  none
theorem wG_J3_checkLength {l : Launch} {E : dj_E} {Mo : Option dm_M} {G' : dg_G} (G : dg_G) (x0 : Int32) (x1 : Int32) (hf : gG_J3_checkLength G x0 x1 = some G') : dgW tG_J3_checkLength l E Mo G' (.inr none) G 0 [(0, .int x0), (1, .int x1)] [] := by
  unfold gG_J3_checkLength at hf
  refine dg_l (fun _ _ _ _ _ _ _ hC => r_iload_n hC dJ3_checkLength_0 rfl (j := 1) rfl) ?_
  refine dg_l (fun _ _ _ _ _ _ _ hC => r_iload_n hC dJ3_checkLength_1 rfl (j := 0) rfl) ?_
  refine dg_b (fun _ _ _ _ _ _ _ hC => r_icmp_ge hC dJ3_checkLength_2 (tgt := 37) (by decide)) (fun c1 => ?_) (fun c1 => ?_)
  · have hf := dh_if hf c1
    exact g_vret dJ3_checkLength_37 rfl hf
  · have hf := dh_el hf c1
    exact dh_no hf
theorem cG_J3_checkLength (l : Launch) (E : dj_E) (Mo : Option dm_M) (G : dg_G) (x0 : Int32) (x1 : Int32) {G' : dg_G} (h : gG_J3_checkLength G x0 x1 = some G') : dg_Met l yJ3_checkLength cJ3_checkLength 2 none 0 0 E Mo [.int x0, .int x1] G none G' :=
  dg_met (plainFor_of_name (by decide)) (by simp only [lg_sl_ref, lg_sl_int, lg_sl_long, lg_sl_nil]; decide) (by simp only [lv_args_ref, lv_args_int, lv_args_long, lv_args_nil]) (wG_J3_checkLength G x0 x1 h)
theorem qG_J3_checkLength : dg_cS yJ3_checkLength cJ3_checkLength 2 none 2 := ⟨q760, q86, q761, by decide, by decide, by decide +kernel⟩
/-! jdk/internal/util/Preconditions.checkIndex(IILjava/util/function/BiFunction;)I -/
abbrev tG_J8_checkIndex : dg_T := (cJ8_checkIndex, 3, RJ8, (some .int), 0, 0, "checkIndex", [])
def gG_J8_checkIndex (G : dg_G) (x0 : Int32) (x1 : Int32) (x2 : Nat) : Option Int32 :=
  if x0 < 0 then (
    none)
  else
  if x0 < x1 then (
    some x0)
  else
  none
theorem wG_J8_checkIndex {l : Launch} {E : dj_E} {Mo : Option dm_M} {r : Int32} (G : dg_G) (x0 : Int32) (x1 : Int32) (x2 : Nat) (hf : gG_J8_checkIndex G x0 x1 x2 = some r) : dgW tG_J8_checkIndex l E Mo G (.inr (some (.int r))) G 0 [(0, .int x0), (1, .int x1), (2, dj_v E x2)] [] := by
  unfold gG_J8_checkIndex at hf
  refine dg_l (fun _ _ _ _ _ _ _ hC => r_iload_n hC dJ8_checkIndex_0 rfl (j := 0) rfl) ?_
  refine dg_b (fun _ _ _ _ _ _ _ hC => r_if_lt hC dJ8_checkIndex_1 (tgt := 9) (by decide)) (fun c1 => ?_) (fun c1 => ?_)
  · have hf := dh_if hf c1
    exact dh_no hf
  · have hf := dh_el hf c1
    refine dg_l (fun _ _ _ _ _ _ _ hC => r_iload_n hC dJ8_checkIndex_4 rfl (j := 0) rfl) ?_
    refine dg_l (fun _ _ _ _ _ _ _ hC => r_iload_n hC dJ8_checkIndex_5 rfl (j := 1) rfl) ?_
    refine dg_b (fun _ _ _ _ _ _ _ hC => r_icmp_lt hC dJ8_checkIndex_6 (tgt := 16) (by decide)) (fun c2 => ?_) (fun c2 => ?_)
    · have hf := dh_if hf c2
      refine dg_l (fun _ _ _ _ _ _ _ hC => r_iload_n hC dJ8_checkIndex_16 rfl (j := 0) rfl) ?_
      exact g_iret1 dJ8_checkIndex_17 rfl hf
    · have hf := dh_el hf c2
      exact dh_no hf
theorem cG_J8_checkIndex (l : Launch) (E : dj_E) (Mo : Option dm_M) (G : dg_G) (x0 : Int32) (x1 : Int32) (x2 : Nat) {r : Int32} (h : gG_J8_checkIndex G x0 x1 x2 = some r) : dg_Met l yJ8_checkIndex cJ8_checkIndex 3 (some .int) 0 0 E Mo [.int x0, .int x1, dj_v E x2] G (some (.int r)) G :=
  dg_met (plainFor_of_name (by decide)) (by simp only [lg_sl_ref, lg_sl_int, lg_sl_long, lg_sl_nil]; decide) (by simp only [lv_args_ref, lv_args_int, lv_args_long, lv_args_nil]) (wG_J8_checkIndex G x0 x1 x2 h)
theorem qG_J8_checkIndex : dg_cS yJ8_checkIndex cJ8_checkIndex 3 (some .int) 3 := ⟨q497, q96, q498, by decide, by decide, by decide +kernel⟩
/-! java/util/Objects.checkIndex(II)I -/
abbrev tG_J7_checkIndex : dg_T := (cJ7_checkIndex, 2, RJ7, (some .int), 1, 22, "checkIndex", [])
def gG_J7_checkIndex (G : dg_G) (x0 : Int32) (x1 : Int32) : Option Int32 :=
  (gG_J8_checkIndex G x0 x1 0).bind fun p1 =>
  some p1
theorem wG_J7_checkIndex {l : Launch} {E : dj_E} {Mo : Option dm_M} {r : Int32} (G : dg_G) (x0 : Int32) (x1 : Int32) (hf : gG_J7_checkIndex G x0 x1 = some r) : dgW tG_J7_checkIndex l E Mo G (.inr (some (.int r))) G 0 [(0, .int x0), (1, .int x1)] [] := by
  unfold gG_J7_checkIndex at hf
  refine dg_l (fun _ _ _ _ _ _ _ hC => r_iload_n hC dJ7_checkIndex_0 rfl (j := 0) rfl) ?_
  refine dg_l (fun _ _ _ _ _ _ _ hC => r_iload_n hC dJ7_checkIndex_1 rfl (j := 1) rfl) ?_
  refine g_null dJ7_checkIndex_2 ?_
  obtain ⟨p1, h1, hf⟩ := dh_bd hf
  refine g_callS (cG_J8_checkIndex _ E Mo G x0 x1 0 h1) q496 qG_J8_checkIndex (Nat.le_of_ble_eq_true rfl) (Nat.le_of_ble_eq_true rfl) rfl (dj_cat8 (Nat.le_of_ble_eq_true rfl)) dJ7_checkIndex_3 ?_
  exact g_iret1 dJ7_checkIndex_6 rfl hf
theorem cG_J7_checkIndex (l : Launch) (E : dj_E) (Mo : Option dm_M) (G : dg_G) (x0 : Int32) (x1 : Int32) {r : Int32} (h : gG_J7_checkIndex G x0 x1 = some r) : dg_Met l yJ7_checkIndex cJ7_checkIndex 2 (some .int) 1 22 E Mo [.int x0, .int x1] G (some (.int r)) G :=
  dg_met (plainFor_of_name (by decide)) (by simp only [lg_sl_ref, lg_sl_int, lg_sl_long, lg_sl_nil]; decide) (by simp only [lv_args_ref, lv_args_int, lv_args_long, lv_args_nil]) (wG_J7_checkIndex G x0 x1 h)
theorem qG_J7_checkIndex : dg_cS yJ7_checkIndex cJ7_checkIndex 2 (some .int) 2 := ⟨q494, q95, q495, by decide, by decide, by decide +kernel⟩
/-! jdk/internal/util/ArraysSupport.newLength(III)I -/
abbrev tG_J4_newLength : dg_T := (cJ4_newLength, 4, RJ4, (some .int), 1, 21, "newLength", [])
def gG_J4_newLength (G : dg_G) (x0 : Int32) (x1 : Int32) (x2 : Int32) : Option Int32 :=
  (gG_J5_max G x1 x2).bind fun p1 =>
  if (x0 + p1) ≤ 0 then (
    none)
  else
  if 2147483639 < (x0 + p1) then (
    none)
  else
  some (x0 + p1)
theorem wG_J4_newLength {l : Launch} {E : dj_E} {Mo : Option dm_M} {r : Int32} (G : dg_G) (x0 : Int32) (x1 : Int32) (x2 : Int32) (hf : gG_J4_newLength G x0 x1 x2 = some r) : dgW tG_J4_newLength l E Mo G (.inr (some (.int r))) G 0 [(0, .int x0), (1, .int x1), (2, .int x2)] [] := by
  unfold gG_J4_newLength at hf
  refine dg_l (fun _ _ _ _ _ _ _ hC => r_iload_n hC dJ4_newLength_0 rfl (j := 0) rfl) ?_
  refine dg_l (fun _ _ _ _ _ _ _ hC => r_iload_n hC dJ4_newLength_1 rfl (j := 1) rfl) ?_
  refine dg_l (fun _ _ _ _ _ _ _ hC => r_iload_n hC dJ4_newLength_2 rfl (j := 2) rfl) ?_
  obtain ⟨p1, h1, hf⟩ := dh_bd hf
  refine g_callS (cG_J5_max _ E Mo G x1 x2 h1) q351 qG_J5_max (Nat.le_of_ble_eq_true rfl) (Nat.le_of_ble_eq_true rfl) rfl (dj_cat8 (Nat.le_of_ble_eq_true rfl)) dJ4_newLength_3 ?_
  refine dg_l (fun _ _ _ _ _ _ _ hC => r_iadd hC dJ4_newLength_6) ?_
  refine dg_l (fun _ _ _ _ _ _ _ hC => r_istore_n (lv' := [(3, .int (x0 + p1)), (0, .int x0), (1, .int x1), (2, .int x2)]) hC dJ4_newLength_7 rfl (Nat.le_of_ble_eq_true rfl) rfl) ?_
  refine dg_l (fun _ _ _ _ _ _ _ hC => r_iconst hC dJ4_newLength_8 ki_0) ?_
  refine dg_l (fun _ _ _ _ _ _ _ hC => r_iload_n hC dJ4_newLength_9 rfl (j := 0) rfl) ?_
  refine dg_b (fun _ _ _ _ _ _ _ hC => r_icmp_ge hC dJ4_newLength_10 (tgt := 21) (by decide)) (fun c2 => ?_) (fun c2 => ?_)
  · have hf := dh_if hf c2
    exact dh_no hf
  · have hf := dh_el hf c2
    refine dg_l (fun _ _ _ _ _ _ _ hC => r_iload_n hC dJ4_newLength_13 rfl (j := 0) rfl) ?_
    refine dg_l (fun _ _ _ _ _ _ _ hC => r_ldc hC q354 dJ4_newLength_14) ?_
    refine dg_b (fun _ _ _ _ _ _ _ hC => r_icmp_gt hC dJ4_newLength_16 (tgt := 21) (by decide)) (fun c3 => ?_) (fun c3 => ?_)
    · have hf := dh_if hf c3
      exact dh_no hf
    · have hf := dh_el hf c3
      refine dg_l (fun _ _ _ _ _ _ _ hC => r_iload_n hC dJ4_newLength_19 rfl (j := 0) rfl) ?_
      exact g_iret1 dJ4_newLength_20 rfl hf
theorem cG_J4_newLength (l : Launch) (E : dj_E) (Mo : Option dm_M) (G : dg_G) (x0 : Int32) (x1 : Int32) (x2 : Int32) {r : Int32} (h : gG_J4_newLength G x0 x1 x2 = some r) : dg_Met l yJ4_newLength cJ4_newLength 4 (some .int) 1 21 E Mo [.int x0, .int x1, .int x2] G (some (.int r)) G :=
  dg_met (plainFor_of_name (by decide)) (by simp only [lg_sl_ref, lg_sl_int, lg_sl_long, lg_sl_nil]; decide) (by simp only [lv_args_ref, lv_args_int, lv_args_long, lv_args_nil]) (wG_J4_newLength G x0 x1 x2 h)
theorem qG_J4_newLength : dg_cS yJ4_newLength cJ4_newLength 4 (some .int) 3 := ⟨q349, q89, q350, by decide, by decide, by decide +kernel⟩
/-! java/util/Arrays.copyOf([Ljava/lang/Object;ILjava/lang/Class;)[Ljava/lang/Object; -/
abbrev tG_J3_copyOf_2 : dg_T := (cJ3_copyOf_2, 4, RJ3, (some (.array (.object "java/lang/Object"))), 1, 26, "copyOf", [])
def gG_J3_copyOf_2 (G : dg_G) (x0 : Nat) (x1 : Int32) (x2 : Nat) : Option (Nat × dg_G) :=
  (dg_cmp x2 33).bind fun u1 =>
  if x2 = 33 then (
    (dg_new G 54 x1).bind fun G2 =>
    (dg_ln G2 x0).bind fun v3 =>
    (gG_J5_min G2 v3 x1).bind fun p4 =>
    (dg_cpR G2 x0 0 (dg_n G) 0 p4).bind fun G5 =>
    some (dg_n G, G5))
  else
  none
theorem wG_J3_copyOf_2 {l : Launch} {E : dj_E} {Mo : Option dm_M} {r : Nat} {G' : dg_G} (G : dg_G) (x0 : Nat) (x1 : Int32) (x2 : Nat) (hf : gG_J3_copyOf_2 G x0 x1 x2 = some (r, G')) : dgW tG_J3_copyOf_2 l E Mo G' (.inr (some (dj_v E r))) G 0 [(0, dj_v E x0), (1, .int x1), (2, dj_v E x2)] [] := by
  unfold gG_J3_copyOf_2 at hf
  refine g_aload_n dJ3_copyOf_2_0 rfl (j := 2) rfl ?_
  refine g_ldcM q385 dJ3_copyOf_2_1 ?_
  obtain ⟨u1, h1, hf⟩ := dh_bd hf
  refine g_acmp_ne h1 dJ3_copyOf_2_3 (tgt := 13) (by decide) (fun c1 => ?_) (fun c1 => ?_)
  · have hf := dh_el hf c1
    exact dh_no hf
  · have hf := dh_if hf c1
    refine dg_l (fun _ _ _ _ _ _ _ hC => r_iload_n hC dJ3_copyOf_2_6 rfl (j := 1) rfl) ?_
    obtain ⟨G2, h2, hf⟩ := dh_bd hf
    refine g_newq 4 (by decide) rfl q386 (fun _ h => h.2.2.2.2.2.1) h2 dJ3_copyOf_2_7 ?_
    refine dg_l (fun _ _ _ _ _ _ _ hC => r_goto hC dJ3_copyOf_2_10 (tgt := 24) (by decide)) ?_
    refine g_astore_n (i := 3) (lv1 := [(3, dj_v E (dg_n G)), (0, dj_v E x0), (1, .int x1), (2, dj_v E x2)]) dJ3_copyOf_2_24 rfl (Nat.le_of_ble_eq_true rfl) (by simp only [List.filter, dj_cat] <;> rfl) ?_
    refine g_aload_n dJ3_copyOf_2_25 rfl (j := 1) rfl ?_
    refine dg_l (fun _ _ _ _ _ _ _ hC => r_iconst hC dJ3_copyOf_2_26 ki_0) ?_
    refine g_aload_n dJ3_copyOf_2_27 rfl (j := 0) rfl ?_
    refine dg_l (fun _ _ _ _ _ _ _ hC => r_iconst hC dJ3_copyOf_2_28 ki_0) ?_
    refine g_aload_n dJ3_copyOf_2_29 rfl (j := 1) rfl ?_
    obtain ⟨v3, h3, hf⟩ := dh_bd hf
    refine g_len h3 dJ3_copyOf_2_30 ?_
    refine dg_l (fun _ _ _ _ _ _ _ hC => r_iload_n hC dJ3_copyOf_2_31 rfl (j := 2) rfl) ?_
    obtain ⟨p4, h4, hf⟩ := dh_bd hf
    refine g_callS (cG_J5_min _ E Mo G2 v3 x1 h4) q387 qG_J5_min (Nat.le_of_ble_eq_true rfl) (Nat.le_of_ble_eq_true rfl) rfl (dj_cat8 (Nat.le_of_ble_eq_true rfl)) dJ3_copyOf_2_32 ?_
    obtain ⟨G5, h5, hf⟩ := dh_bd hf
    refine g_copyR q390 h5 (Nat.le_of_ble_eq_true rfl) (Nat.le_of_ble_eq_true rfl) dJ3_copyOf_2_35 ?_
    refine g_aload_n dJ3_copyOf_2_38 rfl (j := 0) rfl ?_
    exact g_aret dJ3_copyOf_2_39 rfl (Or.inr ⟨_, rfl⟩) hf
theorem cG_J3_copyOf_2 (l : Launch) (E : dj_E) (Mo : Option dm_M) (G : dg_G) (x0 : Nat) (x1 : Int32) (x2 : Nat) {p : Nat × dg_G} (h : gG_J3_copyOf_2 G x0 x1 x2 = some p) : dg_Met l yJ3_copyOf_2 cJ3_copyOf_2 4 (some (.array (.object "java/lang/Object"))) 1 26 E Mo [dj_v E x0, .int x1, dj_v E x2] G (some (dj_v E p.1)) p.2 :=
  dg_met (plainFor_of_name (by decide)) (by simp only [lg_sl_ref, lg_sl_int, lg_sl_long, lg_sl_nil]; decide) (by simp only [lv_args_ref, lv_args_int, lv_args_long, lv_args_nil]) (wG_J3_copyOf_2 G x0 x1 x2 h)
theorem qG_J3_copyOf_2 : dg_cS yJ3_copyOf_2 cJ3_copyOf_2 4 (some (.array (.object "java/lang/Object"))) 3 := ⟨q383, q86, q384, by decide, by decide, by decide +kernel⟩
/-! java/util/Arrays.copyOf([Ljava/lang/Object;I)[Ljava/lang/Object; -/
abbrev tG_J3_copyOf : dg_T := (cJ3_copyOf, 2, RJ3, (some (.array (.object "java/lang/Object"))), 2, 49, "copyOf", [])
def gG_J3_copyOf (G : dg_G) (x0 : Nat) (x1 : Int32) : Option (Nat × dg_G) :=
  (dg_is G 53 x0).bind fun u1 =>
  (gG_J3_copyOf_2 G x0 x1 33).bind fun p2 =>
  some (p2.1, p2.2)
theorem wG_J3_copyOf {l : Launch} {E : dj_E} {Mo : Option dm_M} {r : Nat} {G' : dg_G} (G : dg_G) (x0 : Nat) (x1 : Int32) (hf : gG_J3_copyOf G x0 x1 = some (r, G')) : dgW tG_J3_copyOf l E Mo G' (.inr (some (dj_v E r))) G 0 [(0, dj_v E x0), (1, .int x1)] [] := by
  unfold gG_J3_copyOf at hf
  refine g_aload_n dJ3_copyOf_0 rfl (j := 0) rfl ?_
  refine dg_l (fun _ _ _ _ _ _ _ hC => r_iload_n hC dJ3_copyOf_1 rfl (j := 1) rfl) ?_
  refine g_aload_n dJ3_copyOf_2 rfl (j := 0) rfl ?_
  obtain ⟨u1, h1, hf⟩ := dh_bd hf
  refine g_getC h1 q361 (Nat.le_of_ble_eq_true rfl) (by simp only [List.map_cons, List.map_nil, List.sum_cons, List.sum_nil, dj_cat, dh_ci, dh_cl] <;> decide) dJ3_copyOf_3 ?_
  obtain ⟨p2, h2, hf⟩ := dh_bd hf
  refine g_callS (cG_J3_copyOf_2 _ E Mo G x0 x1 33 h2) q382 qG_J3_copyOf_2 (Nat.le_of_ble_eq_true rfl) (Nat.le_of_ble_eq_true rfl) rfl (dj_cat8 (Nat.le_of_ble_eq_true rfl)) dJ3_copyOf_6 ?_
  exact g_aret dJ3_copyOf_9 rfl (Or.inr ⟨_, rfl⟩) hf
theorem cG_J3_copyOf (l : Launch) (E : dj_E) (Mo : Option dm_M) (G : dg_G) (x0 : Nat) (x1 : Int32) {p : Nat × dg_G} (h : gG_J3_copyOf G x0 x1 = some p) : dg_Met l yJ3_copyOf cJ3_copyOf 2 (some (.array (.object "java/lang/Object"))) 2 49 E Mo [dj_v E x0, .int x1] G (some (dj_v E p.1)) p.2 :=
  dg_met (plainFor_of_name (by decide)) (by simp only [lg_sl_ref, lg_sl_int, lg_sl_long, lg_sl_nil]; decide) (by simp only [lv_args_ref, lv_args_int, lv_args_long, lv_args_nil]) (wG_J3_copyOf G x0 x1 h)
theorem qG_J3_copyOf : dg_cS yJ3_copyOf cJ3_copyOf 2 (some (.array (.object "java/lang/Object"))) 2 := ⟨q359, q86, q360, by decide, by decide, by decide +kernel⟩
/-! java/util/AbstractCollection.<init>()V -/
abbrev tG_J0_init : dg_T := (cJ0_init, 1, RJ0, none, 1, 20, "<init>", [])
def gG_J0_init (G : dg_G) (x0 : Nat) : Option dg_G :=
  (dg_pos x0).bind fun u1 =>
  some G
theorem wG_J0_init {l : Launch} {E : dj_E} {Mo : Option dm_M} {G' : dg_G} (G : dg_G) (x0 : Nat) (hf : gG_J0_init G x0 = some G') : dgW tG_J0_init l E Mo G' (.inr none) G 0 [(0, dj_v E x0)] [] := by
  unfold gG_J0_init at hf
  refine g_aload_n dJ0_init_0 rfl (j := 0) rfl ?_
  obtain ⟨u1, h1, hf⟩ := dh_bd hf
  refine g_obj h1 q139 (Nat.le_of_ble_eq_true rfl) (Nat.le_of_ble_eq_true rfl) dJ0_init_1 ?_
  exact g_vret dJ0_init_4 rfl hf
theorem cG_J0_init (l : Launch) (E : dj_E) (Mo : Option dm_M) (G : dg_G) (x0 : Nat) {G' : dg_G} (h : gG_J0_init G x0 = some G') : dg_Met l yJ0_init cJ0_init 1 none 1 20 E Mo [dj_v E x0] G none G' :=
  dg_met (plainFor_of_name (by decide)) (by simp only [lg_sl_ref, lg_sl_int, lg_sl_long, lg_sl_nil]; decide) (by simp only [lv_args_ref, lv_args_int, lv_args_long, lv_args_nil]) (wG_J0_init G x0 h)
theorem qG_J0_init : dg_cI yJ0_init cJ0_init 1 0 := ⟨q137, q83, q138, rfl, by decide, by decide, by decide +kernel⟩
/-! java/util/AbstractList.<init>()V -/
abbrev tG_J1_init : dg_T := (cJ1_init, 1, RJ1, none, 2, 40, "<init>", [])
def gG_J1_init (G : dg_G) (x0 : Nat) : Option dg_G :=
  (dg_pos x0).bind fun u1 =>
  (gG_J0_init G x0).bind fun p2 =>
  (dg_pI p2 10 0 x0 0).bind fun G3 =>
  some G3
theorem wG_J1_init {l : Launch} {E : dj_E} {Mo : Option dm_M} {G' : dg_G} (G : dg_G) (x0 : Nat) (hf : gG_J1_init G x0 = some G') : dgW tG_J1_init l E Mo G' (.inr none) G 0 [(0, dj_v E x0)] [] := by
  unfold gG_J1_init at hf
  refine g_aload_n dJ1_init_0 rfl (j := 0) rfl ?_
  obtain ⟨u1, h1, hf⟩ := dh_bd hf
  obtain ⟨p2, h2, hf⟩ := dh_bd hf
  refine g_callI h1 (cG_J0_init _ E Mo G x0 h2) q136 qG_J0_init (Nat.le_of_ble_eq_true rfl) (Nat.le_of_ble_eq_true rfl) rfl (dj_cat8 (Nat.le_of_ble_eq_true rfl)) dJ1_init_1 ?_
  refine g_aload_n dJ1_init_4 rfl (j := 0) rfl ?_
  refine dg_l (fun _ _ _ _ _ _ _ hC => r_iconst hC dJ1_init_5 ki_0) ?_
  obtain ⟨G3, h3, hf⟩ := dh_bd hf
  refine g_putI fF_J1_7 (fun q => by cases q) (by decide) h3 dJ1_init_6 ?_
  exact g_vret dJ1_init_9 rfl hf
theorem cG_J1_init (l : Launch) (E : dj_E) (Mo : Option dm_M) (G : dg_G) (x0 : Nat) {G' : dg_G} (h : gG_J1_init G x0 = some G') : dg_Met l yJ1_init cJ1_init 1 none 2 40 E Mo [dj_v E x0] G none G' :=
  dg_met (plainFor_of_name (by decide)) (by simp only [lg_sl_ref, lg_sl_int, lg_sl_long, lg_sl_nil]; decide) (by simp only [lv_args_ref, lv_args_int, lv_args_long, lv_args_nil]) (wG_J1_init G x0 h)
theorem qG_J1_init : dg_cI yJ1_init cJ1_init 1 0 := ⟨q134, q84, q135, rfl, by decide, by decide, by decide +kernel⟩
/-! java/util/ArrayList.<init>(I)V -/
abbrev tG_J2_init : dg_T := (cJ2_init, 2, RJ2, none, 3, 60, "<init>", [])
def gG_J2_init (G : dg_G) (x0 : Nat) (x1 : Int32) : Option dg_G :=
  (dg_pos x0).bind fun u1 =>
  (gG_J1_init G x0).bind fun p2 =>
  if ¬ (x1 ≤ 0) then (
    (dg_new p2 54 x1).bind fun G5 =>
    (dg_pR G5 10 1 x0 (dg_n p2)).bind fun G6 =>
    some G6)
  else
  if x1 = 0 then (
    none)
  else
  none
theorem wG_J2_init {l : Launch} {E : dj_E} {Mo : Option dm_M} {G' : dg_G} (G : dg_G) (x0 : Nat) (x1 : Int32) (hf : gG_J2_init G x0 x1 = some G') : dgW tG_J2_init l E Mo G' (.inr none) G 0 [(0, dj_v E x0), (1, .int x1)] [] := by
  unfold gG_J2_init at hf
  refine g_aload_n dJ2_init_0 rfl (j := 0) rfl ?_
  obtain ⟨u1, h1, hf⟩ := dh_bd hf
  obtain ⟨p2, h2, hf⟩ := dh_bd hf
  refine g_callI h1 (cG_J1_init _ E Mo G x0 h2) q133 qG_J1_init (Nat.le_of_ble_eq_true rfl) (Nat.le_of_ble_eq_true rfl) rfl (dj_cat8 (Nat.le_of_ble_eq_true rfl)) dJ2_init_1 ?_
  refine dg_l (fun _ _ _ _ _ _ _ hC => r_iload_n hC dJ2_init_4 rfl (j := 1) rfl) ?_
  refine dg_b (fun _ _ _ _ _ _ _ hC => r_if_le hC dJ2_init_5 (tgt := 19) (by decide)) (fun c3 => ?_) (fun c3 => ?_)
  · have hf := dh_el hf (fun q => q c3)
    refine dg_l (fun _ _ _ _ _ _ _ hC => r_iload_n hC dJ2_init_19 rfl (j := 1) rfl) ?_
    refine dg_bn (fun _ _ _ _ _ _ _ hC => r_if_ne hC dJ2_init_20 (tgt := 33) (by decide)) (fun c4 => ?_) (fun c4 => ?_)
    · have hf := dh_el hf c4
      exact dh_no hf
    · have hf := dh_if hf c4
      exact dh_no hf
  · have hf := dh_if hf c3
    refine g_aload_n dJ2_init_8 rfl (j := 0) rfl ?_
    refine dg_l (fun _ _ _ _ _ _ _ hC => r_iload_n hC dJ2_init_9 rfl (j := 1) rfl) ?_
    obtain ⟨G5, h5, hf⟩ := dh_bd hf
    refine g_newq 4 (by decide) rfl q140 (fun _ h => h.2.2.2.2.2.1) h5 dJ2_init_10 ?_
    obtain ⟨G6, h6, hf⟩ := dh_bd hf
    refine g_putR fF_J2_9 (Or.inr ⟨_, rfl⟩) (fun q => by cases q) (by decide) h6 dJ2_init_13 ?_
    refine dg_l (fun _ _ _ _ _ _ _ hC => r_goto hC dJ2_init_16 (tgt := 60) (by decide)) ?_
    exact g_vret dJ2_init_60 rfl hf
theorem cG_J2_init (l : Launch) (E : dj_E) (Mo : Option dm_M) (G : dg_G) (x0 : Nat) (x1 : Int32) {G' : dg_G} (h : gG_J2_init G x0 x1 = some G') : dg_Met l yJ2_init cJ2_init 2 none 3 60 E Mo [dj_v E x0, .int x1] G none G' :=
  dg_met (plainFor_of_name (by decide)) (by simp only [lg_sl_ref, lg_sl_int, lg_sl_long, lg_sl_nil]; decide) (by simp only [lv_args_ref, lv_args_int, lv_args_long, lv_args_nil]) (wG_J2_init G x0 x1 h)
theorem qG_J2_init : dg_cI yJ2_init cJ2_init 2 1 := ⟨q131, q85, q132, rfl, by decide, by decide, by decide +kernel⟩
/-! java/util/ArrayList.size()I -/
abbrev tG_J2_size : dg_T := (cJ2_size, 1, RJ2, (some .int), 0, 0, "size", [])
def gG_J2_size (G : dg_G) (x0 : Nat) : Option Int32 :=
  (dg_gI G 10 2 x0).bind fun v1 =>
  some v1
theorem wG_J2_size {l : Launch} {E : dj_E} {Mo : Option dm_M} {r : Int32} (G : dg_G) (x0 : Nat) (hf : gG_J2_size G x0 = some r) : dgW tG_J2_size l E Mo G (.inr (some (.int r))) G 0 [(0, dj_v E x0)] [] := by
  unfold gG_J2_size at hf
  refine g_aload_n dJ2_size_0 rfl (j := 0) rfl ?_
  obtain ⟨v1, h1, hf⟩ := dh_bd hf
  refine g_getI fR_J2_48 (by decide) h1 dJ2_size_1 ?_
  exact g_iret1 dJ2_size_4 rfl hf
theorem cG_J2_size (l : Launch) (E : dj_E) (Mo : Option dm_M) (G : dg_G) (x0 : Nat) {r : Int32} (h : gG_J2_size G x0 = some r) : dg_Met l yJ2_size cJ2_size 1 (some .int) 0 0 E Mo [dj_v E x0] G (some (.int r)) G :=
  dg_met (plainFor_of_name (by decide)) (by simp only [lg_sl_ref, lg_sl_int, lg_sl_long, lg_sl_nil]; decide) (by simp only [lv_args_ref, lv_args_int, lv_args_long, lv_args_nil]) (wG_J2_size G x0 h)
theorem qG_J2_size : dg_cV "java/util/ArrayList" yJ2_size cJ2_size 1 (some .int) 0 := ⟨q257, Or.inl q258, q85, q259, by decide, by decide, by decide +kernel⟩
/-! java/util/ArrayList.elementData(I)Ljava/lang/Object; -/
abbrev tG_J2_elementData : dg_T := (cJ2_elementData, 2, RJ2, (some (.object "java/lang/Object")), 0, 0, "elementData", [])
def gG_J2_elementData (G : dg_G) (x0 : Nat) (x1 : Int32) : Option Nat :=
  (dg_gR G 10 1 x0).bind fun v1 =>
  (dg_ldR G 54 v1 x1).bind fun v2 =>
  some v2
theorem wG_J2_elementData {l : Launch} {E : dj_E} {Mo : Option dm_M} {r : Nat} (G : dg_G) (x0 : Nat) (x1 : Int32) (hf : gG_J2_elementData G x0 x1 = some r) : dgW tG_J2_elementData l E Mo G (.inr (some (dj_v E r))) G 0 [(0, dj_v E x0), (1, .int x1)] [] := by
  unfold gG_J2_elementData at hf
  refine g_aload_n dJ2_elementData_0 rfl (j := 0) rfl ?_
  obtain ⟨v1, h1, hf⟩ := dh_bd hf
  refine g_getR fR_J2_9 (by decide) h1 dJ2_elementData_1 ?_
  refine dg_l (fun _ _ _ _ _ _ _ hC => r_iload_n hC dJ2_elementData_4 rfl (j := 1) rfl) ?_
  obtain ⟨v2, h2, hf⟩ := dh_bd hf
  refine g_aald 4 (by decide) (by decide) rfl rfl h2 dJ2_elementData_5 ?_
  exact g_aret1 dJ2_elementData_6 rfl (Or.inl ⟨_, rfl⟩) hf
theorem cG_J2_elementData (l : Launch) (E : dj_E) (Mo : Option dm_M) (G : dg_G) (x0 : Nat) (x1 : Int32) {r : Nat} (h : gG_J2_elementData G x0 x1 = some r) : dg_Met l yJ2_elementData cJ2_elementData 2 (some (.object "java/lang/Object")) 0 0 E Mo [dj_v E x0, .int x1] G (some (dj_v E r)) G :=
  dg_met (plainFor_of_name (by decide)) (by simp only [lg_sl_ref, lg_sl_int, lg_sl_long, lg_sl_nil]; decide) (by simp only [lv_args_ref, lv_args_int, lv_args_long, lv_args_nil]) (wG_J2_elementData G x0 x1 h)
theorem qG_J2_elementData : dg_cV "java/util/ArrayList" yJ2_elementData cJ2_elementData 2 (some (.object "java/lang/Object")) 1 := ⟨q500, Or.inl q501, q85, q502, by decide, by decide, by decide +kernel⟩
/-! java/util/ArrayList.get(I)Ljava/lang/Object; -/
abbrev tG_J2_get : dg_T := (cJ2_get, 2, RJ2, (some (.object "java/lang/Object")), 2, 43, "get", [])
def gG_J2_get (G : dg_G) (x0 : Nat) (x1 : Int32) : Option Nat :=
  (dg_gI G 10 2 x0).bind fun v1 =>
  (gG_J7_checkIndex G x1 v1).bind fun p2 =>
  (dg_is G 10 x0).bind fun u3 =>
  (gG_J2_elementData G x0 x1).bind fun p4 =>
  some p4
theorem wG_J2_get {l : Launch} {E : dj_E} {Mo : Option dm_M} {r : Nat} (G : dg_G) (x0 : Nat) (x1 : Int32) (hf : gG_J2_get G x0 x1 = some r) : dgW tG_J2_get l E Mo G (.inr (some (dj_v E r))) G 0 [(0, dj_v E x0), (1, .int x1)] [] := by
  unfold gG_J2_get at hf
  refine dg_l (fun _ _ _ _ _ _ _ hC => r_iload_n hC dJ2_get_0 rfl (j := 1) rfl) ?_
  refine g_aload_n dJ2_get_1 rfl (j := 0) rfl ?_
  obtain ⟨v1, h1, hf⟩ := dh_bd hf
  refine g_getI fR_J2_48 (by decide) h1 dJ2_get_2 ?_
  obtain ⟨p2, h2, hf⟩ := dh_bd hf
  refine g_callS (cG_J7_checkIndex _ E Mo G x1 v1 h2) q493 qG_J7_checkIndex (Nat.le_of_ble_eq_true rfl) (Nat.le_of_ble_eq_true rfl) rfl (dj_cat8 (Nat.le_of_ble_eq_true rfl)) dJ2_get_5 ?_
  refine dg_l (fun _ _ _ _ _ _ _ hC => r_pop hC dJ2_get_8 rfl) ?_
  refine g_aload_n dJ2_get_9 rfl (j := 0) rfl ?_
  refine dg_l (fun _ _ _ _ _ _ _ hC => r_iload_n hC dJ2_get_10 rfl (j := 1) rfl) ?_
  obtain ⟨u3, h3, hf⟩ := dh_bd hf
  obtain ⟨p4, h4, hf⟩ := dh_bd hf
  refine g_callV (rc_O (ci := 10) rfl h3) (cG_J2_elementData _ E Mo G x0 x1 h4) q499 qG_J2_elementData (Nat.le_of_ble_eq_true rfl) (Nat.le_of_ble_eq_true rfl) rfl (dj_cat8 (Nat.le_of_ble_eq_true rfl)) dJ2_get_11 ?_
  exact g_aret1 dJ2_get_14 rfl (Or.inl ⟨_, rfl⟩) hf
theorem cG_J2_get (l : Launch) (E : dj_E) (Mo : Option dm_M) (G : dg_G) (x0 : Nat) (x1 : Int32) {r : Nat} (h : gG_J2_get G x0 x1 = some r) : dg_Met l yJ2_get cJ2_get 2 (some (.object "java/lang/Object")) 2 43 E Mo [dj_v E x0, .int x1] G (some (dj_v E r)) G :=
  dg_met (plainFor_of_name (by decide)) (by simp only [lg_sl_ref, lg_sl_int, lg_sl_long, lg_sl_nil]; decide) (by simp only [lv_args_ref, lv_args_int, lv_args_long, lv_args_nil]) (wG_J2_get G x0 x1 h)
theorem qG_J2_get : dg_cV "java/util/ArrayList" yJ2_get cJ2_get 2 (some (.object "java/lang/Object")) 1 := ⟨q490, Or.inl q491, q85, q492, by decide, by decide, by decide +kernel⟩
/-! java/util/ArrayList.grow(I)[Ljava/lang/Object; -/
abbrev tG_J2_grow_2 : dg_T := (cJ2_grow_2, 4, RJ2, (some (.array (.object "java/lang/Object"))), 3, 70, "grow", [])
def gG_J2_grow_2_b20 (G : dg_G) (x0 : Nat) (x1 : Int32) (x2 : Int32) : Option (Nat × dg_G) :=
  (gG_J4_newLength G x2 (x1 - x2) (x2 >>> (1 &&& 31))).bind fun p4 =>
  (dg_gR G 10 1 x0).bind fun v5 =>
  (gG_J3_copyOf G v5 p4).bind fun p6 =>
  (dg_pR p6.2 10 1 x0 p6.1).bind fun G7 =>
  some (p6.1, G7)
theorem wG_J2_grow_2_b20 {l : Launch} {E : dj_E} {Mo : Option dm_M} {r : Nat} {G' : dg_G} (G : dg_G) (x0 : Nat) (x1 : Int32) (x2 : Int32) (hf : gG_J2_grow_2_b20 G x0 x1 x2 = some (r, G')) : dgW tG_J2_grow_2 l E Mo G' (.inr (some (dj_v E r))) G 20 [(0, dj_v E x0), (1, .int x1), (2, .int x2)] [] := by
  unfold gG_J2_grow_2_b20 at hf
  refine dg_l (fun _ _ _ _ _ _ _ hC => r_iload_n hC dJ2_grow_2_20 rfl (j := 2) rfl) ?_
  refine dg_l (fun _ _ _ _ _ _ _ hC => r_iload_n hC dJ2_grow_2_21 rfl (j := 1) rfl) ?_
  refine dg_l (fun _ _ _ _ _ _ _ hC => r_iload_n hC dJ2_grow_2_22 rfl (j := 2) rfl) ?_
  refine dg_l (fun _ _ _ _ _ _ _ hC => r_isub hC dJ2_grow_2_23) ?_
  refine dg_l (fun _ _ _ _ _ _ _ hC => r_iload_n hC dJ2_grow_2_24 rfl (j := 2) rfl) ?_
  refine dg_l (fun _ _ _ _ _ _ _ hC => r_iconst hC dJ2_grow_2_25 ki_1) ?_
  refine dg_l (fun _ _ _ _ _ _ _ hC => r_ishr hC dJ2_grow_2_26) ?_
  obtain ⟨p4, h4, hf⟩ := dh_bd hf
  refine g_callS (cG_J4_newLength _ E Mo G x2 (x1 - x2) (x2 >>> (1 &&& 31)) h4) q348 qG_J4_newLength (Nat.le_of_ble_eq_true rfl) (Nat.le_of_ble_eq_true rfl) rfl (dj_cat8 (Nat.le_of_ble_eq_true rfl)) dJ2_grow_2_27 ?_
  refine dg_l (fun _ _ _ _ _ _ _ hC => r_istore_n (lv' := [(3, .int p4), (0, dj_v E x0), (1, .int x1), (2, .int x2)]) hC dJ2_grow_2_30 rfl (Nat.le_of_ble_eq_true rfl) rfl) ?_
  refine g_aload_n dJ2_grow_2_31 rfl (j := 1) rfl ?_
  refine g_aload_n dJ2_grow_2_32 rfl (j := 1) rfl ?_
  obtain ⟨v5, h5, hf⟩ := dh_bd hf
  refine g_getR fR_J2_9 (by decide) h5 dJ2_grow_2_33 ?_
  refine dg_l (fun _ _ _ _ _ _ _ hC => r_iload_n hC dJ2_grow_2_36 rfl (j := 0) rfl) ?_
  obtain ⟨p6, h6, hf⟩ := dh_bd hf
  refine g_callS (cG_J3_copyOf _ E Mo G v5 p4 h6) q358 qG_J3_copyOf (Nat.le_of_ble_eq_true rfl) (Nat.le_of_ble_eq_true rfl) rfl (dj_cat8 (Nat.le_of_ble_eq_true rfl)) dJ2_grow_2_37 ?_
  refine dg_l (fun _ _ _ _ _ _ _ hC => r_dup_x1 hC dJ2_grow_2_40 (dj_cat E _) (dj_cat E _)) ?_
  obtain ⟨G7, h7, hf⟩ := dh_bd hf
  refine g_putR fF_J2_9 (Or.inr ⟨_, rfl⟩) (fun q => by cases q) (by decide) h7 dJ2_grow_2_41 ?_
  exact g_aret dJ2_grow_2_44 rfl (Or.inr ⟨_, rfl⟩) hf
def gG_J2_grow_2 (G : dg_G) (x0 : Nat) (x1 : Int32) : Option (Nat × dg_G) :=
  (dg_gR G 10 1 x0).bind fun v1 =>
  (dg_ln G v1).bind fun v2 =>
  if 0 < v2 then (
    gG_J2_grow_2_b20 G x0 x1 v2)
  else
  none
theorem wG_J2_grow_2 {l : Launch} {E : dj_E} {Mo : Option dm_M} {r : Nat} {G' : dg_G} (G : dg_G) (x0 : Nat) (x1 : Int32) (hf : gG_J2_grow_2 G x0 x1 = some (r, G')) : dgW tG_J2_grow_2 l E Mo G' (.inr (some (dj_v E r))) G 0 [(0, dj_v E x0), (1, .int x1)] [] := by
  unfold gG_J2_grow_2 at hf
  refine g_aload_n dJ2_grow_2_0 rfl (j := 0) rfl ?_
  obtain ⟨v1, h1, hf⟩ := dh_bd hf
  refine g_getR fR_J2_9 (by decide) h1 dJ2_grow_2_1 ?_
  obtain ⟨v2, h2, hf⟩ := dh_bd hf
  refine g_len h2 dJ2_grow_2_4 ?_
  refine dg_l (fun _ _ _ _ _ _ _ hC => r_istore_n (lv' := [(2, .int v2), (0, dj_v E x0), (1, .int x1)]) hC dJ2_grow_2_5 rfl (Nat.le_of_ble_eq_true rfl) rfl) ?_
  refine dg_l (fun _ _ _ _ _ _ _ hC => r_iload_n hC dJ2_grow_2_6 rfl (j := 0) rfl) ?_
  refine dg_b (fun _ _ _ _ _ _ _ hC => r_if_gt hC dJ2_grow_2_7 (tgt := 20) (by decide)) (fun c3 => ?_) (fun c3 => ?_)
  · have hf := dh_if hf c3
    exact g_sub [1, 2, 0] rfl (wG_J2_grow_2_b20 G x0 x1 v2 hf)
  · have hf := dh_el hf c3
    exact dh_no hf
theorem cG_J2_grow_2 (l : Launch) (E : dj_E) (Mo : Option dm_M) (G : dg_G) (x0 : Nat) (x1 : Int32) {p : Nat × dg_G} (h : gG_J2_grow_2 G x0 x1 = some p) : dg_Met l yJ2_grow_2 cJ2_grow_2 4 (some (.array (.object "java/lang/Object"))) 3 70 E Mo [dj_v E x0, .int x1] G (some (dj_v E p.1)) p.2 :=
  dg_met (plainFor_of_name (by decide)) (by simp only [lg_sl_ref, lg_sl_int, lg_sl_long, lg_sl_nil]; decide) (by simp only [lv_args_ref, lv_args_int, lv_args_long, lv_args_nil]) (wG_J2_grow_2 G x0 x1 h)
theorem qG_J2_grow_2 : dg_cV "java/util/ArrayList" yJ2_grow_2 cJ2_grow_2 4 (some (.array (.object "java/lang/Object"))) 1 := ⟨q344, Or.inl qs2, q85, q345, by decide, by decide, by decide +kernel⟩
/-! java/util/ArrayList.grow()[Ljava/lang/Object; -/
abbrev tG_J2_grow : dg_T := (cJ2_grow, 1, RJ2, (some (.array (.object "java/lang/Object"))), 4, 93, "grow", [])
def gG_J2_grow (G : dg_G) (x0 : Nat) : Option (Nat × dg_G) :=
  (dg_gI G 10 2 x0).bind fun v1 =>
  (dg_is G 10 x0).bind fun u2 =>
  (gG_J2_grow_2 G x0 (v1 + 1)).bind fun p3 =>
  some (p3.1, p3.2)
theorem wG_J2_grow {l : Launch} {E : dj_E} {Mo : Option dm_M} {r : Nat} {G' : dg_G} (G : dg_G) (x0 : Nat) (hf : gG_J2_grow G x0 = some (r, G')) : dgW tG_J2_grow l E Mo G' (.inr (some (dj_v E r))) G 0 [(0, dj_v E x0)] [] := by
  unfold gG_J2_grow at hf
  refine g_aload_n dJ2_grow_0 rfl (j := 0) rfl ?_
  refine g_aload_n dJ2_grow_1 rfl (j := 0) rfl ?_
  obtain ⟨v1, h1, hf⟩ := dh_bd hf
  refine g_getI fR_J2_48 (by decide) h1 dJ2_grow_2 ?_
  refine dg_l (fun _ _ _ _ _ _ _ hC => r_iconst hC dJ2_grow_5 ki_1) ?_
  refine dg_l (fun _ _ _ _ _ _ _ hC => r_iadd hC dJ2_grow_6) ?_
  obtain ⟨u2, h2, hf⟩ := dh_bd hf
  obtain ⟨p3, h3, hf⟩ := dh_bd hf
  refine g_callV (rc_O (ci := 10) rfl h2) (cG_J2_grow_2 _ E Mo G x0 (v1 + 1) h3) q342 qG_J2_grow_2 (Nat.le_of_ble_eq_true rfl) (Nat.le_of_ble_eq_true rfl) rfl (dj_cat8 (Nat.le_of_ble_eq_true rfl)) dJ2_grow_7 ?_
  exact g_aret dJ2_grow_10 rfl (Or.inr ⟨_, rfl⟩) hf
theorem cG_J2_grow (l : Launch) (E : dj_E) (Mo : Option dm_M) (G : dg_G) (x0 : Nat) {p : Nat × dg_G} (h : gG_J2_grow G x0 = some p) : dg_Met l yJ2_grow cJ2_grow 1 (some (.array (.object "java/lang/Object"))) 4 93 E Mo [dj_v E x0] G (some (dj_v E p.1)) p.2 :=
  dg_met (plainFor_of_name (by decide)) (by simp only [lg_sl_ref, lg_sl_int, lg_sl_long, lg_sl_nil]; decide) (by simp only [lv_args_ref, lv_args_int, lv_args_long, lv_args_nil]) (wG_J2_grow G x0 h)
theorem qG_J2_grow : dg_cV "java/util/ArrayList" yJ2_grow cJ2_grow 1 (some (.array (.object "java/lang/Object"))) 0 := ⟨q340, Or.inl qs1, q85, q341, by decide, by decide, by decide +kernel⟩
