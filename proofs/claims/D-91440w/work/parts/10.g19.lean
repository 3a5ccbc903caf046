set_option maxRecDepth 100000
/-! DebtorsHouse.shares(IIJ)V -/
abbrev tG_X0_shares : dg_T := (cX0_shares, 10, RX0, none, 4, 85, "shares", [])
def gG_X0_shares_L90_F (k79 : (dg_G → Nat → Int32 → Int32 → Int64 → Int32 → Int64 → Option dg_G)) (k90 : (dg_G → Nat → Int32 → Int32 → Int64 → Int32 → Int64 → Int32 → Int32 → Option dg_G)) (G : dg_G) (x0 : Nat) (x1 : Int32) (x2 : Int32) (x3 : Int64) (x5 : Int32) (x6 : Int64) (x8 : Int32) (x9 : Int32) : Option dg_G :=
  (dg_gR G 1 0 x0).bind fun v7 =>
  (dg_gR G 2 9 v7).bind fun v8 =>
  (dg_is G 10 v8).bind fun u9 =>
  (gG_J2_size G v8).bind fun p10 =>
  if p10 ≤ x9 then (
    (dg_gR G 1 7 x0).bind fun v12 =>
    (dg_ld G 50 v12 x8).bind fun v13 =>
    (dg_st G 50 v12 x8 (v13 + 1)).bind fun G14 =>
    k79 G14 x0 x1 x2 x3 (x5 + (-1)) (x6 ||| (1 <<< (Int32.toInt64 x8 &&& 63))))
  else
  (dg_is G 1 x0).bind fun u15 =>
  (gG_X0_debtAt G x0 x9).bind fun p16 =>
  (dg_gI G 4 3 p16).bind fun v17 =>
  if v17 = x1 then (
    if (lg_cmp ((x6 >>> (Int32.toInt64 x9 &&& 63)) &&& 1) 1) = 0 then (
      k90 G x0 x1 x2 x3 x5 x6 x8 (x9 + 1))
    else
    if x8 = (-1) then (
      k90 G x0 x1 x2 x3 x5 x6 x9 (x9 + 1))
    else
    (dg_gR G 1 6 x0).bind fun v21 =>
    (dg_ld G 50 v21 x9).bind fun v22 =>
    if x3 = 0 then none else
    (dg_gR G 1 6 x0).bind fun v24 =>
    (dg_ld G 50 v24 x8).bind fun v25 =>
    if x3 = 0 then none else
    if (lg_cmp (((Int32.toInt64 v22) * (Int32.toInt64 x2)) - ((Int32.toInt64 v22) * (Int32.toInt64 x2)) / x3 * x3) (((Int32.toInt64 v25) * (Int32.toInt64 x2)) - ((Int32.toInt64 v25) * (Int32.toInt64 x2)) / x3 * x3)) ≤ 0 then (
      k90 G x0 x1 x2 x3 x5 x6 x8 (x9 + 1))
    else
    k90 G x0 x1 x2 x3 x5 x6 x9 (x9 + 1))
  else
  k90 G x0 x1 x2 x3 x5 x6 x8 (x9 + 1)
theorem wG_X0_shares_L90_F {l : Launch} {E : dj_E} {Mo : Option dm_M} {G' : dg_G} (k79 : (dg_G → Nat → Int32 → Int32 → Int64 → Int32 → Int64 → Option dg_G)) (hk79 : ∀ (G : dg_G) (x0 : Nat) (x1 : Int32) (x2 : Int32) (x3 : Int64) (x5 : Int32) (x6 : Int64), k79 G x0 x1 x2 x3 x5 x6 = some G' → dgW tG_X0_shares l E Mo G' (.inr none) G 79 [(0, dj_v E x0), (1, .int x1), (2, .int x2), (3, .long x3), (5, .int x5), (6, .long x6)] []) (k90 : (dg_G → Nat → Int32 → Int32 → Int64 → Int32 → Int64 → Int32 → Int32 → Option dg_G)) (hk90 : ∀ (G : dg_G) (x0 : Nat) (x1 : Int32) (x2 : Int32) (x3 : Int64) (x5 : Int32) (x6 : Int64) (x8 : Int32) (x9 : Int32), k90 G x0 x1 x2 x3 x5 x6 x8 x9 = some G' → dgW tG_X0_shares l E Mo G' (.inr none) G 90 [(0, dj_v E x0), (1, .int x1), (2, .int x2), (3, .long x3), (5, .int x5), (6, .long x6), (8, .int x8), (9, .int x9)] []) (G : dg_G) (x0 : Nat) (x1 : Int32) (x2 : Int32) (x3 : Int64) (x5 : Int32) (x6 : Int64) (x8 : Int32) (x9 : Int32) (hf : gG_X0_shares_L90_F k79 k90 G x0 x1 x2 x3 x5 x6 x8 x9 = some G') : dgW tG_X0_shares l E Mo G' (.inr none) G 90 [(0, dj_v E x0), (1, .int x1), (2, .int x2), (3, .long x3), (5, .int x5), (6, .long x6), (8, .int x8), (9, .int x9)] [] := by
  unfold gG_X0_shares_L90_F at hf
  refine dg_l (fun _ _ _ _ _ _ _ hC => r_iload hC dX0_shares_90 (j := 7) rfl) ?_
  refine g_aload_n dX0_shares_92 rfl (j := 0) rfl ?_
  obtain ⟨v7, h7, hf⟩ := dh_bd hf
  refine g_getR fR_X0_10 (by decide) h7 dX0_shares_93 ?_
  obtain ⟨v8, h8, hf⟩ := dh_bd hf
  refine g_getR fR_X0_63 (by decide) h8 dX0_shares_96 ?_
  obtain ⟨u9, h9, hf⟩ := dh_bd hf
  obtain ⟨p10, h10, hf⟩ := dh_bd hf
  refine g_callV (rc_O (ci := 10) rfl h9) (cG_J2_size _ E Mo G v8 h10) q256 qG_J2_size (Nat.le_of_ble_eq_true rfl) (Nat.le_of_ble_eq_true rfl) rfl (dj_cat8 (Nat.le_of_ble_eq_true rfl)) dX0_shares_99 ?_
  refine dg_b (fun _ _ _ _ _ _ _ hC => r_icmp_ge hC dX0_shares_102 (tgt := 179) (by decide)) (fun c11 => ?_) (fun c11 => ?_)
  · have hf := dh_if hf c11
    refine dg_l (fun _ _ _ _ _ _ _ hC => r_lload hC dX0_shares_179 (j := 5) rfl) ?_
    refine dg_l (fun _ _ _ _ _ _ _ hC => r_lconst hC dX0_shares_181 kl_1) ?_
    refine dg_l (fun _ _ _ _ _ _ _ hC => r_iload hC dX0_shares_182 (j := 6) rfl) ?_
    refine dg_l (fun _ _ _ _ _ _ _ hC => r_lshl hC dX0_shares_184) ?_
    refine dg_l (fun _ _ _ _ _ _ _ hC => r_lor hC dX0_shares_185) ?_
    refine dg_l (fun _ _ _ _ _ _ _ hC => r_lstore (lv' := [(6, .long (x6 ||| (1 <<< (Int32.toInt64 x8 &&& 63)))), (0, dj_v E x0), (1, .int x1), (2, .int x2), (3, .long x3), (5, .int x5), (8, .int x8), (9, .int x9)]) hC dX0_shares_186 (Nat.le_of_ble_eq_true rfl) rfl) ?_
    refine g_aload_n dX0_shares_188 rfl (j := 1) rfl ?_
    obtain ⟨v12, h12, hf⟩ := dh_bd hf
    refine g_getR fR_X0_42 (by decide) h12 dX0_shares_189 ?_
    refine dg_l (fun _ _ _ _ _ _ _ hC => r_iload hC dX0_shares_192 (j := 6) rfl) ?_
    refine dg_l (fun _ _ _ _ _ _ _ hC => r_dup2_11 hC dX0_shares_194 rfl (dj_cat E _)) ?_
    obtain ⟨v13, h13, hf⟩ := dh_bd hf
    refine g_iald h13 dX0_shares_195 ?_
    refine dg_l (fun _ _ _ _ _ _ _ hC => r_iconst hC dX0_shares_196 ki_1) ?_
    refine dg_l (fun _ _ _ _ _ _ _ hC => r_iadd hC dX0_shares_197) ?_
    obtain ⟨G14, h14, hf⟩ := dh_bd hf
    refine g_iast h14 dX0_shares_198 ?_
    refine dg_l (fun _ _ _ _ _ _ _ hC => r_iinc (lv' := [(5, .int (x5 + (-1))), (6, .long (x6 ||| (1 <<< (Int32.toInt64 x8 &&& 63)))), (0, dj_v E x0), (1, .int x1), (2, .int x2), (3, .long x3), (8, .int x8), (9, .int x9)]) hC dX0_shares_199 (j := 5) rfl (congrArg _ ki_m1) (Nat.le_of_ble_eq_true rfl) rfl) ?_
    refine dg_l (fun _ _ _ _ _ _ _ hC => r_goto hC dX0_shares_202 (tgt := 79) (by decide)) ?_
    exact g_sub [2, 3, 4, 5, 0, 1] rfl (hk79 G14 x0 x1 x2 x3 (x5 + (-1)) (x6 ||| (1 <<< (Int32.toInt64 x8 &&& 63))) hf)
  · have hf := dh_el hf c11
    refine g_aload_n dX0_shares_105 rfl (j := 0) rfl ?_
    refine dg_l (fun _ _ _ _ _ _ _ hC => r_iload hC dX0_shares_106 (j := 7) rfl) ?_
    obtain ⟨u15, h15, hf⟩ := dh_bd hf
    obtain ⟨p16, h16, hf⟩ := dh_bd hf
    refine g_callV (rc_O (ci := 1) rfl h15) (cG_X0_debtAt _ E Mo G x0 x9 h16) q485 qG_X0_debtAt (Nat.le_of_ble_eq_true rfl) (Nat.le_of_ble_eq_true rfl) rfl (dj_cat8 (Nat.le_of_ble_eq_true rfl)) dX0_shares_108 ?_
    obtain ⟨v17, h17, hf⟩ := dh_bd hf
    refine g_getI fR_X0_147 (by decide) h17 dX0_shares_111 ?_
    refine dg_l (fun _ _ _ _ _ _ _ hC => r_iload_n hC dX0_shares_114 rfl (j := 1) rfl) ?_
    refine dg_bn (fun _ _ _ _ _ _ _ hC => r_icmp_ne hC dX0_shares_115 (tgt := 173) (by decide)) (fun c18 => ?_) (fun c18 => ?_)
    · have hf := dh_el hf c18
      refine dg_l (fun _ _ _ _ _ _ _ hC => r_iinc (lv' := [(9, .int (x9 + 1)), (0, dj_v E x0), (1, .int x1), (2, .int x2), (3, .long x3), (5, .int x5), (6, .long x6), (8, .int x8)]) hC dX0_shares_173 (j := 7) rfl (congrArg _ ki_1) (Nat.le_of_ble_eq_true rfl) rfl) ?_
      refine dg_l (fun _ _ _ _ _ _ _ hC => r_goto hC dX0_shares_176 (tgt := 90) (by decide)) ?_
      exact g_sub [1, 2, 3, 4, 5, 6, 7, 0] rfl (hk90 G x0 x1 x2 x3 x5 x6 x8 (x9 + 1) hf)
    · have hf := dh_if hf c18
      refine dg_l (fun _ _ _ _ _ _ _ hC => r_lload hC dX0_shares_118 (j := 5) rfl) ?_
      refine dg_l (fun _ _ _ _ _ _ _ hC => r_iload hC dX0_shares_120 (j := 7) rfl) ?_
      refine dg_l (fun _ _ _ _ _ _ _ hC => r_lshr hC dX0_shares_122) ?_
      refine dg_l (fun _ _ _ _ _ _ _ hC => r_lconst hC dX0_shares_123 kl_1) ?_
      refine dg_l (fun _ _ _ _ _ _ _ hC => r_land hC dX0_shares_124) ?_
      refine dg_l (fun _ _ _ _ _ _ _ hC => r_lconst hC dX0_shares_125 kl_1) ?_
      refine dg_l (fun _ _ _ _ _ _ _ hC => r_lcmp hC dX0_shares_126) ?_
      refine dg_bn (fun _ _ _ _ _ _ _ hC => r_if_ne hC dX0_shares_127 (tgt := 133) (by decide)) (fun c19 => ?_) (fun c19 => ?_)
      · have hf := dh_el hf c19
        refine dg_l (fun _ _ _ _ _ _ _ hC => r_iload hC dX0_shares_133 (j := 6) rfl) ?_
        refine dg_l (fun _ _ _ _ _ _ _ hC => r_iconst hC dX0_shares_135 ki_m1) ?_
        refine dg_b (fun _ _ _ _ _ _ _ hC => r_icmp_eq hC dX0_shares_136 (tgt := 169) (by decide)) (fun c20 => ?_) (fun c20 => ?_)
        · have hf := dh_if hf c20
          refine dg_l (fun _ _ _ _ _ _ _ hC => r_iload hC dX0_shares_169 (j := 7) rfl) ?_
          refine dg_l (fun _ _ _ _ _ _ _ hC => r_istore (lv' := [(8, .int x9), (0, dj_v E x0), (1, .int x1), (2, .int x2), (3, .long x3), (5, .int x5), (6, .long x6), (9, .int x9)]) hC dX0_shares_171 (Nat.le_of_ble_eq_true rfl) rfl) ?_
          refine dg_l (fun _ _ _ _ _ _ _ hC => r_iinc (lv' := [(9, .int (x9 + 1)), (8, .int x9), (0, dj_v E x0), (1, .int x1), (2, .int x2), (3, .long x3), (5, .int x5), (6, .long x6)]) hC dX0_shares_173 (j := 7) rfl (congrArg _ ki_1) (Nat.le_of_ble_eq_true rfl) rfl) ?_
          refine dg_l (fun _ _ _ _ _ _ _ hC => r_goto hC dX0_shares_176 (tgt := 90) (by decide)) ?_
          exact g_sub [2, 3, 4, 5, 6, 7, 1, 0] rfl (hk90 G x0 x1 x2 x3 x5 x6 x9 (x9 + 1) hf)
        · have hf := dh_el hf c20
          refine g_aload_n dX0_shares_139 rfl (j := 0) rfl ?_
          obtain ⟨v21, h21, hf⟩ := dh_bd hf
          refine g_getR fR_X0_39 (by decide) h21 dX0_shares_140 ?_
          refine dg_l (fun _ _ _ _ _ _ _ hC => r_iload hC dX0_shares_143 (j := 7) rfl) ?_
          obtain ⟨v22, h22, hf⟩ := dh_bd hf
          refine g_iald h22 dX0_shares_145 ?_
          refine dg_l (fun _ _ _ _ _ _ _ hC => r_i2l hC dX0_shares_146) ?_
          refine dg_l (fun _ _ _ _ _ _ _ hC => r_iload_n hC dX0_shares_147 rfl (j := 2) rfl) ?_
          refine dg_l (fun _ _ _ _ _ _ _ hC => r_i2l hC dX0_shares_148) ?_
          refine dg_l (fun _ _ _ _ _ _ _ hC => r_lmul hC dX0_shares_149) ?_
          refine dg_l (fun _ _ _ _ _ _ _ hC => r_lload_n hC dX0_shares_150 rfl (j := 3) rfl) ?_
          obtain ⟨hz23, hf⟩ := dh_nz hf
          refine dg_l (fun _ _ _ _ _ _ _ hC => r_lrem hC dX0_shares_151 hz23) ?_
          refine g_aload_n dX0_shares_152 rfl (j := 0) rfl ?_
          obtain ⟨v24, h24, hf⟩ := dh_bd hf
          refine g_getR fR_X0_39 (by decide) h24 dX0_shares_153 ?_
          refine dg_l (fun _ _ _ _ _ _ _ hC => r_iload hC dX0_shares_156 (j := 6) rfl) ?_
          obtain ⟨v25, h25, hf⟩ := dh_bd hf
          refine g_iald h25 dX0_shares_158 ?_
          refine dg_l (fun _ _ _ _ _ _ _ hC => r_i2l hC dX0_shares_159) ?_
          refine dg_l (fun _ _ _ _ _ _ _ hC => r_iload_n hC dX0_shares_160 rfl (j := 2) rfl) ?_
          refine dg_l (fun _ _ _ _ _ _ _ hC => r_i2l hC dX0_shares_161) ?_
          refine dg_l (fun _ _ _ _ _ _ _ hC => r_lmul hC dX0_shares_162) ?_
          refine dg_l (fun _ _ _ _ _ _ _ hC => r_lload_n hC dX0_shares_163 rfl (j := 3) rfl) ?_
          obtain ⟨hz26, hf⟩ := dh_nz hf
          refine dg_l (fun _ _ _ _ _ _ _ hC => r_lrem hC dX0_shares_164 hz26) ?_
          refine dg_l (fun _ _ _ _ _ _ _ hC => r_lcmp hC dX0_shares_165) ?_
          refine dg_b (fun _ _ _ _ _ _ _ hC => r_if_le hC dX0_shares_166 (tgt := 173) (by decide)) (fun c27 => ?_) (fun c27 => ?_)
          · have hf := dh_if hf c27
            refine dg_l (fun _ _ _ _ _ _ _ hC => r_iinc (lv' := [(9, .int (x9 + 1)), (0, dj_v E x0), (1, .int x1), (2, .int x2), (3, .long x3), (5, .int x5), (6, .long x6), (8, .int x8)]) hC dX0_shares_173 (j := 7) rfl (congrArg _ ki_1) (Nat.le_of_ble_eq_true rfl) rfl) ?_
            refine dg_l (fun _ _ _ _ _ _ _ hC => r_goto hC dX0_shares_176 (tgt := 90) (by decide)) ?_
            exact g_sub [1, 2, 3, 4, 5, 6, 7, 0] rfl (hk90 G x0 x1 x2 x3 x5 x6 x8 (x9 + 1) hf)
          · have hf := dh_el hf c27
            refine dg_l (fun _ _ _ _ _ _ _ hC => r_iload hC dX0_shares_169 (j := 7) rfl) ?_
            refine dg_l (fun _ _ _ _ _ _ _ hC => r_istore (lv' := [(8, .int x9), (0, dj_v E x0), (1, .int x1), (2, .int x2), (3, .long x3), (5, .int x5), (6, .long x6), (9, .int x9)]) hC dX0_shares_171 (Nat.le_of_ble_eq_true rfl) rfl) ?_
            refine dg_l (fun _ _ _ _ _ _ _ hC => r_iinc (lv' := [(9, .int (x9 + 1)), (8, .int x9), (0, dj_v E x0), (1, .int x1), (2, .int x2), (3, .long x3), (5, .int x5), (6, .long x6)]) hC dX0_shares_173 (j := 7) rfl (congrArg _ ki_1) (Nat.le_of_ble_eq_true rfl) rfl) ?_
            refine dg_l (fun _ _ _ _ _ _ _ hC => r_goto hC dX0_shares_176 (tgt := 90) (by decide)) ?_
            exact g_sub [2, 3, 4, 5, 6, 7, 1, 0] rfl (hk90 G x0 x1 x2 x3 x5 x6 x9 (x9 + 1) hf)
      · have hf := dh_if hf c19
        refine dg_l (fun _ _ _ _ _ _ _ hC => r_goto hC dX0_shares_130 (tgt := 173) (by decide)) ?_
        refine dg_l (fun _ _ _ _ _ _ _ hC => r_iinc (lv' := [(9, .int (x9 + 1)), (0, dj_v E x0), (1, .int x1), (2, .int x2), (3, .long x3), (5, .int x5), (6, .long x6), (8, .int x8)]) hC dX0_shares_173 (j := 7) rfl (congrArg _ ki_1) (Nat.le_of_ble_eq_true rfl) rfl) ?_
        refine dg_l (fun _ _ _ _ _ _ _ hC => r_goto hC dX0_shares_176 (tgt := 90) (by decide)) ?_
        exact g_sub [1, 2, 3, 4, 5, 6, 7, 0] rfl (hk90 G x0 x1 x2 x3 x5 x6 x8 (x9 + 1) hf)
def gG_X0_shares_L90 (k79 : (dg_G → Nat → Int32 → Int32 → Int64 → Int32 → Int64 → Option dg_G)) : Nat → dg_G → Nat → Int32 → Int32 → Int64 → Int32 → Int64 → Int32 → Int32 → Option dg_G
  | 0 => fun _ _ _ _ _ _ _ _ _ => none
  | n + 1 => gG_X0_shares_L90_F k79 (gG_X0_shares_L90 k79 n)
theorem wG_X0_shares_L90 {l : Launch} {E : dj_E} {Mo : Option dm_M} {G' : dg_G} (k79 : (dg_G → Nat → Int32 → Int32 → Int64 → Int32 → Int64 → Option dg_G)) (hk79 : ∀ (G : dg_G) (x0 : Nat) (x1 : Int32) (x2 : Int32) (x3 : Int64) (x5 : Int32) (x6 : Int64), k79 G x0 x1 x2 x3 x5 x6 = some G' → dgW tG_X0_shares l E Mo G' (.inr none) G 79 [(0, dj_v E x0), (1, .int x1), (2, .int x2), (3, .long x3), (5, .int x5), (6, .long x6)] []) : ∀ (n : Nat) (G : dg_G) (x0 : Nat) (x1 : Int32) (x2 : Int32) (x3 : Int64) (x5 : Int32) (x6 : Int64) (x8 : Int32) (x9 : Int32) (_ : gG_X0_shares_L90 k79 n G x0 x1 x2 x3 x5 x6 x8 x9 = some G'), dgW tG_X0_shares l E Mo G' (.inr none) G 90 [(0, dj_v E x0), (1, .int x1), (2, .int x2), (3, .long x3), (5, .int x5), (6, .long x6), (8, .int x8), (9, .int x9)] [] := by
  intro n
  induction n with
  | zero => intro G x0 x1 x2 x3 x5 x6 x8 x9 hf; exact dh_no hf
  | succ n ih => intro G x0 x1 x2 x3 x5 x6 x8 x9 hf; exact wG_X0_shares_L90_F k79 hk79 (gG_X0_shares_L90 k79 n) ih G x0 x1 x2 x3 x5 x6 x8 x9 hf
def gG_X0_shares_L79_F (k79 : (dg_G → Nat → Int32 → Int32 → Int64 → Int32 → Int64 → Option dg_G)) (G : dg_G) (x0 : Nat) (x1 : Int32) (x2 : Int32) (x3 : Int64) (x5 : Int32) (x6 : Int64) : Option dg_G :=
  if x5 ≤ 0 then (
    some G)
  else
  gG_X0_shares_L90 k79 dh_fu G x0 x1 x2 x3 x5 x6 (-1) 0
theorem wG_X0_shares_L79_F {l : Launch} {E : dj_E} {Mo : Option dm_M} {G' : dg_G} (k79 : (dg_G → Nat → Int32 → Int32 → Int64 → Int32 → Int64 → Option dg_G)) (hk79 : ∀ (G : dg_G) (x0 : Nat) (x1 : Int32) (x2 : Int32) (x3 : Int64) (x5 : Int32) (x6 : Int64), k79 G x0 x1 x2 x3 x5 x6 = some G' → dgW tG_X0_shares l E Mo G' (.inr none) G 79 [(0, dj_v E x0), (1, .int x1), (2, .int x2), (3, .long x3), (5, .int x5), (6, .long x6)] []) (G : dg_G) (x0 : Nat) (x1 : Int32) (x2 : Int32) (x3 : Int64) (x5 : Int32) (x6 : Int64) (hf : gG_X0_shares_L79_F k79 G x0 x1 x2 x3 x5 x6 = some G') : dgW tG_X0_shares l E Mo G' (.inr none) G 79 [(0, dj_v E x0), (1, .int x1), (2, .int x2), (3, .long x3), (5, .int x5), (6, .long x6)] [] := by
  unfold gG_X0_shares_L79_F at hf
  refine dg_l (fun _ _ _ _ _ _ _ hC => r_iload hC dX0_shares_79 (j := 4) rfl) ?_
  refine dg_b (fun _ _ _ _ _ _ _ hC => r_if_le hC dX0_shares_81 (tgt := 205) (by decide)) (fun c6 => ?_) (fun c6 => ?_)
  · have hf := dh_if hf c6
    exact g_vret dX0_shares_205 rfl hf
  · have hf := dh_el hf c6
    refine dg_l (fun _ _ _ _ _ _ _ hC => r_iconst hC dX0_shares_84 ki_m1) ?_
    refine dg_l (fun _ _ _ _ _ _ _ hC => r_istore (lv' := [(8, .int (-1)), (0, dj_v E x0), (1, .int x1), (2, .int x2), (3, .long x3), (5, .int x5), (6, .long x6)]) hC dX0_shares_85 (Nat.le_of_ble_eq_true rfl) rfl) ?_
    refine dg_l (fun _ _ _ _ _ _ _ hC => r_iconst hC dX0_shares_87 ki_0) ?_
    refine dg_l (fun _ _ _ _ _ _ _ hC => r_istore (lv' := [(9, .int 0), (8, .int (-1)), (0, dj_v E x0), (1, .int x1), (2, .int x2), (3, .long x3), (5, .int x5), (6, .long x6)]) hC dX0_shares_88 (Nat.le_of_ble_eq_true rfl) rfl) ?_
    exact g_sub [2, 3, 4, 5, 6, 7, 1, 0] rfl (wG_X0_shares_L90 k79 hk79 dh_fu G x0 x1 x2 x3 x5 x6 (-1) 0 hf)
def gG_X0_shares_L79 : Nat → dg_G → Nat → Int32 → Int32 → Int64 → Int32 → Int64 → Option dg_G
  | 0 => fun _ _ _ _ _ _ _ => none
  | n + 1 => gG_X0_shares_L79_F (gG_X0_shares_L79 n)
theorem wG_X0_shares_L79 {l : Launch} {E : dj_E} {Mo : Option dm_M} {G' : dg_G} : ∀ (n : Nat) (G : dg_G) (x0 : Nat) (x1 : Int32) (x2 : Int32) (x3 : Int64) (x5 : Int32) (x6 : Int64) (_ : gG_X0_shares_L79 n G x0 x1 x2 x3 x5 x6 = some G'), dgW tG_X0_shares l E Mo G' (.inr none) G 79 [(0, dj_v E x0), (1, .int x1), (2, .int x2), (3, .long x3), (5, .int x5), (6, .long x6)] [] := by
  intro n
  induction n with
  | zero => intro G x0 x1 x2 x3 x5 x6 hf; exact dh_no hf
  | succ n ih => intro G x0 x1 x2 x3 x5 x6 hf; exact wG_X0_shares_L79_F (gG_X0_shares_L79 n) ih G x0 x1 x2 x3 x5 x6 hf
def gG_X0_shares_L6_F (k6 : (dg_G → Nat → Int32 → Int32 → Int64 → Int32 → Int32 → Option dg_G)) (G : dg_G) (x0 : Nat) (x1 : Int32) (x2 : Int32) (x3 : Int64) (x5 : Int32) (x6 : Int32) : Option dg_G :=
  (dg_gR G 1 0 x0).bind fun v1 =>
  (dg_gR G 2 9 v1).bind fun v2 =>
  (dg_is G 10 v2).bind fun u3 =>
  (gG_J2_size G v2).bind fun p4 =>
  if p4 ≤ x6 then (
    gG_X0_shares_L79 dh_fu G x0 x1 x2 x3 x5 0)
  else
  (dg_is G 1 x0).bind fun u28 =>
  (gG_X0_debtAt G x0 x6).bind fun p29 =>
  (dg_gI G 4 3 p29).bind fun v30 =>
  if ¬ (v30 = x1) then (
    k6 G x0 x1 x2 x3 x5 (x6 + 1))
  else
  (dg_gR G 1 7 x0).bind fun v32 =>
  (dg_gR G 1 6 x0).bind fun v33 =>
  (dg_ld G 50 v33 x6).bind fun v34 =>
  if x3 = 0 then none else
  (dg_st G 50 v32 x6 (Int64.toInt32 (((Int32.toInt64 v34) * (Int32.toInt64 x2)) / x3))).bind fun G36 =>
  (dg_gR G36 1 7 x0).bind fun v37 =>
  (dg_ld G36 50 v37 x6).bind fun v38 =>
  k6 G36 x0 x1 x2 x3 (x5 - v38) (x6 + 1)
theorem wG_X0_shares_L6_F {l : Launch} {E : dj_E} {Mo : Option dm_M} {G' : dg_G} (k6 : (dg_G → Nat → Int32 → Int32 → Int64 → Int32 → Int32 → Option dg_G)) (hk6 : ∀ (G : dg_G) (x0 : Nat) (x1 : Int32) (x2 : Int32) (x3 : Int64) (x5 : Int32) (x6 : Int32), k6 G x0 x1 x2 x3 x5 x6 = some G' → dgW tG_X0_shares l E Mo G' (.inr none) G 6 [(0, dj_v E x0), (1, .int x1), (2, .int x2), (3, .long x3), (5, .int x5), (6, .int x6)] []) (G : dg_G) (x0 : Nat) (x1 : Int32) (x2 : Int32) (x3 : Int64) (x5 : Int32) (x6 : Int32) (hf : gG_X0_shares_L6_F k6 G x0 x1 x2 x3 x5 x6 = some G') : dgW tG_X0_shares l E Mo G' (.inr none) G 6 [(0, dj_v E x0), (1, .int x1), (2, .int x2), (3, .long x3), (5, .int x5), (6, .int x6)] [] := by
  unfold gG_X0_shares_L6_F at hf
  refine dg_l (fun _ _ _ _ _ _ _ hC => r_iload hC dX0_shares_6 (j := 5) rfl) ?_
  refine g_aload_n dX0_shares_8 rfl (j := 0) rfl ?_
  obtain ⟨v1, h1, hf⟩ := dh_bd hf
  refine g_getR fR_X0_10 (by decide) h1 dX0_shares_9 ?_
  obtain ⟨v2, h2, hf⟩ := dh_bd hf
  refine g_getR fR_X0_63 (by decide) h2 dX0_shares_12 ?_
  obtain ⟨u3, h3, hf⟩ := dh_bd hf
  obtain ⟨p4, h4, hf⟩ := dh_bd hf
  refine g_callV (rc_O (ci := 10) rfl h3) (cG_J2_size _ E Mo G v2 h4) q256 qG_J2_size (Nat.le_of_ble_eq_true rfl) (Nat.le_of_ble_eq_true rfl) rfl (dj_cat8 (Nat.le_of_ble_eq_true rfl)) dX0_shares_15 ?_
  refine dg_b (fun _ _ _ _ _ _ _ hC => r_icmp_ge hC dX0_shares_18 (tgt := 76) (by decide)) (fun c5 => ?_) (fun c5 => ?_)
  · have hf := dh_if hf c5
    refine dg_l (fun _ _ _ _ _ _ _ hC => r_lconst hC dX0_shares_76 kl_0) ?_
    refine dg_l (fun _ _ _ _ _ _ _ hC => r_lstore (lv' := [(6, .long 0), (0, dj_v E x0), (1, .int x1), (2, .int x2), (3, .long x3), (5, .int x5)]) hC dX0_shares_77 (Nat.le_of_ble_eq_true rfl) rfl) ?_
    exact g_sub [1, 2, 3, 4, 5, 0] rfl (wG_X0_shares_L79 dh_fu G x0 x1 x2 x3 x5 0 hf)
  · have hf := dh_el hf c5
    refine g_aload_n dX0_shares_21 rfl (j := 0) rfl ?_
    refine dg_l (fun _ _ _ _ _ _ _ hC => r_iload hC dX0_shares_22 (j := 5) rfl) ?_
    obtain ⟨u28, h28, hf⟩ := dh_bd hf
    obtain ⟨p29, h29, hf⟩ := dh_bd hf
    refine g_callV (rc_O (ci := 1) rfl h28) (cG_X0_debtAt _ E Mo G x0 x6 h29) q485 qG_X0_debtAt (Nat.le_of_ble_eq_true rfl) (Nat.le_of_ble_eq_true rfl) rfl (dj_cat8 (Nat.le_of_ble_eq_true rfl)) dX0_shares_24 ?_
    obtain ⟨v30, h30, hf⟩ := dh_bd hf
    refine g_getI fR_X0_147 (by decide) h30 dX0_shares_27 ?_
    refine dg_l (fun _ _ _ _ _ _ _ hC => r_iload_n hC dX0_shares_30 rfl (j := 1) rfl) ?_
    refine dg_b (fun _ _ _ _ _ _ _ hC => r_icmp_eq hC dX0_shares_31 (tgt := 37) (by decide)) (fun c31 => ?_) (fun c31 => ?_)
    · have hf := dh_el hf (fun q => q c31)
      refine g_aload_n dX0_shares_37 rfl (j := 0) rfl ?_
      obtain ⟨v32, h32, hf⟩ := dh_bd hf
      refine g_getR fR_X0_42 (by decide) h32 dX0_shares_38 ?_
      refine dg_l (fun _ _ _ _ _ _ _ hC => r_iload hC dX0_shares_41 (j := 5) rfl) ?_
      refine g_aload_n dX0_shares_43 rfl (j := 0) rfl ?_
      obtain ⟨v33, h33, hf⟩ := dh_bd hf
      refine g_getR fR_X0_39 (by decide) h33 dX0_shares_44 ?_
      refine dg_l (fun _ _ _ _ _ _ _ hC => r_iload hC dX0_shares_47 (j := 5) rfl) ?_
      obtain ⟨v34, h34, hf⟩ := dh_bd hf
      refine g_iald h34 dX0_shares_49 ?_
      refine dg_l (fun _ _ _ _ _ _ _ hC => r_i2l hC dX0_shares_50) ?_
      refine dg_l (fun _ _ _ _ _ _ _ hC => r_iload_n hC dX0_shares_51 rfl (j := 2) rfl) ?_
      refine dg_l (fun _ _ _ _ _ _ _ hC => r_i2l hC dX0_shares_52) ?_
      refine dg_l (fun _ _ _ _ _ _ _ hC => r_lmul hC dX0_shares_53) ?_
      refine dg_l (fun _ _ _ _ _ _ _ hC => r_lload_n hC dX0_shares_54 rfl (j := 3) rfl) ?_
      obtain ⟨hz35, hf⟩ := dh_nz hf
      refine dg_l (fun _ _ _ _ _ _ _ hC => r_ldiv hC dX0_shares_55 hz35) ?_
      refine dg_l (fun _ _ _ _ _ _ _ hC => r_l2i hC dX0_shares_56) ?_
      obtain ⟨G36, h36, hf⟩ := dh_bd hf
      refine g_iast h36 dX0_shares_57 ?_
      refine dg_l (fun _ _ _ _ _ _ _ hC => r_iload hC dX0_shares_58 (j := 4) rfl) ?_
      refine g_aload_n dX0_shares_60 rfl (j := 0) rfl ?_
      obtain ⟨v37, h37, hf⟩ := dh_bd hf
      refine g_getR fR_X0_42 (by decide) h37 dX0_shares_61 ?_
      refine dg_l (fun _ _ _ _ _ _ _ hC => r_iload hC dX0_shares_64 (j := 5) rfl) ?_
      obtain ⟨v38, h38, hf⟩ := dh_bd hf
      refine g_iald h38 dX0_shares_66 ?_
      refine dg_l (fun _ _ _ _ _ _ _ hC => r_isub hC dX0_shares_67) ?_
      refine dg_l (fun _ _ _ _ _ _ _ hC => r_istore (lv' := [(5, .int (x5 - v38)), (0, dj_v E x0), (1, .int x1), (2, .int x2), (3, .long x3), (6, .int x6)]) hC dX0_shares_68 (Nat.le_of_ble_eq_true rfl) rfl) ?_
      refine dg_l (fun _ _ _ _ _ _ _ hC => r_iinc (lv' := [(6, .int (x6 + 1)), (5, .int (x5 - v38)), (0, dj_v E x0), (1, .int x1), (2, .int x2), (3, .long x3)]) hC dX0_shares_70 (j := 5) rfl (congrArg _ ki_1) (Nat.le_of_ble_eq_true rfl) rfl) ?_
      refine dg_l (fun _ _ _ _ _ _ _ hC => r_goto hC dX0_shares_73 (tgt := 6) (by decide)) ?_
      exact g_sub [2, 3, 4, 5, 1, 0] rfl (hk6 G36 x0 x1 x2 x3 (x5 - v38) (x6 + 1) hf)
    · have hf := dh_if hf c31
      refine dg_l (fun _ _ _ _ _ _ _ hC => r_goto hC dX0_shares_34 (tgt := 70) (by decide)) ?_
      refine dg_l (fun _ _ _ _ _ _ _ hC => r_iinc (lv' := [(6, .int (x6 + 1)), (0, dj_v E x0), (1, .int x1), (2, .int x2), (3, .long x3), (5, .int x5)]) hC dX0_shares_70 (j := 5) rfl (congrArg _ ki_1) (Nat.le_of_ble_eq_true rfl) rfl) ?_
      refine dg_l (fun _ _ _ _ _ _ _ hC => r_goto hC dX0_shares_73 (tgt := 6) (by decide)) ?_
      exact g_sub [1, 2, 3, 4, 5, 0] rfl (hk6 G x0 x1 x2 x3 x5 (x6 + 1) hf)
def gG_X0_shares_L6 : Nat → dg_G → Nat → Int32 → Int32 → Int64 → Int32 → Int32 → Option dg_G
  | 0 => fun _ _ _ _ _ _ _ => none
  | n + 1 => gG_X0_shares_L6_F (gG_X0_shares_L6 n)
theorem wG_X0_shares_L6 {l : Launch} {E : dj_E} {Mo : Option dm_M} {G' : dg_G} : ∀ (n : Nat) (G : dg_G) (x0 : Nat) (x1 : Int32) (x2 : Int32) (x3 : Int64) (x5 : Int32) (x6 : Int32) (_ : gG_X0_shares_L6 n G x0 x1 x2 x3 x5 x6 = some G'), dgW tG_X0_shares l E Mo G' (.inr none) G 6 [(0, dj_v E x0), (1, .int x1), (2, .int x2), (3, .long x3), (5, .int x5), (6, .int x6)] [] := by
  intro n
  induction n with
  | zero => intro G x0 x1 x2 x3 x5 x6 hf; exact dh_no hf
  | succ n ih => intro G x0 x1 x2 x3 x5 x6 hf; exact wG_X0_shares_L6_F (gG_X0_shares_L6 n) ih G x0 x1 x2 x3 x5 x6 hf
def gG_X0_shares (G : dg_G) (x0 : Nat) (x1 : Int32) (x2 : Int32) (x3 : Int64) : Option dg_G :=
  gG_X0_shares_L6 dh_fu G x0 x1 x2 x3 x2 0
theorem wG_X0_shares {l : Launch} {E : dj_E} {Mo : Option dm_M} {G' : dg_G} (G : dg_G) (x0 : Nat) (x1 : Int32) (x2 : Int32) (x3 : Int64) (hf : gG_X0_shares G x0 x1 x2 x3 = some G') : dgW tG_X0_shares l E Mo G' (.inr none) G 0 [(0, dj_v E x0), (1, .int x1), (2, .int x2), (3, .long x3)] [] := by
  unfold gG_X0_shares at hf
  refine dg_l (fun _ _ _ _ _ _ _ hC => r_iload_n hC dX0_shares_0 rfl (j := 2) rfl) ?_
  refine dg_l (fun _ _ _ _ _ _ _ hC => r_istore (lv' := [(5, .int x2), (0, dj_v E x0), (1, .int x1), (2, .int x2), (3, .long x3)]) hC dX0_shares_1 (Nat.le_of_ble_eq_true rfl) rfl) ?_
  refine dg_l (fun _ _ _ _ _ _ _ hC => r_iconst hC dX0_shares_3 ki_0) ?_
  refine dg_l (fun _ _ _ _ _ _ _ hC => r_istore (lv' := [(6, .int 0), (5, .int x2), (0, dj_v E x0), (1, .int x1), (2, .int x2), (3, .long x3)]) hC dX0_shares_4 (Nat.le_of_ble_eq_true rfl) rfl) ?_
  exact g_sub [2, 3, 4, 5, 1, 0] rfl (wG_X0_shares_L6 dh_fu G x0 x1 x2 x3 x2 0 hf)
theorem cG_X0_shares (l : Launch) (E : dj_E) (Mo : Option dm_M) (G : dg_G) (x0 : Nat) (x1 : Int32) (x2 : Int32) (x3 : Int64) {G' : dg_G} (h : gG_X0_shares G x0 x1 x2 x3 = some G') : dg_Met l yX0_shares cX0_shares 10 none 4 85 E Mo [dj_v E x0, .int x1, .int x2, .long x3] G none G' :=
  dg_met (plainFor_of_name (by decide)) (by simp only [lg_sl_ref, lg_sl_int, lg_sl_long, lg_sl_nil]; decide) (by simp only [lv_args_ref, lv_args_int, lv_args_long, lv_args_nil]) (wG_X0_shares G x0 x1 x2 x3 h)
theorem qG_X0_shares : dg_cV "DebtorsHouse" yX0_shares cX0_shares 10 none 3 := ⟨q1285, Or.inl qs34, q81, q1286, by decide, by decide, by decide +kernel⟩
/-! DebtorsHouse.parts(I)I -/
abbrev tG_X0_parts : dg_T := (cX0_parts, 7, RX0, (some .int), 5, 114, "parts", [])
def gG_X0_parts_L77_F (k4 : (dg_G → Nat → Int32 → Int32 → Option (Int32 × dg_G))) (k77 : (dg_G → Nat → Int32 → Int32 → Int64 → Int32 → Option (Int32 × dg_G))) (G : dg_G) (x0 : Nat) (x2 : Int32) (x3 : Int32) (x4 : Int64) (x6 : Int32) : Option (Int32 × dg_G) :=
  (dg_gR G 1 0 x0).bind fun v10 =>
  (dg_gR G 2 9 v10).bind fun v11 =>
  (dg_is G 10 v11).bind fun u12 =>
  (gG_J2_size G v11).bind fun p13 =>
  if p13 ≤ x6 then (
    k4 G x0 (x2 - (Int64.toInt32 x4)) (x3 + 1))
  else
  (dg_is G 1 x0).bind fun u15 =>
  (gG_X0_debtAt G x0 x6).bind fun p16 =>
  (dg_gI G 4 3 p16).bind fun v17 =>
  if v17 = x3 then (
    (dg_gR G 1 7 x0).bind fun v19 =>
    (dg_gR G 1 6 x0).bind fun v20 =>
    (dg_ld G 50 v20 x6).bind fun v21 =>
    (dg_st G 50 v19 x6 v21).bind fun G22 =>
    k77 G22 x0 x2 x3 x4 (x6 + 1))
  else
  k77 G x0 x2 x3 x4 (x6 + 1)
theorem wG_X0_parts_L77_F {l : Launch} {E : dj_E} {Mo : Option dm_M} {r : Int32} {G' : dg_G} (k4 : (dg_G → Nat → Int32 → Int32 → Option (Int32 × dg_G))) (hk4 : ∀ (G : dg_G) (x0 : Nat) (x2 : Int32) (x3 : Int32), k4 G x0 x2 x3 = some (r, G') → dgW tG_X0_parts l E Mo G' (.inr (some (.int r))) G 4 [(0, dj_v E x0), (2, .int x2), (3, .int x3)] []) (k77 : (dg_G → Nat → Int32 → Int32 → Int64 → Int32 → Option (Int32 × dg_G))) (hk77 : ∀ (G : dg_G) (x0 : Nat) (x2 : Int32) (x3 : Int32) (x4 : Int64) (x6 : Int32), k77 G x0 x2 x3 x4 x6 = some (r, G') → dgW tG_X0_parts l E Mo G' (.inr (some (.int r))) G 77 [(0, dj_v E x0), (2, .int x2), (3, .int x3), (4, .long x4), (6, .int x6)] []) (G : dg_G) (x0 : Nat) (x2 : Int32) (x3 : Int32) (x4 : Int64) (x6 : Int32) (hf : gG_X0_parts_L77_F k4 k77 G x0 x2 x3 x4 x6 = some (r, G')) : dgW tG_X0_parts l E Mo G' (.inr (some (.int r))) G 77 [(0, dj_v E x0), (2, .int x2), (3, .int x3), (4, .long x4), (6, .int x6)] [] := by
  unfold gG_X0_parts_L77_F at hf
  refine dg_l (fun _ _ _ _ _ _ _ hC => r_iload hC dX0_parts_77 (j := 4) rfl) ?_
  refine g_aload_n dX0_parts_79 rfl (j := 0) rfl ?_
  obtain ⟨v10, h10, hf⟩ := dh_bd hf
  refine g_getR fR_X0_10 (by decide) h10 dX0_parts_80 ?_
  obtain ⟨v11, h11, hf⟩ := dh_bd hf
  refine g_getR fR_X0_63 (by decide) h11 dX0_parts_83 ?_
  obtain ⟨u12, h12, hf⟩ := dh_bd hf
  obtain ⟨p13, h13, hf⟩ := dh_bd hf
  refine g_callV (rc_O (ci := 10) rfl h12) (cG_J2_size _ E Mo G v11 h13) q256 qG_J2_size (Nat.le_of_ble_eq_true rfl) (Nat.le_of_ble_eq_true rfl) rfl (dj_cat8 (Nat.le_of_ble_eq_true rfl)) dX0_parts_86 ?_
  refine dg_b (fun _ _ _ _ _ _ _ hC => r_icmp_ge hC dX0_parts_89 (tgt := 125) (by decide)) (fun c14 => ?_) (fun c14 => ?_)
  · have hf := dh_if hf c14
    refine dg_l (fun _ _ _ _ _ _ _ hC => r_iload_n hC dX0_parts_125 rfl (j := 1) rfl) ?_
    refine dg_l (fun _ _ _ _ _ _ _ hC => r_lload hC dX0_parts_126 (j := 3) rfl) ?_
    refine dg_l (fun _ _ _ _ _ _ _ hC => r_l2i hC dX0_parts_128) ?_
    refine dg_l (fun _ _ _ _ _ _ _ hC => r_isub hC dX0_parts_129) ?_
    refine dg_l (fun _ _ _ _ _ _ _ hC => r_istore_n (lv' := [(2, .int (x2 - (Int64.toInt32 x4))), (0, dj_v E x0), (3, .int x3), (4, .long x4), (6, .int x6)]) hC dX0_parts_130 rfl (Nat.le_of_ble_eq_true rfl) rfl) ?_
    refine dg_l (fun _ _ _ _ _ _ _ hC => r_goto hC dX0_parts_131 (tgt := 144) (by decide)) ?_
    refine dg_l (fun _ _ _ _ _ _ _ hC => r_iinc (lv' := [(3, .int (x3 + 1)), (2, .int (x2 - (Int64.toInt32 x4))), (0, dj_v E x0), (4, .long x4), (6, .int x6)]) hC dX0_parts_144 (j := 2) rfl (congrArg _ ki_1) (Nat.le_of_ble_eq_true rfl) rfl) ?_
    refine dg_l (fun _ _ _ _ _ _ _ hC => r_goto hC dX0_parts_147 (tgt := 4) (by decide)) ?_
    exact g_sub [2, 1, 0] rfl (hk4 G x0 (x2 - (Int64.toInt32 x4)) (x3 + 1) hf)
  · have hf := dh_el hf c14
    refine g_aload_n dX0_parts_92 rfl (j := 0) rfl ?_
    refine dg_l (fun _ _ _ _ _ _ _ hC => r_iload hC dX0_parts_93 (j := 4) rfl) ?_
    obtain ⟨u15, h15, hf⟩ := dh_bd hf
    obtain ⟨p16, h16, hf⟩ := dh_bd hf
    refine g_callV (rc_O (ci := 1) rfl h15) (cG_X0_debtAt _ E Mo G x0 x6 h16) q485 qG_X0_debtAt (Nat.le_of_ble_eq_true rfl) (Nat.le_of_ble_eq_true rfl) rfl (dj_cat8 (Nat.le_of_ble_eq_true rfl)) dX0_parts_95 ?_
    obtain ⟨v17, h17, hf⟩ := dh_bd hf
    refine g_getI fR_X0_147 (by decide) h17 dX0_parts_98 ?_
    refine dg_l (fun _ _ _ _ _ _ _ hC => r_iload_n hC dX0_parts_101 rfl (j := 2) rfl) ?_
    refine dg_bn (fun _ _ _ _ _ _ _ hC => r_icmp_ne hC dX0_parts_102 (tgt := 119) (by decide)) (fun c18 => ?_) (fun c18 => ?_)
    · have hf := dh_el hf c18
      refine dg_l (fun _ _ _ _ _ _ _ hC => r_iinc (lv' := [(6, .int (x6 + 1)), (0, dj_v E x0), (2, .int x2), (3, .int x3), (4, .long x4)]) hC dX0_parts_119 (j := 4) rfl (congrArg _ ki_1) (Nat.le_of_ble_eq_true rfl) rfl) ?_
      refine dg_l (fun _ _ _ _ _ _ _ hC => r_goto hC dX0_parts_122 (tgt := 77) (by decide)) ?_
      exact g_sub [1, 2, 3, 4, 0] rfl (hk77 G x0 x2 x3 x4 (x6 + 1) hf)
    · have hf := dh_if hf c18
      refine g_aload_n dX0_parts_105 rfl (j := 0) rfl ?_
      obtain ⟨v19, h19, hf⟩ := dh_bd hf
      refine g_getR fR_X0_42 (by decide) h19 dX0_parts_106 ?_
      refine dg_l (fun _ _ _ _ _ _ _ hC => r_iload hC dX0_parts_109 (j := 4) rfl) ?_
      refine g_aload_n dX0_parts_111 rfl (j := 0) rfl ?_
      obtain ⟨v20, h20, hf⟩ := dh_bd hf
      refine g_getR fR_X0_39 (by decide) h20 dX0_parts_112 ?_
      refine dg_l (fun _ _ _ _ _ _ _ hC => r_iload hC dX0_parts_115 (j := 4) rfl) ?_
      obtain ⟨v21, h21, hf⟩ := dh_bd hf
      refine g_iald h21 dX0_parts_117 ?_
      obtain ⟨G22, h22, hf⟩ := dh_bd hf
      refine g_iast h22 dX0_parts_118 ?_
      refine dg_l (fun _ _ _ _ _ _ _ hC => r_iinc (lv' := [(6, .int (x6 + 1)), (0, dj_v E x0), (2, .int x2), (3, .int x3), (4, .long x4)]) hC dX0_parts_119 (j := 4) rfl (congrArg _ ki_1) (Nat.le_of_ble_eq_true rfl) rfl) ?_
      refine dg_l (fun _ _ _ _ _ _ _ hC => r_goto hC dX0_parts_122 (tgt := 77) (by decide)) ?_
      exact g_sub [1, 2, 3, 4, 0] rfl (hk77 G22 x0 x2 x3 x4 (x6 + 1) hf)
def gG_X0_parts_L77 (k4 : (dg_G → Nat → Int32 → Int32 → Option (Int32 × dg_G))) : Nat → dg_G → Nat → Int32 → Int32 → Int64 → Int32 → Option (Int32 × dg_G)
  | 0 => fun _ _ _ _ _ _ => none
  | n + 1 => gG_X0_parts_L77_F k4 (gG_X0_parts_L77 k4 n)
theorem wG_X0_parts_L77 {l : Launch} {E : dj_E} {Mo : Option dm_M} {r : Int32} {G' : dg_G} (k4 : (dg_G → Nat → Int32 → Int32 → Option (Int32 × dg_G))) (hk4 : ∀ (G : dg_G) (x0 : Nat) (x2 : Int32) (x3 : Int32), k4 G x0 x2 x3 = some (r, G') → dgW tG_X0_parts l E Mo G' (.inr (some (.int r))) G 4 [(0, dj_v E x0), (2, .int x2), (3, .int x3)] []) : ∀ (n : Nat) (G : dg_G) (x0 : Nat) (x2 : Int32) (x3 : Int32) (x4 : Int64) (x6 : Int32) (_ : gG_X0_parts_L77 k4 n G x0 x2 x3 x4 x6 = some (r, G')), dgW tG_X0_parts l E Mo G' (.inr (some (.int r))) G 77 [(0, dj_v E x0), (2, .int x2), (3, .int x3), (4, .long x4), (6, .int x6)] [] := by
  intro n
  induction n with
  | zero => intro G x0 x2 x3 x4 x6 hf; exact dh_no hf
  | succ n ih => intro G x0 x2 x3 x4 x6 hf; exact wG_X0_parts_L77_F k4 hk4 (gG_X0_parts_L77 k4 n) ih G x0 x2 x3 x4 x6 hf
def gG_X0_parts_L15_F (k4 : (dg_G → Nat → Int32 → Int32 → Option (Int32 × dg_G))) (k15 : (dg_G → Nat → Int32 → Int32 → Int64 → Int32 → Option (Int32 × dg_G))) (G : dg_G) (x0 : Nat) (x2 : Int32) (x3 : Int32) (x4 : Int64) (x6 : Int32) : Option (Int32 × dg_G) :=
  (dg_gR G 1 0 x0).bind fun v2 =>
  (dg_gR G 2 9 v2).bind fun v3 =>
  (dg_is G 10 v3).bind fun u4 =>
  (gG_J2_size G v3).bind fun p5 =>
  if p5 ≤ x6 then (
    if ¬ (0 < (lg_cmp x4 (Int32.toInt64 x2))) then (
      gG_X0_parts_L77 k4 dh_fu G x0 x2 x3 x4 0)
    else
    (dg_is G 1 x0).bind fun u8 =>
    (gG_X0_shares G x0 x3 x2 x4).bind fun p9 =>
    k4 p9 x0 0 (x3 + 1))
  else
  (dg_is G 1 x0).bind fun u23 =>
  (gG_X0_debtAt G x0 x6).bind fun p24 =>
  (dg_gI G 4 3 p24).bind fun v25 =>
  if v25 = x3 then (
    (dg_gR G 1 6 x0).bind fun v27 =>
    (dg_ld G 50 v27 x6).bind fun v28 =>
    k15 G x0 x2 x3 (x4 + (Int32.toInt64 v28)) (x6 + 1))
  else
  k15 G x0 x2 x3 (x4 + 0) (x6 + 1)
theorem wG_X0_parts_L15_F {l : Launch} {E : dj_E} {Mo : Option dm_M} {r : Int32} {G' : dg_G} (k4 : (dg_G → Nat → Int32 → Int32 → Option (Int32 × dg_G))) (hk4 : ∀ (G : dg_G) (x0 : Nat) (x2 : Int32) (x3 : Int32), k4 G x0 x2 x3 = some (r, G') → dgW tG_X0_parts l E Mo G' (.inr (some (.int r))) G 4 [(0, dj_v E x0), (2, .int x2), (3, .int x3)] []) (k15 : (dg_G → Nat → Int32 → Int32 → Int64 → Int32 → Option (Int32 × dg_G))) (hk15 : ∀ (G : dg_G) (x0 : Nat) (x2 : Int32) (x3 : Int32) (x4 : Int64) (x6 : Int32), k15 G x0 x2 x3 x4 x6 = some (r, G') → dgW tG_X0_parts l E Mo G' (.inr (some (.int r))) G 15 [(0, dj_v E x0), (2, .int x2), (3, .int x3), (4, .long x4), (6, .int x6)] []) (G : dg_G) (x0 : Nat) (x2 : Int32) (x3 : Int32) (x4 : Int64) (x6 : Int32) (hf : gG_X0_parts_L15_F k4 k15 G x0 x2 x3 x4 x6 = some (r, G')) : dgW tG_X0_parts l E Mo G' (.inr (some (.int r))) G 15 [(0, dj_v E x0), (2, .int x2), (3, .int x3), (4, .long x4), (6, .int x6)] [] := by
  unfold gG_X0_parts_L15_F at hf
  refine dg_l (fun _ _ _ _ _ _ _ hC => r_iload hC dX0_parts_15 (j := 4) rfl) ?_
  refine g_aload_n dX0_parts_17 rfl (j := 0) rfl ?_
  obtain ⟨v2, h2, hf⟩ := dh_bd hf
  refine g_getR fR_X0_10 (by decide) h2 dX0_parts_18 ?_
  obtain ⟨v3, h3, hf⟩ := dh_bd hf
  refine g_getR fR_X0_63 (by decide) h3 dX0_parts_21 ?_
  obtain ⟨u4, h4, hf⟩ := dh_bd hf
  obtain ⟨p5, h5, hf⟩ := dh_bd hf
  refine g_callV (rc_O (ci := 10) rfl h4) (cG_J2_size _ E Mo G v3 h5) q256 qG_J2_size (Nat.le_of_ble_eq_true rfl) (Nat.le_of_ble_eq_true rfl) rfl (dj_cat8 (Nat.le_of_ble_eq_true rfl)) dX0_parts_24 ?_
  refine dg_b (fun _ _ _ _ _ _ _ hC => r_icmp_ge hC dX0_parts_27 (tgt := 66) (by decide)) (fun c6 => ?_) (fun c6 => ?_)
  · have hf := dh_if hf c6
    refine dg_l (fun _ _ _ _ _ _ _ hC => r_lload hC dX0_parts_66 (j := 3) rfl) ?_
    refine dg_l (fun _ _ _ _ _ _ _ hC => r_iload_n hC dX0_parts_68 rfl (j := 1) rfl) ?_
    refine dg_l (fun _ _ _ _ _ _ _ hC => r_i2l hC dX0_parts_69) ?_
    refine dg_l (fun _ _ _ _ _ _ _ hC => r_lcmp hC dX0_parts_70) ?_
    refine dg_b (fun _ _ _ _ _ _ _ hC => r_if_gt hC dX0_parts_71 (tgt := 134) (by decide)) (fun c7 => ?_) (fun c7 => ?_)
    · have hf := dh_el hf (fun q => q c7)
      refine g_aload_n dX0_parts_134 rfl (j := 0) rfl ?_
      refine dg_l (fun _ _ _ _ _ _ _ hC => r_iload_n hC dX0_parts_135 rfl (j := 2) rfl) ?_
      refine dg_l (fun _ _ _ _ _ _ _ hC => r_iload_n hC dX0_parts_136 rfl (j := 1) rfl) ?_
      refine dg_l (fun _ _ _ _ _ _ _ hC => r_lload hC dX0_parts_137 (j := 3) rfl) ?_
      obtain ⟨u8, h8, hf⟩ := dh_bd hf
      obtain ⟨p9, h9, hf⟩ := dh_bd hf
      refine g_callV (rc_O (ci := 1) rfl h8) (cG_X0_shares _ E Mo G x0 x3 x2 x4 h9) q1283 qG_X0_shares (Nat.le_of_ble_eq_true rfl) (Nat.le_of_ble_eq_true rfl) rfl (dj_cat8 (Nat.le_of_ble_eq_true rfl)) dX0_parts_139 ?_
      refine dg_l (fun _ _ _ _ _ _ _ hC => r_iconst hC dX0_parts_142 ki_0) ?_
      refine dg_l (fun _ _ _ _ _ _ _ hC => r_istore_n (lv' := [(2, .int 0), (0, dj_v E x0), (3, .int x3), (4, .long x4), (6, .int x6)]) hC dX0_parts_143 rfl (Nat.le_of_ble_eq_true rfl) rfl) ?_
      refine dg_l (fun _ _ _ _ _ _ _ hC => r_iinc (lv' := [(3, .int (x3 + 1)), (2, .int 0), (0, dj_v E x0), (4, .long x4), (6, .int x6)]) hC dX0_parts_144 (j := 2) rfl (congrArg _ ki_1) (Nat.le_of_ble_eq_true rfl) rfl) ?_
      refine dg_l (fun _ _ _ _ _ _ _ hC => r_goto hC dX0_parts_147 (tgt := 4) (by decide)) ?_
      exact g_sub [2, 1, 0] rfl (hk4 p9 x0 0 (x3 + 1) hf)
    · have hf := dh_if hf c7
      refine dg_l (fun _ _ _ _ _ _ _ hC => r_iconst hC dX0_parts_74 ki_0) ?_
      refine dg_l (fun _ _ _ _ _ _ _ hC => r_istore (lv' := [(6, .int 0), (0, dj_v E x0), (2, .int x2), (3, .int x3), (4, .long x4)]) hC dX0_parts_75 (Nat.le_of_ble_eq_true rfl) rfl) ?_
      exact g_sub [1, 2, 3, 4, 0] rfl (wG_X0_parts_L77 k4 hk4 dh_fu G x0 x2 x3 x4 0 hf)
  · have hf := dh_el hf c6
    refine dg_l (fun _ _ _ _ _ _ _ hC => r_lload hC dX0_parts_30 (j := 3) rfl) ?_
    refine g_aload_n dX0_parts_32 rfl (j := 0) rfl ?_
    refine dg_l (fun _ _ _ _ _ _ _ hC => r_iload hC dX0_parts_33 (j := 4) rfl) ?_
    obtain ⟨u23, h23, hf⟩ := dh_bd hf
    obtain ⟨p24, h24, hf⟩ := dh_bd hf
    refine g_callV (rc_O (ci := 1) rfl h23) (cG_X0_debtAt _ E Mo G x0 x6 h24) q485 qG_X0_debtAt (Nat.le_of_ble_eq_true rfl) (Nat.le_of_ble_eq_true rfl) rfl (dj_cat8 (Nat.le_of_ble_eq_true rfl)) dX0_parts_35 ?_
    obtain ⟨v25, h25, hf⟩ := dh_bd hf
    refine g_getI fR_X0_147 (by decide) h25 dX0_parts_38 ?_
    refine dg_l (fun _ _ _ _ _ _ _ hC => r_iload_n hC dX0_parts_41 rfl (j := 2) rfl) ?_
    refine dg_bn (fun _ _ _ _ _ _ _ hC => r_icmp_ne hC dX0_parts_42 (tgt := 56) (by decide)) (fun c26 => ?_) (fun c26 => ?_)
    · have hf := dh_el hf c26
      refine dg_l (fun _ _ _ _ _ _ _ hC => r_lconst hC dX0_parts_56 kl_0) ?_
      refine dg_l (fun _ _ _ _ _ _ _ hC => r_ladd hC dX0_parts_57) ?_
      refine dg_l (fun _ _ _ _ _ _ _ hC => r_lstore (lv' := [(4, .long (x4 + 0)), (0, dj_v E x0), (2, .int x2), (3, .int x3), (6, .int x6)]) hC dX0_parts_58 (Nat.le_of_ble_eq_true rfl) rfl) ?_
      refine dg_l (fun _ _ _ _ _ _ _ hC => r_iinc (lv' := [(6, .int (x6 + 1)), (4, .long (x4 + 0)), (0, dj_v E x0), (2, .int x2), (3, .int x3)]) hC dX0_parts_60 (j := 4) rfl (congrArg _ ki_1) (Nat.le_of_ble_eq_true rfl) rfl) ?_
      refine dg_l (fun _ _ _ _ _ _ _ hC => r_goto hC dX0_parts_63 (tgt := 15) (by decide)) ?_
      exact g_sub [2, 3, 4, 1, 0] rfl (hk15 G x0 x2 x3 (x4 + 0) (x6 + 1) hf)
    · have hf := dh_if hf c26
      refine g_aload_n dX0_parts_45 rfl (j := 0) rfl ?_
      obtain ⟨v27, h27, hf⟩ := dh_bd hf
      refine g_getR fR_X0_39 (by decide) h27 dX0_parts_46 ?_
      refine dg_l (fun _ _ _ _ _ _ _ hC => r_iload hC dX0_parts_49 (j := 4) rfl) ?_
      obtain ⟨v28, h28, hf⟩ := dh_bd hf
      refine g_iald h28 dX0_parts_51 ?_
      refine dg_l (fun _ _ _ _ _ _ _ hC => r_i2l hC dX0_parts_52) ?_
      refine dg_l (fun _ _ _ _ _ _ _ hC => r_goto hC dX0_parts_53 (tgt := 57) (by decide)) ?_
      refine dg_l (fun _ _ _ _ _ _ _ hC => r_ladd hC dX0_parts_57) ?_
      refine dg_l (fun _ _ _ _ _ _ _ hC => r_lstore (lv' := [(4, .long (x4 + (Int32.toInt64 v28))), (0, dj_v E x0), (2, .int x2), (3, .int x3), (6, .int x6)]) hC dX0_parts_58 (Nat.le_of_ble_eq_true rfl) rfl) ?_
      refine dg_l (fun _ _ _ _ _ _ _ hC => r_iinc (lv' := [(6, .int (x6 + 1)), (4, .long (x4 + (Int32.toInt64 v28))), (0, dj_v E x0), (2, .int x2), (3, .int x3)]) hC dX0_parts_60 (j := 4) rfl (congrArg _ ki_1) (Nat.le_of_ble_eq_true rfl) rfl) ?_
      refine dg_l (fun _ _ _ _ _ _ _ hC => r_goto hC dX0_parts_63 (tgt := 15) (by decide)) ?_
      exact g_sub [2, 3, 4, 1, 0] rfl (hk15 G x0 x2 x3 (x4 + (Int32.toInt64 v28)) (x6 + 1) hf)
def gG_X0_parts_L15 (k4 : (dg_G → Nat → Int32 → Int32 → Option (Int32 × dg_G))) : Nat → dg_G → Nat → Int32 → Int32 → Int64 → Int32 → Option (Int32 × dg_G)
  | 0 => fun _ _ _ _ _ _ => none
  | n + 1 => gG_X0_parts_L15_F k4 (gG_X0_parts_L15 k4 n)
theorem wG_X0_parts_L15 {l : Launch} {E : dj_E} {Mo : Option dm_M} {r : Int32} {G' : dg_G} (k4 : (dg_G → Nat → Int32 → Int32 → Option (Int32 × dg_G))) (hk4 : ∀ (G : dg_G) (x0 : Nat) (x2 : Int32) (x3 : Int32), k4 G x0 x2 x3 = some (r, G') → dgW tG_X0_parts l E Mo G' (.inr (some (.int r))) G 4 [(0, dj_v E x0), (2, .int x2), (3, .int x3)] []) : ∀ (n : Nat) (G : dg_G) (x0 : Nat) (x2 : Int32) (x3 : Int32) (x4 : Int64) (x6 : Int32) (_ : gG_X0_parts_L15 k4 n G x0 x2 x3 x4 x6 = some (r, G')), dgW tG_X0_parts l E Mo G' (.inr (some (.int r))) G 15 [(0, dj_v E x0), (2, .int x2), (3, .int x3), (4, .long x4), (6, .int x6)] [] := by
  intro n
  induction n with
  | zero => intro G x0 x2 x3 x4 x6 hf; exact dh_no hf
  | succ n ih => intro G x0 x2 x3 x4 x6 hf; exact wG_X0_parts_L15_F k4 hk4 (gG_X0_parts_L15 k4 n) ih G x0 x2 x3 x4 x6 hf
def gG_X0_parts_L4_F (k4 : (dg_G → Nat → Int32 → Int32 → Option (Int32 × dg_G))) (G : dg_G) (x0 : Nat) (x2 : Int32) (x3 : Int32) : Option (Int32 × dg_G) :=
  if 4 ≤ x3 then (
    some (x2, G))
  else
  gG_X0_parts_L15 k4 dh_fu G x0 x2 x3 0 0
theorem wG_X0_parts_L4_F {l : Launch} {E : dj_E} {Mo : Option dm_M} {r : Int32} {G' : dg_G} (k4 : (dg_G → Nat → Int32 → Int32 → Option (Int32 × dg_G))) (hk4 : ∀ (G : dg_G) (x0 : Nat) (x2 : Int32) (x3 : Int32), k4 G x0 x2 x3 = some (r, G') → dgW tG_X0_parts l E Mo G' (.inr (some (.int r))) G 4 [(0, dj_v E x0), (2, .int x2), (3, .int x3)] []) (G : dg_G) (x0 : Nat) (x2 : Int32) (x3 : Int32) (hf : gG_X0_parts_L4_F k4 G x0 x2 x3 = some (r, G')) : dgW tG_X0_parts l E Mo G' (.inr (some (.int r))) G 4 [(0, dj_v E x0), (2, .int x2), (3, .int x3)] [] := by
  unfold gG_X0_parts_L4_F at hf
  refine dg_l (fun _ _ _ _ _ _ _ hC => r_iload_n hC dX0_parts_4 rfl (j := 2) rfl) ?_
  refine dg_l (fun _ _ _ _ _ _ _ hC => r_iconst hC dX0_parts_5 ki_4) ?_
  refine dg_b (fun _ _ _ _ _ _ _ hC => r_icmp_ge hC dX0_parts_6 (tgt := 150) (by decide)) (fun c1 => ?_) (fun c1 => ?_)
  · have hf := dh_if hf c1
    refine dg_l (fun _ _ _ _ _ _ _ hC => r_iload_n hC dX0_parts_150 rfl (j := 1) rfl) ?_
    exact g_iret dX0_parts_151 rfl hf
  · have hf := dh_el hf c1
    refine dg_l (fun _ _ _ _ _ _ _ hC => r_lconst hC dX0_parts_9 kl_0) ?_
    refine dg_l (fun _ _ _ _ _ _ _ hC => r_lstore (lv' := [(4, .long 0), (0, dj_v E x0), (2, .int x2), (3, .int x3)]) hC dX0_parts_10 (Nat.le_of_ble_eq_true rfl) rfl) ?_
    refine dg_l (fun _ _ _ _ _ _ _ hC => r_iconst hC dX0_parts_12 ki_0) ?_
    refine dg_l (fun _ _ _ _ _ _ _ hC => r_istore (lv' := [(6, .int 0), (4, .long 0), (0, dj_v E x0), (2, .int x2), (3, .int x3)]) hC dX0_parts_13 (Nat.le_of_ble_eq_true rfl) rfl) ?_
    exact g_sub [2, 3, 4, 1, 0] rfl (wG_X0_parts_L15 k4 hk4 dh_fu G x0 x2 x3 0 0 hf)
def gG_X0_parts_L4 : Nat → dg_G → Nat → Int32 → Int32 → Option (Int32 × dg_G)
  | 0 => fun _ _ _ _ => none
  | n + 1 => gG_X0_parts_L4_F (gG_X0_parts_L4 n)
theorem wG_X0_parts_L4 {l : Launch} {E : dj_E} {Mo : Option dm_M} {r : Int32} {G' : dg_G} : ∀ (n : Nat) (G : dg_G) (x0 : Nat) (x2 : Int32) (x3 : Int32) (_ : gG_X0_parts_L4 n G x0 x2 x3 = some (r, G')), dgW tG_X0_parts l E Mo G' (.inr (some (.int r))) G 4 [(0, dj_v E x0), (2, .int x2), (3, .int x3)] [] := by
  intro n
  induction n with
  | zero => intro G x0 x2 x3 hf; exact dh_no hf
  | succ n ih => intro G x0 x2 x3 hf; exact wG_X0_parts_L4_F (gG_X0_parts_L4 n) ih G x0 x2 x3 hf
def gG_X0_parts (G : dg_G) (x0 : Nat) (x1 : Int32) : Option (Int32 × dg_G) :=
  gG_X0_parts_L4 dh_fu G x0 x1 0
theorem wG_X0_parts {l : Launch} {E : dj_E} {Mo : Option dm_M} {r : Int32} {G' : dg_G} (G : dg_G) (x0 : Nat) (x1 : Int32) (hf : gG_X0_parts G x0 x1 = some (r, G')) : dgW tG_X0_parts l E Mo G' (.inr (some (.int r))) G 0 [(0, dj_v E x0), (1, .int x1)] [] := by
  unfold gG_X0_parts at hf
  refine dg_l (fun _ _ _ _ _ _ _ hC => r_iload_n hC dX0_parts_0 rfl (j := 1) rfl) ?_
  refine dg_l (fun _ _ _ _ _ _ _ hC => r_istore_n (lv' := [(2, .int x1), (0, dj_v E x0), (1, .int x1)]) hC dX0_parts_1 rfl (Nat.le_of_ble_eq_true rfl) rfl) ?_
  refine dg_l (fun _ _ _ _ _ _ _ hC => r_iconst hC dX0_parts_2 ki_0) ?_
  refine dg_l (fun _ _ _ _ _ _ _ hC => r_istore_n (lv' := [(3, .int 0), (2, .int x1), (0, dj_v E x0), (1, .int x1)]) hC dX0_parts_3 rfl (Nat.le_of_ble_eq_true rfl) rfl) ?_
  exact g_sub [2, 1, 0] rfl (wG_X0_parts_L4 dh_fu G x0 x1 0 hf)
theorem cG_X0_parts (l : Launch) (E : dj_E) (Mo : Option dm_M) (G : dg_G) (x0 : Nat) (x1 : Int32) {p : Int32 × dg_G} (h : gG_X0_parts G x0 x1 = some p) : dg_Met l yX0_parts cX0_parts 7 (some .int) 5 114 E Mo [dj_v E x0, .int x1] G (some (.int p.1)) p.2 :=
  dg_met (plainFor_of_name (by decide)) (by simp only [lg_sl_ref, lg_sl_int, lg_sl_long, lg_sl_nil]; decide) (by simp only [lv_args_ref, lv_args_int, lv_args_long, lv_args_nil]) (wG_X0_parts G x0 x1 h)
theorem qG_X0_parts : dg_cV "DebtorsHouse" yX0_parts cX0_parts 7 (some .int) 1 := ⟨q1281, Or.inl qs33, q81, q1282, by decide, by decide, by decide +kernel⟩
