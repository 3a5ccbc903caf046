set_option maxRecDepth 100000
/-! DebtorsHouse.compose(II)I -/
abbrev tG_X0_compose : dg_T := (cX0_compose, 7, RX0, (some .int), 9, 199, "compose", [])
def gG_X0_compose_L84_F (k84 : (dg_G → Nat → Int32 → Int32 → Int32 → Int32 → Option (Int32 × dg_G))) (G : dg_G) (x0 : Nat) (x1 : Int32) (x2 : Int32) (x3 : Int32) (x4 : Int32) : Option (Int32 × dg_G) :=
  (dg_gR G 1 0 x0).bind fun v13 =>
  (dg_gR G 2 9 v13).bind fun v14 =>
  (dg_is G 10 v14).bind fun u15 =>
  (gG_J2_size G v14).bind fun p16 =>
  if p16 ≤ x4 then (
    (dg_is G 1 x0).bind fun u18 =>
    (gG_X0_looks G x0).bind fun p19 =>
    some (x3, p19))
  else
  (dg_is G 1 x0).bind fun u20 =>
  (gG_X0_debtAt G x0 x4).bind fun p21 =>
  (dg_is G 4 p21).bind fun u22 =>
  (gG_X4_isLive G p21).bind fun p23 =>
  if p23 = 0 then (
    k84 G x0 x1 x2 x3 (x4 + 1))
  else
  (dg_gI G 4 1 p21).bind fun v25 =>
  if ¬ (v25 = x1) then (
    k84 G x0 x1 x2 x3 (x4 + 1))
  else
  (dg_is G 1 x0).bind fun u27 =>
  (gG_X0_due G x0 x4).bind fun p28 =>
  (gG_X0_part G p28 x2).bind fun p29 =>
  (dg_is G 1 x0).bind fun u30 =>
  (gG_X0_at G x0 x1).bind fun p31 =>
  (dg_gI G 3 2 p31).bind fun v32 =>
  (dg_pI G 3 2 p31 (v32 - p29)).bind fun G33 =>
  (dg_gI G33 4 7 p21).bind fun v34 =>
  (dg_is G33 1 x0).bind fun u35 =>
  (gG_X0_at G33 x0 v34).bind fun p36 =>
  (dg_gI G33 3 2 p36).bind fun v37 =>
  (dg_pI G33 3 2 p36 (v37 + p29)).bind fun G38 =>
  (dg_is G38 1 x0).bind fun u39 =>
  (gG_X0_due G38 x0 x4).bind fun p40 =>
  if p29 = p40 then (
    (dg_gR G38 1 0 x0).bind fun v46 =>
    (dg_gI G38 2 4 v46).bind fun v47 =>
    (dg_is G38 4 p21).bind fun u48 =>
    (gG_X4_ends G38 p21 22 v47).bind fun p49 =>
    k84 p49 x0 x1 x2 x3 (x4 + 1))
  else
  (dg_gR G38 1 0 x0).bind fun v42 =>
  (dg_gI G38 2 4 v42).bind fun v43 =>
  (dg_is G38 4 p21).bind fun u44 =>
  (gG_X4_ends G38 p21 23 v43).bind fun p45 =>
  k84 p45 x0 x1 x2 x3 (x4 + 1)
theorem wG_X0_compose_L84_F {l : Launch} {E : dj_E} {Mo : Option dm_M} {r : Int32} {G' : dg_G} (k84 : (dg_G → Nat → Int32 → Int32 → Int32 → Int32 → Option (Int32 × dg_G))) (hk84 : ∀ (G : dg_G) (x0 : Nat) (x1 : Int32) (x2 : Int32) (x3 : Int32) (x4 : Int32), k84 G x0 x1 x2 x3 x4 = some (r, G') → dgW tG_X0_compose l E Mo G' (.inr (some (.int r))) G 84 [(0, dj_v E x0), (1, .int x1), (2, .int x2), (3, .int x3), (4, .int x4)] []) (G : dg_G) (x0 : Nat) (x1 : Int32) (x2 : Int32) (x3 : Int32) (x4 : Int32) (hf : gG_X0_compose_L84_F k84 G x0 x1 x2 x3 x4 = some (r, G')) : dgW tG_X0_compose l E Mo G' (.inr (some (.int r))) G 84 [(0, dj_v E x0), (1, .int x1), (2, .int x2), (3, .int x3), (4, .int x4)] [] := by
  unfold gG_X0_compose_L84_F at hf
  refine dg_l (fun _ _ _ _ _ _ _ hC => r_iload hC dX0_compose_84 (j := 4) rfl) ?_
  refine g_aload_n dX0_compose_86 rfl (j := 0) rfl ?_
  obtain ⟨v13, h13, hf⟩ := dh_bd hf
  refine g_getR fR_X0_10 (by decide) h13 dX0_compose_87 ?_
  obtain ⟨v14, h14, hf⟩ := dh_bd hf
  refine g_getR fR_X0_63 (by decide) h14 dX0_compose_90 ?_
  obtain ⟨u15, h15, hf⟩ := dh_bd hf
  obtain ⟨p16, h16, hf⟩ := dh_bd hf
  refine g_callV (rc_O (ci := 10) rfl h15) (cG_J2_size _ E Mo G v14 h16) q256 qG_J2_size (Nat.le_of_ble_eq_true rfl) (Nat.le_of_ble_eq_true rfl) rfl (dj_cat8 (Nat.le_of_ble_eq_true rfl)) dX0_compose_93 ?_
  refine dg_b (fun _ _ _ _ _ _ _ hC => r_icmp_ge hC dX0_compose_96 (tgt := 211) (by decide)) (fun c17 => ?_) (fun c17 => ?_)
  · have hf := dh_if hf c17
    refine g_aload_n dX0_compose_211 rfl (j := 0) rfl ?_
    obtain ⟨u18, h18, hf⟩ := dh_bd hf
    obtain ⟨p19, h19, hf⟩ := dh_bd hf
    refine g_callV (rc_O (ci := 1) rfl h18) (cG_X0_looks _ E Mo G x0 h19) q540 qG_X0_looks (Nat.le_of_ble_eq_true rfl) (Nat.le_of_ble_eq_true rfl) rfl (dj_cat8 (Nat.le_of_ble_eq_true rfl)) dX0_compose_212 ?_
    refine dg_l (fun _ _ _ _ _ _ _ hC => r_iload_n hC dX0_compose_215 rfl (j := 3) rfl) ?_
    exact g_iret dX0_compose_216 rfl hf
  · have hf := dh_el hf c17
    refine g_aload_n dX0_compose_99 rfl (j := 0) rfl ?_
    refine dg_l (fun _ _ _ _ _ _ _ hC => r_iload hC dX0_compose_100 (j := 4) rfl) ?_
    obtain ⟨u20, h20, hf⟩ := dh_bd hf
    obtain ⟨p21, h21, hf⟩ := dh_bd hf
    refine g_callV (rc_O (ci := 1) rfl h20) (cG_X0_debtAt _ E Mo G x0 x4 h21) q485 qG_X0_debtAt (Nat.le_of_ble_eq_true rfl) (Nat.le_of_ble_eq_true rfl) rfl (dj_cat8 (Nat.le_of_ble_eq_true rfl)) dX0_compose_102 ?_
    refine g_astore (i := 5) (lv1 := [(5, dj_v E p21), (0, dj_v E x0), (1, .int x1), (2, .int x2), (3, .int x3), (4, .int x4)]) dX0_compose_105 (Nat.le_of_ble_eq_true rfl) rfl ?_
    refine g_aload dX0_compose_107 (j := 0) rfl ?_
    obtain ⟨u22, h22, hf⟩ := dh_bd hf
    obtain ⟨p23, h23, hf⟩ := dh_bd hf
    refine g_callV (rc_O (ci := 4) rfl h22) (cG_X4_isLive _ E Mo G p21 h23) q503 qG_X4_isLive (Nat.le_of_ble_eq_true rfl) (Nat.le_of_ble_eq_true rfl) rfl (dj_cat8 (Nat.le_of_ble_eq_true rfl)) dX0_compose_109 ?_
    refine dg_b (fun _ _ _ _ _ _ _ hC => r_if_eq hC dX0_compose_112 (tgt := 205) (by decide)) (fun c24 => ?_) (fun c24 => ?_)
    · have hf := dh_if hf c24
      refine dg_l (fun _ _ _ _ _ _ _ hC => r_iinc (lv' := [(4, .int (x4 + 1)), (5, dj_v E p21), (0, dj_v E x0), (1, .int x1), (2, .int x2), (3, .int x3)]) hC dX0_compose_205 (j := 5) rfl (congrArg _ ki_1) (Nat.le_of_ble_eq_true rfl) rfl) ?_
      refine dg_l (fun _ _ _ _ _ _ _ hC => r_goto hC dX0_compose_208 (tgt := 84) (by decide)) ?_
      exact g_sub [2, 3, 4, 5, 0] rfl (hk84 G x0 x1 x2 x3 (x4 + 1) hf)
    · have hf := dh_el hf c24
      refine g_aload dX0_compose_115 (j := 0) rfl ?_
      obtain ⟨v25, h25, hf⟩ := dh_bd hf
      refine g_getI fR_X0_128 (by decide) h25 dX0_compose_117 ?_
      refine dg_l (fun _ _ _ _ _ _ _ hC => r_iload_n hC dX0_compose_120 rfl (j := 2) rfl) ?_
      refine dg_b (fun _ _ _ _ _ _ _ hC => r_icmp_eq hC dX0_compose_121 (tgt := 127) (by decide)) (fun c26 => ?_) (fun c26 => ?_)
      · have hf := dh_el hf (fun q => q c26)
        refine g_aload_n dX0_compose_127 rfl (j := 1) rfl ?_
        refine dg_l (fun _ _ _ _ _ _ _ hC => r_iload hC dX0_compose_128 (j := 5) rfl) ?_
        obtain ⟨u27, h27, hf⟩ := dh_bd hf
        obtain ⟨p28, h28, hf⟩ := dh_bd hf
        refine g_callV (rc_O (ci := 1) rfl h27) (cG_X0_due _ E Mo G x0 x4 h28) q507 qG_X0_due (Nat.le_of_ble_eq_true rfl) (Nat.le_of_ble_eq_true rfl) rfl (dj_cat8 (Nat.le_of_ble_eq_true rfl)) dX0_compose_130 ?_
        refine dg_l (fun _ _ _ _ _ _ _ hC => r_iload_n hC dX0_compose_133 rfl (j := 3) rfl) ?_
        obtain ⟨p29, h29, hf⟩ := dh_bd hf
        refine g_callS (cG_X0_part _ E Mo G p28 x2 h29) q1258 qG_X0_part (Nat.le_of_ble_eq_true rfl) (Nat.le_of_ble_eq_true rfl) rfl (dj_cat8 (Nat.le_of_ble_eq_true rfl)) dX0_compose_134 ?_
        refine dg_l (fun _ _ _ _ _ _ _ hC => r_istore (lv' := [(6, .int p29), (5, dj_v E p21), (0, dj_v E x0), (1, .int x1), (2, .int x2), (3, .int x3), (4, .int x4)]) hC dX0_compose_137 (Nat.le_of_ble_eq_true rfl) (by simp only [List.filter, dj_cat] <;> rfl)) ?_
        refine g_aload_n dX0_compose_139 rfl (j := 2) rfl ?_
        refine dg_l (fun _ _ _ _ _ _ _ hC => r_iload_n hC dX0_compose_140 rfl (j := 3) rfl) ?_
        obtain ⟨u30, h30, hf⟩ := dh_bd hf
        obtain ⟨p31, h31, hf⟩ := dh_bd hf
        refine g_callV (rc_O (ci := 1) rfl h30) (cG_X0_at _ E Mo G x0 x1 h31) q525 qG_X0_at (Nat.le_of_ble_eq_true rfl) (Nat.le_of_ble_eq_true rfl) rfl (dj_cat8 (Nat.le_of_ble_eq_true rfl)) dX0_compose_141 ?_
        refine g_dup dX0_compose_144 ?_
        obtain ⟨v32, h32, hf⟩ := dh_bd hf
        refine g_getI fR_X0_134 (by decide) h32 dX0_compose_145 ?_
        refine dg_l (fun _ _ _ _ _ _ _ hC => r_iload hC dX0_compose_148 (j := 0) rfl) ?_
        refine dg_l (fun _ _ _ _ _ _ _ hC => r_isub hC dX0_compose_150) ?_
        obtain ⟨G33, h33, hf⟩ := dh_bd hf
        refine g_putI fF_X0_134 (fun q => by cases q) (by decide) h33 dX0_compose_151 ?_
        refine g_aload_n dX0_compose_154 rfl (j := 2) rfl ?_
        refine g_aload dX0_compose_155 (j := 1) rfl ?_
        obtain ⟨v34, h34, hf⟩ := dh_bd hf
        refine g_getI fR_X0_131 (by decide) h34 dX0_compose_157 ?_
        obtain ⟨u35, h35, hf⟩ := dh_bd hf
        obtain ⟨p36, h36, hf⟩ := dh_bd hf
        refine g_callV (rc_O (ci := 1) rfl h35) (cG_X0_at _ E Mo G33 x0 v34 h36) q525 qG_X0_at (Nat.le_of_ble_eq_true rfl) (Nat.le_of_ble_eq_true rfl) rfl (dj_cat8 (Nat.le_of_ble_eq_true rfl)) dX0_compose_160 ?_
        refine g_dup dX0_compose_163 ?_
        obtain ⟨v37, h37, hf⟩ := dh_bd hf
        refine g_getI fR_X0_134 (by decide) h37 dX0_compose_164 ?_
        refine dg_l (fun _ _ _ _ _ _ _ hC => r_iload hC dX0_compose_167 (j := 0) rfl) ?_
        refine dg_l (fun _ _ _ _ _ _ _ hC => r_iadd hC dX0_compose_169) ?_
        obtain ⟨G38, h38, hf⟩ := dh_bd hf
        refine g_putI fF_X0_134 (fun q => by cases q) (by decide) h38 dX0_compose_170 ?_
        refine g_aload dX0_compose_173 (j := 1) rfl ?_
        refine dg_l (fun _ _ _ _ _ _ _ hC => r_iload hC dX0_compose_175 (j := 0) rfl) ?_
        refine g_aload_n dX0_compose_177 rfl (j := 2) rfl ?_
        refine dg_l (fun _ _ _ _ _ _ _ hC => r_iload hC dX0_compose_178 (j := 6) rfl) ?_
        obtain ⟨u39, h39, hf⟩ := dh_bd hf
        obtain ⟨p40, h40, hf⟩ := dh_bd hf
        refine g_callV (rc_O (ci := 1) rfl h39) (cG_X0_due _ E Mo G38 x0 x4 h40) q507 qG_X0_due (Nat.le_of_ble_eq_true rfl) (Nat.le_of_ble_eq_true rfl) rfl (dj_cat8 (Nat.le_of_ble_eq_true rfl)) dX0_compose_180 ?_
        refine dg_bn (fun _ _ _ _ _ _ _ hC => r_icmp_ne hC dX0_compose_183 (tgt := 192) (by decide)) (fun c41 => ?_) (fun c41 => ?_)
        · have hf := dh_el hf c41
          refine g_gets (j := 23) (by decide) (by decide) (fun _ h => ((dk_S h).1 2 (by decide)).1) q1263 dX0_compose_192 ?_
          refine g_aload_n dX0_compose_195 rfl (j := 2) rfl ?_
          obtain ⟨v42, h42, hf⟩ := dh_bd hf
          refine g_getR fR_X0_10 (by decide) h42 dX0_compose_196 ?_
          obtain ⟨v43, h43, hf⟩ := dh_bd hf
          refine g_getI fR_X0_88 (by decide) h43 dX0_compose_199 ?_
          obtain ⟨u44, h44, hf⟩ := dh_bd hf
          obtain ⟨p45, h45, hf⟩ := dh_bd hf
          refine g_callV (rc_O (ci := 4) rfl h44) (cG_X4_ends _ E Mo G38 p21 23 v43 h45) q1265 qG_X4_ends (Nat.le_of_ble_eq_true rfl) (Nat.le_of_ble_eq_true rfl) rfl (dj_cat8 (Nat.le_of_ble_eq_true rfl)) dX0_compose_202 ?_
          refine dg_l (fun _ _ _ _ _ _ _ hC => r_iinc (lv' := [(4, .int (x4 + 1)), (6, .int p29), (5, dj_v E p21), (0, dj_v E x0), (1, .int x1), (2, .int x2), (3, .int x3)]) hC dX0_compose_205 (j := 6) rfl (congrArg _ ki_1) (Nat.le_of_ble_eq_true rfl) rfl) ?_
          refine dg_l (fun _ _ _ _ _ _ _ hC => r_goto hC dX0_compose_208 (tgt := 84) (by decide)) ?_
          exact g_sub [3, 4, 5, 6, 0] rfl (hk84 p45 x0 x1 x2 x3 (x4 + 1) hf)
        · have hf := dh_if hf c41
          refine g_gets (j := 22) (by decide) (by decide) (fun _ h => ((dk_S h).1 1 (by decide)).1) q1262 dX0_compose_186 ?_
          refine dg_l (fun _ _ _ _ _ _ _ hC => r_goto hC dX0_compose_189 (tgt := 195) (by decide)) ?_
          refine g_aload_n dX0_compose_195 rfl (j := 2) rfl ?_
          obtain ⟨v46, h46, hf⟩ := dh_bd hf
          refine g_getR fR_X0_10 (by decide) h46 dX0_compose_196 ?_
          obtain ⟨v47, h47, hf⟩ := dh_bd hf
          refine g_getI fR_X0_88 (by decide) h47 dX0_compose_199 ?_
          obtain ⟨u48, h48, hf⟩ := dh_bd hf
          obtain ⟨p49, h49, hf⟩ := dh_bd hf
          refine g_callV (rc_O (ci := 4) rfl h48) (cG_X4_ends _ E Mo G38 p21 22 v47 h49) q1265 qG_X4_ends (Nat.le_of_ble_eq_true rfl) (Nat.le_of_ble_eq_true rfl) rfl (dj_cat8 (Nat.le_of_ble_eq_true rfl)) dX0_compose_202 ?_
          refine dg_l (fun _ _ _ _ _ _ _ hC => r_iinc (lv' := [(4, .int (x4 + 1)), (6, .int p29), (5, dj_v E p21), (0, dj_v E x0), (1, .int x1), (2, .int x2), (3, .int x3)]) hC dX0_compose_205 (j := 6) rfl (congrArg _ ki_1) (Nat.le_of_ble_eq_true rfl) rfl) ?_
          refine dg_l (fun _ _ _ _ _ _ _ hC => r_goto hC dX0_compose_208 (tgt := 84) (by decide)) ?_
          exact g_sub [3, 4, 5, 6, 0] rfl (hk84 p49 x0 x1 x2 x3 (x4 + 1) hf)
      · have hf := dh_if hf c26
        refine dg_l (fun _ _ _ _ _ _ _ hC => r_goto hC dX0_compose_124 (tgt := 205) (by decide)) ?_
        refine dg_l (fun _ _ _ _ _ _ _ hC => r_iinc (lv' := [(4, .int (x4 + 1)), (5, dj_v E p21), (0, dj_v E x0), (1, .int x1), (2, .int x2), (3, .int x3)]) hC dX0_compose_205 (j := 5) rfl (congrArg _ ki_1) (Nat.le_of_ble_eq_true rfl) rfl) ?_
        refine dg_l (fun _ _ _ _ _ _ _ hC => r_goto hC dX0_compose_208 (tgt := 84) (by decide)) ?_
        exact g_sub [2, 3, 4, 5, 0] rfl (hk84 G x0 x1 x2 x3 (x4 + 1) hf)
def gG_X0_compose_L84 : Nat → dg_G → Nat → Int32 → Int32 → Int32 → Int32 → Option (Int32 × dg_G)
  | 0 => fun _ _ _ _ _ _ => none
  | n + 1 => gG_X0_compose_L84_F (gG_X0_compose_L84 n)
theorem wG_X0_compose_L84 {l : Launch} {E : dj_E} {Mo : Option dm_M} {r : Int32} {G' : dg_G} : ∀ (n : Nat) (G : dg_G) (x0 : Nat) (x1 : Int32) (x2 : Int32) (x3 : Int32) (x4 : Int32) (_ : gG_X0_compose_L84 n G x0 x1 x2 x3 x4 = some (r, G')), dgW tG_X0_compose l E Mo G' (.inr (some (.int r))) G 84 [(0, dj_v E x0), (1, .int x1), (2, .int x2), (3, .int x3), (4, .int x4)] [] := by
  intro n
  induction n with
  | zero => intro G x0 x1 x2 x3 x4 hf; exact dh_no hf
  | succ n ih => intro G x0 x1 x2 x3 x4 hf; exact wG_X0_compose_L84_F (gG_X0_compose_L84 n) ih G x0 x1 x2 x3 x4 hf
def gG_X0_compose_L16_F (k16 : (dg_G → Nat → Int32 → Int32 → Int32 → Int32 → Option (Int32 × dg_G))) (G : dg_G) (x0 : Nat) (x1 : Int32) (x2 : Int32) (x3 : Int32) (x4 : Int32) : Option (Int32 × dg_G) :=
  (dg_gR G 1 0 x0).bind fun v4 =>
  (dg_gR G 2 9 v4).bind fun v5 =>
  (dg_is G 10 v5).bind fun u6 =>
  (gG_J2_size G v5).bind fun p7 =>
  if p7 ≤ x4 then (
    (dg_is G 1 x0).bind fun u9 =>
    (gG_X0_at G x0 x1).bind fun p10 =>
    (dg_gI G 3 2 p10).bind fun v11 =>
    if x3 ≤ v11 then (
      gG_X0_compose_L84 dh_fu G x0 x1 x2 x3 0)
    else
    some ((-1), G))
  else
  (dg_is G 1 x0).bind fun u50 =>
  (gG_X0_debtAt G x0 x4).bind fun p51 =>
  (dg_gI G 4 1 p51).bind fun v52 =>
  if v52 = x1 then (
    (dg_is G 1 x0).bind fun u54 =>
    (gG_X0_due G x0 x4).bind fun p55 =>
    (gG_X0_part G p55 x2).bind fun p56 =>
    k16 G x0 x1 x2 (x3 + p56) (x4 + 1))
  else
  k16 G x0 x1 x2 (x3 + 0) (x4 + 1)
theorem wG_X0_compose_L16_F {l : Launch} {E : dj_E} {Mo : Option dm_M} {r : Int32} {G' : dg_G} (k16 : (dg_G → Nat → Int32 → Int32 → Int32 → Int32 → Option (Int32 × dg_G))) (hk16 : ∀ (G : dg_G) (x0 : Nat) (x1 : Int32) (x2 : Int32) (x3 : Int32) (x4 : Int32), k16 G x0 x1 x2 x3 x4 = some (r, G') → dgW tG_X0_compose l E Mo G' (.inr (some (.int r))) G 16 [(0, dj_v E x0), (1, .int x1), (2, .int x2), (3, .int x3), (4, .int x4)] []) (G : dg_G) (x0 : Nat) (x1 : Int32) (x2 : Int32) (x3 : Int32) (x4 : Int32) (hf : gG_X0_compose_L16_F k16 G x0 x1 x2 x3 x4 = some (r, G')) : dgW tG_X0_compose l E Mo G' (.inr (some (.int r))) G 16 [(0, dj_v E x0), (1, .int x1), (2, .int x2), (3, .int x3), (4, .int x4)] [] := by
  unfold gG_X0_compose_L16_F at hf
  refine dg_l (fun _ _ _ _ _ _ _ hC => r_iload hC dX0_compose_16 (j := 4) rfl) ?_
  refine g_aload_n dX0_compose_18 rfl (j := 0) rfl ?_
  obtain ⟨v4, h4, hf⟩ := dh_bd hf
  refine g_getR fR_X0_10 (by decide) h4 dX0_compose_19 ?_
  obtain ⟨v5, h5, hf⟩ := dh_bd hf
  refine g_getR fR_X0_63 (by decide) h5 dX0_compose_22 ?_
  obtain ⟨u6, h6, hf⟩ := dh_bd hf
  obtain ⟨p7, h7, hf⟩ := dh_bd hf
  refine g_callV (rc_O (ci := 10) rfl h6) (cG_J2_size _ E Mo G v5 h7) q256 qG_J2_size (Nat.le_of_ble_eq_true rfl) (Nat.le_of_ble_eq_true rfl) rfl (dj_cat8 (Nat.le_of_ble_eq_true rfl)) dX0_compose_25 ?_
  refine dg_b (fun _ _ _ _ _ _ _ hC => r_icmp_ge hC dX0_compose_28 (tgt := 67) (by decide)) (fun c8 => ?_) (fun c8 => ?_)
  · have hf := dh_if hf c8
    refine g_aload_n dX0_compose_67 rfl (j := 0) rfl ?_
    refine dg_l (fun _ _ _ _ _ _ _ hC => r_iload_n hC dX0_compose_68 rfl (j := 1) rfl) ?_
    obtain ⟨u9, h9, hf⟩ := dh_bd hf
    obtain ⟨p10, h10, hf⟩ := dh_bd hf
    refine g_callV (rc_O (ci := 1) rfl h9) (cG_X0_at _ E Mo G x0 x1 h10) q525 qG_X0_at (Nat.le_of_ble_eq_true rfl) (Nat.le_of_ble_eq_true rfl) rfl (dj_cat8 (Nat.le_of_ble_eq_true rfl)) dX0_compose_69 ?_
    obtain ⟨v11, h11, hf⟩ := dh_bd hf
    refine g_getI fR_X0_134 (by decide) h11 dX0_compose_72 ?_
    refine dg_l (fun _ _ _ _ _ _ _ hC => r_iload_n hC dX0_compose_75 rfl (j := 3) rfl) ?_
    refine dg_b (fun _ _ _ _ _ _ _ hC => r_icmp_ge hC dX0_compose_76 (tgt := 81) (by decide)) (fun c12 => ?_) (fun c12 => ?_)
    · have hf := dh_if hf c12
      refine dg_l (fun _ _ _ _ _ _ _ hC => r_iconst hC dX0_compose_81 ki_0) ?_
      refine dg_l (fun _ _ _ _ _ _ _ hC => r_istore (lv' := [(4, .int 0), (0, dj_v E x0), (1, .int x1), (2, .int x2), (3, .int x3)]) hC dX0_compose_82 (Nat.le_of_ble_eq_true rfl) rfl) ?_
      exact g_sub [1, 2, 3, 4, 0] rfl (wG_X0_compose_L84 dh_fu G x0 x1 x2 x3 0 hf)
    · have hf := dh_el hf c12
      refine dg_l (fun _ _ _ _ _ _ _ hC => r_iconst hC dX0_compose_79 ki_m1) ?_
      exact g_iret dX0_compose_80 rfl hf
  · have hf := dh_el hf c8
    refine dg_l (fun _ _ _ _ _ _ _ hC => r_iload_n hC dX0_compose_31 rfl (j := 3) rfl) ?_
    refine g_aload_n dX0_compose_32 rfl (j := 0) rfl ?_
    refine dg_l (fun _ _ _ _ _ _ _ hC => r_iload hC dX0_compose_33 (j := 4) rfl) ?_
    obtain ⟨u50, h50, hf⟩ := dh_bd hf
    obtain ⟨p51, h51, hf⟩ := dh_bd hf
    refine g_callV (rc_O (ci := 1) rfl h50) (cG_X0_debtAt _ E Mo G x0 x4 h51) q485 qG_X0_debtAt (Nat.le_of_ble_eq_true rfl) (Nat.le_of_ble_eq_true rfl) rfl (dj_cat8 (Nat.le_of_ble_eq_true rfl)) dX0_compose_35 ?_
    obtain ⟨v52, h52, hf⟩ := dh_bd hf
    refine g_getI fR_X0_128 (by decide) h52 dX0_compose_38 ?_
    refine dg_l (fun _ _ _ _ _ _ _ hC => r_iload_n hC dX0_compose_41 rfl (j := 1) rfl) ?_
    refine dg_bn (fun _ _ _ _ _ _ _ hC => r_icmp_ne hC dX0_compose_42 (tgt := 58) (by decide)) (fun c53 => ?_) (fun c53 => ?_)
    · have hf := dh_el hf c53
      refine dg_l (fun _ _ _ _ _ _ _ hC => r_iconst hC dX0_compose_58 ki_0) ?_
      refine dg_l (fun _ _ _ _ _ _ _ hC => r_iadd hC dX0_compose_59) ?_
      refine dg_l (fun _ _ _ _ _ _ _ hC => r_istore_n (lv' := [(3, .int (x3 + 0)), (0, dj_v E x0), (1, .int x1), (2, .int x2), (4, .int x4)]) hC dX0_compose_60 rfl (Nat.le_of_ble_eq_true rfl) rfl) ?_
      refine dg_l (fun _ _ _ _ _ _ _ hC => r_iinc (lv' := [(4, .int (x4 + 1)), (3, .int (x3 + 0)), (0, dj_v E x0), (1, .int x1), (2, .int x2)]) hC dX0_compose_61 (j := 4) rfl (congrArg _ ki_1) (Nat.le_of_ble_eq_true rfl) rfl) ?_
      refine dg_l (fun _ _ _ _ _ _ _ hC => r_goto hC dX0_compose_64 (tgt := 16) (by decide)) ?_
      exact g_sub [2, 3, 4, 1, 0] rfl (hk16 G x0 x1 x2 (x3 + 0) (x4 + 1) hf)
    · have hf := dh_if hf c53
      refine g_aload_n dX0_compose_45 rfl (j := 0) rfl ?_
      refine dg_l (fun _ _ _ _ _ _ _ hC => r_iload hC dX0_compose_46 (j := 4) rfl) ?_
      obtain ⟨u54, h54, hf⟩ := dh_bd hf
      obtain ⟨p55, h55, hf⟩ := dh_bd hf
      refine g_callV (rc_O (ci := 1) rfl h54) (cG_X0_due _ E Mo G x0 x4 h55) q507 qG_X0_due (Nat.le_of_ble_eq_true rfl) (Nat.le_of_ble_eq_true rfl) rfl (dj_cat8 (Nat.le_of_ble_eq_true rfl)) dX0_compose_48 ?_
      refine dg_l (fun _ _ _ _ _ _ _ hC => r_iload_n hC dX0_compose_51 rfl (j := 2) rfl) ?_
      obtain ⟨p56, h56, hf⟩ := dh_bd hf
      refine g_callS (cG_X0_part _ E Mo G p55 x2 h56) q1258 qG_X0_part (Nat.le_of_ble_eq_true rfl) (Nat.le_of_ble_eq_true rfl) rfl (dj_cat8 (Nat.le_of_ble_eq_true rfl)) dX0_compose_52 ?_
      refine dg_l (fun _ _ _ _ _ _ _ hC => r_goto hC dX0_compose_55 (tgt := 59) (by decide)) ?_
      refine dg_l (fun _ _ _ _ _ _ _ hC => r_iadd hC dX0_compose_59) ?_
      refine dg_l (fun _ _ _ _ _ _ _ hC => r_istore_n (lv' := [(3, .int (x3 + p56)), (0, dj_v E x0), (1, .int x1), (2, .int x2), (4, .int x4)]) hC dX0_compose_60 rfl (Nat.le_of_ble_eq_true rfl) rfl) ?_
      refine dg_l (fun _ _ _ _ _ _ _ hC => r_iinc (lv' := [(4, .int (x4 + 1)), (3, .int (x3 + p56)), (0, dj_v E x0), (1, .int x1), (2, .int x2)]) hC dX0_compose_61 (j := 4) rfl (congrArg _ ki_1) (Nat.le_of_ble_eq_true rfl) rfl) ?_
      refine dg_l (fun _ _ _ _ _ _ _ hC => r_goto hC dX0_compose_64 (tgt := 16) (by decide)) ?_
      exact g_sub [2, 3, 4, 1, 0] rfl (hk16 G x0 x1 x2 (x3 + p56) (x4 + 1) hf)
def gG_X0_compose_L16 : Nat → dg_G → Nat → Int32 → Int32 → Int32 → Int32 → Option (Int32 × dg_G)
  | 0 => fun _ _ _ _ _ _ => none
  | n + 1 => gG_X0_compose_L16_F (gG_X0_compose_L16 n)
theorem wG_X0_compose_L16 {l : Launch} {E : dj_E} {Mo : Option dm_M} {r : Int32} {G' : dg_G} : ∀ (n : Nat) (G : dg_G) (x0 : Nat) (x1 : Int32) (x2 : Int32) (x3 : Int32) (x4 : Int32) (_ : gG_X0_compose_L16 n G x0 x1 x2 x3 x4 = some (r, G')), dgW tG_X0_compose l E Mo G' (.inr (some (.int r))) G 16 [(0, dj_v E x0), (1, .int x1), (2, .int x2), (3, .int x3), (4, .int x4)] [] := by
  intro n
  induction n with
  | zero => intro G x0 x1 x2 x3 x4 hf; exact dh_no hf
  | succ n ih => intro G x0 x1 x2 x3 x4 hf; exact wG_X0_compose_L16_F (gG_X0_compose_L16 n) ih G x0 x1 x2 x3 x4 hf
def gG_X0_compose (G : dg_G) (x0 : Nat) (x1 : Int32) (x2 : Int32) : Option (Int32 × dg_G) :=
  (dg_is G 1 x0).bind fun u1 =>
  (gG_X0_binds G x0 x1 x2).bind fun p2 =>
  if p2.1 = 0 then (
    some ((-1), p2.2))
  else
  gG_X0_compose_L16 dh_fu p2.2 x0 x1 x2 0 0
theorem wG_X0_compose {l : Launch} {E : dj_E} {Mo : Option dm_M} {r : Int32} {G' : dg_G} (G : dg_G) (x0 : Nat) (x1 : Int32) (x2 : Int32) (hf : gG_X0_compose G x0 x1 x2 = some (r, G')) : dgW tG_X0_compose l E Mo G' (.inr (some (.int r))) G 0 [(0, dj_v E x0), (1, .int x1), (2, .int x2)] [] := by
  unfold gG_X0_compose at hf
  refine g_aload_n dX0_compose_0 rfl (j := 0) rfl ?_
  refine dg_l (fun _ _ _ _ _ _ _ hC => r_iload_n hC dX0_compose_1 rfl (j := 1) rfl) ?_
  refine dg_l (fun _ _ _ _ _ _ _ hC => r_iload_n hC dX0_compose_2 rfl (j := 2) rfl) ?_
  obtain ⟨u1, h1, hf⟩ := dh_bd hf
  obtain ⟨p2, h2, hf⟩ := dh_bd hf
  refine g_callV (rc_O (ci := 1) rfl h1) (cG_X0_binds _ E Mo G x0 x1 x2 h2) q1257 qG_X0_binds (Nat.le_of_ble_eq_true rfl) (Nat.le_of_ble_eq_true rfl) rfl (dj_cat8 (Nat.le_of_ble_eq_true rfl)) dX0_compose_3 ?_
  refine dg_bn (fun _ _ _ _ _ _ _ hC => r_if_ne hC dX0_compose_6 (tgt := 11) (by decide)) (fun c3 => ?_) (fun c3 => ?_)
  · have hf := dh_el hf c3
    refine dg_l (fun _ _ _ _ _ _ _ hC => r_iconst hC dX0_compose_11 ki_0) ?_
    refine dg_l (fun _ _ _ _ _ _ _ hC => r_istore_n (lv' := [(3, .int 0), (0, dj_v E x0), (1, .int x1), (2, .int x2)]) hC dX0_compose_12 rfl (Nat.le_of_ble_eq_true rfl) rfl) ?_
    refine dg_l (fun _ _ _ _ _ _ _ hC => r_iconst hC dX0_compose_13 ki_0) ?_
    refine dg_l (fun _ _ _ _ _ _ _ hC => r_istore (lv' := [(4, .int 0), (3, .int 0), (0, dj_v E x0), (1, .int x1), (2, .int x2)]) hC dX0_compose_14 (Nat.le_of_ble_eq_true rfl) rfl) ?_
    exact g_sub [2, 3, 4, 1, 0] rfl (wG_X0_compose_L16 dh_fu p2.2 x0 x1 x2 0 0 hf)
  · have hf := dh_if hf c3
    refine dg_l (fun _ _ _ _ _ _ _ hC => r_iconst hC dX0_compose_9 ki_m1) ?_
    exact g_iret dX0_compose_10 rfl hf
theorem cG_X0_compose (l : Launch) (E : dj_E) (Mo : Option dm_M) (G : dg_G) (x0 : Nat) (x1 : Int32) (x2 : Int32) {p : Int32 × dg_G} (h : gG_X0_compose G x0 x1 x2 = some p) : dg_Met l yX0_compose cX0_compose 7 (some .int) 9 199 E Mo [dj_v E x0, .int x1, .int x2] G (some (.int p.1)) p.2 :=
  dg_met (plainFor_of_name (by decide)) (by simp only [lg_sl_ref, lg_sl_int, lg_sl_long, lg_sl_nil]; decide) (by simp only [lv_args_ref, lv_args_int, lv_args_long, lv_args_nil]) (wG_X0_compose G x0 x1 x2 h)
theorem qG_X0_compose : dg_cV "DebtorsHouse" yX0_compose cX0_compose 7 (some .int) 2 := ⟨q1254, Or.inl q1255, q81, q1256, by decide, by decide, by decide +kernel⟩
/-! DebtorsHouse.buy(III)Z -/
abbrev tG_X0_buy : dg_T := (cX0_buy, 5, RX0, (some .boolean), 6, 129, "buy", [])
def gG_X0_buy (G : dg_G) (x0 : Nat) (x1 : Int32) (x2 : Int32) (x3 : Int32) : Option (Int32 × dg_G) :=
  (dg_is G 1 x0).bind fun u1 =>
  (gG_X0_isLive G x0 x1).bind fun p2 =>
  if p2 = 0 then (
    some (0, G))
  else
  (dg_is G 1 x0).bind fun u4 =>
  (gG_X0_isPerson G x0 x2).bind fun p5 =>
  if p5 = 0 then (
    some (0, G))
  else
  (gG_X0_isIn G x3 0 100000).bind fun p7 =>
  if p7 = 0 then (
    some (0, G))
  else
  (dg_is G 1 x0).bind fun u9 =>
  (gG_X0_at G x0 x2).bind fun p10 =>
  (dg_gI G 3 2 p10).bind fun v11 =>
  if ¬ (x3 ≤ v11) then (
    some (0, G))
  else
  (dg_is G 1 x0).bind fun u13 =>
  (gG_X0_debtAt G x0 x1).bind fun p14 =>
  (dg_gI G 4 1 p14).bind fun v15 =>
  if v15 = x2 then (
    some (0, G))
  else
  (dg_gI G 4 7 p14).bind fun v17 =>
  if v17 = x2 then (
    some (0, G))
  else
  (dg_is G 1 x0).bind fun u19 =>
  (gG_X0_at G x0 x2).bind fun p20 =>
  (dg_gI G 3 2 p20).bind fun v21 =>
  (dg_pI G 3 2 p20 (v21 - x3)).bind fun G22 =>
  (dg_gI G22 4 7 p14).bind fun v23 =>
  (dg_is G22 1 x0).bind fun u24 =>
  (gG_X0_at G22 x0 v23).bind fun p25 =>
  (dg_gI G22 3 2 p25).bind fun v26 =>
  (dg_pI G22 3 2 p25 (v26 + x3)).bind fun G27 =>
  (dg_pI G27 4 7 p14 x2).bind fun G28 =>
  (dg_pZ G28 4 14 p14 1).bind fun G29 =>
  (dg_is G29 1 x0).bind fun u30 =>
  (gG_X0_looks G29 x0).bind fun p31 =>
  some (1, p31)
theorem wG_X0_buy {l : Launch} {E : dj_E} {Mo : Option dm_M} {r : Int32} {G' : dg_G} (G : dg_G) (x0 : Nat) (x1 : Int32) (x2 : Int32) (x3 : Int32) (hf : gG_X0_buy G x0 x1 x2 x3 = some (r, G')) : dgW tG_X0_buy l E Mo G' (.inr (some (.int r))) G 0 [(0, dj_v E x0), (1, .int x1), (2, .int x2), (3, .int x3)] [] := by
  unfold gG_X0_buy at hf
  refine g_aload_n dX0_buy_0 rfl (j := 0) rfl ?_
  refine dg_l (fun _ _ _ _ _ _ _ hC => r_iload_n hC dX0_buy_1 rfl (j := 1) rfl) ?_
  obtain ⟨u1, h1, hf⟩ := dh_bd hf
  obtain ⟨p2, h2, hf⟩ := dh_bd hf
  refine g_callV (rc_O (ci := 1) rfl h1) (cG_X0_isLive _ E Mo G x0 x1 h2) q481 qG_X0_isLive (Nat.le_of_ble_eq_true rfl) (Nat.le_of_ble_eq_true rfl) rfl (dj_cat8 (Nat.le_of_ble_eq_true rfl)) dX0_buy_2 ?_
  refine dg_b (fun _ _ _ _ _ _ _ hC => r_if_eq hC dX0_buy_5 (tgt := 38) (by decide)) (fun c3 => ?_) (fun c3 => ?_)
  · have hf := dh_if hf c3
    refine dg_l (fun _ _ _ _ _ _ _ hC => r_iconst hC dX0_buy_38 ki_0) ?_
    exact g_zret dX0_buy_39 rfl rfl hf
  · have hf := dh_el hf c3
    refine g_aload_n dX0_buy_8 rfl (j := 0) rfl ?_
    refine dg_l (fun _ _ _ _ _ _ _ hC => r_iload_n hC dX0_buy_9 rfl (j := 2) rfl) ?_
    obtain ⟨u4, h4, hf⟩ := dh_bd hf
    obtain ⟨p5, h5, hf⟩ := dh_bd hf
    refine g_callV (rc_O (ci := 1) rfl h4) (cG_X0_isPerson _ E Mo G x0 x2 h5) q402 qG_X0_isPerson (Nat.le_of_ble_eq_true rfl) (Nat.le_of_ble_eq_true rfl) rfl (dj_cat8 (Nat.le_of_ble_eq_true rfl)) dX0_buy_10 ?_
    refine dg_b (fun _ _ _ _ _ _ _ hC => r_if_eq hC dX0_buy_13 (tgt := 38) (by decide)) (fun c6 => ?_) (fun c6 => ?_)
    · have hf := dh_if hf c6
      refine dg_l (fun _ _ _ _ _ _ _ hC => r_iconst hC dX0_buy_38 ki_0) ?_
      exact g_zret dX0_buy_39 rfl rfl hf
    · have hf := dh_el hf c6
      refine dg_l (fun _ _ _ _ _ _ _ hC => r_iload_n hC dX0_buy_16 rfl (j := 3) rfl) ?_
      refine dg_l (fun _ _ _ _ _ _ _ hC => r_iconst hC dX0_buy_17 ki_0) ?_
      refine dg_l (fun _ _ _ _ _ _ _ hC => r_ldc hC q406 dX0_buy_18) ?_
      obtain ⟨p7, h7, hf⟩ := dh_bd hf
      refine g_callS (cG_X0_isIn _ E Mo G x3 0 100000 h7) q261 qG_X0_isIn (Nat.le_of_ble_eq_true rfl) (Nat.le_of_ble_eq_true rfl) rfl (dj_cat8 (Nat.le_of_ble_eq_true rfl)) dX0_buy_20 ?_
      refine dg_b (fun _ _ _ _ _ _ _ hC => r_if_eq hC dX0_buy_23 (tgt := 38) (by decide)) (fun c8 => ?_) (fun c8 => ?_)
      · have hf := dh_if hf c8
        refine dg_l (fun _ _ _ _ _ _ _ hC => r_iconst hC dX0_buy_38 ki_0) ?_
        exact g_zret dX0_buy_39 rfl rfl hf
      · have hf := dh_el hf c8
        refine g_aload_n dX0_buy_26 rfl (j := 0) rfl ?_
        refine dg_l (fun _ _ _ _ _ _ _ hC => r_iload_n hC dX0_buy_27 rfl (j := 2) rfl) ?_
        obtain ⟨u9, h9, hf⟩ := dh_bd hf
        obtain ⟨p10, h10, hf⟩ := dh_bd hf
        refine g_callV (rc_O (ci := 1) rfl h9) (cG_X0_at _ E Mo G x0 x2 h10) q525 qG_X0_at (Nat.le_of_ble_eq_true rfl) (Nat.le_of_ble_eq_true rfl) rfl (dj_cat8 (Nat.le_of_ble_eq_true rfl)) dX0_buy_28 ?_
        obtain ⟨v11, h11, hf⟩ := dh_bd hf
        refine g_getI fR_X0_134 (by decide) h11 dX0_buy_31 ?_
        refine dg_l (fun _ _ _ _ _ _ _ hC => r_iload_n hC dX0_buy_34 rfl (j := 3) rfl) ?_
        refine dg_b (fun _ _ _ _ _ _ _ hC => r_icmp_ge hC dX0_buy_35 (tgt := 40) (by decide)) (fun c12 => ?_) (fun c12 => ?_)
        · have hf := dh_el hf (fun q => q c12)
          refine g_aload_n dX0_buy_40 rfl (j := 0) rfl ?_
          refine dg_l (fun _ _ _ _ _ _ _ hC => r_iload_n hC dX0_buy_41 rfl (j := 1) rfl) ?_
          obtain ⟨u13, h13, hf⟩ := dh_bd hf
          obtain ⟨p14, h14, hf⟩ := dh_bd hf
          refine g_callV (rc_O (ci := 1) rfl h13) (cG_X0_debtAt _ E Mo G x0 x1 h14) q485 qG_X0_debtAt (Nat.le_of_ble_eq_true rfl) (Nat.le_of_ble_eq_true rfl) rfl (dj_cat8 (Nat.le_of_ble_eq_true rfl)) dX0_buy_42 ?_
          refine g_astore (i := 4) (lv1 := [(4, dj_v E p14), (0, dj_v E x0), (1, .int x1), (2, .int x2), (3, .int x3)]) dX0_buy_45 (Nat.le_of_ble_eq_true rfl) rfl ?_
          refine g_aload dX0_buy_47 (j := 0) rfl ?_
          obtain ⟨v15, h15, hf⟩ := dh_bd hf
          refine g_getI fR_X0_128 (by decide) h15 dX0_buy_49 ?_
          refine dg_l (fun _ _ _ _ _ _ _ hC => r_iload_n hC dX0_buy_52 rfl (j := 3) rfl) ?_
          refine dg_b (fun _ _ _ _ _ _ _ hC => r_icmp_eq hC dX0_buy_53 (tgt := 65) (by decide)) (fun c16 => ?_) (fun c16 => ?_)
          · have hf := dh_if hf c16
            refine dg_l (fun _ _ _ _ _ _ _ hC => r_iconst hC dX0_buy_65 ki_0) ?_
            exact g_zret dX0_buy_66 rfl rfl hf
          · have hf := dh_el hf c16
            refine g_aload dX0_buy_56 (j := 0) rfl ?_
            obtain ⟨v17, h17, hf⟩ := dh_bd hf
            refine g_getI fR_X0_131 (by decide) h17 dX0_buy_58 ?_
            refine dg_l (fun _ _ _ _ _ _ _ hC => r_iload_n hC dX0_buy_61 rfl (j := 3) rfl) ?_
            refine dg_bn (fun _ _ _ _ _ _ _ hC => r_icmp_ne hC dX0_buy_62 (tgt := 67) (by decide)) (fun c18 => ?_) (fun c18 => ?_)
            · have hf := dh_el hf c18
              refine g_aload_n dX0_buy_67 rfl (j := 1) rfl ?_
              refine dg_l (fun _ _ _ _ _ _ _ hC => r_iload_n hC dX0_buy_68 rfl (j := 3) rfl) ?_
              obtain ⟨u19, h19, hf⟩ := dh_bd hf
              obtain ⟨p20, h20, hf⟩ := dh_bd hf
              refine g_callV (rc_O (ci := 1) rfl h19) (cG_X0_at _ E Mo G x0 x2 h20) q525 qG_X0_at (Nat.le_of_ble_eq_true rfl) (Nat.le_of_ble_eq_true rfl) rfl (dj_cat8 (Nat.le_of_ble_eq_true rfl)) dX0_buy_69 ?_
              refine g_dup dX0_buy_72 ?_
              obtain ⟨v21, h21, hf⟩ := dh_bd hf
              refine g_getI fR_X0_134 (by decide) h21 dX0_buy_73 ?_
              refine dg_l (fun _ _ _ _ _ _ _ hC => r_iload_n hC dX0_buy_76 rfl (j := 4) rfl) ?_
              refine dg_l (fun _ _ _ _ _ _ _ hC => r_isub hC dX0_buy_77) ?_
              obtain ⟨G22, h22, hf⟩ := dh_bd hf
              refine g_putI fF_X0_134 (fun q => by cases q) (by decide) h22 dX0_buy_78 ?_
              refine g_aload_n dX0_buy_81 rfl (j := 1) rfl ?_
              refine g_aload dX0_buy_82 (j := 0) rfl ?_
              obtain ⟨v23, h23, hf⟩ := dh_bd hf
              refine g_getI fR_X0_131 (by decide) h23 dX0_buy_84 ?_
              obtain ⟨u24, h24, hf⟩ := dh_bd hf
              obtain ⟨p25, h25, hf⟩ := dh_bd hf
              refine g_callV (rc_O (ci := 1) rfl h24) (cG_X0_at _ E Mo G22 x0 v23 h25) q525 qG_X0_at (Nat.le_of_ble_eq_true rfl) (Nat.le_of_ble_eq_true rfl) rfl (dj_cat8 (Nat.le_of_ble_eq_true rfl)) dX0_buy_87 ?_
              refine g_dup dX0_buy_90 ?_
              obtain ⟨v26, h26, hf⟩ := dh_bd hf
              refine g_getI fR_X0_134 (by decide) h26 dX0_buy_91 ?_
              refine dg_l (fun _ _ _ _ _ _ _ hC => r_iload_n hC dX0_buy_94 rfl (j := 4) rfl) ?_
              refine dg_l (fun _ _ _ _ _ _ _ hC => r_iadd hC dX0_buy_95) ?_
              obtain ⟨G27, h27, hf⟩ := dh_bd hf
              refine g_putI fF_X0_134 (fun q => by cases q) (by decide) h27 dX0_buy_96 ?_
              refine g_aload dX0_buy_99 (j := 0) rfl ?_
              refine dg_l (fun _ _ _ _ _ _ _ hC => r_iload_n hC dX0_buy_101 rfl (j := 3) rfl) ?_
              obtain ⟨G28, h28, hf⟩ := dh_bd hf
              refine g_putI fF_X0_131 (fun q => by cases q) (by decide) h28 dX0_buy_102 ?_
              refine g_aload dX0_buy_105 (j := 0) rfl ?_
              refine dg_l (fun _ _ _ _ _ _ _ hC => r_iconst hC dX0_buy_107 ki_1) ?_
              obtain ⟨G29, h29, hf⟩ := dh_bd hf
              refine g_putZ fF_X0_174 (fun q => by cases q) (by decide) h29 dX0_buy_108 ?_
              refine g_aload_n dX0_buy_111 rfl (j := 1) rfl ?_
              obtain ⟨u30, h30, hf⟩ := dh_bd hf
              obtain ⟨p31, h31, hf⟩ := dh_bd hf
              refine g_callV (rc_O (ci := 1) rfl h30) (cG_X0_looks _ E Mo G29 x0 h31) q540 qG_X0_looks (Nat.le_of_ble_eq_true rfl) (Nat.le_of_ble_eq_true rfl) rfl (dj_cat8 (Nat.le_of_ble_eq_true rfl)) dX0_buy_112 ?_
              refine dg_l (fun _ _ _ _ _ _ _ hC => r_iconst hC dX0_buy_115 ki_1) ?_
              exact g_zret dX0_buy_116 rfl rfl hf
            · have hf := dh_if hf c18
              refine dg_l (fun _ _ _ _ _ _ _ hC => r_iconst hC dX0_buy_65 ki_0) ?_
              exact g_zret dX0_buy_66 rfl rfl hf
        · have hf := dh_if hf c12
          refine dg_l (fun _ _ _ _ _ _ _ hC => r_iconst hC dX0_buy_38 ki_0) ?_
          exact g_zret dX0_buy_39 rfl rfl hf
theorem cG_X0_buy (l : Launch) (E : dj_E) (Mo : Option dm_M) (G : dg_G) (x0 : Nat) (x1 : Int32) (x2 : Int32) (x3 : Int32) {p : Int32 × dg_G} (h : gG_X0_buy G x0 x1 x2 x3 = some p) : dg_Met l yX0_buy cX0_buy 5 (some .boolean) 6 129 E Mo [dj_v E x0, .int x1, .int x2, .int x3] G (some (.int p.1)) p.2 :=
  dg_met (plainFor_of_name (by decide)) (by simp only [lg_sl_ref, lg_sl_int, lg_sl_long, lg_sl_nil]; decide) (by simp only [lv_args_ref, lv_args_int, lv_args_long, lv_args_nil]) (wG_X0_buy G x0 x1 x2 x3 h)
theorem qG_X0_buy : dg_cV "DebtorsHouse" yX0_buy cX0_buy 5 (some .boolean) 3 := ⟨q1267, Or.inl q1268, q81, q1269, by decide, by decide, by decide +kernel⟩
