set_option maxRecDepth 100000
/-! DebtorsHouse$Reader.line()V -/
abbrev tG_X6_line : dg_T := (cX6_line, 3, RX6, none, 9, 203, "line", [])
def gG_X6_line_b136 (G : dg_G) (x0 : Nat) (x1 : Nat) (x2 : Int32) (y0 : Int32) (y1 : Nat) : Option ((Nat ⊕ Unit) × dg_G) :=
  (dg_pI G 8 2 y1 y0).bind fun G25 =>
  (dg_gR G25 8 0 x1).bind fun v26 =>
  (do_isT v26).bind fun u27 =>
  (gG_X10_isPercent G25 v26).bind fun p28 =>
  if p28 = 0 then (
    (dg_is G25 6 x0).bind fun u30 =>
    (gG_X6_must G25 x0 59).bind fun p31 =>
    dh_tm p31.1 (fun j31 => (
      some (.inl j31, p31.2)))
    fun v31 =>
    (dg_gR p31.2 6 8 x0).bind fun v32 =>
    (dg_is p31.2 10 v32).bind fun u33 =>
    (gG_J2_add p31.2 v32 x1).bind fun p34 =>
    some (.inr (), p34.2))
  else
  (dg_gI G25 8 2 x1).bind fun v35 =>
  if v35 ≤ 100 then (
    (dg_is G25 6 x0).bind fun u37 =>
    (gG_X6_must G25 x0 59).bind fun p38 =>
    dh_tm p38.1 (fun j38 => (
      some (.inl j38, p38.2)))
    fun v38 =>
    (dg_gR p38.2 6 8 x0).bind fun v39 =>
    (dg_is p38.2 10 v39).bind fun u40 =>
    (gG_J2_add p38.2 v39 x1).bind fun p41 =>
    some (.inr (), p41.2))
  else
  (dg_is G25 6 x0).bind fun u42 =>
  (gG_X6_also G25 x0 2 x2).bind fun p43 =>
  (dg_is p43 6 x0).bind fun u44 =>
  (gG_X6_must p43 x0 59).bind fun p45 =>
  dh_tm p45.1 (fun j45 => (
    some (.inl j45, p45.2)))
  fun v45 =>
  (dg_gR p45.2 6 8 x0).bind fun v46 =>
  (dg_is p45.2 10 v46).bind fun u47 =>
  (gG_J2_add p45.2 v46 x1).bind fun p48 =>
  some (.inr (), p48.2)
theorem wG_X6_line_b136 {l : Launch} {E : dj_E} {Mo : Option dm_M} (hfl : dj_fl l) {r : Nat ⊕ Unit} {G' : dg_G} (G : dg_G) (x0 : Nat) (x1 : Nat) (x2 : Int32) (y0 : Int32) (y1 : Nat) (hf : gG_X6_line_b136 G x0 x1 x2 y0 y1 = some (r, G')) : dgW tG_X6_line l E Mo G' (dg_oU r) G 136 [(0, dj_v E x0), (1, dj_v E x1), (2, .int x2)] [.int y0, dj_v E y1] := by
  unfold gG_X6_line_b136 at hf
  obtain ⟨G25, h25, hf⟩ := dh_bd hf
  refine g_putI fF_X6_172 (fun q => by cases q) (by decide) h25 dX6_line_136 ?_
  refine g_aload_n dX6_line_139 rfl (j := 1) rfl ?_
  obtain ⟨v26, h26, hf⟩ := dh_bd hf
  refine g_getR fR_X6_145 (by decide) h26 dX6_line_140 ?_
  obtain ⟨u27, h27, hf⟩ := dh_bd hf
  obtain ⟨p28, h28, hf⟩ := dh_bd hf
  refine g_callV (rc_T h27) (cG_X10_isPercent _ E Mo G25 v26 h28) q1055 qG_X10_isPercent (Nat.le_of_ble_eq_true rfl) (Nat.le_of_ble_eq_true rfl) rfl (dj_cat8 (Nat.le_of_ble_eq_true rfl)) dX6_line_143 ?_
  refine dg_b (fun _ _ _ _ _ _ _ hC => r_if_eq hC dX6_line_146 (tgt := 164) (by decide)) (fun c29 => ?_) (fun c29 => ?_)
  · have hf := dh_if hf c29
    refine g_aload_n dX6_line_164 rfl (j := 0) rfl ?_
    refine dg_l (fun _ _ _ _ _ _ _ hC => r_bipush hC dX6_line_165 kb_59) ?_
    obtain ⟨u30, h30, hf⟩ := dh_bd hf
    obtain ⟨p31, h31, hf⟩ := dh_bd hf
    refine g_callVT rfl (rc_O (ci := 6) rfl h30) (cG_X6_must _ hfl E Mo G25 x0 59 h31) q1049 qG_X6_must (Nat.le_of_ble_eq_true rfl) (Nat.le_of_ble_eq_true rfl) rfl (dj_cat8 (Nat.le_of_ble_eq_true rfl)) dX6_line_167 (fun j31 e31 => ?_) (fun v31 e31 => ?_)
    · rw [e31] at hf
      exact dg_thrU hf
    rw [e31] at hf
    replace hf := dh_tm_r hf
    refine g_aload_n dX6_line_170 rfl (j := 0) rfl ?_
    obtain ⟨v32, h32, hf⟩ := dh_bd hf
    refine g_getR fR_X6_14 (by decide) h32 dX6_line_171 ?_
    refine g_aload_n dX6_line_174 rfl (j := 1) rfl ?_
    obtain ⟨u33, h33, hf⟩ := dh_bd hf
    obtain ⟨p34, h34, hf⟩ := dh_bd hf
    refine g_callV (rc_O (ci := 10) rfl h33) (cG_J2_add _ E Mo p31.2 v32 x1 h34) q1047 qG_J2_add (Nat.le_of_ble_eq_true rfl) (Nat.le_of_ble_eq_true rfl) rfl (dj_cat8 (Nat.le_of_ble_eq_true rfl)) dX6_line_175 ?_
    refine dg_l (fun _ _ _ _ _ _ _ hC => r_pop hC dX6_line_178 rfl) ?_
    exact g_vretT dX6_line_179 rfl hf
  · have hf := dh_el hf c29
    refine g_aload_n dX6_line_149 rfl (j := 1) rfl ?_
    obtain ⟨v35, h35, hf⟩ := dh_bd hf
    refine g_getI fR_X6_172 (by decide) h35 dX6_line_150 ?_
    refine dg_l (fun _ _ _ _ _ _ _ hC => r_bipush hC dX6_line_153 kb_100) ?_
    refine dg_b (fun _ _ _ _ _ _ _ hC => r_icmp_le hC dX6_line_155 (tgt := 164) (by decide)) (fun c36 => ?_) (fun c36 => ?_)
    · have hf := dh_if hf c36
      refine g_aload_n dX6_line_164 rfl (j := 0) rfl ?_
      refine dg_l (fun _ _ _ _ _ _ _ hC => r_bipush hC dX6_line_165 kb_59) ?_
      obtain ⟨u37, h37, hf⟩ := dh_bd hf
      obtain ⟨p38, h38, hf⟩ := dh_bd hf
      refine g_callVT rfl (rc_O (ci := 6) rfl h37) (cG_X6_must _ hfl E Mo G25 x0 59 h38) q1049 qG_X6_must (Nat.le_of_ble_eq_true rfl) (Nat.le_of_ble_eq_true rfl) rfl (dj_cat8 (Nat.le_of_ble_eq_true rfl)) dX6_line_167 (fun j38 e38 => ?_) (fun v38 e38 => ?_)
      · rw [e38] at hf
        exact dg_thrU hf
      rw [e38] at hf
      replace hf := dh_tm_r hf
      refine g_aload_n dX6_line_170 rfl (j := 0) rfl ?_
      obtain ⟨v39, h39, hf⟩ := dh_bd hf
      refine g_getR fR_X6_14 (by decide) h39 dX6_line_171 ?_
      refine g_aload_n dX6_line_174 rfl (j := 1) rfl ?_
      obtain ⟨u40, h40, hf⟩ := dh_bd hf
      obtain ⟨p41, h41, hf⟩ := dh_bd hf
      refine g_callV (rc_O (ci := 10) rfl h40) (cG_J2_add _ E Mo p38.2 v39 x1 h41) q1047 qG_J2_add (Nat.le_of_ble_eq_true rfl) (Nat.le_of_ble_eq_true rfl) rfl (dj_cat8 (Nat.le_of_ble_eq_true rfl)) dX6_line_175 ?_
      refine dg_l (fun _ _ _ _ _ _ _ hC => r_pop hC dX6_line_178 rfl) ?_
      exact g_vretT dX6_line_179 rfl hf
    · have hf := dh_el hf c36
      refine g_aload_n dX6_line_158 rfl (j := 0) rfl ?_
      refine dg_l (fun _ _ _ _ _ _ _ hC => r_iconst hC dX6_line_159 ki_2) ?_
      refine dg_l (fun _ _ _ _ _ _ _ hC => r_iload_n hC dX6_line_160 rfl (j := 2) rfl) ?_
      obtain ⟨u42, h42, hf⟩ := dh_bd hf
      obtain ⟨p43, h43, hf⟩ := dh_bd hf
      refine g_callV (rc_O (ci := 6) rfl h42) (cG_X6_also _ hfl E Mo G25 x0 2 x2 h43) q902 qG_X6_also (Nat.le_of_ble_eq_true rfl) (Nat.le_of_ble_eq_true rfl) rfl (dj_cat8 (Nat.le_of_ble_eq_true rfl)) dX6_line_161 ?_
      refine g_aload_n dX6_line_164 rfl (j := 0) rfl ?_
      refine dg_l (fun _ _ _ _ _ _ _ hC => r_bipush hC dX6_line_165 kb_59) ?_
      obtain ⟨u44, h44, hf⟩ := dh_bd hf
      obtain ⟨p45, h45, hf⟩ := dh_bd hf
      refine g_callVT rfl (rc_O (ci := 6) rfl h44) (cG_X6_must _ hfl E Mo p43 x0 59 h45) q1049 qG_X6_must (Nat.le_of_ble_eq_true rfl) (Nat.le_of_ble_eq_true rfl) rfl (dj_cat8 (Nat.le_of_ble_eq_true rfl)) dX6_line_167 (fun j45 e45 => ?_) (fun v45 e45 => ?_)
      · rw [e45] at hf
        exact dg_thrU hf
      rw [e45] at hf
      replace hf := dh_tm_r hf
      refine g_aload_n dX6_line_170 rfl (j := 0) rfl ?_
      obtain ⟨v46, h46, hf⟩ := dh_bd hf
      refine g_getR fR_X6_14 (by decide) h46 dX6_line_171 ?_
      refine g_aload_n dX6_line_174 rfl (j := 1) rfl ?_
      obtain ⟨u47, h47, hf⟩ := dh_bd hf
      obtain ⟨p48, h48, hf⟩ := dh_bd hf
      refine g_callV (rc_O (ci := 10) rfl h47) (cG_J2_add _ E Mo p45.2 v46 x1 h48) q1047 qG_J2_add (Nat.le_of_ble_eq_true rfl) (Nat.le_of_ble_eq_true rfl) rfl (dj_cat8 (Nat.le_of_ble_eq_true rfl)) dX6_line_175 ?_
      refine dg_l (fun _ _ _ _ _ _ _ hC => r_pop hC dX6_line_178 rfl) ?_
      exact g_vretT dX6_line_179 rfl hf
def gG_X6_line_b94 (G : dg_G) (x0 : Nat) (x1 : Nat) : Option ((Nat ⊕ Unit) × dg_G) :=
  (dg_is G 6 x0).bind fun u14 =>
  (gG_X6_must G x0 58).bind fun p15 =>
  dh_tm p15.1 (fun j15 => (
    some (.inl j15, p15.2)))
  fun v15 =>
  (dg_gI p15.2 6 3 x0).bind fun v16 =>
  (dg_is p15.2 6 x0).bind fun u17 =>
  (gG_X6_takes p15.2 x0 60).bind fun p18 =>
  if ¬ (p18.1 = 0) then (
    gG_X6_line_b136 p18.2 x0 x1 v16 1 x1)
  else
  (dg_is p18.2 6 x0).bind fun u20 =>
  (gG_X6_takes p18.2 x0 61).bind fun p21 =>
  if ¬ (p21.1 = 0) then (
    gG_X6_line_b136 p21.2 x0 x1 v16 0 x1)
  else
  (dg_is p21.2 6 x0).bind fun u23 =>
  (gG_X6_number p21.2 x0).bind fun p24 =>
  dh_tm p24.1 (fun j24 => (
    some (.inl j24, p24.2)))
  fun v24 =>
  gG_X6_line_b136 p24.2 x0 x1 v16 v24 x1
theorem wG_X6_line_b94 {l : Launch} {E : dj_E} {Mo : Option dm_M} (hfl : dj_fl l) {r : Nat ⊕ Unit} {G' : dg_G} (G : dg_G) (x0 : Nat) (x1 : Nat) (hf : gG_X6_line_b94 G x0 x1 = some (r, G')) : dgW tG_X6_line l E Mo G' (dg_oU r) G 94 [(0, dj_v E x0), (1, dj_v E x1)] [] := by
  unfold gG_X6_line_b94 at hf
  refine g_aload_n dX6_line_94 rfl (j := 0) rfl ?_
  refine dg_l (fun _ _ _ _ _ _ _ hC => r_bipush hC dX6_line_95 kb_58) ?_
  obtain ⟨u14, h14, hf⟩ := dh_bd hf
  obtain ⟨p15, h15, hf⟩ := dh_bd hf
  refine g_callVT rfl (rc_O (ci := 6) rfl h14) (cG_X6_must _ hfl E Mo G x0 58 h15) q1049 qG_X6_must (Nat.le_of_ble_eq_true rfl) (Nat.le_of_ble_eq_true rfl) rfl (dj_cat8 (Nat.le_of_ble_eq_true rfl)) dX6_line_97 (fun j15 e15 => ?_) (fun v15 e15 => ?_)
  · rw [e15] at hf
    exact dg_thrU hf
  rw [e15] at hf
  replace hf := dh_tm_r hf
  refine g_aload_n dX6_line_100 rfl (j := 0) rfl ?_
  obtain ⟨v16, h16, hf⟩ := dh_bd hf
  refine g_getI fR_X6_38 (by decide) h16 dX6_line_101 ?_
  refine dg_l (fun _ _ _ _ _ _ _ hC => r_istore_n (lv' := [(2, .int v16), (0, dj_v E x0), (1, dj_v E x1)]) hC dX6_line_104 rfl (Nat.le_of_ble_eq_true rfl) (by simp only [List.filter, dj_cat] <;> rfl)) ?_
  refine g_aload_n dX6_line_105 rfl (j := 2) rfl ?_
  refine g_aload_n dX6_line_106 rfl (j := 1) rfl ?_
  refine g_ldcS (i := 60) (tx := "yes") rfl (by decide) (by decide) (by decide) dX6_line_107 ?_
  obtain ⟨u17, h17, hf⟩ := dh_bd hf
  obtain ⟨p18, h18, hf⟩ := dh_bd hf
  refine g_callV (rc_O (ci := 6) rfl h17) (cG_X6_takes _ E Mo p15.2 x0 60 h18) q997 qG_X6_takes (Nat.le_of_ble_eq_true rfl) (Nat.le_of_ble_eq_true rfl) rfl (dj_cat8 (Nat.le_of_ble_eq_true rfl)) dX6_line_109 ?_
  refine dg_b (fun _ _ _ _ _ _ _ hC => r_if_eq hC dX6_line_112 (tgt := 119) (by decide)) (fun c19 => ?_) (fun c19 => ?_)
  · have hf := dh_el hf (fun q => q c19)
    refine g_aload_n dX6_line_119 rfl (j := 1) rfl ?_
    refine g_ldcS (i := 61) (tx := "no") rfl (by decide) (by decide) (by decide) dX6_line_120 ?_
    obtain ⟨u20, h20, hf⟩ := dh_bd hf
    obtain ⟨p21, h21, hf⟩ := dh_bd hf
    refine g_callV (rc_O (ci := 6) rfl h20) (cG_X6_takes _ E Mo p18.2 x0 61 h21) q997 qG_X6_takes (Nat.le_of_ble_eq_true rfl) (Nat.le_of_ble_eq_true rfl) rfl (dj_cat8 (Nat.le_of_ble_eq_true rfl)) dX6_line_122 ?_
    refine dg_b (fun _ _ _ _ _ _ _ hC => r_if_eq hC dX6_line_125 (tgt := 132) (by decide)) (fun c22 => ?_) (fun c22 => ?_)
    · have hf := dh_el hf (fun q => q c22)
      refine g_aload_n dX6_line_132 rfl (j := 1) rfl ?_
      obtain ⟨u23, h23, hf⟩ := dh_bd hf
      obtain ⟨p24, h24, hf⟩ := dh_bd hf
      refine g_callVT rfl (rc_O (ci := 6) rfl h23) (cG_X6_number _ hfl E Mo p21.2 x0 h24) q1026 qG_X6_number (Nat.le_of_ble_eq_true rfl) (Nat.le_of_ble_eq_true rfl) rfl (dj_cat8 (Nat.le_of_ble_eq_true rfl)) dX6_line_133 (fun j24 e24 => ?_) (fun v24 e24 => ?_)
      · rw [e24] at hf
        exact dg_thrU hf
      rw [e24] at hf
      replace hf := dh_tm_r hf
      exact g_sub [1, 2, 0] rfl (wG_X6_line_b136 hfl p24.2 x0 x1 v16 v24 x1 hf)
    · have hf := dh_if hf c22
      refine dg_l (fun _ _ _ _ _ _ _ hC => r_iconst hC dX6_line_128 ki_0) ?_
      refine dg_l (fun _ _ _ _ _ _ _ hC => r_goto hC dX6_line_129 (tgt := 136) (by decide)) ?_
      exact g_sub [1, 2, 0] rfl (wG_X6_line_b136 hfl p21.2 x0 x1 v16 0 x1 hf)
  · have hf := dh_if hf c19
    refine dg_l (fun _ _ _ _ _ _ _ hC => r_iconst hC dX6_line_115 ki_1) ?_
    refine dg_l (fun _ _ _ _ _ _ _ hC => r_goto hC dX6_line_116 (tgt := 136) (by decide)) ?_
    exact g_sub [1, 2, 0] rfl (wG_X6_line_b136 hfl p18.2 x0 x1 v16 1 x1 hf)
def gG_X6_line_L48_F (k48 : (dg_G → Nat → Nat → Int32 → Option ((Nat ⊕ Unit) × dg_G))) (G : dg_G) (x0 : Nat) (x1 : Nat) (x2 : Int32) : Option ((Nat ⊕ Unit) × dg_G) :=
  if x2 = 0 then (
    gG_X6_line_b94 G x0 x1)
  else
  (dg_gR G 8 1 x1).bind fun v50 =>
  (dg_is G 10 v50).bind fun u51 =>
  (gG_J2_size G v50).bind fun p52 =>
  if p52 < 4 then (
    (dg_gR G 8 1 x1).bind fun v54 =>
    (dg_is G 6 x0).bind fun u55 =>
    (gG_X6_test G x0).bind fun p56 =>
    dh_tm p56.1 (fun j56 => (
      some (.inl j56, p56.2)))
    fun v56 =>
    (dg_is p56.2 10 v54).bind fun u57 =>
    (gG_J2_add p56.2 v54 v56).bind fun p58 =>
    (dg_is p58.2 6 x0).bind fun u59 =>
    (gG_X6_takes p58.2 x0 59).bind fun p60 =>
    k48 p60.2 x0 x1 p60.1)
  else
  (dg_gI G 6 3 x0).bind fun v61 =>
  (dg_is G 6 x0).bind fun u62 =>
  (gG_X6_also G x0 3 v61).bind fun p63 =>
  (dg_gR p63 8 1 x1).bind fun v64 =>
  (dg_is p63 6 x0).bind fun u65 =>
  (gG_X6_test p63 x0).bind fun p66 =>
  dh_tm p66.1 (fun j66 => (
    some (.inl j66, p66.2)))
  fun v66 =>
  (dg_is p66.2 10 v64).bind fun u67 =>
  (gG_J2_add p66.2 v64 v66).bind fun p68 =>
  (dg_is p68.2 6 x0).bind fun u69 =>
  (gG_X6_takes p68.2 x0 59).bind fun p70 =>
  k48 p70.2 x0 x1 p70.1
theorem wG_X6_line_L48_F {l : Launch} {E : dj_E} {Mo : Option dm_M} (hfl : dj_fl l) {r : Nat ⊕ Unit} {G' : dg_G} (k48 : (dg_G → Nat → Nat → Int32 → Option ((Nat ⊕ Unit) × dg_G))) (hk48 : ∀ (G : dg_G) (x0 : Nat) (x1 : Nat) (x2 : Int32), k48 G x0 x1 x2 = some (r, G') → dgW tG_X6_line l E Mo G' (dg_oU r) G 48 [(0, dj_v E x0), (1, dj_v E x1), (2, .int x2)] []) (G : dg_G) (x0 : Nat) (x1 : Nat) (x2 : Int32) (hf : gG_X6_line_L48_F k48 G x0 x1 x2 = some (r, G')) : dgW tG_X6_line l E Mo G' (dg_oU r) G 48 [(0, dj_v E x0), (1, dj_v E x1), (2, .int x2)] [] := by
  unfold gG_X6_line_L48_F at hf
  refine dg_l (fun _ _ _ _ _ _ _ hC => r_iload_n hC dX6_line_48 rfl (j := 2) rfl) ?_
  refine dg_b (fun _ _ _ _ _ _ _ hC => r_if_eq hC dX6_line_49 (tgt := 94) (by decide)) (fun c49 => ?_) (fun c49 => ?_)
  · have hf := dh_if hf c49
    exact g_sub [0, 1] rfl (wG_X6_line_b94 hfl G x0 x1 hf)
  · have hf := dh_el hf c49
    refine g_aload_n dX6_line_52 rfl (j := 1) rfl ?_
    obtain ⟨v50, h50, hf⟩ := dh_bd hf
    refine g_getR fR_X6_150 (by decide) h50 dX6_line_53 ?_
    obtain ⟨u51, h51, hf⟩ := dh_bd hf
    obtain ⟨p52, h52, hf⟩ := dh_bd hf
    refine g_callV (rc_O (ci := 10) rfl h51) (cG_J2_size _ E Mo G v50 h52) q901 qG_J2_size (Nat.le_of_ble_eq_true rfl) (Nat.le_of_ble_eq_true rfl) rfl (dj_cat8 (Nat.le_of_ble_eq_true rfl)) dX6_line_56 ?_
    refine dg_l (fun _ _ _ _ _ _ _ hC => r_iconst hC dX6_line_59 ki_4) ?_
    refine dg_b (fun _ _ _ _ _ _ _ hC => r_icmp_lt hC dX6_line_60 (tgt := 72) (by decide)) (fun c53 => ?_) (fun c53 => ?_)
    · have hf := dh_if hf c53
      refine g_aload_n dX6_line_72 rfl (j := 1) rfl ?_
      obtain ⟨v54, h54, hf⟩ := dh_bd hf
      refine g_getR fR_X6_150 (by decide) h54 dX6_line_73 ?_
      refine g_aload_n dX6_line_76 rfl (j := 0) rfl ?_
      obtain ⟨u55, h55, hf⟩ := dh_bd hf
      obtain ⟨p56, h56, hf⟩ := dh_bd hf
      refine g_callVT rfl (rc_O (ci := 6) rfl h55) (cG_X6_test _ hfl E Mo G x0 h56) q1014 qG_X6_test (Nat.le_of_ble_eq_true rfl) (Nat.le_of_ble_eq_true rfl) rfl (dj_cat8 (Nat.le_of_ble_eq_true rfl)) dX6_line_77 (fun j56 e56 => ?_) (fun v56 e56 => ?_)
      · rw [e56] at hf
        exact dg_thrU hf
      rw [e56] at hf
      replace hf := dh_tm_r hf
      obtain ⟨u57, h57, hf⟩ := dh_bd hf
      obtain ⟨p58, h58, hf⟩ := dh_bd hf
      refine g_callV (rc_O (ci := 10) rfl h57) (cG_J2_add _ E Mo p56.2 v54 v56 h58) q1047 qG_J2_add (Nat.le_of_ble_eq_true rfl) (Nat.le_of_ble_eq_true rfl) rfl (dj_cat8 (Nat.le_of_ble_eq_true rfl)) dX6_line_80 ?_
      refine dg_l (fun _ _ _ _ _ _ _ hC => r_pop hC dX6_line_83 rfl) ?_
      refine g_aload_n dX6_line_84 rfl (j := 0) rfl ?_
      refine g_ldcS (i := 59) (tx := "and") rfl (by decide) (by decide) (by decide) dX6_line_85 ?_
      obtain ⟨u59, h59, hf⟩ := dh_bd hf
      obtain ⟨p60, h60, hf⟩ := dh_bd hf
      refine g_callV (rc_O (ci := 6) rfl h59) (cG_X6_takes _ E Mo p58.2 x0 59 h60) q997 qG_X6_takes (Nat.le_of_ble_eq_true rfl) (Nat.le_of_ble_eq_true rfl) rfl (dj_cat8 (Nat.le_of_ble_eq_true rfl)) dX6_line_87 ?_
      refine dg_l (fun _ _ _ _ _ _ _ hC => r_istore_n (lv' := [(2, .int p60.1), (0, dj_v E x0), (1, dj_v E x1)]) hC dX6_line_90 rfl (Nat.le_of_ble_eq_true rfl) (by simp only [List.filter, dj_cat] <;> rfl)) ?_
      refine dg_l (fun _ _ _ _ _ _ _ hC => r_goto hC dX6_line_91 (tgt := 48) (by decide)) ?_
      exact g_sub [1, 2, 0] rfl (hk48 p60.2 x0 x1 p60.1 hf)
    · have hf := dh_el hf c53
      refine g_aload_n dX6_line_63 rfl (j := 0) rfl ?_
      refine dg_l (fun _ _ _ _ _ _ _ hC => r_iconst hC dX6_line_64 ki_3) ?_
      refine g_aload_n dX6_line_65 rfl (j := 0) rfl ?_
      obtain ⟨v61, h61, hf⟩ := dh_bd hf
      refine g_getI fR_X6_38 (by decide) h61 dX6_line_66 ?_
      obtain ⟨u62, h62, hf⟩ := dh_bd hf
      obtain ⟨p63, h63, hf⟩ := dh_bd hf
      refine g_callV (rc_O (ci := 6) rfl h62) (cG_X6_also _ hfl E Mo G x0 3 v61 h63) q902 qG_X6_also (Nat.le_of_ble_eq_true rfl) (Nat.le_of_ble_eq_true rfl) rfl (dj_cat8 (Nat.le_of_ble_eq_true rfl)) dX6_line_69 ?_
      refine g_aload_n dX6_line_72 rfl (j := 1) rfl ?_
      obtain ⟨v64, h64, hf⟩ := dh_bd hf
      refine g_getR fR_X6_150 (by decide) h64 dX6_line_73 ?_
      refine g_aload_n dX6_line_76 rfl (j := 0) rfl ?_
      obtain ⟨u65, h65, hf⟩ := dh_bd hf
      obtain ⟨p66, h66, hf⟩ := dh_bd hf
      refine g_callVT rfl (rc_O (ci := 6) rfl h65) (cG_X6_test _ hfl E Mo p63 x0 h66) q1014 qG_X6_test (Nat.le_of_ble_eq_true rfl) (Nat.le_of_ble_eq_true rfl) rfl (dj_cat8 (Nat.le_of_ble_eq_true rfl)) dX6_line_77 (fun j66 e66 => ?_) (fun v66 e66 => ?_)
      · rw [e66] at hf
        exact dg_thrU hf
      rw [e66] at hf
      replace hf := dh_tm_r hf
      obtain ⟨u67, h67, hf⟩ := dh_bd hf
      obtain ⟨p68, h68, hf⟩ := dh_bd hf
      refine g_callV (rc_O (ci := 10) rfl h67) (cG_J2_add _ E Mo p66.2 v64 v66 h68) q1047 qG_J2_add (Nat.le_of_ble_eq_true rfl) (Nat.le_of_ble_eq_true rfl) rfl (dj_cat8 (Nat.le_of_ble_eq_true rfl)) dX6_line_80 ?_
      refine dg_l (fun _ _ _ _ _ _ _ hC => r_pop hC dX6_line_83 rfl) ?_
      refine g_aload_n dX6_line_84 rfl (j := 0) rfl ?_
      refine g_ldcS (i := 59) (tx := "and") rfl (by decide) (by decide) (by decide) dX6_line_85 ?_
      obtain ⟨u69, h69, hf⟩ := dh_bd hf
      obtain ⟨p70, h70, hf⟩ := dh_bd hf
      refine g_callV (rc_O (ci := 6) rfl h69) (cG_X6_takes _ E Mo p68.2 x0 59 h70) q997 qG_X6_takes (Nat.le_of_ble_eq_true rfl) (Nat.le_of_ble_eq_true rfl) rfl (dj_cat8 (Nat.le_of_ble_eq_true rfl)) dX6_line_87 ?_
      refine dg_l (fun _ _ _ _ _ _ _ hC => r_istore_n (lv' := [(2, .int p70.1), (0, dj_v E x0), (1, dj_v E x1)]) hC dX6_line_90 rfl (Nat.le_of_ble_eq_true rfl) (by simp only [List.filter, dj_cat] <;> rfl)) ?_
      refine dg_l (fun _ _ _ _ _ _ _ hC => r_goto hC dX6_line_91 (tgt := 48) (by decide)) ?_
      exact g_sub [1, 2, 0] rfl (hk48 p70.2 x0 x1 p70.1 hf)
def gG_X6_line_L48 : Nat → dg_G → Nat → Nat → Int32 → Option ((Nat ⊕ Unit) × dg_G)
  | 0 => fun _ _ _ _ => none
  | n + 1 => gG_X6_line_L48_F (gG_X6_line_L48 n)
theorem wG_X6_line_L48 {l : Launch} {E : dj_E} {Mo : Option dm_M} (hfl : dj_fl l) {r : Nat ⊕ Unit} {G' : dg_G} : ∀ (n : Nat) (G : dg_G) (x0 : Nat) (x1 : Nat) (x2 : Int32) (_ : gG_X6_line_L48 n G x0 x1 x2 = some (r, G')), dgW tG_X6_line l E Mo G' (dg_oU r) G 48 [(0, dj_v E x0), (1, dj_v E x1), (2, .int x2)] [] := by
  intro n
  induction n with
  | zero => intro G x0 x1 x2 hf; exact dh_no hf
  | succ n ih => intro G x0 x1 x2 hf; exact wG_X6_line_L48_F hfl (gG_X6_line_L48 n) ih G x0 x1 x2 hf
def gG_X6_line_b21 (G : dg_G) (x0 : Nat) : Option ((Nat ⊕ Unit) × dg_G) :=
  (dg_pos (dg_n G)).bind fun u6 =>
  (gG_X8_init (dg_nw G 8) (dg_n G)).bind fun p7 =>
  (dg_is p7 6 x0).bind fun u8 =>
  (gG_X6_topic p7 x0).bind fun p9 =>
  dh_tm p9.1 (fun j9 => (
    some (.inl j9, p9.2)))
  fun v9 =>
  (dg_pR p9.2 8 0 (dg_n G) v9).bind fun G10 =>
  (dg_is G10 6 x0).bind fun u11 =>
  (gG_X6_takes G10 x0 58).bind fun p12 =>
  if p12.1 = 0 then (
    gG_X6_line_b94 p12.2 x0 (dg_n G))
  else
  gG_X6_line_L48 dh_fu p12.2 x0 (dg_n G) 1
theorem wG_X6_line_b21 {l : Launch} {E : dj_E} {Mo : Option dm_M} (hfl : dj_fl l) {r : Nat ⊕ Unit} {G' : dg_G} (G : dg_G) (x0 : Nat) (hf : gG_X6_line_b21 G x0 = some (r, G')) : dgW tG_X6_line l E Mo G' (dg_oU r) G 21 [(0, dj_v E x0)] [] := by
  unfold gG_X6_line_b21 at hf
  refine g_new nI_X6_138 dX6_line_21 ?_
  refine g_dup dX6_line_24 ?_
  obtain ⟨u6, h6, hf⟩ := dh_bd hf
  obtain ⟨p7, h7, hf⟩ := dh_bd hf
  refine g_callIN h6 (cG_X8_init _ E Mo (dg_nw G 8) (dg_n G) h7) rfl qG_X8_init (Nat.le_of_ble_eq_true rfl) (Nat.le_of_ble_eq_true rfl) rfl (dj_cat8 (Nat.le_of_ble_eq_true rfl)) dX6_line_25 ?_
  refine g_astore_n (i := 1) (lv1 := [(1, dj_v E (dg_n G)), (0, dj_v E x0)]) dX6_line_28 rfl (Nat.le_of_ble_eq_true rfl) (by simp only [List.filter, dj_cat] <;> rfl) ?_
  refine g_aload_n dX6_line_29 rfl (j := 0) rfl ?_
  refine g_aload_n dX6_line_30 rfl (j := 1) rfl ?_
  obtain ⟨u8, h8, hf⟩ := dh_bd hf
  obtain ⟨p9, h9, hf⟩ := dh_bd hf
  refine g_callVT rfl (rc_O (ci := 6) rfl h8) (cG_X6_topic _ hfl E Mo p7 x0 h9) q991 qG_X6_topic (Nat.le_of_ble_eq_true rfl) (Nat.le_of_ble_eq_true rfl) rfl (dj_cat8 (Nat.le_of_ble_eq_true rfl)) dX6_line_31 (fun j9 e9 => ?_) (fun v9 e9 => ?_)
  · rw [e9] at hf
    exact dg_thrU hf
  rw [e9] at hf
  replace hf := dh_tm_r hf
  obtain ⟨G10, h10, hf⟩ := dh_bd hf
  refine g_putR fF_X6_145 (Or.inl ⟨_, rfl⟩) (fun q => by cases q) (by decide) h10 dX6_line_34 ?_
  refine g_aload_n dX6_line_37 rfl (j := 1) rfl ?_
  refine g_ldcS (i := 58) (tx := "if") rfl (by decide) (by decide) (by decide) dX6_line_38 ?_
  obtain ⟨u11, h11, hf⟩ := dh_bd hf
  obtain ⟨p12, h12, hf⟩ := dh_bd hf
  refine g_callV (rc_O (ci := 6) rfl h11) (cG_X6_takes _ E Mo G10 x0 58 h12) q997 qG_X6_takes (Nat.le_of_ble_eq_true rfl) (Nat.le_of_ble_eq_true rfl) rfl (dj_cat8 (Nat.le_of_ble_eq_true rfl)) dX6_line_40 ?_
  refine dg_b (fun _ _ _ _ _ _ _ hC => r_if_eq hC dX6_line_43 (tgt := 94) (by decide)) (fun c13 => ?_) (fun c13 => ?_)
  · have hf := dh_if hf c13
    exact g_sub [1, 0] rfl (wG_X6_line_b94 hfl p12.2 x0 (dg_n G) hf)
  · have hf := dh_el hf c13
    refine dg_l (fun _ _ _ _ _ _ _ hC => r_iconst hC dX6_line_46 ki_1) ?_
    refine dg_l (fun _ _ _ _ _ _ _ hC => r_istore_n (lv' := [(2, .int 1), (1, dj_v E (dg_n G)), (0, dj_v E x0)]) hC dX6_line_47 rfl (Nat.le_of_ble_eq_true rfl) (by simp only [List.filter, dj_cat] <;> rfl)) ?_
    exact g_sub [2, 1, 0] rfl (wG_X6_line_L48 hfl dh_fu p12.2 x0 (dg_n G) 1 hf)
def gG_X6_line (G : dg_G) (x0 : Nat) : Option ((Nat ⊕ Unit) × dg_G) :=
  (dg_gR G 6 8 x0).bind fun v1 =>
  (dg_is G 10 v1).bind fun u2 =>
  (gG_J2_size G v1).bind fun p3 =>
  if p3 < 20 then (
    gG_X6_line_b21 G x0)
  else
  (dg_gI G 6 3 x0).bind fun v71 =>
  (dg_is G 6 x0).bind fun u72 =>
  (gG_X6_also G x0 3 v71).bind fun p73 =>
  gG_X6_line_b21 p73 x0
theorem wG_X6_line {l : Launch} {E : dj_E} {Mo : Option dm_M} (hfl : dj_fl l) {r : Nat ⊕ Unit} {G' : dg_G} (G : dg_G) (x0 : Nat) (hf : gG_X6_line G x0 = some (r, G')) : dgW tG_X6_line l E Mo G' (dg_oU r) G 0 [(0, dj_v E x0)] [] := by
  unfold gG_X6_line at hf
  refine g_aload_n dX6_line_0 rfl (j := 0) rfl ?_
  obtain ⟨v1, h1, hf⟩ := dh_bd hf
  refine g_getR fR_X6_14 (by decide) h1 dX6_line_1 ?_
  obtain ⟨u2, h2, hf⟩ := dh_bd hf
  obtain ⟨p3, h3, hf⟩ := dh_bd hf
  refine g_callV (rc_O (ci := 10) rfl h2) (cG_J2_size _ E Mo G v1 h3) q901 qG_J2_size (Nat.le_of_ble_eq_true rfl) (Nat.le_of_ble_eq_true rfl) rfl (dj_cat8 (Nat.le_of_ble_eq_true rfl)) dX6_line_4 ?_
  refine dg_l (fun _ _ _ _ _ _ _ hC => r_bipush hC dX6_line_7 kb_20) ?_
  refine dg_b (fun _ _ _ _ _ _ _ hC => r_icmp_lt hC dX6_line_9 (tgt := 21) (by decide)) (fun c4 => ?_) (fun c4 => ?_)
  · have hf := dh_if hf c4
    exact g_sub [0] rfl (wG_X6_line_b21 hfl G x0 hf)
  · have hf := dh_el hf c4
    refine g_aload_n dX6_line_12 rfl (j := 0) rfl ?_
    refine dg_l (fun _ _ _ _ _ _ _ hC => r_iconst hC dX6_line_13 ki_3) ?_
    refine g_aload_n dX6_line_14 rfl (j := 0) rfl ?_
    obtain ⟨v71, h71, hf⟩ := dh_bd hf
    refine g_getI fR_X6_38 (by decide) h71 dX6_line_15 ?_
    obtain ⟨u72, h72, hf⟩ := dh_bd hf
    obtain ⟨p73, h73, hf⟩ := dh_bd hf
    refine g_callV (rc_O (ci := 6) rfl h72) (cG_X6_also _ hfl E Mo G x0 3 v71 h73) q902 qG_X6_also (Nat.le_of_ble_eq_true rfl) (Nat.le_of_ble_eq_true rfl) rfl (dj_cat8 (Nat.le_of_ble_eq_true rfl)) dX6_line_18 ?_
    exact g_sub [0] rfl (wG_X6_line_b21 hfl p73 x0 hf)
theorem cG_X6_line (l : Launch) (hfl : dj_fl l) (E : dj_E) (Mo : Option dm_M) (G : dg_G) (x0 : Nat) {p : (Nat ⊕ Unit) × dg_G} (h : gG_X6_line G x0 = some p) : dg_MetT l yX6_line cX6_line 3 none 9 203 E Mo [dj_v E x0] G (dg_oU p.1) p.2 :=
  dg_metT (plainFor_of_name (by decide)) (by simp only [lg_sl_ref, lg_sl_int, lg_sl_long, lg_sl_nil]; decide) (by simp only [lv_args_ref, lv_args_int, lv_args_long, lv_args_nil]) (wG_X6_line hfl G x0 h)
theorem qG_X6_line : dg_cV "DebtorsHouse$Reader" yX6_line cX6_line 3 none 0 := ⟨q899, Or.inl qs14, q98, q900, by decide, by decide, by decide +kernel⟩
/-! DebtorsHouse$Reader.whole()Ljava/util/ArrayList; -/
abbrev tG_X6_whole : dg_T := (cX6_whole, 1, RX6, (some (.object "java/util/ArrayList")), 10, 225, "whole", [])
def gG_X6_whole_L0_F (k0 : (dg_G → Nat → Option ((Nat ⊕ Nat) × dg_G))) (G : dg_G) (x0 : Nat) : Option ((Nat ⊕ Nat) × dg_G) :=
  (dg_gR G 6 5 x0).bind fun v1 =>
  (dg_cmp v1 29).bind fun u2 =>
  if ¬ (v1 = 29) then (
    (dg_is G 6 x0).bind fun u8 =>
    (gG_X6_line G x0).bind fun p9 =>
    dh_tm p9.1 (fun j9 => (
      some (.inl j9, p9.2)))
    fun v9 =>
    k0 p9.2 x0)
  else
  (dg_gR G 6 7 x0).bind fun v3 =>
  if v3 = 0 then (
    (dg_gR G 6 8 x0).bind fun v5 =>
    some (.inr v5, G))
  else
  (dg_gR G 6 7 x0).bind fun v6 =>
  (dg_is G 7 v6).bind fun u7 =>
  some (.inl v6, G)
theorem wG_X6_whole_L0_F {l : Launch} {E : dj_E} {Mo : Option dm_M} (hfl : dj_fl l) {r : Nat ⊕ Nat} {G' : dg_G} (k0 : (dg_G → Nat → Option ((Nat ⊕ Nat) × dg_G))) (hk0 : ∀ (G : dg_G) (x0 : Nat), k0 G x0 = some (r, G') → dgW tG_X6_whole l E Mo G' (dg_oR E r) G 0 [(0, dj_v E x0)] []) (G : dg_G) (x0 : Nat) (hf : gG_X6_whole_L0_F k0 G x0 = some (r, G')) : dgW tG_X6_whole l E Mo G' (dg_oR E r) G 0 [(0, dj_v E x0)] [] := by
  unfold gG_X6_whole_L0_F at hf
  refine g_aload_n dX6_whole_0 rfl (j := 0) rfl ?_
  obtain ⟨v1, h1, hf⟩ := dh_bd hf
  refine g_getR fR_X6_47 (by decide) h1 dX6_whole_1 ?_
  refine g_gets (j := 29) (by decide) (by decide) (fun _ h => ((dk_K h).1 3 (by decide)).1) q612 dX6_whole_4 ?_
  obtain ⟨u2, h2, hf⟩ := dh_bd hf
  refine g_acmp_eq h2 dX6_whole_7 (tgt := 17) (by decide) (fun c2 => ?_) (fun c2 => ?_)
  · have hf := dh_el hf (fun q => q c2)
    refine g_aload_n dX6_whole_17 rfl (j := 0) rfl ?_
    obtain ⟨v3, h3, hf⟩ := dh_bd hf
    refine g_getR fR_X6_114 (by decide) h3 dX6_whole_18 ?_
    refine g_ifnull dX6_whole_21 (tgt := 29) (by decide) (fun c4 => ?_) (fun c4 => ?_)
    · have hf := dh_if hf c4
      refine g_aload_n dX6_whole_29 rfl (j := 0) rfl ?_
      obtain ⟨v5, h5, hf⟩ := dh_bd hf
      refine g_getR fR_X6_14 (by decide) h5 dX6_whole_30 ?_
      exact g_aretT dX6_whole_33 rfl (Or.inl ⟨_, rfl⟩) hf
    · have hf := dh_el hf c4
      refine g_aload_n dX6_whole_24 rfl (j := 0) rfl ?_
      obtain ⟨v6, h6, hf⟩ := dh_bd hf
      refine g_getR fR_X6_114 (by decide) h6 dX6_whole_25 ?_
      obtain ⟨u7, h7, hf⟩ := dh_bd hf
      exact g_athrow rfl h7 dX6_whole_28 hf
  · have hf := dh_if hf c2
    refine g_aload_n dX6_whole_10 rfl (j := 0) rfl ?_
    obtain ⟨u8, h8, hf⟩ := dh_bd hf
    obtain ⟨p9, h9, hf⟩ := dh_bd hf
    refine g_callVT rfl (rc_O (ci := 6) rfl h8) (cG_X6_line _ hfl E Mo G x0 h9) q897 qG_X6_line (Nat.le_of_ble_eq_true rfl) (Nat.le_of_ble_eq_true rfl) rfl (dj_cat8 (Nat.le_of_ble_eq_true rfl)) dX6_whole_11 (fun j9 e9 => ?_) (fun v9 e9 => ?_)
    · rw [e9] at hf
      exact dg_thrR hf
    rw [e9] at hf
    replace hf := dh_tm_r hf
    refine dg_l (fun _ _ _ _ _ _ _ hC => r_goto hC dX6_whole_14 (tgt := 0) (by decide)) ?_
    exact g_sub [0] rfl (hk0 p9.2 x0 hf)
def gG_X6_whole_L0 : Nat → dg_G → Nat → Option ((Nat ⊕ Nat) × dg_G)
  | 0 => fun _ _ => none
  | n + 1 => gG_X6_whole_L0_F (gG_X6_whole_L0 n)
theorem wG_X6_whole_L0 {l : Launch} {E : dj_E} {Mo : Option dm_M} (hfl : dj_fl l) {r : Nat ⊕ Nat} {G' : dg_G} : ∀ (n : Nat) (G : dg_G) (x0 : Nat) (_ : gG_X6_whole_L0 n G x0 = some (r, G')), dgW tG_X6_whole l E Mo G' (dg_oR E r) G 0 [(0, dj_v E x0)] [] := by
  intro n
  induction n with
  | zero => intro G x0 hf; exact dh_no hf
  | succ n ih => intro G x0 hf; exact wG_X6_whole_L0_F hfl (gG_X6_whole_L0 n) ih G x0 hf
def gG_X6_whole (G : dg_G) (x0 : Nat) : Option ((Nat ⊕ Nat) × dg_G) :=
  gG_X6_whole_L0 dh_fu G x0
theorem wG_X6_whole {l : Launch} {E : dj_E} {Mo : Option dm_M} (hfl : dj_fl l) {r : Nat ⊕ Nat} {G' : dg_G} (G : dg_G) (x0 : Nat) (hf : gG_X6_whole G x0 = some (r, G')) : dgW tG_X6_whole l E Mo G' (dg_oR E r) G 0 [(0, dj_v E x0)] [] := by
  unfold gG_X6_whole at hf
  exact g_sub [0] rfl (wG_X6_whole_L0 hfl dh_fu G x0 hf)
theorem cG_X6_whole (l : Launch) (hfl : dj_fl l) (E : dj_E) (Mo : Option dm_M) (G : dg_G) (x0 : Nat) {p : (Nat ⊕ Nat) × dg_G} (h : gG_X6_whole G x0 = some p) : dg_MetT l yX6_whole cX6_whole 1 (some (.object "java/util/ArrayList")) 10 225 E Mo [dj_v E x0] G (dg_oR E p.1) p.2 :=
  dg_metT (plainFor_of_name (by decide)) (by simp only [lg_sl_ref, lg_sl_int, lg_sl_long, lg_sl_nil]; decide) (by simp only [lv_args_ref, lv_args_int, lv_args_long, lv_args_nil]) (wG_X6_whole hfl G x0 h)
theorem qG_X6_whole : dg_cV "DebtorsHouse$Reader" yX6_whole cX6_whole 1 (some (.object "java/util/ArrayList")) 0 := ⟨q894, Or.inl q895, q98, q896, by decide, by decide, by decide +kernel⟩
/-! DebtorsHouse.<init>()V -/
abbrev tG_X0_init : dg_T := (cX0_init, 1, RX0, none, 5, 102, "<init>", [])
def gG_X0_init (G : dg_G) (x0 : Nat) : Option dg_G :=
  (dg_pos x0).bind fun u1 =>
  (dg_pos (dg_n G)).bind fun u3 =>
  (gG_X1_init (dg_nw G 2) (dg_n G)).bind fun p4 =>
  (dg_pR p4 1 0 x0 (dg_n G)).bind fun G5 =>
  (dg_new G5 55 3).bind fun G6 =>
  (dg_pR G6 1 1 x0 (dg_n G5)).bind fun G7 =>
  (do_len 32).bind fun v8 =>
  (dg_new G7 50 v8).bind fun G9 =>
  (dg_pR G9 1 2 x0 (dg_n G7)).bind fun G10 =>
  (dg_new G10 50 12).bind fun G11 =>
  (dg_pR G11 1 3 x0 (dg_n G10)).bind fun G12 =>
  (dg_new G12 53 12).bind fun G13 =>
  (dg_pR G13 1 4 x0 (dg_n G12)).bind fun G14 =>
  (dg_new G14 52 12).bind fun G15 =>
  (dg_pR G15 1 5 x0 (dg_n G14)).bind fun G16 =>
  (dg_new G16 50 40).bind fun G17 =>
  (dg_pR G17 1 6 x0 (dg_n G16)).bind fun G18 =>
  (dg_new G18 50 40).bind fun G19 =>
  (dg_pR G19 1 7 x0 (dg_n G18)).bind fun G20 =>
  (dg_new G20 53 256).bind fun G21 =>
  (dg_pR G21 1 8 x0 (dg_n G20)).bind fun G22 =>
  (dg_new G22 50 8).bind fun G23 =>
  (dg_pR G23 1 9 x0 (dg_n G22)).bind fun G24 =>
  some G24
theorem wG_X0_init {l : Launch} {E : dj_E} {Mo : Option dm_M} {G' : dg_G} (G : dg_G) (x0 : Nat) (hf : gG_X0_init G x0 = some G') : dgW tG_X0_init l E Mo G' (.inr none) G 0 [(0, dj_v E x0)] [] := by
  unfold gG_X0_init at hf
  refine g_aload_n dX0_init_0 rfl (j := 0) rfl ?_
  obtain ⟨u1, h1, hf⟩ := dh_bd hf
  refine g_obj h1 q119 (Nat.le_of_ble_eq_true rfl) (Nat.le_of_ble_eq_true rfl) dX0_init_1 ?_
  refine g_aload_n dX0_init_4 rfl (j := 0) rfl ?_
  refine g_new nI_X0_7 dX0_init_5 ?_
  refine g_dup dX0_init_8 ?_
  obtain ⟨u3, h3, hf⟩ := dh_bd hf
  obtain ⟨p4, h4, hf⟩ := dh_bd hf
  refine g_callI h3 (cG_X1_init _ E Mo (dg_nw G 2) (dg_n G) h4) q124 qG_X1_init (Nat.le_of_ble_eq_true rfl) (Nat.le_of_ble_eq_true rfl) rfl (dj_cat8 (Nat.le_of_ble_eq_true rfl)) dX0_init_9 ?_
  obtain ⟨G5, h5, hf⟩ := dh_bd hf
  refine g_putR fF_X0_10 (Or.inl ⟨_, rfl⟩) (fun _ => rfl) (by decide) h5 dX0_init_12 ?_
  refine g_aload_n dX0_init_15 rfl (j := 0) rfl ?_
  refine dg_l (fun _ _ _ _ _ _ _ hC => r_iconst hC dX0_init_16 ki_3) ?_
  obtain ⟨G6, h6, hf⟩ := dh_bd hf
  refine g_newq 5 (by decide) rfl q122 (fun _ h => h.2.2.2.2.2.2.1) h6 dX0_init_17 ?_
  obtain ⟨G7, h7, hf⟩ := dh_bd hf
  refine g_putR fF_X0_16 (Or.inr ⟨_, rfl⟩) (fun _ => rfl) (by decide) h7 dX0_init_20 ?_
  refine g_aload_n dX0_init_23 rfl (j := 0) rfl ?_
  refine g_gets (j := 32) (by decide) (by decide) (fun _ h => dk_zA h) q217 dX0_init_24 ?_
  obtain ⟨v8, h8, hf⟩ := dh_bd hf
  refine g_lenT h8 dX0_init_27 ?_
  obtain ⟨G9, h9, hf⟩ := dh_bd hf
  refine g_newa 0 (atype := .int) (ty := .int) (by decide) rfl rfl (fun _ _ h => h) rfl (by decide) q215 h9 dX0_init_28 ?_
  obtain ⟨G10, h10, hf⟩ := dh_bd hf
  refine g_putR fF_X0_24 (Or.inr ⟨_, rfl⟩) (fun _ => rfl) (by decide) h10 dX0_init_30 ?_
  refine g_aload_n dX0_init_33 rfl (j := 0) rfl ?_
  refine dg_l (fun _ _ _ _ _ _ _ hC => r_bipush hC dX0_init_34 kb_12) ?_
  obtain ⟨G11, h11, hf⟩ := dh_bd hf
  refine g_newa 0 (atype := .int) (ty := .int) (by decide) rfl rfl (fun _ _ h => h) rfl (by decide) q215 h11 dX0_init_36 ?_
  obtain ⟨G12, h12, hf⟩ := dh_bd hf
  refine g_putR fF_X0_28 (Or.inr ⟨_, rfl⟩) (fun _ => rfl) (by decide) h12 dX0_init_38 ?_
  refine g_aload_n dX0_init_41 rfl (j := 0) rfl ?_
  refine dg_l (fun _ _ _ _ _ _ _ hC => r_bipush hC dX0_init_42 kb_12) ?_
  obtain ⟨G13, h13, hf⟩ := dh_bd hf
  refine g_newL q250 h13 dX0_init_44 ?_
  obtain ⟨G14, h14, hf⟩ := dh_bd hf
  refine g_putR fF_X0_31 (Or.inr ⟨_, rfl⟩) (fun _ => rfl) (by decide) h14 dX0_init_46 ?_
  refine g_aload_n dX0_init_49 rfl (j := 0) rfl ?_
  refine dg_l (fun _ _ _ _ _ _ _ hC => r_bipush hC dX0_init_50 kb_12) ?_
  obtain ⟨G15, h15, hf⟩ := dh_bd hf
  refine g_newa 2 (atype := .boolean) (ty := .boolean) (by decide) rfl rfl (fun _ _ h => h) rfl (by decide) q251 h15 dX0_init_52 ?_
  obtain ⟨G16, h16, hf⟩ := dh_bd hf
  refine g_putR fF_X0_35 (Or.inr ⟨_, rfl⟩) (fun _ => rfl) (by decide) h16 dX0_init_54 ?_
  refine g_aload_n dX0_init_57 rfl (j := 0) rfl ?_
  refine dg_l (fun _ _ _ _ _ _ _ hC => r_bipush hC dX0_init_58 kb_40) ?_
  obtain ⟨G17, h17, hf⟩ := dh_bd hf
  refine g_newa 0 (atype := .int) (ty := .int) (by decide) rfl rfl (fun _ _ h => h) rfl (by decide) q215 h17 dX0_init_60 ?_
  obtain ⟨G18, h18, hf⟩ := dh_bd hf
  refine g_putR fF_X0_39 (Or.inr ⟨_, rfl⟩) (fun _ => rfl) (by decide) h18 dX0_init_62 ?_
  refine g_aload_n dX0_init_65 rfl (j := 0) rfl ?_
  refine dg_l (fun _ _ _ _ _ _ _ hC => r_bipush hC dX0_init_66 kb_40) ?_
  obtain ⟨G19, h19, hf⟩ := dh_bd hf
  refine g_newa 0 (atype := .int) (ty := .int) (by decide) rfl rfl (fun _ _ h => h) rfl (by decide) q215 h19 dX0_init_68 ?_
  obtain ⟨G20, h20, hf⟩ := dh_bd hf
  refine g_putR fF_X0_42 (Or.inr ⟨_, rfl⟩) (fun _ => rfl) (by decide) h20 dX0_init_70 ?_
  refine g_aload_n dX0_init_73 rfl (j := 0) rfl ?_
  refine dg_l (fun _ _ _ _ _ _ _ hC => r_sipush hC dX0_init_74 ks_256) ?_
  obtain ⟨G21, h21, hf⟩ := dh_bd hf
  refine g_newL q250 h21 dX0_init_77 ?_
  obtain ⟨G22, h22, hf⟩ := dh_bd hf
  refine g_putR fF_X0_45 (Or.inr ⟨_, rfl⟩) (fun _ => rfl) (by decide) h22 dX0_init_79 ?_
  refine g_aload_n dX0_init_82 rfl (j := 0) rfl ?_
  refine dg_l (fun _ _ _ _ _ _ _ hC => r_bipush hC dX0_init_83 kb_8) ?_
  obtain ⟨G23, h23, hf⟩ := dh_bd hf
  refine g_newa 0 (atype := .int) (ty := .int) (by decide) rfl rfl (fun _ _ h => h) rfl (by decide) q215 h23 dX0_init_85 ?_
  obtain ⟨G24, h24, hf⟩ := dh_bd hf
  refine g_putR fF_X0_48 (Or.inr ⟨_, rfl⟩) (fun _ => rfl) (by decide) h24 dX0_init_87 ?_
  exact g_vret dX0_init_90 rfl hf
theorem cG_X0_init (l : Launch) (E : dj_E) (Mo : Option dm_M) (G : dg_G) (x0 : Nat) {G' : dg_G} (h : gG_X0_init G x0 = some G') : dg_Met l yX0_init cX0_init 1 none 5 102 E Mo [dj_v E x0] G none G' :=
  dg_met (plainFor_of_name (by decide)) (by simp only [lg_sl_ref, lg_sl_int, lg_sl_long, lg_sl_nil]; decide) (by simp only [lv_args_ref, lv_args_int, lv_args_long, lv_args_nil]) (wG_X0_init G x0 h)
theorem qG_X0_init : dg_cI yX0_init cX0_init 1 0 := ⟨q117, q81, q118, rfl, by decide, by decide, by decide +kernel⟩
/-! DebtorsHouse.isIn(III)Z -/
abbrev tG_X0_isIn : dg_T := (cX0_isIn, 3, RX0, (some .boolean), 0, 0, "isIn", [])
def gG_X0_isIn (G : dg_G) (x0 : Int32) (x1 : Int32) (x2 : Int32) : Option Int32 :=
  if x0 < x1 then (
    some 0)
  else
  if x2 < x0 then (
    some 0)
  else
  some 1
theorem wG_X0_isIn {l : Launch} {E : dj_E} {Mo : Option dm_M} {r : Int32} (G : dg_G) (x0 : Int32) (x1 : Int32) (x2 : Int32) (hf : gG_X0_isIn G x0 x1 x2 = some r) : dgW tG_X0_isIn l E Mo G (.inr (some (.int r))) G 0 [(0, .int x0), (1, .int x1), (2, .int x2)] [] := by
  unfold gG_X0_isIn at hf
  refine dg_l (fun _ _ _ _ _ _ _ hC => r_iload_n hC dX0_isIn_0 rfl (j := 0) rfl) ?_
  refine dg_l (fun _ _ _ _ _ _ _ hC => r_iload_n hC dX0_isIn_1 rfl (j := 1) rfl) ?_
  refine dg_b (fun _ _ _ _ _ _ _ hC => r_icmp_lt hC dX0_isIn_2 (tgt := 14) (by decide)) (fun c1 => ?_) (fun c1 => ?_)
  · have hf := dh_if hf c1
    refine dg_l (fun _ _ _ _ _ _ _ hC => r_iconst hC dX0_isIn_14 ki_0) ?_
    exact g_zret1 dX0_isIn_15 rfl rfl hf
  · have hf := dh_el hf c1
    refine dg_l (fun _ _ _ _ _ _ _ hC => r_iload_n hC dX0_isIn_5 rfl (j := 0) rfl) ?_
    refine dg_l (fun _ _ _ _ _ _ _ hC => r_iload_n hC dX0_isIn_6 rfl (j := 2) rfl) ?_
    refine dg_b (fun _ _ _ _ _ _ _ hC => r_icmp_gt hC dX0_isIn_7 (tgt := 14) (by decide)) (fun c2 => ?_) (fun c2 => ?_)
    · have hf := dh_if hf c2
      refine dg_l (fun _ _ _ _ _ _ _ hC => r_iconst hC dX0_isIn_14 ki_0) ?_
      exact g_zret1 dX0_isIn_15 rfl rfl hf
    · have hf := dh_el hf c2
      refine dg_l (fun _ _ _ _ _ _ _ hC => r_iconst hC dX0_isIn_10 ki_1) ?_
      refine dg_l (fun _ _ _ _ _ _ _ hC => r_goto hC dX0_isIn_11 (tgt := 15) (by decide)) ?_
      exact g_zret1 dX0_isIn_15 rfl rfl hf
theorem cG_X0_isIn (l : Launch) (E : dj_E) (Mo : Option dm_M) (G : dg_G) (x0 : Int32) (x1 : Int32) (x2 : Int32) {r : Int32} (h : gG_X0_isIn G x0 x1 x2 = some r) : dg_Met l yX0_isIn cX0_isIn 3 (some .boolean) 0 0 E Mo [.int x0, .int x1, .int x2] G (some (.int r)) G :=
  dg_met (plainFor_of_name (by decide)) (by simp only [lg_sl_ref, lg_sl_int, lg_sl_long, lg_sl_nil]; decide) (by simp only [lv_args_ref, lv_args_int, lv_args_long, lv_args_nil]) (wG_X0_isIn G x0 x1 x2 h)
theorem qG_X0_isIn : dg_cS yX0_isIn cX0_isIn 3 (some .boolean) 3 := ⟨q262, q81, q263, by decide, by decide, by decide +kernel⟩
/-! DebtorsHouse.person(II)I -/
abbrev tG_X0_person : dg_T := (cX0_person, 3, RX0, (some .int), 7, 157, "person", [])
def gG_X0_person (G : dg_G) (x0 : Nat) (x1 : Int32) (x2 : Int32) : Option (Int32 × dg_G) :=
  (dg_gR G 1 0 x0).bind fun v1 =>
  (dg_gR G 2 8 v1).bind fun v2 =>
  (dg_is G 10 v2).bind fun u3 =>
  (gG_J2_size G v2).bind fun p4 =>
  if p4 = 12 then (
    some ((-1), G))
  else
  (gG_X0_isIn G x1 0 1000000).bind fun p6 =>
  if p6 = 0 then (
    some ((-1), G))
  else
  (gG_X0_isIn G x2 0 9).bind fun p8 =>
  if p8 = 0 then (
    some ((-1), G))
  else
  (dg_gR G 1 0 x0).bind fun v10 =>
  (dg_gR G 2 8 v10).bind fun v11 =>
  (dg_gR (dg_nw G 3) 1 0 x0).bind fun v13 =>
  (dg_gR (dg_nw G 3) 2 8 v13).bind fun v14 =>
  (dg_is (dg_nw G 3) 10 v14).bind fun u15 =>
  (gG_J2_size (dg_nw G 3) v14).bind fun p16 =>
  (dg_pos (dg_n G)).bind fun u17 =>
  (gG_X3_init (dg_nw G 3) (dg_n G) p16 x1 x2).bind fun p18 =>
  (dg_is p18 10 v11).bind fun u19 =>
  (gG_J2_add p18 v11 (dg_n G)).bind fun p20 =>
  (dg_gR p20.2 1 0 x0).bind fun v21 =>
  (dg_gR p20.2 2 8 v21).bind fun v22 =>
  (dg_is p20.2 10 v22).bind fun u23 =>
  (gG_J2_size p20.2 v22).bind fun p24 =>
  some (p24 - 1, p20.2)
theorem wG_X0_person {l : Launch} {E : dj_E} {Mo : Option dm_M} {r : Int32} {G' : dg_G} (G : dg_G) (x0 : Nat) (x1 : Int32) (x2 : Int32) (hf : gG_X0_person G x0 x1 x2 = some (r, G')) : dgW tG_X0_person l E Mo G' (.inr (some (.int r))) G 0 [(0, dj_v E x0), (1, .int x1), (2, .int x2)] [] := by
  unfold gG_X0_person at hf
  refine g_aload_n dX0_person_0 rfl (j := 0) rfl ?_
  obtain ⟨v1, h1, hf⟩ := dh_bd hf
  refine g_getR fR_X0_10 (by decide) h1 dX0_person_1 ?_
  obtain ⟨v2, h2, hf⟩ := dh_bd hf
  refine g_getR fR_X0_51 (by decide) h2 dX0_person_4 ?_
  obtain ⟨u3, h3, hf⟩ := dh_bd hf
  obtain ⟨p4, h4, hf⟩ := dh_bd hf
  refine g_callV (rc_O (ci := 10) rfl h3) (cG_J2_size _ E Mo G v2 h4) q256 qG_J2_size (Nat.le_of_ble_eq_true rfl) (Nat.le_of_ble_eq_true rfl) rfl (dj_cat8 (Nat.le_of_ble_eq_true rfl)) dX0_person_7 ?_
  refine dg_l (fun _ _ _ _ _ _ _ hC => r_bipush hC dX0_person_10 kb_12) ?_
  refine dg_b (fun _ _ _ _ _ _ _ hC => r_icmp_eq hC dX0_person_12 (tgt := 35) (by decide)) (fun c5 => ?_) (fun c5 => ?_)
  · have hf := dh_if hf c5
    refine dg_l (fun _ _ _ _ _ _ _ hC => r_iconst hC dX0_person_35 ki_m1) ?_
    exact g_iret dX0_person_36 rfl hf
  · have hf := dh_el hf c5
    refine dg_l (fun _ _ _ _ _ _ _ hC => r_iload_n hC dX0_person_15 rfl (j := 1) rfl) ?_
    refine dg_l (fun _ _ _ _ _ _ _ hC => r_iconst hC dX0_person_16 ki_0) ?_
    refine dg_l (fun _ _ _ _ _ _ _ hC => r_ldc hC q260 dX0_person_17) ?_
    obtain ⟨p6, h6, hf⟩ := dh_bd hf
    refine g_callS (cG_X0_isIn _ E Mo G x1 0 1000000 h6) q261 qG_X0_isIn (Nat.le_of_ble_eq_true rfl) (Nat.le_of_ble_eq_true rfl) rfl (dj_cat8 (Nat.le_of_ble_eq_true rfl)) dX0_person_19 ?_
    refine dg_b (fun _ _ _ _ _ _ _ hC => r_if_eq hC dX0_person_22 (tgt := 35) (by decide)) (fun c7 => ?_) (fun c7 => ?_)
    · have hf := dh_if hf c7
      refine dg_l (fun _ _ _ _ _ _ _ hC => r_iconst hC dX0_person_35 ki_m1) ?_
      exact g_iret dX0_person_36 rfl hf
    · have hf := dh_el hf c7
      refine dg_l (fun _ _ _ _ _ _ _ hC => r_iload_n hC dX0_person_25 rfl (j := 2) rfl) ?_
      refine dg_l (fun _ _ _ _ _ _ _ hC => r_iconst hC dX0_person_26 ki_0) ?_
      refine dg_l (fun _ _ _ _ _ _ _ hC => r_bipush hC dX0_person_27 kb_9) ?_
      obtain ⟨p8, h8, hf⟩ := dh_bd hf
      refine g_callS (cG_X0_isIn _ E Mo G x2 0 9 h8) q261 qG_X0_isIn (Nat.le_of_ble_eq_true rfl) (Nat.le_of_ble_eq_true rfl) rfl (dj_cat8 (Nat.le_of_ble_eq_true rfl)) dX0_person_29 ?_
      refine dg_bn (fun _ _ _ _ _ _ _ hC => r_if_ne hC dX0_person_32 (tgt := 37) (by decide)) (fun c9 => ?_) (fun c9 => ?_)
      · have hf := dh_el hf c9
        refine g_aload_n dX0_person_37 rfl (j := 0) rfl ?_
        obtain ⟨v10, h10, hf⟩ := dh_bd hf
        refine g_getR fR_X0_10 (by decide) h10 dX0_person_38 ?_
        obtain ⟨v11, h11, hf⟩ := dh_bd hf
        refine g_getR fR_X0_51 (by decide) h11 dX0_person_41 ?_
        refine g_new nI_X0_61 dX0_person_44 ?_
        refine g_dup dX0_person_47 ?_
        refine g_aload_n dX0_person_48 rfl (j := 0) rfl ?_
        obtain ⟨v13, h13, hf⟩ := dh_bd hf
        refine g_getR fR_X0_10 (by decide) h13 dX0_person_49 ?_
        obtain ⟨v14, h14, hf⟩ := dh_bd hf
        refine g_getR fR_X0_51 (by decide) h14 dX0_person_52 ?_
        obtain ⟨u15, h15, hf⟩ := dh_bd hf
        obtain ⟨p16, h16, hf⟩ := dh_bd hf
        refine g_callV (rc_O (ci := 10) rfl h15) (cG_J2_size _ E Mo (dg_nw G 3) v14 h16) q256 qG_J2_size (Nat.le_of_ble_eq_true rfl) (Nat.le_of_ble_eq_true rfl) rfl (dj_cat8 (Nat.le_of_ble_eq_true rfl)) dX0_person_55 ?_
        refine dg_l (fun _ _ _ _ _ _ _ hC => r_iload_n hC dX0_person_58 rfl (j := 1) rfl) ?_
        refine dg_l (fun _ _ _ _ _ _ _ hC => r_iload_n hC dX0_person_59 rfl (j := 2) rfl) ?_
        obtain ⟨u17, h17, hf⟩ := dh_bd hf
        obtain ⟨p18, h18, hf⟩ := dh_bd hf
        refine g_callI h17 (cG_X3_init _ E Mo (dg_nw G 3) (dg_n G) p16 x1 x2 h18) q266 qG_X3_init (Nat.le_of_ble_eq_true rfl) (Nat.le_of_ble_eq_true rfl) rfl (dj_cat8 (Nat.le_of_ble_eq_true rfl)) dX0_person_60 ?_
        obtain ⟨u19, h19, hf⟩ := dh_bd hf
        obtain ⟨p20, h20, hf⟩ := dh_bd hf
        refine g_callV (rc_O (ci := 10) rfl h19) (cG_J2_add _ E Mo p18 v11 (dg_n G) h20) q330 qG_J2_add (Nat.le_of_ble_eq_true rfl) (Nat.le_of_ble_eq_true rfl) rfl (dj_cat8 (Nat.le_of_ble_eq_true rfl)) dX0_person_63 ?_
        refine dg_l (fun _ _ _ _ _ _ _ hC => r_pop hC dX0_person_66 rfl) ?_
        refine g_aload_n dX0_person_67 rfl (j := 0) rfl ?_
        obtain ⟨v21, h21, hf⟩ := dh_bd hf
        refine g_getR fR_X0_10 (by decide) h21 dX0_person_68 ?_
        obtain ⟨v22, h22, hf⟩ := dh_bd hf
        refine g_getR fR_X0_51 (by decide) h22 dX0_person_71 ?_
        obtain ⟨u23, h23, hf⟩ := dh_bd hf
        obtain ⟨p24, h24, hf⟩ := dh_bd hf
        refine g_callV (rc_O (ci := 10) rfl h23) (cG_J2_size _ E Mo p20.2 v22 h24) q256 qG_J2_size (Nat.le_of_ble_eq_true rfl) (Nat.le_of_ble_eq_true rfl) rfl (dj_cat8 (Nat.le_of_ble_eq_true rfl)) dX0_person_74 ?_
        refine dg_l (fun _ _ _ _ _ _ _ hC => r_iconst hC dX0_person_77 ki_1) ?_
        refine dg_l (fun _ _ _ _ _ _ _ hC => r_isub hC dX0_person_78) ?_
        exact g_iret dX0_person_79 rfl hf
      · have hf := dh_if hf c9
        refine dg_l (fun _ _ _ _ _ _ _ hC => r_iconst hC dX0_person_35 ki_m1) ?_
        exact g_iret dX0_person_36 rfl hf
theorem cG_X0_person (l : Launch) (E : dj_E) (Mo : Option dm_M) (G : dg_G) (x0 : Nat) (x1 : Int32) (x2 : Int32) {p : Int32 × dg_G} (h : gG_X0_person G x0 x1 x2 = some p) : dg_Met l yX0_person cX0_person 3 (some .int) 7 157 E Mo [dj_v E x0, .int x1, .int x2] G (some (.int p.1)) p.2 :=
  dg_met (plainFor_of_name (by decide)) (by simp only [lg_sl_ref, lg_sl_int, lg_sl_long, lg_sl_nil]; decide) (by simp only [lv_args_ref, lv_args_int, lv_args_long, lv_args_nil]) (wG_X0_person G x0 x1 x2 h)
theorem qG_X0_person : dg_cV "DebtorsHouse" yX0_person cX0_person 3 (some .int) 2 := ⟨q253, Or.inl q254, q81, q255, by decide, by decide, by decide +kernel⟩
