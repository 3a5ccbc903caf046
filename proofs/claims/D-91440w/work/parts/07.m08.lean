set_option maxRecDepth 100000
/-! day()I -/
def gM_day_L92_F (k92 : (dm_M → Int32 → Option (Int32 × dm_M))) (M : dm_M) (x2 : Int32) : Option (Int32 × dm_M) :=
  (dm_rd M 8 0).bind fun v8 =>
  if v8 ≤ x2 then (
    (dm_rd M 5 0).bind fun v10 =>
    (dm_wr M 5 0 (v10 + 1)).bind fun M11 =>
    (dm_wr M11 6 0 0).bind fun M12 =>
    (dm_rd M12 5 0).bind fun v13 =>
    some (v13, M12))
  else
  (dm_rd M 14 x2).bind fun v14 =>
  (dm_rd M 11 x2).bind fun v15 =>
  if v15 = 0 then (
    (dm_wr M 14 x2 (v14 + 0)).bind fun M17 =>
    k92 M17 (x2 + 1))
  else
  (gM_tellsNow M x2 2).bind fun p18 =>
  (dm_wr p18.2 14 x2 (v14 + p18.1)).bind fun M19 =>
  k92 M19 (x2 + 1)
theorem wM_day_L92_F {C : dh_C} {A : Nat → Prop} {E : dm_E} (hC : dh_ok C cX2_day 3 RX2 (some .int)) (hK : dm_Kn E (dh_s C)) (hR : dh_R C = { frames := 4, cells := 0, slots := 0, locals := 86 }) {r : Int32} {M' : dm_M} (k92 : (dm_M → Int32 → Option (Int32 × dm_M))) (hk92 : ∀ (M : dm_M) (x2 : Int32), k92 M x2 = some (r, M') → dh_W C A (dm_P E A M) (dm_Q E A (some (.int r)) M') 0 0 0 0 92 [(0, .ref (dm_am E)), (2, .int x2)] []) (M : dm_M) (x2 : Int32) (hf : gM_day_L92_F k92 M x2 = some (r, M')) : dh_W C A (dm_P E A M) (dm_Q E A (some (.int r)) M') 0 0 0 0 92 [(0, .ref (dm_am E)), (2, .int x2)] [] := by
  unfold gM_day_L92_F at hf
  refine r_iload_n hC dX2_day_92 rfl (j := 1) rfl ?_
  refine r_aload_n hC dX2_day_93 rfl (j := 0) rfl ?_
  refine m_getA hC hK fa_8 dX2_day_94 ?_
  refine r_iconst hC dX2_day_97 ki_0 ?_
  obtain ⟨v8, h8, hf⟩ := dh_bd hf
  refine m_iald hC hK kd_8 h8 dX2_day_98 ?_
  refine r_icmp_ge hC dX2_day_99 (tgt := 136) (by decide) (fun c9 => ?_) (fun c9 => ?_)
  · have hf := dh_if hf c9
    refine r_aload_n hC dX2_day_136 rfl (j := 0) rfl ?_
    refine m_getA hC hK fa_5 dX2_day_137 ?_
    refine r_iconst hC dX2_day_140 ki_0 ?_
    refine r_dup2_11 hC dX2_day_141 rfl rfl ?_
    obtain ⟨v10, h10, hf⟩ := dh_bd hf
    refine m_iald hC hK kd_5 h10 dX2_day_142 ?_
    refine r_iconst hC dX2_day_143 ki_1 ?_
    refine r_iadd hC dX2_day_144 ?_
    obtain ⟨M11, h11, hf⟩ := dh_bd hf
    refine m_iast hC hK kd_5 h11 dX2_day_145 ?_
    refine r_aload_n hC dX2_day_146 rfl (j := 0) rfl ?_
    refine m_getA hC hK fa_6 dX2_day_147 ?_
    refine r_iconst hC dX2_day_150 ki_0 ?_
    refine r_iconst hC dX2_day_151 ki_0 ?_
    obtain ⟨M12, h12, hf⟩ := dh_bd hf
    refine m_iast hC hK kd_6 h12 dX2_day_152 ?_
    refine r_aload_n hC dX2_day_153 rfl (j := 0) rfl ?_
    refine m_getA hC hK fa_5 dX2_day_154 ?_
    refine r_iconst hC dX2_day_157 ki_0 ?_
    obtain ⟨v13, h13, hf⟩ := dh_bd hf
    refine m_iald hC hK kd_5 h13 dX2_day_158 ?_
    exact m_iret hC dX2_day_159 rfl hf
  · have hf := dh_el hf c9
    refine r_aload_n hC dX2_day_102 rfl (j := 0) rfl ?_
    refine m_getA hC hK fa_14 dX2_day_103 ?_
    refine r_iload_n hC dX2_day_106 rfl (j := 1) rfl ?_
    refine r_dup2_11 hC dX2_day_107 rfl rfl ?_
    obtain ⟨v14, h14, hf⟩ := dh_bd hf
    refine m_iald hC hK kd_14 h14 dX2_day_108 ?_
    refine r_aload_n hC dX2_day_109 rfl (j := 0) rfl ?_
    refine m_getA hC hK fa_11 dX2_day_110 ?_
    refine r_iload_n hC dX2_day_113 rfl (j := 1) rfl ?_
    obtain ⟨v15, h15, hf⟩ := dh_bd hf
    refine m_zald hC hK kd_11 h15 dX2_day_114 ?_
    refine r_if_eq hC dX2_day_115 (tgt := 127) (by decide) (fun c16 => ?_) (fun c16 => ?_)
    · have hf := dh_if hf c16
      refine r_iconst hC dX2_day_127 ki_0 ?_
      refine r_iadd hC dX2_day_128 ?_
      obtain ⟨M17, h17, hf⟩ := dh_bd hf
      refine m_iast hC hK kd_14 h17 dX2_day_129 ?_
      refine r_iinc (lv' := [(2, .int (x2 + 1)), (0, .ref (dm_am E))]) hC dX2_day_130 (j := 1) rfl (congrArg _ ki_1) (Nat.le_of_ble_eq_true rfl) rfl ?_
      refine r_goto hC dX2_day_133 (tgt := 92) (by decide) ?_
      exact r_sub [1, 0] rfl (hk92 M17 (x2 + 1) hf)
    · have hf := dh_el hf c16
      refine r_aload_n hC dX2_day_118 rfl (j := 0) rfl ?_
      refine r_iload_n hC dX2_day_119 rfl (j := 1) rfl ?_
      refine r_iconst hC dX2_day_120 ki_2 ?_
      obtain ⟨p18, h18, hf⟩ := dh_bd hf
      refine m_callV' hC hK hR (cM_tellsNow _ E A M x2 2 h18) q1848 q_tellsNow (Nat.le_of_ble_eq_true rfl) (Nat.le_of_ble_eq_true rfl) rfl (Nat.le_of_ble_eq_true rfl) dX2_day_121 ?_
      refine r_goto hC dX2_day_124 (tgt := 128) (by decide) ?_
      refine r_iadd hC dX2_day_128 ?_
      obtain ⟨M19, h19, hf⟩ := dh_bd hf
      refine m_iast hC hK kd_14 h19 dX2_day_129 ?_
      refine r_iinc (lv' := [(2, .int (x2 + 1)), (0, .ref (dm_am E))]) hC dX2_day_130 (j := 1) rfl (congrArg _ ki_1) (Nat.le_of_ble_eq_true rfl) rfl ?_
      refine r_goto hC dX2_day_133 (tgt := 92) (by decide) ?_
      exact r_sub [1, 0] rfl (hk92 M19 (x2 + 1) hf)
def gM_day_L92 : Nat → dm_M → Int32 → Option (Int32 × dm_M)
  | 0 => fun _ _ => none
  | n + 1 => gM_day_L92_F (gM_day_L92 n)
theorem wM_day_L92 {C : dh_C} {A : Nat → Prop} {E : dm_E} (hC : dh_ok C cX2_day 3 RX2 (some .int)) (hK : dm_Kn E (dh_s C)) (hR : dh_R C = { frames := 4, cells := 0, slots := 0, locals := 86 }) {r : Int32} {M' : dm_M} : ∀ (n : Nat) (M : dm_M) (x2 : Int32) (_ : gM_day_L92 n M x2 = some (r, M')), dh_W C A (dm_P E A M) (dm_Q E A (some (.int r)) M') 0 0 0 0 92 [(0, .ref (dm_am E)), (2, .int x2)] [] := by
  intro n
  induction n with
  | zero => intro M x2 hf; exact dh_no hf
  | succ n ih => intro M x2 hf; exact wM_day_L92_F hC hK hR (gM_day_L92 n) ih M x2 hf
def gM_day_L41_F (k41 : (dm_M → Int32 → Option (Int32 × dm_M))) (M : dm_M) (x2 : Int32) : Option (Int32 × dm_M) :=
  (dm_rd M 8 0).bind fun v6 =>
  if v6 ≤ x2 then (
    gM_day_L92 dh_fu M 0)
  else
  (dm_rd M 11 x2).bind fun v20 =>
  if v20 = 0 then (
    k41 M (x2 + 1))
  else
  (dm_rd M 15 x2).bind fun v22 =>
  if v22 = 0 then (
    k41 M (x2 + 1))
  else
  (gM_goes M x2).bind fun p24 =>
  (dm_rd p24 18 x2).bind fun v25 =>
  (dm_wr p24 18 x2 (v25 + 1)).bind fun M26 =>
  k41 M26 (x2 + 1)
theorem wM_day_L41_F {C : dh_C} {A : Nat → Prop} {E : dm_E} (hC : dh_ok C cX2_day 3 RX2 (some .int)) (hK : dm_Kn E (dh_s C)) (hR : dh_R C = { frames := 4, cells := 0, slots := 0, locals := 86 }) {r : Int32} {M' : dm_M} (k41 : (dm_M → Int32 → Option (Int32 × dm_M))) (hk41 : ∀ (M : dm_M) (x2 : Int32), k41 M x2 = some (r, M') → dh_W C A (dm_P E A M) (dm_Q E A (some (.int r)) M') 0 0 0 0 41 [(0, .ref (dm_am E)), (2, .int x2)] []) (M : dm_M) (x2 : Int32) (hf : gM_day_L41_F k41 M x2 = some (r, M')) : dh_W C A (dm_P E A M) (dm_Q E A (some (.int r)) M') 0 0 0 0 41 [(0, .ref (dm_am E)), (2, .int x2)] [] := by
  unfold gM_day_L41_F at hf
  refine r_iload_n hC dX2_day_41 rfl (j := 1) rfl ?_
  refine r_aload_n hC dX2_day_42 rfl (j := 0) rfl ?_
  refine m_getA hC hK fa_8 dX2_day_43 ?_
  refine r_iconst hC dX2_day_46 ki_0 ?_
  obtain ⟨v6, h6, hf⟩ := dh_bd hf
  refine m_iald hC hK kd_8 h6 dX2_day_47 ?_
  refine r_icmp_ge hC dX2_day_48 (tgt := 90) (by decide) (fun c7 => ?_) (fun c7 => ?_)
  · have hf := dh_if hf c7
    refine r_iconst hC dX2_day_90 ki_0 ?_
    refine r_istore_n (lv' := [(2, .int 0), (0, .ref (dm_am E))]) hC dX2_day_91 rfl (Nat.le_of_ble_eq_true rfl) rfl ?_
    exact r_sub [1, 0] rfl (wM_day_L92 hC hK hR dh_fu M 0 hf)
  · have hf := dh_el hf c7
    refine r_aload_n hC dX2_day_51 rfl (j := 0) rfl ?_
    refine m_getA hC hK fa_11 dX2_day_52 ?_
    refine r_iload_n hC dX2_day_55 rfl (j := 1) rfl ?_
    obtain ⟨v20, h20, hf⟩ := dh_bd hf
    refine m_zald hC hK kd_11 h20 dX2_day_56 ?_
    refine r_if_eq hC dX2_day_57 (tgt := 84) (by decide) (fun c21 => ?_) (fun c21 => ?_)
    · have hf := dh_if hf c21
      refine r_iinc (lv' := [(2, .int (x2 + 1)), (0, .ref (dm_am E))]) hC dX2_day_84 (j := 1) rfl (congrArg _ ki_1) (Nat.le_of_ble_eq_true rfl) rfl ?_
      refine r_goto hC dX2_day_87 (tgt := 41) (by decide) ?_
      exact r_sub [1, 0] rfl (hk41 M (x2 + 1) hf)
    · have hf := dh_el hf c21
      refine r_aload_n hC dX2_day_60 rfl (j := 0) rfl ?_
      refine m_getA hC hK fa_15 dX2_day_61 ?_
      refine r_iload_n hC dX2_day_64 rfl (j := 1) rfl ?_
      obtain ⟨v22, h22, hf⟩ := dh_bd hf
      refine m_zald hC hK kd_15 h22 dX2_day_65 ?_
      refine r_if_eq hC dX2_day_66 (tgt := 84) (by decide) (fun c23 => ?_) (fun c23 => ?_)
      · have hf := dh_if hf c23
        refine r_iinc (lv' := [(2, .int (x2 + 1)), (0, .ref (dm_am E))]) hC dX2_day_84 (j := 1) rfl (congrArg _ ki_1) (Nat.le_of_ble_eq_true rfl) rfl ?_
        refine r_goto hC dX2_day_87 (tgt := 41) (by decide) ?_
        exact r_sub [1, 0] rfl (hk41 M (x2 + 1) hf)
      · have hf := dh_el hf c23
        refine r_aload_n hC dX2_day_69 rfl (j := 0) rfl ?_
        refine r_iload_n hC dX2_day_70 rfl (j := 1) rfl ?_
        obtain ⟨p24, h24, hf⟩ := dh_bd hf
        refine m_callV' hC hK hR (cM_goes _ E A M x2 h24) q1860 q_goes (Nat.le_of_ble_eq_true rfl) (Nat.le_of_ble_eq_true rfl) rfl (Nat.le_of_ble_eq_true rfl) dX2_day_71 ?_
        refine r_aload_n hC dX2_day_74 rfl (j := 0) rfl ?_
        refine m_getA hC hK fa_18 dX2_day_75 ?_
        refine r_iload_n hC dX2_day_78 rfl (j := 1) rfl ?_
        refine r_dup2_11 hC dX2_day_79 rfl rfl ?_
        obtain ⟨v25, h25, hf⟩ := dh_bd hf
        refine m_iald hC hK kd_18 h25 dX2_day_80 ?_
        refine r_iconst hC dX2_day_81 ki_1 ?_
        refine r_iadd hC dX2_day_82 ?_
        obtain ⟨M26, h26, hf⟩ := dh_bd hf
        refine m_iast hC hK kd_18 h26 dX2_day_83 ?_
        refine r_iinc (lv' := [(2, .int (x2 + 1)), (0, .ref (dm_am E))]) hC dX2_day_84 (j := 1) rfl (congrArg _ ki_1) (Nat.le_of_ble_eq_true rfl) rfl ?_
        refine r_goto hC dX2_day_87 (tgt := 41) (by decide) ?_
        exact r_sub [1, 0] rfl (hk41 M26 (x2 + 1) hf)
def gM_day_L41 : Nat → dm_M → Int32 → Option (Int32 × dm_M)
  | 0 => fun _ _ => none
  | n + 1 => gM_day_L41_F (gM_day_L41 n)
theorem wM_day_L41 {C : dh_C} {A : Nat → Prop} {E : dm_E} (hC : dh_ok C cX2_day 3 RX2 (some .int)) (hK : dm_Kn E (dh_s C)) (hR : dh_R C = { frames := 4, cells := 0, slots := 0, locals := 86 }) {r : Int32} {M' : dm_M} : ∀ (n : Nat) (M : dm_M) (x2 : Int32) (_ : gM_day_L41 n M x2 = some (r, M')), dh_W C A (dm_P E A M) (dm_Q E A (some (.int r)) M') 0 0 0 0 41 [(0, .ref (dm_am E)), (2, .int x2)] [] := by
  intro n
  induction n with
  | zero => intro M x2 hf; exact dh_no hf
  | succ n ih => intro M x2 hf; exact wM_day_L41_F hC hK hR (gM_day_L41 n) ih M x2 hf
def gM_day (M : dm_M) : Option (Int32 × dm_M) :=
  (some (dm_set M 0 0 0)).bind fun M1 =>
  (dm_rd M1 5 0).bind fun v2 =>
  if v2 = 9999 then (
    some ((-1), M1))
  else
  (gM_theTurn M1).bind fun p4 =>
  if p4 = (-1) then (
    gM_day_L41 dh_fu M1 0)
  else
  (dm_rd M1 17 p4).bind fun v27 =>
  (dm_wr M1 17 p4 (v27 + 1)).bind fun M28 =>
  gM_day_L41 dh_fu M28 0
theorem wM_day {C : dh_C} {A : Nat → Prop} {E : dm_E} (hC : dh_ok C cX2_day 3 RX2 (some .int)) (hK : dm_Kn E (dh_s C)) (hR : dh_R C = { frames := 4, cells := 0, slots := 0, locals := 86 }) {r : Int32} {M' : dm_M} (M : dm_M) (hf : gM_day M = some (r, M')) : dh_W C A (dm_P E A M) (dm_Q E A (some (.int r)) M') 0 0 0 0 0 [(0, .ref (dm_am E))] [] := by
  unfold gM_day at hf
  refine r_aload_n hC dX2_day_0 rfl (j := 0) rfl ?_
  refine r_iconst hC dX2_day_1 ki_0 ?_
  obtain ⟨M1, h1, hf⟩ := dh_bd hf
  refine m_putI hC hK fi_0 dX2_day_2 h1 ?_
  refine r_aload_n hC dX2_day_5 rfl (j := 0) rfl ?_
  refine m_getA hC hK fa_5 dX2_day_6 ?_
  refine r_iconst hC dX2_day_9 ki_0 ?_
  obtain ⟨v2, h2, hf⟩ := dh_bd hf
  refine m_iald hC hK kd_5 h2 dX2_day_10 ?_
  refine r_sipush hC dX2_day_11 ks_9999 ?_
  refine r_icmp_ne hC dX2_day_14 (tgt := 19) (by decide) (fun c3 => ?_) (fun c3 => ?_)
  · have hf := dh_el hf c3
    refine r_aload_n hC dX2_day_19 rfl (j := 0) rfl ?_
    obtain ⟨p4, h4, hf⟩ := dh_bd hf
    refine m_callV' hC hK hR (cM_theTurn _ E A M1 h4) q1880 q_theTurn (Nat.le_of_ble_eq_true rfl) (Nat.le_of_ble_eq_true rfl) rfl (Nat.le_of_ble_eq_true rfl) dX2_day_20 ?_
    refine r_istore_n (lv' := [(1, .int p4), (0, .ref (dm_am E))]) hC dX2_day_23 rfl (Nat.le_of_ble_eq_true rfl) rfl ?_
    refine r_iload_n hC dX2_day_24 rfl (j := 0) rfl ?_
    refine r_iconst hC dX2_day_25 ki_m1 ?_
    refine r_icmp_eq hC dX2_day_26 (tgt := 39) (by decide) (fun c5 => ?_) (fun c5 => ?_)
    · have hf := dh_if hf c5
      refine r_iconst hC dX2_day_39 ki_0 ?_
      refine r_istore_n (lv' := [(2, .int 0), (1, .int p4), (0, .ref (dm_am E))]) hC dX2_day_40 rfl (Nat.le_of_ble_eq_true rfl) rfl ?_
      exact r_sub [2, 0] rfl (wM_day_L41 hC hK hR dh_fu M1 0 hf)
    · have hf := dh_el hf c5
      refine r_aload_n hC dX2_day_29 rfl (j := 1) rfl ?_
      refine m_getA hC hK fa_17 dX2_day_30 ?_
      refine r_iload_n hC dX2_day_33 rfl (j := 0) rfl ?_
      refine r_dup2_11 hC dX2_day_34 rfl rfl ?_
      obtain ⟨v27, h27, hf⟩ := dh_bd hf
      refine m_iald hC hK kd_17 h27 dX2_day_35 ?_
      refine r_iconst hC dX2_day_36 ki_1 ?_
      refine r_iadd hC dX2_day_37 ?_
      obtain ⟨M28, h28, hf⟩ := dh_bd hf
      refine m_iast hC hK kd_17 h28 dX2_day_38 ?_
      refine r_iconst hC dX2_day_39 ki_0 ?_
      refine r_istore_n (lv' := [(2, .int 0), (1, .int p4), (0, .ref (dm_am E))]) hC dX2_day_40 rfl (Nat.le_of_ble_eq_true rfl) rfl ?_
      exact r_sub [2, 0] rfl (wM_day_L41 hC hK hR dh_fu M28 0 hf)
  · have hf := dh_if hf c3
    refine r_iconst hC dX2_day_17 ki_m1 ?_
    exact m_iret hC dX2_day_18 rfl hf
theorem cM_day (l : Launch) (E : dm_E) (A : Nat → Prop) (M : dm_M) {p : Int32 × dm_M} (h : gM_day M = some p) : dm_Met l yX2_day cX2_day 3 (some .int) 4 86 E A [.ref (dm_am E)] M (some (.int p.1)) p.2 := by
  refine dh_met (by decide) (Nat.le_of_ble_eq_true rfl) (fun _ _ h => ⟨_, h.1⟩) (fun C hl hR hC hnm hK => ?_)
  exact wM_day hC hK hR M h
theorem q_day : dm_calV yX2_day cX2_day 3 (some .int) 0 := ⟨q1877, q1878, q1879, by decide +kernel⟩
/-! debt(IIIIII)I -/
def gM_debt (M : dm_M) (x1 : Int32) (x2 : Int32) (x3 : Int32) (x4 : Int32) (x5 : Int32) (x6 : Int32) : Option (Int32 × dm_M) :=
  (some (dm_set M 0 0 0)).bind fun M1 =>
  (dm_rd M1 25 0).bind fun v2 =>
  if v2 = 40 then (
    some ((-1), M1))
  else
  (gM_areTwo M1 x1 x2).bind fun p4 =>
  if p4 = 0 then (
    some ((-1), M1))
  else
  (gM_in M1 x3 1 100000).bind fun p6 =>
  if p6 = 0 then (
    some ((-1), M1))
  else
  (gM_in M1 x4 0 3).bind fun p8 =>
  if p8 = 0 then (
    some ((-1), M1))
  else
  (gM_in M1 x5 0 200).bind fun p10 =>
  if p10 = 0 then (
    some ((-1), M1))
  else
  (dm_rd M1 5 0).bind fun v12 =>
  (gM_in M1 x6 0 v12).bind fun p13 =>
  if p13 = 0 then (
    some ((-1), M1))
  else
  (dm_rd M1 25 0).bind fun v15 =>
  (dm_rd M1 25 0).bind fun v16 =>
  (dm_wr M1 25 0 (v16 + 1)).bind fun M17 =>
  (dm_wr M17 26 v15 x1).bind fun M18 =>
  (dm_wr M18 27 v15 x2).bind fun M19 =>
  (dm_wr M19 28 v15 x3).bind fun M20 =>
  (dm_wr M20 29 v15 x4).bind fun M21 =>
  (dm_wr M21 30 v15 x5).bind fun M22 =>
  (dm_wr M22 31 v15 x6).bind fun M23 =>
  (dm_rd M23 5 0).bind fun v24 =>
  (dm_wr M23 32 v15 v24).bind fun M25 =>
  (dm_wr M25 33 v15 0).bind fun M26 =>
  (dm_wr M26 34 v15 x3).bind fun M27 =>
  (dm_wr M27 35 v15 0).bind fun M28 =>
  (dm_wr M28 36 v15 x6).bind fun M29 =>
  (dm_wr M29 37 v15 0).bind fun M30 =>
  (dm_wr M30 38 v15 (vp_nar .boolean 0)).bind fun M31 =>
  (dm_wr M31 39 v15 0).bind fun M32 =>
  (dm_wr M32 40 v15 (-1)).bind fun M33 =>
  some (v15, M33)
theorem wM_debt {C : dh_C} {A : Nat → Prop} {E : dm_E} (hC : dh_ok C cX2_debt 8 RX2 (some .int)) (hK : dm_Kn E (dh_s C)) (hR : dh_R C = { frames := 3, cells := 0, slots := 0, locals := 65 }) {r : Int32} {M' : dm_M} (M : dm_M) (x1 : Int32) (x2 : Int32) (x3 : Int32) (x4 : Int32) (x5 : Int32) (x6 : Int32) (hf : gM_debt M x1 x2 x3 x4 x5 x6 = some (r, M')) : dh_W C A (dm_P E A M) (dm_Q E A (some (.int r)) M') 0 0 0 0 0 [(0, .ref (dm_am E)), (1, .int x1), (2, .int x2), (3, .int x3), (4, .int x4), (5, .int x5), (6, .int x6)] [] := by
  unfold gM_debt at hf
  refine r_aload_n hC dX2_debt_0 rfl (j := 0) rfl ?_
  refine r_iconst hC dX2_debt_1 ki_0 ?_
  obtain ⟨M1, h1, hf⟩ := dh_bd hf
  refine m_putI hC hK fi_0 dX2_debt_2 h1 ?_
  refine r_aload_n hC dX2_debt_5 rfl (j := 0) rfl ?_
  refine m_getA hC hK fa_25 dX2_debt_6 ?_
  refine r_iconst hC dX2_debt_9 ki_0 ?_
  obtain ⟨v2, h2, hf⟩ := dh_bd hf
  refine m_iald hC hK kd_25 h2 dX2_debt_10 ?_
  refine r_bipush hC dX2_debt_11 kb_40 ?_
  refine r_icmp_eq hC dX2_debt_13 (tgt := 72) (by decide) (fun c3 => ?_) (fun c3 => ?_)
  · have hf := dh_if hf c3
    refine r_iconst hC dX2_debt_72 ki_m1 ?_
    exact m_iret hC dX2_debt_73 rfl hf
  · have hf := dh_el hf c3
    refine r_aload_n hC dX2_debt_16 rfl (j := 0) rfl ?_
    refine r_iload_n hC dX2_debt_17 rfl (j := 1) rfl ?_
    refine r_iload_n hC dX2_debt_18 rfl (j := 2) rfl ?_
    obtain ⟨p4, h4, hf⟩ := dh_bd hf
    refine m_callV' hC hK hR (cM_areTwo _ E A M1 x1 x2 h4) q1646 q_areTwo (Nat.le_of_ble_eq_true rfl) (Nat.le_of_ble_eq_true rfl) rfl (Nat.le_of_ble_eq_true rfl) dX2_debt_19 ?_
    refine r_if_eq hC dX2_debt_22 (tgt := 72) (by decide) (fun c5 => ?_) (fun c5 => ?_)
    · have hf := dh_if hf c5
      refine r_iconst hC dX2_debt_72 ki_m1 ?_
      exact m_iret hC dX2_debt_73 rfl hf
    · have hf := dh_el hf c5
      refine r_iload_n hC dX2_debt_25 rfl (j := 3) rfl ?_
      refine r_iconst hC dX2_debt_26 ki_1 ?_
      refine r_ldc hC q1654 dX2_debt_27 ?_
      obtain ⟨p6, h6, hf⟩ := dh_bd hf
      refine m_callS' hC hK hR (cM_in _ E A M1 x3 1 100000 h6) q1639 q_in (Nat.le_of_ble_eq_true rfl) (Nat.le_of_ble_eq_true rfl) rfl (Nat.le_of_ble_eq_true rfl) dX2_debt_29 ?_
      refine r_if_eq hC dX2_debt_32 (tgt := 72) (by decide) (fun c7 => ?_) (fun c7 => ?_)
      · have hf := dh_if hf c7
        refine r_iconst hC dX2_debt_72 ki_m1 ?_
        exact m_iret hC dX2_debt_73 rfl hf
      · have hf := dh_el hf c7
        refine r_iload hC dX2_debt_35 (j := 4) rfl ?_
        refine r_iconst hC dX2_debt_37 ki_0 ?_
        refine r_iconst hC dX2_debt_38 ki_3 ?_
        obtain ⟨p8, h8, hf⟩ := dh_bd hf
        refine m_callS' hC hK hR (cM_in _ E A M1 x4 0 3 h8) q1639 q_in (Nat.le_of_ble_eq_true rfl) (Nat.le_of_ble_eq_true rfl) rfl (Nat.le_of_ble_eq_true rfl) dX2_debt_39 ?_
        refine r_if_eq hC dX2_debt_42 (tgt := 72) (by decide) (fun c9 => ?_) (fun c9 => ?_)
        · have hf := dh_if hf c9
          refine r_iconst hC dX2_debt_72 ki_m1 ?_
          exact m_iret hC dX2_debt_73 rfl hf
        · have hf := dh_el hf c9
          refine r_iload hC dX2_debt_45 (j := 5) rfl ?_
          refine r_iconst hC dX2_debt_47 ki_0 ?_
          refine r_sipush hC dX2_debt_48 ks_200 ?_
          obtain ⟨p10, h10, hf⟩ := dh_bd hf
          refine m_callS' hC hK hR (cM_in _ E A M1 x5 0 200 h10) q1639 q_in (Nat.le_of_ble_eq_true rfl) (Nat.le_of_ble_eq_true rfl) rfl (Nat.le_of_ble_eq_true rfl) dX2_debt_51 ?_
          refine r_if_eq hC dX2_debt_54 (tgt := 72) (by decide) (fun c11 => ?_) (fun c11 => ?_)
          · have hf := dh_if hf c11
            refine r_iconst hC dX2_debt_72 ki_m1 ?_
            exact m_iret hC dX2_debt_73 rfl hf
          · have hf := dh_el hf c11
            refine r_iload hC dX2_debt_57 (j := 6) rfl ?_
            refine r_iconst hC dX2_debt_59 ki_0 ?_
            refine r_aload_n hC dX2_debt_60 rfl (j := 0) rfl ?_
            refine m_getA hC hK fa_5 dX2_debt_61 ?_
            refine r_iconst hC dX2_debt_64 ki_0 ?_
            obtain ⟨v12, h12, hf⟩ := dh_bd hf
            refine m_iald hC hK kd_5 h12 dX2_debt_65 ?_
            obtain ⟨p13, h13, hf⟩ := dh_bd hf
            refine m_callS' hC hK hR (cM_in _ E A M1 x6 0 v12 h13) q1639 q_in (Nat.le_of_ble_eq_true rfl) (Nat.le_of_ble_eq_true rfl) rfl (Nat.le_of_ble_eq_true rfl) dX2_debt_66 ?_
            refine r_if_ne hC dX2_debt_69 (tgt := 74) (by decide) (fun c14 => ?_) (fun c14 => ?_)
            · have hf := dh_el hf c14
              refine r_aload_n hC dX2_debt_74 rfl (j := 0) rfl ?_
              refine m_getA hC hK fa_25 dX2_debt_75 ?_
              refine r_iconst hC dX2_debt_78 ki_0 ?_
              obtain ⟨v15, h15, hf⟩ := dh_bd hf
              refine m_iald hC hK kd_25 h15 dX2_debt_79 ?_
              refine r_istore (lv' := [(7, .int v15), (0, .ref (dm_am E)), (1, .int x1), (2, .int x2), (3, .int x3), (4, .int x4), (5, .int x5), (6, .int x6)]) hC dX2_debt_80 (Nat.le_of_ble_eq_true rfl) rfl ?_
              refine r_aload_n hC dX2_debt_82 rfl (j := 1) rfl ?_
              refine m_getA hC hK fa_25 dX2_debt_83 ?_
              refine r_iconst hC dX2_debt_86 ki_0 ?_
              refine r_dup2_11 hC dX2_debt_87 rfl rfl ?_
              obtain ⟨v16, h16, hf⟩ := dh_bd hf
              refine m_iald hC hK kd_25 h16 dX2_debt_88 ?_
              refine r_iconst hC dX2_debt_89 ki_1 ?_
              refine r_iadd hC dX2_debt_90 ?_
              obtain ⟨M17, h17, hf⟩ := dh_bd hf
              refine m_iast hC hK kd_25 h17 dX2_debt_91 ?_
              refine r_aload_n hC dX2_debt_92 rfl (j := 1) rfl ?_
              refine m_getA hC hK fa_26 dX2_debt_93 ?_
              refine r_iload hC dX2_debt_96 (j := 0) rfl ?_
              refine r_iload_n hC dX2_debt_98 rfl (j := 2) rfl ?_
              obtain ⟨M18, h18, hf⟩ := dh_bd hf
              refine m_iast hC hK kd_26 h18 dX2_debt_99 ?_
              refine r_aload_n hC dX2_debt_100 rfl (j := 1) rfl ?_
              refine m_getA hC hK fa_27 dX2_debt_101 ?_
              refine r_iload hC dX2_debt_104 (j := 0) rfl ?_
              refine r_iload_n hC dX2_debt_106 rfl (j := 3) rfl ?_
              obtain ⟨M19, h19, hf⟩ := dh_bd hf
              refine m_iast hC hK kd_27 h19 dX2_debt_107 ?_
              refine r_aload_n hC dX2_debt_108 rfl (j := 1) rfl ?_
              refine m_getA hC hK fa_28 dX2_debt_109 ?_
              refine r_iload hC dX2_debt_112 (j := 0) rfl ?_
              refine r_iload_n hC dX2_debt_114 rfl (j := 4) rfl ?_
              obtain ⟨M20, h20, hf⟩ := dh_bd hf
              refine m_iast hC hK kd_28 h20 dX2_debt_115 ?_
              refine r_aload_n hC dX2_debt_116 rfl (j := 1) rfl ?_
              refine m_getA hC hK fa_29 dX2_debt_117 ?_
              refine r_iload hC dX2_debt_120 (j := 0) rfl ?_
              refine r_iload hC dX2_debt_122 (j := 5) rfl ?_
              obtain ⟨M21, h21, hf⟩ := dh_bd hf
              refine m_iast hC hK kd_29 h21 dX2_debt_124 ?_
              refine r_aload_n hC dX2_debt_125 rfl (j := 1) rfl ?_
              refine m_getA hC hK fa_30 dX2_debt_126 ?_
              refine r_iload hC dX2_debt_129 (j := 0) rfl ?_
              refine r_iload hC dX2_debt_131 (j := 6) rfl ?_
              obtain ⟨M22, h22, hf⟩ := dh_bd hf
              refine m_iast hC hK kd_30 h22 dX2_debt_133 ?_
              refine r_aload_n hC dX2_debt_134 rfl (j := 1) rfl ?_
              refine m_getA hC hK fa_31 dX2_debt_135 ?_
              refine r_iload hC dX2_debt_138 (j := 0) rfl ?_
              refine r_iload hC dX2_debt_140 (j := 7) rfl ?_
              obtain ⟨M23, h23, hf⟩ := dh_bd hf
              refine m_iast hC hK kd_31 h23 dX2_debt_142 ?_
              refine r_aload_n hC dX2_debt_143 rfl (j := 1) rfl ?_
              refine m_getA hC hK fa_32 dX2_debt_144 ?_
              refine r_iload hC dX2_debt_147 (j := 0) rfl ?_
              refine r_aload_n hC dX2_debt_149 rfl (j := 1) rfl ?_
              refine m_getA hC hK fa_5 dX2_debt_150 ?_
              refine r_iconst hC dX2_debt_153 ki_0 ?_
              obtain ⟨v24, h24, hf⟩ := dh_bd hf
              refine m_iald hC hK kd_5 h24 dX2_debt_154 ?_
              obtain ⟨M25, h25, hf⟩ := dh_bd hf
              refine m_iast hC hK kd_32 h25 dX2_debt_155 ?_
              refine r_aload_n hC dX2_debt_156 rfl (j := 1) rfl ?_
              refine m_getA hC hK fa_33 dX2_debt_157 ?_
              refine r_iload hC dX2_debt_160 (j := 0) rfl ?_
              refine r_iconst hC dX2_debt_162 ki_0 ?_
              obtain ⟨M26, h26, hf⟩ := dh_bd hf
              refine m_iast hC hK kd_33 h26 dX2_debt_163 ?_
              refine r_aload_n hC dX2_debt_164 rfl (j := 1) rfl ?_
              refine m_getA hC hK fa_34 dX2_debt_165 ?_
              refine r_iload hC dX2_debt_168 (j := 0) rfl ?_
              refine r_iload_n hC dX2_debt_170 rfl (j := 4) rfl ?_
              obtain ⟨M27, h27, hf⟩ := dh_bd hf
              refine m_iast hC hK kd_34 h27 dX2_debt_171 ?_
              refine r_aload_n hC dX2_debt_172 rfl (j := 1) rfl ?_
              refine m_getA hC hK fa_35 dX2_debt_173 ?_
              refine r_iload hC dX2_debt_176 (j := 0) rfl ?_
              refine r_iconst hC dX2_debt_178 ki_0 ?_
              obtain ⟨M28, h28, hf⟩ := dh_bd hf
              refine m_iast hC hK kd_35 h28 dX2_debt_179 ?_
              refine r_aload_n hC dX2_debt_180 rfl (j := 1) rfl ?_
              refine m_getA hC hK fa_36 dX2_debt_181 ?_
              refine r_iload hC dX2_debt_184 (j := 0) rfl ?_
              refine r_iload hC dX2_debt_186 (j := 7) rfl ?_
              obtain ⟨M29, h29, hf⟩ := dh_bd hf
              refine m_iast hC hK kd_36 h29 dX2_debt_188 ?_
              refine r_aload_n hC dX2_debt_189 rfl (j := 1) rfl ?_
              refine m_getA hC hK fa_37 dX2_debt_190 ?_
              refine r_iload hC dX2_debt_193 (j := 0) rfl ?_
              refine r_iconst hC dX2_debt_195 ki_0 ?_
              obtain ⟨M30, h30, hf⟩ := dh_bd hf
              refine m_iast hC hK kd_37 h30 dX2_debt_196 ?_
              refine r_aload_n hC dX2_debt_197 rfl (j := 1) rfl ?_
              refine m_getA hC hK fa_38 dX2_debt_198 ?_
              refine r_iload hC dX2_debt_201 (j := 0) rfl ?_
              refine r_iconst hC dX2_debt_203 ki_0 ?_
              obtain ⟨M31, h31, hf⟩ := dh_bd hf
              refine m_zast hC hK kd_38 h31 dX2_debt_204 ?_
              refine r_aload_n hC dX2_debt_205 rfl (j := 1) rfl ?_
              refine m_getA hC hK fa_39 dX2_debt_206 ?_
              refine r_iload hC dX2_debt_209 (j := 0) rfl ?_
              refine r_iconst hC dX2_debt_211 ki_0 ?_
              obtain ⟨M32, h32, hf⟩ := dh_bd hf
              refine m_iast hC hK kd_39 h32 dX2_debt_212 ?_
              refine r_aload_n hC dX2_debt_213 rfl (j := 1) rfl ?_
              refine m_getA hC hK fa_40 dX2_debt_214 ?_
              refine r_iload hC dX2_debt_217 (j := 0) rfl ?_
              refine r_iconst hC dX2_debt_219 ki_m1 ?_
              obtain ⟨M33, h33, hf⟩ := dh_bd hf
              refine m_iast hC hK kd_40 h33 dX2_debt_220 ?_
              refine r_iload hC dX2_debt_221 (j := 0) rfl ?_
              exact m_iret hC dX2_debt_223 rfl hf
            · have hf := dh_if hf c14
              refine r_iconst hC dX2_debt_72 ki_m1 ?_
              exact m_iret hC dX2_debt_73 rfl hf
theorem cM_debt (l : Launch) (E : dm_E) (A : Nat → Prop) (M : dm_M) (x1 : Int32) (x2 : Int32) (x3 : Int32) (x4 : Int32) (x5 : Int32) (x6 : Int32) {p : Int32 × dm_M} (h : gM_debt M x1 x2 x3 x4 x5 x6 = some p) : dm_Met l yX2_debt cX2_debt 8 (some .int) 3 65 E A [.ref (dm_am E), .int x1, .int x2, .int x3, .int x4, .int x5, .int x6] M (some (.int p.1)) p.2 := by
  refine dh_met (by decide) (Nat.le_of_ble_eq_true rfl) (fun _ _ h => ⟨_, h.1⟩) (fun C hl hR hC hnm hK => ?_)
  exact wM_debt hC hK hR M x1 x2 x3 x4 x5 x6 h
theorem q_debt : dm_calV yX2_debt cX2_debt 8 (some .int) 6 := ⟨q1643, q1644, q1645, by decide +kernel⟩
/-! dueFrom(I)I -/
def gM_dueFrom_L4_F (k4 : (Int32 → Int32 → Int32 → Option Int32)) (M : dm_M) (x1 : Int32) (x2 : Int32) (x3 : Int32) : Option Int32 :=
  (dm_rd M 25 0).bind fun v1 =>
  if v1 ≤ x3 then (
    some x2)
  else
  (dm_rd M 26 x3).bind fun v3 =>
  if v3 = x1 then (
    (gM_dueOf M x3).bind fun p5 =>
    k4 x1 (x2 + p5) (x3 + 1))
  else
  k4 x1 (x2 + 0) (x3 + 1)
theorem wM_dueFrom_L4_F {C : dh_C} {A : Nat → Prop} {E : dm_E} (hC : dh_ok C cX2_dueFrom 4 RX2 (some .int)) (hK : dm_Kn E (dh_s C)) (hR : dh_R C = { frames := 2, cells := 0, slots := 0, locals := 42 }) {r : Int32} (M : dm_M) (k4 : (Int32 → Int32 → Int32 → Option Int32)) (hk4 : ∀ (x1 : Int32) (x2 : Int32) (x3 : Int32), k4 x1 x2 x3 = some r → dh_W C A (dm_P E A M) (dm_Q E A (some (.int r)) M) 0 0 0 0 4 [(0, .ref (dm_am E)), (1, .int x1), (2, .int x2), (3, .int x3)] []) (x1 : Int32) (x2 : Int32) (x3 : Int32) (hf : gM_dueFrom_L4_F k4 M x1 x2 x3 = some r) : dh_W C A (dm_P E A M) (dm_Q E A (some (.int r)) M) 0 0 0 0 4 [(0, .ref (dm_am E)), (1, .int x1), (2, .int x2), (3, .int x3)] [] := by
  unfold gM_dueFrom_L4_F at hf
  refine r_iload_n hC dX2_dueFrom_4 rfl (j := 3) rfl ?_
  refine r_aload_n hC dX2_dueFrom_5 rfl (j := 0) rfl ?_
  refine m_getA hC hK fa_25 dX2_dueFrom_6 ?_
  refine r_iconst hC dX2_dueFrom_9 ki_0 ?_
  obtain ⟨v1, h1, hf⟩ := dh_bd hf
  refine m_iald hC hK kd_25 h1 dX2_dueFrom_10 ?_
  refine r_icmp_ge hC dX2_dueFrom_11 (tgt := 42) (by decide) (fun c2 => ?_) (fun c2 => ?_)
  · have hf := dh_if hf c2
    refine r_iload_n hC dX2_dueFrom_42 rfl (j := 2) rfl ?_
    exact m_iret1 hC dX2_dueFrom_43 rfl hf
  · have hf := dh_el hf c2
    refine r_iload_n hC dX2_dueFrom_14 rfl (j := 2) rfl ?_
    refine r_aload_n hC dX2_dueFrom_15 rfl (j := 0) rfl ?_
    refine m_getA hC hK fa_26 dX2_dueFrom_16 ?_
    refine r_iload_n hC dX2_dueFrom_19 rfl (j := 3) rfl ?_
    obtain ⟨v3, h3, hf⟩ := dh_bd hf
    refine m_iald hC hK kd_26 h3 dX2_dueFrom_20 ?_
    refine r_iload_n hC dX2_dueFrom_21 rfl (j := 1) rfl ?_
    refine r_icmp_ne hC dX2_dueFrom_22 (tgt := 33) (by decide) (fun c4 => ?_) (fun c4 => ?_)
    · have hf := dh_el hf c4
      refine r_iconst hC dX2_dueFrom_33 ki_0 ?_
      refine r_iadd hC dX2_dueFrom_34 ?_
      refine r_istore_n (lv' := [(2, .int (x2 + 0)), (0, .ref (dm_am E)), (1, .int x1), (3, .int x3)]) hC dX2_dueFrom_35 rfl (Nat.le_of_ble_eq_true rfl) rfl ?_
      refine r_iinc (lv' := [(3, .int (x3 + 1)), (2, .int (x2 + 0)), (0, .ref (dm_am E)), (1, .int x1)]) hC dX2_dueFrom_36 (j := 3) rfl (congrArg _ ki_1) (Nat.le_of_ble_eq_true rfl) rfl ?_
      refine r_goto hC dX2_dueFrom_39 (tgt := 4) (by decide) ?_
      exact r_sub [2, 3, 1, 0] rfl (hk4 x1 (x2 + 0) (x3 + 1) hf)
    · have hf := dh_if hf c4
      refine r_aload_n hC dX2_dueFrom_25 rfl (j := 0) rfl ?_
      refine r_iload_n hC dX2_dueFrom_26 rfl (j := 3) rfl ?_
      obtain ⟨p5, h5, hf⟩ := dh_bd hf
      refine m_callV' hC hK hR (cM_dueOf _ E A M x3 h5) q1667 q_dueOf (Nat.le_of_ble_eq_true rfl) (Nat.le_of_ble_eq_true rfl) rfl (Nat.le_of_ble_eq_true rfl) dX2_dueFrom_27 ?_
      refine r_goto hC dX2_dueFrom_30 (tgt := 34) (by decide) ?_
      refine r_iadd hC dX2_dueFrom_34 ?_
      refine r_istore_n (lv' := [(2, .int (x2 + p5)), (0, .ref (dm_am E)), (1, .int x1), (3, .int x3)]) hC dX2_dueFrom_35 rfl (Nat.le_of_ble_eq_true rfl) rfl ?_
      refine r_iinc (lv' := [(3, .int (x3 + 1)), (2, .int (x2 + p5)), (0, .ref (dm_am E)), (1, .int x1)]) hC dX2_dueFrom_36 (j := 3) rfl (congrArg _ ki_1) (Nat.le_of_ble_eq_true rfl) rfl ?_
      refine r_goto hC dX2_dueFrom_39 (tgt := 4) (by decide) ?_
      exact r_sub [2, 3, 1, 0] rfl (hk4 x1 (x2 + p5) (x3 + 1) hf)
def gM_dueFrom_L4 (M : dm_M) : Nat → Int32 → Int32 → Int32 → Option Int32
  | 0 => fun _ _ _ => none
  | n + 1 => gM_dueFrom_L4_F (gM_dueFrom_L4 M n) M
theorem wM_dueFrom_L4 {C : dh_C} {A : Nat → Prop} {E : dm_E} (hC : dh_ok C cX2_dueFrom 4 RX2 (some .int)) (hK : dm_Kn E (dh_s C)) (hR : dh_R C = { frames := 2, cells := 0, slots := 0, locals := 42 }) {r : Int32} (M : dm_M) : ∀ (n : Nat) (x1 : Int32) (x2 : Int32) (x3 : Int32) (_ : gM_dueFrom_L4 M n x1 x2 x3 = some r), dh_W C A (dm_P E A M) (dm_Q E A (some (.int r)) M) 0 0 0 0 4 [(0, .ref (dm_am E)), (1, .int x1), (2, .int x2), (3, .int x3)] [] := by
  intro n
  induction n with
  | zero => intro x1 x2 x3 hf; exact dh_no hf
  | succ n ih => intro x1 x2 x3 hf; exact wM_dueFrom_L4_F hC hK hR M (gM_dueFrom_L4 M n) ih x1 x2 x3 hf
def gM_dueFrom (M : dm_M) (x1 : Int32) : Option Int32 :=
  gM_dueFrom_L4 M dh_fu x1 0 0
theorem wM_dueFrom {C : dh_C} {A : Nat → Prop} {E : dm_E} (hC : dh_ok C cX2_dueFrom 4 RX2 (some .int)) (hK : dm_Kn E (dh_s C)) (hR : dh_R C = { frames := 2, cells := 0, slots := 0, locals := 42 }) {r : Int32} (M : dm_M) (x1 : Int32) (hf : gM_dueFrom M x1 = some r) : dh_W C A (dm_P E A M) (dm_Q E A (some (.int r)) M) 0 0 0 0 0 [(0, .ref (dm_am E)), (1, .int x1)] [] := by
  unfold gM_dueFrom at hf
  refine r_iconst hC dX2_dueFrom_0 ki_0 ?_
  refine r_istore_n (lv' := [(2, .int 0), (0, .ref (dm_am E)), (1, .int x1)]) hC dX2_dueFrom_1 rfl (Nat.le_of_ble_eq_true rfl) rfl ?_
  refine r_iconst hC dX2_dueFrom_2 ki_0 ?_
  refine r_istore_n (lv' := [(3, .int 0), (2, .int 0), (0, .ref (dm_am E)), (1, .int x1)]) hC dX2_dueFrom_3 rfl (Nat.le_of_ble_eq_true rfl) rfl ?_
  exact r_sub [2, 3, 1, 0] rfl (wM_dueFrom_L4 hC hK hR M dh_fu x1 0 0 hf)
theorem cM_dueFrom (l : Launch) (E : dm_E) (A : Nat → Prop) (M : dm_M) (x1 : Int32) {r : Int32} (h : gM_dueFrom M x1 = some r) : dm_Met l yX2_dueFrom cX2_dueFrom 4 (some .int) 2 42 E A [.ref (dm_am E), .int x1] M (some (.int r)) M := by
  refine dh_met (by decide) (Nat.le_of_ble_eq_true rfl) (fun _ _ h => ⟨_, h.1⟩) (fun C hl hR hC hnm hK => ?_)
  exact wM_dueFrom hC hK hR M x1 h
theorem q_dueFrom : dm_calV yX2_dueFrom cX2_dueFrom 4 (some .int) 1 := ⟨q1898, qs70, q1899, by decide +kernel⟩
/-! dueTo(I)I -/
def gM_dueTo_L4_F (k4 : (Int32 → Int32 → Int32 → Option Int32)) (M : dm_M) (x1 : Int32) (x2 : Int32) (x3 : Int32) : Option Int32 :=
  (dm_rd M 25 0).bind fun v1 =>
  if v1 ≤ x3 then (
    some x2)
  else
  (dm_rd M 27 x3).bind fun v3 =>
  if v3 = x1 then (
    (gM_dueOf M x3).bind fun p5 =>
    k4 x1 (x2 + p5) (x3 + 1))
  else
  k4 x1 (x2 + 0) (x3 + 1)
theorem wM_dueTo_L4_F {C : dh_C} {A : Nat → Prop} {E : dm_E} (hC : dh_ok C cX2_dueTo 4 RX2 (some .int)) (hK : dm_Kn E (dh_s C)) (hR : dh_R C = { frames := 2, cells := 0, slots := 0, locals := 42 }) {r : Int32} (M : dm_M) (k4 : (Int32 → Int32 → Int32 → Option Int32)) (hk4 : ∀ (x1 : Int32) (x2 : Int32) (x3 : Int32), k4 x1 x2 x3 = some r → dh_W C A (dm_P E A M) (dm_Q E A (some (.int r)) M) 0 0 0 0 4 [(0, .ref (dm_am E)), (1, .int x1), (2, .int x2), (3, .int x3)] []) (x1 : Int32) (x2 : Int32) (x3 : Int32) (hf : gM_dueTo_L4_F k4 M x1 x2 x3 = some r) : dh_W C A (dm_P E A M) (dm_Q E A (some (.int r)) M) 0 0 0 0 4 [(0, .ref (dm_am E)), (1, .int x1), (2, .int x2), (3, .int x3)] [] := by
  unfold gM_dueTo_L4_F at hf
  refine r_iload_n hC dX2_dueTo_4 rfl (j := 3) rfl ?_
  refine r_aload_n hC dX2_dueTo_5 rfl (j := 0) rfl ?_
  refine m_getA hC hK fa_25 dX2_dueTo_6 ?_
  refine r_iconst hC dX2_dueTo_9 ki_0 ?_
  obtain ⟨v1, h1, hf⟩ := dh_bd hf
  refine m_iald hC hK kd_25 h1 dX2_dueTo_10 ?_
  refine r_icmp_ge hC dX2_dueTo_11 (tgt := 42) (by decide) (fun c2 => ?_) (fun c2 => ?_)
  · have hf := dh_if hf c2
    refine r_iload_n hC dX2_dueTo_42 rfl (j := 2) rfl ?_
    exact m_iret1 hC dX2_dueTo_43 rfl hf
  · have hf := dh_el hf c2
    refine r_iload_n hC dX2_dueTo_14 rfl (j := 2) rfl ?_
    refine r_aload_n hC dX2_dueTo_15 rfl (j := 0) rfl ?_
    refine m_getA hC hK fa_27 dX2_dueTo_16 ?_
    refine r_iload_n hC dX2_dueTo_19 rfl (j := 3) rfl ?_
    obtain ⟨v3, h3, hf⟩ := dh_bd hf
    refine m_iald hC hK kd_27 h3 dX2_dueTo_20 ?_
    refine r_iload_n hC dX2_dueTo_21 rfl (j := 1) rfl ?_
    refine r_icmp_ne hC dX2_dueTo_22 (tgt := 33) (by decide) (fun c4 => ?_) (fun c4 => ?_)
    · have hf := dh_el hf c4
      refine r_iconst hC dX2_dueTo_33 ki_0 ?_
      refine r_iadd hC dX2_dueTo_34 ?_
      refine r_istore_n (lv' := [(2, .int (x2 + 0)), (0, .ref (dm_am E)), (1, .int x1), (3, .int x3)]) hC dX2_dueTo_35 rfl (Nat.le_of_ble_eq_true rfl) rfl ?_
      refine r_iinc (lv' := [(3, .int (x3 + 1)), (2, .int (x2 + 0)), (0, .ref (dm_am E)), (1, .int x1)]) hC dX2_dueTo_36 (j := 3) rfl (congrArg _ ki_1) (Nat.le_of_ble_eq_true rfl) rfl ?_
      refine r_goto hC dX2_dueTo_39 (tgt := 4) (by decide) ?_
      exact r_sub [2, 3, 1, 0] rfl (hk4 x1 (x2 + 0) (x3 + 1) hf)
    · have hf := dh_if hf c4
      refine r_aload_n hC dX2_dueTo_25 rfl (j := 0) rfl ?_
      refine r_iload_n hC dX2_dueTo_26 rfl (j := 3) rfl ?_
      obtain ⟨p5, h5, hf⟩ := dh_bd hf
      refine m_callV' hC hK hR (cM_dueOf _ E A M x3 h5) q1667 q_dueOf (Nat.le_of_ble_eq_true rfl) (Nat.le_of_ble_eq_true rfl) rfl (Nat.le_of_ble_eq_true rfl) dX2_dueTo_27 ?_
      refine r_goto hC dX2_dueTo_30 (tgt := 34) (by decide) ?_
      refine r_iadd hC dX2_dueTo_34 ?_
      refine r_istore_n (lv' := [(2, .int (x2 + p5)), (0, .ref (dm_am E)), (1, .int x1), (3, .int x3)]) hC dX2_dueTo_35 rfl (Nat.le_of_ble_eq_true rfl) rfl ?_
      refine r_iinc (lv' := [(3, .int (x3 + 1)), (2, .int (x2 + p5)), (0, .ref (dm_am E)), (1, .int x1)]) hC dX2_dueTo_36 (j := 3) rfl (congrArg _ ki_1) (Nat.le_of_ble_eq_true rfl) rfl ?_
      refine r_goto hC dX2_dueTo_39 (tgt := 4) (by decide) ?_
      exact r_sub [2, 3, 1, 0] rfl (hk4 x1 (x2 + p5) (x3 + 1) hf)
def gM_dueTo_L4 (M : dm_M) : Nat → Int32 → Int32 → Int32 → Option Int32
  | 0 => fun _ _ _ => none
  | n + 1 => gM_dueTo_L4_F (gM_dueTo_L4 M n) M
theorem wM_dueTo_L4 {C : dh_C} {A : Nat → Prop} {E : dm_E} (hC : dh_ok C cX2_dueTo 4 RX2 (some .int)) (hK : dm_Kn E (dh_s C)) (hR : dh_R C = { frames := 2, cells := 0, slots := 0, locals := 42 }) {r : Int32} (M : dm_M) : ∀ (n : Nat) (x1 : Int32) (x2 : Int32) (x3 : Int32) (_ : gM_dueTo_L4 M n x1 x2 x3 = some r), dh_W C A (dm_P E A M) (dm_Q E A (some (.int r)) M) 0 0 0 0 4 [(0, .ref (dm_am E)), (1, .int x1), (2, .int x2), (3, .int x3)] [] := by
  intro n
  induction n with
  | zero => intro x1 x2 x3 hf; exact dh_no hf
  | succ n ih => intro x1 x2 x3 hf; exact wM_dueTo_L4_F hC hK hR M (gM_dueTo_L4 M n) ih x1 x2 x3 hf
def gM_dueTo (M : dm_M) (x1 : Int32) : Option Int32 :=
  gM_dueTo_L4 M dh_fu x1 0 0
theorem wM_dueTo {C : dh_C} {A : Nat → Prop} {E : dm_E} (hC : dh_ok C cX2_dueTo 4 RX2 (some .int)) (hK : dm_Kn E (dh_s C)) (hR : dh_R C = { frames := 2, cells := 0, slots := 0, locals := 42 }) {r : Int32} (M : dm_M) (x1 : Int32) (hf : gM_dueTo M x1 = some r) : dh_W C A (dm_P E A M) (dm_Q E A (some (.int r)) M) 0 0 0 0 0 [(0, .ref (dm_am E)), (1, .int x1)] [] := by
  unfold gM_dueTo at hf
  refine r_iconst hC dX2_dueTo_0 ki_0 ?_
  refine r_istore_n (lv' := [(2, .int 0), (0, .ref (dm_am E)), (1, .int x1)]) hC dX2_dueTo_1 rfl (Nat.le_of_ble_eq_true rfl) rfl ?_
  refine r_iconst hC dX2_dueTo_2 ki_0 ?_
  refine r_istore_n (lv' := [(3, .int 0), (2, .int 0), (0, .ref (dm_am E)), (1, .int x1)]) hC dX2_dueTo_3 rfl (Nat.le_of_ble_eq_true rfl) rfl ?_
  exact r_sub [2, 3, 1, 0] rfl (wM_dueTo_L4 hC hK hR M dh_fu x1 0 0 hf)
theorem cM_dueTo (l : Launch) (E : dm_E) (A : Nat → Prop) (M : dm_M) (x1 : Int32) {r : Int32} (h : gM_dueTo M x1 = some r) : dm_Met l yX2_dueTo cX2_dueTo 4 (some .int) 2 42 E A [.ref (dm_am E), .int x1] M (some (.int r)) M := by
  refine dh_met (by decide) (Nat.le_of_ble_eq_true rfl) (fun _ _ h => ⟨_, h.1⟩) (fun C hl hR hC hnm hK => ?_)
  exact wM_dueTo hC hK hR M x1 h
theorem q_dueTo : dm_calV yX2_dueTo cX2_dueTo 4 (some .int) 1 := ⟨q1902, qs71, q1903, by decide +kernel⟩
/-! end(I)I -/
def gM_end (M : dm_M) (x1 : Int32) : Option (Int32 × dm_M) :=
  (some (dm_set M 0 0 0)).bind fun M1 =>
  (dm_rd M1 2 0).bind fun v2 =>
  (gM_in M1 x1 0 v2).bind fun p3 =>
  if p3 = 0 then (
    some ((-1), M1))
  else
  (dm_wr M1 2 0 x1).bind fun M5 =>
  some (x1, M5)
theorem wM_end {C : dh_C} {A : Nat → Prop} {E : dm_E} (hC : dh_ok C cX2_end 2 RX2 (some .int)) (hK : dm_Kn E (dh_s C)) (hR : dh_R C = { frames := 1, cells := 0, slots := 0, locals := 22 }) {r : Int32} {M' : dm_M} (M : dm_M) (x1 : Int32) (hf : gM_end M x1 = some (r, M')) : dh_W C A (dm_P E A M) (dm_Q E A (some (.int r)) M') 0 0 0 0 0 [(0, .ref (dm_am E)), (1, .int x1)] [] := by
  unfold gM_end at hf
  refine r_aload_n hC dX2_end_0 rfl (j := 0) rfl ?_
  refine r_iconst hC dX2_end_1 ki_0 ?_
  obtain ⟨M1, h1, hf⟩ := dh_bd hf
  refine m_putI hC hK fi_0 dX2_end_2 h1 ?_
  refine r_iload_n hC dX2_end_5 rfl (j := 1) rfl ?_
  refine r_iconst hC dX2_end_6 ki_0 ?_
  refine r_aload_n hC dX2_end_7 rfl (j := 0) rfl ?_
  refine m_getA hC hK fa_2 dX2_end_8 ?_
  refine r_iconst hC dX2_end_11 ki_0 ?_
  obtain ⟨v2, h2, hf⟩ := dh_bd hf
  refine m_iald hC hK kd_2 h2 dX2_end_12 ?_
  obtain ⟨p3, h3, hf⟩ := dh_bd hf
  refine m_callS' hC hK hR (cM_in _ E A M1 x1 0 v2 h3) q1639 q_in (Nat.le_of_ble_eq_true rfl) (Nat.le_of_ble_eq_true rfl) rfl (Nat.le_of_ble_eq_true rfl) dX2_end_13 ?_
  refine r_if_ne hC dX2_end_16 (tgt := 21) (by decide) (fun c4 => ?_) (fun c4 => ?_)
  · have hf := dh_el hf c4
    refine r_aload_n hC dX2_end_21 rfl (j := 0) rfl ?_
    refine m_getA hC hK fa_2 dX2_end_22 ?_
    refine r_iconst hC dX2_end_25 ki_0 ?_
    refine r_iload_n hC dX2_end_26 rfl (j := 1) rfl ?_
    obtain ⟨M5, h5, hf⟩ := dh_bd hf
    refine m_iast hC hK kd_2 h5 dX2_end_27 ?_
    refine r_iload_n hC dX2_end_28 rfl (j := 1) rfl ?_
    exact m_iret hC dX2_end_29 rfl hf
  · have hf := dh_if hf c4
    refine r_iconst hC dX2_end_19 ki_m1 ?_
    exact m_iret hC dX2_end_20 rfl hf
theorem cM_end (l : Launch) (E : dm_E) (A : Nat → Prop) (M : dm_M) (x1 : Int32) {p : Int32 × dm_M} (h : gM_end M x1 = some p) : dm_Met l yX2_end cX2_end 2 (some .int) 1 22 E A [.ref (dm_am E), .int x1] M (some (.int p.1)) p.2 := by
  refine dh_met (by decide) (Nat.le_of_ble_eq_true rfl) (fun _ _ h => ⟨_, h.1⟩) (fun C hl hR hC hnm hK => ?_)
  exact wM_end hC hK hR M x1 h
theorem q_end : dm_calV yX2_end cX2_end 2 (some .int) 1 := ⟨q1729, q1730, q1731, by decide +kernel⟩
/-! fault(I)I -/
def gM_fault (M : dm_M) (x1 : Int32) : Option (Int32 × dm_M) :=
  (some (dm_set M 0 0 0)).bind fun M1 =>
  if x1 = 0 then (
    (dm_rd M1 3 0).bind fun v5 =>
    some (v5, M1))
  else
  if x1 = 1 then (
    (dm_rd M1 4 0).bind fun v4 =>
    some (v4, M1))
  else
  some ((-1), M1)
theorem wM_fault {C : dh_C} {A : Nat → Prop} {E : dm_E} (hC : dh_ok C cX2_fault 2 RX2 (some .int)) (hK : dm_Kn E (dh_s C)) (hR : dh_R C = { frames := 0, cells := 0, slots := 0, locals := 0 }) {r : Int32} {M' : dm_M} (M : dm_M) (x1 : Int32) (hf : gM_fault M x1 = some (r, M')) : dh_W C A (dm_P E A M) (dm_Q E A (some (.int r)) M') 0 0 0 0 0 [(0, .ref (dm_am E)), (1, .int x1)] [] := by
  unfold gM_fault at hf
  refine r_aload_n hC dX2_fault_0 rfl (j := 0) rfl ?_
  refine r_iconst hC dX2_fault_1 ki_0 ?_
  obtain ⟨M1, h1, hf⟩ := dh_bd hf
  refine m_putI hC hK fi_0 dX2_fault_2 h1 ?_
  refine r_iload_n hC dX2_fault_5 rfl (j := 1) rfl ?_
  refine r_if_ne hC dX2_fault_6 (tgt := 18) (by decide) (fun c2 => ?_) (fun c2 => ?_)
  · have hf := dh_el hf c2
    refine r_iload_n hC dX2_fault_18 rfl (j := 1) rfl ?_
    refine r_iconst hC dX2_fault_19 ki_1 ?_
    refine r_icmp_ne hC dX2_fault_20 (tgt := 32) (by decide) (fun c3 => ?_) (fun c3 => ?_)
    · have hf := dh_el hf c3
      refine r_iconst hC dX2_fault_32 ki_m1 ?_
      exact m_iret hC dX2_fault_33 rfl hf
    · have hf := dh_if hf c3
      refine r_aload_n hC dX2_fault_23 rfl (j := 0) rfl ?_
      refine m_getA hC hK fa_4 dX2_fault_24 ?_
      refine r_iconst hC dX2_fault_27 ki_0 ?_
      obtain ⟨v4, h4, hf⟩ := dh_bd hf
      refine m_iald hC hK kd_4 h4 dX2_fault_28 ?_
      refine r_goto hC dX2_fault_29 (tgt := 33) (by decide) ?_
      exact m_iret hC dX2_fault_33 rfl hf
  · have hf := dh_if hf c2
    refine r_aload_n hC dX2_fault_9 rfl (j := 0) rfl ?_
    refine m_getA hC hK fa_3 dX2_fault_10 ?_
    refine r_iconst hC dX2_fault_13 ki_0 ?_
    obtain ⟨v5, h5, hf⟩ := dh_bd hf
    refine m_iald hC hK kd_3 h5 dX2_fault_14 ?_
    refine r_goto hC dX2_fault_15 (tgt := 33) (by decide) ?_
    exact m_iret hC dX2_fault_33 rfl hf
theorem cM_fault (l : Launch) (E : dm_E) (A : Nat → Prop) (M : dm_M) (x1 : Int32) {p : Int32 × dm_M} (h : gM_fault M x1 = some p) : dm_Met l yX2_fault cX2_fault 2 (some .int) 0 0 E A [.ref (dm_am E), .int x1] M (some (.int p.1)) p.2 := by
  refine dh_met (by decide) (Nat.le_of_ble_eq_true rfl) (fun _ _ h => ⟨_, h.1⟩) (fun C hl hR hC hnm hK => ?_)
  exact wM_fault hC hK hR M x1 h
theorem q_fault : dm_calV yX2_fault cX2_fault 2 (some .int) 1 := ⟨q1806, q1807, q1808, by decide +kernel⟩
/-! four(I)V -/
def gM_four_L3_F (k3 : (dm_M → Int32 → Int32 → Option dm_M)) (M : dm_M) (x1 : Int32) (x2 : Int32) : Option dm_M :=
  if x2 < 0 then (
    some M)
  else
  (dm_rd M 2 0).bind fun v2 =>
  (dm_wr M 1 v2 (vp_nar .byte (Int8.toInt32 (Int32.toInt8 (x1 >>> (x2 &&& 31)))))).bind fun M3 =>
  (dm_rd M3 2 0).bind fun v4 =>
  (dm_wr M3 2 0 (v4 + 1)).bind fun M5 =>
  k3 M5 x1 (x2 + (-8))
theorem wM_four_L3_F {C : dh_C} {A : Nat → Prop} {E : dm_E} (hC : dh_ok C cX2_four 3 RX2 none) (hK : dm_Kn E (dh_s C)) (hR : dh_R C = { frames := 0, cells := 0, slots := 0, locals := 0 }) {M' : dm_M} (k3 : (dm_M → Int32 → Int32 → Option dm_M)) (hk3 : ∀ (M : dm_M) (x1 : Int32) (x2 : Int32), k3 M x1 x2 = some M' → dh_W C A (dm_P E A M) (dm_Q E A none M') 0 0 0 0 3 [(0, .ref (dm_am E)), (1, .int x1), (2, .int x2)] []) (M : dm_M) (x1 : Int32) (x2 : Int32) (hf : gM_four_L3_F k3 M x1 x2 = some M') : dh_W C A (dm_P E A M) (dm_Q E A none M') 0 0 0 0 3 [(0, .ref (dm_am E)), (1, .int x1), (2, .int x2)] [] := by
  unfold gM_four_L3_F at hf
  refine r_iload_n hC dX2_four_3 rfl (j := 2) rfl ?_
  refine r_if_lt hC dX2_four_4 (tgt := 38) (by decide) (fun c1 => ?_) (fun c1 => ?_)
  · have hf := dh_if hf c1
    exact m_vret hC dX2_four_38 rfl hf
  · have hf := dh_el hf c1
    refine r_aload_n hC dX2_four_7 rfl (j := 0) rfl ?_
    refine m_getA hC hK fa_1 dX2_four_8 ?_
    refine r_aload_n hC dX2_four_11 rfl (j := 0) rfl ?_
    refine m_getA hC hK fa_2 dX2_four_12 ?_
    refine r_iconst hC dX2_four_15 ki_0 ?_
    obtain ⟨v2, h2, hf⟩ := dh_bd hf
    refine m_iald hC hK kd_2 h2 dX2_four_16 ?_
    refine r_iload_n hC dX2_four_17 rfl (j := 1) rfl ?_
    refine r_iload_n hC dX2_four_18 rfl (j := 2) rfl ?_
    refine r_ishr hC dX2_four_19 ?_
    refine r_i2b hC dX2_four_20 ?_
    obtain ⟨M3, h3, hf⟩ := dh_bd hf
    refine m_bast hC hK kd_1 h3 dX2_four_21 ?_
    refine r_aload_n hC dX2_four_22 rfl (j := 0) rfl ?_
    refine m_getA hC hK fa_2 dX2_four_23 ?_
    refine r_iconst hC dX2_four_26 ki_0 ?_
    refine r_dup2_11 hC dX2_four_27 rfl rfl ?_
    obtain ⟨v4, h4, hf⟩ := dh_bd hf
    refine m_iald hC hK kd_2 h4 dX2_four_28 ?_
    refine r_iconst hC dX2_four_29 ki_1 ?_
    refine r_iadd hC dX2_four_30 ?_
    obtain ⟨M5, h5, hf⟩ := dh_bd hf
    refine m_iast hC hK kd_2 h5 dX2_four_31 ?_
    refine r_iinc (lv' := [(2, .int (x2 + (-8))), (0, .ref (dm_am E)), (1, .int x1)]) hC dX2_four_32 (j := 2) rfl (congrArg _ ki_m8) (Nat.le_of_ble_eq_true rfl) rfl ?_
    refine r_goto hC dX2_four_35 (tgt := 3) (by decide) ?_
    exact r_sub [1, 2, 0] rfl (hk3 M5 x1 (x2 + (-8)) hf)
def gM_four_L3 : Nat → dm_M → Int32 → Int32 → Option dm_M
  | 0 => fun _ _ _ => none
  | n + 1 => gM_four_L3_F (gM_four_L3 n)
theorem wM_four_L3 {C : dh_C} {A : Nat → Prop} {E : dm_E} (hC : dh_ok C cX2_four 3 RX2 none) (hK : dm_Kn E (dh_s C)) (hR : dh_R C = { frames := 0, cells := 0, slots := 0, locals := 0 }) {M' : dm_M} : ∀ (n : Nat) (M : dm_M) (x1 : Int32) (x2 : Int32) (_ : gM_four_L3 n M x1 x2 = some M'), dh_W C A (dm_P E A M) (dm_Q E A none M') 0 0 0 0 3 [(0, .ref (dm_am E)), (1, .int x1), (2, .int x2)] [] := by
  intro n
  induction n with
  | zero => intro M x1 x2 hf; exact dh_no hf
  | succ n ih => intro M x1 x2 hf; exact wM_four_L3_F hC hK hR (gM_four_L3 n) ih M x1 x2 hf
def gM_four (M : dm_M) (x1 : Int32) : Option dm_M :=
  gM_four_L3 dh_fu M x1 24
theorem wM_four {C : dh_C} {A : Nat → Prop} {E : dm_E} (hC : dh_ok C cX2_four 3 RX2 none) (hK : dm_Kn E (dh_s C)) (hR : dh_R C = { frames := 0, cells := 0, slots := 0, locals := 0 }) {M' : dm_M} (M : dm_M) (x1 : Int32) (hf : gM_four M x1 = some M') : dh_W C A (dm_P E A M) (dm_Q E A none M') 0 0 0 0 0 [(0, .ref (dm_am E)), (1, .int x1)] [] := by
  unfold gM_four at hf
  refine r_bipush hC dX2_four_0 kb_24 ?_
  refine r_istore_n (lv' := [(2, .int 24), (0, .ref (dm_am E)), (1, .int x1)]) hC dX2_four_2 rfl (Nat.le_of_ble_eq_true rfl) rfl ?_
  exact r_sub [1, 2, 0] rfl (wM_four_L3 hC hK hR dh_fu M x1 24 hf)
theorem cM_four (l : Launch) (E : dm_E) (A : Nat → Prop) (M : dm_M) (x1 : Int32) {M' : dm_M} (h : gM_four M x1 = some M') : dm_Met l yX2_four cX2_four 3 none 0 0 E A [.ref (dm_am E), .int x1] M none M' := by
  refine dh_met (by decide) (Nat.le_of_ble_eq_true rfl) (fun _ _ h => ⟨_, h.1⟩) (fun C hl hR hC hnm hK => ?_)
  exact wM_four hC hK hR M x1 h
theorem q_four : dm_calV yX2_four cX2_four 3 none 1 := ⟨q1726, qs50, q1727, by decide +kernel⟩
/-! feed(IIIII)I -/
def gM_feed (M : dm_M) (x1 : Int32) (x2 : Int32) (x3 : Int32) (x4 : Int32) (x5 : Int32) : Option (Int32 × dm_M) :=
  (some (dm_set M 0 0 0)).bind fun M1 =>
  (dm_rd M1 2 0).bind fun v2 =>
  if ¬ ((v2 + 20) ≤ 600) then (
    some ((-1), M1))
  else
  (gM_four M1 x1).bind fun p4 =>
  (gM_four p4 x2).bind fun p5 =>
  (gM_four p5 x3).bind fun p6 =>
  (gM_four p6 x4).bind fun p7 =>
  (gM_four p7 x5).bind fun p8 =>
  (dm_rd p8 2 0).bind fun v9 =>
  some (v9, p8)
theorem wM_feed {C : dh_C} {A : Nat → Prop} {E : dm_E} (hC : dh_ok C cX2_feed 6 RX2 (some .int)) (hK : dm_Kn E (dh_s C)) (hR : dh_R C = { frames := 1, cells := 0, slots := 0, locals := 22 }) {r : Int32} {M' : dm_M} (M : dm_M) (x1 : Int32) (x2 : Int32) (x3 : Int32) (x4 : Int32) (x5 : Int32) (hf : gM_feed M x1 x2 x3 x4 x5 = some (r, M')) : dh_W C A (dm_P E A M) (dm_Q E A (some (.int r)) M') 0 0 0 0 0 [(0, .ref (dm_am E)), (1, .int x1), (2, .int x2), (3, .int x3), (4, .int x4), (5, .int x5)] [] := by
  unfold gM_feed at hf
  refine r_aload_n hC dX2_feed_0 rfl (j := 0) rfl ?_
  refine r_iconst hC dX2_feed_1 ki_0 ?_
  obtain ⟨M1, h1, hf⟩ := dh_bd hf
  refine m_putI hC hK fi_0 dX2_feed_2 h1 ?_
  refine r_aload_n hC dX2_feed_5 rfl (j := 0) rfl ?_
  refine m_getA hC hK fa_2 dX2_feed_6 ?_
  refine r_iconst hC dX2_feed_9 ki_0 ?_
  obtain ⟨v2, h2, hf⟩ := dh_bd hf
  refine m_iald hC hK kd_2 h2 dX2_feed_10 ?_
  refine r_bipush hC dX2_feed_11 kb_20 ?_
  refine r_iadd hC dX2_feed_13 ?_
  refine r_sipush hC dX2_feed_14 ks_600 ?_
  refine r_icmp_le hC dX2_feed_17 (tgt := 22) (by decide) (fun c3 => ?_) (fun c3 => ?_)
  · have hf := dh_el hf (fun q => q c3)
    refine r_aload_n hC dX2_feed_22 rfl (j := 0) rfl ?_
    refine r_iload_n hC dX2_feed_23 rfl (j := 1) rfl ?_
    obtain ⟨p4, h4, hf⟩ := dh_bd hf
    refine m_callV' hC hK hR (cM_four _ E A M1 x1 h4) q1724 q_four (Nat.le_of_ble_eq_true rfl) (Nat.le_of_ble_eq_true rfl) rfl (Nat.le_of_ble_eq_true rfl) dX2_feed_24 ?_
    refine r_aload_n hC dX2_feed_27 rfl (j := 0) rfl ?_
    refine r_iload_n hC dX2_feed_28 rfl (j := 2) rfl ?_
    obtain ⟨p5, h5, hf⟩ := dh_bd hf
    refine m_callV' hC hK hR (cM_four _ E A p4 x2 h5) q1724 q_four (Nat.le_of_ble_eq_true rfl) (Nat.le_of_ble_eq_true rfl) rfl (Nat.le_of_ble_eq_true rfl) dX2_feed_29 ?_
    refine r_aload_n hC dX2_feed_32 rfl (j := 0) rfl ?_
    refine r_iload_n hC dX2_feed_33 rfl (j := 3) rfl ?_
    obtain ⟨p6, h6, hf⟩ := dh_bd hf
    refine m_callV' hC hK hR (cM_four _ E A p5 x3 h6) q1724 q_four (Nat.le_of_ble_eq_true rfl) (Nat.le_of_ble_eq_true rfl) rfl (Nat.le_of_ble_eq_true rfl) dX2_feed_34 ?_
    refine r_aload_n hC dX2_feed_37 rfl (j := 0) rfl ?_
    refine r_iload hC dX2_feed_38 (j := 4) rfl ?_
    obtain ⟨p7, h7, hf⟩ := dh_bd hf
    refine m_callV' hC hK hR (cM_four _ E A p6 x4 h7) q1724 q_four (Nat.le_of_ble_eq_true rfl) (Nat.le_of_ble_eq_true rfl) rfl (Nat.le_of_ble_eq_true rfl) dX2_feed_40 ?_
    refine r_aload_n hC dX2_feed_43 rfl (j := 0) rfl ?_
    refine r_iload hC dX2_feed_44 (j := 5) rfl ?_
    obtain ⟨p8, h8, hf⟩ := dh_bd hf
    refine m_callV' hC hK hR (cM_four _ E A p7 x5 h8) q1724 q_four (Nat.le_of_ble_eq_true rfl) (Nat.le_of_ble_eq_true rfl) rfl (Nat.le_of_ble_eq_true rfl) dX2_feed_46 ?_
    refine r_aload_n hC dX2_feed_49 rfl (j := 0) rfl ?_
    refine m_getA hC hK fa_2 dX2_feed_50 ?_
    refine r_iconst hC dX2_feed_53 ki_0 ?_
    obtain ⟨v9, h9, hf⟩ := dh_bd hf
    refine m_iald hC hK kd_2 h9 dX2_feed_54 ?_
    exact m_iret hC dX2_feed_55 rfl hf
  · have hf := dh_if hf c3
    refine r_iconst hC dX2_feed_20 ki_m1 ?_
    exact m_iret hC dX2_feed_21 rfl hf
theorem cM_feed (l : Launch) (E : dm_E) (A : Nat → Prop) (M : dm_M) (x1 : Int32) (x2 : Int32) (x3 : Int32) (x4 : Int32) (x5 : Int32) {p : Int32 × dm_M} (h : gM_feed M x1 x2 x3 x4 x5 = some p) : dm_Met l yX2_feed cX2_feed 6 (some .int) 1 22 E A [.ref (dm_am E), .int x1, .int x2, .int x3, .int x4, .int x5] M (some (.int p.1)) p.2 := by
  refine dh_met (by decide) (Nat.le_of_ble_eq_true rfl) (fun _ _ h => ⟨_, h.1⟩) (fun C hl hR hC hnm hK => ?_)
  exact wM_feed hC hK hR M x1 x2 x3 x4 x5 h
theorem q_feed : dm_calV yX2_feed cX2_feed 6 (some .int) 5 := ⟨q1721, q1722, q1723, by decide +kernel⟩
