set_option maxRecDepth 100000
/-! test(II)Z -/
def gM_test_b156 (M : dm_M) (x1 : Int32) (x2 : Int32) (x5 : Int32) (x6 : Int32) (x7 : Int32) (y0 : Int32) (y1 : Int32) : Option (Int32 × dm_M) :=
  (dm_wr M 67 y1 y0).bind fun M17 =>
  (dm_wr M17 68 x7 x5).bind fun M18 =>
  (dm_wr M18 69 x7 x6).bind fun M19 =>
  (dm_wr M19 65 x1 (x2 + 1)).bind fun M20 =>
  some (1, M20)
theorem wM_test_b156 {C : dh_C} {A : Nat → Prop} {E : dm_E} (hC : dh_ok C cX2_test 8 RX2 (some .boolean)) (hK : dm_Kn E (dh_s C)) (hR : dh_R C = { frames := 2, cells := 0, slots := 0, locals := 44 }) {r : Int32} {M' : dm_M} (M : dm_M) (x1 : Int32) (x2 : Int32) (x5 : Int32) (x6 : Int32) (x7 : Int32) (y0 : Int32) (y1 : Int32) (hf : gM_test_b156 M x1 x2 x5 x6 x7 y0 y1 = some (r, M')) : dh_W C A (dm_P E A M) (dm_Q E A (some (.int r)) M') 0 0 0 0 156 [(0, .ref (dm_am E)), (1, .int x1), (2, .int x2), (5, .int x5), (6, .int x6), (7, .int x7)] [.int y0, .int y1, .ref (dm_am E + dm_ad 67)] := by
  unfold gM_test_b156 at hf
  obtain ⟨M17, h17, hf⟩ := dh_bd hf
  refine m_iast hC hK kd_67 h17 dX2_test_156 ?_
  refine r_aload_n hC dX2_test_157 rfl (j := 0) rfl ?_
  refine m_getA hC hK fa_68 dX2_test_158 ?_
  refine r_iload hC dX2_test_161 (j := 5) rfl ?_
  refine r_iload hC dX2_test_163 (j := 3) rfl ?_
  obtain ⟨M18, h18, hf⟩ := dh_bd hf
  refine m_iast hC hK kd_68 h18 dX2_test_165 ?_
  refine r_aload_n hC dX2_test_166 rfl (j := 0) rfl ?_
  refine m_getA hC hK fa_69 dX2_test_167 ?_
  refine r_iload hC dX2_test_170 (j := 5) rfl ?_
  refine r_iload hC dX2_test_172 (j := 4) rfl ?_
  obtain ⟨M19, h19, hf⟩ := dh_bd hf
  refine m_iast hC hK kd_69 h19 dX2_test_174 ?_
  refine r_aload_n hC dX2_test_175 rfl (j := 0) rfl ?_
  refine m_getA hC hK fa_65 dX2_test_176 ?_
  refine r_iload_n hC dX2_test_179 rfl (j := 1) rfl ?_
  refine r_iload_n hC dX2_test_180 rfl (j := 2) rfl ?_
  refine r_iconst hC dX2_test_181 ki_1 ?_
  refine r_iadd hC dX2_test_182 ?_
  obtain ⟨M20, h20, hf⟩ := dh_bd hf
  refine m_iast hC hK kd_65 h20 dX2_test_183 ?_
  refine r_iconst hC dX2_test_184 ki_1 ?_
  exact m_zret hC dX2_test_185 rfl rfl hf
def gM_test_b91 (M : dm_M) (x1 : Int32) (x2 : Int32) (x3 : Int32) (x4 : Int32) (x5 : Int32) : Option (Int32 × dm_M) :=
  (gM_next M).bind fun p11 =>
  if ¬ ((p11.1 57 0) = 3) then (
    (gM_wrong p11).bind fun p21 =>
    (dh_bo p21.1).bind fun _ =>
    some (p21.1, p21.2))
  else
  (gM_next p11).bind fun p13 =>
  if 4 ≤ x2 then (
    some (1, p13))
  else
  if 20 ≤ x1 then (
    some (1, p13))
  else
  if x3 = 0 then (
    gM_test_b156 p13 x1 x2 x5 (p11.1 58 0) ((4 * x1) + x2) x4 ((4 * x1) + x2))
  else
  gM_test_b156 p13 x1 x2 x5 (p11.1 58 0) ((4 * x1) + x2) (x4 + 8) ((4 * x1) + x2)
theorem wM_test_b91 {C : dh_C} {A : Nat → Prop} {E : dm_E} (hC : dh_ok C cX2_test 8 RX2 (some .boolean)) (hK : dm_Kn E (dh_s C)) (hR : dh_R C = { frames := 2, cells := 0, slots := 0, locals := 44 }) {r : Int32} {M' : dm_M} (M : dm_M) (x1 : Int32) (x2 : Int32) (x3 : Int32) (x4 : Int32) (x5 : Int32) (hf : gM_test_b91 M x1 x2 x3 x4 x5 = some (r, M')) : dh_W C A (dm_P E A M) (dm_Q E A (some (.int r)) M') 0 0 0 0 91 [(0, .ref (dm_am E)), (1, .int x1), (2, .int x2), (3, .int x3), (4, .int x4), (5, .int x5)] [] := by
  unfold gM_test_b91 at hf
  refine r_aload_n hC dX2_test_91 rfl (j := 0) rfl ?_
  obtain ⟨p11, h11, hf⟩ := dh_bd hf
  refine m_callV' hC hK hR (cM_next _ E A M h11) q1739 q_next (Nat.le_of_ble_eq_true rfl) (Nat.le_of_ble_eq_true rfl) rfl (Nat.le_of_ble_eq_true rfl) dX2_test_92 ?_
  refine r_aload_n hC dX2_test_95 rfl (j := 0) rfl ?_
  refine m_getI hC hK fi_57 dX2_test_96 ?_
  refine r_iconst hC dX2_test_99 ki_3 ?_
  refine r_icmp_eq hC dX2_test_100 (tgt := 108) (by decide) (fun c12 => ?_) (fun c12 => ?_)
  · have hf := dh_el hf (fun q => q c12)
    refine r_aload_n hC dX2_test_108 rfl (j := 0) rfl ?_
    refine m_getI hC hK fi_58 dX2_test_109 ?_
    refine r_istore (lv' := [(6, .int (p11.1 58 0)), (0, .ref (dm_am E)), (1, .int x1), (2, .int x2), (3, .int x3), (4, .int x4), (5, .int x5)]) hC dX2_test_112 (Nat.le_of_ble_eq_true rfl) rfl ?_
    refine r_aload_n hC dX2_test_114 rfl (j := 1) rfl ?_
    obtain ⟨p13, h13, hf⟩ := dh_bd hf
    refine m_callV' hC hK hR (cM_next _ E A p11 h13) q1739 q_next (Nat.le_of_ble_eq_true rfl) (Nat.le_of_ble_eq_true rfl) rfl (Nat.le_of_ble_eq_true rfl) dX2_test_115 ?_
    refine r_iload_n hC dX2_test_118 rfl (j := 3) rfl ?_
    refine r_iconst hC dX2_test_119 ki_4 ?_
    refine r_icmp_ge hC dX2_test_120 (tgt := 184) (by decide) (fun c14 => ?_) (fun c14 => ?_)
    · have hf := dh_if hf c14
      refine r_iconst hC dX2_test_184 ki_1 ?_
      exact m_zret hC dX2_test_185 rfl rfl hf
    · have hf := dh_el hf c14
      refine r_iload_n hC dX2_test_123 rfl (j := 2) rfl ?_
      refine r_bipush hC dX2_test_124 kb_20 ?_
      refine r_icmp_ge hC dX2_test_126 (tgt := 184) (by decide) (fun c15 => ?_) (fun c15 => ?_)
      · have hf := dh_if hf c15
        refine r_iconst hC dX2_test_184 ki_1 ?_
        exact m_zret hC dX2_test_185 rfl rfl hf
      · have hf := dh_el hf c15
        refine r_iconst hC dX2_test_129 ki_4 ?_
        refine r_iload_n hC dX2_test_130 rfl (j := 2) rfl ?_
        refine r_imul hC dX2_test_131 ?_
        refine r_iload_n hC dX2_test_132 rfl (j := 3) rfl ?_
        refine r_iadd hC dX2_test_133 ?_
        refine r_istore (lv' := [(7, .int ((4 * x1) + x2)), (6, .int (p11.1 58 0)), (0, .ref (dm_am E)), (1, .int x1), (2, .int x2), (3, .int x3), (4, .int x4), (5, .int x5)]) hC dX2_test_134 (Nat.le_of_ble_eq_true rfl) rfl ?_
        refine r_aload_n hC dX2_test_136 rfl (j := 2) rfl ?_
        refine m_getA hC hK fa_67 dX2_test_137 ?_
        refine r_iload hC dX2_test_140 (j := 0) rfl ?_
        refine r_iload_n hC dX2_test_142 rfl (j := 5) rfl ?_
        refine r_if_eq hC dX2_test_143 (tgt := 154) (by decide) (fun c16 => ?_) (fun c16 => ?_)
        · have hf := dh_if hf c16
          refine r_iload hC dX2_test_154 (j := 6) rfl ?_
          exact r_sub [2, 3, 4, 7, 1, 0] rfl (wM_test_b156 hC hK hR p13 x1 x2 x5 (p11.1 58 0) ((4 * x1) + x2) x4 ((4 * x1) + x2) hf)
        · have hf := dh_el hf c16
          refine r_iload hC dX2_test_146 (j := 6) rfl ?_
          refine r_bipush hC dX2_test_148 kb_8 ?_
          refine r_iadd hC dX2_test_150 ?_
          refine r_goto hC dX2_test_151 (tgt := 156) (by decide) ?_
          exact r_sub [2, 3, 4, 7, 1, 0] rfl (wM_test_b156 hC hK hR p13 x1 x2 x5 (p11.1 58 0) ((4 * x1) + x2) (x4 + 8) ((4 * x1) + x2) hf)
  · have hf := dh_if hf c12
    refine r_aload_n hC dX2_test_103 rfl (j := 0) rfl ?_
    obtain ⟨p21, h21, hf⟩ := dh_bd hf
    refine m_callV' hC hK hR (cM_wrong _ E A p11 h21) q1772 q_wrong (Nat.le_of_ble_eq_true rfl) (Nat.le_of_ble_eq_true rfl) rfl (Nat.le_of_ble_eq_true rfl) dX2_test_104 ?_
    obtain ⟨_, h22, hf⟩ := dh_bd hf
    exact m_zret hC dX2_test_107 rfl (dh_bo_n h22) hf
def gM_test_b30 (M : dm_M) (x1 : Int32) (x2 : Int32) (x3 : Int32) : Option (Int32 × dm_M) :=
  (gM_testWord M).bind fun p4 =>
  if p4 = (-1) then (
    (gM_wrong M).bind fun p27 =>
    (dh_bo p27.1).bind fun _ =>
    some (p27.1, p27.2))
  else
  (gM_next M).bind fun p6 =>
  if (p6.1 57 0) = 4 then (
    if (p6.1 58 0) = 60 then (
      gM_test_b91 p6 x1 x2 x3 p4 (p6.1 58 0))
    else
    if (p6.1 58 0) = 62 then (
      gM_test_b91 p6 x1 x2 x3 p4 (p6.1 58 0))
    else
    if (p6.1 58 0) = 61 then (
      gM_test_b91 p6 x1 x2 x3 p4 (p6.1 58 0))
    else
    (gM_wrong p6).bind fun p25 =>
    (dh_bo p25.1).bind fun _ =>
    some (p25.1, p25.2))
  else
  (gM_wrong p6).bind fun p8 =>
  (dh_bo p8.1).bind fun _ =>
  some (p8.1, p8.2)
theorem wM_test_b30 {C : dh_C} {A : Nat → Prop} {E : dm_E} (hC : dh_ok C cX2_test 8 RX2 (some .boolean)) (hK : dm_Kn E (dh_s C)) (hR : dh_R C = { frames := 2, cells := 0, slots := 0, locals := 44 }) {r : Int32} {M' : dm_M} (M : dm_M) (x1 : Int32) (x2 : Int32) (x3 : Int32) (hf : gM_test_b30 M x1 x2 x3 = some (r, M')) : dh_W C A (dm_P E A M) (dm_Q E A (some (.int r)) M') 0 0 0 0 30 [(0, .ref (dm_am E)), (1, .int x1), (2, .int x2), (3, .int x3)] [] := by
  unfold gM_test_b30 at hf
  refine r_aload_n hC dX2_test_30 rfl (j := 0) rfl ?_
  obtain ⟨p4, h4, hf⟩ := dh_bd hf
  refine m_callV' hC hK hR (cM_testWord _ E A M h4) q1782 q_testWord (Nat.le_of_ble_eq_true rfl) (Nat.le_of_ble_eq_true rfl) rfl (Nat.le_of_ble_eq_true rfl) dX2_test_31 ?_
  refine r_istore (lv' := [(4, .int p4), (0, .ref (dm_am E)), (1, .int x1), (2, .int x2), (3, .int x3)]) hC dX2_test_34 (Nat.le_of_ble_eq_true rfl) rfl ?_
  refine r_iload hC dX2_test_36 (j := 0) rfl ?_
  refine r_iconst hC dX2_test_38 ki_m1 ?_
  refine r_icmp_ne hC dX2_test_39 (tgt := 47) (by decide) (fun c5 => ?_) (fun c5 => ?_)
  · have hf := dh_el hf c5
    refine r_aload_n hC dX2_test_47 rfl (j := 1) rfl ?_
    obtain ⟨p6, h6, hf⟩ := dh_bd hf
    refine m_callV' hC hK hR (cM_next _ E A M h6) q1739 q_next (Nat.le_of_ble_eq_true rfl) (Nat.le_of_ble_eq_true rfl) rfl (Nat.le_of_ble_eq_true rfl) dX2_test_48 ?_
    refine r_aload_n hC dX2_test_51 rfl (j := 1) rfl ?_
    refine m_getI hC hK fi_58 dX2_test_52 ?_
    refine r_istore (lv' := [(5, .int (p6.1 58 0)), (4, .int p4), (0, .ref (dm_am E)), (1, .int x1), (2, .int x2), (3, .int x3)]) hC dX2_test_55 (Nat.le_of_ble_eq_true rfl) rfl ?_
    refine r_aload_n hC dX2_test_57 rfl (j := 2) rfl ?_
    refine m_getI hC hK fi_57 dX2_test_58 ?_
    refine r_iconst hC dX2_test_61 ki_4 ?_
    refine r_icmp_ne hC dX2_test_62 (tgt := 86) (by decide) (fun c7 => ?_) (fun c7 => ?_)
    · have hf := dh_el hf c7
      refine r_aload_n hC dX2_test_86 rfl (j := 2) rfl ?_
      obtain ⟨p8, h8, hf⟩ := dh_bd hf
      refine m_callV' hC hK hR (cM_wrong _ E A p6 h8) q1772 q_wrong (Nat.le_of_ble_eq_true rfl) (Nat.le_of_ble_eq_true rfl) rfl (Nat.le_of_ble_eq_true rfl) dX2_test_87 ?_
      obtain ⟨_, h9, hf⟩ := dh_bd hf
      exact m_zret hC dX2_test_90 rfl (dh_bo_n h9) hf
    · have hf := dh_if hf c7
      refine r_iload hC dX2_test_65 (j := 0) rfl ?_
      refine r_bipush hC dX2_test_67 kb_60 ?_
      refine r_icmp_eq hC dX2_test_69 (tgt := 91) (by decide) (fun c10 => ?_) (fun c10 => ?_)
      · have hf := dh_if hf c10
        exact r_sub [2, 3, 4, 5, 1, 0] rfl (wM_test_b91 hC hK hR p6 x1 x2 x3 p4 (p6.1 58 0) hf)
      · have hf := dh_el hf c10
        refine r_iload hC dX2_test_72 (j := 0) rfl ?_
        refine r_bipush hC dX2_test_74 kb_62 ?_
        refine r_icmp_eq hC dX2_test_76 (tgt := 91) (by decide) (fun c23 => ?_) (fun c23 => ?_)
        · have hf := dh_if hf c23
          exact r_sub [2, 3, 4, 5, 1, 0] rfl (wM_test_b91 hC hK hR p6 x1 x2 x3 p4 (p6.1 58 0) hf)
        · have hf := dh_el hf c23
          refine r_iload hC dX2_test_79 (j := 0) rfl ?_
          refine r_bipush hC dX2_test_81 kb_61 ?_
          refine r_icmp_eq hC dX2_test_83 (tgt := 91) (by decide) (fun c24 => ?_) (fun c24 => ?_)
          · have hf := dh_if hf c24
            exact r_sub [2, 3, 4, 5, 1, 0] rfl (wM_test_b91 hC hK hR p6 x1 x2 x3 p4 (p6.1 58 0) hf)
          · have hf := dh_el hf c24
            refine r_aload_n hC dX2_test_86 rfl (j := 2) rfl ?_
            obtain ⟨p25, h25, hf⟩ := dh_bd hf
            refine m_callV' hC hK hR (cM_wrong _ E A p6 h25) q1772 q_wrong (Nat.le_of_ble_eq_true rfl) (Nat.le_of_ble_eq_true rfl) rfl (Nat.le_of_ble_eq_true rfl) dX2_test_87 ?_
            obtain ⟨_, h26, hf⟩ := dh_bd hf
            exact m_zret hC dX2_test_90 rfl (dh_bo_n h26) hf
  · have hf := dh_if hf c5
    refine r_aload_n hC dX2_test_42 rfl (j := 1) rfl ?_
    obtain ⟨p27, h27, hf⟩ := dh_bd hf
    refine m_callV' hC hK hR (cM_wrong _ E A M h27) q1772 q_wrong (Nat.le_of_ble_eq_true rfl) (Nat.le_of_ble_eq_true rfl) rfl (Nat.le_of_ble_eq_true rfl) dX2_test_43 ?_
    obtain ⟨_, h28, hf⟩ := dh_bd hf
    exact m_zret hC dX2_test_46 rfl (dh_bo_n h28) hf
def gM_test_b14 (M : dm_M) (x1 : Int32) (x2 : Int32) : Option (Int32 × dm_M) :=
  (gM_isWord M 7237492).bind fun p2 =>
  if p2 = 0 then (
    gM_test_b30 M x1 x2 p2)
  else
  (gM_next M).bind fun p29 =>
  gM_test_b30 p29 x1 x2 p2
theorem wM_test_b14 {C : dh_C} {A : Nat → Prop} {E : dm_E} (hC : dh_ok C cX2_test 8 RX2 (some .boolean)) (hK : dm_Kn E (dh_s C)) (hR : dh_R C = { frames := 2, cells := 0, slots := 0, locals := 44 }) {r : Int32} {M' : dm_M} (M : dm_M) (x1 : Int32) (x2 : Int32) (hf : gM_test_b14 M x1 x2 = some (r, M')) : dh_W C A (dm_P E A M) (dm_Q E A (some (.int r)) M') 0 0 0 0 14 [(0, .ref (dm_am E)), (1, .int x1), (2, .int x2)] [] := by
  unfold gM_test_b14 at hf
  refine r_aload_n hC dX2_test_14 rfl (j := 0) rfl ?_
  refine r_ldc2 hC q1781 dX2_test_15 ?_
  obtain ⟨p2, h2, hf⟩ := dh_bd hf
  refine m_callV' hC hK hR (cM_isWord _ E A M 7237492 h2) q1760 q_isWord (Nat.le_of_ble_eq_true rfl) (Nat.le_of_ble_eq_true rfl) rfl (Nat.le_of_ble_eq_true rfl) dX2_test_18 ?_
  refine r_istore_n (lv' := [(3, .int p2), (0, .ref (dm_am E)), (1, .int x1), (2, .int x2)]) hC dX2_test_21 rfl (Nat.le_of_ble_eq_true rfl) rfl ?_
  refine r_iload_n hC dX2_test_22 rfl (j := 0) rfl ?_
  refine r_if_eq hC dX2_test_23 (tgt := 30) (by decide) (fun c3 => ?_) (fun c3 => ?_)
  · have hf := dh_if hf c3
    exact r_sub [1, 2, 3, 0] rfl (wM_test_b30 hC hK hR M x1 x2 p2 hf)
  · have hf := dh_el hf c3
    refine r_aload_n hC dX2_test_26 rfl (j := 1) rfl ?_
    obtain ⟨p29, h29, hf⟩ := dh_bd hf
    refine m_callV' hC hK hR (cM_next _ E A M h29) q1739 q_next (Nat.le_of_ble_eq_true rfl) (Nat.le_of_ble_eq_true rfl) rfl (Nat.le_of_ble_eq_true rfl) dX2_test_27 ?_
    exact r_sub [1, 2, 3, 0] rfl (wM_test_b30 hC hK hR p29 x1 x2 p2 hf)
def gM_test (M : dm_M) (x1 : Int32) (x2 : Int32) : Option (Int32 × dm_M) :=
  if x2 = 4 then (
    (gM_later M 3 (M.1 56 0)).bind fun p30 =>
    gM_test_b14 p30 x1 x2)
  else
  gM_test_b14 M x1 x2
theorem wM_test {C : dh_C} {A : Nat → Prop} {E : dm_E} (hC : dh_ok C cX2_test 8 RX2 (some .boolean)) (hK : dm_Kn E (dh_s C)) (hR : dh_R C = { frames := 2, cells := 0, slots := 0, locals := 44 }) {r : Int32} {M' : dm_M} (M : dm_M) (x1 : Int32) (x2 : Int32) (hf : gM_test M x1 x2 = some (r, M')) : dh_W C A (dm_P E A M) (dm_Q E A (some (.int r)) M') 0 0 0 0 0 [(0, .ref (dm_am E)), (1, .int x1), (2, .int x2)] [] := by
  unfold gM_test at hf
  refine r_iload_n hC dX2_test_0 rfl (j := 2) rfl ?_
  refine r_iconst hC dX2_test_1 ki_4 ?_
  refine r_icmp_ne hC dX2_test_2 (tgt := 14) (by decide) (fun c1 => ?_) (fun c1 => ?_)
  · have hf := dh_el hf c1
    exact r_sub [0, 1, 2] rfl (wM_test_b14 hC hK hR M x1 x2 hf)
  · have hf := dh_if hf c1
    refine r_aload_n hC dX2_test_5 rfl (j := 0) rfl ?_
    refine r_iconst hC dX2_test_6 ki_3 ?_
    refine r_aload_n hC dX2_test_7 rfl (j := 0) rfl ?_
    refine m_getI hC hK fi_56 dX2_test_8 ?_
    obtain ⟨p30, h30, hf⟩ := dh_bd hf
    refine m_callV' hC hK hR (cM_later _ E A M 3 (M.1 56 0) h30) q1751 q_later (Nat.le_of_ble_eq_true rfl) (Nat.le_of_ble_eq_true rfl) rfl (Nat.le_of_ble_eq_true rfl) dX2_test_11 ?_
    exact r_sub [0, 1, 2] rfl (wM_test_b14 hC hK hR p30 x1 x2 hf)
theorem cM_test (l : Launch) (E : dm_E) (A : Nat → Prop) (M : dm_M) (x1 : Int32) (x2 : Int32) {p : Int32 × dm_M} (h : gM_test M x1 x2 = some p) : dm_Met l yX2_test cX2_test 8 (some .boolean) 2 44 E A [.ref (dm_am E), .int x1, .int x2] M (some (.int p.1)) p.2 := by
  refine dh_met (by decide) (Nat.le_of_ble_eq_true rfl) (fun _ _ h => ⟨_, h.1⟩) (fun C hl hR hC hnm hK => ?_)
  exact wM_test hC hK hR M x1 x2 h
theorem q_test : dm_calV yX2_test cX2_test 8 (some .boolean) 2 := ⟨q1779, qs58, q1780, by decide +kernel⟩
/-! isSign(I)Z -/
def gM_isSign (M : dm_M) (x1 : Int32) : Option Int32 :=
  if (M.1 57 0) = 4 then (
    if (M.1 58 0) = x1 then (
      some 1)
    else
    some 0)
  else
  some 0
theorem wM_isSign {C : dh_C} {A : Nat → Prop} {E : dm_E} (hC : dh_ok C cX2_isSign 2 RX2 (some .boolean)) (hK : dm_Kn E (dh_s C)) (hR : dh_R C = { frames := 0, cells := 0, slots := 0, locals := 0 }) {r : Int32} (M : dm_M) (x1 : Int32) (hf : gM_isSign M x1 = some r) : dh_W C A (dm_P E A M) (dm_Q E A (some (.int r)) M) 0 0 0 0 0 [(0, .ref (dm_am E)), (1, .int x1)] [] := by
  unfold gM_isSign at hf
  refine r_aload_n hC dX2_isSign_0 rfl (j := 0) rfl ?_
  refine m_getI hC hK fi_57 dX2_isSign_1 ?_
  refine r_iconst hC dX2_isSign_4 ki_4 ?_
  refine r_icmp_ne hC dX2_isSign_5 (tgt := 20) (by decide) (fun c1 => ?_) (fun c1 => ?_)
  · have hf := dh_el hf c1
    refine r_iconst hC dX2_isSign_20 ki_0 ?_
    exact m_zret1 hC dX2_isSign_21 rfl rfl hf
  · have hf := dh_if hf c1
    refine r_aload_n hC dX2_isSign_8 rfl (j := 0) rfl ?_
    refine m_getI hC hK fi_58 dX2_isSign_9 ?_
    refine r_iload_n hC dX2_isSign_12 rfl (j := 1) rfl ?_
    refine r_icmp_ne hC dX2_isSign_13 (tgt := 20) (by decide) (fun c2 => ?_) (fun c2 => ?_)
    · have hf := dh_el hf c2
      refine r_iconst hC dX2_isSign_20 ki_0 ?_
      exact m_zret1 hC dX2_isSign_21 rfl rfl hf
    · have hf := dh_if hf c2
      refine r_iconst hC dX2_isSign_16 ki_1 ?_
      refine r_goto hC dX2_isSign_17 (tgt := 21) (by decide) ?_
      exact m_zret1 hC dX2_isSign_21 rfl rfl hf
theorem cM_isSign (l : Launch) (E : dm_E) (A : Nat → Prop) (M : dm_M) (x1 : Int32) {r : Int32} (h : gM_isSign M x1 = some r) : dm_Met l yX2_isSign cX2_isSign 2 (some .boolean) 0 0 E A [.ref (dm_am E), .int x1] M (some (.int r)) M := by
  refine dh_met (by decide) (Nat.le_of_ble_eq_true rfl) (fun _ _ h => ⟨_, h.1⟩) (fun C hl hR hC hnm hK => ?_)
  exact wM_isSign hC hK hR M x1 h
theorem q_isSign : dm_calV yX2_isSign cX2_isSign 2 (some .boolean) 1 := ⟨q1801, qs61, q1802, by decide +kernel⟩
/-! need(I)Z -/
def gM_need (M : dm_M) (x1 : Int32) : Option (Int32 × dm_M) :=
  (gM_isSign M x1).bind fun p1 =>
  if p1 = 0 then (
    (gM_wrong M).bind fun p4 =>
    (dh_bo p4.1).bind fun _ =>
    some (p4.1, p4.2))
  else
  (gM_next M).bind fun p3 =>
  some (1, p3)
theorem wM_need {C : dh_C} {A : Nat → Prop} {E : dm_E} (hC : dh_ok C cX2_need 2 RX2 (some .boolean)) (hK : dm_Kn E (dh_s C)) (hR : dh_R C = { frames := 2, cells := 0, slots := 0, locals := 44 }) {r : Int32} {M' : dm_M} (M : dm_M) (x1 : Int32) (hf : gM_need M x1 = some (r, M')) : dh_W C A (dm_P E A M) (dm_Q E A (some (.int r)) M') 0 0 0 0 0 [(0, .ref (dm_am E)), (1, .int x1)] [] := by
  unfold gM_need at hf
  refine r_aload_n hC dX2_need_0 rfl (j := 0) rfl ?_
  refine r_iload_n hC dX2_need_1 rfl (j := 1) rfl ?_
  obtain ⟨p1, h1, hf⟩ := dh_bd hf
  refine m_callV' hC hK hR (cM_isSign _ E A M x1 h1) q1799 q_isSign (Nat.le_of_ble_eq_true rfl) (Nat.le_of_ble_eq_true rfl) rfl (Nat.le_of_ble_eq_true rfl) dX2_need_2 ?_
  refine r_if_ne hC dX2_need_5 (tgt := 13) (by decide) (fun c2 => ?_) (fun c2 => ?_)
  · have hf := dh_el hf c2
    refine r_aload_n hC dX2_need_13 rfl (j := 0) rfl ?_
    obtain ⟨p3, h3, hf⟩ := dh_bd hf
    refine m_callV' hC hK hR (cM_next _ E A M h3) q1739 q_next (Nat.le_of_ble_eq_true rfl) (Nat.le_of_ble_eq_true rfl) rfl (Nat.le_of_ble_eq_true rfl) dX2_need_14 ?_
    refine r_iconst hC dX2_need_17 ki_1 ?_
    exact m_zret hC dX2_need_18 rfl rfl hf
  · have hf := dh_if hf c2
    refine r_aload_n hC dX2_need_8 rfl (j := 0) rfl ?_
    obtain ⟨p4, h4, hf⟩ := dh_bd hf
    refine m_callV' hC hK hR (cM_wrong _ E A M h4) q1772 q_wrong (Nat.le_of_ble_eq_true rfl) (Nat.le_of_ble_eq_true rfl) rfl (Nat.le_of_ble_eq_true rfl) dX2_need_9 ?_
    obtain ⟨_, h5, hf⟩ := dh_bd hf
    exact m_zret hC dX2_need_12 rfl (dh_bo_n h5) hf
theorem cM_need (l : Launch) (E : dm_E) (A : Nat → Prop) (M : dm_M) (x1 : Int32) {p : Int32 × dm_M} (h : gM_need M x1 = some p) : dm_Met l yX2_need cX2_need 2 (some .boolean) 2 44 E A [.ref (dm_am E), .int x1] M (some (.int p.1)) p.2 := by
  refine dh_met (by decide) (Nat.le_of_ble_eq_true rfl) (fun _ _ h => ⟨_, h.1⟩) (fun C hl hR hC hnm hK => ?_)
  exact wM_need hC hK hR M x1 h
theorem q_need : dm_calV yX2_need cX2_need 2 (some .boolean) 1 := ⟨q1797, qs60, q1798, by decide +kernel⟩
/-! oneLine()Z -/
def gM_oneLine_b251 (M : dm_M) (y0 : Int32) (y1 : Int32) : Option (Int32 × dm_M) :=
  (dm_wr M 66 y1 y0).bind fun M18 =>
  (gM_next M18).bind fun p19 =>
  (some (dm_set p19 63 0 ((p19.1 63 0) + 1))).bind fun M20 =>
  (gM_need M20 59).bind fun p21 =>
  (dh_bo p21.1).bind fun _ =>
  some (p21.1, p21.2)
theorem wM_oneLine_b251 {C : dh_C} {A : Nat → Prop} {E : dm_E} (hC : dh_ok C cX2_oneLine 4 RX2 (some .boolean)) (hK : dm_Kn E (dh_s C)) (hR : dh_R C = { frames := 3, cells := 0, slots := 0, locals := 71 }) {r : Int32} {M' : dm_M} (M : dm_M) (y0 : Int32) (y1 : Int32) (hf : gM_oneLine_b251 M y0 y1 = some (r, M')) : dh_W C A (dm_P E A M) (dm_Q E A (some (.int r)) M') 0 0 0 0 251 [(0, .ref (dm_am E))] [.int y0, .int y1, .ref (dm_am E + dm_ad 66)] := by
  unfold gM_oneLine_b251 at hf
  obtain ⟨M18, h18, hf⟩ := dh_bd hf
  refine m_iast hC hK kd_66 h18 dX2_oneLine_251 ?_
  refine r_goto hC dX2_oneLine_252 (tgt := 260) (by decide) ?_
  refine r_aload_n hC dX2_oneLine_260 rfl (j := 0) rfl ?_
  obtain ⟨p19, h19, hf⟩ := dh_bd hf
  refine m_callV' hC hK hR (cM_next _ E A M18 h19) q1739 q_next (Nat.le_of_ble_eq_true rfl) (Nat.le_of_ble_eq_true rfl) rfl (Nat.le_of_ble_eq_true rfl) dX2_oneLine_261 ?_
  refine r_aload_n hC dX2_oneLine_264 rfl (j := 0) rfl ?_
  refine r_dup hC dX2_oneLine_265 rfl ?_
  refine m_getI hC hK fi_63 dX2_oneLine_266 ?_
  refine r_iconst hC dX2_oneLine_269 ki_1 ?_
  refine r_iadd hC dX2_oneLine_270 ?_
  obtain ⟨M20, h20, hf⟩ := dh_bd hf
  refine m_putI hC hK fi_63 dX2_oneLine_271 h20 ?_
  refine r_aload_n hC dX2_oneLine_274 rfl (j := 0) rfl ?_
  refine r_bipush hC dX2_oneLine_275 kb_59 ?_
  obtain ⟨p21, h21, hf⟩ := dh_bd hf
  refine m_callV' hC hK hR (cM_need _ E A M20 59 h21) q1795 q_need (Nat.le_of_ble_eq_true rfl) (Nat.le_of_ble_eq_true rfl) rfl (Nat.le_of_ble_eq_true rfl) dX2_oneLine_277 ?_
  obtain ⟨_, h22, hf⟩ := dh_bd hf
  exact m_zret hC dX2_oneLine_280 rfl (dh_bo_n h22) hf
def gM_oneLine_b231 (M : dm_M) (x1 : Int32) : Option (Int32 × dm_M) :=
  (gM_isWord M 7955827).bind fun p16 =>
  if p16 = 0 then (
    gM_oneLine_b251 M 0 x1)
  else
  gM_oneLine_b251 M 1 x1
theorem wM_oneLine_b231 {C : dh_C} {A : Nat → Prop} {E : dm_E} (hC : dh_ok C cX2_oneLine 4 RX2 (some .boolean)) (hK : dm_Kn E (dh_s C)) (hR : dh_R C = { frames := 3, cells := 0, slots := 0, locals := 71 }) {r : Int32} {M' : dm_M} (M : dm_M) (x1 : Int32) (hf : gM_oneLine_b231 M x1 = some (r, M')) : dh_W C A (dm_P E A M) (dm_Q E A (some (.int r)) M') 0 0 0 0 231 [(0, .ref (dm_am E)), (1, .int x1)] [] := by
  unfold gM_oneLine_b231 at hf
  refine r_aload_n hC dX2_oneLine_231 rfl (j := 0) rfl ?_
  refine m_getA hC hK fa_66 dX2_oneLine_232 ?_
  refine r_iload_n hC dX2_oneLine_235 rfl (j := 1) rfl ?_
  refine r_aload_n hC dX2_oneLine_236 rfl (j := 0) rfl ?_
  refine r_ldc2 hC q1803 dX2_oneLine_237 ?_
  obtain ⟨p16, h16, hf⟩ := dh_bd hf
  refine m_callV' hC hK hR (cM_isWord _ E A M 7955827 h16) q1760 q_isWord (Nat.le_of_ble_eq_true rfl) (Nat.le_of_ble_eq_true rfl) rfl (Nat.le_of_ble_eq_true rfl) dX2_oneLine_240 ?_
  refine r_if_eq hC dX2_oneLine_243 (tgt := 250) (by decide) (fun c17 => ?_) (fun c17 => ?_)
  · have hf := dh_if hf c17
    refine r_iconst hC dX2_oneLine_250 ki_0 ?_
    exact r_sub [0] rfl (wM_oneLine_b251 hC hK hR M 0 x1 hf)
  · have hf := dh_el hf c17
    refine r_iconst hC dX2_oneLine_246 ki_1 ?_
    refine r_goto hC dX2_oneLine_247 (tgt := 251) (by decide) ?_
    exact r_sub [0] rfl (wM_oneLine_b251 hC hK hR M 1 x1 hf)
def gM_oneLine_b198 (M : dm_M) (x1 : Int32) : Option (Int32 × dm_M) :=
  (dm_wr M 66 x1 (M.1 58 0)).bind fun M30 =>
  (gM_next M30).bind fun p31 =>
  (some (dm_set p31 63 0 ((p31.1 63 0) + 1))).bind fun M32 =>
  (gM_need M32 59).bind fun p33 =>
  (dh_bo p33.1).bind fun _ =>
  some (p33.1, p33.2)
theorem wM_oneLine_b198 {C : dh_C} {A : Nat → Prop} {E : dm_E} (hC : dh_ok C cX2_oneLine 4 RX2 (some .boolean)) (hK : dm_Kn E (dh_s C)) (hR : dh_R C = { frames := 3, cells := 0, slots := 0, locals := 71 }) {r : Int32} {M' : dm_M} (M : dm_M) (x1 : Int32) (hf : gM_oneLine_b198 M x1 = some (r, M')) : dh_W C A (dm_P E A M) (dm_Q E A (some (.int r)) M') 0 0 0 0 198 [(0, .ref (dm_am E)), (1, .int x1)] [] := by
  unfold gM_oneLine_b198 at hf
  refine r_aload_n hC dX2_oneLine_198 rfl (j := 0) rfl ?_
  refine m_getA hC hK fa_66 dX2_oneLine_199 ?_
  refine r_iload_n hC dX2_oneLine_202 rfl (j := 1) rfl ?_
  refine r_aload_n hC dX2_oneLine_203 rfl (j := 0) rfl ?_
  refine m_getI hC hK fi_58 dX2_oneLine_204 ?_
  obtain ⟨M30, h30, hf⟩ := dh_bd hf
  refine m_iast hC hK kd_66 h30 dX2_oneLine_207 ?_
  refine r_goto hC dX2_oneLine_208 (tgt := 260) (by decide) ?_
  refine r_aload_n hC dX2_oneLine_260 rfl (j := 0) rfl ?_
  obtain ⟨p31, h31, hf⟩ := dh_bd hf
  refine m_callV' hC hK hR (cM_next _ E A M30 h31) q1739 q_next (Nat.le_of_ble_eq_true rfl) (Nat.le_of_ble_eq_true rfl) rfl (Nat.le_of_ble_eq_true rfl) dX2_oneLine_261 ?_
  refine r_aload_n hC dX2_oneLine_264 rfl (j := 0) rfl ?_
  refine r_dup hC dX2_oneLine_265 rfl ?_
  refine m_getI hC hK fi_63 dX2_oneLine_266 ?_
  refine r_iconst hC dX2_oneLine_269 ki_1 ?_
  refine r_iadd hC dX2_oneLine_270 ?_
  obtain ⟨M32, h32, hf⟩ := dh_bd hf
  refine m_putI hC hK fi_63 dX2_oneLine_271 h32 ?_
  refine r_aload_n hC dX2_oneLine_274 rfl (j := 0) rfl ?_
  refine r_bipush hC dX2_oneLine_275 kb_59 ?_
  obtain ⟨p33, h33, hf⟩ := dh_bd hf
  refine m_callV' hC hK hR (cM_need _ E A M32 59 h33) q1795 q_need (Nat.le_of_ble_eq_true rfl) (Nat.le_of_ble_eq_true rfl) rfl (Nat.le_of_ble_eq_true rfl) dX2_oneLine_277 ?_
  obtain ⟨_, h34, hf⟩ := dh_bd hf
  exact m_zret hC dX2_oneLine_280 rfl (dh_bo_n h34) hf
def gM_oneLine_b175 (M : dm_M) (x1 : Int32) (y0 : Int32) : Option (Int32 × dm_M) :=
  if y0 = 0 then (
    gM_oneLine_b198 M x1)
  else
  if (M.1 58 0) ≤ 100 then (
    gM_oneLine_b198 M x1)
  else
  (gM_later M 2 (M.1 56 0)).bind fun p36 =>
  gM_oneLine_b198 p36 x1
theorem wM_oneLine_b175 {C : dh_C} {A : Nat → Prop} {E : dm_E} (hC : dh_ok C cX2_oneLine 4 RX2 (some .boolean)) (hK : dm_Kn E (dh_s C)) (hR : dh_R C = { frames := 3, cells := 0, slots := 0, locals := 71 }) {r : Int32} {M' : dm_M} (M : dm_M) (x1 : Int32) (y0 : Int32) (hf : gM_oneLine_b175 M x1 y0 = some (r, M')) : dh_W C A (dm_P E A M) (dm_Q E A (some (.int r)) M') 0 0 0 0 175 [(0, .ref (dm_am E)), (1, .int x1)] [.int y0] := by
  unfold gM_oneLine_b175 at hf
  refine r_istore_n (lv' := [(2, .int y0), (0, .ref (dm_am E)), (1, .int x1)]) hC dX2_oneLine_175 rfl (Nat.le_of_ble_eq_true rfl) rfl ?_
  refine r_iload_n hC dX2_oneLine_176 rfl (j := 0) rfl ?_
  refine r_if_eq hC dX2_oneLine_177 (tgt := 198) (by decide) (fun c29 => ?_) (fun c29 => ?_)
  · have hf := dh_if hf c29
    exact r_sub [1, 2] rfl (wM_oneLine_b198 hC hK hR M x1 hf)
  · have hf := dh_el hf c29
    refine r_aload_n hC dX2_oneLine_180 rfl (j := 1) rfl ?_
    refine m_getI hC hK fi_58 dX2_oneLine_181 ?_
    refine r_bipush hC dX2_oneLine_184 kb_100 ?_
    refine r_icmp_le hC dX2_oneLine_186 (tgt := 198) (by decide) (fun c35 => ?_) (fun c35 => ?_)
    · have hf := dh_if hf c35
      exact r_sub [1, 2] rfl (wM_oneLine_b198 hC hK hR M x1 hf)
    · have hf := dh_el hf c35
      refine r_aload_n hC dX2_oneLine_189 rfl (j := 1) rfl ?_
      refine r_iconst hC dX2_oneLine_190 ki_2 ?_
      refine r_aload_n hC dX2_oneLine_191 rfl (j := 1) rfl ?_
      refine m_getI hC hK fi_56 dX2_oneLine_192 ?_
      obtain ⟨p36, h36, hf⟩ := dh_bd hf
      refine m_callV' hC hK hR (cM_later _ E A M 2 (M.1 56 0) h36) q1751 q_later (Nat.le_of_ble_eq_true rfl) (Nat.le_of_ble_eq_true rfl) rfl (Nat.le_of_ble_eq_true rfl) dX2_oneLine_195 ?_
      exact r_sub [1, 2] rfl (wM_oneLine_b198 hC hK hR p36 x1 hf)
def gM_oneLine_b120 (M : dm_M) (x1 : Int32) : Option (Int32 × dm_M) :=
  (gM_need M 58).bind fun p11 =>
  if p11.1 = 0 then (
    some (0, p11.2))
  else
  if (p11.2.1 57 0) = 3 then (
    (dm_rd p11.2 64 x1).bind fun v27 =>
    if v27 = 4 then (
      gM_oneLine_b175 p11.2 x1 1)
    else
    (dm_rd p11.2 64 x1).bind fun v37 =>
    if v37 = 5 then (
      gM_oneLine_b175 p11.2 x1 1)
    else
    (dm_rd p11.2 64 x1).bind fun v39 =>
    if v39 = 7 then (
      gM_oneLine_b175 p11.2 x1 1)
    else
    gM_oneLine_b175 p11.2 x1 0)
  else
  (gM_isWord p11.2 7955827).bind fun p14 =>
  if p14 = 0 then (
    (gM_isWord p11.2 28271).bind fun p23 =>
    if ¬ (p23 = 0) then (
      gM_oneLine_b231 p11.2 x1)
    else
    (gM_wrong p11.2).bind fun p25 =>
    (dh_bo p25.1).bind fun _ =>
    some (p25.1, p25.2))
  else
  gM_oneLine_b231 p11.2 x1
theorem wM_oneLine_b120 {C : dh_C} {A : Nat → Prop} {E : dm_E} (hC : dh_ok C cX2_oneLine 4 RX2 (some .boolean)) (hK : dm_Kn E (dh_s C)) (hR : dh_R C = { frames := 3, cells := 0, slots := 0, locals := 71 }) {r : Int32} {M' : dm_M} (M : dm_M) (x1 : Int32) (hf : gM_oneLine_b120 M x1 = some (r, M')) : dh_W C A (dm_P E A M) (dm_Q E A (some (.int r)) M') 0 0 0 0 120 [(0, .ref (dm_am E)), (1, .int x1)] [] := by
  unfold gM_oneLine_b120 at hf
  refine r_aload_n hC dX2_oneLine_120 rfl (j := 0) rfl ?_
  refine r_bipush hC dX2_oneLine_121 kb_58 ?_
  obtain ⟨p11, h11, hf⟩ := dh_bd hf
  refine m_callV' hC hK hR (cM_need _ E A M 58 h11) q1795 q_need (Nat.le_of_ble_eq_true rfl) (Nat.le_of_ble_eq_true rfl) rfl (Nat.le_of_ble_eq_true rfl) dX2_oneLine_123 ?_
  refine r_if_ne hC dX2_oneLine_126 (tgt := 131) (by decide) (fun c12 => ?_) (fun c12 => ?_)
  · have hf := dh_el hf c12
    refine r_aload_n hC dX2_oneLine_131 rfl (j := 0) rfl ?_
    refine m_getI hC hK fi_57 dX2_oneLine_132 ?_
    refine r_iconst hC dX2_oneLine_135 ki_3 ?_
    refine r_icmp_ne hC dX2_oneLine_136 (tgt := 211) (by decide) (fun c13 => ?_) (fun c13 => ?_)
    · have hf := dh_el hf c13
      refine r_aload_n hC dX2_oneLine_211 rfl (j := 0) rfl ?_
      refine r_ldc2 hC q1803 dX2_oneLine_212 ?_
      obtain ⟨p14, h14, hf⟩ := dh_bd hf
      refine m_callV' hC hK hR (cM_isWord _ E A p11.2 7955827 h14) q1760 q_isWord (Nat.le_of_ble_eq_true rfl) (Nat.le_of_ble_eq_true rfl) rfl (Nat.le_of_ble_eq_true rfl) dX2_oneLine_215 ?_
      refine r_if_ne hC dX2_oneLine_218 (tgt := 231) (by decide) (fun c15 => ?_) (fun c15 => ?_)
      · have hf := dh_el hf c15
        exact r_sub [0, 1] rfl (wM_oneLine_b231 hC hK hR p11.2 x1 hf)
      · have hf := dh_if hf c15
        refine r_aload_n hC dX2_oneLine_221 rfl (j := 0) rfl ?_
        refine r_ldc2 hC q1804 dX2_oneLine_222 ?_
        obtain ⟨p23, h23, hf⟩ := dh_bd hf
        refine m_callV' hC hK hR (cM_isWord _ E A p11.2 28271 h23) q1760 q_isWord (Nat.le_of_ble_eq_true rfl) (Nat.le_of_ble_eq_true rfl) rfl (Nat.le_of_ble_eq_true rfl) dX2_oneLine_225 ?_
        refine r_if_eq hC dX2_oneLine_228 (tgt := 255) (by decide) (fun c24 => ?_) (fun c24 => ?_)
        · have hf := dh_el hf (fun q => q c24)
          refine r_aload_n hC dX2_oneLine_255 rfl (j := 0) rfl ?_
          obtain ⟨p25, h25, hf⟩ := dh_bd hf
          refine m_callV' hC hK hR (cM_wrong _ E A p11.2 h25) q1772 q_wrong (Nat.le_of_ble_eq_true rfl) (Nat.le_of_ble_eq_true rfl) rfl (Nat.le_of_ble_eq_true rfl) dX2_oneLine_256 ?_
          obtain ⟨_, h26, hf⟩ := dh_bd hf
          exact m_zret hC dX2_oneLine_259 rfl (dh_bo_n h26) hf
        · have hf := dh_if hf c24
          exact r_sub [0, 1] rfl (wM_oneLine_b231 hC hK hR p11.2 x1 hf)
    · have hf := dh_if hf c13
      refine r_aload_n hC dX2_oneLine_139 rfl (j := 0) rfl ?_
      refine m_getA hC hK fa_64 dX2_oneLine_140 ?_
      refine r_iload_n hC dX2_oneLine_143 rfl (j := 1) rfl ?_
      obtain ⟨v27, h27, hf⟩ := dh_bd hf
      refine m_iald hC hK kd_64 h27 dX2_oneLine_144 ?_
      refine r_iconst hC dX2_oneLine_145 ki_4 ?_
      refine r_icmp_eq hC dX2_oneLine_146 (tgt := 170) (by decide) (fun c28 => ?_) (fun c28 => ?_)
      · have hf := dh_if hf c28
        refine r_iconst hC dX2_oneLine_170 ki_1 ?_
        refine r_goto hC dX2_oneLine_171 (tgt := 175) (by decide) ?_
        exact r_sub [0, 1] rfl (wM_oneLine_b175 hC hK hR p11.2 x1 1 hf)
      · have hf := dh_el hf c28
        refine r_aload_n hC dX2_oneLine_149 rfl (j := 0) rfl ?_
        refine m_getA hC hK fa_64 dX2_oneLine_150 ?_
        refine r_iload_n hC dX2_oneLine_153 rfl (j := 1) rfl ?_
        obtain ⟨v37, h37, hf⟩ := dh_bd hf
        refine m_iald hC hK kd_64 h37 dX2_oneLine_154 ?_
        refine r_iconst hC dX2_oneLine_155 ki_5 ?_
        refine r_icmp_eq hC dX2_oneLine_156 (tgt := 170) (by decide) (fun c38 => ?_) (fun c38 => ?_)
        · have hf := dh_if hf c38
          refine r_iconst hC dX2_oneLine_170 ki_1 ?_
          refine r_goto hC dX2_oneLine_171 (tgt := 175) (by decide) ?_
          exact r_sub [0, 1] rfl (wM_oneLine_b175 hC hK hR p11.2 x1 1 hf)
        · have hf := dh_el hf c38
          refine r_aload_n hC dX2_oneLine_159 rfl (j := 0) rfl ?_
          refine m_getA hC hK fa_64 dX2_oneLine_160 ?_
          refine r_iload_n hC dX2_oneLine_163 rfl (j := 1) rfl ?_
          obtain ⟨v39, h39, hf⟩ := dh_bd hf
          refine m_iald hC hK kd_64 h39 dX2_oneLine_164 ?_
          refine r_bipush hC dX2_oneLine_165 kb_7 ?_
          refine r_icmp_ne hC dX2_oneLine_167 (tgt := 174) (by decide) (fun c40 => ?_) (fun c40 => ?_)
          · have hf := dh_el hf c40
            refine r_iconst hC dX2_oneLine_174 ki_0 ?_
            exact r_sub [0, 1] rfl (wM_oneLine_b175 hC hK hR p11.2 x1 0 hf)
          · have hf := dh_if hf c40
            refine r_iconst hC dX2_oneLine_170 ki_1 ?_
            refine r_goto hC dX2_oneLine_171 (tgt := 175) (by decide) ?_
            exact r_sub [0, 1] rfl (wM_oneLine_b175 hC hK hR p11.2 x1 1 hf)
  · have hf := dh_if hf c12
    refine r_iconst hC dX2_oneLine_129 ki_0 ?_
    exact m_zret hC dX2_oneLine_130 rfl rfl hf
def gM_oneLine_L87_F (k87 : (dm_M → Int32 → Int32 → Int32 → Option (Int32 × dm_M))) (M : dm_M) (x1 : Int32) (x2 : Int32) (x3 : Int32) : Option (Int32 × dm_M) :=
  if x2 = 0 then (
    gM_oneLine_b120 M x1)
  else
  (gM_next M).bind fun p42 =>
  (gM_test p42 x1 x3).bind fun p43 =>
  if p43.1 = 0 then (
    some (0, p43.2))
  else
  (gM_isWord p43.2 6385252).bind fun p45 =>
  k87 p43.2 x1 p45 (x3 + 1)
theorem wM_oneLine_L87_F {C : dh_C} {A : Nat → Prop} {E : dm_E} (hC : dh_ok C cX2_oneLine 4 RX2 (some .boolean)) (hK : dm_Kn E (dh_s C)) (hR : dh_R C = { frames := 3, cells := 0, slots := 0, locals := 71 }) {r : Int32} {M' : dm_M} (k87 : (dm_M → Int32 → Int32 → Int32 → Option (Int32 × dm_M))) (hk87 : ∀ (M : dm_M) (x1 : Int32) (x2 : Int32) (x3 : Int32), k87 M x1 x2 x3 = some (r, M') → dh_W C A (dm_P E A M) (dm_Q E A (some (.int r)) M') 0 0 0 0 87 [(0, .ref (dm_am E)), (1, .int x1), (2, .int x2), (3, .int x3)] []) (M : dm_M) (x1 : Int32) (x2 : Int32) (x3 : Int32) (hf : gM_oneLine_L87_F k87 M x1 x2 x3 = some (r, M')) : dh_W C A (dm_P E A M) (dm_Q E A (some (.int r)) M') 0 0 0 0 87 [(0, .ref (dm_am E)), (1, .int x1), (2, .int x2), (3, .int x3)] [] := by
  unfold gM_oneLine_L87_F at hf
  refine r_iload_n hC dX2_oneLine_87 rfl (j := 2) rfl ?_
  refine r_if_eq hC dX2_oneLine_88 (tgt := 120) (by decide) (fun c41 => ?_) (fun c41 => ?_)
  · have hf := dh_if hf c41
    exact r_sub [0, 1] rfl (wM_oneLine_b120 hC hK hR M x1 hf)
  · have hf := dh_el hf c41
    refine r_aload_n hC dX2_oneLine_91 rfl (j := 0) rfl ?_
    obtain ⟨p42, h42, hf⟩ := dh_bd hf
    refine m_callV' hC hK hR (cM_next _ E A M h42) q1739 q_next (Nat.le_of_ble_eq_true rfl) (Nat.le_of_ble_eq_true rfl) rfl (Nat.le_of_ble_eq_true rfl) dX2_oneLine_92 ?_
    refine r_aload_n hC dX2_oneLine_95 rfl (j := 0) rfl ?_
    refine r_iload_n hC dX2_oneLine_96 rfl (j := 1) rfl ?_
    refine r_iload_n hC dX2_oneLine_97 rfl (j := 3) rfl ?_
    obtain ⟨p43, h43, hf⟩ := dh_bd hf
    refine m_callV' hC hK hR (cM_test _ E A p42 x1 x3 h43) q1777 q_test (Nat.le_of_ble_eq_true rfl) (Nat.le_of_ble_eq_true rfl) rfl (Nat.le_of_ble_eq_true rfl) dX2_oneLine_98 ?_
    refine r_if_ne hC dX2_oneLine_101 (tgt := 106) (by decide) (fun c44 => ?_) (fun c44 => ?_)
    · have hf := dh_el hf c44
      refine r_aload_n hC dX2_oneLine_106 rfl (j := 0) rfl ?_
      refine r_ldc2 hC q1794 dX2_oneLine_107 ?_
      obtain ⟨p45, h45, hf⟩ := dh_bd hf
      refine m_callV' hC hK hR (cM_isWord _ E A p43.2 6385252 h45) q1760 q_isWord (Nat.le_of_ble_eq_true rfl) (Nat.le_of_ble_eq_true rfl) rfl (Nat.le_of_ble_eq_true rfl) dX2_oneLine_110 ?_
      refine r_istore_n (lv' := [(2, .int p45), (0, .ref (dm_am E)), (1, .int x1), (3, .int x3)]) hC dX2_oneLine_113 rfl (Nat.le_of_ble_eq_true rfl) rfl ?_
      refine r_iinc (lv' := [(3, .int (x3 + 1)), (2, .int p45), (0, .ref (dm_am E)), (1, .int x1)]) hC dX2_oneLine_114 (j := 3) rfl (congrArg _ ki_1) (Nat.le_of_ble_eq_true rfl) rfl ?_
      refine r_goto hC dX2_oneLine_117 (tgt := 87) (by decide) ?_
      exact r_sub [2, 3, 1, 0] rfl (hk87 p43.2 x1 p45 (x3 + 1) hf)
    · have hf := dh_if hf c44
      refine r_iconst hC dX2_oneLine_104 ki_0 ?_
      exact m_zret hC dX2_oneLine_105 rfl rfl hf
def gM_oneLine_L87 : Nat → dm_M → Int32 → Int32 → Int32 → Option (Int32 × dm_M)
  | 0 => fun _ _ _ _ => none
  | n + 1 => gM_oneLine_L87_F (gM_oneLine_L87 n)
theorem wM_oneLine_L87 {C : dh_C} {A : Nat → Prop} {E : dm_E} (hC : dh_ok C cX2_oneLine 4 RX2 (some .boolean)) (hK : dm_Kn E (dh_s C)) (hR : dh_R C = { frames := 3, cells := 0, slots := 0, locals := 71 }) {r : Int32} {M' : dm_M} : ∀ (n : Nat) (M : dm_M) (x1 : Int32) (x2 : Int32) (x3 : Int32) (_ : gM_oneLine_L87 n M x1 x2 x3 = some (r, M')), dh_W C A (dm_P E A M) (dm_Q E A (some (.int r)) M') 0 0 0 0 87 [(0, .ref (dm_am E)), (1, .int x1), (2, .int x2), (3, .int x3)] [] := by
  intro n
  induction n with
  | zero => intro M x1 x2 x3 hf; exact dh_no hf
  | succ n ih => intro M x1 x2 x3 hf; exact wM_oneLine_L87_F hC hK hR (gM_oneLine_L87 n) ih M x1 x2 x3 hf
def gM_oneLine_b37 (M : dm_M) (x1 : Int32) : Option (Int32 × dm_M) :=
  (dm_wr M 65 x1 0).bind fun M3 =>
  (gM_topicWord M3).bind fun p4 =>
  (dm_wr M3 64 x1 p4).bind fun M5 =>
  (dm_rd M5 64 x1).bind fun v6 =>
  if v6 = (-1) then (
    (gM_wrong M5).bind fun p46 =>
    (dh_bo p46.1).bind fun _ =>
    some (p46.1, p46.2))
  else
  (gM_next M5).bind fun p8 =>
  (gM_isWord p8 26982).bind fun p9 =>
  if p9 = 0 then (
    gM_oneLine_b120 p8 x1)
  else
  gM_oneLine_L87 dh_fu p8 x1 1 0
theorem wM_oneLine_b37 {C : dh_C} {A : Nat → Prop} {E : dm_E} (hC : dh_ok C cX2_oneLine 4 RX2 (some .boolean)) (hK : dm_Kn E (dh_s C)) (hR : dh_R C = { frames := 3, cells := 0, slots := 0, locals := 71 }) {r : Int32} {M' : dm_M} (M : dm_M) (x1 : Int32) (hf : gM_oneLine_b37 M x1 = some (r, M')) : dh_W C A (dm_P E A M) (dm_Q E A (some (.int r)) M') 0 0 0 0 37 [(0, .ref (dm_am E)), (1, .int x1)] [] := by
  unfold gM_oneLine_b37 at hf
  refine r_aload_n hC dX2_oneLine_37 rfl (j := 0) rfl ?_
  refine m_getA hC hK fa_65 dX2_oneLine_38 ?_
  refine r_iload_n hC dX2_oneLine_41 rfl (j := 1) rfl ?_
  refine r_iconst hC dX2_oneLine_42 ki_0 ?_
  obtain ⟨M3, h3, hf⟩ := dh_bd hf
  refine m_iast hC hK kd_65 h3 dX2_oneLine_43 ?_
  refine r_aload_n hC dX2_oneLine_44 rfl (j := 0) rfl ?_
  refine m_getA hC hK fa_64 dX2_oneLine_45 ?_
  refine r_iload_n hC dX2_oneLine_48 rfl (j := 1) rfl ?_
  refine r_aload_n hC dX2_oneLine_49 rfl (j := 0) rfl ?_
  obtain ⟨p4, h4, hf⟩ := dh_bd hf
  refine m_callV' hC hK hR (cM_topicWord _ E A M3 h4) q1755 q_topicWord (Nat.le_of_ble_eq_true rfl) (Nat.le_of_ble_eq_true rfl) rfl (Nat.le_of_ble_eq_true rfl) dX2_oneLine_50 ?_
  obtain ⟨M5, h5, hf⟩ := dh_bd hf
  refine m_iast hC hK kd_64 h5 dX2_oneLine_53 ?_
  refine r_aload_n hC dX2_oneLine_54 rfl (j := 0) rfl ?_
  refine m_getA hC hK fa_64 dX2_oneLine_55 ?_
  refine r_iload_n hC dX2_oneLine_58 rfl (j := 1) rfl ?_
  obtain ⟨v6, h6, hf⟩ := dh_bd hf
  refine m_iald hC hK kd_64 h6 dX2_oneLine_59 ?_
  refine r_iconst hC dX2_oneLine_60 ki_m1 ?_
  refine r_icmp_ne hC dX2_oneLine_61 (tgt := 69) (by decide) (fun c7 => ?_) (fun c7 => ?_)
  · have hf := dh_el hf c7
    refine r_aload_n hC dX2_oneLine_69 rfl (j := 0) rfl ?_
    obtain ⟨p8, h8, hf⟩ := dh_bd hf
    refine m_callV' hC hK hR (cM_next _ E A M5 h8) q1739 q_next (Nat.le_of_ble_eq_true rfl) (Nat.le_of_ble_eq_true rfl) rfl (Nat.le_of_ble_eq_true rfl) dX2_oneLine_70 ?_
    refine r_aload_n hC dX2_oneLine_73 rfl (j := 0) rfl ?_
    refine r_ldc2 hC q1776 dX2_oneLine_74 ?_
    obtain ⟨p9, h9, hf⟩ := dh_bd hf
    refine m_callV' hC hK hR (cM_isWord _ E A p8 26982 h9) q1760 q_isWord (Nat.le_of_ble_eq_true rfl) (Nat.le_of_ble_eq_true rfl) rfl (Nat.le_of_ble_eq_true rfl) dX2_oneLine_77 ?_
    refine r_if_eq hC dX2_oneLine_80 (tgt := 120) (by decide) (fun c10 => ?_) (fun c10 => ?_)
    · have hf := dh_if hf c10
      exact r_sub [0, 1] rfl (wM_oneLine_b120 hC hK hR p8 x1 hf)
    · have hf := dh_el hf c10
      refine r_iconst hC dX2_oneLine_83 ki_1 ?_
      refine r_istore_n (lv' := [(2, .int 1), (0, .ref (dm_am E)), (1, .int x1)]) hC dX2_oneLine_84 rfl (Nat.le_of_ble_eq_true rfl) rfl ?_
      refine r_iconst hC dX2_oneLine_85 ki_0 ?_
      refine r_istore_n (lv' := [(3, .int 0), (2, .int 1), (0, .ref (dm_am E)), (1, .int x1)]) hC dX2_oneLine_86 rfl (Nat.le_of_ble_eq_true rfl) rfl ?_
      exact r_sub [2, 3, 1, 0] rfl (wM_oneLine_L87 hC hK hR dh_fu p8 x1 1 0 hf)
  · have hf := dh_if hf c7
    refine r_aload_n hC dX2_oneLine_64 rfl (j := 0) rfl ?_
    obtain ⟨p46, h46, hf⟩ := dh_bd hf
    refine m_callV' hC hK hR (cM_wrong _ E A M5 h46) q1772 q_wrong (Nat.le_of_ble_eq_true rfl) (Nat.le_of_ble_eq_true rfl) rfl (Nat.le_of_ble_eq_true rfl) dX2_oneLine_65 ?_
    obtain ⟨_, h47, hf⟩ := dh_bd hf
    exact m_zret hC dX2_oneLine_68 rfl (dh_bo_n h47) hf
def gM_oneLine_b18 (M : dm_M) (y0 : Int32) : Option (Int32 × dm_M) :=
  if (M.1 63 0) = 20 then (
    (gM_later M 3 (M.1 56 0)).bind fun p48 =>
    gM_oneLine_b37 p48 y0)
  else
  gM_oneLine_b37 M y0
theorem wM_oneLine_b18 {C : dh_C} {A : Nat → Prop} {E : dm_E} (hC : dh_ok C cX2_oneLine 4 RX2 (some .boolean)) (hK : dm_Kn E (dh_s C)) (hR : dh_R C = { frames := 3, cells := 0, slots := 0, locals := 71 }) {r : Int32} {M' : dm_M} (M : dm_M) (y0 : Int32) (hf : gM_oneLine_b18 M y0 = some (r, M')) : dh_W C A (dm_P E A M) (dm_Q E A (some (.int r)) M') 0 0 0 0 18 [(0, .ref (dm_am E))] [.int y0] := by
  unfold gM_oneLine_b18 at hf
  refine r_istore_n (lv' := [(1, .int y0), (0, .ref (dm_am E))]) hC dX2_oneLine_18 rfl (Nat.le_of_ble_eq_true rfl) rfl ?_
  refine r_aload_n hC dX2_oneLine_19 rfl (j := 1) rfl ?_
  refine m_getI hC hK fi_63 dX2_oneLine_20 ?_
  refine r_bipush hC dX2_oneLine_23 kb_20 ?_
  refine r_icmp_ne hC dX2_oneLine_25 (tgt := 37) (by decide) (fun c2 => ?_) (fun c2 => ?_)
  · have hf := dh_el hf c2
    exact r_sub [1, 0] rfl (wM_oneLine_b37 hC hK hR M y0 hf)
  · have hf := dh_if hf c2
    refine r_aload_n hC dX2_oneLine_28 rfl (j := 1) rfl ?_
    refine r_iconst hC dX2_oneLine_29 ki_3 ?_
    refine r_aload_n hC dX2_oneLine_30 rfl (j := 1) rfl ?_
    refine m_getI hC hK fi_56 dX2_oneLine_31 ?_
    obtain ⟨p48, h48, hf⟩ := dh_bd hf
    refine m_callV' hC hK hR (cM_later _ E A M 3 (M.1 56 0) h48) q1751 q_later (Nat.le_of_ble_eq_true rfl) (Nat.le_of_ble_eq_true rfl) rfl (Nat.le_of_ble_eq_true rfl) dX2_oneLine_34 ?_
    exact r_sub [1, 0] rfl (wM_oneLine_b37 hC hK hR p48 y0 hf)
def gM_oneLine (M : dm_M) : Option (Int32 × dm_M) :=
  if 20 ≤ (M.1 63 0) then (
    gM_oneLine_b18 M 20)
  else
  gM_oneLine_b18 M (M.1 63 0)
theorem wM_oneLine {C : dh_C} {A : Nat → Prop} {E : dm_E} (hC : dh_ok C cX2_oneLine 4 RX2 (some .boolean)) (hK : dm_Kn E (dh_s C)) (hR : dh_R C = { frames := 3, cells := 0, slots := 0, locals := 71 }) {r : Int32} {M' : dm_M} (M : dm_M) (hf : gM_oneLine M = some (r, M')) : dh_W C A (dm_P E A M) (dm_Q E A (some (.int r)) M') 0 0 0 0 0 [(0, .ref (dm_am E))] [] := by
  unfold gM_oneLine at hf
  refine r_aload_n hC dX2_oneLine_0 rfl (j := 0) rfl ?_
  refine m_getI hC hK fi_63 dX2_oneLine_1 ?_
  refine r_bipush hC dX2_oneLine_4 kb_20 ?_
  refine r_icmp_ge hC dX2_oneLine_6 (tgt := 16) (by decide) (fun c1 => ?_) (fun c1 => ?_)
  · have hf := dh_if hf c1
    refine r_bipush hC dX2_oneLine_16 kb_20 ?_
    exact r_sub [0] rfl (wM_oneLine_b18 hC hK hR M 20 hf)
  · have hf := dh_el hf c1
    refine r_aload_n hC dX2_oneLine_9 rfl (j := 0) rfl ?_
    refine m_getI hC hK fi_63 dX2_oneLine_10 ?_
    refine r_goto hC dX2_oneLine_13 (tgt := 18) (by decide) ?_
    exact r_sub [0] rfl (wM_oneLine_b18 hC hK hR M (M.1 63 0) hf)
theorem cM_oneLine (l : Launch) (E : dm_E) (A : Nat → Prop) (M : dm_M) {p : Int32 × dm_M} (h : gM_oneLine M = some p) : dm_Met l yX2_oneLine cX2_oneLine 4 (some .boolean) 3 71 E A [.ref (dm_am E)] M (some (.int p.1)) p.2 := by
  refine dh_met (by decide) (Nat.le_of_ble_eq_true rfl) (fun _ _ h => ⟨_, h.1⟩) (fun C hl hR hC hnm hK => ?_)
  exact wM_oneLine hC hK hR M h
theorem q_oneLine : dm_calV yX2_oneLine cX2_oneLine 4 (some .boolean) 0 := ⟨q1749, qs53, q1750, by decide +kernel⟩
