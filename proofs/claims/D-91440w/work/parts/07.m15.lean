set_option maxRecDepth 100000
/-! tell(II)I -/
def gM_tell (M : dm_M) (x1 : Int32) (x2 : Int32) : Option (Int32 × dm_M) :=
  (some (dm_set M 0 0 0)).bind fun M1 =>
  (gM_isPerson M1 x1).bind fun p2 =>
  if p2 = 0 then (
    some ((-100), M1))
  else
  if x2 = 0 then (
    (dm_rd M1 9 x1).bind fun v5 =>
    some (v5, M1))
  else
  if x2 = 1 then (
    (dm_rd M1 10 x1).bind fun v7 =>
    some (v7, M1))
  else
  if x2 = 2 then (
    (dm_rd M1 11 x1).bind fun v9 =>
    if v9 = 0 then (
      some (0, M1))
    else
    some (1, M1))
  else
  if x2 = 3 then (
    (dm_rd M1 12 x1).bind fun v12 =>
    some (v12, M1))
  else
  if x2 = 4 then (
    (dm_rd M1 13 x1).bind fun v14 =>
    some (v14, M1))
  else
  if x2 = 5 then (
    (dm_rd M1 14 x1).bind fun v16 =>
    some (v16, M1))
  else
  if x2 = 6 then (
    (dm_rd M1 15 x1).bind fun v18 =>
    if v18 = 0 then (
      some (0, M1))
    else
    some (1, M1))
  else
  if x2 = 7 then (
    (dm_rd M1 16 x1).bind fun v21 =>
    some (v21, M1))
  else
  if x2 = 8 then (
    (dm_rd M1 17 x1).bind fun v23 =>
    some (v23, M1))
  else
  if x2 = 9 then (
    (dm_rd M1 18 x1).bind fun v25 =>
    some (v25, M1))
  else
  if x2 = 10 then (
    (dm_rd M1 19 x1).bind fun v27 =>
    some (v27, M1))
  else
  if x2 = 11 then (
    (gM_dueFrom M1 x1).bind fun p29 =>
    some (p29, M1))
  else
  if x2 = 12 then (
    (gM_dueTo M1 x1).bind fun p31 =>
    some (p31, M1))
  else
  if x2 = 13 then (
    (dm_rd M1 20 x1).bind fun v33 =>
    if v33 = 0 then (
      some (0, M1))
    else
    some (1, M1))
  else
  if x2 = 14 then (
    (dm_rd M1 22 x1).bind fun v36 =>
    some (-v36, M1))
  else
  some ((-100), M1)
theorem wM_tell {C : dh_C} {A : Nat → Prop} {E : dm_E} (hC : dh_ok C cX2_tell 3 RX2 (some .int)) (hK : dm_Kn E (dh_s C)) (hR : dh_R C = { frames := 3, cells := 0, slots := 0, locals := 65 }) {r : Int32} {M' : dm_M} (M : dm_M) (x1 : Int32) (x2 : Int32) (hf : gM_tell M x1 x2 = some (r, M')) : dh_W C A (dm_P E A M) (dm_Q E A (some (.int r)) M') 0 0 0 0 0 [(0, .ref (dm_am E)), (1, .int x1), (2, .int x2)] [] := by
  unfold gM_tell at hf
  refine r_aload_n hC dX2_tell_0 rfl (j := 0) rfl ?_
  refine r_iconst hC dX2_tell_1 ki_0 ?_
  obtain ⟨M1, h1, hf⟩ := dh_bd hf
  refine m_putI hC hK fi_0 dX2_tell_2 h1 ?_
  refine r_aload_n hC dX2_tell_5 rfl (j := 0) rfl ?_
  refine r_iload_n hC dX2_tell_6 rfl (j := 1) rfl ?_
  obtain ⟨p2, h2, hf⟩ := dh_bd hf
  refine m_callV' hC hK hR (cM_isPerson _ E A M1 x1 h2) q1650 q_isPerson (Nat.le_of_ble_eq_true rfl) (Nat.le_of_ble_eq_true rfl) rfl (Nat.le_of_ble_eq_true rfl) dX2_tell_7 ?_
  refine r_if_ne hC dX2_tell_10 (tgt := 16) (by decide) (fun c3 => ?_) (fun c3 => ?_)
  · have hf := dh_el hf c3
    refine r_iload_n hC dX2_tell_16 rfl (j := 2) rfl ?_
    by_cases c4 : x2 = 0
    · have hf := dh_if hf c4
      refine r_tableAt hC dX2_tell_17 (tgt := 92) 0 (by rw [c4]; rfl) (by decide) (by decide) rfl (by decide) ?_
      refine r_aload_n hC dX2_tell_92 rfl (j := 0) rfl ?_
      refine m_getA hC hK fa_9 dX2_tell_93 ?_
      refine r_iload_n hC dX2_tell_96 rfl (j := 1) rfl ?_
      obtain ⟨v5, h5, hf⟩ := dh_bd hf
      refine m_iald hC hK kd_9 h5 dX2_tell_97 ?_
      exact m_iret hC dX2_tell_98 rfl hf
    have hf := dh_el hf c4
    by_cases c6 : x2 = 1
    · have hf := dh_if hf c6
      refine r_tableAt hC dX2_tell_17 (tgt := 99) 1 (by rw [c6]; rfl) (by decide) (by decide) rfl (by decide) ?_
      refine r_aload_n hC dX2_tell_99 rfl (j := 0) rfl ?_
      refine m_getA hC hK fa_10 dX2_tell_100 ?_
      refine r_iload_n hC dX2_tell_103 rfl (j := 1) rfl ?_
      obtain ⟨v7, h7, hf⟩ := dh_bd hf
      refine m_iald hC hK kd_10 h7 dX2_tell_104 ?_
      exact m_iret hC dX2_tell_105 rfl hf
    have hf := dh_el hf c6
    by_cases c8 : x2 = 2
    · have hf := dh_if hf c8
      refine r_tableAt hC dX2_tell_17 (tgt := 106) 2 (by rw [c8]; rfl) (by decide) (by decide) rfl (by decide) ?_
      refine r_aload_n hC dX2_tell_106 rfl (j := 0) rfl ?_
      refine m_getA hC hK fa_11 dX2_tell_107 ?_
      refine r_iload_n hC dX2_tell_110 rfl (j := 1) rfl ?_
      obtain ⟨v9, h9, hf⟩ := dh_bd hf
      refine m_zald hC hK kd_11 h9 dX2_tell_111 ?_
      refine r_if_eq hC dX2_tell_112 (tgt := 119) (by decide) (fun c10 => ?_) (fun c10 => ?_)
      · have hf := dh_if hf c10
        refine r_iconst hC dX2_tell_119 ki_0 ?_
        exact m_iret hC dX2_tell_120 rfl hf
      · have hf := dh_el hf c10
        refine r_iconst hC dX2_tell_115 ki_1 ?_
        refine r_goto hC dX2_tell_116 (tgt := 120) (by decide) ?_
        exact m_iret hC dX2_tell_120 rfl hf
    have hf := dh_el hf c8
    by_cases c11 : x2 = 3
    · have hf := dh_if hf c11
      refine r_tableAt hC dX2_tell_17 (tgt := 121) 3 (by rw [c11]; rfl) (by decide) (by decide) rfl (by decide) ?_
      refine r_aload_n hC dX2_tell_121 rfl (j := 0) rfl ?_
      refine m_getA hC hK fa_12 dX2_tell_122 ?_
      refine r_iload_n hC dX2_tell_125 rfl (j := 1) rfl ?_
      obtain ⟨v12, h12, hf⟩ := dh_bd hf
      refine m_iald hC hK kd_12 h12 dX2_tell_126 ?_
      exact m_iret hC dX2_tell_127 rfl hf
    have hf := dh_el hf c11
    by_cases c13 : x2 = 4
    · have hf := dh_if hf c13
      refine r_tableAt hC dX2_tell_17 (tgt := 128) 4 (by rw [c13]; rfl) (by decide) (by decide) rfl (by decide) ?_
      refine r_aload_n hC dX2_tell_128 rfl (j := 0) rfl ?_
      refine m_getA hC hK fa_13 dX2_tell_129 ?_
      refine r_iload_n hC dX2_tell_132 rfl (j := 1) rfl ?_
      obtain ⟨v14, h14, hf⟩ := dh_bd hf
      refine m_iald hC hK kd_13 h14 dX2_tell_133 ?_
      exact m_iret hC dX2_tell_134 rfl hf
    have hf := dh_el hf c13
    by_cases c15 : x2 = 5
    · have hf := dh_if hf c15
      refine r_tableAt hC dX2_tell_17 (tgt := 135) 5 (by rw [c15]; rfl) (by decide) (by decide) rfl (by decide) ?_
      refine r_aload_n hC dX2_tell_135 rfl (j := 0) rfl ?_
      refine m_getA hC hK fa_14 dX2_tell_136 ?_
      refine r_iload_n hC dX2_tell_139 rfl (j := 1) rfl ?_
      obtain ⟨v16, h16, hf⟩ := dh_bd hf
      refine m_iald hC hK kd_14 h16 dX2_tell_140 ?_
      exact m_iret hC dX2_tell_141 rfl hf
    have hf := dh_el hf c15
    by_cases c17 : x2 = 6
    · have hf := dh_if hf c17
      refine r_tableAt hC dX2_tell_17 (tgt := 142) 6 (by rw [c17]; rfl) (by decide) (by decide) rfl (by decide) ?_
      refine r_aload_n hC dX2_tell_142 rfl (j := 0) rfl ?_
      refine m_getA hC hK fa_15 dX2_tell_143 ?_
      refine r_iload_n hC dX2_tell_146 rfl (j := 1) rfl ?_
      obtain ⟨v18, h18, hf⟩ := dh_bd hf
      refine m_zald hC hK kd_15 h18 dX2_tell_147 ?_
      refine r_if_eq hC dX2_tell_148 (tgt := 155) (by decide) (fun c19 => ?_) (fun c19 => ?_)
      · have hf := dh_if hf c19
        refine r_iconst hC dX2_tell_155 ki_0 ?_
        exact m_iret hC dX2_tell_156 rfl hf
      · have hf := dh_el hf c19
        refine r_iconst hC dX2_tell_151 ki_1 ?_
        refine r_goto hC dX2_tell_152 (tgt := 156) (by decide) ?_
        exact m_iret hC dX2_tell_156 rfl hf
    have hf := dh_el hf c17
    by_cases c20 : x2 = 7
    · have hf := dh_if hf c20
      refine r_tableAt hC dX2_tell_17 (tgt := 157) 7 (by rw [c20]; rfl) (by decide) (by decide) rfl (by decide) ?_
      refine r_aload_n hC dX2_tell_157 rfl (j := 0) rfl ?_
      refine m_getA hC hK fa_16 dX2_tell_158 ?_
      refine r_iload_n hC dX2_tell_161 rfl (j := 1) rfl ?_
      obtain ⟨v21, h21, hf⟩ := dh_bd hf
      refine m_iald hC hK kd_16 h21 dX2_tell_162 ?_
      exact m_iret hC dX2_tell_163 rfl hf
    have hf := dh_el hf c20
    by_cases c22 : x2 = 8
    · have hf := dh_if hf c22
      refine r_tableAt hC dX2_tell_17 (tgt := 164) 8 (by rw [c22]; rfl) (by decide) (by decide) rfl (by decide) ?_
      refine r_aload_n hC dX2_tell_164 rfl (j := 0) rfl ?_
      refine m_getA hC hK fa_17 dX2_tell_165 ?_
      refine r_iload_n hC dX2_tell_168 rfl (j := 1) rfl ?_
      obtain ⟨v23, h23, hf⟩ := dh_bd hf
      refine m_iald hC hK kd_17 h23 dX2_tell_169 ?_
      exact m_iret hC dX2_tell_170 rfl hf
    have hf := dh_el hf c22
    by_cases c24 : x2 = 9
    · have hf := dh_if hf c24
      refine r_tableAt hC dX2_tell_17 (tgt := 171) 9 (by rw [c24]; rfl) (by decide) (by decide) rfl (by decide) ?_
      refine r_aload_n hC dX2_tell_171 rfl (j := 0) rfl ?_
      refine m_getA hC hK fa_18 dX2_tell_172 ?_
      refine r_iload_n hC dX2_tell_175 rfl (j := 1) rfl ?_
      obtain ⟨v25, h25, hf⟩ := dh_bd hf
      refine m_iald hC hK kd_18 h25 dX2_tell_176 ?_
      exact m_iret hC dX2_tell_177 rfl hf
    have hf := dh_el hf c24
    by_cases c26 : x2 = 10
    · have hf := dh_if hf c26
      refine r_tableAt hC dX2_tell_17 (tgt := 178) 10 (by rw [c26]; rfl) (by decide) (by decide) rfl (by decide) ?_
      refine r_aload_n hC dX2_tell_178 rfl (j := 0) rfl ?_
      refine m_getA hC hK fa_19 dX2_tell_179 ?_
      refine r_iload_n hC dX2_tell_182 rfl (j := 1) rfl ?_
      obtain ⟨v27, h27, hf⟩ := dh_bd hf
      refine m_iald hC hK kd_19 h27 dX2_tell_183 ?_
      exact m_iret hC dX2_tell_184 rfl hf
    have hf := dh_el hf c26
    by_cases c28 : x2 = 11
    · have hf := dh_if hf c28
      refine r_tableAt hC dX2_tell_17 (tgt := 185) 11 (by rw [c28]; rfl) (by decide) (by decide) rfl (by decide) ?_
      refine r_aload_n hC dX2_tell_185 rfl (j := 0) rfl ?_
      refine r_iload_n hC dX2_tell_186 rfl (j := 1) rfl ?_
      obtain ⟨p29, h29, hf⟩ := dh_bd hf
      refine m_callV' hC hK hR (cM_dueFrom _ E A M1 x1 h29) q1896 q_dueFrom (Nat.le_of_ble_eq_true rfl) (Nat.le_of_ble_eq_true rfl) rfl (Nat.le_of_ble_eq_true rfl) dX2_tell_187 ?_
      exact m_iret hC dX2_tell_190 rfl hf
    have hf := dh_el hf c28
    by_cases c30 : x2 = 12
    · have hf := dh_if hf c30
      refine r_tableAt hC dX2_tell_17 (tgt := 191) 12 (by rw [c30]; rfl) (by decide) (by decide) rfl (by decide) ?_
      refine r_aload_n hC dX2_tell_191 rfl (j := 0) rfl ?_
      refine r_iload_n hC dX2_tell_192 rfl (j := 1) rfl ?_
      obtain ⟨p31, h31, hf⟩ := dh_bd hf
      refine m_callV' hC hK hR (cM_dueTo _ E A M1 x1 h31) q1900 q_dueTo (Nat.le_of_ble_eq_true rfl) (Nat.le_of_ble_eq_true rfl) rfl (Nat.le_of_ble_eq_true rfl) dX2_tell_193 ?_
      exact m_iret hC dX2_tell_196 rfl hf
    have hf := dh_el hf c30
    by_cases c32 : x2 = 13
    · have hf := dh_if hf c32
      refine r_tableAt hC dX2_tell_17 (tgt := 197) 13 (by rw [c32]; rfl) (by decide) (by decide) rfl (by decide) ?_
      refine r_aload_n hC dX2_tell_197 rfl (j := 0) rfl ?_
      refine m_getA hC hK fa_20 dX2_tell_198 ?_
      refine r_iload_n hC dX2_tell_201 rfl (j := 1) rfl ?_
      obtain ⟨v33, h33, hf⟩ := dh_bd hf
      refine m_zald hC hK kd_20 h33 dX2_tell_202 ?_
      refine r_if_eq hC dX2_tell_203 (tgt := 210) (by decide) (fun c34 => ?_) (fun c34 => ?_)
      · have hf := dh_if hf c34
        refine r_iconst hC dX2_tell_210 ki_0 ?_
        exact m_iret hC dX2_tell_211 rfl hf
      · have hf := dh_el hf c34
        refine r_iconst hC dX2_tell_206 ki_1 ?_
        refine r_goto hC dX2_tell_207 (tgt := 211) (by decide) ?_
        exact m_iret hC dX2_tell_211 rfl hf
    have hf := dh_el hf c32
    by_cases c35 : x2 = 14
    · have hf := dh_if hf c35
      refine r_tableAt hC dX2_tell_17 (tgt := 212) 14 (by rw [c35]; rfl) (by decide) (by decide) rfl (by decide) ?_
      refine r_aload_n hC dX2_tell_212 rfl (j := 0) rfl ?_
      refine m_getA hC hK fa_22 dX2_tell_213 ?_
      refine r_iload_n hC dX2_tell_216 rfl (j := 1) rfl ?_
      obtain ⟨v36, h36, hf⟩ := dh_bd hf
      refine m_iald hC hK kd_22 h36 dX2_tell_217 ?_
      refine r_ineg hC dX2_tell_218 ?_
      exact m_iret hC dX2_tell_219 rfl hf
    have hf := dh_el hf c35
    refine r_tableOut hC dX2_tell_17 (tgt := 220) (by have := lv_neT c4 (a := 0) rfl; have := lv_neT c6 (a := 1) rfl; have := lv_neT c8 (a := 2) rfl; have := lv_neT c11 (a := 3) rfl; have := lv_neT c13 (a := 4) rfl; have := lv_neT c15 (a := 5) rfl; have := lv_neT c17 (a := 6) rfl; have := lv_neT c20 (a := 7) rfl; have := lv_neT c22 (a := 8) rfl; have := lv_neT c24 (a := 9) rfl; have := lv_neT c26 (a := 10) rfl; have := lv_neT c28 (a := 11) rfl; have := lv_neT c30 (a := 12) rfl; have := lv_neT c32 (a := 13) rfl; have := lv_neT c35 (a := 14) rfl; omega) (by decide) ?_
    refine r_bipush hC dX2_tell_220 kb_m100 ?_
    exact m_iret hC dX2_tell_222 rfl hf
  · have hf := dh_if hf c3
    refine r_bipush hC dX2_tell_13 kb_m100 ?_
    exact m_iret hC dX2_tell_15 rfl hf
theorem cM_tell (l : Launch) (E : dm_E) (A : Nat → Prop) (M : dm_M) (x1 : Int32) (x2 : Int32) {p : Int32 × dm_M} (h : gM_tell M x1 x2 = some p) : dm_Met l yX2_tell cX2_tell 3 (some .int) 3 65 E A [.ref (dm_am E), .int x1, .int x2] M (some (.int p.1)) p.2 := by
  refine dh_met (by decide) (Nat.le_of_ble_eq_true rfl) (fun _ _ h => ⟨_, h.1⟩) (fun C hl hR hC hnm hK => ?_)
  exact wM_tell hC hK hR M x1 x2 h
theorem q_tell : dm_calV yX2_tell cX2_tell 3 (some .int) 2 := ⟨q1893, q1894, q1895, by decide +kernel⟩
/-! tells(III)I -/
def gM_tells (M : dm_M) (x1 : Int32) (x2 : Int32) (x3 : Int32) : Option (Int32 × dm_M) :=
  (some (dm_set M 0 0 0)).bind fun M1 =>
  (gM_isPerson M1 x1).bind fun p2 =>
  if p2 = 0 then (
    some ((-1), M1))
  else
  (gM_in M1 x2 0 8).bind fun p4 =>
  if p4 = 0 then (
    some ((-1), M1))
  else
  (dm_rd M1 43 0).bind fun v6 =>
  (gM_in M1 x3 (-1) (v6 - 1)).bind fun p7 =>
  if p7 = 0 then (
    some ((-1), M1))
  else
  (gM_lookAt M1 x1).bind fun p9 =>
  if x3 = (-1) then (
    (dm_rd p9 5 0).bind fun v12 =>
    (dm_rd p9 5 0).bind fun v13 =>
    (gM_goodOn p9 v12 v13).bind fun p14 =>
    (gM_tellsBy p9 x2 p14).bind fun p15 =>
    some (p15, p9))
  else
  (gM_tellsBy p9 x2 x3).bind fun p11 =>
  some (p11, p9)
theorem wM_tells {C : dh_C} {A : Nat → Prop} {E : dm_E} (hC : dh_ok C cX2_tells 4 RX2 (some .int)) (hK : dm_Kn E (dh_s C)) (hR : dh_R C = { frames := 3, cells := 0, slots := 0, locals := 64 }) {r : Int32} {M' : dm_M} (M : dm_M) (x1 : Int32) (x2 : Int32) (x3 : Int32) (hf : gM_tells M x1 x2 x3 = some (r, M')) : dh_W C A (dm_P E A M) (dm_Q E A (some (.int r)) M') 0 0 0 0 0 [(0, .ref (dm_am E)), (1, .int x1), (2, .int x2), (3, .int x3)] [] := by
  unfold gM_tells at hf
  refine r_aload_n hC dX2_tells_0 rfl (j := 0) rfl ?_
  refine r_iconst hC dX2_tells_1 ki_0 ?_
  obtain ⟨M1, h1, hf⟩ := dh_bd hf
  refine m_putI hC hK fi_0 dX2_tells_2 h1 ?_
  refine r_aload_n hC dX2_tells_5 rfl (j := 0) rfl ?_
  refine r_iload_n hC dX2_tells_6 rfl (j := 1) rfl ?_
  obtain ⟨p2, h2, hf⟩ := dh_bd hf
  refine m_callV' hC hK hR (cM_isPerson _ E A M1 x1 h2) q1650 q_isPerson (Nat.le_of_ble_eq_true rfl) (Nat.le_of_ble_eq_true rfl) rfl (Nat.le_of_ble_eq_true rfl) dX2_tells_7 ?_
  refine r_if_eq hC dX2_tells_10 (tgt := 39) (by decide) (fun c3 => ?_) (fun c3 => ?_)
  · have hf := dh_if hf c3
    refine r_iconst hC dX2_tells_39 ki_m1 ?_
    exact m_iret hC dX2_tells_40 rfl hf
  · have hf := dh_el hf c3
    refine r_iload_n hC dX2_tells_13 rfl (j := 2) rfl ?_
    refine r_iconst hC dX2_tells_14 ki_0 ?_
    refine r_bipush hC dX2_tells_15 kb_8 ?_
    obtain ⟨p4, h4, hf⟩ := dh_bd hf
    refine m_callS' hC hK hR (cM_in _ E A M1 x2 0 8 h4) q1639 q_in (Nat.le_of_ble_eq_true rfl) (Nat.le_of_ble_eq_true rfl) rfl (Nat.le_of_ble_eq_true rfl) dX2_tells_17 ?_
    refine r_if_eq hC dX2_tells_20 (tgt := 39) (by decide) (fun c5 => ?_) (fun c5 => ?_)
    · have hf := dh_if hf c5
      refine r_iconst hC dX2_tells_39 ki_m1 ?_
      exact m_iret hC dX2_tells_40 rfl hf
    · have hf := dh_el hf c5
      refine r_iload_n hC dX2_tells_23 rfl (j := 3) rfl ?_
      refine r_iconst hC dX2_tells_24 ki_m1 ?_
      refine r_aload_n hC dX2_tells_25 rfl (j := 0) rfl ?_
      refine m_getA hC hK fa_43 dX2_tells_26 ?_
      refine r_iconst hC dX2_tells_29 ki_0 ?_
      obtain ⟨v6, h6, hf⟩ := dh_bd hf
      refine m_iald hC hK kd_43 h6 dX2_tells_30 ?_
      refine r_iconst hC dX2_tells_31 ki_1 ?_
      refine r_isub hC dX2_tells_32 ?_
      obtain ⟨p7, h7, hf⟩ := dh_bd hf
      refine m_callS' hC hK hR (cM_in _ E A M1 x3 (-1) (v6 - 1) h7) q1639 q_in (Nat.le_of_ble_eq_true rfl) (Nat.le_of_ble_eq_true rfl) rfl (Nat.le_of_ble_eq_true rfl) dX2_tells_33 ?_
      refine r_if_ne hC dX2_tells_36 (tgt := 41) (by decide) (fun c8 => ?_) (fun c8 => ?_)
      · have hf := dh_el hf c8
        refine r_aload_n hC dX2_tells_41 rfl (j := 0) rfl ?_
        refine r_iload_n hC dX2_tells_42 rfl (j := 1) rfl ?_
        obtain ⟨p9, h9, hf⟩ := dh_bd hf
        refine m_callV' hC hK hR (cM_lookAt _ E A M1 x1 h9) q1821 q_lookAt (Nat.le_of_ble_eq_true rfl) (Nat.le_of_ble_eq_true rfl) rfl (Nat.le_of_ble_eq_true rfl) dX2_tells_43 ?_
        refine r_aload_n hC dX2_tells_46 rfl (j := 0) rfl ?_
        refine r_iload_n hC dX2_tells_47 rfl (j := 2) rfl ?_
        refine r_iload_n hC dX2_tells_48 rfl (j := 3) rfl ?_
        refine r_iconst hC dX2_tells_49 ki_m1 ?_
        refine r_icmp_ne hC dX2_tells_50 (tgt := 72) (by decide) (fun c10 => ?_) (fun c10 => ?_)
        · have hf := dh_el hf c10
          refine r_iload_n hC dX2_tells_72 rfl (j := 3) rfl ?_
          obtain ⟨p11, h11, hf⟩ := dh_bd hf
          refine m_callV' hC hK hR (cM_tellsBy _ E A p9 x2 x3 h11) q1825 q_tellsBy (Nat.le_of_ble_eq_true rfl) (Nat.le_of_ble_eq_true rfl) rfl (Nat.le_of_ble_eq_true rfl) dX2_tells_73 ?_
          exact m_iret hC dX2_tells_76 rfl hf
        · have hf := dh_if hf c10
          refine r_aload_n hC dX2_tells_53 rfl (j := 0) rfl ?_
          refine r_aload_n hC dX2_tells_54 rfl (j := 0) rfl ?_
          refine m_getA hC hK fa_5 dX2_tells_55 ?_
          refine r_iconst hC dX2_tells_58 ki_0 ?_
          obtain ⟨v12, h12, hf⟩ := dh_bd hf
          refine m_iald hC hK kd_5 h12 dX2_tells_59 ?_
          refine r_aload_n hC dX2_tells_60 rfl (j := 0) rfl ?_
          refine m_getA hC hK fa_5 dX2_tells_61 ?_
          refine r_iconst hC dX2_tells_64 ki_0 ?_
          obtain ⟨v13, h13, hf⟩ := dh_bd hf
          refine m_iald hC hK kd_5 h13 dX2_tells_65 ?_
          obtain ⟨p14, h14, hf⟩ := dh_bd hf
          refine m_callV' hC hK hR (cM_goodOn _ E A p9 v12 v13 h14) q1813 q_goodOn (Nat.le_of_ble_eq_true rfl) (Nat.le_of_ble_eq_true rfl) rfl (Nat.le_of_ble_eq_true rfl) dX2_tells_66 ?_
          refine r_goto hC dX2_tells_69 (tgt := 73) (by decide) ?_
          obtain ⟨p15, h15, hf⟩ := dh_bd hf
          refine m_callV' hC hK hR (cM_tellsBy _ E A p9 x2 p14 h15) q1825 q_tellsBy (Nat.le_of_ble_eq_true rfl) (Nat.le_of_ble_eq_true rfl) rfl (Nat.le_of_ble_eq_true rfl) dX2_tells_73 ?_
          exact m_iret hC dX2_tells_76 rfl hf
      · have hf := dh_if hf c8
        refine r_iconst hC dX2_tells_39 ki_m1 ?_
        exact m_iret hC dX2_tells_40 rfl hf
theorem cM_tells (l : Launch) (E : dm_E) (A : Nat → Prop) (M : dm_M) (x1 : Int32) (x2 : Int32) (x3 : Int32) {p : Int32 × dm_M} (h : gM_tells M x1 x2 x3 = some p) : dm_Met l yX2_tells cX2_tells 4 (some .int) 3 64 E A [.ref (dm_am E), .int x1, .int x2, .int x3] M (some (.int p.1)) p.2 := by
  refine dh_met (by decide) (Nat.le_of_ble_eq_true rfl) (fun _ _ h => ⟨_, h.1⟩) (fun C hl hR hC hnm hK => ?_)
  exact wM_tells hC hK hR M x1 x2 x3 h
theorem q_tells : dm_calV yX2_tells cX2_tells 4 (some .int) 3 := ⟨q1818, q1819, q1820, by decide +kernel⟩
/-! tire(II)Z -/
def gM_tire (M : dm_M) (x1 : Int32) (x2 : Int32) : Option (Int32 × dm_M) :=
  (some (dm_set M 0 0 0)).bind fun M1 =>
  (gM_areTwo M1 x1 x2).bind fun p2 =>
  if p2 = 0 then (
    some (0, M1))
  else
  (dm_rd M1 19 x2).bind fun v4 =>
  if ((v4 >>> (x1 &&& 31)) &&& 1) = 0 then (
    some (0, M1))
  else
  (dm_rd M1 19 x2).bind fun v6 =>
  (dm_wr M1 19 x2 (v6 &&& ((1 <<< (x1 &&& 31)) ^^^ (-1)))).bind fun M7 =>
  some (1, M7)
theorem wM_tire {C : dh_C} {A : Nat → Prop} {E : dm_E} (hC : dh_ok C cX2_tire 3 RX2 (some .boolean)) (hK : dm_Kn E (dh_s C)) (hR : dh_R C = { frames := 3, cells := 0, slots := 0, locals := 65 }) {r : Int32} {M' : dm_M} (M : dm_M) (x1 : Int32) (x2 : Int32) (hf : gM_tire M x1 x2 = some (r, M')) : dh_W C A (dm_P E A M) (dm_Q E A (some (.int r)) M') 0 0 0 0 0 [(0, .ref (dm_am E)), (1, .int x1), (2, .int x2)] [] := by
  unfold gM_tire at hf
  refine r_aload_n hC dX2_tire_0 rfl (j := 0) rfl ?_
  refine r_iconst hC dX2_tire_1 ki_0 ?_
  obtain ⟨M1, h1, hf⟩ := dh_bd hf
  refine m_putI hC hK fi_0 dX2_tire_2 h1 ?_
  refine r_aload_n hC dX2_tire_5 rfl (j := 0) rfl ?_
  refine r_iload_n hC dX2_tire_6 rfl (j := 1) rfl ?_
  refine r_iload_n hC dX2_tire_7 rfl (j := 2) rfl ?_
  obtain ⟨p2, h2, hf⟩ := dh_bd hf
  refine m_callV' hC hK hR (cM_areTwo _ E A M1 x1 x2 h2) q1646 q_areTwo (Nat.le_of_ble_eq_true rfl) (Nat.le_of_ble_eq_true rfl) rfl (Nat.le_of_ble_eq_true rfl) dX2_tire_8 ?_
  refine r_if_eq hC dX2_tire_11 (tgt := 27) (by decide) (fun c3 => ?_) (fun c3 => ?_)
  · have hf := dh_if hf c3
    refine r_iconst hC dX2_tire_27 ki_0 ?_
    exact m_zret hC dX2_tire_28 rfl rfl hf
  · have hf := dh_el hf c3
    refine r_aload_n hC dX2_tire_14 rfl (j := 0) rfl ?_
    refine m_getA hC hK fa_19 dX2_tire_15 ?_
    refine r_iload_n hC dX2_tire_18 rfl (j := 2) rfl ?_
    obtain ⟨v4, h4, hf⟩ := dh_bd hf
    refine m_iald hC hK kd_19 h4 dX2_tire_19 ?_
    refine r_iload_n hC dX2_tire_20 rfl (j := 1) rfl ?_
    refine r_ishr hC dX2_tire_21 ?_
    refine r_iconst hC dX2_tire_22 ki_1 ?_
    refine r_iand hC dX2_tire_23 ?_
    refine r_if_ne hC dX2_tire_24 (tgt := 29) (by decide) (fun c5 => ?_) (fun c5 => ?_)
    · have hf := dh_el hf c5
      refine r_aload_n hC dX2_tire_29 rfl (j := 0) rfl ?_
      refine m_getA hC hK fa_19 dX2_tire_30 ?_
      refine r_iload_n hC dX2_tire_33 rfl (j := 2) rfl ?_
      refine r_dup2_11 hC dX2_tire_34 rfl rfl ?_
      obtain ⟨v6, h6, hf⟩ := dh_bd hf
      refine m_iald hC hK kd_19 h6 dX2_tire_35 ?_
      refine r_iconst hC dX2_tire_36 ki_1 ?_
      refine r_iload_n hC dX2_tire_37 rfl (j := 1) rfl ?_
      refine r_ishl hC dX2_tire_38 ?_
      refine r_iconst hC dX2_tire_39 ki_m1 ?_
      refine r_ixor hC dX2_tire_40 ?_
      refine r_iand hC dX2_tire_41 ?_
      obtain ⟨M7, h7, hf⟩ := dh_bd hf
      refine m_iast hC hK kd_19 h7 dX2_tire_42 ?_
      refine r_iconst hC dX2_tire_43 ki_1 ?_
      exact m_zret hC dX2_tire_44 rfl rfl hf
    · have hf := dh_if hf c5
      refine r_iconst hC dX2_tire_27 ki_0 ?_
      exact m_zret hC dX2_tire_28 rfl rfl hf
theorem cM_tire (l : Launch) (E : dm_E) (A : Nat → Prop) (M : dm_M) (x1 : Int32) (x2 : Int32) {p : Int32 × dm_M} (h : gM_tire M x1 x2 = some p) : dm_Met l yX2_tire cX2_tire 3 (some .boolean) 3 65 E A [.ref (dm_am E), .int x1, .int x2] M (some (.int p.1)) p.2 := by
  refine dh_met (by decide) (Nat.le_of_ble_eq_true rfl) (fun _ _ h => ⟨_, h.1⟩) (fun C hl hR hC hnm hK => ?_)
  exact wM_tire hC hK hR M x1 x2 h
theorem q_tire : dm_calV yX2_tire cX2_tire 3 (some .boolean) 2 := ⟨q1853, q1854, q1855, by decide +kernel⟩
/-! turn()I -/
def gM_turn (M : dm_M) : Option (Int32 × dm_M) :=
  (some (dm_set M 0 0 0)).bind fun M1 =>
  (gM_theTurn M1).bind fun p2 =>
  some (p2, M1)
theorem wM_turn {C : dh_C} {A : Nat → Prop} {E : dm_E} (hC : dh_ok C cX2_turn 1 RX2 (some .int)) (hK : dm_Kn E (dh_s C)) (hR : dh_R C = { frames := 1, cells := 0, slots := 0, locals := 23 }) {r : Int32} {M' : dm_M} (M : dm_M) (hf : gM_turn M = some (r, M')) : dh_W C A (dm_P E A M) (dm_Q E A (some (.int r)) M') 0 0 0 0 0 [(0, .ref (dm_am E))] [] := by
  unfold gM_turn at hf
  refine r_aload_n hC dX2_turn_0 rfl (j := 0) rfl ?_
  refine r_iconst hC dX2_turn_1 ki_0 ?_
  obtain ⟨M1, h1, hf⟩ := dh_bd hf
  refine m_putI hC hK fi_0 dX2_turn_2 h1 ?_
  refine r_aload_n hC dX2_turn_5 rfl (j := 0) rfl ?_
  obtain ⟨p2, h2, hf⟩ := dh_bd hf
  refine m_callV' hC hK hR (cM_theTurn _ E A M1 h2) q1880 q_theTurn (Nat.le_of_ble_eq_true rfl) (Nat.le_of_ble_eq_true rfl) rfl (Nat.le_of_ble_eq_true rfl) dX2_turn_6 ?_
  exact m_iret hC dX2_turn_9 rfl hf
theorem cM_turn (l : Launch) (E : dm_E) (A : Nat → Prop) (M : dm_M) {p : Int32 × dm_M} (h : gM_turn M = some p) : dm_Met l yX2_turn cX2_turn 1 (some .int) 1 23 E A [.ref (dm_am E)] M (some (.int p.1)) p.2 := by
  refine dh_met (by decide) (Nat.le_of_ble_eq_true rfl) (fun _ _ h => ⟨_, h.1⟩) (fun C hl hR hC hnm hK => ?_)
  exact wM_turn hC hK hR M h
theorem q_turn : dm_calV yX2_turn cX2_turn 1 (some .int) 0 := ⟨q1885, q1886, q1887, by decide +kernel⟩
/-! walk(IZ)Z -/
def gM_walk (M : dm_M) (x1 : Int32) (x2 : Int32) : Option (Int32 × dm_M) :=
  (some (dm_set M 0 0 0)).bind fun M1 =>
  (gM_isPerson M1 x1).bind fun p2 =>
  if p2 = 0 then (
    some (0, M1))
  else
  (dm_rd M1 11 x1).bind fun v4 =>
  if v4 = 0 then (
    some (0, M1))
  else
  (dm_rd M1 15 x1).bind fun v6 =>
  if v6 = x2 then (
    some (0, M1))
  else
  if x2 = 0 then (
    (dm_wr M1 15 x1 (vp_nar .boolean x2)).bind fun M9 =>
    some (1, M9))
  else
  (gM_tellsNow M1 x1 3).bind fun p10 =>
  if p10.1 = 0 then (
    some (0, p10.2))
  else
  (dm_wr p10.2 15 x1 (vp_nar .boolean x2)).bind fun M12 =>
  some (1, M12)
theorem wM_walk {C : dh_C} {A : Nat → Prop} {E : dm_E} (hC : dh_ok C cX2_walk 3 RX2 (some .boolean)) (hK : dm_Kn E (dh_s C)) (hR : dh_R C = { frames := 4, cells := 0, slots := 0, locals := 86 }) {r : Int32} {M' : dm_M} (M : dm_M) (x1 : Int32) (x2 : Int32) (hf : gM_walk M x1 x2 = some (r, M')) : dh_W C A (dm_P E A M) (dm_Q E A (some (.int r)) M') 0 0 0 0 0 [(0, .ref (dm_am E)), (1, .int x1), (2, .int x2)] [] := by
  unfold gM_walk at hf
  refine r_aload_n hC dX2_walk_0 rfl (j := 0) rfl ?_
  refine r_iconst hC dX2_walk_1 ki_0 ?_
  obtain ⟨M1, h1, hf⟩ := dh_bd hf
  refine m_putI hC hK fi_0 dX2_walk_2 h1 ?_
  refine r_aload_n hC dX2_walk_5 rfl (j := 0) rfl ?_
  refine r_iload_n hC dX2_walk_6 rfl (j := 1) rfl ?_
  obtain ⟨p2, h2, hf⟩ := dh_bd hf
  refine m_callV' hC hK hR (cM_isPerson _ E A M1 x1 h2) q1650 q_isPerson (Nat.le_of_ble_eq_true rfl) (Nat.le_of_ble_eq_true rfl) rfl (Nat.le_of_ble_eq_true rfl) dX2_walk_7 ?_
  refine r_if_eq hC dX2_walk_10 (tgt := 45) (by decide) (fun c3 => ?_) (fun c3 => ?_)
  · have hf := dh_if hf c3
    refine r_iconst hC dX2_walk_45 ki_0 ?_
    exact m_zret hC dX2_walk_46 rfl rfl hf
  · have hf := dh_el hf c3
    refine r_aload_n hC dX2_walk_13 rfl (j := 0) rfl ?_
    refine m_getA hC hK fa_11 dX2_walk_14 ?_
    refine r_iload_n hC dX2_walk_17 rfl (j := 1) rfl ?_
    obtain ⟨v4, h4, hf⟩ := dh_bd hf
    refine m_zald hC hK kd_11 h4 dX2_walk_18 ?_
    refine r_if_eq hC dX2_walk_19 (tgt := 45) (by decide) (fun c5 => ?_) (fun c5 => ?_)
    · have hf := dh_if hf c5
      refine r_iconst hC dX2_walk_45 ki_0 ?_
      exact m_zret hC dX2_walk_46 rfl rfl hf
    · have hf := dh_el hf c5
      refine r_aload_n hC dX2_walk_22 rfl (j := 0) rfl ?_
      refine m_getA hC hK fa_15 dX2_walk_23 ?_
      refine r_iload_n hC dX2_walk_26 rfl (j := 1) rfl ?_
      obtain ⟨v6, h6, hf⟩ := dh_bd hf
      refine m_zald hC hK kd_15 h6 dX2_walk_27 ?_
      refine r_iload_n hC dX2_walk_28 rfl (j := 2) rfl ?_
      refine r_icmp_eq hC dX2_walk_29 (tgt := 45) (by decide) (fun c7 => ?_) (fun c7 => ?_)
      · have hf := dh_if hf c7
        refine r_iconst hC dX2_walk_45 ki_0 ?_
        exact m_zret hC dX2_walk_46 rfl rfl hf
      · have hf := dh_el hf c7
        refine r_iload_n hC dX2_walk_32 rfl (j := 2) rfl ?_
        refine r_if_eq hC dX2_walk_33 (tgt := 47) (by decide) (fun c8 => ?_) (fun c8 => ?_)
        · have hf := dh_if hf c8
          refine r_aload_n hC dX2_walk_47 rfl (j := 0) rfl ?_
          refine m_getA hC hK fa_15 dX2_walk_48 ?_
          refine r_iload_n hC dX2_walk_51 rfl (j := 1) rfl ?_
          refine r_iload_n hC dX2_walk_52 rfl (j := 2) rfl ?_
          obtain ⟨M9, h9, hf⟩ := dh_bd hf
          refine m_zast hC hK kd_15 h9 dX2_walk_53 ?_
          refine r_iconst hC dX2_walk_54 ki_1 ?_
          exact m_zret hC dX2_walk_55 rfl rfl hf
        · have hf := dh_el hf c8
          refine r_aload_n hC dX2_walk_36 rfl (j := 0) rfl ?_
          refine r_iload_n hC dX2_walk_37 rfl (j := 1) rfl ?_
          refine r_iconst hC dX2_walk_38 ki_3 ?_
          obtain ⟨p10, h10, hf⟩ := dh_bd hf
          refine m_callV' hC hK hR (cM_tellsNow _ E A M1 x1 3 h10) q1848 q_tellsNow (Nat.le_of_ble_eq_true rfl) (Nat.le_of_ble_eq_true rfl) rfl (Nat.le_of_ble_eq_true rfl) dX2_walk_39 ?_
          refine r_if_ne hC dX2_walk_42 (tgt := 47) (by decide) (fun c11 => ?_) (fun c11 => ?_)
          · have hf := dh_el hf c11
            refine r_aload_n hC dX2_walk_47 rfl (j := 0) rfl ?_
            refine m_getA hC hK fa_15 dX2_walk_48 ?_
            refine r_iload_n hC dX2_walk_51 rfl (j := 1) rfl ?_
            refine r_iload_n hC dX2_walk_52 rfl (j := 2) rfl ?_
            obtain ⟨M12, h12, hf⟩ := dh_bd hf
            refine m_zast hC hK kd_15 h12 dX2_walk_53 ?_
            refine r_iconst hC dX2_walk_54 ki_1 ?_
            exact m_zret hC dX2_walk_55 rfl rfl hf
          · have hf := dh_if hf c11
            refine r_iconst hC dX2_walk_45 ki_0 ?_
            exact m_zret hC dX2_walk_46 rfl rfl hf
theorem cM_walk (l : Launch) (E : dm_E) (A : Nat → Prop) (M : dm_M) (x1 : Int32) (x2 : Int32) {p : Int32 × dm_M} (h : gM_walk M x1 x2 = some p) : dm_Met l yX2_walk cX2_walk 3 (some .boolean) 4 86 E A [.ref (dm_am E), .int x1, .int x2] M (some (.int p.1)) p.2 := by
  refine dh_met (by decide) (Nat.le_of_ble_eq_true rfl) (fun _ _ h => ⟨_, h.1⟩) (fun C hl hR hC hnm hK => ?_)
  exact wM_walk hC hK hR M x1 x2 h
theorem q_walk : dm_calV yX2_walk cX2_walk 3 (some .boolean) 2 := ⟨q1869, q1870, q1871, by decide +kernel⟩
