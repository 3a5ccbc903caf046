set_option maxRecDepth 100000
/-! image(I)Z -/
def gM_image (M : dm_M) (x1 : Int32) : Option (Int32 × dm_M) :=
  (some (dm_set M 0 0 0)).bind fun M1 =>
  (gM_in M1 x1 0 2).bind fun p2 =>
  if p2 = 0 then (
    some (0, M1))
  else
  (gM_copy M1 0 (x1 + 1)).bind fun p4 =>
  (dm_wr p4 79 x1 (vp_nar .boolean 1)).bind fun M5 =>
  some (1, M5)
theorem wM_image {C : dh_C} {A : Nat → Prop} {E : dm_E} (hC : dh_ok C cX2_image 2 RX2 (some .boolean)) (hK : dm_Kn E (dh_s C)) (hR : dh_R C = { frames := 3, cells := 0, slots := 0, locals := 69 }) {r : Int32} {M' : dm_M} (M : dm_M) (x1 : Int32) (hf : gM_image M x1 = some (r, M')) : dh_W C A (dm_P E A M) (dm_Q E A (some (.int r)) M') 0 0 0 0 0 [(0, .ref (dm_am E)), (1, .int x1)] [] := by
  unfold gM_image at hf
  refine r_aload_n hC dX2_image_0 rfl (j := 0) rfl ?_
  refine r_iconst hC dX2_image_1 ki_0 ?_
  obtain ⟨M1, h1, hf⟩ := dh_bd hf
  refine m_putI hC hK fi_0 dX2_image_2 h1 ?_
  refine r_iload_n hC dX2_image_5 rfl (j := 1) rfl ?_
  refine r_iconst hC dX2_image_6 ki_0 ?_
  refine r_iconst hC dX2_image_7 ki_2 ?_
  obtain ⟨p2, h2, hf⟩ := dh_bd hf
  refine m_callS' hC hK hR (cM_in _ E A M1 x1 0 2 h2) q1639 q_in (Nat.le_of_ble_eq_true rfl) (Nat.le_of_ble_eq_true rfl) rfl (Nat.le_of_ble_eq_true rfl) dX2_image_8 ?_
  refine r_if_ne hC dX2_image_11 (tgt := 16) (by decide) (fun c3 => ?_) (fun c3 => ?_)
  · have hf := dh_el hf c3
    refine r_aload_n hC dX2_image_16 rfl (j := 0) rfl ?_
    refine r_iconst hC dX2_image_17 ki_0 ?_
    refine r_iload_n hC dX2_image_18 rfl (j := 1) rfl ?_
    refine r_iconst hC dX2_image_19 ki_1 ?_
    refine r_iadd hC dX2_image_20 ?_
    obtain ⟨p4, h4, hf⟩ := dh_bd hf
    refine m_callV' hC hK hR (cM_copy _ E A M1 0 (x1 + 1) h4) q1981 q_copy (Nat.le_of_ble_eq_true rfl) (Nat.le_of_ble_eq_true rfl) rfl (Nat.le_of_ble_eq_true rfl) dX2_image_21 ?_
    refine r_aload_n hC dX2_image_24 rfl (j := 0) rfl ?_
    refine m_getA hC hK fa_79 dX2_image_25 ?_
    refine r_iload_n hC dX2_image_28 rfl (j := 1) rfl ?_
    refine r_iconst hC dX2_image_29 ki_1 ?_
    obtain ⟨M5, h5, hf⟩ := dh_bd hf
    refine m_zast hC hK kd_79 h5 dX2_image_30 ?_
    refine r_iconst hC dX2_image_31 ki_1 ?_
    exact m_zret hC dX2_image_32 rfl rfl hf
  · have hf := dh_if hf c3
    refine r_iconst hC dX2_image_14 ki_0 ?_
    exact m_zret hC dX2_image_15 rfl rfl hf
theorem cM_image (l : Launch) (E : dm_E) (A : Nat → Prop) (M : dm_M) (x1 : Int32) {p : Int32 × dm_M} (h : gM_image M x1 = some p) : dm_Met l yX2_image cX2_image 2 (some .boolean) 3 69 E A [.ref (dm_am E), .int x1] M (some (.int p.1)) p.2 := by
  refine dh_met (by decide) (Nat.le_of_ble_eq_true rfl) (fun _ _ h => ⟨_, h.1⟩) (fun C hl hR hC hnm hK => ?_)
  exact wM_image hC hK hR M x1 h
theorem q_image : dm_calV yX2_image cX2_image 2 (some .boolean) 1 := ⟨q1978, q1979, q1980, by decide +kernel⟩
/-! lawful(III)Z -/
def gM_lawful_b115 (k76 : (dm_M → Int32 → Int32 → Int32 → Int32 → Int32 → Option (Int32 × dm_M))) (M : dm_M) (x1 : Int32) (x2 : Int32) (x3 : Int32) (x4 : Int32) (x5 : Int32) (y0 : Int32) : Option (Int32 × dm_M) :=
  (dm_rd M 26 x5).bind fun v24 =>
  if v24 = x1 then (
    (dm_rd M 31 x5).bind fun v26 =>
    if x2 < v26 then (
      k76 M x1 x2 x3 x4 (x5 + 1))
    else
    (dm_rd M 32 x5).bind fun v28 =>
    if x3 < v28 then (
      k76 M x1 x2 x3 x4 (x5 + 1))
    else
    if y0 = 0 then (
      k76 M x1 x2 x3 x4 (x5 + 1))
    else
    (dm_rd M 70 0).bind fun v31 =>
    (dm_rd M 28 x5).bind fun v32 =>
    (dm_wr M 70 0 (v31 + v32)).bind fun M33 =>
    (dm_rd M33 70 1).bind fun v34 =>
    (dm_wr M33 70 1 (v34 + 1)).bind fun M35 =>
    (dm_rd M35 29 x5).bind fun v36 =>
    (dm_rd M35 70 2).bind fun v37 =>
    if v37 ≤ v36 then (
      (dm_rd M35 70 2).bind fun v39 =>
      (dm_wr M35 70 2 v39).bind fun M40 =>
      k76 M40 x1 x2 x3 x4 (x5 + 1))
    else
    (dm_rd M35 29 x5).bind fun v41 =>
    (dm_wr M35 70 2 v41).bind fun M42 =>
    k76 M42 x1 x2 x3 x4 (x5 + 1))
  else
  k76 M x1 x2 x3 x4 (x5 + 1)
theorem wM_lawful_b115 {C : dh_C} {A : Nat → Prop} {E : dm_E} (hC : dh_ok C cX2_lawful 7 RX2 (some .boolean)) (hK : dm_Kn E (dh_s C)) (hR : dh_R C = { frames := 2, cells := 0, slots := 0, locals := 48 }) {r : Int32} {M' : dm_M} (k76 : (dm_M → Int32 → Int32 → Int32 → Int32 → Int32 → Option (Int32 × dm_M))) (hk76 : ∀ (M : dm_M) (x1 : Int32) (x2 : Int32) (x3 : Int32) (x4 : Int32) (x5 : Int32), k76 M x1 x2 x3 x4 x5 = some (r, M') → dh_W C A (dm_P E A M) (dm_Q E A (some (.int r)) M') 0 0 0 0 76 [(0, .ref (dm_am E)), (1, .int x1), (2, .int x2), (3, .int x3), (4, .int x4), (5, .int x5)] []) (M : dm_M) (x1 : Int32) (x2 : Int32) (x3 : Int32) (x4 : Int32) (x5 : Int32) (y0 : Int32) (hf : gM_lawful_b115 k76 M x1 x2 x3 x4 x5 y0 = some (r, M')) : dh_W C A (dm_P E A M) (dm_Q E A (some (.int r)) M') 0 0 0 0 115 [(0, .ref (dm_am E)), (1, .int x1), (2, .int x2), (3, .int x3), (4, .int x4), (5, .int x5)] [.int y0] := by
  unfold gM_lawful_b115 at hf
  refine r_istore (lv' := [(6, .int y0), (0, .ref (dm_am E)), (1, .int x1), (2, .int x2), (3, .int x3), (4, .int x4), (5, .int x5)]) hC dX2_lawful_115 (Nat.le_of_ble_eq_true rfl) rfl ?_
  refine r_aload_n hC dX2_lawful_117 rfl (j := 1) rfl ?_
  refine m_getA hC hK fa_26 dX2_lawful_118 ?_
  refine r_iload hC dX2_lawful_121 (j := 6) rfl ?_
  obtain ⟨v24, h24, hf⟩ := dh_bd hf
  refine m_iald hC hK kd_26 h24 dX2_lawful_123 ?_
  refine r_iload_n hC dX2_lawful_124 rfl (j := 2) rfl ?_
  refine r_icmp_ne hC dX2_lawful_125 (tgt := 219) (by decide) (fun c25 => ?_) (fun c25 => ?_)
  · have hf := dh_el hf c25
    refine r_iinc (lv' := [(5, .int (x5 + 1)), (6, .int y0), (0, .ref (dm_am E)), (1, .int x1), (2, .int x2), (3, .int x3), (4, .int x4)]) hC dX2_lawful_219 (j := 6) rfl (congrArg _ ki_1) (Nat.le_of_ble_eq_true rfl) rfl ?_
    refine r_goto hC dX2_lawful_222 (tgt := 76) (by decide) ?_
    exact r_sub [2, 3, 4, 5, 6, 0] rfl (hk76 M x1 x2 x3 x4 (x5 + 1) hf)
  · have hf := dh_if hf c25
    refine r_aload_n hC dX2_lawful_128 rfl (j := 1) rfl ?_
    refine m_getA hC hK fa_31 dX2_lawful_129 ?_
    refine r_iload hC dX2_lawful_132 (j := 6) rfl ?_
    obtain ⟨v26, h26, hf⟩ := dh_bd hf
    refine m_iald hC hK kd_31 h26 dX2_lawful_134 ?_
    refine r_iload_n hC dX2_lawful_135 rfl (j := 3) rfl ?_
    refine r_icmp_gt hC dX2_lawful_136 (tgt := 219) (by decide) (fun c27 => ?_) (fun c27 => ?_)
    · have hf := dh_if hf c27
      refine r_iinc (lv' := [(5, .int (x5 + 1)), (6, .int y0), (0, .ref (dm_am E)), (1, .int x1), (2, .int x2), (3, .int x3), (4, .int x4)]) hC dX2_lawful_219 (j := 6) rfl (congrArg _ ki_1) (Nat.le_of_ble_eq_true rfl) rfl ?_
      refine r_goto hC dX2_lawful_222 (tgt := 76) (by decide) ?_
      exact r_sub [2, 3, 4, 5, 6, 0] rfl (hk76 M x1 x2 x3 x4 (x5 + 1) hf)
    · have hf := dh_el hf c27
      refine r_aload_n hC dX2_lawful_139 rfl (j := 1) rfl ?_
      refine m_getA hC hK fa_32 dX2_lawful_140 ?_
      refine r_iload hC dX2_lawful_143 (j := 6) rfl ?_
      obtain ⟨v28, h28, hf⟩ := dh_bd hf
      refine m_iald hC hK kd_32 h28 dX2_lawful_145 ?_
      refine r_iload_n hC dX2_lawful_146 rfl (j := 4) rfl ?_
      refine r_icmp_gt hC dX2_lawful_147 (tgt := 219) (by decide) (fun c29 => ?_) (fun c29 => ?_)
      · have hf := dh_if hf c29
        refine r_iinc (lv' := [(5, .int (x5 + 1)), (6, .int y0), (0, .ref (dm_am E)), (1, .int x1), (2, .int x2), (3, .int x3), (4, .int x4)]) hC dX2_lawful_219 (j := 6) rfl (congrArg _ ki_1) (Nat.le_of_ble_eq_true rfl) rfl ?_
        refine r_goto hC dX2_lawful_222 (tgt := 76) (by decide) ?_
        exact r_sub [2, 3, 4, 5, 6, 0] rfl (hk76 M x1 x2 x3 x4 (x5 + 1) hf)
      · have hf := dh_el hf c29
        refine r_iload hC dX2_lawful_150 (j := 0) rfl ?_
        refine r_if_eq hC dX2_lawful_152 (tgt := 219) (by decide) (fun c30 => ?_) (fun c30 => ?_)
        · have hf := dh_if hf c30
          refine r_iinc (lv' := [(5, .int (x5 + 1)), (6, .int y0), (0, .ref (dm_am E)), (1, .int x1), (2, .int x2), (3, .int x3), (4, .int x4)]) hC dX2_lawful_219 (j := 6) rfl (congrArg _ ki_1) (Nat.le_of_ble_eq_true rfl) rfl ?_
          refine r_goto hC dX2_lawful_222 (tgt := 76) (by decide) ?_
          exact r_sub [2, 3, 4, 5, 6, 0] rfl (hk76 M x1 x2 x3 x4 (x5 + 1) hf)
        · have hf := dh_el hf c30
          refine r_aload_n hC dX2_lawful_155 rfl (j := 1) rfl ?_
          refine m_getA hC hK fa_70 dX2_lawful_156 ?_
          refine r_iconst hC dX2_lawful_159 ki_0 ?_
          refine r_dup2_11 hC dX2_lawful_160 rfl rfl ?_
          obtain ⟨v31, h31, hf⟩ := dh_bd hf
          refine m_iald hC hK kd_70 h31 dX2_lawful_161 ?_
          refine r_aload_n hC dX2_lawful_162 rfl (j := 1) rfl ?_
          refine m_getA hC hK fa_28 dX2_lawful_163 ?_
          refine r_iload hC dX2_lawful_166 (j := 6) rfl ?_
          obtain ⟨v32, h32, hf⟩ := dh_bd hf
          refine m_iald hC hK kd_28 h32 dX2_lawful_168 ?_
          refine r_iadd hC dX2_lawful_169 ?_
          obtain ⟨M33, h33, hf⟩ := dh_bd hf
          refine m_iast hC hK kd_70 h33 dX2_lawful_170 ?_
          refine r_aload_n hC dX2_lawful_171 rfl (j := 1) rfl ?_
          refine m_getA hC hK fa_70 dX2_lawful_172 ?_
          refine r_iconst hC dX2_lawful_175 ki_1 ?_
          refine r_dup2_11 hC dX2_lawful_176 rfl rfl ?_
          obtain ⟨v34, h34, hf⟩ := dh_bd hf
          refine m_iald hC hK kd_70 h34 dX2_lawful_177 ?_
          refine r_iconst hC dX2_lawful_178 ki_1 ?_
          refine r_iadd hC dX2_lawful_179 ?_
          obtain ⟨M35, h35, hf⟩ := dh_bd hf
          refine m_iast hC hK kd_70 h35 dX2_lawful_180 ?_
          refine r_aload_n hC dX2_lawful_181 rfl (j := 1) rfl ?_
          refine m_getA hC hK fa_70 dX2_lawful_182 ?_
          refine r_iconst hC dX2_lawful_185 ki_2 ?_
          refine r_aload_n hC dX2_lawful_186 rfl (j := 1) rfl ?_
          refine m_getA hC hK fa_29 dX2_lawful_187 ?_
          refine r_iload hC dX2_lawful_190 (j := 6) rfl ?_
          obtain ⟨v36, h36, hf⟩ := dh_bd hf
          refine m_iald hC hK kd_29 h36 dX2_lawful_192 ?_
          refine r_aload_n hC dX2_lawful_193 rfl (j := 1) rfl ?_
          refine m_getA hC hK fa_70 dX2_lawful_194 ?_
          refine r_iconst hC dX2_lawful_197 ki_2 ?_
          obtain ⟨v37, h37, hf⟩ := dh_bd hf
          refine m_iald hC hK kd_70 h37 dX2_lawful_198 ?_
          refine r_icmp_ge hC dX2_lawful_199 (tgt := 212) (by decide) (fun c38 => ?_) (fun c38 => ?_)
          · have hf := dh_if hf c38
            refine r_aload_n hC dX2_lawful_212 rfl (j := 1) rfl ?_
            refine m_getA hC hK fa_70 dX2_lawful_213 ?_
            refine r_iconst hC dX2_lawful_216 ki_2 ?_
            obtain ⟨v39, h39, hf⟩ := dh_bd hf
            refine m_iald hC hK kd_70 h39 dX2_lawful_217 ?_
            obtain ⟨M40, h40, hf⟩ := dh_bd hf
            refine m_iast hC hK kd_70 h40 dX2_lawful_218 ?_
            refine r_iinc (lv' := [(5, .int (x5 + 1)), (6, .int y0), (0, .ref (dm_am E)), (1, .int x1), (2, .int x2), (3, .int x3), (4, .int x4)]) hC dX2_lawful_219 (j := 6) rfl (congrArg _ ki_1) (Nat.le_of_ble_eq_true rfl) rfl ?_
            refine r_goto hC dX2_lawful_222 (tgt := 76) (by decide) ?_
            exact r_sub [2, 3, 4, 5, 6, 0] rfl (hk76 M40 x1 x2 x3 x4 (x5 + 1) hf)
          · have hf := dh_el hf c38
            refine r_aload_n hC dX2_lawful_202 rfl (j := 1) rfl ?_
            refine m_getA hC hK fa_29 dX2_lawful_203 ?_
            refine r_iload hC dX2_lawful_206 (j := 6) rfl ?_
            obtain ⟨v41, h41, hf⟩ := dh_bd hf
            refine m_iald hC hK kd_29 h41 dX2_lawful_208 ?_
            refine r_goto hC dX2_lawful_209 (tgt := 218) (by decide) ?_
            obtain ⟨M42, h42, hf⟩ := dh_bd hf
            refine m_iast hC hK kd_70 h42 dX2_lawful_218 ?_
            refine r_iinc (lv' := [(5, .int (x5 + 1)), (6, .int y0), (0, .ref (dm_am E)), (1, .int x1), (2, .int x2), (3, .int x3), (4, .int x4)]) hC dX2_lawful_219 (j := 6) rfl (congrArg _ ki_1) (Nat.le_of_ble_eq_true rfl) rfl ?_
            refine r_goto hC dX2_lawful_222 (tgt := 76) (by decide) ?_
            exact r_sub [2, 3, 4, 5, 6, 0] rfl (hk76 M42 x1 x2 x3 x4 (x5 + 1) hf)
def gM_lawful_L76_F (k76 : (dm_M → Int32 → Int32 → Int32 → Int32 → Int32 → Option (Int32 × dm_M))) (M : dm_M) (x1 : Int32) (x2 : Int32) (x3 : Int32) (x4 : Int32) (x5 : Int32) : Option (Int32 × dm_M) :=
  (dm_rd M 25 0).bind fun v11 =>
  if ¬ (v11 ≤ x5) then (
    (dm_rd M 40 x5).bind fun v22 =>
    if v22 = (-1) then (
      gM_lawful_b115 k76 M x1 x2 x3 x4 x5 1)
    else
    (dm_rd M 40 x5).bind fun v43 =>
    if v43 ≤ x4 then (
      gM_lawful_b115 k76 M x1 x2 x3 x4 x5 0)
    else
    gM_lawful_b115 k76 M x1 x2 x3 x4 x5 1)
  else
  (dm_rd M 10 x1).bind fun v13 =>
  (dm_wr M 70 4 v13).bind fun M14 =>
  (dm_rd M14 9 x1).bind fun v15 =>
  (dm_wr M14 70 7 v15).bind fun M16 =>
  (dm_rd M16 70 1).bind fun v17 =>
  if v17 ≤ 0 then (
    some (0, M16))
  else
  (gM_goodOn M16 x2 x3).bind fun p19 =>
  (gM_tellsBy M16 0 p19).bind fun p20 =>
  if p20 = 0 then (
    some (0, M16))
  else
  some (1, M16)
theorem wM_lawful_L76_F {C : dh_C} {A : Nat → Prop} {E : dm_E} (hC : dh_ok C cX2_lawful 7 RX2 (some .boolean)) (hK : dm_Kn E (dh_s C)) (hR : dh_R C = { frames := 2, cells := 0, slots := 0, locals := 48 }) {r : Int32} {M' : dm_M} (k76 : (dm_M → Int32 → Int32 → Int32 → Int32 → Int32 → Option (Int32 × dm_M))) (hk76 : ∀ (M : dm_M) (x1 : Int32) (x2 : Int32) (x3 : Int32) (x4 : Int32) (x5 : Int32), k76 M x1 x2 x3 x4 x5 = some (r, M') → dh_W C A (dm_P E A M) (dm_Q E A (some (.int r)) M') 0 0 0 0 76 [(0, .ref (dm_am E)), (1, .int x1), (2, .int x2), (3, .int x3), (4, .int x4), (5, .int x5)] []) (M : dm_M) (x1 : Int32) (x2 : Int32) (x3 : Int32) (x4 : Int32) (x5 : Int32) (hf : gM_lawful_L76_F k76 M x1 x2 x3 x4 x5 = some (r, M')) : dh_W C A (dm_P E A M) (dm_Q E A (some (.int r)) M') 0 0 0 0 76 [(0, .ref (dm_am E)), (1, .int x1), (2, .int x2), (3, .int x3), (4, .int x4), (5, .int x5)] [] := by
  unfold gM_lawful_L76_F at hf
  refine r_iload hC dX2_lawful_76 (j := 5) rfl ?_
  refine r_aload_n hC dX2_lawful_78 rfl (j := 0) rfl ?_
  refine m_getA hC hK fa_25 dX2_lawful_79 ?_
  refine r_iconst hC dX2_lawful_82 ki_0 ?_
  obtain ⟨v11, h11, hf⟩ := dh_bd hf
  refine m_iald hC hK kd_25 h11 dX2_lawful_83 ?_
  refine r_icmp_ge hC dX2_lawful_84 (tgt := 225) (by decide) (fun c12 => ?_) (fun c12 => ?_)
  · have hf := dh_el hf (fun q => q c12)
    refine r_aload_n hC dX2_lawful_225 rfl (j := 0) rfl ?_
    refine m_getA hC hK fa_70 dX2_lawful_226 ?_
    refine r_iconst hC dX2_lawful_229 ki_4 ?_
    refine r_aload_n hC dX2_lawful_230 rfl (j := 0) rfl ?_
    refine m_getA hC hK fa_10 dX2_lawful_231 ?_
    refine r_iload_n hC dX2_lawful_234 rfl (j := 1) rfl ?_
    obtain ⟨v13, h13, hf⟩ := dh_bd hf
    refine m_iald hC hK kd_10 h13 dX2_lawful_235 ?_
    obtain ⟨M14, h14, hf⟩ := dh_bd hf
    refine m_iast hC hK kd_70 h14 dX2_lawful_236 ?_
    refine r_aload_n hC dX2_lawful_237 rfl (j := 0) rfl ?_
    refine m_getA hC hK fa_70 dX2_lawful_238 ?_
    refine r_bipush hC dX2_lawful_241 kb_7 ?_
    refine r_aload_n hC dX2_lawful_243 rfl (j := 0) rfl ?_
    refine m_getA hC hK fa_9 dX2_lawful_244 ?_
    refine r_iload_n hC dX2_lawful_247 rfl (j := 1) rfl ?_
    obtain ⟨v15, h15, hf⟩ := dh_bd hf
    refine m_iald hC hK kd_9 h15 dX2_lawful_248 ?_
    obtain ⟨M16, h16, hf⟩ := dh_bd hf
    refine m_iast hC hK kd_70 h16 dX2_lawful_249 ?_
    refine r_aload_n hC dX2_lawful_250 rfl (j := 0) rfl ?_
    refine m_getA hC hK fa_70 dX2_lawful_251 ?_
    refine r_iconst hC dX2_lawful_254 ki_1 ?_
    obtain ⟨v17, h17, hf⟩ := dh_bd hf
    refine m_iald hC hK kd_70 h17 dX2_lawful_255 ?_
    refine r_if_le hC dX2_lawful_256 (tgt := 277) (by decide) (fun c18 => ?_) (fun c18 => ?_)
    · have hf := dh_if hf c18
      refine r_iconst hC dX2_lawful_277 ki_0 ?_
      exact m_zret hC dX2_lawful_278 rfl rfl hf
    · have hf := dh_el hf c18
      refine r_aload_n hC dX2_lawful_259 rfl (j := 0) rfl ?_
      refine r_iconst hC dX2_lawful_260 ki_0 ?_
      refine r_aload_n hC dX2_lawful_261 rfl (j := 0) rfl ?_
      refine r_iload_n hC dX2_lawful_262 rfl (j := 2) rfl ?_
      refine r_iload_n hC dX2_lawful_263 rfl (j := 3) rfl ?_
      obtain ⟨p19, h19, hf⟩ := dh_bd hf
      refine m_callV' hC hK hR (cM_goodOn _ E A M16 x2 x3 h19) q1813 q_goodOn (Nat.le_of_ble_eq_true rfl) (Nat.le_of_ble_eq_true rfl) rfl (Nat.le_of_ble_eq_true rfl) dX2_lawful_264 ?_
      obtain ⟨p20, h20, hf⟩ := dh_bd hf
      refine m_callV' hC hK hR (cM_tellsBy _ E A M16 0 p19 h20) q1825 q_tellsBy (Nat.le_of_ble_eq_true rfl) (Nat.le_of_ble_eq_true rfl) rfl (Nat.le_of_ble_eq_true rfl) dX2_lawful_267 ?_
      refine r_if_eq hC dX2_lawful_270 (tgt := 277) (by decide) (fun c21 => ?_) (fun c21 => ?_)
      · have hf := dh_if hf c21
        refine r_iconst hC dX2_lawful_277 ki_0 ?_
        exact m_zret hC dX2_lawful_278 rfl rfl hf
      · have hf := dh_el hf c21
        refine r_iconst hC dX2_lawful_273 ki_1 ?_
        refine r_goto hC dX2_lawful_274 (tgt := 278) (by decide) ?_
        exact m_zret hC dX2_lawful_278 rfl rfl hf
  · have hf := dh_if hf c12
    refine r_aload_n hC dX2_lawful_87 rfl (j := 0) rfl ?_
    refine m_getA hC hK fa_40 dX2_lawful_88 ?_
    refine r_iload hC dX2_lawful_91 (j := 5) rfl ?_
    obtain ⟨v22, h22, hf⟩ := dh_bd hf
    refine m_iald hC hK kd_40 h22 dX2_lawful_93 ?_
    refine r_iconst hC dX2_lawful_94 ki_m1 ?_
    refine r_icmp_eq hC dX2_lawful_95 (tgt := 110) (by decide) (fun c23 => ?_) (fun c23 => ?_)
    · have hf := dh_if hf c23
      refine r_iconst hC dX2_lawful_110 ki_1 ?_
      refine r_goto hC dX2_lawful_111 (tgt := 115) (by decide) ?_
      exact r_sub [0, 1, 2, 3, 4, 5] rfl (wM_lawful_b115 hC hK hR k76 hk76 M x1 x2 x3 x4 x5 1 hf)
    · have hf := dh_el hf c23
      refine r_aload_n hC dX2_lawful_98 rfl (j := 0) rfl ?_
      refine m_getA hC hK fa_40 dX2_lawful_99 ?_
      refine r_iload hC dX2_lawful_102 (j := 5) rfl ?_
      obtain ⟨v43, h43, hf⟩ := dh_bd hf
      refine m_iald hC hK kd_40 h43 dX2_lawful_104 ?_
      refine r_iload hC dX2_lawful_105 (j := 4) rfl ?_
      refine r_icmp_le hC dX2_lawful_107 (tgt := 114) (by decide) (fun c44 => ?_) (fun c44 => ?_)
      · have hf := dh_if hf c44
        refine r_iconst hC dX2_lawful_114 ki_0 ?_
        exact r_sub [0, 1, 2, 3, 4, 5] rfl (wM_lawful_b115 hC hK hR k76 hk76 M x1 x2 x3 x4 x5 0 hf)
      · have hf := dh_el hf c44
        refine r_iconst hC dX2_lawful_110 ki_1 ?_
        refine r_goto hC dX2_lawful_111 (tgt := 115) (by decide) ?_
        exact r_sub [0, 1, 2, 3, 4, 5] rfl (wM_lawful_b115 hC hK hR k76 hk76 M x1 x2 x3 x4 x5 1 hf)
def gM_lawful_L76 : Nat → dm_M → Int32 → Int32 → Int32 → Int32 → Int32 → Option (Int32 × dm_M)
  | 0 => fun _ _ _ _ _ _ => none
  | n + 1 => gM_lawful_L76_F (gM_lawful_L76 n)
theorem wM_lawful_L76 {C : dh_C} {A : Nat → Prop} {E : dm_E} (hC : dh_ok C cX2_lawful 7 RX2 (some .boolean)) (hK : dm_Kn E (dh_s C)) (hR : dh_R C = { frames := 2, cells := 0, slots := 0, locals := 48 }) {r : Int32} {M' : dm_M} : ∀ (n : Nat) (M : dm_M) (x1 : Int32) (x2 : Int32) (x3 : Int32) (x4 : Int32) (x5 : Int32) (_ : gM_lawful_L76 n M x1 x2 x3 x4 x5 = some (r, M')), dh_W C A (dm_P E A M) (dm_Q E A (some (.int r)) M') 0 0 0 0 76 [(0, .ref (dm_am E)), (1, .int x1), (2, .int x2), (3, .int x3), (4, .int x4), (5, .int x5)] [] := by
  intro n
  induction n with
  | zero => intro M x1 x2 x3 x4 x5 hf; exact dh_no hf
  | succ n ih => intro M x1 x2 x3 x4 x5 hf; exact wM_lawful_L76_F hC hK hR (gM_lawful_L76 n) ih M x1 x2 x3 x4 x5 hf
def gM_lawful_L44_F (k44 : (dm_M → Int32 → Int32 → Int32 → Int32 → Int32 → Option (Int32 × dm_M))) (M : dm_M) (x1 : Int32) (x2 : Int32) (x3 : Int32) (x4 : Int32) (x5 : Int32) : Option (Int32 × dm_M) :=
  if 8 ≤ x5 then (
    (dm_wr M 70 2 9).bind fun M10 =>
    gM_lawful_L76 dh_fu M10 x1 x2 x3 x4 0)
  else
  (dm_wr M 70 x5 0).bind fun M45 =>
  k44 M45 x1 x2 x3 x4 (x5 + 1)
theorem wM_lawful_L44_F {C : dh_C} {A : Nat → Prop} {E : dm_E} (hC : dh_ok C cX2_lawful 7 RX2 (some .boolean)) (hK : dm_Kn E (dh_s C)) (hR : dh_R C = { frames := 2, cells := 0, slots := 0, locals := 48 }) {r : Int32} {M' : dm_M} (k44 : (dm_M → Int32 → Int32 → Int32 → Int32 → Int32 → Option (Int32 × dm_M))) (hk44 : ∀ (M : dm_M) (x1 : Int32) (x2 : Int32) (x3 : Int32) (x4 : Int32) (x5 : Int32), k44 M x1 x2 x3 x4 x5 = some (r, M') → dh_W C A (dm_P E A M) (dm_Q E A (some (.int r)) M') 0 0 0 0 44 [(0, .ref (dm_am E)), (1, .int x1), (2, .int x2), (3, .int x3), (4, .int x4), (5, .int x5)] []) (M : dm_M) (x1 : Int32) (x2 : Int32) (x3 : Int32) (x4 : Int32) (x5 : Int32) (hf : gM_lawful_L44_F k44 M x1 x2 x3 x4 x5 = some (r, M')) : dh_W C A (dm_P E A M) (dm_Q E A (some (.int r)) M') 0 0 0 0 44 [(0, .ref (dm_am E)), (1, .int x1), (2, .int x2), (3, .int x3), (4, .int x4), (5, .int x5)] [] := by
  unfold gM_lawful_L44_F at hf
  refine r_iload hC dX2_lawful_44 (j := 5) rfl ?_
  refine r_bipush hC dX2_lawful_46 kb_8 ?_
  refine r_icmp_ge hC dX2_lawful_48 (tgt := 65) (by decide) (fun c9 => ?_) (fun c9 => ?_)
  · have hf := dh_if hf c9
    refine r_aload_n hC dX2_lawful_65 rfl (j := 0) rfl ?_
    refine m_getA hC hK fa_70 dX2_lawful_66 ?_
    refine r_iconst hC dX2_lawful_69 ki_2 ?_
    refine r_bipush hC dX2_lawful_70 kb_9 ?_
    obtain ⟨M10, h10, hf⟩ := dh_bd hf
    refine m_iast hC hK kd_70 h10 dX2_lawful_72 ?_
    refine r_iconst hC dX2_lawful_73 ki_0 ?_
    refine r_istore (lv' := [(5, .int 0), (0, .ref (dm_am E)), (1, .int x1), (2, .int x2), (3, .int x3), (4, .int x4)]) hC dX2_lawful_74 (Nat.le_of_ble_eq_true rfl) rfl ?_
    exact r_sub [1, 2, 3, 4, 5, 0] rfl (wM_lawful_L76 hC hK hR dh_fu M10 x1 x2 x3 x4 0 hf)
  · have hf := dh_el hf c9
    refine r_aload_n hC dX2_lawful_51 rfl (j := 0) rfl ?_
    refine m_getA hC hK fa_70 dX2_lawful_52 ?_
    refine r_iload hC dX2_lawful_55 (j := 5) rfl ?_
    refine r_iconst hC dX2_lawful_57 ki_0 ?_
    obtain ⟨M45, h45, hf⟩ := dh_bd hf
    refine m_iast hC hK kd_70 h45 dX2_lawful_58 ?_
    refine r_iinc (lv' := [(5, .int (x5 + 1)), (0, .ref (dm_am E)), (1, .int x1), (2, .int x2), (3, .int x3), (4, .int x4)]) hC dX2_lawful_59 (j := 5) rfl (congrArg _ ki_1) (Nat.le_of_ble_eq_true rfl) rfl ?_
    refine r_goto hC dX2_lawful_62 (tgt := 44) (by decide) ?_
    exact r_sub [1, 2, 3, 4, 5, 0] rfl (hk44 M45 x1 x2 x3 x4 (x5 + 1) hf)
def gM_lawful_L44 : Nat → dm_M → Int32 → Int32 → Int32 → Int32 → Int32 → Option (Int32 × dm_M)
  | 0 => fun _ _ _ _ _ _ => none
  | n + 1 => gM_lawful_L44_F (gM_lawful_L44 n)
theorem wM_lawful_L44 {C : dh_C} {A : Nat → Prop} {E : dm_E} (hC : dh_ok C cX2_lawful 7 RX2 (some .boolean)) (hK : dm_Kn E (dh_s C)) (hR : dh_R C = { frames := 2, cells := 0, slots := 0, locals := 48 }) {r : Int32} {M' : dm_M} : ∀ (n : Nat) (M : dm_M) (x1 : Int32) (x2 : Int32) (x3 : Int32) (x4 : Int32) (x5 : Int32) (_ : gM_lawful_L44 n M x1 x2 x3 x4 x5 = some (r, M')), dh_W C A (dm_P E A M) (dm_Q E A (some (.int r)) M') 0 0 0 0 44 [(0, .ref (dm_am E)), (1, .int x1), (2, .int x2), (3, .int x3), (4, .int x4), (5, .int x5)] [] := by
  intro n
  induction n with
  | zero => intro M x1 x2 x3 x4 x5 hf; exact dh_no hf
  | succ n ih => intro M x1 x2 x3 x4 x5 hf; exact wM_lawful_L44_F hC hK hR (gM_lawful_L44 n) ih M x1 x2 x3 x4 x5 hf
def gM_lawful (M : dm_M) (x1 : Int32) (x2 : Int32) (x3 : Int32) : Option (Int32 × dm_M) :=
  (some (dm_set M 0 0 0)).bind fun M1 =>
  (gM_isPerson M1 x1).bind fun p2 =>
  if p2 = 0 then (
    some (0, M1))
  else
  (gM_isDay M1 x2).bind fun p4 =>
  if p4 = 0 then (
    some (0, M1))
  else
  (gM_isDay M1 x3).bind fun p6 =>
  if p6 = 0 then (
    some (0, M1))
  else
  if x3 ≤ x2 then (
    gM_lawful_L44 dh_fu M1 x1 x2 x3 x3 0)
  else
  gM_lawful_L44 dh_fu M1 x1 x2 x3 x2 0
theorem wM_lawful {C : dh_C} {A : Nat → Prop} {E : dm_E} (hC : dh_ok C cX2_lawful 7 RX2 (some .boolean)) (hK : dm_Kn E (dh_s C)) (hR : dh_R C = { frames := 2, cells := 0, slots := 0, locals := 48 }) {r : Int32} {M' : dm_M} (M : dm_M) (x1 : Int32) (x2 : Int32) (x3 : Int32) (hf : gM_lawful M x1 x2 x3 = some (r, M')) : dh_W C A (dm_P E A M) (dm_Q E A (some (.int r)) M') 0 0 0 0 0 [(0, .ref (dm_am E)), (1, .int x1), (2, .int x2), (3, .int x3)] [] := by
  unfold gM_lawful at hf
  refine r_aload_n hC dX2_lawful_0 rfl (j := 0) rfl ?_
  refine r_iconst hC dX2_lawful_1 ki_0 ?_
  obtain ⟨M1, h1, hf⟩ := dh_bd hf
  refine m_putI hC hK fi_0 dX2_lawful_2 h1 ?_
  refine r_aload_n hC dX2_lawful_5 rfl (j := 0) rfl ?_
  refine r_iload_n hC dX2_lawful_6 rfl (j := 1) rfl ?_
  obtain ⟨p2, h2, hf⟩ := dh_bd hf
  refine m_callV' hC hK hR (cM_isPerson _ E A M1 x1 h2) q1650 q_isPerson (Nat.le_of_ble_eq_true rfl) (Nat.le_of_ble_eq_true rfl) rfl (Nat.le_of_ble_eq_true rfl) dX2_lawful_7 ?_
  refine r_if_eq hC dX2_lawful_10 (tgt := 27) (by decide) (fun c3 => ?_) (fun c3 => ?_)
  · have hf := dh_if hf c3
    refine r_iconst hC dX2_lawful_27 ki_0 ?_
    exact m_zret hC dX2_lawful_28 rfl rfl hf
  · have hf := dh_el hf c3
    refine r_iload_n hC dX2_lawful_13 rfl (j := 2) rfl ?_
    obtain ⟨p4, h4, hf⟩ := dh_bd hf
    refine m_callS' hC hK hR (cM_isDay _ E A M1 x2 h4) q1736 q_isDay (Nat.le_of_ble_eq_true rfl) (Nat.le_of_ble_eq_true rfl) rfl (Nat.le_of_ble_eq_true rfl) dX2_lawful_14 ?_
    refine r_if_eq hC dX2_lawful_17 (tgt := 27) (by decide) (fun c5 => ?_) (fun c5 => ?_)
    · have hf := dh_if hf c5
      refine r_iconst hC dX2_lawful_27 ki_0 ?_
      exact m_zret hC dX2_lawful_28 rfl rfl hf
    · have hf := dh_el hf c5
      refine r_iload_n hC dX2_lawful_20 rfl (j := 3) rfl ?_
      obtain ⟨p6, h6, hf⟩ := dh_bd hf
      refine m_callS' hC hK hR (cM_isDay _ E A M1 x3 h6) q1736 q_isDay (Nat.le_of_ble_eq_true rfl) (Nat.le_of_ble_eq_true rfl) rfl (Nat.le_of_ble_eq_true rfl) dX2_lawful_21 ?_
      refine r_if_ne hC dX2_lawful_24 (tgt := 29) (by decide) (fun c7 => ?_) (fun c7 => ?_)
      · have hf := dh_el hf c7
        refine r_iload_n hC dX2_lawful_29 rfl (j := 2) rfl ?_
        refine r_iload_n hC dX2_lawful_30 rfl (j := 3) rfl ?_
        refine r_icmp_ge hC dX2_lawful_31 (tgt := 38) (by decide) (fun c8 => ?_) (fun c8 => ?_)
        · have hf := dh_if hf c8
          refine r_iload_n hC dX2_lawful_38 rfl (j := 3) rfl ?_
          refine r_istore (lv' := [(4, .int x3), (0, .ref (dm_am E)), (1, .int x1), (2, .int x2), (3, .int x3)]) hC dX2_lawful_39 (Nat.le_of_ble_eq_true rfl) rfl ?_
          refine r_iconst hC dX2_lawful_41 ki_0 ?_
          refine r_istore (lv' := [(5, .int 0), (4, .int x3), (0, .ref (dm_am E)), (1, .int x1), (2, .int x2), (3, .int x3)]) hC dX2_lawful_42 (Nat.le_of_ble_eq_true rfl) rfl ?_
          exact r_sub [2, 3, 4, 5, 1, 0] rfl (wM_lawful_L44 hC hK hR dh_fu M1 x1 x2 x3 x3 0 hf)
        · have hf := dh_el hf c8
          refine r_iload_n hC dX2_lawful_34 rfl (j := 2) rfl ?_
          refine r_goto hC dX2_lawful_35 (tgt := 39) (by decide) ?_
          refine r_istore (lv' := [(4, .int x2), (0, .ref (dm_am E)), (1, .int x1), (2, .int x2), (3, .int x3)]) hC dX2_lawful_39 (Nat.le_of_ble_eq_true rfl) rfl ?_
          refine r_iconst hC dX2_lawful_41 ki_0 ?_
          refine r_istore (lv' := [(5, .int 0), (4, .int x2), (0, .ref (dm_am E)), (1, .int x1), (2, .int x2), (3, .int x3)]) hC dX2_lawful_42 (Nat.le_of_ble_eq_true rfl) rfl ?_
          exact r_sub [2, 3, 4, 5, 1, 0] rfl (wM_lawful_L44 hC hK hR dh_fu M1 x1 x2 x3 x2 0 hf)
      · have hf := dh_if hf c7
        refine r_iconst hC dX2_lawful_27 ki_0 ?_
        exact m_zret hC dX2_lawful_28 rfl rfl hf
theorem cM_lawful (l : Launch) (E : dm_E) (A : Nat → Prop) (M : dm_M) (x1 : Int32) (x2 : Int32) (x3 : Int32) {p : Int32 × dm_M} (h : gM_lawful M x1 x2 x3 = some p) : dm_Met l yX2_lawful cX2_lawful 7 (some .boolean) 2 48 E A [.ref (dm_am E), .int x1, .int x2, .int x3] M (some (.int p.1)) p.2 := by
  refine dh_met (by decide) (Nat.le_of_ble_eq_true rfl) (fun _ _ h => ⟨_, h.1⟩) (fun C hl hR hC hnm hK => ?_)
  exact wM_lawful hC hK hR M x1 x2 x3 h
theorem q_lawful : dm_calV yX2_lawful cX2_lawful 7 (some .boolean) 3 := ⟨q1837, q1838, q1839, by decide +kernel⟩
/-! least(III)Z -/
def gM_least (M : dm_M) (x1 : Int32) (x2 : Int32) (x3 : Int32) : Option (Int32 × dm_M) :=
  (some (dm_set M 0 0 0)).bind fun M1 =>
  (gM_areTwo M1 x1 x2).bind fun p2 =>
  if p2 = 0 then (
    some (0, M1))
  else
  (gM_in M1 x3 0 1000).bind fun p4 =>
  if p4 = 0 then (
    some (0, M1))
  else
  (dm_wr M1 24 ((12 * x1) + x2) x3).bind fun M6 =>
  some (1, M6)
theorem wM_least {C : dh_C} {A : Nat → Prop} {E : dm_E} (hC : dh_ok C cX2_least 4 RX2 (some .boolean)) (hK : dm_Kn E (dh_s C)) (hR : dh_R C = { frames := 3, cells := 0, slots := 0, locals := 65 }) {r : Int32} {M' : dm_M} (M : dm_M) (x1 : Int32) (x2 : Int32) (x3 : Int32) (hf : gM_least M x1 x2 x3 = some (r, M')) : dh_W C A (dm_P E A M) (dm_Q E A (some (.int r)) M') 0 0 0 0 0 [(0, .ref (dm_am E)), (1, .int x1), (2, .int x2), (3, .int x3)] [] := by
  unfold gM_least at hf
  refine r_aload_n hC dX2_least_0 rfl (j := 0) rfl ?_
  refine r_iconst hC dX2_least_1 ki_0 ?_
  obtain ⟨M1, h1, hf⟩ := dh_bd hf
  refine m_putI hC hK fi_0 dX2_least_2 h1 ?_
  refine r_aload_n hC dX2_least_5 rfl (j := 0) rfl ?_
  refine r_iload_n hC dX2_least_6 rfl (j := 1) rfl ?_
  refine r_iload_n hC dX2_least_7 rfl (j := 2) rfl ?_
  obtain ⟨p2, h2, hf⟩ := dh_bd hf
  refine m_callV' hC hK hR (cM_areTwo _ E A M1 x1 x2 h2) q1646 q_areTwo (Nat.le_of_ble_eq_true rfl) (Nat.le_of_ble_eq_true rfl) rfl (Nat.le_of_ble_eq_true rfl) dX2_least_8 ?_
  refine r_if_eq hC dX2_least_11 (tgt := 25) (by decide) (fun c3 => ?_) (fun c3 => ?_)
  · have hf := dh_if hf c3
    refine r_iconst hC dX2_least_25 ki_0 ?_
    exact m_zret hC dX2_least_26 rfl rfl hf
  · have hf := dh_el hf c3
    refine r_iload_n hC dX2_least_14 rfl (j := 3) rfl ?_
    refine r_iconst hC dX2_least_15 ki_0 ?_
    refine r_sipush hC dX2_least_16 ks_1000 ?_
    obtain ⟨p4, h4, hf⟩ := dh_bd hf
    refine m_callS' hC hK hR (cM_in _ E A M1 x3 0 1000 h4) q1639 q_in (Nat.le_of_ble_eq_true rfl) (Nat.le_of_ble_eq_true rfl) rfl (Nat.le_of_ble_eq_true rfl) dX2_least_19 ?_
    refine r_if_ne hC dX2_least_22 (tgt := 27) (by decide) (fun c5 => ?_) (fun c5 => ?_)
    · have hf := dh_el hf c5
      refine r_aload_n hC dX2_least_27 rfl (j := 0) rfl ?_
      refine m_getA hC hK fa_24 dX2_least_28 ?_
      refine r_bipush hC dX2_least_31 kb_12 ?_
      refine r_iload_n hC dX2_least_33 rfl (j := 1) rfl ?_
      refine r_imul hC dX2_least_34 ?_
      refine r_iload_n hC dX2_least_35 rfl (j := 2) rfl ?_
      refine r_iadd hC dX2_least_36 ?_
      refine r_iload_n hC dX2_least_37 rfl (j := 3) rfl ?_
      obtain ⟨M6, h6, hf⟩ := dh_bd hf
      refine m_iast hC hK kd_24 h6 dX2_least_38 ?_
      refine r_iconst hC dX2_least_39 ki_1 ?_
      exact m_zret hC dX2_least_40 rfl rfl hf
    · have hf := dh_if hf c5
      refine r_iconst hC dX2_least_25 ki_0 ?_
      exact m_zret hC dX2_least_26 rfl rfl hf
theorem cM_least (l : Launch) (E : dm_E) (A : Nat → Prop) (M : dm_M) (x1 : Int32) (x2 : Int32) (x3 : Int32) {p : Int32 × dm_M} (h : gM_least M x1 x2 x3 = some p) : dm_Met l yX2_least cX2_least 4 (some .boolean) 3 65 E A [.ref (dm_am E), .int x1, .int x2, .int x3] M (some (.int p.1)) p.2 := by
  refine dh_met (by decide) (Nat.le_of_ble_eq_true rfl) (fun _ _ h => ⟨_, h.1⟩) (fun C hl hR hC hnm hK => ?_)
  exact wM_least hC hK hR M x1 x2 x3 h
theorem q_least : dm_calV yX2_least cX2_least 4 (some .boolean) 3 := ⟨q1905, q1906, q1907, by decide +kernel⟩
/-! leave(I)Z -/
def gM_leave (M : dm_M) (x1 : Int32) : Option (Int32 × dm_M) :=
  (some (dm_set M 0 0 0)).bind fun M1 =>
  (gM_isPerson M1 x1).bind fun p2 =>
  if p2 = 0 then (
    some (0, M1))
  else
  (dm_rd M1 11 x1).bind fun v4 =>
  if v4 = 0 then (
    some (0, M1))
  else
  (dm_rd M1 19 x1).bind fun v6 =>
  if v6 = 0 then (
    (dm_rd M1 15 x1).bind fun v8 =>
    if v8 = 0 then (
      (dm_rd M1 9 x1).bind fun v10 =>
      (dm_rd M1 14 x1).bind fun v11 =>
      if ¬ (v11 ≤ v10) then (
        some (0, M1))
      else
      (dm_rd M1 9 x1).bind fun v13 =>
      (dm_rd M1 14 x1).bind fun v14 =>
      (dm_wr M1 9 x1 (v13 - v14)).bind fun M15 =>
      (dm_rd M15 7 0).bind fun v16 =>
      (dm_rd M15 14 x1).bind fun v17 =>
      (dm_wr M15 7 0 (v16 + v17)).bind fun M18 =>
      (gM_goes M18 x1).bind fun p19 =>
      some (1, p19))
    else
    some (0, M1))
  else
  some (0, M1)
theorem wM_leave {C : dh_C} {A : Nat → Prop} {E : dm_E} (hC : dh_ok C cX2_leave 2 RX2 (some .boolean)) (hK : dm_Kn E (dh_s C)) (hR : dh_R C = { frames := 2, cells := 0, slots := 0, locals := 43 }) {r : Int32} {M' : dm_M} (M : dm_M) (x1 : Int32) (hf : gM_leave M x1 = some (r, M')) : dh_W C A (dm_P E A M) (dm_Q E A (some (.int r)) M') 0 0 0 0 0 [(0, .ref (dm_am E)), (1, .int x1)] [] := by
  unfold gM_leave at hf
  refine r_aload_n hC dX2_leave_0 rfl (j := 0) rfl ?_
  refine r_iconst hC dX2_leave_1 ki_0 ?_
  obtain ⟨M1, h1, hf⟩ := dh_bd hf
  refine m_putI hC hK fi_0 dX2_leave_2 h1 ?_
  refine r_aload_n hC dX2_leave_5 rfl (j := 0) rfl ?_
  refine r_iload_n hC dX2_leave_6 rfl (j := 1) rfl ?_
  obtain ⟨p2, h2, hf⟩ := dh_bd hf
  refine m_callV' hC hK hR (cM_isPerson _ E A M1 x1 h2) q1650 q_isPerson (Nat.le_of_ble_eq_true rfl) (Nat.le_of_ble_eq_true rfl) rfl (Nat.le_of_ble_eq_true rfl) dX2_leave_7 ?_
  refine r_if_eq hC dX2_leave_10 (tgt := 55) (by decide) (fun c3 => ?_) (fun c3 => ?_)
  · have hf := dh_if hf c3
    refine r_iconst hC dX2_leave_55 ki_0 ?_
    exact m_zret hC dX2_leave_56 rfl rfl hf
  · have hf := dh_el hf c3
    refine r_aload_n hC dX2_leave_13 rfl (j := 0) rfl ?_
    refine m_getA hC hK fa_11 dX2_leave_14 ?_
    refine r_iload_n hC dX2_leave_17 rfl (j := 1) rfl ?_
    obtain ⟨v4, h4, hf⟩ := dh_bd hf
    refine m_zald hC hK kd_11 h4 dX2_leave_18 ?_
    refine r_if_eq hC dX2_leave_19 (tgt := 55) (by decide) (fun c5 => ?_) (fun c5 => ?_)
    · have hf := dh_if hf c5
      refine r_iconst hC dX2_leave_55 ki_0 ?_
      exact m_zret hC dX2_leave_56 rfl rfl hf
    · have hf := dh_el hf c5
      refine r_aload_n hC dX2_leave_22 rfl (j := 0) rfl ?_
      refine m_getA hC hK fa_19 dX2_leave_23 ?_
      refine r_iload_n hC dX2_leave_26 rfl (j := 1) rfl ?_
      obtain ⟨v6, h6, hf⟩ := dh_bd hf
      refine m_iald hC hK kd_19 h6 dX2_leave_27 ?_
      refine r_if_ne hC dX2_leave_28 (tgt := 55) (by decide) (fun c7 => ?_) (fun c7 => ?_)
      · have hf := dh_el hf c7
        refine r_iconst hC dX2_leave_55 ki_0 ?_
        exact m_zret hC dX2_leave_56 rfl rfl hf
      · have hf := dh_if hf c7
        refine r_aload_n hC dX2_leave_31 rfl (j := 0) rfl ?_
        refine m_getA hC hK fa_15 dX2_leave_32 ?_
        refine r_iload_n hC dX2_leave_35 rfl (j := 1) rfl ?_
        obtain ⟨v8, h8, hf⟩ := dh_bd hf
        refine m_zald hC hK kd_15 h8 dX2_leave_36 ?_
        refine r_if_ne hC dX2_leave_37 (tgt := 55) (by decide) (fun c9 => ?_) (fun c9 => ?_)
        · have hf := dh_el hf c9
          refine r_iconst hC dX2_leave_55 ki_0 ?_
          exact m_zret hC dX2_leave_56 rfl rfl hf
        · have hf := dh_if hf c9
          refine r_aload_n hC dX2_leave_40 rfl (j := 0) rfl ?_
          refine m_getA hC hK fa_9 dX2_leave_41 ?_
          refine r_iload_n hC dX2_leave_44 rfl (j := 1) rfl ?_
          obtain ⟨v10, h10, hf⟩ := dh_bd hf
          refine m_iald hC hK kd_9 h10 dX2_leave_45 ?_
          refine r_aload_n hC dX2_leave_46 rfl (j := 0) rfl ?_
          refine m_getA hC hK fa_14 dX2_leave_47 ?_
          refine r_iload_n hC dX2_leave_50 rfl (j := 1) rfl ?_
          obtain ⟨v11, h11, hf⟩ := dh_bd hf
          refine m_iald hC hK kd_14 h11 dX2_leave_51 ?_
          refine r_icmp_ge hC dX2_leave_52 (tgt := 57) (by decide) (fun c12 => ?_) (fun c12 => ?_)
          · have hf := dh_el hf (fun q => q c12)
            refine r_aload_n hC dX2_leave_57 rfl (j := 0) rfl ?_
            refine m_getA hC hK fa_9 dX2_leave_58 ?_
            refine r_iload_n hC dX2_leave_61 rfl (j := 1) rfl ?_
            refine r_dup2_11 hC dX2_leave_62 rfl rfl ?_
            obtain ⟨v13, h13, hf⟩ := dh_bd hf
            refine m_iald hC hK kd_9 h13 dX2_leave_63 ?_
            refine r_aload_n hC dX2_leave_64 rfl (j := 0) rfl ?_
            refine m_getA hC hK fa_14 dX2_leave_65 ?_
            refine r_iload_n hC dX2_leave_68 rfl (j := 1) rfl ?_
            obtain ⟨v14, h14, hf⟩ := dh_bd hf
            refine m_iald hC hK kd_14 h14 dX2_leave_69 ?_
            refine r_isub hC dX2_leave_70 ?_
            obtain ⟨M15, h15, hf⟩ := dh_bd hf
            refine m_iast hC hK kd_9 h15 dX2_leave_71 ?_
            refine r_aload_n hC dX2_leave_72 rfl (j := 0) rfl ?_
            refine m_getA hC hK fa_7 dX2_leave_73 ?_
            refine r_iconst hC dX2_leave_76 ki_0 ?_
            refine r_dup2_11 hC dX2_leave_77 rfl rfl ?_
            obtain ⟨v16, h16, hf⟩ := dh_bd hf
            refine m_iald hC hK kd_7 h16 dX2_leave_78 ?_
            refine r_aload_n hC dX2_leave_79 rfl (j := 0) rfl ?_
            refine m_getA hC hK fa_14 dX2_leave_80 ?_
            refine r_iload_n hC dX2_leave_83 rfl (j := 1) rfl ?_
            obtain ⟨v17, h17, hf⟩ := dh_bd hf
            refine m_iald hC hK kd_14 h17 dX2_leave_84 ?_
            refine r_iadd hC dX2_leave_85 ?_
            obtain ⟨M18, h18, hf⟩ := dh_bd hf
            refine m_iast hC hK kd_7 h18 dX2_leave_86 ?_
            refine r_aload_n hC dX2_leave_87 rfl (j := 0) rfl ?_
            refine r_iload_n hC dX2_leave_88 rfl (j := 1) rfl ?_
            obtain ⟨p19, h19, hf⟩ := dh_bd hf
            refine m_callV' hC hK hR (cM_goes _ E A M18 x1 h19) q1860 q_goes (Nat.le_of_ble_eq_true rfl) (Nat.le_of_ble_eq_true rfl) rfl (Nat.le_of_ble_eq_true rfl) dX2_leave_89 ?_
            refine r_iconst hC dX2_leave_92 ki_1 ?_
            exact m_zret hC dX2_leave_93 rfl rfl hf
          · have hf := dh_if hf c12
            refine r_iconst hC dX2_leave_55 ki_0 ?_
            exact m_zret hC dX2_leave_56 rfl rfl hf
theorem cM_leave (l : Launch) (E : dm_E) (A : Nat → Prop) (M : dm_M) (x1 : Int32) {p : Int32 × dm_M} (h : gM_leave M x1 = some p) : dm_Met l yX2_leave cX2_leave 2 (some .boolean) 2 43 E A [.ref (dm_am E), .int x1] M (some (.int p.1)) p.2 := by
  refine dh_met (by decide) (Nat.le_of_ble_eq_true rfl) (fun _ _ h => ⟨_, h.1⟩) (fun C hl hR hC hnm hK => ?_)
  exact wM_leave hC hK hR M x1 h
theorem q_leave : dm_calV yX2_leave cX2_leave 2 (some .boolean) 1 := ⟨q1857, q1858, q1859, by decide +kernel⟩
/-! takeOff(II)V -/
def gM_takeOff_b75 (M : dm_M) (x1 : Int32) (x3 : Int32) (x4 : Int32) (y0 : Int32) : Option dm_M :=
  (dm_wr M 35 x1 (x3 - y0)).bind fun M10 =>
  (dm_rd M10 34 x1).bind fun v11 =>
  (dm_wr M10 34 x1 (v11 - (x4 - y0))).bind fun M12 =>
  (dm_rd M12 37 x1).bind fun v13 =>
  if v13 = 0 then (
    (dm_rd M12 35 x1).bind fun v15 =>
    if v15 = 0 then (
      (dm_rd M12 34 x1).bind fun v17 =>
      if v17 = 0 then (
        (gM_ends M12 x1 1).bind fun p19 =>
        some p19)
      else
      some M12)
    else
    some M12)
  else
  some M12
theorem wM_takeOff_b75 {C : dh_C} {A : Nat → Prop} {E : dm_E} (hC : dh_ok C cX2_takeOff 7 RX2 none) (hK : dm_Kn E (dh_s C)) (hR : dh_R C = { frames := 1, cells := 0, slots := 0, locals := 22 }) {M' : dm_M} (M : dm_M) (x1 : Int32) (x3 : Int32) (x4 : Int32) (y0 : Int32) (hf : gM_takeOff_b75 M x1 x3 x4 y0 = some M') : dh_W C A (dm_P E A M) (dm_Q E A none M') 0 0 0 0 75 [(0, .ref (dm_am E)), (1, .int x1), (3, .int x3), (4, .int x4)] [.int y0] := by
  unfold gM_takeOff_b75 at hf
  refine r_istore (lv' := [(6, .int y0), (0, .ref (dm_am E)), (1, .int x1), (3, .int x3), (4, .int x4)]) hC dX2_takeOff_75 (Nat.le_of_ble_eq_true rfl) rfl ?_
  refine r_aload_n hC dX2_takeOff_77 rfl (j := 1) rfl ?_
  refine m_getA hC hK fa_35 dX2_takeOff_78 ?_
  refine r_iload_n hC dX2_takeOff_81 rfl (j := 2) rfl ?_
  refine r_iload_n hC dX2_takeOff_82 rfl (j := 3) rfl ?_
  refine r_iload hC dX2_takeOff_83 (j := 0) rfl ?_
  refine r_isub hC dX2_takeOff_85 ?_
  obtain ⟨M10, h10, hf⟩ := dh_bd hf
  refine m_iast hC hK kd_35 h10 dX2_takeOff_86 ?_
  refine r_iload hC dX2_takeOff_87 (j := 4) rfl ?_
  refine r_iload hC dX2_takeOff_89 (j := 0) rfl ?_
  refine r_isub hC dX2_takeOff_91 ?_
  refine r_istore (lv' := [(4, .int (x4 - y0)), (6, .int y0), (0, .ref (dm_am E)), (1, .int x1), (3, .int x3)]) hC dX2_takeOff_92 (Nat.le_of_ble_eq_true rfl) rfl ?_
  refine r_aload_n hC dX2_takeOff_94 rfl (j := 2) rfl ?_
  refine m_getA hC hK fa_34 dX2_takeOff_95 ?_
  refine r_iload_n hC dX2_takeOff_98 rfl (j := 3) rfl ?_
  refine r_dup2_11 hC dX2_takeOff_99 rfl rfl ?_
  obtain ⟨v11, h11, hf⟩ := dh_bd hf
  refine m_iald hC hK kd_34 h11 dX2_takeOff_100 ?_
  refine r_iload hC dX2_takeOff_101 (j := 0) rfl ?_
  refine r_isub hC dX2_takeOff_103 ?_
  obtain ⟨M12, h12, hf⟩ := dh_bd hf
  refine m_iast hC hK kd_34 h12 dX2_takeOff_104 ?_
  refine r_aload_n hC dX2_takeOff_105 rfl (j := 2) rfl ?_
  refine m_getA hC hK fa_37 dX2_takeOff_106 ?_
  refine r_iload_n hC dX2_takeOff_109 rfl (j := 3) rfl ?_
  obtain ⟨v13, h13, hf⟩ := dh_bd hf
  refine m_iald hC hK kd_37 h13 dX2_takeOff_110 ?_
  refine r_if_ne hC dX2_takeOff_111 (tgt := 138) (by decide) (fun c14 => ?_) (fun c14 => ?_)
  · have hf := dh_el hf c14
    exact m_vret hC dX2_takeOff_138 rfl hf
  · have hf := dh_if hf c14
    refine r_aload_n hC dX2_takeOff_114 rfl (j := 2) rfl ?_
    refine m_getA hC hK fa_35 dX2_takeOff_115 ?_
    refine r_iload_n hC dX2_takeOff_118 rfl (j := 3) rfl ?_
    obtain ⟨v15, h15, hf⟩ := dh_bd hf
    refine m_iald hC hK kd_35 h15 dX2_takeOff_119 ?_
    refine r_if_ne hC dX2_takeOff_120 (tgt := 138) (by decide) (fun c16 => ?_) (fun c16 => ?_)
    · have hf := dh_el hf c16
      exact m_vret hC dX2_takeOff_138 rfl hf
    · have hf := dh_if hf c16
      refine r_aload_n hC dX2_takeOff_123 rfl (j := 2) rfl ?_
      refine m_getA hC hK fa_34 dX2_takeOff_124 ?_
      refine r_iload_n hC dX2_takeOff_127 rfl (j := 3) rfl ?_
      obtain ⟨v17, h17, hf⟩ := dh_bd hf
      refine m_iald hC hK kd_34 h17 dX2_takeOff_128 ?_
      refine r_if_ne hC dX2_takeOff_129 (tgt := 138) (by decide) (fun c18 => ?_) (fun c18 => ?_)
      · have hf := dh_el hf c18
        exact m_vret hC dX2_takeOff_138 rfl hf
      · have hf := dh_if hf c18
        refine r_aload_n hC dX2_takeOff_132 rfl (j := 2) rfl ?_
        refine r_iload_n hC dX2_takeOff_133 rfl (j := 3) rfl ?_
        refine r_iconst hC dX2_takeOff_134 ki_1 ?_
        obtain ⟨p19, h19, hf⟩ := dh_bd hf
        refine m_callV' hC hK hR (cM_ends _ E A M12 x1 1 h19) q1684 q_ends (Nat.le_of_ble_eq_true rfl) (Nat.le_of_ble_eq_true rfl) rfl (Nat.le_of_ble_eq_true rfl) dX2_takeOff_135 ?_
        exact m_vret hC dX2_takeOff_138 rfl hf
def gM_takeOff_b43 (M : dm_M) (x1 : Int32) (x3 : Int32) (x4 : Int32) (y0 : Int32) : Option dm_M :=
  (dm_rd M 37 x1).bind fun v7 =>
  (dm_wr M 37 x1 (v7 - y0)).bind fun M8 =>
  if x3 ≤ (x4 - y0) then (
    gM_takeOff_b75 M8 x1 x3 (x4 - y0) x3)
  else
  gM_takeOff_b75 M8 x1 x3 (x4 - y0) (x4 - y0)
theorem wM_takeOff_b43 {C : dh_C} {A : Nat → Prop} {E : dm_E} (hC : dh_ok C cX2_takeOff 7 RX2 none) (hK : dm_Kn E (dh_s C)) (hR : dh_R C = { frames := 1, cells := 0, slots := 0, locals := 22 }) {M' : dm_M} (M : dm_M) (x1 : Int32) (x3 : Int32) (x4 : Int32) (y0 : Int32) (hf : gM_takeOff_b43 M x1 x3 x4 y0 = some M') : dh_W C A (dm_P E A M) (dm_Q E A none M') 0 0 0 0 43 [(0, .ref (dm_am E)), (1, .int x1), (3, .int x3), (4, .int x4)] [.int y0] := by
  unfold gM_takeOff_b43 at hf
  refine r_istore (lv' := [(5, .int y0), (0, .ref (dm_am E)), (1, .int x1), (3, .int x3), (4, .int x4)]) hC dX2_takeOff_43 (Nat.le_of_ble_eq_true rfl) rfl ?_
  refine r_aload_n hC dX2_takeOff_45 rfl (j := 1) rfl ?_
  refine m_getA hC hK fa_37 dX2_takeOff_46 ?_
  refine r_iload_n hC dX2_takeOff_49 rfl (j := 2) rfl ?_
  refine r_dup2_11 hC dX2_takeOff_50 rfl rfl ?_
  obtain ⟨v7, h7, hf⟩ := dh_bd hf
  refine m_iald hC hK kd_37 h7 dX2_takeOff_51 ?_
  refine r_iload hC dX2_takeOff_52 (j := 0) rfl ?_
  refine r_isub hC dX2_takeOff_54 ?_
  obtain ⟨M8, h8, hf⟩ := dh_bd hf
  refine m_iast hC hK kd_37 h8 dX2_takeOff_55 ?_
  refine r_iload hC dX2_takeOff_56 (j := 4) rfl ?_
  refine r_iload hC dX2_takeOff_58 (j := 0) rfl ?_
  refine r_isub hC dX2_takeOff_60 ?_
  refine r_istore (lv' := [(4, .int (x4 - y0)), (5, .int y0), (0, .ref (dm_am E)), (1, .int x1), (3, .int x3)]) hC dX2_takeOff_61 (Nat.le_of_ble_eq_true rfl) rfl ?_
  refine r_iload hC dX2_takeOff_63 (j := 0) rfl ?_
  refine r_iload_n hC dX2_takeOff_65 rfl (j := 4) rfl ?_
  refine r_icmp_ge hC dX2_takeOff_66 (tgt := 74) (by decide) (fun c9 => ?_) (fun c9 => ?_)
  · have hf := dh_if hf c9
    refine r_iload_n hC dX2_takeOff_74 rfl (j := 4) rfl ?_
    exact r_sub [2, 3, 4, 0] rfl (wM_takeOff_b75 hC hK hR M8 x1 x3 (x4 - y0) x3 hf)
  · have hf := dh_el hf c9
    refine r_iload hC dX2_takeOff_69 (j := 0) rfl ?_
    refine r_goto hC dX2_takeOff_71 (tgt := 75) (by decide) ?_
    exact r_sub [2, 3, 4, 0] rfl (wM_takeOff_b75 hC hK hR M8 x1 x3 (x4 - y0) (x4 - y0) hf)
def gM_takeOff (M : dm_M) (x1 : Int32) (x2 : Int32) : Option dm_M :=
  (gM_interestOf M x1).bind fun p1 =>
  (dm_rd M 5 0).bind fun v2 =>
  (dm_wr M 36 x1 v2).bind fun M3 =>
  (dm_rd M3 37 x1).bind fun v4 =>
  if ¬ (v4 ≤ x2) then (
    gM_takeOff_b43 M3 x1 p1 x2 x2)
  else
  (dm_rd M3 37 x1).bind fun v6 =>
  gM_takeOff_b43 M3 x1 p1 x2 v6
theorem wM_takeOff {C : dh_C} {A : Nat → Prop} {E : dm_E} (hC : dh_ok C cX2_takeOff 7 RX2 none) (hK : dm_Kn E (dh_s C)) (hR : dh_R C = { frames := 1, cells := 0, slots := 0, locals := 22 }) {M' : dm_M} (M : dm_M) (x1 : Int32) (x2 : Int32) (hf : gM_takeOff M x1 x2 = some M') : dh_W C A (dm_P E A M) (dm_Q E A none M') 0 0 0 0 0 [(0, .ref (dm_am E)), (1, .int x1), (2, .int x2)] [] := by
  unfold gM_takeOff at hf
  refine r_aload_n hC dX2_takeOff_0 rfl (j := 0) rfl ?_
  refine r_iload_n hC dX2_takeOff_1 rfl (j := 1) rfl ?_
  obtain ⟨p1, h1, hf⟩ := dh_bd hf
  refine m_callV' hC hK hR (cM_interestOf _ E A M x1 h1) q1671 q_interestOf (Nat.le_of_ble_eq_true rfl) (Nat.le_of_ble_eq_true rfl) rfl (Nat.le_of_ble_eq_true rfl) dX2_takeOff_2 ?_
  refine r_istore_n (lv' := [(3, .int p1), (0, .ref (dm_am E)), (1, .int x1), (2, .int x2)]) hC dX2_takeOff_5 rfl (Nat.le_of_ble_eq_true rfl) rfl ?_
  refine r_aload_n hC dX2_takeOff_6 rfl (j := 1) rfl ?_
  refine m_getA hC hK fa_36 dX2_takeOff_7 ?_
  refine r_iload_n hC dX2_takeOff_10 rfl (j := 2) rfl ?_
  refine r_aload_n hC dX2_takeOff_11 rfl (j := 1) rfl ?_
  refine m_getA hC hK fa_5 dX2_takeOff_12 ?_
  refine r_iconst hC dX2_takeOff_15 ki_0 ?_
  obtain ⟨v2, h2, hf⟩ := dh_bd hf
  refine m_iald hC hK kd_5 h2 dX2_takeOff_16 ?_
  obtain ⟨M3, h3, hf⟩ := dh_bd hf
  refine m_iast hC hK kd_36 h3 dX2_takeOff_17 ?_
  refine r_iload_n hC dX2_takeOff_18 rfl (j := 3) rfl ?_
  refine r_istore (lv' := [(4, .int x2), (3, .int p1), (0, .ref (dm_am E)), (1, .int x1), (2, .int x2)]) hC dX2_takeOff_19 (Nat.le_of_ble_eq_true rfl) rfl ?_
  refine r_iload hC dX2_takeOff_21 (j := 0) rfl ?_
  refine r_aload_n hC dX2_takeOff_23 rfl (j := 2) rfl ?_
  refine m_getA hC hK fa_37 dX2_takeOff_24 ?_
  refine r_iload_n hC dX2_takeOff_27 rfl (j := 3) rfl ?_
  obtain ⟨v4, h4, hf⟩ := dh_bd hf
  refine m_iald hC hK kd_37 h4 dX2_takeOff_28 ?_
  refine r_icmp_ge hC dX2_takeOff_29 (tgt := 37) (by decide) (fun c5 => ?_) (fun c5 => ?_)
  · have hf := dh_el hf (fun q => q c5)
    refine r_aload_n hC dX2_takeOff_37 rfl (j := 2) rfl ?_
    refine m_getA hC hK fa_37 dX2_takeOff_38 ?_
    refine r_iload_n hC dX2_takeOff_41 rfl (j := 3) rfl ?_
    obtain ⟨v6, h6, hf⟩ := dh_bd hf
    refine m_iald hC hK kd_37 h6 dX2_takeOff_42 ?_
    exact r_sub [2, 3, 1, 0] rfl (wM_takeOff_b43 hC hK hR M3 x1 p1 x2 v6 hf)
  · have hf := dh_if hf c5
    refine r_iload hC dX2_takeOff_32 (j := 0) rfl ?_
    refine r_goto hC dX2_takeOff_34 (tgt := 43) (by decide) ?_
    exact r_sub [2, 3, 1, 0] rfl (wM_takeOff_b43 hC hK hR M3 x1 p1 x2 x2 hf)
theorem cM_takeOff (l : Launch) (E : dm_E) (A : Nat → Prop) (M : dm_M) (x1 : Int32) (x2 : Int32) {M' : dm_M} (h : gM_takeOff M x1 x2 = some M') : dm_Met l yX2_takeOff cX2_takeOff 7 none 1 22 E A [.ref (dm_am E), .int x1, .int x2] M none M' := by
  refine dh_met (by decide) (Nat.le_of_ble_eq_true rfl) (fun _ _ h => ⟨_, h.1⟩) (fun C hl hR hC hnm hK => ?_)
  exact wM_takeOff hC hK hR M x1 x2 h
theorem q_takeOff : dm_calV yX2_takeOff cX2_takeOff 7 none 2 := ⟨q1682, qs44, q1683, by decide +kernel⟩
