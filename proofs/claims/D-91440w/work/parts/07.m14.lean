set_option maxRecDepth 100000
/-! surrender(I)I -/
def gM_surrender_L140_F (k140 : (dm_M → Int32 → Int32 → Option (Int32 × dm_M))) (M : dm_M) (x4 : Int32) (x5 : Int32) : Option (Int32 × dm_M) :=
  (dm_rd M 25 0).bind fun v14 =>
  if v14 ≤ x5 then (
    (gM_letGo M).bind fun p16 =>
    some (x4, p16))
  else
  (dm_rd M 74 x5).bind fun v17 =>
  if v17 ≤ 0 then (
    k140 M x4 (x5 + 1))
  else
  (dm_rd M 74 x5).bind fun v19 =>
  (dm_rd M 75 x5).bind fun v20 =>
  (dm_wr M 39 x5 (v19 - v20)).bind fun M21 =>
  (dm_rd M21 39 x5).bind fun v22 =>
  if v22 = 0 then (
    (gM_ends M21 x5 1).bind fun p25 =>
    k140 p25 x4 (x5 + 1))
  else
  (gM_ends M21 x5 3).bind fun p24 =>
  k140 p24 x4 (x5 + 1)
theorem wM_surrender_L140_F {C : dh_C} {A : Nat → Prop} {E : dm_E} (hC : dh_ok C cX2_surrender 6 RX2 (some .int)) (hK : dm_Kn E (dh_s C)) (hR : dh_R C = { frames := 4, cells := 0, slots := 0, locals := 86 }) {r : Int32} {M' : dm_M} (k140 : (dm_M → Int32 → Int32 → Option (Int32 × dm_M))) (hk140 : ∀ (M : dm_M) (x4 : Int32) (x5 : Int32), k140 M x4 x5 = some (r, M') → dh_W C A (dm_P E A M) (dm_Q E A (some (.int r)) M') 0 0 0 0 140 [(0, .ref (dm_am E)), (4, .int x4), (5, .int x5)] []) (M : dm_M) (x4 : Int32) (x5 : Int32) (hf : gM_surrender_L140_F k140 M x4 x5 = some (r, M')) : dh_W C A (dm_P E A M) (dm_Q E A (some (.int r)) M') 0 0 0 0 140 [(0, .ref (dm_am E)), (4, .int x4), (5, .int x5)] [] := by
  unfold gM_surrender_L140_F at hf
  refine r_iload hC dX2_surrender_140 (j := 2) rfl ?_
  refine r_aload_n hC dX2_surrender_142 rfl (j := 0) rfl ?_
  refine m_getA hC hK fa_25 dX2_surrender_143 ?_
  refine r_iconst hC dX2_surrender_146 ki_0 ?_
  obtain ⟨v14, h14, hf⟩ := dh_bd hf
  refine m_iald hC hK kd_25 h14 dX2_surrender_147 ?_
  refine r_icmp_ge hC dX2_surrender_148 (tgt := 210) (by decide) (fun c15 => ?_) (fun c15 => ?_)
  · have hf := dh_if hf c15
    refine r_aload_n hC dX2_surrender_210 rfl (j := 0) rfl ?_
    obtain ⟨p16, h16, hf⟩ := dh_bd hf
    refine m_callV' hC hK hR (cM_letGo _ E A M h16) q1688 q_letGo (Nat.le_of_ble_eq_true rfl) (Nat.le_of_ble_eq_true rfl) rfl (Nat.le_of_ble_eq_true rfl) dX2_surrender_211 ?_
    refine r_iload hC dX2_surrender_214 (j := 1) rfl ?_
    exact m_iret hC dX2_surrender_216 rfl hf
  · have hf := dh_el hf c15
    refine r_aload_n hC dX2_surrender_151 rfl (j := 0) rfl ?_
    refine m_getA hC hK fa_74 dX2_surrender_152 ?_
    refine r_iload hC dX2_surrender_155 (j := 2) rfl ?_
    obtain ⟨v17, h17, hf⟩ := dh_bd hf
    refine m_iald hC hK kd_74 h17 dX2_surrender_157 ?_
    refine r_if_le hC dX2_surrender_158 (tgt := 204) (by decide) (fun c18 => ?_) (fun c18 => ?_)
    · have hf := dh_if hf c18
      refine r_iinc (lv' := [(5, .int (x5 + 1)), (0, .ref (dm_am E)), (4, .int x4)]) hC dX2_surrender_204 (j := 2) rfl (congrArg _ ki_1) (Nat.le_of_ble_eq_true rfl) rfl ?_
      refine r_goto hC dX2_surrender_207 (tgt := 140) (by decide) ?_
      exact r_sub [1, 2, 0] rfl (hk140 M x4 (x5 + 1) hf)
    · have hf := dh_el hf c18
      refine r_aload_n hC dX2_surrender_161 rfl (j := 0) rfl ?_
      refine m_getA hC hK fa_39 dX2_surrender_162 ?_
      refine r_iload hC dX2_surrender_165 (j := 2) rfl ?_
      refine r_aload_n hC dX2_surrender_167 rfl (j := 0) rfl ?_
      refine m_getA hC hK fa_74 dX2_surrender_168 ?_
      refine r_iload hC dX2_surrender_171 (j := 2) rfl ?_
      obtain ⟨v19, h19, hf⟩ := dh_bd hf
      refine m_iald hC hK kd_74 h19 dX2_surrender_173 ?_
      refine r_aload_n hC dX2_surrender_174 rfl (j := 0) rfl ?_
      refine m_getA hC hK fa_75 dX2_surrender_175 ?_
      refine r_iload hC dX2_surrender_178 (j := 2) rfl ?_
      obtain ⟨v20, h20, hf⟩ := dh_bd hf
      refine m_iald hC hK kd_75 h20 dX2_surrender_180 ?_
      refine r_isub hC dX2_surrender_181 ?_
      obtain ⟨M21, h21, hf⟩ := dh_bd hf
      refine m_iast hC hK kd_39 h21 dX2_surrender_182 ?_
      refine r_aload_n hC dX2_surrender_183 rfl (j := 0) rfl ?_
      refine r_iload hC dX2_surrender_184 (j := 2) rfl ?_
      refine r_aload_n hC dX2_surrender_186 rfl (j := 0) rfl ?_
      refine m_getA hC hK fa_39 dX2_surrender_187 ?_
      refine r_iload hC dX2_surrender_190 (j := 2) rfl ?_
      obtain ⟨v22, h22, hf⟩ := dh_bd hf
      refine m_iald hC hK kd_39 h22 dX2_surrender_192 ?_
      refine r_if_ne hC dX2_surrender_193 (tgt := 200) (by decide) (fun c23 => ?_) (fun c23 => ?_)
      · have hf := dh_el hf c23
        refine r_iconst hC dX2_surrender_200 ki_3 ?_
        obtain ⟨p24, h24, hf⟩ := dh_bd hf
        refine m_callV' hC hK hR (cM_ends _ E A M21 x5 3 h24) q1684 q_ends (Nat.le_of_ble_eq_true rfl) (Nat.le_of_ble_eq_true rfl) rfl (Nat.le_of_ble_eq_true rfl) dX2_surrender_201 ?_
        refine r_iinc (lv' := [(5, .int (x5 + 1)), (0, .ref (dm_am E)), (4, .int x4)]) hC dX2_surrender_204 (j := 2) rfl (congrArg _ ki_1) (Nat.le_of_ble_eq_true rfl) rfl ?_
        refine r_goto hC dX2_surrender_207 (tgt := 140) (by decide) ?_
        exact r_sub [1, 2, 0] rfl (hk140 p24 x4 (x5 + 1) hf)
      · have hf := dh_if hf c23
        refine r_iconst hC dX2_surrender_196 ki_1 ?_
        refine r_goto hC dX2_surrender_197 (tgt := 201) (by decide) ?_
        obtain ⟨p25, h25, hf⟩ := dh_bd hf
        refine m_callV' hC hK hR (cM_ends _ E A M21 x5 1 h25) q1684 q_ends (Nat.le_of_ble_eq_true rfl) (Nat.le_of_ble_eq_true rfl) rfl (Nat.le_of_ble_eq_true rfl) dX2_surrender_201 ?_
        refine r_iinc (lv' := [(5, .int (x5 + 1)), (0, .ref (dm_am E)), (4, .int x4)]) hC dX2_surrender_204 (j := 2) rfl (congrArg _ ki_1) (Nat.le_of_ble_eq_true rfl) rfl ?_
        refine r_goto hC dX2_surrender_207 (tgt := 140) (by decide) ?_
        exact r_sub [1, 2, 0] rfl (hk140 p25 x4 (x5 + 1) hf)
def gM_surrender_L140 : Nat → dm_M → Int32 → Int32 → Option (Int32 × dm_M)
  | 0 => fun _ _ _ => none
  | n + 1 => gM_surrender_L140_F (gM_surrender_L140 n)
theorem wM_surrender_L140 {C : dh_C} {A : Nat → Prop} {E : dm_E} (hC : dh_ok C cX2_surrender 6 RX2 (some .int)) (hK : dm_Kn E (dh_s C)) (hR : dh_R C = { frames := 4, cells := 0, slots := 0, locals := 86 }) {r : Int32} {M' : dm_M} : ∀ (n : Nat) (M : dm_M) (x4 : Int32) (x5 : Int32) (_ : gM_surrender_L140 n M x4 x5 = some (r, M')), dh_W C A (dm_P E A M) (dm_Q E A (some (.int r)) M') 0 0 0 0 140 [(0, .ref (dm_am E)), (4, .int x4), (5, .int x5)] [] := by
  intro n
  induction n with
  | zero => intro M x4 x5 hf; exact dh_no hf
  | succ n ih => intro M x4 x5 hf; exact wM_surrender_L140_F hC hK hR (gM_surrender_L140 n) ih M x4 x5 hf
def gM_surrender_b53 (k19 : (dm_M → Int32 → Int32 → Int32 → Option (Int32 × dm_M))) (M : dm_M) (x1 : Int32) (x2 : Int32) (x3 : Int32) (y0 : Int32) (y1 : Int32) : Option (Int32 × dm_M) :=
  (dm_wr M 74 y1 y0).bind fun M28 =>
  (dm_rd M28 74 x3).bind fun v29 =>
  if v29 ≤ 0 then (
    k19 M28 x1 (x2 ||| 0) (x3 + 1))
  else
  k19 M28 x1 (x2 ||| 1) (x3 + 1)
theorem wM_surrender_b53 {C : dh_C} {A : Nat → Prop} {E : dm_E} (hC : dh_ok C cX2_surrender 6 RX2 (some .int)) (hK : dm_Kn E (dh_s C)) (hR : dh_R C = { frames := 4, cells := 0, slots := 0, locals := 86 }) {r : Int32} {M' : dm_M} (k19 : (dm_M → Int32 → Int32 → Int32 → Option (Int32 × dm_M))) (hk19 : ∀ (M : dm_M) (x1 : Int32) (x2 : Int32) (x3 : Int32), k19 M x1 x2 x3 = some (r, M') → dh_W C A (dm_P E A M) (dm_Q E A (some (.int r)) M') 0 0 0 0 19 [(0, .ref (dm_am E)), (1, .int x1), (2, .int x2), (3, .int x3)] []) (M : dm_M) (x1 : Int32) (x2 : Int32) (x3 : Int32) (y0 : Int32) (y1 : Int32) (hf : gM_surrender_b53 k19 M x1 x2 x3 y0 y1 = some (r, M')) : dh_W C A (dm_P E A M) (dm_Q E A (some (.int r)) M') 0 0 0 0 53 [(0, .ref (dm_am E)), (1, .int x1), (2, .int x2), (3, .int x3)] [.int y0, .int y1, .ref (dm_am E + dm_ad 74)] := by
  unfold gM_surrender_b53 at hf
  obtain ⟨M28, h28, hf⟩ := dh_bd hf
  refine m_iast hC hK kd_74 h28 dX2_surrender_53 ?_
  refine r_iload_n hC dX2_surrender_54 rfl (j := 2) rfl ?_
  refine r_aload_n hC dX2_surrender_55 rfl (j := 0) rfl ?_
  refine m_getA hC hK fa_74 dX2_surrender_56 ?_
  refine r_iload_n hC dX2_surrender_59 rfl (j := 3) rfl ?_
  obtain ⟨v29, h29, hf⟩ := dh_bd hf
  refine m_iald hC hK kd_74 h29 dX2_surrender_60 ?_
  refine r_if_le hC dX2_surrender_61 (tgt := 68) (by decide) (fun c30 => ?_) (fun c30 => ?_)
  · have hf := dh_if hf c30
    refine r_iconst hC dX2_surrender_68 ki_0 ?_
    refine r_ior hC dX2_surrender_69 ?_
    refine r_istore_n (lv' := [(2, .int (x2 ||| 0)), (0, .ref (dm_am E)), (1, .int x1), (3, .int x3)]) hC dX2_surrender_70 rfl (Nat.le_of_ble_eq_true rfl) rfl ?_
    refine r_iinc (lv' := [(3, .int (x3 + 1)), (2, .int (x2 ||| 0)), (0, .ref (dm_am E)), (1, .int x1)]) hC dX2_surrender_71 (j := 3) rfl (congrArg _ ki_1) (Nat.le_of_ble_eq_true rfl) rfl ?_
    refine r_goto hC dX2_surrender_74 (tgt := 19) (by decide) ?_
    exact r_sub [2, 3, 1, 0] rfl (hk19 M28 x1 (x2 ||| 0) (x3 + 1) hf)
  · have hf := dh_el hf c30
    refine r_iconst hC dX2_surrender_64 ki_1 ?_
    refine r_goto hC dX2_surrender_65 (tgt := 69) (by decide) ?_
    refine r_ior hC dX2_surrender_69 ?_
    refine r_istore_n (lv' := [(2, .int (x2 ||| 1)), (0, .ref (dm_am E)), (1, .int x1), (3, .int x3)]) hC dX2_surrender_70 rfl (Nat.le_of_ble_eq_true rfl) rfl ?_
    refine r_iinc (lv' := [(3, .int (x3 + 1)), (2, .int (x2 ||| 1)), (0, .ref (dm_am E)), (1, .int x1)]) hC dX2_surrender_71 (j := 3) rfl (congrArg _ ki_1) (Nat.le_of_ble_eq_true rfl) rfl ?_
    refine r_goto hC dX2_surrender_74 (tgt := 19) (by decide) ?_
    exact r_sub [2, 3, 1, 0] rfl (hk19 M28 x1 (x2 ||| 1) (x3 + 1) hf)
def gM_surrender_L19_F (k19 : (dm_M → Int32 → Int32 → Int32 → Option (Int32 × dm_M))) (M : dm_M) (x1 : Int32) (x2 : Int32) (x3 : Int32) : Option (Int32 × dm_M) :=
  (dm_rd M 25 0).bind fun v4 =>
  if ¬ (v4 ≤ x3) then (
    (dm_rd M 26 x3).bind fun v26 =>
    if v26 = x1 then (
      (gM_dueOf M x3).bind fun p31 =>
      gM_surrender_b53 k19 M x1 x2 x3 p31 x3)
    else
    gM_surrender_b53 k19 M x1 x2 x3 0 x3)
  else
  if x2 = 0 then (
    some ((-1), M))
  else
  (dm_rd M 9 x1).bind fun v7 =>
  (gM_tellsNow M x1 7).bind fun p8 =>
  (dm_rd p8.2 9 x1).bind fun v9 =>
  (gM_part p8.2 (v9 - (Int64.toInt32 (((Int32.toInt64 v7) * (Int32.toInt64 p8.1)) / 100)))).bind fun p10 =>
  (dm_rd p10.2 9 x1).bind fun v11 =>
  (dm_wr p10.2 9 x1 (v11 - p10.1)).bind fun M12 =>
  (dm_wr M12 20 x1 (vp_nar .boolean 1)).bind fun M13 =>
  gM_surrender_L140 dh_fu M13 p10.1 0
theorem wM_surrender_L19_F {C : dh_C} {A : Nat → Prop} {E : dm_E} (hC : dh_ok C cX2_surrender 6 RX2 (some .int)) (hK : dm_Kn E (dh_s C)) (hR : dh_R C = { frames := 4, cells := 0, slots := 0, locals := 86 }) {r : Int32} {M' : dm_M} (k19 : (dm_M → Int32 → Int32 → Int32 → Option (Int32 × dm_M))) (hk19 : ∀ (M : dm_M) (x1 : Int32) (x2 : Int32) (x3 : Int32), k19 M x1 x2 x3 = some (r, M') → dh_W C A (dm_P E A M) (dm_Q E A (some (.int r)) M') 0 0 0 0 19 [(0, .ref (dm_am E)), (1, .int x1), (2, .int x2), (3, .int x3)] []) (M : dm_M) (x1 : Int32) (x2 : Int32) (x3 : Int32) (hf : gM_surrender_L19_F k19 M x1 x2 x3 = some (r, M')) : dh_W C A (dm_P E A M) (dm_Q E A (some (.int r)) M') 0 0 0 0 19 [(0, .ref (dm_am E)), (1, .int x1), (2, .int x2), (3, .int x3)] [] := by
  unfold gM_surrender_L19_F at hf
  refine r_iload_n hC dX2_surrender_19 rfl (j := 3) rfl ?_
  refine r_aload_n hC dX2_surrender_20 rfl (j := 0) rfl ?_
  refine m_getA hC hK fa_25 dX2_surrender_21 ?_
  refine r_iconst hC dX2_surrender_24 ki_0 ?_
  obtain ⟨v4, h4, hf⟩ := dh_bd hf
  refine m_iald hC hK kd_25 h4 dX2_surrender_25 ?_
  refine r_icmp_ge hC dX2_surrender_26 (tgt := 77) (by decide) (fun c5 => ?_) (fun c5 => ?_)
  · have hf := dh_el hf (fun q => q c5)
    refine r_iload_n hC dX2_surrender_77 rfl (j := 2) rfl ?_
    refine r_if_ne hC dX2_surrender_78 (tgt := 83) (by decide) (fun c6 => ?_) (fun c6 => ?_)
    · have hf := dh_el hf c6
      refine r_aload_n hC dX2_surrender_83 rfl (j := 0) rfl ?_
      refine m_getA hC hK fa_9 dX2_surrender_84 ?_
      refine r_iload_n hC dX2_surrender_87 rfl (j := 1) rfl ?_
      obtain ⟨v7, h7, hf⟩ := dh_bd hf
      refine m_iald hC hK kd_9 h7 dX2_surrender_88 ?_
      refine r_i2l hC dX2_surrender_89 ?_
      refine r_aload_n hC dX2_surrender_90 rfl (j := 0) rfl ?_
      refine r_iload_n hC dX2_surrender_91 rfl (j := 1) rfl ?_
      refine r_bipush hC dX2_surrender_92 kb_7 ?_
      obtain ⟨p8, h8, hf⟩ := dh_bd hf
      refine m_callV' hC hK hR (cM_tellsNow _ E A M x1 7 h8) q1848 q_tellsNow (Nat.le_of_ble_eq_true rfl) (Nat.le_of_ble_eq_true rfl) rfl (Nat.le_of_ble_eq_true rfl) dX2_surrender_94 ?_
      refine r_i2l hC dX2_surrender_97 ?_
      refine r_lmul hC dX2_surrender_98 ?_
      refine r_ldc2 hC q1924 dX2_surrender_99 ?_
      refine r_ldiv hC dX2_surrender_102 (by decide) ?_
      refine r_l2i hC dX2_surrender_103 ?_
      refine r_istore_n (lv' := [(3, .int (Int64.toInt32 (((Int32.toInt64 v7) * (Int32.toInt64 p8.1)) / 100))), (0, .ref (dm_am E)), (1, .int x1), (2, .int x2)]) hC dX2_surrender_104 rfl (Nat.le_of_ble_eq_true rfl) rfl ?_
      refine r_aload_n hC dX2_surrender_105 rfl (j := 1) rfl ?_
      refine r_aload_n hC dX2_surrender_106 rfl (j := 1) rfl ?_
      refine m_getA hC hK fa_9 dX2_surrender_107 ?_
      refine r_iload_n hC dX2_surrender_110 rfl (j := 2) rfl ?_
      obtain ⟨v9, h9, hf⟩ := dh_bd hf
      refine m_iald hC hK kd_9 h9 dX2_surrender_111 ?_
      refine r_iload_n hC dX2_surrender_112 rfl (j := 0) rfl ?_
      refine r_isub hC dX2_surrender_113 ?_
      obtain ⟨p10, h10, hf⟩ := dh_bd hf
      refine m_callV' hC hK hR (cM_part _ E A p8.2 (v9 - (Int64.toInt32 (((Int32.toInt64 v7) * (Int32.toInt64 p8.1)) / 100))) h10) q1946 q_part (Nat.le_of_ble_eq_true rfl) (Nat.le_of_ble_eq_true rfl) rfl (Nat.le_of_ble_eq_true rfl) dX2_surrender_114 ?_
      refine r_istore (lv' := [(4, .int p10.1), (3, .int (Int64.toInt32 (((Int32.toInt64 v7) * (Int32.toInt64 p8.1)) / 100))), (0, .ref (dm_am E)), (1, .int x1), (2, .int x2)]) hC dX2_surrender_117 (Nat.le_of_ble_eq_true rfl) rfl ?_
      refine r_aload_n hC dX2_surrender_119 rfl (j := 2) rfl ?_
      refine m_getA hC hK fa_9 dX2_surrender_120 ?_
      refine r_iload_n hC dX2_surrender_123 rfl (j := 3) rfl ?_
      refine r_dup2_11 hC dX2_surrender_124 rfl rfl ?_
      obtain ⟨v11, h11, hf⟩ := dh_bd hf
      refine m_iald hC hK kd_9 h11 dX2_surrender_125 ?_
      refine r_iload hC dX2_surrender_126 (j := 0) rfl ?_
      refine r_isub hC dX2_surrender_128 ?_
      obtain ⟨M12, h12, hf⟩ := dh_bd hf
      refine m_iast hC hK kd_9 h12 dX2_surrender_129 ?_
      refine r_aload_n hC dX2_surrender_130 rfl (j := 2) rfl ?_
      refine m_getA hC hK fa_20 dX2_surrender_131 ?_
      refine r_iload_n hC dX2_surrender_134 rfl (j := 3) rfl ?_
      refine r_iconst hC dX2_surrender_135 ki_1 ?_
      obtain ⟨M13, h13, hf⟩ := dh_bd hf
      refine m_zast hC hK kd_20 h13 dX2_surrender_136 ?_
      refine r_iconst hC dX2_surrender_137 ki_0 ?_
      refine r_istore (lv' := [(5, .int 0), (4, .int p10.1), (3, .int (Int64.toInt32 (((Int32.toInt64 v7) * (Int32.toInt64 p8.1)) / 100))), (0, .ref (dm_am E)), (1, .int x1), (2, .int x2)]) hC dX2_surrender_138 (Nat.le_of_ble_eq_true rfl) rfl ?_
      exact r_sub [3, 1, 0] rfl (wM_surrender_L140 hC hK hR dh_fu M13 p10.1 0 hf)
    · have hf := dh_if hf c6
      refine r_iconst hC dX2_surrender_81 ki_m1 ?_
      exact m_iret hC dX2_surrender_82 rfl hf
  · have hf := dh_if hf c5
    refine r_aload_n hC dX2_surrender_29 rfl (j := 0) rfl ?_
    refine m_getA hC hK fa_74 dX2_surrender_30 ?_
    refine r_iload_n hC dX2_surrender_33 rfl (j := 3) rfl ?_
    refine r_aload_n hC dX2_surrender_34 rfl (j := 0) rfl ?_
    refine m_getA hC hK fa_26 dX2_surrender_35 ?_
    refine r_iload_n hC dX2_surrender_38 rfl (j := 3) rfl ?_
    obtain ⟨v26, h26, hf⟩ := dh_bd hf
    refine m_iald hC hK kd_26 h26 dX2_surrender_39 ?_
    refine r_iload_n hC dX2_surrender_40 rfl (j := 1) rfl ?_
    refine r_icmp_ne hC dX2_surrender_41 (tgt := 52) (by decide) (fun c27 => ?_) (fun c27 => ?_)
    · have hf := dh_el hf c27
      refine r_iconst hC dX2_surrender_52 ki_0 ?_
      exact r_sub [0, 1, 2, 3] rfl (wM_surrender_b53 hC hK hR k19 hk19 M x1 x2 x3 0 x3 hf)
    · have hf := dh_if hf c27
      refine r_aload_n hC dX2_surrender_44 rfl (j := 0) rfl ?_
      refine r_iload_n hC dX2_surrender_45 rfl (j := 3) rfl ?_
      obtain ⟨p31, h31, hf⟩ := dh_bd hf
      refine m_callV' hC hK hR (cM_dueOf _ E A M x3 h31) q1667 q_dueOf (Nat.le_of_ble_eq_true rfl) (Nat.le_of_ble_eq_true rfl) rfl (Nat.le_of_ble_eq_true rfl) dX2_surrender_46 ?_
      refine r_goto hC dX2_surrender_49 (tgt := 53) (by decide) ?_
      exact r_sub [0, 1, 2, 3] rfl (wM_surrender_b53 hC hK hR k19 hk19 M x1 x2 x3 p31 x3 hf)
def gM_surrender_L19 : Nat → dm_M → Int32 → Int32 → Int32 → Option (Int32 × dm_M)
  | 0 => fun _ _ _ _ => none
  | n + 1 => gM_surrender_L19_F (gM_surrender_L19 n)
theorem wM_surrender_L19 {C : dh_C} {A : Nat → Prop} {E : dm_E} (hC : dh_ok C cX2_surrender 6 RX2 (some .int)) (hK : dm_Kn E (dh_s C)) (hR : dh_R C = { frames := 4, cells := 0, slots := 0, locals := 86 }) {r : Int32} {M' : dm_M} : ∀ (n : Nat) (M : dm_M) (x1 : Int32) (x2 : Int32) (x3 : Int32) (_ : gM_surrender_L19 n M x1 x2 x3 = some (r, M')), dh_W C A (dm_P E A M) (dm_Q E A (some (.int r)) M') 0 0 0 0 19 [(0, .ref (dm_am E)), (1, .int x1), (2, .int x2), (3, .int x3)] [] := by
  intro n
  induction n with
  | zero => intro M x1 x2 x3 hf; exact dh_no hf
  | succ n ih => intro M x1 x2 x3 hf; exact wM_surrender_L19_F hC hK hR (gM_surrender_L19 n) ih M x1 x2 x3 hf
def gM_surrender (M : dm_M) (x1 : Int32) : Option (Int32 × dm_M) :=
  (some (dm_set M 0 0 0)).bind fun M1 =>
  (gM_isPerson M1 x1).bind fun p2 =>
  if p2 = 0 then (
    some ((-1), M1))
  else
  gM_surrender_L19 dh_fu M1 x1 0 0
theorem wM_surrender {C : dh_C} {A : Nat → Prop} {E : dm_E} (hC : dh_ok C cX2_surrender 6 RX2 (some .int)) (hK : dm_Kn E (dh_s C)) (hR : dh_R C = { frames := 4, cells := 0, slots := 0, locals := 86 }) {r : Int32} {M' : dm_M} (M : dm_M) (x1 : Int32) (hf : gM_surrender M x1 = some (r, M')) : dh_W C A (dm_P E A M) (dm_Q E A (some (.int r)) M') 0 0 0 0 0 [(0, .ref (dm_am E)), (1, .int x1)] [] := by
  unfold gM_surrender at hf
  refine r_aload_n hC dX2_surrender_0 rfl (j := 0) rfl ?_
  refine r_iconst hC dX2_surrender_1 ki_0 ?_
  obtain ⟨M1, h1, hf⟩ := dh_bd hf
  refine m_putI hC hK fi_0 dX2_surrender_2 h1 ?_
  refine r_aload_n hC dX2_surrender_5 rfl (j := 0) rfl ?_
  refine r_iload_n hC dX2_surrender_6 rfl (j := 1) rfl ?_
  obtain ⟨p2, h2, hf⟩ := dh_bd hf
  refine m_callV' hC hK hR (cM_isPerson _ E A M1 x1 h2) q1650 q_isPerson (Nat.le_of_ble_eq_true rfl) (Nat.le_of_ble_eq_true rfl) rfl (Nat.le_of_ble_eq_true rfl) dX2_surrender_7 ?_
  refine r_if_ne hC dX2_surrender_10 (tgt := 15) (by decide) (fun c3 => ?_) (fun c3 => ?_)
  · have hf := dh_el hf c3
    refine r_iconst hC dX2_surrender_15 ki_0 ?_
    refine r_istore_n (lv' := [(2, .int 0), (0, .ref (dm_am E)), (1, .int x1)]) hC dX2_surrender_16 rfl (Nat.le_of_ble_eq_true rfl) rfl ?_
    refine r_iconst hC dX2_surrender_17 ki_0 ?_
    refine r_istore_n (lv' := [(3, .int 0), (2, .int 0), (0, .ref (dm_am E)), (1, .int x1)]) hC dX2_surrender_18 rfl (Nat.le_of_ble_eq_true rfl) rfl ?_
    exact r_sub [2, 3, 1, 0] rfl (wM_surrender_L19 hC hK hR dh_fu M1 x1 0 0 hf)
  · have hf := dh_if hf c3
    refine r_iconst hC dX2_surrender_13 ki_m1 ?_
    exact m_iret hC dX2_surrender_14 rfl hf
theorem cM_surrender (l : Launch) (E : dm_E) (A : Nat → Prop) (M : dm_M) (x1 : Int32) {p : Int32 × dm_M} (h : gM_surrender M x1 = some p) : dm_Met l yX2_surrender cX2_surrender 6 (some .int) 4 86 E A [.ref (dm_am E), .int x1] M (some (.int p.1)) p.2 := by
  refine dh_met (by decide) (Nat.le_of_ble_eq_true rfl) (fun _ _ h => ⟨_, h.1⟩) (fun C hl hR hC hnm hK => ?_)
  exact wM_surrender hC hK hR M x1 h
theorem q_surrender : dm_calV yX2_surrender cX2_surrender 6 (some .int) 1 := ⟨q1943, q1944, q1945, by decide +kernel⟩
/-! swing(IIII)I -/
def gM_swing_b255 (k137 : (dm_M → Int32 → Int32 → Int32 → Int32 → Int32 → Int32 → Int32 → Int64 → Int32 → Option (Int32 × dm_M))) (M : dm_M) (x1 : Int32) (x2 : Int32) (x3 : Int32) (x4 : Int32) (x5 : Int32) (x6 : Int32) (x7 : Int32) (x8 : Int64) (x10 : Int32) (x11 : Int64) : Option (Int32 × dm_M) :=
  (gM_bindsSo M x1 x3 x2).bind fun p18 =>
  if p18.1 = 0 then (
    k137 p18.2 x1 x2 x3 x4 x5 x6 x7 x8 (x10 + 1))
  else
  k137 p18.2 x1 x2 x3 x4 x5 x6 x10 x11 (x10 + 1)
theorem wM_swing_b255 {C : dh_C} {A : Nat → Prop} {E : dm_E} (hC : dh_ok C cX2_swing 15 RX2 (some .int)) (hK : dm_Kn E (dh_s C)) (hR : dh_R C = { frames := 5, cells := 0, slots := 0, locals := 122 }) {r : Int32} {M' : dm_M} (k137 : (dm_M → Int32 → Int32 → Int32 → Int32 → Int32 → Int32 → Int32 → Int64 → Int32 → Option (Int32 × dm_M))) (hk137 : ∀ (M : dm_M) (x1 : Int32) (x2 : Int32) (x3 : Int32) (x4 : Int32) (x5 : Int32) (x6 : Int32) (x7 : Int32) (x8 : Int64) (x10 : Int32), k137 M x1 x2 x3 x4 x5 x6 x7 x8 x10 = some (r, M') → dh_W C A (dm_P E A M) (dm_Q E A (some (.int r)) M') 0 0 0 0 137 [(0, .ref (dm_am E)), (1, .int x1), (2, .int x2), (3, .int x3), (4, .int x4), (5, .int x5), (6, .int x6), (7, .int x7), (8, .long x8), (10, .int x10)] []) (M : dm_M) (x1 : Int32) (x2 : Int32) (x3 : Int32) (x4 : Int32) (x5 : Int32) (x6 : Int32) (x7 : Int32) (x8 : Int64) (x10 : Int32) (x11 : Int64) (hf : gM_swing_b255 k137 M x1 x2 x3 x4 x5 x6 x7 x8 x10 x11 = some (r, M')) : dh_W C A (dm_P E A M) (dm_Q E A (some (.int r)) M') 0 0 0 0 255 [(0, .ref (dm_am E)), (1, .int x1), (2, .int x2), (3, .int x3), (4, .int x4), (5, .int x5), (6, .int x6), (7, .int x7), (8, .long x8), (10, .int x10), (11, .long x11)] [] := by
  unfold gM_swing_b255 at hf
  refine r_aload_n hC dX2_swing_255 rfl (j := 0) rfl ?_
  refine r_iload_n hC dX2_swing_256 rfl (j := 1) rfl ?_
  refine r_iload_n hC dX2_swing_257 rfl (j := 3) rfl ?_
  refine r_iload_n hC dX2_swing_258 rfl (j := 2) rfl ?_
  obtain ⟨p18, h18, hf⟩ := dh_bd hf
  refine m_callV' hC hK hR (cM_bindsSo _ E A M x1 x3 x2 h18) q1920 q_bindsSo (Nat.le_of_ble_eq_true rfl) (Nat.le_of_ble_eq_true rfl) rfl (Nat.le_of_ble_eq_true rfl) dX2_swing_259 ?_
  refine r_if_eq hC dX2_swing_262 (tgt := 273) (by decide) (fun c19 => ?_) (fun c19 => ?_)
  · have hf := dh_if hf c19
    refine r_iinc (lv' := [(10, .int (x10 + 1)), (0, .ref (dm_am E)), (1, .int x1), (2, .int x2), (3, .int x3), (4, .int x4), (5, .int x5), (6, .int x6), (7, .int x7), (8, .long x8), (11, .long x11)]) hC dX2_swing_273 (j := 9) rfl (congrArg _ ki_1) (Nat.le_of_ble_eq_true rfl) rfl ?_
    refine r_goto hC dX2_swing_276 (tgt := 137) (by decide) ?_
    exact r_sub [1, 2, 3, 4, 5, 6, 7, 8, 9, 0] rfl (hk137 p18.2 x1 x2 x3 x4 x5 x6 x7 x8 (x10 + 1) hf)
  · have hf := dh_el hf c19
    refine r_iload hC dX2_swing_265 (j := 9) rfl ?_
    refine r_istore (lv' := [(7, .int x10), (0, .ref (dm_am E)), (1, .int x1), (2, .int x2), (3, .int x3), (4, .int x4), (5, .int x5), (6, .int x6), (8, .long x8), (10, .int x10), (11, .long x11)]) hC dX2_swing_267 (Nat.le_of_ble_eq_true rfl) rfl ?_
    refine r_lload hC dX2_swing_269 (j := 10) rfl ?_
    refine r_lstore (lv' := [(8, .long x11), (7, .int x10), (0, .ref (dm_am E)), (1, .int x1), (2, .int x2), (3, .int x3), (4, .int x4), (5, .int x5), (6, .int x6), (10, .int x10), (11, .long x11)]) hC dX2_swing_271 (Nat.le_of_ble_eq_true rfl) rfl ?_
    refine r_iinc (lv' := [(10, .int (x10 + 1)), (8, .long x11), (7, .int x10), (0, .ref (dm_am E)), (1, .int x1), (2, .int x2), (3, .int x3), (4, .int x4), (5, .int x5), (6, .int x6), (11, .long x11)]) hC dX2_swing_273 (j := 9) rfl (congrArg _ ki_1) (Nat.le_of_ble_eq_true rfl) rfl ?_
    refine r_goto hC dX2_swing_276 (tgt := 137) (by decide) ?_
    exact r_sub [3, 4, 5, 6, 7, 8, 9, 2, 1, 0] rfl (hk137 p18.2 x1 x2 x3 x4 x5 x6 x10 x11 (x10 + 1) hf)
def gM_swing_L157_F (k137 : (dm_M → Int32 → Int32 → Int32 → Int32 → Int32 → Int32 → Int32 → Int64 → Int32 → Option (Int32 × dm_M))) (k157 : (dm_M → Int32 → Int32 → Int32 → Int32 → Int32 → Int32 → Int32 → Int64 → Int32 → Int64 → Int32 → Option (Int32 × dm_M))) (M : dm_M) (x1 : Int32) (x2 : Int32) (x3 : Int32) (x4 : Int32) (x5 : Int32) (x6 : Int32) (x7 : Int32) (x8 : Int64) (x10 : Int32) (x11 : Int64) (x13 : Int32) : Option (Int32 × dm_M) :=
  if x5 ≤ x13 then (
    if x7 = (-1) then (
      gM_swing_b255 k137 M x1 x2 x3 x4 x5 x6 x7 x8 x10 x11)
    else
    if 0 ≤ (lg_cmp x11 x8) then (
      k137 M x1 x2 x3 x4 x5 x6 x7 x8 (x10 + 1))
    else
    gM_swing_b255 k137 M x1 x2 x3 x4 x5 x6 x7 x8 x10 x11)
  else
  if ((x10 >>> (x13 &&& 31)) &&& 1) = 0 then (
    k157 M x1 x2 x3 x4 x5 x6 x7 x8 x10 x11 (x13 + 1))
  else
  (dm_rd M 73 x13).bind fun v22 =>
  (gM_dueOf M v22).bind fun p23 =>
  (dm_rd M 27 v22).bind fun v24 =>
  (dm_rd M 24 ((12 * v24) + x1)).bind fun v25 =>
  (dm_wr M 71 v22 x2).bind fun M26 =>
  (dm_wr M26 72 v22 (vp_nar .boolean x6)).bind fun M27 =>
  k157 M27 x1 x2 x3 x4 x5 x6 x7 x8 x10 (x11 + (((Int32.toInt64 p23) * (Int32.toInt64 v25)) / 1000)) (x13 + 1)
theorem wM_swing_L157_F {C : dh_C} {A : Nat → Prop} {E : dm_E} (hC : dh_ok C cX2_swing 15 RX2 (some .int)) (hK : dm_Kn E (dh_s C)) (hR : dh_R C = { frames := 5, cells := 0, slots := 0, locals := 122 }) {r : Int32} {M' : dm_M} (k137 : (dm_M → Int32 → Int32 → Int32 → Int32 → Int32 → Int32 → Int32 → Int64 → Int32 → Option (Int32 × dm_M))) (hk137 : ∀ (M : dm_M) (x1 : Int32) (x2 : Int32) (x3 : Int32) (x4 : Int32) (x5 : Int32) (x6 : Int32) (x7 : Int32) (x8 : Int64) (x10 : Int32), k137 M x1 x2 x3 x4 x5 x6 x7 x8 x10 = some (r, M') → dh_W C A (dm_P E A M) (dm_Q E A (some (.int r)) M') 0 0 0 0 137 [(0, .ref (dm_am E)), (1, .int x1), (2, .int x2), (3, .int x3), (4, .int x4), (5, .int x5), (6, .int x6), (7, .int x7), (8, .long x8), (10, .int x10)] []) (k157 : (dm_M → Int32 → Int32 → Int32 → Int32 → Int32 → Int32 → Int32 → Int64 → Int32 → Int64 → Int32 → Option (Int32 × dm_M))) (hk157 : ∀ (M : dm_M) (x1 : Int32) (x2 : Int32) (x3 : Int32) (x4 : Int32) (x5 : Int32) (x6 : Int32) (x7 : Int32) (x8 : Int64) (x10 : Int32) (x11 : Int64) (x13 : Int32), k157 M x1 x2 x3 x4 x5 x6 x7 x8 x10 x11 x13 = some (r, M') → dh_W C A (dm_P E A M) (dm_Q E A (some (.int r)) M') 0 0 0 0 157 [(0, .ref (dm_am E)), (1, .int x1), (2, .int x2), (3, .int x3), (4, .int x4), (5, .int x5), (6, .int x6), (7, .int x7), (8, .long x8), (10, .int x10), (11, .long x11), (13, .int x13)] []) (M : dm_M) (x1 : Int32) (x2 : Int32) (x3 : Int32) (x4 : Int32) (x5 : Int32) (x6 : Int32) (x7 : Int32) (x8 : Int64) (x10 : Int32) (x11 : Int64) (x13 : Int32) (hf : gM_swing_L157_F k137 k157 M x1 x2 x3 x4 x5 x6 x7 x8 x10 x11 x13 = some (r, M')) : dh_W C A (dm_P E A M) (dm_Q E A (some (.int r)) M') 0 0 0 0 157 [(0, .ref (dm_am E)), (1, .int x1), (2, .int x2), (3, .int x3), (4, .int x4), (5, .int x5), (6, .int x6), (7, .int x7), (8, .long x8), (10, .int x10), (11, .long x11), (13, .int x13)] [] := by
  unfold gM_swing_L157_F at hf
  refine r_iload hC dX2_swing_157 (j := 11) rfl ?_
  refine r_iload hC dX2_swing_159 (j := 5) rfl ?_
  refine r_icmp_ge hC dX2_swing_161 (tgt := 241) (by decide) (fun c16 => ?_) (fun c16 => ?_)
  · have hf := dh_if hf c16
    refine r_iload hC dX2_swing_241 (j := 7) rfl ?_
    refine r_iconst hC dX2_swing_243 ki_m1 ?_
    refine r_icmp_eq hC dX2_swing_244 (tgt := 255) (by decide) (fun c17 => ?_) (fun c17 => ?_)
    · have hf := dh_if hf c17
      exact r_sub [0, 1, 2, 3, 4, 5, 6, 7, 8, 9, 10] rfl (wM_swing_b255 hC hK hR k137 hk137 M x1 x2 x3 x4 x5 x6 x7 x8 x10 x11 hf)
    · have hf := dh_el hf c17
      refine r_lload hC dX2_swing_247 (j := 10) rfl ?_
      refine r_lload hC dX2_swing_249 (j := 8) rfl ?_
      refine r_lcmp hC dX2_swing_251 ?_
      refine r_if_ge hC dX2_swing_252 (tgt := 273) (by decide) (fun c20 => ?_) (fun c20 => ?_)
      · have hf := dh_if hf c20
        refine r_iinc (lv' := [(10, .int (x10 + 1)), (0, .ref (dm_am E)), (1, .int x1), (2, .int x2), (3, .int x3), (4, .int x4), (5, .int x5), (6, .int x6), (7, .int x7), (8, .long x8), (11, .long x11), (13, .int x13)]) hC dX2_swing_273 (j := 9) rfl (congrArg _ ki_1) (Nat.le_of_ble_eq_true rfl) rfl ?_
        refine r_goto hC dX2_swing_276 (tgt := 137) (by decide) ?_
        exact r_sub [1, 2, 3, 4, 5, 6, 7, 8, 9, 0] rfl (hk137 M x1 x2 x3 x4 x5 x6 x7 x8 (x10 + 1) hf)
      · have hf := dh_el hf c20
        exact r_sub [0, 1, 2, 3, 4, 5, 6, 7, 8, 9, 10] rfl (wM_swing_b255 hC hK hR k137 hk137 M x1 x2 x3 x4 x5 x6 x7 x8 x10 x11 hf)
  · have hf := dh_el hf c16
    refine r_iload hC dX2_swing_164 (j := 9) rfl ?_
    refine r_iload hC dX2_swing_166 (j := 11) rfl ?_
    refine r_ishr hC dX2_swing_168 ?_
    refine r_iconst hC dX2_swing_169 ki_1 ?_
    refine r_iand hC dX2_swing_170 ?_
    refine r_if_eq hC dX2_swing_171 (tgt := 235) (by decide) (fun c21 => ?_) (fun c21 => ?_)
    · have hf := dh_if hf c21
      refine r_iinc (lv' := [(13, .int (x13 + 1)), (0, .ref (dm_am E)), (1, .int x1), (2, .int x2), (3, .int x3), (4, .int x4), (5, .int x5), (6, .int x6), (7, .int x7), (8, .long x8), (10, .int x10), (11, .long x11)]) hC dX2_swing_235 (j := 11) rfl (congrArg _ ki_1) (Nat.le_of_ble_eq_true rfl) rfl ?_
      refine r_goto hC dX2_swing_238 (tgt := 157) (by decide) ?_
      exact r_sub [1, 2, 3, 4, 5, 6, 7, 8, 9, 10, 11, 0] rfl (hk157 M x1 x2 x3 x4 x5 x6 x7 x8 x10 x11 (x13 + 1) hf)
    · have hf := dh_el hf c21
      refine r_aload_n hC dX2_swing_174 rfl (j := 0) rfl ?_
      refine m_getA hC hK fa_73 dX2_swing_175 ?_
      refine r_iload hC dX2_swing_178 (j := 11) rfl ?_
      obtain ⟨v22, h22, hf⟩ := dh_bd hf
      refine m_iald hC hK kd_73 h22 dX2_swing_180 ?_
      refine r_istore (lv' := [(14, .int v22), (0, .ref (dm_am E)), (1, .int x1), (2, .int x2), (3, .int x3), (4, .int x4), (5, .int x5), (6, .int x6), (7, .int x7), (8, .long x8), (10, .int x10), (11, .long x11), (13, .int x13)]) hC dX2_swing_181 (Nat.le_of_ble_eq_true rfl) rfl ?_
      refine r_lload hC dX2_swing_183 (j := 11) rfl ?_
      refine r_aload_n hC dX2_swing_185 rfl (j := 1) rfl ?_
      refine r_iload hC dX2_swing_186 (j := 0) rfl ?_
      obtain ⟨p23, h23, hf⟩ := dh_bd hf
      refine m_callV' hC hK hR (cM_dueOf _ E A M v22 h23) q1667 q_dueOf (Nat.le_of_ble_eq_true rfl) (Nat.le_of_ble_eq_true rfl) rfl (Nat.le_of_ble_eq_true rfl) dX2_swing_188 ?_
      refine r_i2l hC dX2_swing_191 ?_
      refine r_aload_n hC dX2_swing_192 rfl (j := 1) rfl ?_
      refine m_getA hC hK fa_24 dX2_swing_193 ?_
      refine r_bipush hC dX2_swing_196 kb_12 ?_
      refine r_aload_n hC dX2_swing_198 rfl (j := 1) rfl ?_
      refine m_getA hC hK fa_27 dX2_swing_199 ?_
      refine r_iload hC dX2_swing_202 (j := 0) rfl ?_
      obtain ⟨v24, h24, hf⟩ := dh_bd hf
      refine m_iald hC hK kd_27 h24 dX2_swing_204 ?_
      refine r_imul hC dX2_swing_205 ?_
      refine r_iload_n hC dX2_swing_206 rfl (j := 2) rfl ?_
      refine r_iadd hC dX2_swing_207 ?_
      obtain ⟨v25, h25, hf⟩ := dh_bd hf
      refine m_iald hC hK kd_24 h25 dX2_swing_208 ?_
      refine r_i2l hC dX2_swing_209 ?_
      refine r_lmul hC dX2_swing_210 ?_
      refine r_ldc2 hC q1933 dX2_swing_211 ?_
      refine r_ldiv hC dX2_swing_214 (by decide) ?_
      refine r_ladd hC dX2_swing_215 ?_
      refine r_lstore (lv' := [(11, .long (x11 + (((Int32.toInt64 p23) * (Int32.toInt64 v25)) / 1000))), (14, .int v22), (0, .ref (dm_am E)), (1, .int x1), (2, .int x2), (3, .int x3), (4, .int x4), (5, .int x5), (6, .int x6), (7, .int x7), (8, .long x8), (10, .int x10), (13, .int x13)]) hC dX2_swing_216 (Nat.le_of_ble_eq_true rfl) rfl ?_
      refine r_aload_n hC dX2_swing_218 rfl (j := 2) rfl ?_
      refine m_getA hC hK fa_71 dX2_swing_219 ?_
      refine r_iload hC dX2_swing_222 (j := 1) rfl ?_
      refine r_iload_n hC dX2_swing_224 rfl (j := 4) rfl ?_
      obtain ⟨M26, h26, hf⟩ := dh_bd hf
      refine m_iast hC hK kd_71 h26 dX2_swing_225 ?_
      refine r_aload_n hC dX2_swing_226 rfl (j := 2) rfl ?_
      refine m_getA hC hK fa_72 dX2_swing_227 ?_
      refine r_iload hC dX2_swing_230 (j := 1) rfl ?_
      refine r_iload hC dX2_swing_232 (j := 8) rfl ?_
      obtain ⟨M27, h27, hf⟩ := dh_bd hf
      refine m_zast hC hK kd_72 h27 dX2_swing_234 ?_
      refine r_iinc (lv' := [(13, .int (x13 + 1)), (11, .long (x11 + (((Int32.toInt64 p23) * (Int32.toInt64 v25)) / 1000))), (14, .int v22), (0, .ref (dm_am E)), (1, .int x1), (2, .int x2), (3, .int x3), (4, .int x4), (5, .int x5), (6, .int x6), (7, .int x7), (8, .long x8), (10, .int x10)]) hC dX2_swing_235 (j := 12) rfl (congrArg _ ki_1) (Nat.le_of_ble_eq_true rfl) rfl ?_
      refine r_goto hC dX2_swing_238 (tgt := 157) (by decide) ?_
      exact r_sub [3, 4, 5, 6, 7, 8, 9, 10, 11, 12, 1, 0] rfl (hk157 M27 x1 x2 x3 x4 x5 x6 x7 x8 x10 (x11 + (((Int32.toInt64 p23) * (Int32.toInt64 v25)) / 1000)) (x13 + 1) hf)
def gM_swing_L157 (k137 : (dm_M → Int32 → Int32 → Int32 → Int32 → Int32 → Int32 → Int32 → Int64 → Int32 → Option (Int32 × dm_M))) : Nat → dm_M → Int32 → Int32 → Int32 → Int32 → Int32 → Int32 → Int32 → Int64 → Int32 → Int64 → Int32 → Option (Int32 × dm_M)
  | 0 => fun _ _ _ _ _ _ _ _ _ _ _ _ => none
  | n + 1 => gM_swing_L157_F k137 (gM_swing_L157 k137 n)
theorem wM_swing_L157 {C : dh_C} {A : Nat → Prop} {E : dm_E} (hC : dh_ok C cX2_swing 15 RX2 (some .int)) (hK : dm_Kn E (dh_s C)) (hR : dh_R C = { frames := 5, cells := 0, slots := 0, locals := 122 }) {r : Int32} {M' : dm_M} (k137 : (dm_M → Int32 → Int32 → Int32 → Int32 → Int32 → Int32 → Int32 → Int64 → Int32 → Option (Int32 × dm_M))) (hk137 : ∀ (M : dm_M) (x1 : Int32) (x2 : Int32) (x3 : Int32) (x4 : Int32) (x5 : Int32) (x6 : Int32) (x7 : Int32) (x8 : Int64) (x10 : Int32), k137 M x1 x2 x3 x4 x5 x6 x7 x8 x10 = some (r, M') → dh_W C A (dm_P E A M) (dm_Q E A (some (.int r)) M') 0 0 0 0 137 [(0, .ref (dm_am E)), (1, .int x1), (2, .int x2), (3, .int x3), (4, .int x4), (5, .int x5), (6, .int x6), (7, .int x7), (8, .long x8), (10, .int x10)] []) : ∀ (n : Nat) (M : dm_M) (x1 : Int32) (x2 : Int32) (x3 : Int32) (x4 : Int32) (x5 : Int32) (x6 : Int32) (x7 : Int32) (x8 : Int64) (x10 : Int32) (x11 : Int64) (x13 : Int32) (_ : gM_swing_L157 k137 n M x1 x2 x3 x4 x5 x6 x7 x8 x10 x11 x13 = some (r, M')), dh_W C A (dm_P E A M) (dm_Q E A (some (.int r)) M') 0 0 0 0 157 [(0, .ref (dm_am E)), (1, .int x1), (2, .int x2), (3, .int x3), (4, .int x4), (5, .int x5), (6, .int x6), (7, .int x7), (8, .long x8), (10, .int x10), (11, .long x11), (13, .int x13)] [] := by
  intro n
  induction n with
  | zero => intro M x1 x2 x3 x4 x5 x6 x7 x8 x10 x11 x13 hf; exact dh_no hf
  | succ n ih => intro M x1 x2 x3 x4 x5 x6 x7 x8 x10 x11 x13 hf; exact wM_swing_L157_F hC hK hR k137 hk137 (gM_swing_L157 k137 n) ih M x1 x2 x3 x4 x5 x6 x7 x8 x10 x11 x13 hf
def gM_swing_L137_F (k137 : (dm_M → Int32 → Int32 → Int32 → Int32 → Int32 → Int32 → Int32 → Int64 → Int32 → Option (Int32 × dm_M))) (M : dm_M) (x1 : Int32) (x2 : Int32) (x3 : Int32) (x4 : Int32) (x5 : Int32) (x6 : Int32) (x7 : Int32) (x8 : Int64) (x10 : Int32) : Option (Int32 × dm_M) :=
  if ¬ ((1 <<< (x5 &&& 31)) ≤ x10) then (
    (gM_asItIs M x1).bind fun p15 =>
    gM_swing_L157 k137 dh_fu p15 x1 x2 x3 x4 x5 x6 x7 x8 x10 0 0)
  else
  if x7 = (-1) then (
    some ((-1), M))
  else
  if x4 = 0 then (
    some (Int64.toInt32 x8, M))
  else
  some (x7, M)
theorem wM_swing_L137_F {C : dh_C} {A : Nat → Prop} {E : dm_E} (hC : dh_ok C cX2_swing 15 RX2 (some .int)) (hK : dm_Kn E (dh_s C)) (hR : dh_R C = { frames := 5, cells := 0, slots := 0, locals := 122 }) {r : Int32} {M' : dm_M} (k137 : (dm_M → Int32 → Int32 → Int32 → Int32 → Int32 → Int32 → Int32 → Int64 → Int32 → Option (Int32 × dm_M))) (hk137 : ∀ (M : dm_M) (x1 : Int32) (x2 : Int32) (x3 : Int32) (x4 : Int32) (x5 : Int32) (x6 : Int32) (x7 : Int32) (x8 : Int64) (x10 : Int32), k137 M x1 x2 x3 x4 x5 x6 x7 x8 x10 = some (r, M') → dh_W C A (dm_P E A M) (dm_Q E A (some (.int r)) M') 0 0 0 0 137 [(0, .ref (dm_am E)), (1, .int x1), (2, .int x2), (3, .int x3), (4, .int x4), (5, .int x5), (6, .int x6), (7, .int x7), (8, .long x8), (10, .int x10)] []) (M : dm_M) (x1 : Int32) (x2 : Int32) (x3 : Int32) (x4 : Int32) (x5 : Int32) (x6 : Int32) (x7 : Int32) (x8 : Int64) (x10 : Int32) (hf : gM_swing_L137_F k137 M x1 x2 x3 x4 x5 x6 x7 x8 x10 = some (r, M')) : dh_W C A (dm_P E A M) (dm_Q E A (some (.int r)) M') 0 0 0 0 137 [(0, .ref (dm_am E)), (1, .int x1), (2, .int x2), (3, .int x3), (4, .int x4), (5, .int x5), (6, .int x6), (7, .int x7), (8, .long x8), (10, .int x10)] [] := by
  unfold gM_swing_L137_F at hf
  refine r_iload hC dX2_swing_137 (j := 9) rfl ?_
  refine r_iconst hC dX2_swing_139 ki_1 ?_
  refine r_iload hC dX2_swing_140 (j := 5) rfl ?_
  refine r_ishl hC dX2_swing_142 ?_
  refine r_icmp_ge hC dX2_swing_143 (tgt := 279) (by decide) (fun c12 => ?_) (fun c12 => ?_)
  · have hf := dh_el hf (fun q => q c12)
    refine r_iload hC dX2_swing_279 (j := 7) rfl ?_
    refine r_iconst hC dX2_swing_281 ki_m1 ?_
    refine r_icmp_ne hC dX2_swing_282 (tgt := 289) (by decide) (fun c13 => ?_) (fun c13 => ?_)
    · have hf := dh_el hf c13
      refine r_iload hC dX2_swing_289 (j := 4) rfl ?_
      refine r_if_ne hC dX2_swing_291 (tgt := 300) (by decide) (fun c14 => ?_) (fun c14 => ?_)
      · have hf := dh_el hf c14
        refine r_iload hC dX2_swing_300 (j := 7) rfl ?_
        exact m_iret hC dX2_swing_302 rfl hf
      · have hf := dh_if hf c14
        refine r_lload hC dX2_swing_294 (j := 8) rfl ?_
        refine r_l2i hC dX2_swing_296 ?_
        refine r_goto hC dX2_swing_297 (tgt := 302) (by decide) ?_
        exact m_iret hC dX2_swing_302 rfl hf
    · have hf := dh_if hf c13
      refine r_iconst hC dX2_swing_285 ki_m1 ?_
      refine r_goto hC dX2_swing_286 (tgt := 302) (by decide) ?_
      exact m_iret hC dX2_swing_302 rfl hf
  · have hf := dh_if hf c12
    refine r_lconst hC dX2_swing_146 kl_0 ?_
    refine r_lstore (lv' := [(11, .long 0), (0, .ref (dm_am E)), (1, .int x1), (2, .int x2), (3, .int x3), (4, .int x4), (5, .int x5), (6, .int x6), (7, .int x7), (8, .long x8), (10, .int x10)]) hC dX2_swing_147 (Nat.le_of_ble_eq_true rfl) rfl ?_
    refine r_aload_n hC dX2_swing_149 rfl (j := 1) rfl ?_
    refine r_iload_n hC dX2_swing_150 rfl (j := 2) rfl ?_
    obtain ⟨p15, h15, hf⟩ := dh_bd hf
    refine m_callV' hC hK hR (cM_asItIs _ E A M x1 h15) q1916 q_asItIs (Nat.le_of_ble_eq_true rfl) (Nat.le_of_ble_eq_true rfl) rfl (Nat.le_of_ble_eq_true rfl) dX2_swing_151 ?_
    refine r_iconst hC dX2_swing_154 ki_0 ?_
    refine r_istore (lv' := [(13, .int 0), (11, .long 0), (0, .ref (dm_am E)), (1, .int x1), (2, .int x2), (3, .int x3), (4, .int x4), (5, .int x5), (6, .int x6), (7, .int x7), (8, .long x8), (10, .int x10)]) hC dX2_swing_155 (Nat.le_of_ble_eq_true rfl) rfl ?_
    exact r_sub [2, 3, 4, 5, 6, 7, 8, 9, 10, 11, 1, 0] rfl (wM_swing_L157 hC hK hR k137 hk137 dh_fu p15 x1 x2 x3 x4 x5 x6 x7 x8 x10 0 0 hf)
def gM_swing_L137 : Nat → dm_M → Int32 → Int32 → Int32 → Int32 → Int32 → Int32 → Int32 → Int64 → Int32 → Option (Int32 × dm_M)
  | 0 => fun _ _ _ _ _ _ _ _ _ _ => none
  | n + 1 => gM_swing_L137_F (gM_swing_L137 n)
theorem wM_swing_L137 {C : dh_C} {A : Nat → Prop} {E : dm_E} (hC : dh_ok C cX2_swing 15 RX2 (some .int)) (hK : dm_Kn E (dh_s C)) (hR : dh_R C = { frames := 5, cells := 0, slots := 0, locals := 122 }) {r : Int32} {M' : dm_M} : ∀ (n : Nat) (M : dm_M) (x1 : Int32) (x2 : Int32) (x3 : Int32) (x4 : Int32) (x5 : Int32) (x6 : Int32) (x7 : Int32) (x8 : Int64) (x10 : Int32) (_ : gM_swing_L137 n M x1 x2 x3 x4 x5 x6 x7 x8 x10 = some (r, M')), dh_W C A (dm_P E A M) (dm_Q E A (some (.int r)) M') 0 0 0 0 137 [(0, .ref (dm_am E)), (1, .int x1), (2, .int x2), (3, .int x3), (4, .int x4), (5, .int x5), (6, .int x6), (7, .int x7), (8, .long x8), (10, .int x10)] [] := by
  intro n
  induction n with
  | zero => intro M x1 x2 x3 x4 x5 x6 x7 x8 x10 hf; exact dh_no hf
  | succ n ih => intro M x1 x2 x3 x4 x5 x6 x7 x8 x10 hf; exact wM_swing_L137_F hC hK hR (gM_swing_L137 n) ih M x1 x2 x3 x4 x5 x6 x7 x8 x10 hf
def gM_swing_b111 (M : dm_M) (x1 : Int32) (x2 : Int32) (x3 : Int32) (x4 : Int32) (x5 : Int32) : Option (Int32 × dm_M) :=
  (gM_tellsNow M x1 6).bind fun p10 =>
  if p10.1 = 0 then (
    gM_swing_L137 dh_fu p10.2 x1 x2 x3 x4 x5 0 (-1) 0 0)
  else
  gM_swing_L137 dh_fu p10.2 x1 x2 x3 x4 x5 1 (-1) 0 0
theorem wM_swing_b111 {C : dh_C} {A : Nat → Prop} {E : dm_E} (hC : dh_ok C cX2_swing 15 RX2 (some .int)) (hK : dm_Kn E (dh_s C)) (hR : dh_R C = { frames := 5, cells := 0, slots := 0, locals := 122 }) {r : Int32} {M' : dm_M} (M : dm_M) (x1 : Int32) (x2 : Int32) (x3 : Int32) (x4 : Int32) (x5 : Int32) (hf : gM_swing_b111 M x1 x2 x3 x4 x5 = some (r, M')) : dh_W C A (dm_P E A M) (dm_Q E A (some (.int r)) M') 0 0 0 0 111 [(0, .ref (dm_am E)), (1, .int x1), (2, .int x2), (3, .int x3), (4, .int x4), (5, .int x5)] [] := by
  unfold gM_swing_b111 at hf
  refine r_aload_n hC dX2_swing_111 rfl (j := 0) rfl ?_
  refine r_iload_n hC dX2_swing_112 rfl (j := 1) rfl ?_
  refine r_bipush hC dX2_swing_113 kb_6 ?_
  obtain ⟨p10, h10, hf⟩ := dh_bd hf
  refine m_callV' hC hK hR (cM_tellsNow _ E A M x1 6 h10) q1848 q_tellsNow (Nat.le_of_ble_eq_true rfl) (Nat.le_of_ble_eq_true rfl) rfl (Nat.le_of_ble_eq_true rfl) dX2_swing_115 ?_
  refine r_if_eq hC dX2_swing_118 (tgt := 125) (by decide) (fun c11 => ?_) (fun c11 => ?_)
  · have hf := dh_if hf c11
    refine r_iconst hC dX2_swing_125 ki_0 ?_
    refine r_istore (lv' := [(6, .int 0), (0, .ref (dm_am E)), (1, .int x1), (2, .int x2), (3, .int x3), (4, .int x4), (5, .int x5)]) hC dX2_swing_126 (Nat.le_of_ble_eq_true rfl) rfl ?_
    refine r_iconst hC dX2_swing_128 ki_m1 ?_
    refine r_istore (lv' := [(7, .int (-1)), (6, .int 0), (0, .ref (dm_am E)), (1, .int x1), (2, .int x2), (3, .int x3), (4, .int x4), (5, .int x5)]) hC dX2_swing_129 (Nat.le_of_ble_eq_true rfl) rfl ?_
    refine r_lconst hC dX2_swing_131 kl_0 ?_
    refine r_lstore (lv' := [(8, .long 0), (7, .int (-1)), (6, .int 0), (0, .ref (dm_am E)), (1, .int x1), (2, .int x2), (3, .int x3), (4, .int x4), (5, .int x5)]) hC dX2_swing_132 (Nat.le_of_ble_eq_true rfl) rfl ?_
    refine r_iconst hC dX2_swing_134 ki_0 ?_
    refine r_istore (lv' := [(10, .int 0), (8, .long 0), (7, .int (-1)), (6, .int 0), (0, .ref (dm_am E)), (1, .int x1), (2, .int x2), (3, .int x3), (4, .int x4), (5, .int x5)]) hC dX2_swing_135 (Nat.le_of_ble_eq_true rfl) rfl ?_
    exact r_sub [4, 5, 6, 7, 8, 9, 3, 2, 1, 0] rfl (wM_swing_L137 hC hK hR dh_fu p10.2 x1 x2 x3 x4 x5 0 (-1) 0 0 hf)
  · have hf := dh_el hf c11
    refine r_iconst hC dX2_swing_121 ki_1 ?_
    refine r_goto hC dX2_swing_122 (tgt := 126) (by decide) ?_
    refine r_istore (lv' := [(6, .int 1), (0, .ref (dm_am E)), (1, .int x1), (2, .int x2), (3, .int x3), (4, .int x4), (5, .int x5)]) hC dX2_swing_126 (Nat.le_of_ble_eq_true rfl) rfl ?_
    refine r_iconst hC dX2_swing_128 ki_m1 ?_
    refine r_istore (lv' := [(7, .int (-1)), (6, .int 1), (0, .ref (dm_am E)), (1, .int x1), (2, .int x2), (3, .int x3), (4, .int x4), (5, .int x5)]) hC dX2_swing_129 (Nat.le_of_ble_eq_true rfl) rfl ?_
    refine r_lconst hC dX2_swing_131 kl_0 ?_
    refine r_lstore (lv' := [(8, .long 0), (7, .int (-1)), (6, .int 1), (0, .ref (dm_am E)), (1, .int x1), (2, .int x2), (3, .int x3), (4, .int x4), (5, .int x5)]) hC dX2_swing_132 (Nat.le_of_ble_eq_true rfl) rfl ?_
    refine r_iconst hC dX2_swing_134 ki_0 ?_
    refine r_istore (lv' := [(10, .int 0), (8, .long 0), (7, .int (-1)), (6, .int 1), (0, .ref (dm_am E)), (1, .int x1), (2, .int x2), (3, .int x3), (4, .int x4), (5, .int x5)]) hC dX2_swing_135 (Nat.le_of_ble_eq_true rfl) rfl ?_
    exact r_sub [4, 5, 6, 7, 8, 9, 3, 2, 1, 0] rfl (wM_swing_L137 hC hK hR dh_fu p10.2 x1 x2 x3 x4 x5 1 (-1) 0 0 hf)
def gM_swing_L43_F (k43 : (dm_M → Int32 → Int32 → Int32 → Int32 → Int32 → Int32 → Option (Int32 × dm_M))) (M : dm_M) (x1 : Int32) (x2 : Int32) (x3 : Int32) (x4 : Int32) (x5 : Int32) (x6 : Int32) : Option (Int32 × dm_M) :=
  (dm_rd M 25 0).bind fun v8 =>
  if v8 ≤ x6 then (
    gM_swing_b111 M x1 x2 x3 x4 x5)
  else
  if 10 ≤ x5 then (
    gM_swing_b111 M x1 x2 x3 x4 x5)
  else
  (dm_rd M 33 x6).bind fun v29 =>
  if v29 = 0 then (
    (dm_rd M 26 x6).bind fun v31 =>
    if v31 = x1 then (
      (dm_rd M 27 x6).bind fun v33 =>
      if v33 = x2 then (
        k43 M x1 x2 x3 x4 x5 (x6 + 1))
      else
      (dm_wr M 73 x5 x6).bind fun M35 =>
      k43 M35 x1 x2 x3 x4 (x5 + 1) (x6 + 1))
    else
    k43 M x1 x2 x3 x4 x5 (x6 + 1))
  else
  k43 M x1 x2 x3 x4 x5 (x6 + 1)
theorem wM_swing_L43_F {C : dh_C} {A : Nat → Prop} {E : dm_E} (hC : dh_ok C cX2_swing 15 RX2 (some .int)) (hK : dm_Kn E (dh_s C)) (hR : dh_R C = { frames := 5, cells := 0, slots := 0, locals := 122 }) {r : Int32} {M' : dm_M} (k43 : (dm_M → Int32 → Int32 → Int32 → Int32 → Int32 → Int32 → Option (Int32 × dm_M))) (hk43 : ∀ (M : dm_M) (x1 : Int32) (x2 : Int32) (x3 : Int32) (x4 : Int32) (x5 : Int32) (x6 : Int32), k43 M x1 x2 x3 x4 x5 x6 = some (r, M') → dh_W C A (dm_P E A M) (dm_Q E A (some (.int r)) M') 0 0 0 0 43 [(0, .ref (dm_am E)), (1, .int x1), (2, .int x2), (3, .int x3), (4, .int x4), (5, .int x5), (6, .int x6)] []) (M : dm_M) (x1 : Int32) (x2 : Int32) (x3 : Int32) (x4 : Int32) (x5 : Int32) (x6 : Int32) (hf : gM_swing_L43_F k43 M x1 x2 x3 x4 x5 x6 = some (r, M')) : dh_W C A (dm_P E A M) (dm_Q E A (some (.int r)) M') 0 0 0 0 43 [(0, .ref (dm_am E)), (1, .int x1), (2, .int x2), (3, .int x3), (4, .int x4), (5, .int x5), (6, .int x6)] [] := by
  unfold gM_swing_L43_F at hf
  refine r_iload hC dX2_swing_43 (j := 6) rfl ?_
  refine r_aload_n hC dX2_swing_45 rfl (j := 0) rfl ?_
  refine m_getA hC hK fa_25 dX2_swing_46 ?_
  refine r_iconst hC dX2_swing_49 ki_0 ?_
  obtain ⟨v8, h8, hf⟩ := dh_bd hf
  refine m_iald hC hK kd_25 h8 dX2_swing_50 ?_
  refine r_icmp_ge hC dX2_swing_51 (tgt := 111) (by decide) (fun c9 => ?_) (fun c9 => ?_)
  · have hf := dh_if hf c9
    exact r_sub [0, 1, 2, 3, 4, 5] rfl (wM_swing_b111 hC hK hR M x1 x2 x3 x4 x5 hf)
  · have hf := dh_el hf c9
    refine r_iload hC dX2_swing_54 (j := 5) rfl ?_
    refine r_bipush hC dX2_swing_56 kb_10 ?_
    refine r_icmp_ge hC dX2_swing_58 (tgt := 111) (by decide) (fun c28 => ?_) (fun c28 => ?_)
    · have hf := dh_if hf c28
      exact r_sub [0, 1, 2, 3, 4, 5] rfl (wM_swing_b111 hC hK hR M x1 x2 x3 x4 x5 hf)
    · have hf := dh_el hf c28
      refine r_aload_n hC dX2_swing_61 rfl (j := 0) rfl ?_
      refine m_getA hC hK fa_33 dX2_swing_62 ?_
      refine r_iload hC dX2_swing_65 (j := 6) rfl ?_
      obtain ⟨v29, h29, hf⟩ := dh_bd hf
      refine m_iald hC hK kd_33 h29 dX2_swing_67 ?_
      refine r_if_ne hC dX2_swing_68 (tgt := 105) (by decide) (fun c30 => ?_) (fun c30 => ?_)
      · have hf := dh_el hf c30
        refine r_iinc (lv' := [(6, .int (x6 + 1)), (0, .ref (dm_am E)), (1, .int x1), (2, .int x2), (3, .int x3), (4, .int x4), (5, .int x5)]) hC dX2_swing_105 (j := 6) rfl (congrArg _ ki_1) (Nat.le_of_ble_eq_true rfl) rfl ?_
        refine r_goto hC dX2_swing_108 (tgt := 43) (by decide) ?_
        exact r_sub [1, 2, 3, 4, 5, 6, 0] rfl (hk43 M x1 x2 x3 x4 x5 (x6 + 1) hf)
      · have hf := dh_if hf c30
        refine r_aload_n hC dX2_swing_71 rfl (j := 0) rfl ?_
        refine m_getA hC hK fa_26 dX2_swing_72 ?_
        refine r_iload hC dX2_swing_75 (j := 6) rfl ?_
        obtain ⟨v31, h31, hf⟩ := dh_bd hf
        refine m_iald hC hK kd_26 h31 dX2_swing_77 ?_
        refine r_iload_n hC dX2_swing_78 rfl (j := 1) rfl ?_
        refine r_icmp_ne hC dX2_swing_79 (tgt := 105) (by decide) (fun c32 => ?_) (fun c32 => ?_)
        · have hf := dh_el hf c32
          refine r_iinc (lv' := [(6, .int (x6 + 1)), (0, .ref (dm_am E)), (1, .int x1), (2, .int x2), (3, .int x3), (4, .int x4), (5, .int x5)]) hC dX2_swing_105 (j := 6) rfl (congrArg _ ki_1) (Nat.le_of_ble_eq_true rfl) rfl ?_
          refine r_goto hC dX2_swing_108 (tgt := 43) (by decide) ?_
          exact r_sub [1, 2, 3, 4, 5, 6, 0] rfl (hk43 M x1 x2 x3 x4 x5 (x6 + 1) hf)
        · have hf := dh_if hf c32
          refine r_aload_n hC dX2_swing_82 rfl (j := 0) rfl ?_
          refine m_getA hC hK fa_27 dX2_swing_83 ?_
          refine r_iload hC dX2_swing_86 (j := 6) rfl ?_
          obtain ⟨v33, h33, hf⟩ := dh_bd hf
          refine m_iald hC hK kd_27 h33 dX2_swing_88 ?_
          refine r_iload_n hC dX2_swing_89 rfl (j := 2) rfl ?_
          refine r_icmp_eq hC dX2_swing_90 (tgt := 105) (by decide) (fun c34 => ?_) (fun c34 => ?_)
          · have hf := dh_if hf c34
            refine r_iinc (lv' := [(6, .int (x6 + 1)), (0, .ref (dm_am E)), (1, .int x1), (2, .int x2), (3, .int x3), (4, .int x4), (5, .int x5)]) hC dX2_swing_105 (j := 6) rfl (congrArg _ ki_1) (Nat.le_of_ble_eq_true rfl) rfl ?_
            refine r_goto hC dX2_swing_108 (tgt := 43) (by decide) ?_
            exact r_sub [1, 2, 3, 4, 5, 6, 0] rfl (hk43 M x1 x2 x3 x4 x5 (x6 + 1) hf)
          · have hf := dh_el hf c34
            refine r_aload_n hC dX2_swing_93 rfl (j := 0) rfl ?_
            refine m_getA hC hK fa_73 dX2_swing_94 ?_
            refine r_iload hC dX2_swing_97 (j := 5) rfl ?_
            refine r_iload hC dX2_swing_99 (j := 6) rfl ?_
            obtain ⟨M35, h35, hf⟩ := dh_bd hf
            refine m_iast hC hK kd_73 h35 dX2_swing_101 ?_
            refine r_iinc (lv' := [(5, .int (x5 + 1)), (0, .ref (dm_am E)), (1, .int x1), (2, .int x2), (3, .int x3), (4, .int x4), (6, .int x6)]) hC dX2_swing_102 (j := 5) rfl (congrArg _ ki_1) (Nat.le_of_ble_eq_true rfl) rfl ?_
            refine r_iinc (lv' := [(6, .int (x6 + 1)), (5, .int (x5 + 1)), (0, .ref (dm_am E)), (1, .int x1), (2, .int x2), (3, .int x3), (4, .int x4)]) hC dX2_swing_105 (j := 6) rfl (congrArg _ ki_1) (Nat.le_of_ble_eq_true rfl) rfl ?_
            refine r_goto hC dX2_swing_108 (tgt := 43) (by decide) ?_
            exact r_sub [2, 3, 4, 5, 6, 1, 0] rfl (hk43 M35 x1 x2 x3 x4 (x5 + 1) (x6 + 1) hf)
def gM_swing_L43 : Nat → dm_M → Int32 → Int32 → Int32 → Int32 → Int32 → Int32 → Option (Int32 × dm_M)
  | 0 => fun _ _ _ _ _ _ _ => none
  | n + 1 => gM_swing_L43_F (gM_swing_L43 n)
theorem wM_swing_L43 {C : dh_C} {A : Nat → Prop} {E : dm_E} (hC : dh_ok C cX2_swing 15 RX2 (some .int)) (hK : dm_Kn E (dh_s C)) (hR : dh_R C = { frames := 5, cells := 0, slots := 0, locals := 122 }) {r : Int32} {M' : dm_M} : ∀ (n : Nat) (M : dm_M) (x1 : Int32) (x2 : Int32) (x3 : Int32) (x4 : Int32) (x5 : Int32) (x6 : Int32) (_ : gM_swing_L43 n M x1 x2 x3 x4 x5 x6 = some (r, M')), dh_W C A (dm_P E A M) (dm_Q E A (some (.int r)) M') 0 0 0 0 43 [(0, .ref (dm_am E)), (1, .int x1), (2, .int x2), (3, .int x3), (4, .int x4), (5, .int x5), (6, .int x6)] [] := by
  intro n
  induction n with
  | zero => intro M x1 x2 x3 x4 x5 x6 hf; exact dh_no hf
  | succ n ih => intro M x1 x2 x3 x4 x5 x6 hf; exact wM_swing_L43_F hC hK hR (gM_swing_L43 n) ih M x1 x2 x3 x4 x5 x6 hf
def gM_swing (M : dm_M) (x1 : Int32) (x2 : Int32) (x3 : Int32) (x4 : Int32) : Option (Int32 × dm_M) :=
  (some (dm_set M 0 0 0)).bind fun M1 =>
  (gM_areTwo M1 x1 x2).bind fun p2 =>
  if p2 = 0 then (
    some ((-1), M1))
  else
  (gM_in M1 x3 0 1000).bind fun p4 =>
  if p4 = 0 then (
    some ((-1), M1))
  else
  (gM_in M1 x4 0 1).bind fun p6 =>
  if p6 = 0 then (
    some ((-1), M1))
  else
  gM_swing_L43 dh_fu M1 x1 x2 x3 x4 0 0
theorem wM_swing {C : dh_C} {A : Nat → Prop} {E : dm_E} (hC : dh_ok C cX2_swing 15 RX2 (some .int)) (hK : dm_Kn E (dh_s C)) (hR : dh_R C = { frames := 5, cells := 0, slots := 0, locals := 122 }) {r : Int32} {M' : dm_M} (M : dm_M) (x1 : Int32) (x2 : Int32) (x3 : Int32) (x4 : Int32) (hf : gM_swing M x1 x2 x3 x4 = some (r, M')) : dh_W C A (dm_P E A M) (dm_Q E A (some (.int r)) M') 0 0 0 0 0 [(0, .ref (dm_am E)), (1, .int x1), (2, .int x2), (3, .int x3), (4, .int x4)] [] := by
  unfold gM_swing at hf
  refine r_aload_n hC dX2_swing_0 rfl (j := 0) rfl ?_
  refine r_iconst hC dX2_swing_1 ki_0 ?_
  obtain ⟨M1, h1, hf⟩ := dh_bd hf
  refine m_putI hC hK fi_0 dX2_swing_2 h1 ?_
  refine r_aload_n hC dX2_swing_5 rfl (j := 0) rfl ?_
  refine r_iload_n hC dX2_swing_6 rfl (j := 1) rfl ?_
  refine r_iload_n hC dX2_swing_7 rfl (j := 2) rfl ?_
  obtain ⟨p2, h2, hf⟩ := dh_bd hf
  refine m_callV' hC hK hR (cM_areTwo _ E A M1 x1 x2 h2) q1646 q_areTwo (Nat.le_of_ble_eq_true rfl) (Nat.le_of_ble_eq_true rfl) rfl (Nat.le_of_ble_eq_true rfl) dX2_swing_8 ?_
  refine r_if_eq hC dX2_swing_11 (tgt := 35) (by decide) (fun c3 => ?_) (fun c3 => ?_)
  · have hf := dh_if hf c3
    refine r_iconst hC dX2_swing_35 ki_m1 ?_
    exact m_iret hC dX2_swing_36 rfl hf
  · have hf := dh_el hf c3
    refine r_iload_n hC dX2_swing_14 rfl (j := 3) rfl ?_
    refine r_iconst hC dX2_swing_15 ki_0 ?_
    refine r_sipush hC dX2_swing_16 ks_1000 ?_
    obtain ⟨p4, h4, hf⟩ := dh_bd hf
    refine m_callS' hC hK hR (cM_in _ E A M1 x3 0 1000 h4) q1639 q_in (Nat.le_of_ble_eq_true rfl) (Nat.le_of_ble_eq_true rfl) rfl (Nat.le_of_ble_eq_true rfl) dX2_swing_19 ?_
    refine r_if_eq hC dX2_swing_22 (tgt := 35) (by decide) (fun c5 => ?_) (fun c5 => ?_)
    · have hf := dh_if hf c5
      refine r_iconst hC dX2_swing_35 ki_m1 ?_
      exact m_iret hC dX2_swing_36 rfl hf
    · have hf := dh_el hf c5
      refine r_iload hC dX2_swing_25 (j := 4) rfl ?_
      refine r_iconst hC dX2_swing_27 ki_0 ?_
      refine r_iconst hC dX2_swing_28 ki_1 ?_
      obtain ⟨p6, h6, hf⟩ := dh_bd hf
      refine m_callS' hC hK hR (cM_in _ E A M1 x4 0 1 h6) q1639 q_in (Nat.le_of_ble_eq_true rfl) (Nat.le_of_ble_eq_true rfl) rfl (Nat.le_of_ble_eq_true rfl) dX2_swing_29 ?_
      refine r_if_ne hC dX2_swing_32 (tgt := 37) (by decide) (fun c7 => ?_) (fun c7 => ?_)
      · have hf := dh_el hf c7
        refine r_iconst hC dX2_swing_37 ki_0 ?_
        refine r_istore (lv' := [(5, .int 0), (0, .ref (dm_am E)), (1, .int x1), (2, .int x2), (3, .int x3), (4, .int x4)]) hC dX2_swing_38 (Nat.le_of_ble_eq_true rfl) rfl ?_
        refine r_iconst hC dX2_swing_40 ki_0 ?_
        refine r_istore (lv' := [(6, .int 0), (5, .int 0), (0, .ref (dm_am E)), (1, .int x1), (2, .int x2), (3, .int x3), (4, .int x4)]) hC dX2_swing_41 (Nat.le_of_ble_eq_true rfl) rfl ?_
        exact r_sub [2, 3, 4, 5, 6, 1, 0] rfl (wM_swing_L43 hC hK hR dh_fu M1 x1 x2 x3 x4 0 0 hf)
      · have hf := dh_if hf c7
        refine r_iconst hC dX2_swing_35 ki_m1 ?_
        exact m_iret hC dX2_swing_36 rfl hf
theorem cM_swing (l : Launch) (E : dm_E) (A : Nat → Prop) (M : dm_M) (x1 : Int32) (x2 : Int32) (x3 : Int32) (x4 : Int32) {p : Int32 × dm_M} (h : gM_swing M x1 x2 x3 x4 = some p) : dm_Met l yX2_swing cX2_swing 15 (some .int) 5 122 E A [.ref (dm_am E), .int x1, .int x2, .int x3, .int x4] M (some (.int p.1)) p.2 := by
  refine dh_met (by decide) (Nat.le_of_ble_eq_true rfl) (fun _ _ h => ⟨_, h.1⟩) (fun C hl hR hC hnm hK => ?_)
  exact wM_swing hC hK hR M x1 x2 x3 x4 h
theorem q_swing : dm_calV yX2_swing cX2_swing 15 (some .int) 4 := ⟨q1939, q1940, q1941, by decide +kernel⟩
