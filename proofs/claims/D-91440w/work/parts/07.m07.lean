set_option maxRecDepth 100000
/-! compose(II)I -/
def gM_compose_L106_F (k106 : (dm_M → Int32 → Int32 → Int64 → Int32 → Option (Int32 × dm_M))) (M : dm_M) (x1 : Int32) (x2 : Int32) (x3 : Int64) (x5 : Int32) : Option (Int32 × dm_M) :=
  (dm_rd M 25 0).bind fun v12 =>
  if v12 ≤ x5 then (
    (gM_letGo M).bind fun p14 =>
    some (Int64.toInt32 x3, p14))
  else
  (dm_rd M 33 x5).bind fun v15 =>
  if v15 = 0 then (
    (dm_rd M 26 x5).bind fun v17 =>
    if v17 = x1 then (
      (gM_dueOf M x5).bind fun p19 =>
      (dm_rd M 9 x1).bind fun v20 =>
      (dm_wr M 9 x1 (v20 - (Int64.toInt32 (((Int32.toInt64 p19) * (Int32.toInt64 x2)) / 1000)))).bind fun M21 =>
      (dm_rd M21 27 x5).bind fun v22 =>
      (dm_rd M21 9 v22).bind fun v23 =>
      (dm_wr M21 9 v22 (v23 + (Int64.toInt32 (((Int32.toInt64 p19) * (Int32.toInt64 x2)) / 1000)))).bind fun M24 =>
      (gM_dueOf M24 x5).bind fun p25 =>
      if (Int64.toInt32 (((Int32.toInt64 p19) * (Int32.toInt64 x2)) / 1000)) = p25 then (
        (gM_ends M24 x5 1).bind fun p28 =>
        k106 p28 x1 x2 x3 (x5 + 1))
      else
      (gM_ends M24 x5 2).bind fun p27 =>
      k106 p27 x1 x2 x3 (x5 + 1))
    else
    k106 M x1 x2 x3 (x5 + 1))
  else
  k106 M x1 x2 x3 (x5 + 1)
theorem wM_compose_L106_F {C : dh_C} {A : Nat → Prop} {E : dm_E} (hC : dh_ok C cX2_compose 7 RX2 (some .int)) (hK : dm_Kn E (dh_s C)) (hR : dh_R C = { frames := 6, cells := 0, slots := 0, locals := 144 }) {r : Int32} {M' : dm_M} (k106 : (dm_M → Int32 → Int32 → Int64 → Int32 → Option (Int32 × dm_M))) (hk106 : ∀ (M : dm_M) (x1 : Int32) (x2 : Int32) (x3 : Int64) (x5 : Int32), k106 M x1 x2 x3 x5 = some (r, M') → dh_W C A (dm_P E A M) (dm_Q E A (some (.int r)) M') 0 0 0 0 106 [(0, .ref (dm_am E)), (1, .int x1), (2, .int x2), (3, .long x3), (5, .int x5)] []) (M : dm_M) (x1 : Int32) (x2 : Int32) (x3 : Int64) (x5 : Int32) (hf : gM_compose_L106_F k106 M x1 x2 x3 x5 = some (r, M')) : dh_W C A (dm_P E A M) (dm_Q E A (some (.int r)) M') 0 0 0 0 106 [(0, .ref (dm_am E)), (1, .int x1), (2, .int x2), (3, .long x3), (5, .int x5)] [] := by
  unfold gM_compose_L106_F at hf
  refine r_iload hC dX2_compose_106 (j := 4) rfl ?_
  refine r_aload_n hC dX2_compose_108 rfl (j := 0) rfl ?_
  refine m_getA hC hK fa_25 dX2_compose_109 ?_
  refine r_iconst hC dX2_compose_112 ki_0 ?_
  obtain ⟨v12, h12, hf⟩ := dh_bd hf
  refine m_iald hC hK kd_25 h12 dX2_compose_113 ?_
  refine r_icmp_ge hC dX2_compose_114 (tgt := 211) (by decide) (fun c13 => ?_) (fun c13 => ?_)
  · have hf := dh_if hf c13
    refine r_aload_n hC dX2_compose_211 rfl (j := 0) rfl ?_
    obtain ⟨p14, h14, hf⟩ := dh_bd hf
    refine m_callV' hC hK hR (cM_letGo _ E A M h14) q1688 q_letGo (Nat.le_of_ble_eq_true rfl) (Nat.le_of_ble_eq_true rfl) rfl (Nat.le_of_ble_eq_true rfl) dX2_compose_212 ?_
    refine r_lload_n hC dX2_compose_215 rfl (j := 3) rfl ?_
    refine r_l2i hC dX2_compose_216 ?_
    exact m_iret hC dX2_compose_217 rfl hf
  · have hf := dh_el hf c13
    refine r_aload_n hC dX2_compose_117 rfl (j := 0) rfl ?_
    refine m_getA hC hK fa_33 dX2_compose_118 ?_
    refine r_iload hC dX2_compose_121 (j := 4) rfl ?_
    obtain ⟨v15, h15, hf⟩ := dh_bd hf
    refine m_iald hC hK kd_33 h15 dX2_compose_123 ?_
    refine r_if_ne hC dX2_compose_124 (tgt := 205) (by decide) (fun c16 => ?_) (fun c16 => ?_)
    · have hf := dh_el hf c16
      refine r_iinc (lv' := [(5, .int (x5 + 1)), (0, .ref (dm_am E)), (1, .int x1), (2, .int x2), (3, .long x3)]) hC dX2_compose_205 (j := 4) rfl (congrArg _ ki_1) (Nat.le_of_ble_eq_true rfl) rfl ?_
      refine r_goto hC dX2_compose_208 (tgt := 106) (by decide) ?_
      exact r_sub [1, 2, 3, 4, 0] rfl (hk106 M x1 x2 x3 (x5 + 1) hf)
    · have hf := dh_if hf c16
      refine r_aload_n hC dX2_compose_127 rfl (j := 0) rfl ?_
      refine m_getA hC hK fa_26 dX2_compose_128 ?_
      refine r_iload hC dX2_compose_131 (j := 4) rfl ?_
      obtain ⟨v17, h17, hf⟩ := dh_bd hf
      refine m_iald hC hK kd_26 h17 dX2_compose_133 ?_
      refine r_iload_n hC dX2_compose_134 rfl (j := 1) rfl ?_
      refine r_icmp_ne hC dX2_compose_135 (tgt := 205) (by decide) (fun c18 => ?_) (fun c18 => ?_)
      · have hf := dh_el hf c18
        refine r_iinc (lv' := [(5, .int (x5 + 1)), (0, .ref (dm_am E)), (1, .int x1), (2, .int x2), (3, .long x3)]) hC dX2_compose_205 (j := 4) rfl (congrArg _ ki_1) (Nat.le_of_ble_eq_true rfl) rfl ?_
        refine r_goto hC dX2_compose_208 (tgt := 106) (by decide) ?_
        exact r_sub [1, 2, 3, 4, 0] rfl (hk106 M x1 x2 x3 (x5 + 1) hf)
      · have hf := dh_if hf c18
        refine r_aload_n hC dX2_compose_138 rfl (j := 0) rfl ?_
        refine r_iload hC dX2_compose_139 (j := 4) rfl ?_
        obtain ⟨p19, h19, hf⟩ := dh_bd hf
        refine m_callV' hC hK hR (cM_dueOf _ E A M x5 h19) q1667 q_dueOf (Nat.le_of_ble_eq_true rfl) (Nat.le_of_ble_eq_true rfl) rfl (Nat.le_of_ble_eq_true rfl) dX2_compose_141 ?_
        refine r_i2l hC dX2_compose_144 ?_
        refine r_iload_n hC dX2_compose_145 rfl (j := 2) rfl ?_
        refine r_i2l hC dX2_compose_146 ?_
        refine r_lmul hC dX2_compose_147 ?_
        refine r_ldc2 hC q1933 dX2_compose_148 ?_
        refine r_ldiv hC dX2_compose_151 (by decide) ?_
        refine r_l2i hC dX2_compose_152 ?_
        refine r_istore (lv' := [(6, .int (Int64.toInt32 (((Int32.toInt64 p19) * (Int32.toInt64 x2)) / 1000))), (0, .ref (dm_am E)), (1, .int x1), (2, .int x2), (3, .long x3), (5, .int x5)]) hC dX2_compose_153 (Nat.le_of_ble_eq_true rfl) rfl ?_
        refine r_aload_n hC dX2_compose_155 rfl (j := 1) rfl ?_
        refine m_getA hC hK fa_9 dX2_compose_156 ?_
        refine r_iload_n hC dX2_compose_159 rfl (j := 2) rfl ?_
        refine r_dup2_11 hC dX2_compose_160 rfl rfl ?_
        obtain ⟨v20, h20, hf⟩ := dh_bd hf
        refine m_iald hC hK kd_9 h20 dX2_compose_161 ?_
        refine r_iload hC dX2_compose_162 (j := 0) rfl ?_
        refine r_isub hC dX2_compose_164 ?_
        obtain ⟨M21, h21, hf⟩ := dh_bd hf
        refine m_iast hC hK kd_9 h21 dX2_compose_165 ?_
        refine r_aload_n hC dX2_compose_166 rfl (j := 1) rfl ?_
        refine m_getA hC hK fa_9 dX2_compose_167 ?_
        refine r_aload_n hC dX2_compose_170 rfl (j := 1) rfl ?_
        refine m_getA hC hK fa_27 dX2_compose_171 ?_
        refine r_iload hC dX2_compose_174 (j := 5) rfl ?_
        obtain ⟨v22, h22, hf⟩ := dh_bd hf
        refine m_iald hC hK kd_27 h22 dX2_compose_176 ?_
        refine r_dup2_11 hC dX2_compose_177 rfl rfl ?_
        obtain ⟨v23, h23, hf⟩ := dh_bd hf
        refine m_iald hC hK kd_9 h23 dX2_compose_178 ?_
        refine r_iload hC dX2_compose_179 (j := 0) rfl ?_
        refine r_iadd hC dX2_compose_181 ?_
        obtain ⟨M24, h24, hf⟩ := dh_bd hf
        refine m_iast hC hK kd_9 h24 dX2_compose_182 ?_
        refine r_aload_n hC dX2_compose_183 rfl (j := 1) rfl ?_
        refine r_iload hC dX2_compose_184 (j := 5) rfl ?_
        refine r_iload hC dX2_compose_186 (j := 0) rfl ?_
        refine r_aload_n hC dX2_compose_188 rfl (j := 1) rfl ?_
        refine r_iload hC dX2_compose_189 (j := 5) rfl ?_
        obtain ⟨p25, h25, hf⟩ := dh_bd hf
        refine m_callV' hC hK hR (cM_dueOf _ E A M24 x5 h25) q1667 q_dueOf (Nat.le_of_ble_eq_true rfl) (Nat.le_of_ble_eq_true rfl) rfl (Nat.le_of_ble_eq_true rfl) dX2_compose_191 ?_
        refine r_icmp_ne hC dX2_compose_194 (tgt := 201) (by decide) (fun c26 => ?_) (fun c26 => ?_)
        · have hf := dh_el hf c26
          refine r_iconst hC dX2_compose_201 ki_2 ?_
          obtain ⟨p27, h27, hf⟩ := dh_bd hf
          refine m_callV' hC hK hR (cM_ends _ E A M24 x5 2 h27) q1684 q_ends (Nat.le_of_ble_eq_true rfl) (Nat.le_of_ble_eq_true rfl) rfl (Nat.le_of_ble_eq_true rfl) dX2_compose_202 ?_
          refine r_iinc (lv' := [(5, .int (x5 + 1)), (6, .int (Int64.toInt32 (((Int32.toInt64 p19) * (Int32.toInt64 x2)) / 1000))), (0, .ref (dm_am E)), (1, .int x1), (2, .int x2), (3, .long x3)]) hC dX2_compose_205 (j := 5) rfl (congrArg _ ki_1) (Nat.le_of_ble_eq_true rfl) rfl ?_
          refine r_goto hC dX2_compose_208 (tgt := 106) (by decide) ?_
          exact r_sub [2, 3, 4, 5, 0] rfl (hk106 p27 x1 x2 x3 (x5 + 1) hf)
        · have hf := dh_if hf c26
          refine r_iconst hC dX2_compose_197 ki_1 ?_
          refine r_goto hC dX2_compose_198 (tgt := 202) (by decide) ?_
          obtain ⟨p28, h28, hf⟩ := dh_bd hf
          refine m_callV' hC hK hR (cM_ends _ E A M24 x5 1 h28) q1684 q_ends (Nat.le_of_ble_eq_true rfl) (Nat.le_of_ble_eq_true rfl) rfl (Nat.le_of_ble_eq_true rfl) dX2_compose_202 ?_
          refine r_iinc (lv' := [(5, .int (x5 + 1)), (6, .int (Int64.toInt32 (((Int32.toInt64 p19) * (Int32.toInt64 x2)) / 1000))), (0, .ref (dm_am E)), (1, .int x1), (2, .int x2), (3, .long x3)]) hC dX2_compose_205 (j := 5) rfl (congrArg _ ki_1) (Nat.le_of_ble_eq_true rfl) rfl ?_
          refine r_goto hC dX2_compose_208 (tgt := 106) (by decide) ?_
          exact r_sub [2, 3, 4, 5, 0] rfl (hk106 p28 x1 x2 x3 (x5 + 1) hf)
def gM_compose_L106 : Nat → dm_M → Int32 → Int32 → Int64 → Int32 → Option (Int32 × dm_M)
  | 0 => fun _ _ _ _ _ => none
  | n + 1 => gM_compose_L106_F (gM_compose_L106 n)
theorem wM_compose_L106 {C : dh_C} {A : Nat → Prop} {E : dm_E} (hC : dh_ok C cX2_compose 7 RX2 (some .int)) (hK : dm_Kn E (dh_s C)) (hR : dh_R C = { frames := 6, cells := 0, slots := 0, locals := 144 }) {r : Int32} {M' : dm_M} : ∀ (n : Nat) (M : dm_M) (x1 : Int32) (x2 : Int32) (x3 : Int64) (x5 : Int32) (_ : gM_compose_L106 n M x1 x2 x3 x5 = some (r, M')), dh_W C A (dm_P E A M) (dm_Q E A (some (.int r)) M') 0 0 0 0 106 [(0, .ref (dm_am E)), (1, .int x1), (2, .int x2), (3, .long x3), (5, .int x5)] [] := by
  intro n
  induction n with
  | zero => intro M x1 x2 x3 x5 hf; exact dh_no hf
  | succ n ih => intro M x1 x2 x3 x5 hf; exact wM_compose_L106_F hC hK hR (gM_compose_L106 n) ih M x1 x2 x3 x5 hf
def gM_compose_L40_F (k40 : (dm_M → Int32 → Int32 → Int64 → Int32 → Option (Int32 × dm_M))) (M : dm_M) (x1 : Int32) (x2 : Int32) (x3 : Int64) (x5 : Int32) : Option (Int32 × dm_M) :=
  (dm_rd M 25 0).bind fun v8 =>
  if v8 ≤ x5 then (
    (dm_rd M 9 x1).bind fun v10 =>
    if (lg_cmp x3 (Int32.toInt64 v10)) ≤ 0 then (
      gM_compose_L106 dh_fu M x1 x2 x3 0)
    else
    some ((-1), M))
  else
  (dm_rd M 26 x5).bind fun v29 =>
  if v29 = x1 then (
    (gM_dueOf M x5).bind fun p31 =>
    k40 M x1 x2 (x3 + (((Int32.toInt64 p31) * (Int32.toInt64 x2)) / 1000)) (x5 + 1))
  else
  k40 M x1 x2 (x3 + 0) (x5 + 1)
theorem wM_compose_L40_F {C : dh_C} {A : Nat → Prop} {E : dm_E} (hC : dh_ok C cX2_compose 7 RX2 (some .int)) (hK : dm_Kn E (dh_s C)) (hR : dh_R C = { frames := 6, cells := 0, slots := 0, locals := 144 }) {r : Int32} {M' : dm_M} (k40 : (dm_M → Int32 → Int32 → Int64 → Int32 → Option (Int32 × dm_M))) (hk40 : ∀ (M : dm_M) (x1 : Int32) (x2 : Int32) (x3 : Int64) (x5 : Int32), k40 M x1 x2 x3 x5 = some (r, M') → dh_W C A (dm_P E A M) (dm_Q E A (some (.int r)) M') 0 0 0 0 40 [(0, .ref (dm_am E)), (1, .int x1), (2, .int x2), (3, .long x3), (5, .int x5)] []) (M : dm_M) (x1 : Int32) (x2 : Int32) (x3 : Int64) (x5 : Int32) (hf : gM_compose_L40_F k40 M x1 x2 x3 x5 = some (r, M')) : dh_W C A (dm_P E A M) (dm_Q E A (some (.int r)) M') 0 0 0 0 40 [(0, .ref (dm_am E)), (1, .int x1), (2, .int x2), (3, .long x3), (5, .int x5)] [] := by
  unfold gM_compose_L40_F at hf
  refine r_iload hC dX2_compose_40 (j := 4) rfl ?_
  refine r_aload_n hC dX2_compose_42 rfl (j := 0) rfl ?_
  refine m_getA hC hK fa_25 dX2_compose_43 ?_
  refine r_iconst hC dX2_compose_46 ki_0 ?_
  obtain ⟨v8, h8, hf⟩ := dh_bd hf
  refine m_iald hC hK kd_25 h8 dX2_compose_47 ?_
  refine r_icmp_ge hC dX2_compose_48 (tgt := 89) (by decide) (fun c9 => ?_) (fun c9 => ?_)
  · have hf := dh_if hf c9
    refine r_lload_n hC dX2_compose_89 rfl (j := 3) rfl ?_
    refine r_aload_n hC dX2_compose_90 rfl (j := 0) rfl ?_
    refine m_getA hC hK fa_9 dX2_compose_91 ?_
    refine r_iload_n hC dX2_compose_94 rfl (j := 1) rfl ?_
    obtain ⟨v10, h10, hf⟩ := dh_bd hf
    refine m_iald hC hK kd_9 h10 dX2_compose_95 ?_
    refine r_i2l hC dX2_compose_96 ?_
    refine r_lcmp hC dX2_compose_97 ?_
    refine r_if_le hC dX2_compose_98 (tgt := 103) (by decide) (fun c11 => ?_) (fun c11 => ?_)
    · have hf := dh_if hf c11
      refine r_iconst hC dX2_compose_103 ki_0 ?_
      refine r_istore (lv' := [(5, .int 0), (0, .ref (dm_am E)), (1, .int x1), (2, .int x2), (3, .long x3)]) hC dX2_compose_104 (Nat.le_of_ble_eq_true rfl) rfl ?_
      exact r_sub [1, 2, 3, 4, 0] rfl (wM_compose_L106 hC hK hR dh_fu M x1 x2 x3 0 hf)
    · have hf := dh_el hf c11
      refine r_iconst hC dX2_compose_101 ki_m1 ?_
      exact m_iret hC dX2_compose_102 rfl hf
  · have hf := dh_el hf c9
    refine r_lload_n hC dX2_compose_51 rfl (j := 3) rfl ?_
    refine r_aload_n hC dX2_compose_52 rfl (j := 0) rfl ?_
    refine m_getA hC hK fa_26 dX2_compose_53 ?_
    refine r_iload hC dX2_compose_56 (j := 4) rfl ?_
    obtain ⟨v29, h29, hf⟩ := dh_bd hf
    refine m_iald hC hK kd_26 h29 dX2_compose_58 ?_
    refine r_iload_n hC dX2_compose_59 rfl (j := 1) rfl ?_
    refine r_icmp_ne hC dX2_compose_60 (tgt := 80) (by decide) (fun c30 => ?_) (fun c30 => ?_)
    · have hf := dh_el hf c30
      refine r_lconst hC dX2_compose_80 kl_0 ?_
      refine r_ladd hC dX2_compose_81 ?_
      refine r_lstore_n (lv' := [(3, .long (x3 + 0)), (0, .ref (dm_am E)), (1, .int x1), (2, .int x2), (5, .int x5)]) hC dX2_compose_82 rfl (Nat.le_of_ble_eq_true rfl) rfl ?_
      refine r_iinc (lv' := [(5, .int (x5 + 1)), (3, .long (x3 + 0)), (0, .ref (dm_am E)), (1, .int x1), (2, .int x2)]) hC dX2_compose_83 (j := 4) rfl (congrArg _ ki_1) (Nat.le_of_ble_eq_true rfl) rfl ?_
      refine r_goto hC dX2_compose_86 (tgt := 40) (by decide) ?_
      exact r_sub [2, 3, 4, 1, 0] rfl (hk40 M x1 x2 (x3 + 0) (x5 + 1) hf)
    · have hf := dh_if hf c30
      refine r_aload_n hC dX2_compose_63 rfl (j := 0) rfl ?_
      refine r_iload hC dX2_compose_64 (j := 4) rfl ?_
      obtain ⟨p31, h31, hf⟩ := dh_bd hf
      refine m_callV' hC hK hR (cM_dueOf _ E A M x5 h31) q1667 q_dueOf (Nat.le_of_ble_eq_true rfl) (Nat.le_of_ble_eq_true rfl) rfl (Nat.le_of_ble_eq_true rfl) dX2_compose_66 ?_
      refine r_i2l hC dX2_compose_69 ?_
      refine r_iload_n hC dX2_compose_70 rfl (j := 2) rfl ?_
      refine r_i2l hC dX2_compose_71 ?_
      refine r_lmul hC dX2_compose_72 ?_
      refine r_ldc2 hC q1933 dX2_compose_73 ?_
      refine r_ldiv hC dX2_compose_76 (by decide) ?_
      refine r_goto hC dX2_compose_77 (tgt := 81) (by decide) ?_
      refine r_ladd hC dX2_compose_81 ?_
      refine r_lstore_n (lv' := [(3, .long (x3 + (((Int32.toInt64 p31) * (Int32.toInt64 x2)) / 1000))), (0, .ref (dm_am E)), (1, .int x1), (2, .int x2), (5, .int x5)]) hC dX2_compose_82 rfl (Nat.le_of_ble_eq_true rfl) rfl ?_
      refine r_iinc (lv' := [(5, .int (x5 + 1)), (3, .long (x3 + (((Int32.toInt64 p31) * (Int32.toInt64 x2)) / 1000))), (0, .ref (dm_am E)), (1, .int x1), (2, .int x2)]) hC dX2_compose_83 (j := 4) rfl (congrArg _ ki_1) (Nat.le_of_ble_eq_true rfl) rfl ?_
      refine r_goto hC dX2_compose_86 (tgt := 40) (by decide) ?_
      exact r_sub [2, 3, 4, 1, 0] rfl (hk40 M x1 x2 (x3 + (((Int32.toInt64 p31) * (Int32.toInt64 x2)) / 1000)) (x5 + 1) hf)
def gM_compose_L40 : Nat → dm_M → Int32 → Int32 → Int64 → Int32 → Option (Int32 × dm_M)
  | 0 => fun _ _ _ _ _ => none
  | n + 1 => gM_compose_L40_F (gM_compose_L40 n)
theorem wM_compose_L40 {C : dh_C} {A : Nat → Prop} {E : dm_E} (hC : dh_ok C cX2_compose 7 RX2 (some .int)) (hK : dm_Kn E (dh_s C)) (hR : dh_R C = { frames := 6, cells := 0, slots := 0, locals := 144 }) {r : Int32} {M' : dm_M} : ∀ (n : Nat) (M : dm_M) (x1 : Int32) (x2 : Int32) (x3 : Int64) (x5 : Int32) (_ : gM_compose_L40 n M x1 x2 x3 x5 = some (r, M')), dh_W C A (dm_P E A M) (dm_Q E A (some (.int r)) M') 0 0 0 0 40 [(0, .ref (dm_am E)), (1, .int x1), (2, .int x2), (3, .long x3), (5, .int x5)] [] := by
  intro n
  induction n with
  | zero => intro M x1 x2 x3 x5 hf; exact dh_no hf
  | succ n ih => intro M x1 x2 x3 x5 hf; exact wM_compose_L40_F hC hK hR (gM_compose_L40 n) ih M x1 x2 x3 x5 hf
def gM_compose (M : dm_M) (x1 : Int32) (x2 : Int32) : Option (Int32 × dm_M) :=
  (some (dm_set M 0 0 0)).bind fun M1 =>
  (gM_isPerson M1 x1).bind fun p2 =>
  if p2 = 0 then (
    some ((-1), M1))
  else
  (gM_in M1 x2 0 1000).bind fun p4 =>
  if p4 = 0 then (
    some ((-1), M1))
  else
  (gM_bindsNow M1 x1 x2).bind fun p6 =>
  if p6.1 = 0 then (
    some ((-1), p6.2))
  else
  gM_compose_L40 dh_fu p6.2 x1 x2 0 0
theorem wM_compose {C : dh_C} {A : Nat → Prop} {E : dm_E} (hC : dh_ok C cX2_compose 7 RX2 (some .int)) (hK : dm_Kn E (dh_s C)) (hR : dh_R C = { frames := 6, cells := 0, slots := 0, locals := 144 }) {r : Int32} {M' : dm_M} (M : dm_M) (x1 : Int32) (x2 : Int32) (hf : gM_compose M x1 x2 = some (r, M')) : dh_W C A (dm_P E A M) (dm_Q E A (some (.int r)) M') 0 0 0 0 0 [(0, .ref (dm_am E)), (1, .int x1), (2, .int x2)] [] := by
  unfold gM_compose at hf
  refine r_aload_n hC dX2_compose_0 rfl (j := 0) rfl ?_
  refine r_iconst hC dX2_compose_1 ki_0 ?_
  obtain ⟨M1, h1, hf⟩ := dh_bd hf
  refine m_putI hC hK fi_0 dX2_compose_2 h1 ?_
  refine r_aload_n hC dX2_compose_5 rfl (j := 0) rfl ?_
  refine r_iload_n hC dX2_compose_6 rfl (j := 1) rfl ?_
  obtain ⟨p2, h2, hf⟩ := dh_bd hf
  refine m_callV' hC hK hR (cM_isPerson _ E A M1 x1 h2) q1650 q_isPerson (Nat.le_of_ble_eq_true rfl) (Nat.le_of_ble_eq_true rfl) rfl (Nat.le_of_ble_eq_true rfl) dX2_compose_7 ?_
  refine r_if_eq hC dX2_compose_10 (tgt := 33) (by decide) (fun c3 => ?_) (fun c3 => ?_)
  · have hf := dh_if hf c3
    refine r_iconst hC dX2_compose_33 ki_m1 ?_
    exact m_iret hC dX2_compose_34 rfl hf
  · have hf := dh_el hf c3
    refine r_iload_n hC dX2_compose_13 rfl (j := 2) rfl ?_
    refine r_iconst hC dX2_compose_14 ki_0 ?_
    refine r_sipush hC dX2_compose_15 ks_1000 ?_
    obtain ⟨p4, h4, hf⟩ := dh_bd hf
    refine m_callS' hC hK hR (cM_in _ E A M1 x2 0 1000 h4) q1639 q_in (Nat.le_of_ble_eq_true rfl) (Nat.le_of_ble_eq_true rfl) rfl (Nat.le_of_ble_eq_true rfl) dX2_compose_18 ?_
    refine r_if_eq hC dX2_compose_21 (tgt := 33) (by decide) (fun c5 => ?_) (fun c5 => ?_)
    · have hf := dh_if hf c5
      refine r_iconst hC dX2_compose_33 ki_m1 ?_
      exact m_iret hC dX2_compose_34 rfl hf
    · have hf := dh_el hf c5
      refine r_aload_n hC dX2_compose_24 rfl (j := 0) rfl ?_
      refine r_iload_n hC dX2_compose_25 rfl (j := 1) rfl ?_
      refine r_iload_n hC dX2_compose_26 rfl (j := 2) rfl ?_
      obtain ⟨p6, h6, hf⟩ := dh_bd hf
      refine m_callV' hC hK hR (cM_bindsNow _ E A M1 x1 x2 h6) q1912 q_bindsNow (Nat.le_of_ble_eq_true rfl) (Nat.le_of_ble_eq_true rfl) rfl (Nat.le_of_ble_eq_true rfl) dX2_compose_27 ?_
      refine r_if_ne hC dX2_compose_30 (tgt := 35) (by decide) (fun c7 => ?_) (fun c7 => ?_)
      · have hf := dh_el hf c7
        refine r_lconst hC dX2_compose_35 kl_0 ?_
        refine r_lstore_n (lv' := [(3, .long 0), (0, .ref (dm_am E)), (1, .int x1), (2, .int x2)]) hC dX2_compose_36 rfl (Nat.le_of_ble_eq_true rfl) rfl ?_
        refine r_iconst hC dX2_compose_37 ki_0 ?_
        refine r_istore (lv' := [(5, .int 0), (3, .long 0), (0, .ref (dm_am E)), (1, .int x1), (2, .int x2)]) hC dX2_compose_38 (Nat.le_of_ble_eq_true rfl) rfl ?_
        exact r_sub [2, 3, 4, 1, 0] rfl (wM_compose_L40 hC hK hR dh_fu p6.2 x1 x2 0 0 hf)
      · have hf := dh_if hf c7
        refine r_iconst hC dX2_compose_33 ki_m1 ?_
        exact m_iret hC dX2_compose_34 rfl hf
theorem cM_compose (l : Launch) (E : dm_E) (A : Nat → Prop) (M : dm_M) (x1 : Int32) (x2 : Int32) {p : Int32 × dm_M} (h : gM_compose M x1 x2 = some p) : dm_Met l yX2_compose cX2_compose 7 (some .int) 6 144 E A [.ref (dm_am E), .int x1, .int x2] M (some (.int p.1)) p.2 := by
  refine dh_met (by decide) (Nat.le_of_ble_eq_true rfl) (fun _ _ h => ⟨_, h.1⟩) (fun C hl hR hC hnm hK => ?_)
  exact wM_compose hC hK hR M x1 x2 h
theorem q_compose : dm_calV yX2_compose cX2_compose 7 (some .int) 2 := ⟨q1930, q1931, q1932, by decide +kernel⟩
/-! costs(II)I -/
def gM_costs (M : dm_M) (x1 : Int32) (x2 : Int32) : Option (Int32 × dm_M) :=
  (some (dm_set M 0 0 0)).bind fun M1 =>
  (gM_isLive M1 x1).bind fun p2 =>
  if p2 = 0 then (
    some ((-1), M1))
  else
  (gM_in M1 x2 1 10000).bind fun p4 =>
  if p4 = 0 then (
    some ((-1), M1))
  else
  (dm_rd M1 37 x1).bind fun v6 =>
  (dm_wr M1 37 x1 (v6 + x2)).bind fun M7 =>
  (gM_dueOf M7 x1).bind fun p8 =>
  some (p8, M7)
theorem wM_costs {C : dh_C} {A : Nat → Prop} {E : dm_E} (hC : dh_ok C cX2_costs 3 RX2 (some .int)) (hK : dm_Kn E (dh_s C)) (hR : dh_R C = { frames := 3, cells := 0, slots := 0, locals := 64 }) {r : Int32} {M' : dm_M} (M : dm_M) (x1 : Int32) (x2 : Int32) (hf : gM_costs M x1 x2 = some (r, M')) : dh_W C A (dm_P E A M) (dm_Q E A (some (.int r)) M') 0 0 0 0 0 [(0, .ref (dm_am E)), (1, .int x1), (2, .int x2)] [] := by
  unfold gM_costs at hf
  refine r_aload_n hC dX2_costs_0 rfl (j := 0) rfl ?_
  refine r_iconst hC dX2_costs_1 ki_0 ?_
  obtain ⟨M1, h1, hf⟩ := dh_bd hf
  refine m_putI hC hK fi_0 dX2_costs_2 h1 ?_
  refine r_aload_n hC dX2_costs_5 rfl (j := 0) rfl ?_
  refine r_iload_n hC dX2_costs_6 rfl (j := 1) rfl ?_
  obtain ⟨p2, h2, hf⟩ := dh_bd hf
  refine m_callV' hC hK hR (cM_isLive _ E A M1 x1 h2) q1659 q_isLive (Nat.le_of_ble_eq_true rfl) (Nat.le_of_ble_eq_true rfl) rfl (Nat.le_of_ble_eq_true rfl) dX2_costs_7 ?_
  refine r_if_eq hC dX2_costs_10 (tgt := 24) (by decide) (fun c3 => ?_) (fun c3 => ?_)
  · have hf := dh_if hf c3
    refine r_iconst hC dX2_costs_24 ki_m1 ?_
    exact m_iret hC dX2_costs_25 rfl hf
  · have hf := dh_el hf c3
    refine r_iload_n hC dX2_costs_13 rfl (j := 2) rfl ?_
    refine r_iconst hC dX2_costs_14 ki_1 ?_
    refine r_sipush hC dX2_costs_15 ks_10000 ?_
    obtain ⟨p4, h4, hf⟩ := dh_bd hf
    refine m_callS' hC hK hR (cM_in _ E A M1 x2 1 10000 h4) q1639 q_in (Nat.le_of_ble_eq_true rfl) (Nat.le_of_ble_eq_true rfl) rfl (Nat.le_of_ble_eq_true rfl) dX2_costs_18 ?_
    refine r_if_ne hC dX2_costs_21 (tgt := 26) (by decide) (fun c5 => ?_) (fun c5 => ?_)
    · have hf := dh_el hf c5
      refine r_aload_n hC dX2_costs_26 rfl (j := 0) rfl ?_
      refine m_getA hC hK fa_37 dX2_costs_27 ?_
      refine r_iload_n hC dX2_costs_30 rfl (j := 1) rfl ?_
      refine r_dup2_11 hC dX2_costs_31 rfl rfl ?_
      obtain ⟨v6, h6, hf⟩ := dh_bd hf
      refine m_iald hC hK kd_37 h6 dX2_costs_32 ?_
      refine r_iload_n hC dX2_costs_33 rfl (j := 2) rfl ?_
      refine r_iadd hC dX2_costs_34 ?_
      obtain ⟨M7, h7, hf⟩ := dh_bd hf
      refine m_iast hC hK kd_37 h7 dX2_costs_35 ?_
      refine r_aload_n hC dX2_costs_36 rfl (j := 0) rfl ?_
      refine r_iload_n hC dX2_costs_37 rfl (j := 1) rfl ?_
      obtain ⟨p8, h8, hf⟩ := dh_bd hf
      refine m_callV' hC hK hR (cM_dueOf _ E A M7 x1 h8) q1667 q_dueOf (Nat.le_of_ble_eq_true rfl) (Nat.le_of_ble_eq_true rfl) rfl (Nat.le_of_ble_eq_true rfl) dX2_costs_38 ?_
      exact m_iret hC dX2_costs_41 rfl hf
    · have hf := dh_if hf c5
      refine r_iconst hC dX2_costs_24 ki_m1 ?_
      exact m_iret hC dX2_costs_25 rfl hf
theorem cM_costs (l : Launch) (E : dm_E) (A : Nat → Prop) (M : dm_M) (x1 : Int32) (x2 : Int32) {p : Int32 × dm_M} (h : gM_costs M x1 x2 = some p) : dm_Met l yX2_costs cX2_costs 3 (some .int) 3 64 E A [.ref (dm_am E), .int x1, .int x2] M (some (.int p.1)) p.2 := by
  refine dh_met (by decide) (Nat.le_of_ble_eq_true rfl) (fun _ _ h => ⟨_, h.1⟩) (fun C hl hR hC hnm hK => ?_)
  exact wM_costs hC hK hR M x1 x2 h
theorem q_costs : dm_calV yX2_costs cX2_costs 3 (some .int) 2 := ⟨q1656, q1657, q1658, by decide +kernel⟩
/-! count(I)I -/
def gM_count_L88_F (k88 : (dm_M → Int32 → Int32 → Option (Int32 × dm_M))) (M : dm_M) (x2 : Int32) (x3 : Int32) : Option (Int32 × dm_M) :=
  (dm_rd M 25 0).bind fun v7 =>
  if v7 ≤ x3 then (
    some (x2, M))
  else
  (dm_rd M 33 x3).bind fun v9 =>
  if v9 = 0 then (
    k88 M (x2 + 1) (x3 + 1))
  else
  k88 M (x2 + 0) (x3 + 1)
theorem wM_count_L88_F {C : dh_C} {A : Nat → Prop} {E : dm_E} (hC : dh_ok C cX2_count 4 RX2 (some .int)) (hK : dm_Kn E (dh_s C)) (hR : dh_R C = { frames := 2, cells := 0, slots := 0, locals := 42 }) {r : Int32} {M' : dm_M} (k88 : (dm_M → Int32 → Int32 → Option (Int32 × dm_M))) (hk88 : ∀ (M : dm_M) (x2 : Int32) (x3 : Int32), k88 M x2 x3 = some (r, M') → dh_W C A (dm_P E A M) (dm_Q E A (some (.int r)) M') 0 0 0 0 88 [(0, .ref (dm_am E)), (2, .int x2), (3, .int x3)] []) (M : dm_M) (x2 : Int32) (x3 : Int32) (hf : gM_count_L88_F k88 M x2 x3 = some (r, M')) : dh_W C A (dm_P E A M) (dm_Q E A (some (.int r)) M') 0 0 0 0 88 [(0, .ref (dm_am E)), (2, .int x2), (3, .int x3)] [] := by
  unfold gM_count_L88_F at hf
  refine r_iload_n hC dX2_count_88 rfl (j := 2) rfl ?_
  refine r_aload_n hC dX2_count_89 rfl (j := 0) rfl ?_
  refine m_getA hC hK fa_25 dX2_count_90 ?_
  refine r_iconst hC dX2_count_93 ki_0 ?_
  obtain ⟨v7, h7, hf⟩ := dh_bd hf
  refine m_iald hC hK kd_25 h7 dX2_count_94 ?_
  refine r_icmp_ge hC dX2_count_95 (tgt := 121) (by decide) (fun c8 => ?_) (fun c8 => ?_)
  · have hf := dh_if hf c8
    refine r_iload_n hC dX2_count_121 rfl (j := 1) rfl ?_
    exact m_iret hC dX2_count_122 rfl hf
  · have hf := dh_el hf c8
    refine r_iload_n hC dX2_count_98 rfl (j := 1) rfl ?_
    refine r_aload_n hC dX2_count_99 rfl (j := 0) rfl ?_
    refine m_getA hC hK fa_33 dX2_count_100 ?_
    refine r_iload_n hC dX2_count_103 rfl (j := 2) rfl ?_
    obtain ⟨v9, h9, hf⟩ := dh_bd hf
    refine m_iald hC hK kd_33 h9 dX2_count_104 ?_
    refine r_if_ne hC dX2_count_105 (tgt := 112) (by decide) (fun c10 => ?_) (fun c10 => ?_)
    · have hf := dh_el hf c10
      refine r_iconst hC dX2_count_112 ki_0 ?_
      refine r_iadd hC dX2_count_113 ?_
      refine r_istore_n (lv' := [(2, .int (x2 + 0)), (0, .ref (dm_am E)), (3, .int x3)]) hC dX2_count_114 rfl (Nat.le_of_ble_eq_true rfl) rfl ?_
      refine r_iinc (lv' := [(3, .int (x3 + 1)), (2, .int (x2 + 0)), (0, .ref (dm_am E))]) hC dX2_count_115 (j := 2) rfl (congrArg _ ki_1) (Nat.le_of_ble_eq_true rfl) rfl ?_
      refine r_goto hC dX2_count_118 (tgt := 88) (by decide) ?_
      exact r_sub [2, 1, 0] rfl (hk88 M (x2 + 0) (x3 + 1) hf)
    · have hf := dh_if hf c10
      refine r_iconst hC dX2_count_108 ki_1 ?_
      refine r_goto hC dX2_count_109 (tgt := 113) (by decide) ?_
      refine r_iadd hC dX2_count_113 ?_
      refine r_istore_n (lv' := [(2, .int (x2 + 1)), (0, .ref (dm_am E)), (3, .int x3)]) hC dX2_count_114 rfl (Nat.le_of_ble_eq_true rfl) rfl ?_
      refine r_iinc (lv' := [(3, .int (x3 + 1)), (2, .int (x2 + 1)), (0, .ref (dm_am E))]) hC dX2_count_115 (j := 2) rfl (congrArg _ ki_1) (Nat.le_of_ble_eq_true rfl) rfl ?_
      refine r_goto hC dX2_count_118 (tgt := 88) (by decide) ?_
      exact r_sub [2, 1, 0] rfl (hk88 M (x2 + 1) (x3 + 1) hf)
def gM_count_L88 : Nat → dm_M → Int32 → Int32 → Option (Int32 × dm_M)
  | 0 => fun _ _ _ => none
  | n + 1 => gM_count_L88_F (gM_count_L88 n)
theorem wM_count_L88 {C : dh_C} {A : Nat → Prop} {E : dm_E} (hC : dh_ok C cX2_count 4 RX2 (some .int)) (hK : dm_Kn E (dh_s C)) (hR : dh_R C = { frames := 2, cells := 0, slots := 0, locals := 42 }) {r : Int32} {M' : dm_M} : ∀ (n : Nat) (M : dm_M) (x2 : Int32) (x3 : Int32) (_ : gM_count_L88 n M x2 x3 = some (r, M')), dh_W C A (dm_P E A M) (dm_Q E A (some (.int r)) M') 0 0 0 0 88 [(0, .ref (dm_am E)), (2, .int x2), (3, .int x3)] [] := by
  intro n
  induction n with
  | zero => intro M x2 x3 hf; exact dh_no hf
  | succ n ih => intro M x2 x3 hf; exact wM_count_L88_F hC hK hR (gM_count_L88 n) ih M x2 x3 hf
def gM_count_L146_F (k146 : (dm_M → Int32 → Int32 → Option (Int32 × dm_M))) (M : dm_M) (x2 : Int32) (x3 : Int32) : Option (Int32 × dm_M) :=
  (dm_rd M 8 0).bind fun v18 =>
  if v18 ≤ x3 then (
    some (x2, M))
  else
  (dm_rd M 11 x3).bind fun v20 =>
  if v20 = 0 then (
    k146 M (x2 + 0) (x3 + 1))
  else
  k146 M (x2 + 1) (x3 + 1)
theorem wM_count_L146_F {C : dh_C} {A : Nat → Prop} {E : dm_E} (hC : dh_ok C cX2_count 4 RX2 (some .int)) (hK : dm_Kn E (dh_s C)) (hR : dh_R C = { frames := 2, cells := 0, slots := 0, locals := 42 }) {r : Int32} {M' : dm_M} (k146 : (dm_M → Int32 → Int32 → Option (Int32 × dm_M))) (hk146 : ∀ (M : dm_M) (x2 : Int32) (x3 : Int32), k146 M x2 x3 = some (r, M') → dh_W C A (dm_P E A M) (dm_Q E A (some (.int r)) M') 0 0 0 0 146 [(0, .ref (dm_am E)), (2, .int x2), (3, .int x3)] []) (M : dm_M) (x2 : Int32) (x3 : Int32) (hf : gM_count_L146_F k146 M x2 x3 = some (r, M')) : dh_W C A (dm_P E A M) (dm_Q E A (some (.int r)) M') 0 0 0 0 146 [(0, .ref (dm_am E)), (2, .int x2), (3, .int x3)] [] := by
  unfold gM_count_L146_F at hf
  refine r_iload_n hC dX2_count_146 rfl (j := 2) rfl ?_
  refine r_aload_n hC dX2_count_147 rfl (j := 0) rfl ?_
  refine m_getA hC hK fa_8 dX2_count_148 ?_
  refine r_iconst hC dX2_count_151 ki_0 ?_
  obtain ⟨v18, h18, hf⟩ := dh_bd hf
  refine m_iald hC hK kd_8 h18 dX2_count_152 ?_
  refine r_icmp_ge hC dX2_count_153 (tgt := 179) (by decide) (fun c19 => ?_) (fun c19 => ?_)
  · have hf := dh_if hf c19
    refine r_iload_n hC dX2_count_179 rfl (j := 1) rfl ?_
    exact m_iret hC dX2_count_180 rfl hf
  · have hf := dh_el hf c19
    refine r_iload_n hC dX2_count_156 rfl (j := 1) rfl ?_
    refine r_aload_n hC dX2_count_157 rfl (j := 0) rfl ?_
    refine m_getA hC hK fa_11 dX2_count_158 ?_
    refine r_iload_n hC dX2_count_161 rfl (j := 2) rfl ?_
    obtain ⟨v20, h20, hf⟩ := dh_bd hf
    refine m_zald hC hK kd_11 h20 dX2_count_162 ?_
    refine r_if_eq hC dX2_count_163 (tgt := 170) (by decide) (fun c21 => ?_) (fun c21 => ?_)
    · have hf := dh_if hf c21
      refine r_iconst hC dX2_count_170 ki_0 ?_
      refine r_iadd hC dX2_count_171 ?_
      refine r_istore_n (lv' := [(2, .int (x2 + 0)), (0, .ref (dm_am E)), (3, .int x3)]) hC dX2_count_172 rfl (Nat.le_of_ble_eq_true rfl) rfl ?_
      refine r_iinc (lv' := [(3, .int (x3 + 1)), (2, .int (x2 + 0)), (0, .ref (dm_am E))]) hC dX2_count_173 (j := 2) rfl (congrArg _ ki_1) (Nat.le_of_ble_eq_true rfl) rfl ?_
      refine r_goto hC dX2_count_176 (tgt := 146) (by decide) ?_
      exact r_sub [2, 1, 0] rfl (hk146 M (x2 + 0) (x3 + 1) hf)
    · have hf := dh_el hf c21
      refine r_iconst hC dX2_count_166 ki_1 ?_
      refine r_goto hC dX2_count_167 (tgt := 171) (by decide) ?_
      refine r_iadd hC dX2_count_171 ?_
      refine r_istore_n (lv' := [(2, .int (x2 + 1)), (0, .ref (dm_am E)), (3, .int x3)]) hC dX2_count_172 rfl (Nat.le_of_ble_eq_true rfl) rfl ?_
      refine r_iinc (lv' := [(3, .int (x3 + 1)), (2, .int (x2 + 1)), (0, .ref (dm_am E))]) hC dX2_count_173 (j := 2) rfl (congrArg _ ki_1) (Nat.le_of_ble_eq_true rfl) rfl ?_
      refine r_goto hC dX2_count_176 (tgt := 146) (by decide) ?_
      exact r_sub [2, 1, 0] rfl (hk146 M (x2 + 1) (x3 + 1) hf)
def gM_count_L146 : Nat → dm_M → Int32 → Int32 → Option (Int32 × dm_M)
  | 0 => fun _ _ _ => none
  | n + 1 => gM_count_L146_F (gM_count_L146 n)
theorem wM_count_L146 {C : dh_C} {A : Nat → Prop} {E : dm_E} (hC : dh_ok C cX2_count 4 RX2 (some .int)) (hK : dm_Kn E (dh_s C)) (hR : dh_R C = { frames := 2, cells := 0, slots := 0, locals := 42 }) {r : Int32} {M' : dm_M} : ∀ (n : Nat) (M : dm_M) (x2 : Int32) (x3 : Int32) (_ : gM_count_L146 n M x2 x3 = some (r, M')), dh_W C A (dm_P E A M) (dm_Q E A (some (.int r)) M') 0 0 0 0 146 [(0, .ref (dm_am E)), (2, .int x2), (3, .int x3)] [] := by
  intro n
  induction n with
  | zero => intro M x2 x3 hf; exact dh_no hf
  | succ n ih => intro M x2 x3 hf; exact wM_count_L146_F hC hK hR (gM_count_L146 n) ih M x2 x3 hf
def gM_count_L197_F (k197 : (dm_M → Int32 → Int32 → Option (Int32 × dm_M))) (M : dm_M) (x2 : Int32) (x3 : Int32) : Option (Int32 × dm_M) :=
  (dm_rd M 8 0).bind fun v27 =>
  if v27 ≤ x3 then (
    some (x2, M))
  else
  (dm_rd M 9 x3).bind fun v29 =>
  k197 M (x2 + v29) (x3 + 1)
theorem wM_count_L197_F {C : dh_C} {A : Nat → Prop} {E : dm_E} (hC : dh_ok C cX2_count 4 RX2 (some .int)) (hK : dm_Kn E (dh_s C)) (hR : dh_R C = { frames := 2, cells := 0, slots := 0, locals := 42 }) {r : Int32} {M' : dm_M} (k197 : (dm_M → Int32 → Int32 → Option (Int32 × dm_M))) (hk197 : ∀ (M : dm_M) (x2 : Int32) (x3 : Int32), k197 M x2 x3 = some (r, M') → dh_W C A (dm_P E A M) (dm_Q E A (some (.int r)) M') 0 0 0 0 197 [(0, .ref (dm_am E)), (2, .int x2), (3, .int x3)] []) (M : dm_M) (x2 : Int32) (x3 : Int32) (hf : gM_count_L197_F k197 M x2 x3 = some (r, M')) : dh_W C A (dm_P E A M) (dm_Q E A (some (.int r)) M') 0 0 0 0 197 [(0, .ref (dm_am E)), (2, .int x2), (3, .int x3)] [] := by
  unfold gM_count_L197_F at hf
  refine r_iload_n hC dX2_count_197 rfl (j := 2) rfl ?_
  refine r_aload_n hC dX2_count_198 rfl (j := 0) rfl ?_
  refine m_getA hC hK fa_8 dX2_count_199 ?_
  refine r_iconst hC dX2_count_202 ki_0 ?_
  obtain ⟨v27, h27, hf⟩ := dh_bd hf
  refine m_iald hC hK kd_8 h27 dX2_count_203 ?_
  refine r_icmp_ge hC dX2_count_204 (tgt := 222) (by decide) (fun c28 => ?_) (fun c28 => ?_)
  · have hf := dh_if hf c28
    refine r_iload_n hC dX2_count_222 rfl (j := 1) rfl ?_
    exact m_iret hC dX2_count_223 rfl hf
  · have hf := dh_el hf c28
    refine r_iload_n hC dX2_count_207 rfl (j := 1) rfl ?_
    refine r_aload_n hC dX2_count_208 rfl (j := 0) rfl ?_
    refine m_getA hC hK fa_9 dX2_count_209 ?_
    refine r_iload_n hC dX2_count_212 rfl (j := 2) rfl ?_
    obtain ⟨v29, h29, hf⟩ := dh_bd hf
    refine m_iald hC hK kd_9 h29 dX2_count_213 ?_
    refine r_iadd hC dX2_count_214 ?_
    refine r_istore_n (lv' := [(2, .int (x2 + v29)), (0, .ref (dm_am E)), (3, .int x3)]) hC dX2_count_215 rfl (Nat.le_of_ble_eq_true rfl) rfl ?_
    refine r_iinc (lv' := [(3, .int (x3 + 1)), (2, .int (x2 + v29)), (0, .ref (dm_am E))]) hC dX2_count_216 (j := 2) rfl (congrArg _ ki_1) (Nat.le_of_ble_eq_true rfl) rfl ?_
    refine r_goto hC dX2_count_219 (tgt := 197) (by decide) ?_
    exact r_sub [2, 1, 0] rfl (hk197 M (x2 + v29) (x3 + 1) hf)
def gM_count_L197 : Nat → dm_M → Int32 → Int32 → Option (Int32 × dm_M)
  | 0 => fun _ _ _ => none
  | n + 1 => gM_count_L197_F (gM_count_L197 n)
theorem wM_count_L197 {C : dh_C} {A : Nat → Prop} {E : dm_E} (hC : dh_ok C cX2_count 4 RX2 (some .int)) (hK : dm_Kn E (dh_s C)) (hR : dh_R C = { frames := 2, cells := 0, slots := 0, locals := 42 }) {r : Int32} {M' : dm_M} : ∀ (n : Nat) (M : dm_M) (x2 : Int32) (x3 : Int32) (_ : gM_count_L197 n M x2 x3 = some (r, M')), dh_W C A (dm_P E A M) (dm_Q E A (some (.int r)) M') 0 0 0 0 197 [(0, .ref (dm_am E)), (2, .int x2), (3, .int x3)] [] := by
  intro n
  induction n with
  | zero => intro M x2 x3 hf; exact dh_no hf
  | succ n ih => intro M x2 x3 hf; exact wM_count_L197_F hC hK hR (gM_count_L197 n) ih M x2 x3 hf
def gM_count_L226_F (k226 : (dm_M → Int32 → Int32 → Option (Int32 × dm_M))) (M : dm_M) (x2 : Int32) (x3 : Int32) : Option (Int32 × dm_M) :=
  (dm_rd M 25 0).bind fun v31 =>
  if v31 ≤ x3 then (
    some (x2, M))
  else
  (gM_dueOf M x3).bind fun p33 =>
  k226 M (x2 + p33) (x3 + 1)
theorem wM_count_L226_F {C : dh_C} {A : Nat → Prop} {E : dm_E} (hC : dh_ok C cX2_count 4 RX2 (some .int)) (hK : dm_Kn E (dh_s C)) (hR : dh_R C = { frames := 2, cells := 0, slots := 0, locals := 42 }) {r : Int32} {M' : dm_M} (k226 : (dm_M → Int32 → Int32 → Option (Int32 × dm_M))) (hk226 : ∀ (M : dm_M) (x2 : Int32) (x3 : Int32), k226 M x2 x3 = some (r, M') → dh_W C A (dm_P E A M) (dm_Q E A (some (.int r)) M') 0 0 0 0 226 [(0, .ref (dm_am E)), (2, .int x2), (3, .int x3)] []) (M : dm_M) (x2 : Int32) (x3 : Int32) (hf : gM_count_L226_F k226 M x2 x3 = some (r, M')) : dh_W C A (dm_P E A M) (dm_Q E A (some (.int r)) M') 0 0 0 0 226 [(0, .ref (dm_am E)), (2, .int x2), (3, .int x3)] [] := by
  unfold gM_count_L226_F at hf
  refine r_iload_n hC dX2_count_226 rfl (j := 2) rfl ?_
  refine r_aload_n hC dX2_count_227 rfl (j := 0) rfl ?_
  refine m_getA hC hK fa_25 dX2_count_228 ?_
  refine r_iconst hC dX2_count_231 ki_0 ?_
  obtain ⟨v31, h31, hf⟩ := dh_bd hf
  refine m_iald hC hK kd_25 h31 dX2_count_232 ?_
  refine r_icmp_ge hC dX2_count_233 (tgt := 250) (by decide) (fun c32 => ?_) (fun c32 => ?_)
  · have hf := dh_if hf c32
    refine r_iload_n hC dX2_count_250 rfl (j := 1) rfl ?_
    exact m_iret hC dX2_count_251 rfl hf
  · have hf := dh_el hf c32
    refine r_iload_n hC dX2_count_236 rfl (j := 1) rfl ?_
    refine r_aload_n hC dX2_count_237 rfl (j := 0) rfl ?_
    refine r_iload_n hC dX2_count_238 rfl (j := 2) rfl ?_
    obtain ⟨p33, h33, hf⟩ := dh_bd hf
    refine m_callV' hC hK hR (cM_dueOf _ E A M x3 h33) q1667 q_dueOf (Nat.le_of_ble_eq_true rfl) (Nat.le_of_ble_eq_true rfl) rfl (Nat.le_of_ble_eq_true rfl) dX2_count_239 ?_
    refine r_iadd hC dX2_count_242 ?_
    refine r_istore_n (lv' := [(2, .int (x2 + p33)), (0, .ref (dm_am E)), (3, .int x3)]) hC dX2_count_243 rfl (Nat.le_of_ble_eq_true rfl) rfl ?_
    refine r_iinc (lv' := [(3, .int (x3 + 1)), (2, .int (x2 + p33)), (0, .ref (dm_am E))]) hC dX2_count_244 (j := 2) rfl (congrArg _ ki_1) (Nat.le_of_ble_eq_true rfl) rfl ?_
    refine r_goto hC dX2_count_247 (tgt := 226) (by decide) ?_
    exact r_sub [2, 1, 0] rfl (hk226 M (x2 + p33) (x3 + 1) hf)
def gM_count_L226 : Nat → dm_M → Int32 → Int32 → Option (Int32 × dm_M)
  | 0 => fun _ _ _ => none
  | n + 1 => gM_count_L226_F (gM_count_L226 n)
theorem wM_count_L226 {C : dh_C} {A : Nat → Prop} {E : dm_E} (hC : dh_ok C cX2_count 4 RX2 (some .int)) (hK : dm_Kn E (dh_s C)) (hR : dh_R C = { frames := 2, cells := 0, slots := 0, locals := 42 }) {r : Int32} {M' : dm_M} : ∀ (n : Nat) (M : dm_M) (x2 : Int32) (x3 : Int32) (_ : gM_count_L226 n M x2 x3 = some (r, M')), dh_W C A (dm_P E A M) (dm_Q E A (some (.int r)) M') 0 0 0 0 226 [(0, .ref (dm_am E)), (2, .int x2), (3, .int x3)] [] := by
  intro n
  induction n with
  | zero => intro M x2 x3 hf; exact dh_no hf
  | succ n ih => intro M x2 x3 hf; exact wM_count_L226_F hC hK hR (gM_count_L226 n) ih M x2 x3 hf
def gM_count (M : dm_M) (x1 : Int32) : Option (Int32 × dm_M) :=
  (some (dm_set M 0 0 0)).bind fun M1 =>
  if x1 = 0 then (
    (dm_rd M1 8 0).bind fun v3 =>
    some (v3, M1))
  else
  if x1 = 1 then (
    (dm_rd M1 25 0).bind fun v5 =>
    some (v5, M1))
  else
  if x1 = 2 then (
    gM_count_L88 dh_fu M1 0 0)
  else
  if x1 = 3 then (
    (dm_rd M1 43 0).bind fun v12 =>
    some (v12, M1))
  else
  if x1 = 4 then (
    (dm_rd M1 5 0).bind fun v14 =>
    some (v14, M1))
  else
  if x1 = 5 then (
    (dm_rd M1 6 0).bind fun v16 =>
    some (v16, M1))
  else
  if x1 = 6 then (
    gM_count_L146 dh_fu M1 0 0)
  else
  if x1 = 7 then (
    (dm_rd M1 41 0).bind fun v23 =>
    some (v23, M1))
  else
  if x1 = 8 then (
    (dm_rd M1 7 0).bind fun v25 =>
    some (v25, M1))
  else
  if x1 = 9 then (
    gM_count_L197 dh_fu M1 0 0)
  else
  if x1 = 10 then (
    gM_count_L226 dh_fu M1 0 0)
  else
  if x1 = 11 then (
    (dm_rd M1 23 0).bind fun v35 =>
    some (v35, M1))
  else
  some ((-1), M1)
theorem wM_count {C : dh_C} {A : Nat → Prop} {E : dm_E} (hC : dh_ok C cX2_count 4 RX2 (some .int)) (hK : dm_Kn E (dh_s C)) (hR : dh_R C = { frames := 2, cells := 0, slots := 0, locals := 42 }) {r : Int32} {M' : dm_M} (M : dm_M) (x1 : Int32) (hf : gM_count M x1 = some (r, M')) : dh_W C A (dm_P E A M) (dm_Q E A (some (.int r)) M') 0 0 0 0 0 [(0, .ref (dm_am E)), (1, .int x1)] [] := by
  unfold gM_count at hf
  refine r_aload_n hC dX2_count_0 rfl (j := 0) rfl ?_
  refine r_iconst hC dX2_count_1 ki_0 ?_
  obtain ⟨M1, h1, hf⟩ := dh_bd hf
  refine m_putI hC hK fi_0 dX2_count_2 h1 ?_
  refine r_iconst hC dX2_count_5 ki_0 ?_
  refine r_istore_n (lv' := [(2, .int 0), (0, .ref (dm_am E)), (1, .int x1)]) hC dX2_count_6 rfl (Nat.le_of_ble_eq_true rfl) rfl ?_
  refine r_iload_n hC dX2_count_7 rfl (j := 2) rfl ?_
  by_cases c2 : x1 = 0
  · have hf := dh_if hf c2
    refine r_tableAt hC dX2_count_8 (tgt := 72) 0 (by rw [c2]; rfl) (by decide) (by decide) rfl (by decide) ?_
    refine r_aload_n hC dX2_count_72 rfl (j := 1) rfl ?_
    refine m_getA hC hK fa_8 dX2_count_73 ?_
    refine r_iconst hC dX2_count_76 ki_0 ?_
    obtain ⟨v3, h3, hf⟩ := dh_bd hf
    refine m_iald hC hK kd_8 h3 dX2_count_77 ?_
    exact m_iret hC dX2_count_78 rfl hf
  have hf := dh_el hf c2
  by_cases c4 : x1 = 1
  · have hf := dh_if hf c4
    refine r_tableAt hC dX2_count_8 (tgt := 79) 1 (by rw [c4]; rfl) (by decide) (by decide) rfl (by decide) ?_
    refine r_aload_n hC dX2_count_79 rfl (j := 1) rfl ?_
    refine m_getA hC hK fa_25 dX2_count_80 ?_
    refine r_iconst hC dX2_count_83 ki_0 ?_
    obtain ⟨v5, h5, hf⟩ := dh_bd hf
    refine m_iald hC hK kd_25 h5 dX2_count_84 ?_
    exact m_iret hC dX2_count_85 rfl hf
  have hf := dh_el hf c4
  by_cases c6 : x1 = 2
  · have hf := dh_if hf c6
    refine r_tableAt hC dX2_count_8 (tgt := 86) 2 (by rw [c6]; rfl) (by decide) (by decide) rfl (by decide) ?_
    refine r_iconst hC dX2_count_86 ki_0 ?_
    refine r_istore_n (lv' := [(3, .int 0), (2, .int 0), (0, .ref (dm_am E)), (1, .int x1)]) hC dX2_count_87 rfl (Nat.le_of_ble_eq_true rfl) rfl ?_
    exact r_sub [2, 1, 0] rfl (wM_count_L88 hC hK hR dh_fu M1 0 0 hf)
  have hf := dh_el hf c6
  by_cases c11 : x1 = 3
  · have hf := dh_if hf c11
    refine r_tableAt hC dX2_count_8 (tgt := 123) 3 (by rw [c11]; rfl) (by decide) (by decide) rfl (by decide) ?_
    refine r_aload_n hC dX2_count_123 rfl (j := 1) rfl ?_
    refine m_getA hC hK fa_43 dX2_count_124 ?_
    refine r_iconst hC dX2_count_127 ki_0 ?_
    obtain ⟨v12, h12, hf⟩ := dh_bd hf
    refine m_iald hC hK kd_43 h12 dX2_count_128 ?_
    exact m_iret hC dX2_count_129 rfl hf
  have hf := dh_el hf c11
  by_cases c13 : x1 = 4
  · have hf := dh_if hf c13
    refine r_tableAt hC dX2_count_8 (tgt := 130) 4 (by rw [c13]; rfl) (by decide) (by decide) rfl (by decide) ?_
    refine r_aload_n hC dX2_count_130 rfl (j := 1) rfl ?_
    refine m_getA hC hK fa_5 dX2_count_131 ?_
    refine r_iconst hC dX2_count_134 ki_0 ?_
    obtain ⟨v14, h14, hf⟩ := dh_bd hf
    refine m_iald hC hK kd_5 h14 dX2_count_135 ?_
    exact m_iret hC dX2_count_136 rfl hf
  have hf := dh_el hf c13
  by_cases c15 : x1 = 5
  · have hf := dh_if hf c15
    refine r_tableAt hC dX2_count_8 (tgt := 137) 5 (by rw [c15]; rfl) (by decide) (by decide) rfl (by decide) ?_
    refine r_aload_n hC dX2_count_137 rfl (j := 1) rfl ?_
    refine m_getA hC hK fa_6 dX2_count_138 ?_
    refine r_iconst hC dX2_count_141 ki_0 ?_
    obtain ⟨v16, h16, hf⟩ := dh_bd hf
    refine m_iald hC hK kd_6 h16 dX2_count_142 ?_
    exact m_iret hC dX2_count_143 rfl hf
  have hf := dh_el hf c15
  by_cases c17 : x1 = 6
  · have hf := dh_if hf c17
    refine r_tableAt hC dX2_count_8 (tgt := 144) 6 (by rw [c17]; rfl) (by decide) (by decide) rfl (by decide) ?_
    refine r_iconst hC dX2_count_144 ki_0 ?_
    refine r_istore_n (lv' := [(3, .int 0), (2, .int 0), (0, .ref (dm_am E)), (1, .int x1)]) hC dX2_count_145 rfl (Nat.le_of_ble_eq_true rfl) rfl ?_
    exact r_sub [2, 1, 0] rfl (wM_count_L146 hC hK hR dh_fu M1 0 0 hf)
  have hf := dh_el hf c17
  by_cases c22 : x1 = 7
  · have hf := dh_if hf c22
    refine r_tableAt hC dX2_count_8 (tgt := 181) 7 (by rw [c22]; rfl) (by decide) (by decide) rfl (by decide) ?_
    refine r_aload_n hC dX2_count_181 rfl (j := 1) rfl ?_
    refine m_getA hC hK fa_41 dX2_count_182 ?_
    refine r_iconst hC dX2_count_185 ki_0 ?_
    obtain ⟨v23, h23, hf⟩ := dh_bd hf
    refine m_iald hC hK kd_41 h23 dX2_count_186 ?_
    exact m_iret hC dX2_count_187 rfl hf
  have hf := dh_el hf c22
  by_cases c24 : x1 = 8
  · have hf := dh_if hf c24
    refine r_tableAt hC dX2_count_8 (tgt := 188) 8 (by rw [c24]; rfl) (by decide) (by decide) rfl (by decide) ?_
    refine r_aload_n hC dX2_count_188 rfl (j := 1) rfl ?_
    refine m_getA hC hK fa_7 dX2_count_189 ?_
    refine r_iconst hC dX2_count_192 ki_0 ?_
    obtain ⟨v25, h25, hf⟩ := dh_bd hf
    refine m_iald hC hK kd_7 h25 dX2_count_193 ?_
    exact m_iret hC dX2_count_194 rfl hf
  have hf := dh_el hf c24
  by_cases c26 : x1 = 9
  · have hf := dh_if hf c26
    refine r_tableAt hC dX2_count_8 (tgt := 195) 9 (by rw [c26]; rfl) (by decide) (by decide) rfl (by decide) ?_
    refine r_iconst hC dX2_count_195 ki_0 ?_
    refine r_istore_n (lv' := [(3, .int 0), (2, .int 0), (0, .ref (dm_am E)), (1, .int x1)]) hC dX2_count_196 rfl (Nat.le_of_ble_eq_true rfl) rfl ?_
    exact r_sub [2, 1, 0] rfl (wM_count_L197 hC hK hR dh_fu M1 0 0 hf)
  have hf := dh_el hf c26
  by_cases c30 : x1 = 10
  · have hf := dh_if hf c30
    refine r_tableAt hC dX2_count_8 (tgt := 224) 10 (by rw [c30]; rfl) (by decide) (by decide) rfl (by decide) ?_
    refine r_iconst hC dX2_count_224 ki_0 ?_
    refine r_istore_n (lv' := [(3, .int 0), (2, .int 0), (0, .ref (dm_am E)), (1, .int x1)]) hC dX2_count_225 rfl (Nat.le_of_ble_eq_true rfl) rfl ?_
    exact r_sub [2, 1, 0] rfl (wM_count_L226 hC hK hR dh_fu M1 0 0 hf)
  have hf := dh_el hf c30
  by_cases c34 : x1 = 11
  · have hf := dh_if hf c34
    refine r_tableAt hC dX2_count_8 (tgt := 252) 11 (by rw [c34]; rfl) (by decide) (by decide) rfl (by decide) ?_
    refine r_aload_n hC dX2_count_252 rfl (j := 1) rfl ?_
    refine m_getA hC hK fa_23 dX2_count_253 ?_
    refine r_iconst hC dX2_count_256 ki_0 ?_
    obtain ⟨v35, h35, hf⟩ := dh_bd hf
    refine m_iald hC hK kd_23 h35 dX2_count_257 ?_
    exact m_iret hC dX2_count_258 rfl hf
  have hf := dh_el hf c34
  refine r_tableOut hC dX2_count_8 (tgt := 259) (by have := lv_neT c2 (a := 0) rfl; have := lv_neT c4 (a := 1) rfl; have := lv_neT c6 (a := 2) rfl; have := lv_neT c11 (a := 3) rfl; have := lv_neT c13 (a := 4) rfl; have := lv_neT c15 (a := 5) rfl; have := lv_neT c17 (a := 6) rfl; have := lv_neT c22 (a := 7) rfl; have := lv_neT c24 (a := 8) rfl; have := lv_neT c26 (a := 9) rfl; have := lv_neT c30 (a := 10) rfl; have := lv_neT c34 (a := 11) rfl; omega) (by decide) ?_
  refine r_iconst hC dX2_count_259 ki_m1 ?_
  exact m_iret hC dX2_count_260 rfl hf
theorem cM_count (l : Launch) (E : dm_E) (A : Nat → Prop) (M : dm_M) (x1 : Int32) {p : Int32 × dm_M} (h : gM_count M x1 = some p) : dm_Met l yX2_count cX2_count 4 (some .int) 2 42 E A [.ref (dm_am E), .int x1] M (some (.int p.1)) p.2 := by
  refine dh_met (by decide) (Nat.le_of_ble_eq_true rfl) (fun _ _ h => ⟨_, h.1⟩) (fun C hl hR hC hnm hK => ?_)
  exact wM_count hC hK hR M x1 h
theorem q_count : dm_calV yX2_count cX2_count 4 (some .int) 1 := ⟨q1974, q1975, q1976, by decide +kernel⟩
/-! goes(I)V -/
def gM_goes (M : dm_M) (x1 : Int32) : Option dm_M :=
  (dm_wr M 11 x1 (vp_nar .boolean 0)).bind fun M1 =>
  (dm_wr M1 12 x1 (-1)).bind fun M2 =>
  (dm_wr M2 13 x1 (-1)).bind fun M3 =>
  (dm_wr M3 14 x1 0).bind fun M4 =>
  (dm_wr M4 15 x1 (vp_nar .boolean 0)).bind fun M5 =>
  (dm_wr M5 19 x1 0).bind fun M6 =>
  some M6
theorem wM_goes {C : dh_C} {A : Nat → Prop} {E : dm_E} (hC : dh_ok C cX2_goes 2 RX2 none) (hK : dm_Kn E (dh_s C)) (hR : dh_R C = { frames := 0, cells := 0, slots := 0, locals := 0 }) {M' : dm_M} (M : dm_M) (x1 : Int32) (hf : gM_goes M x1 = some M') : dh_W C A (dm_P E A M) (dm_Q E A none M') 0 0 0 0 0 [(0, .ref (dm_am E)), (1, .int x1)] [] := by
  unfold gM_goes at hf
  refine r_aload_n hC dX2_goes_0 rfl (j := 0) rfl ?_
  refine m_getA hC hK fa_11 dX2_goes_1 ?_
  refine r_iload_n hC dX2_goes_4 rfl (j := 1) rfl ?_
  refine r_iconst hC dX2_goes_5 ki_0 ?_
  obtain ⟨M1, h1, hf⟩ := dh_bd hf
  refine m_zast hC hK kd_11 h1 dX2_goes_6 ?_
  refine r_aload_n hC dX2_goes_7 rfl (j := 0) rfl ?_
  refine m_getA hC hK fa_12 dX2_goes_8 ?_
  refine r_iload_n hC dX2_goes_11 rfl (j := 1) rfl ?_
  refine r_iconst hC dX2_goes_12 ki_m1 ?_
  obtain ⟨M2, h2, hf⟩ := dh_bd hf
  refine m_iast hC hK kd_12 h2 dX2_goes_13 ?_
  refine r_aload_n hC dX2_goes_14 rfl (j := 0) rfl ?_
  refine m_getA hC hK fa_13 dX2_goes_15 ?_
  refine r_iload_n hC dX2_goes_18 rfl (j := 1) rfl ?_
  refine r_iconst hC dX2_goes_19 ki_m1 ?_
  obtain ⟨M3, h3, hf⟩ := dh_bd hf
  refine m_iast hC hK kd_13 h3 dX2_goes_20 ?_
  refine r_aload_n hC dX2_goes_21 rfl (j := 0) rfl ?_
  refine m_getA hC hK fa_14 dX2_goes_22 ?_
  refine r_iload_n hC dX2_goes_25 rfl (j := 1) rfl ?_
  refine r_iconst hC dX2_goes_26 ki_0 ?_
  obtain ⟨M4, h4, hf⟩ := dh_bd hf
  refine m_iast hC hK kd_14 h4 dX2_goes_27 ?_
  refine r_aload_n hC dX2_goes_28 rfl (j := 0) rfl ?_
  refine m_getA hC hK fa_15 dX2_goes_29 ?_
  refine r_iload_n hC dX2_goes_32 rfl (j := 1) rfl ?_
  refine r_iconst hC dX2_goes_33 ki_0 ?_
  obtain ⟨M5, h5, hf⟩ := dh_bd hf
  refine m_zast hC hK kd_15 h5 dX2_goes_34 ?_
  refine r_aload_n hC dX2_goes_35 rfl (j := 0) rfl ?_
  refine m_getA hC hK fa_19 dX2_goes_36 ?_
  refine r_iload_n hC dX2_goes_39 rfl (j := 1) rfl ?_
  refine r_iconst hC dX2_goes_40 ki_0 ?_
  obtain ⟨M6, h6, hf⟩ := dh_bd hf
  refine m_iast hC hK kd_19 h6 dX2_goes_41 ?_
  exact m_vret hC dX2_goes_42 rfl hf
theorem cM_goes (l : Launch) (E : dm_E) (A : Nat → Prop) (M : dm_M) (x1 : Int32) {M' : dm_M} (h : gM_goes M x1 = some M') : dm_Met l yX2_goes cX2_goes 2 none 0 0 E A [.ref (dm_am E), .int x1] M none M' := by
  refine dh_met (by decide) (Nat.le_of_ble_eq_true rfl) (fun _ _ h => ⟨_, h.1⟩) (fun C hl hR hC hnm hK => ?_)
  exact wM_goes hC hK hR M x1 h
theorem q_goes : dm_calV yX2_goes cX2_goes 2 none 1 := ⟨q1862, qs68, q1863, by decide +kernel⟩
