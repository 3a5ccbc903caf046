set_option maxRecDepth 100000
/-! lookAt(I)V -/
def gM_lookAt_b187 (M : dm_M) (x1 : Int32) (y0 : Int32) (y1 : Int32) : Option dm_M :=
  (dm_wr M 70 y1 y0).bind fun M13 =>
  (dm_rd M13 6 0).bind fun v14 =>
  (dm_wr M13 70 6 v14).bind fun M15 =>
  (dm_rd M15 9 x1).bind fun v16 =>
  (dm_wr M15 70 7 v16).bind fun M17 =>
  some M17
theorem wM_lookAt_b187 {C : dh_C} {A : Nat → Prop} {E : dm_E} (hC : dh_ok C cX2_lookAt 3 RX2 none) (hK : dm_Kn E (dh_s C)) (hR : dh_R C = { frames := 2, cells := 0, slots := 0, locals := 42 }) {M' : dm_M} (M : dm_M) (x1 : Int32) (y0 : Int32) (y1 : Int32) (hf : gM_lookAt_b187 M x1 y0 y1 = some M') : dh_W C A (dm_P E A M) (dm_Q E A none M') 0 0 0 0 187 [(0, .ref (dm_am E)), (1, .int x1)] [.int y0, .int y1, .ref (dm_am E + dm_ad 70)] := by
  unfold gM_lookAt_b187 at hf
  obtain ⟨M13, h13, hf⟩ := dh_bd hf
  refine m_iast hC hK kd_70 h13 dX2_lookAt_187 ?_
  refine r_aload_n hC dX2_lookAt_188 rfl (j := 0) rfl ?_
  refine m_getA hC hK fa_70 dX2_lookAt_189 ?_
  refine r_bipush hC dX2_lookAt_192 kb_6 ?_
  refine r_aload_n hC dX2_lookAt_194 rfl (j := 0) rfl ?_
  refine m_getA hC hK fa_6 dX2_lookAt_195 ?_
  refine r_iconst hC dX2_lookAt_198 ki_0 ?_
  obtain ⟨v14, h14, hf⟩ := dh_bd hf
  refine m_iald hC hK kd_6 h14 dX2_lookAt_199 ?_
  obtain ⟨M15, h15, hf⟩ := dh_bd hf
  refine m_iast hC hK kd_70 h15 dX2_lookAt_200 ?_
  refine r_aload_n hC dX2_lookAt_201 rfl (j := 0) rfl ?_
  refine m_getA hC hK fa_70 dX2_lookAt_202 ?_
  refine r_bipush hC dX2_lookAt_205 kb_7 ?_
  refine r_aload_n hC dX2_lookAt_207 rfl (j := 0) rfl ?_
  refine m_getA hC hK fa_9 dX2_lookAt_208 ?_
  refine r_iload_n hC dX2_lookAt_211 rfl (j := 1) rfl ?_
  obtain ⟨v16, h16, hf⟩ := dh_bd hf
  refine m_iald hC hK kd_9 h16 dX2_lookAt_212 ?_
  obtain ⟨M17, h17, hf⟩ := dh_bd hf
  refine m_iast hC hK kd_70 h17 dX2_lookAt_213 ?_
  exact m_vret hC dX2_lookAt_214 rfl hf
def gM_lookAt_b150 (M : dm_M) (x1 : Int32) (y0 : Int32) (y1 : Int32) : Option dm_M :=
  (dm_wr M 70 y1 y0).bind fun M8 =>
  (dm_rd M8 10 x1).bind fun v9 =>
  (dm_wr M8 70 4 v9).bind fun M10 =>
  (dm_rd M10 11 x1).bind fun v11 =>
  if v11 = 0 then (
    gM_lookAt_b187 M10 x1 0 5)
  else
  (dm_rd M10 13 x1).bind fun v18 =>
  gM_lookAt_b187 M10 x1 v18 5
theorem wM_lookAt_b150 {C : dh_C} {A : Nat → Prop} {E : dm_E} (hC : dh_ok C cX2_lookAt 3 RX2 none) (hK : dm_Kn E (dh_s C)) (hR : dh_R C = { frames := 2, cells := 0, slots := 0, locals := 42 }) {M' : dm_M} (M : dm_M) (x1 : Int32) (y0 : Int32) (y1 : Int32) (hf : gM_lookAt_b150 M x1 y0 y1 = some M') : dh_W C A (dm_P E A M) (dm_Q E A none M') 0 0 0 0 150 [(0, .ref (dm_am E)), (1, .int x1)] [.int y0, .int y1, .ref (dm_am E + dm_ad 70)] := by
  unfold gM_lookAt_b150 at hf
  obtain ⟨M8, h8, hf⟩ := dh_bd hf
  refine m_iast hC hK kd_70 h8 dX2_lookAt_150 ?_
  refine r_aload_n hC dX2_lookAt_151 rfl (j := 0) rfl ?_
  refine m_getA hC hK fa_70 dX2_lookAt_152 ?_
  refine r_iconst hC dX2_lookAt_155 ki_4 ?_
  refine r_aload_n hC dX2_lookAt_156 rfl (j := 0) rfl ?_
  refine m_getA hC hK fa_10 dX2_lookAt_157 ?_
  refine r_iload_n hC dX2_lookAt_160 rfl (j := 1) rfl ?_
  obtain ⟨v9, h9, hf⟩ := dh_bd hf
  refine m_iald hC hK kd_10 h9 dX2_lookAt_161 ?_
  obtain ⟨M10, h10, hf⟩ := dh_bd hf
  refine m_iast hC hK kd_70 h10 dX2_lookAt_162 ?_
  refine r_aload_n hC dX2_lookAt_163 rfl (j := 0) rfl ?_
  refine m_getA hC hK fa_70 dX2_lookAt_164 ?_
  refine r_iconst hC dX2_lookAt_167 ki_5 ?_
  refine r_aload_n hC dX2_lookAt_168 rfl (j := 0) rfl ?_
  refine m_getA hC hK fa_11 dX2_lookAt_169 ?_
  refine r_iload_n hC dX2_lookAt_172 rfl (j := 1) rfl ?_
  obtain ⟨v11, h11, hf⟩ := dh_bd hf
  refine m_zald hC hK kd_11 h11 dX2_lookAt_173 ?_
  refine r_if_eq hC dX2_lookAt_174 (tgt := 186) (by decide) (fun c12 => ?_) (fun c12 => ?_)
  · have hf := dh_if hf c12
    refine r_iconst hC dX2_lookAt_186 ki_0 ?_
    exact r_sub [0, 1] rfl (wM_lookAt_b187 hC hK hR M10 x1 0 5 hf)
  · have hf := dh_el hf c12
    refine r_aload_n hC dX2_lookAt_177 rfl (j := 0) rfl ?_
    refine m_getA hC hK fa_13 dX2_lookAt_178 ?_
    refine r_iload_n hC dX2_lookAt_181 rfl (j := 1) rfl ?_
    obtain ⟨v18, h18, hf⟩ := dh_bd hf
    refine m_iald hC hK kd_13 h18 dX2_lookAt_182 ?_
    refine r_goto hC dX2_lookAt_183 (tgt := 187) (by decide) ?_
    exact r_sub [0, 1] rfl (wM_lookAt_b187 hC hK hR M10 x1 v18 5 hf)
def gM_lookAt_L24_F (k24 : (dm_M → Int32 → Int32 → Option dm_M)) (M : dm_M) (x1 : Int32) (x2 : Int32) : Option dm_M :=
  (dm_rd M 25 0).bind fun v4 =>
  if v4 ≤ x2 then (
    (dm_rd M 11 x1).bind fun v6 =>
    if v6 = 0 then (
      gM_lookAt_b150 M x1 0 3)
    else
    (dm_rd M 5 0).bind fun v19 =>
    (dm_rd M 12 x1).bind fun v20 =>
    gM_lookAt_b150 M x1 (v19 - v20) 3)
  else
  (dm_rd M 33 x2).bind fun v21 =>
  if v21 = 0 then (
    (dm_rd M 26 x2).bind fun v23 =>
    if v23 = x1 then (
      (dm_rd M 70 0).bind fun v25 =>
      (gM_dueOf M x2).bind fun p26 =>
      (dm_wr M 70 0 (v25 + p26)).bind fun M27 =>
      (dm_rd M27 70 1).bind fun v28 =>
      (dm_wr M27 70 1 (v28 + 1)).bind fun M29 =>
      (dm_rd M29 29 x2).bind fun v30 =>
      (dm_rd M29 70 2).bind fun v31 =>
      if v31 ≤ v30 then (
        (dm_rd M29 70 2).bind fun v33 =>
        (dm_wr M29 70 2 v33).bind fun M34 =>
        k24 M34 x1 (x2 + 1))
      else
      (dm_rd M29 29 x2).bind fun v35 =>
      (dm_wr M29 70 2 v35).bind fun M36 =>
      k24 M36 x1 (x2 + 1))
    else
    k24 M x1 (x2 + 1))
  else
  k24 M x1 (x2 + 1)
theorem wM_lookAt_L24_F {C : dh_C} {A : Nat → Prop} {E : dm_E} (hC : dh_ok C cX2_lookAt 3 RX2 none) (hK : dm_Kn E (dh_s C)) (hR : dh_R C = { frames := 2, cells := 0, slots := 0, locals := 42 }) {M' : dm_M} (k24 : (dm_M → Int32 → Int32 → Option dm_M)) (hk24 : ∀ (M : dm_M) (x1 : Int32) (x2 : Int32), k24 M x1 x2 = some M' → dh_W C A (dm_P E A M) (dm_Q E A none M') 0 0 0 0 24 [(0, .ref (dm_am E)), (1, .int x1), (2, .int x2)] []) (M : dm_M) (x1 : Int32) (x2 : Int32) (hf : gM_lookAt_L24_F k24 M x1 x2 = some M') : dh_W C A (dm_P E A M) (dm_Q E A none M') 0 0 0 0 24 [(0, .ref (dm_am E)), (1, .int x1), (2, .int x2)] [] := by
  unfold gM_lookAt_L24_F at hf
  refine r_iload_n hC dX2_lookAt_24 rfl (j := 2) rfl ?_
  refine r_aload_n hC dX2_lookAt_25 rfl (j := 0) rfl ?_
  refine m_getA hC hK fa_25 dX2_lookAt_26 ?_
  refine r_iconst hC dX2_lookAt_29 ki_0 ?_
  obtain ⟨v4, h4, hf⟩ := dh_bd hf
  refine m_iald hC hK kd_25 h4 dX2_lookAt_30 ?_
  refine r_icmp_ge hC dX2_lookAt_31 (tgt := 119) (by decide) (fun c5 => ?_) (fun c5 => ?_)
  · have hf := dh_if hf c5
    refine r_aload_n hC dX2_lookAt_119 rfl (j := 0) rfl ?_
    refine m_getA hC hK fa_70 dX2_lookAt_120 ?_
    refine r_iconst hC dX2_lookAt_123 ki_3 ?_
    refine r_aload_n hC dX2_lookAt_124 rfl (j := 0) rfl ?_
    refine m_getA hC hK fa_11 dX2_lookAt_125 ?_
    refine r_iload_n hC dX2_lookAt_128 rfl (j := 1) rfl ?_
    obtain ⟨v6, h6, hf⟩ := dh_bd hf
    refine m_zald hC hK kd_11 h6 dX2_lookAt_129 ?_
    refine r_if_eq hC dX2_lookAt_130 (tgt := 149) (by decide) (fun c7 => ?_) (fun c7 => ?_)
    · have hf := dh_if hf c7
      refine r_iconst hC dX2_lookAt_149 ki_0 ?_
      exact r_sub [0, 1] rfl (wM_lookAt_b150 hC hK hR M x1 0 3 hf)
    · have hf := dh_el hf c7
      refine r_aload_n hC dX2_lookAt_133 rfl (j := 0) rfl ?_
      refine m_getA hC hK fa_5 dX2_lookAt_134 ?_
      refine r_iconst hC dX2_lookAt_137 ki_0 ?_
      obtain ⟨v19, h19, hf⟩ := dh_bd hf
      refine m_iald hC hK kd_5 h19 dX2_lookAt_138 ?_
      refine r_aload_n hC dX2_lookAt_139 rfl (j := 0) rfl ?_
      refine m_getA hC hK fa_12 dX2_lookAt_140 ?_
      refine r_iload_n hC dX2_lookAt_143 rfl (j := 1) rfl ?_
      obtain ⟨v20, h20, hf⟩ := dh_bd hf
      refine m_iald hC hK kd_12 h20 dX2_lookAt_144 ?_
      refine r_isub hC dX2_lookAt_145 ?_
      refine r_goto hC dX2_lookAt_146 (tgt := 150) (by decide) ?_
      exact r_sub [0, 1] rfl (wM_lookAt_b150 hC hK hR M x1 (v19 - v20) 3 hf)
  · have hf := dh_el hf c5
    refine r_aload_n hC dX2_lookAt_34 rfl (j := 0) rfl ?_
    refine m_getA hC hK fa_33 dX2_lookAt_35 ?_
    refine r_iload_n hC dX2_lookAt_38 rfl (j := 2) rfl ?_
    obtain ⟨v21, h21, hf⟩ := dh_bd hf
    refine m_iald hC hK kd_33 h21 dX2_lookAt_39 ?_
    refine r_if_ne hC dX2_lookAt_40 (tgt := 113) (by decide) (fun c22 => ?_) (fun c22 => ?_)
    · have hf := dh_el hf c22
      refine r_iinc (lv' := [(2, .int (x2 + 1)), (0, .ref (dm_am E)), (1, .int x1)]) hC dX2_lookAt_113 (j := 2) rfl (congrArg _ ki_1) (Nat.le_of_ble_eq_true rfl) rfl ?_
      refine r_goto hC dX2_lookAt_116 (tgt := 24) (by decide) ?_
      exact r_sub [1, 2, 0] rfl (hk24 M x1 (x2 + 1) hf)
    · have hf := dh_if hf c22
      refine r_aload_n hC dX2_lookAt_43 rfl (j := 0) rfl ?_
      refine m_getA hC hK fa_26 dX2_lookAt_44 ?_
      refine r_iload_n hC dX2_lookAt_47 rfl (j := 2) rfl ?_
      obtain ⟨v23, h23, hf⟩ := dh_bd hf
      refine m_iald hC hK kd_26 h23 dX2_lookAt_48 ?_
      refine r_iload_n hC dX2_lookAt_49 rfl (j := 1) rfl ?_
      refine r_icmp_ne hC dX2_lookAt_50 (tgt := 113) (by decide) (fun c24 => ?_) (fun c24 => ?_)
      · have hf := dh_el hf c24
        refine r_iinc (lv' := [(2, .int (x2 + 1)), (0, .ref (dm_am E)), (1, .int x1)]) hC dX2_lookAt_113 (j := 2) rfl (congrArg _ ki_1) (Nat.le_of_ble_eq_true rfl) rfl ?_
        refine r_goto hC dX2_lookAt_116 (tgt := 24) (by decide) ?_
        exact r_sub [1, 2, 0] rfl (hk24 M x1 (x2 + 1) hf)
      · have hf := dh_if hf c24
        refine r_aload_n hC dX2_lookAt_53 rfl (j := 0) rfl ?_
        refine m_getA hC hK fa_70 dX2_lookAt_54 ?_
        refine r_iconst hC dX2_lookAt_57 ki_0 ?_
        refine r_dup2_11 hC dX2_lookAt_58 rfl rfl ?_
        obtain ⟨v25, h25, hf⟩ := dh_bd hf
        refine m_iald hC hK kd_70 h25 dX2_lookAt_59 ?_
        refine r_aload_n hC dX2_lookAt_60 rfl (j := 0) rfl ?_
        refine r_iload_n hC dX2_lookAt_61 rfl (j := 2) rfl ?_
        obtain ⟨p26, h26, hf⟩ := dh_bd hf
        refine m_callV' hC hK hR (cM_dueOf _ E A M x2 h26) q1667 q_dueOf (Nat.le_of_ble_eq_true rfl) (Nat.le_of_ble_eq_true rfl) rfl (Nat.le_of_ble_eq_true rfl) dX2_lookAt_62 ?_
        refine r_iadd hC dX2_lookAt_65 ?_
        obtain ⟨M27, h27, hf⟩ := dh_bd hf
        refine m_iast hC hK kd_70 h27 dX2_lookAt_66 ?_
        refine r_aload_n hC dX2_lookAt_67 rfl (j := 0) rfl ?_
        refine m_getA hC hK fa_70 dX2_lookAt_68 ?_
        refine r_iconst hC dX2_lookAt_71 ki_1 ?_
        refine r_dup2_11 hC dX2_lookAt_72 rfl rfl ?_
        obtain ⟨v28, h28, hf⟩ := dh_bd hf
        refine m_iald hC hK kd_70 h28 dX2_lookAt_73 ?_
        refine r_iconst hC dX2_lookAt_74 ki_1 ?_
        refine r_iadd hC dX2_lookAt_75 ?_
        obtain ⟨M29, h29, hf⟩ := dh_bd hf
        refine m_iast hC hK kd_70 h29 dX2_lookAt_76 ?_
        refine r_aload_n hC dX2_lookAt_77 rfl (j := 0) rfl ?_
        refine m_getA hC hK fa_70 dX2_lookAt_78 ?_
        refine r_iconst hC dX2_lookAt_81 ki_2 ?_
        refine r_aload_n hC dX2_lookAt_82 rfl (j := 0) rfl ?_
        refine m_getA hC hK fa_29 dX2_lookAt_83 ?_
        refine r_iload_n hC dX2_lookAt_86 rfl (j := 2) rfl ?_
        obtain ⟨v30, h30, hf⟩ := dh_bd hf
        refine m_iald hC hK kd_29 h30 dX2_lookAt_87 ?_
        refine r_aload_n hC dX2_lookAt_88 rfl (j := 0) rfl ?_
        refine m_getA hC hK fa_70 dX2_lookAt_89 ?_
        refine r_iconst hC dX2_lookAt_92 ki_2 ?_
        obtain ⟨v31, h31, hf⟩ := dh_bd hf
        refine m_iald hC hK kd_70 h31 dX2_lookAt_93 ?_
        refine r_icmp_ge hC dX2_lookAt_94 (tgt := 106) (by decide) (fun c32 => ?_) (fun c32 => ?_)
        · have hf := dh_if hf c32
          refine r_aload_n hC dX2_lookAt_106 rfl (j := 0) rfl ?_
          refine m_getA hC hK fa_70 dX2_lookAt_107 ?_
          refine r_iconst hC dX2_lookAt_110 ki_2 ?_
          obtain ⟨v33, h33, hf⟩ := dh_bd hf
          refine m_iald hC hK kd_70 h33 dX2_lookAt_111 ?_
          obtain ⟨M34, h34, hf⟩ := dh_bd hf
          refine m_iast hC hK kd_70 h34 dX2_lookAt_112 ?_
          refine r_iinc (lv' := [(2, .int (x2 + 1)), (0, .ref (dm_am E)), (1, .int x1)]) hC dX2_lookAt_113 (j := 2) rfl (congrArg _ ki_1) (Nat.le_of_ble_eq_true rfl) rfl ?_
          refine r_goto hC dX2_lookAt_116 (tgt := 24) (by decide) ?_
          exact r_sub [1, 2, 0] rfl (hk24 M34 x1 (x2 + 1) hf)
        · have hf := dh_el hf c32
          refine r_aload_n hC dX2_lookAt_97 rfl (j := 0) rfl ?_
          refine m_getA hC hK fa_29 dX2_lookAt_98 ?_
          refine r_iload_n hC dX2_lookAt_101 rfl (j := 2) rfl ?_
          obtain ⟨v35, h35, hf⟩ := dh_bd hf
          refine m_iald hC hK kd_29 h35 dX2_lookAt_102 ?_
          refine r_goto hC dX2_lookAt_103 (tgt := 112) (by decide) ?_
          obtain ⟨M36, h36, hf⟩ := dh_bd hf
          refine m_iast hC hK kd_70 h36 dX2_lookAt_112 ?_
          refine r_iinc (lv' := [(2, .int (x2 + 1)), (0, .ref (dm_am E)), (1, .int x1)]) hC dX2_lookAt_113 (j := 2) rfl (congrArg _ ki_1) (Nat.le_of_ble_eq_true rfl) rfl ?_
          refine r_goto hC dX2_lookAt_116 (tgt := 24) (by decide) ?_
          exact r_sub [1, 2, 0] rfl (hk24 M36 x1 (x2 + 1) hf)
def gM_lookAt_L24 : Nat → dm_M → Int32 → Int32 → Option dm_M
  | 0 => fun _ _ _ => none
  | n + 1 => gM_lookAt_L24_F (gM_lookAt_L24 n)
theorem wM_lookAt_L24 {C : dh_C} {A : Nat → Prop} {E : dm_E} (hC : dh_ok C cX2_lookAt 3 RX2 none) (hK : dm_Kn E (dh_s C)) (hR : dh_R C = { frames := 2, cells := 0, slots := 0, locals := 42 }) {M' : dm_M} : ∀ (n : Nat) (M : dm_M) (x1 : Int32) (x2 : Int32) (_ : gM_lookAt_L24 n M x1 x2 = some M'), dh_W C A (dm_P E A M) (dm_Q E A none M') 0 0 0 0 24 [(0, .ref (dm_am E)), (1, .int x1), (2, .int x2)] [] := by
  intro n
  induction n with
  | zero => intro M x1 x2 hf; exact dh_no hf
  | succ n ih => intro M x1 x2 hf; exact wM_lookAt_L24_F hC hK hR (gM_lookAt_L24 n) ih M x1 x2 hf
def gM_lookAt (M : dm_M) (x1 : Int32) : Option dm_M :=
  (dm_wr M 70 0 0).bind fun M1 =>
  (dm_wr M1 70 1 0).bind fun M2 =>
  (dm_wr M2 70 2 9).bind fun M3 =>
  gM_lookAt_L24 dh_fu M3 x1 0
theorem wM_lookAt {C : dh_C} {A : Nat → Prop} {E : dm_E} (hC : dh_ok C cX2_lookAt 3 RX2 none) (hK : dm_Kn E (dh_s C)) (hR : dh_R C = { frames := 2, cells := 0, slots := 0, locals := 42 }) {M' : dm_M} (M : dm_M) (x1 : Int32) (hf : gM_lookAt M x1 = some M') : dh_W C A (dm_P E A M) (dm_Q E A none M') 0 0 0 0 0 [(0, .ref (dm_am E)), (1, .int x1)] [] := by
  unfold gM_lookAt at hf
  refine r_aload_n hC dX2_lookAt_0 rfl (j := 0) rfl ?_
  refine m_getA hC hK fa_70 dX2_lookAt_1 ?_
  refine r_iconst hC dX2_lookAt_4 ki_0 ?_
  refine r_iconst hC dX2_lookAt_5 ki_0 ?_
  obtain ⟨M1, h1, hf⟩ := dh_bd hf
  refine m_iast hC hK kd_70 h1 dX2_lookAt_6 ?_
  refine r_aload_n hC dX2_lookAt_7 rfl (j := 0) rfl ?_
  refine m_getA hC hK fa_70 dX2_lookAt_8 ?_
  refine r_iconst hC dX2_lookAt_11 ki_1 ?_
  refine r_iconst hC dX2_lookAt_12 ki_0 ?_
  obtain ⟨M2, h2, hf⟩ := dh_bd hf
  refine m_iast hC hK kd_70 h2 dX2_lookAt_13 ?_
  refine r_aload_n hC dX2_lookAt_14 rfl (j := 0) rfl ?_
  refine m_getA hC hK fa_70 dX2_lookAt_15 ?_
  refine r_iconst hC dX2_lookAt_18 ki_2 ?_
  refine r_bipush hC dX2_lookAt_19 kb_9 ?_
  obtain ⟨M3, h3, hf⟩ := dh_bd hf
  refine m_iast hC hK kd_70 h3 dX2_lookAt_21 ?_
  refine r_iconst hC dX2_lookAt_22 ki_0 ?_
  refine r_istore_n (lv' := [(2, .int 0), (0, .ref (dm_am E)), (1, .int x1)]) hC dX2_lookAt_23 rfl (Nat.le_of_ble_eq_true rfl) rfl ?_
  exact r_sub [1, 2, 0] rfl (wM_lookAt_L24 hC hK hR dh_fu M3 x1 0 hf)
theorem cM_lookAt (l : Launch) (E : dm_E) (A : Nat → Prop) (M : dm_M) (x1 : Int32) {M' : dm_M} (h : gM_lookAt M x1 = some M') : dm_Met l yX2_lookAt cX2_lookAt 3 none 2 42 E A [.ref (dm_am E), .int x1] M none M' := by
  refine dh_met (by decide) (Nat.le_of_ble_eq_true rfl) (fun _ _ h => ⟨_, h.1⟩) (fun C hl hR hC hnm hK => ?_)
  exact wM_lookAt hC hK hR M x1 h
theorem q_lookAt : dm_calV yX2_lookAt cX2_lookAt 3 none 1 := ⟨q1823, qs63, q1824, by decide +kernel⟩
/-! goodOn(II)I -/
def gM_goodOn_L5_F (k5 : (Int32 → Int32 → Int32 → Int32 → Option Int32)) (M : dm_M) (x1 : Int32) (x2 : Int32) (x3 : Int32) (x4 : Int32) : Option Int32 :=
  (dm_rd M 43 0).bind fun v1 =>
  if v1 ≤ x4 then (
    some x3)
  else
  (dm_rd M 45 x4).bind fun v3 =>
  if x2 < v3 then (
    k5 x1 x2 x3 (x4 + 1))
  else
  (dm_rd M 44 x4).bind fun v5 =>
  if x1 < v5 then (
    k5 x1 x2 x3 (x4 + 1))
  else
  k5 x1 x2 x4 (x4 + 1)
theorem wM_goodOn_L5_F {C : dh_C} {A : Nat → Prop} {E : dm_E} (hC : dh_ok C cX2_goodOn 5 RX2 (some .int)) (hK : dm_Kn E (dh_s C)) (hR : dh_R C = { frames := 0, cells := 0, slots := 0, locals := 0 }) {r : Int32} (M : dm_M) (k5 : (Int32 → Int32 → Int32 → Int32 → Option Int32)) (hk5 : ∀ (x1 : Int32) (x2 : Int32) (x3 : Int32) (x4 : Int32), k5 x1 x2 x3 x4 = some r → dh_W C A (dm_P E A M) (dm_Q E A (some (.int r)) M) 0 0 0 0 5 [(0, .ref (dm_am E)), (1, .int x1), (2, .int x2), (3, .int x3), (4, .int x4)] []) (x1 : Int32) (x2 : Int32) (x3 : Int32) (x4 : Int32) (hf : gM_goodOn_L5_F k5 M x1 x2 x3 x4 = some r) : dh_W C A (dm_P E A M) (dm_Q E A (some (.int r)) M) 0 0 0 0 5 [(0, .ref (dm_am E)), (1, .int x1), (2, .int x2), (3, .int x3), (4, .int x4)] [] := by
  unfold gM_goodOn_L5_F at hf
  refine r_iload hC dX2_goodOn_5 (j := 4) rfl ?_
  refine r_aload_n hC dX2_goodOn_7 rfl (j := 0) rfl ?_
  refine m_getA hC hK fa_43 dX2_goodOn_8 ?_
  refine r_iconst hC dX2_goodOn_11 ki_0 ?_
  obtain ⟨v1, h1, hf⟩ := dh_bd hf
  refine m_iald hC hK kd_43 h1 dX2_goodOn_12 ?_
  refine r_icmp_ge hC dX2_goodOn_13 (tgt := 51) (by decide) (fun c2 => ?_) (fun c2 => ?_)
  · have hf := dh_if hf c2
    refine r_iload_n hC dX2_goodOn_51 rfl (j := 3) rfl ?_
    exact m_iret1 hC dX2_goodOn_52 rfl hf
  · have hf := dh_el hf c2
    refine r_aload_n hC dX2_goodOn_16 rfl (j := 0) rfl ?_
    refine m_getA hC hK fa_45 dX2_goodOn_17 ?_
    refine r_iload hC dX2_goodOn_20 (j := 4) rfl ?_
    obtain ⟨v3, h3, hf⟩ := dh_bd hf
    refine m_iald hC hK kd_45 h3 dX2_goodOn_22 ?_
    refine r_iload_n hC dX2_goodOn_23 rfl (j := 2) rfl ?_
    refine r_icmp_gt hC dX2_goodOn_24 (tgt := 43) (by decide) (fun c4 => ?_) (fun c4 => ?_)
    · have hf := dh_if hf c4
      refine r_iload_n hC dX2_goodOn_43 rfl (j := 3) rfl ?_
      refine r_istore_n (lv' := [(3, .int x3), (0, .ref (dm_am E)), (1, .int x1), (2, .int x2), (4, .int x4)]) hC dX2_goodOn_44 rfl (Nat.le_of_ble_eq_true rfl) rfl ?_
      refine r_iinc (lv' := [(4, .int (x4 + 1)), (3, .int x3), (0, .ref (dm_am E)), (1, .int x1), (2, .int x2)]) hC dX2_goodOn_45 (j := 4) rfl (congrArg _ ki_1) (Nat.le_of_ble_eq_true rfl) rfl ?_
      refine r_goto hC dX2_goodOn_48 (tgt := 5) (by decide) ?_
      exact r_sub [2, 3, 4, 1, 0] rfl (hk5 x1 x2 x3 (x4 + 1) hf)
    · have hf := dh_el hf c4
      refine r_aload_n hC dX2_goodOn_27 rfl (j := 0) rfl ?_
      refine m_getA hC hK fa_44 dX2_goodOn_28 ?_
      refine r_iload hC dX2_goodOn_31 (j := 4) rfl ?_
      obtain ⟨v5, h5, hf⟩ := dh_bd hf
      refine m_iald hC hK kd_44 h5 dX2_goodOn_33 ?_
      refine r_iload_n hC dX2_goodOn_34 rfl (j := 1) rfl ?_
      refine r_icmp_gt hC dX2_goodOn_35 (tgt := 43) (by decide) (fun c6 => ?_) (fun c6 => ?_)
      · have hf := dh_if hf c6
        refine r_iload_n hC dX2_goodOn_43 rfl (j := 3) rfl ?_
        refine r_istore_n (lv' := [(3, .int x3), (0, .ref (dm_am E)), (1, .int x1), (2, .int x2), (4, .int x4)]) hC dX2_goodOn_44 rfl (Nat.le_of_ble_eq_true rfl) rfl ?_
        refine r_iinc (lv' := [(4, .int (x4 + 1)), (3, .int x3), (0, .ref (dm_am E)), (1, .int x1), (2, .int x2)]) hC dX2_goodOn_45 (j := 4) rfl (congrArg _ ki_1) (Nat.le_of_ble_eq_true rfl) rfl ?_
        refine r_goto hC dX2_goodOn_48 (tgt := 5) (by decide) ?_
        exact r_sub [2, 3, 4, 1, 0] rfl (hk5 x1 x2 x3 (x4 + 1) hf)
      · have hf := dh_el hf c6
        refine r_iload hC dX2_goodOn_38 (j := 4) rfl ?_
        refine r_goto hC dX2_goodOn_40 (tgt := 44) (by decide) ?_
        refine r_istore_n (lv' := [(3, .int x4), (0, .ref (dm_am E)), (1, .int x1), (2, .int x2), (4, .int x4)]) hC dX2_goodOn_44 rfl (Nat.le_of_ble_eq_true rfl) rfl ?_
        refine r_iinc (lv' := [(4, .int (x4 + 1)), (3, .int x4), (0, .ref (dm_am E)), (1, .int x1), (2, .int x2)]) hC dX2_goodOn_45 (j := 4) rfl (congrArg _ ki_1) (Nat.le_of_ble_eq_true rfl) rfl ?_
        refine r_goto hC dX2_goodOn_48 (tgt := 5) (by decide) ?_
        exact r_sub [2, 3, 4, 1, 0] rfl (hk5 x1 x2 x4 (x4 + 1) hf)
def gM_goodOn_L5 (M : dm_M) : Nat → Int32 → Int32 → Int32 → Int32 → Option Int32
  | 0 => fun _ _ _ _ => none
  | n + 1 => gM_goodOn_L5_F (gM_goodOn_L5 M n) M
theorem wM_goodOn_L5 {C : dh_C} {A : Nat → Prop} {E : dm_E} (hC : dh_ok C cX2_goodOn 5 RX2 (some .int)) (hK : dm_Kn E (dh_s C)) (hR : dh_R C = { frames := 0, cells := 0, slots := 0, locals := 0 }) {r : Int32} (M : dm_M) : ∀ (n : Nat) (x1 : Int32) (x2 : Int32) (x3 : Int32) (x4 : Int32) (_ : gM_goodOn_L5 M n x1 x2 x3 x4 = some r), dh_W C A (dm_P E A M) (dm_Q E A (some (.int r)) M) 0 0 0 0 5 [(0, .ref (dm_am E)), (1, .int x1), (2, .int x2), (3, .int x3), (4, .int x4)] [] := by
  intro n
  induction n with
  | zero => intro x1 x2 x3 x4 hf; exact dh_no hf
  | succ n ih => intro x1 x2 x3 x4 hf; exact wM_goodOn_L5_F hC hK hR M (gM_goodOn_L5 M n) ih x1 x2 x3 x4 hf
def gM_goodOn (M : dm_M) (x1 : Int32) (x2 : Int32) : Option Int32 :=
  gM_goodOn_L5 M dh_fu x1 x2 (-1) 0
theorem wM_goodOn {C : dh_C} {A : Nat → Prop} {E : dm_E} (hC : dh_ok C cX2_goodOn 5 RX2 (some .int)) (hK : dm_Kn E (dh_s C)) (hR : dh_R C = { frames := 0, cells := 0, slots := 0, locals := 0 }) {r : Int32} (M : dm_M) (x1 : Int32) (x2 : Int32) (hf : gM_goodOn M x1 x2 = some r) : dh_W C A (dm_P E A M) (dm_Q E A (some (.int r)) M) 0 0 0 0 0 [(0, .ref (dm_am E)), (1, .int x1), (2, .int x2)] [] := by
  unfold gM_goodOn at hf
  refine r_iconst hC dX2_goodOn_0 ki_m1 ?_
  refine r_istore_n (lv' := [(3, .int (-1)), (0, .ref (dm_am E)), (1, .int x1), (2, .int x2)]) hC dX2_goodOn_1 rfl (Nat.le_of_ble_eq_true rfl) rfl ?_
  refine r_iconst hC dX2_goodOn_2 ki_0 ?_
  refine r_istore (lv' := [(4, .int 0), (3, .int (-1)), (0, .ref (dm_am E)), (1, .int x1), (2, .int x2)]) hC dX2_goodOn_3 (Nat.le_of_ble_eq_true rfl) rfl ?_
  exact r_sub [2, 3, 4, 1, 0] rfl (wM_goodOn_L5 hC hK hR M dh_fu x1 x2 (-1) 0 hf)
theorem cM_goodOn (l : Launch) (E : dm_E) (A : Nat → Prop) (M : dm_M) (x1 : Int32) (x2 : Int32) {r : Int32} (h : gM_goodOn M x1 x2 = some r) : dm_Met l yX2_goodOn cX2_goodOn 5 (some .int) 0 0 E A [.ref (dm_am E), .int x1, .int x2] M (some (.int r)) M := by
  refine dh_met (by decide) (Nat.le_of_ble_eq_true rfl) (fun _ _ h => ⟨_, h.1⟩) (fun C hl hR hC hnm hK => ?_)
  exact wM_goodOn hC hK hR M x1 x2 h
theorem q_goodOn : dm_calV yX2_goodOn cX2_goodOn 5 (some .int) 2 := ⟨q1815, qs62, q1816, by decide +kernel⟩
/-! holds(I)Z -/
def gM_holds_b122 (k4 : (Int32 → Int32 → Option Int32)) (M : dm_M) (x1 : Int32) (x2 : Int32) (y0 : Int32) (y1 : Int32) : Option Int32 :=
  if y1 = y0 then (
    some 0)
  else
  k4 x1 (x2 + 1)
theorem wM_holds_b122 {C : dh_C} {A : Nat → Prop} {E : dm_E} (hC : dh_ok C cX2_holds 6 RX2 (some .boolean)) (hK : dm_Kn E (dh_s C)) (hR : dh_R C = { frames := 0, cells := 0, slots := 0, locals := 0 }) {r : Int32} (M : dm_M) (k4 : (Int32 → Int32 → Option Int32)) (hk4 : ∀ (x1 : Int32) (x2 : Int32), k4 x1 x2 = some r → dh_W C A (dm_P E A M) (dm_Q E A (some (.int r)) M) 0 0 0 0 4 [(0, .ref (dm_am E)), (1, .int x1), (2, .int x2)] []) (x1 : Int32) (x2 : Int32) (y0 : Int32) (y1 : Int32) (hf : gM_holds_b122 k4 M x1 x2 y0 y1 = some r) : dh_W C A (dm_P E A M) (dm_Q E A (some (.int r)) M) 0 0 0 0 122 [(0, .ref (dm_am E)), (1, .int x1), (2, .int x2)] [.int y0, .int y1] := by
  unfold gM_holds_b122 at hf
  refine r_icmp_ne hC dX2_holds_122 (tgt := 127) (by decide) (fun c13 => ?_) (fun c13 => ?_)
  · have hf := dh_el hf c13
    refine r_iinc (lv' := [(2, .int (x2 + 1)), (0, .ref (dm_am E)), (1, .int x1)]) hC dX2_holds_127 (j := 2) rfl (congrArg _ ki_1) (Nat.le_of_ble_eq_true rfl) rfl ?_
    refine r_goto hC dX2_holds_130 (tgt := 4) (by decide) ?_
    exact r_sub [1, 2, 0] rfl (hk4 x1 (x2 + 1) hf)
  · have hf := dh_if hf c13
    refine r_iconst hC dX2_holds_125 ki_0 ?_
    exact m_zret1 hC dX2_holds_126 rfl rfl hf
def gM_holds_b102 (k4 : (Int32 → Int32 → Option Int32)) (M : dm_M) (x1 : Int32) (x2 : Int32) (y0 : Int32) : Option Int32 :=
  (dm_rd M 50 x2).bind fun v11 =>
  if v11 ≤ 7 then (
    gM_holds_b122 k4 M x1 x2 0 y0)
  else
  gM_holds_b122 k4 M x1 x2 1 y0
theorem wM_holds_b102 {C : dh_C} {A : Nat → Prop} {E : dm_E} (hC : dh_ok C cX2_holds 6 RX2 (some .boolean)) (hK : dm_Kn E (dh_s C)) (hR : dh_R C = { frames := 0, cells := 0, slots := 0, locals := 0 }) {r : Int32} (M : dm_M) (k4 : (Int32 → Int32 → Option Int32)) (hk4 : ∀ (x1 : Int32) (x2 : Int32), k4 x1 x2 = some r → dh_W C A (dm_P E A M) (dm_Q E A (some (.int r)) M) 0 0 0 0 4 [(0, .ref (dm_am E)), (1, .int x1), (2, .int x2)] []) (x1 : Int32) (x2 : Int32) (y0 : Int32) (hf : gM_holds_b102 k4 M x1 x2 y0 = some r) : dh_W C A (dm_P E A M) (dm_Q E A (some (.int r)) M) 0 0 0 0 102 [(0, .ref (dm_am E)), (1, .int x1), (2, .int x2)] [.int y0] := by
  unfold gM_holds_b102 at hf
  refine r_istore (lv' := [(5, .int y0), (0, .ref (dm_am E)), (1, .int x1), (2, .int x2)]) hC dX2_holds_102 (Nat.le_of_ble_eq_true rfl) rfl ?_
  refine r_iload hC dX2_holds_104 (j := 0) rfl ?_
  refine r_aload_n hC dX2_holds_106 rfl (j := 1) rfl ?_
  refine m_getA hC hK fa_50 dX2_holds_107 ?_
  refine r_iload_n hC dX2_holds_110 rfl (j := 3) rfl ?_
  obtain ⟨v11, h11, hf⟩ := dh_bd hf
  refine m_iald hC hK kd_50 h11 dX2_holds_111 ?_
  refine r_bipush hC dX2_holds_112 kb_7 ?_
  refine r_icmp_le hC dX2_holds_114 (tgt := 121) (by decide) (fun c12 => ?_) (fun c12 => ?_)
  · have hf := dh_if hf c12
    refine r_iconst hC dX2_holds_121 ki_0 ?_
    exact r_sub [1, 2, 3] rfl (wM_holds_b122 hC hK hR M k4 hk4 x1 x2 0 y0 hf)
  · have hf := dh_el hf c12
    refine r_iconst hC dX2_holds_117 ki_1 ?_
    refine r_goto hC dX2_holds_118 (tgt := 122) (by decide) ?_
    exact r_sub [1, 2, 3] rfl (wM_holds_b122 hC hK hR M k4 hk4 x1 x2 1 y0 hf)
def gM_holds_L4_F (k4 : (Int32 → Int32 → Option Int32)) (M : dm_M) (x1 : Int32) (x2 : Int32) : Option Int32 :=
  (dm_rd M 48 x1).bind fun v1 =>
  if ((4 * x1) + v1) ≤ x2 then (
    some 1)
  else
  (dm_rd M 50 x2).bind fun v3 =>
  (dm_rd M 70 (v3 &&& 7)).bind fun v4 =>
  (dm_rd M 52 x2).bind fun v5 =>
  (dm_rd M 51 x2).bind fun v6 =>
  if v6 = 60 then (
    if v5 ≤ v4 then (
      gM_holds_b102 k4 M x1 x2 0)
    else
    gM_holds_b102 k4 M x1 x2 1)
  else
  (dm_rd M 51 x2).bind fun v8 =>
  if v8 = 62 then (
    if v4 ≤ v5 then (
      gM_holds_b102 k4 M x1 x2 0)
    else
    gM_holds_b102 k4 M x1 x2 1)
  else
  if v4 = v5 then (
    gM_holds_b102 k4 M x1 x2 1)
  else
  gM_holds_b102 k4 M x1 x2 0
theorem wM_holds_L4_F {C : dh_C} {A : Nat → Prop} {E : dm_E} (hC : dh_ok C cX2_holds 6 RX2 (some .boolean)) (hK : dm_Kn E (dh_s C)) (hR : dh_R C = { frames := 0, cells := 0, slots := 0, locals := 0 }) {r : Int32} (M : dm_M) (k4 : (Int32 → Int32 → Option Int32)) (hk4 : ∀ (x1 : Int32) (x2 : Int32), k4 x1 x2 = some r → dh_W C A (dm_P E A M) (dm_Q E A (some (.int r)) M) 0 0 0 0 4 [(0, .ref (dm_am E)), (1, .int x1), (2, .int x2)] []) (x1 : Int32) (x2 : Int32) (hf : gM_holds_L4_F k4 M x1 x2 = some r) : dh_W C A (dm_P E A M) (dm_Q E A (some (.int r)) M) 0 0 0 0 4 [(0, .ref (dm_am E)), (1, .int x1), (2, .int x2)] [] := by
  unfold gM_holds_L4_F at hf
  refine r_iload_n hC dX2_holds_4 rfl (j := 2) rfl ?_
  refine r_iconst hC dX2_holds_5 ki_4 ?_
  refine r_iload_n hC dX2_holds_6 rfl (j := 1) rfl ?_
  refine r_imul hC dX2_holds_7 ?_
  refine r_aload_n hC dX2_holds_8 rfl (j := 0) rfl ?_
  refine m_getA hC hK fa_48 dX2_holds_9 ?_
  refine r_iload_n hC dX2_holds_12 rfl (j := 1) rfl ?_
  obtain ⟨v1, h1, hf⟩ := dh_bd hf
  refine m_iald hC hK kd_48 h1 dX2_holds_13 ?_
  refine r_iadd hC dX2_holds_14 ?_
  refine r_icmp_ge hC dX2_holds_15 (tgt := 133) (by decide) (fun c2 => ?_) (fun c2 => ?_)
  · have hf := dh_if hf c2
    refine r_iconst hC dX2_holds_133 ki_1 ?_
    exact m_zret1 hC dX2_holds_134 rfl rfl hf
  · have hf := dh_el hf c2
    refine r_aload_n hC dX2_holds_18 rfl (j := 0) rfl ?_
    refine m_getA hC hK fa_70 dX2_holds_19 ?_
    refine r_aload_n hC dX2_holds_22 rfl (j := 0) rfl ?_
    refine m_getA hC hK fa_50 dX2_holds_23 ?_
    refine r_iload_n hC dX2_holds_26 rfl (j := 2) rfl ?_
    obtain ⟨v3, h3, hf⟩ := dh_bd hf
    refine m_iald hC hK kd_50 h3 dX2_holds_27 ?_
    refine r_bipush hC dX2_holds_28 kb_7 ?_
    refine r_iand hC dX2_holds_30 ?_
    obtain ⟨v4, h4, hf⟩ := dh_bd hf
    refine m_iald hC hK kd_70 h4 dX2_holds_31 ?_
    refine r_istore_n (lv' := [(3, .int v4), (0, .ref (dm_am E)), (1, .int x1), (2, .int x2)]) hC dX2_holds_32 rfl (Nat.le_of_ble_eq_true rfl) rfl ?_
    refine r_aload_n hC dX2_holds_33 rfl (j := 1) rfl ?_
    refine m_getA hC hK fa_52 dX2_holds_34 ?_
    refine r_iload_n hC dX2_holds_37 rfl (j := 3) rfl ?_
    obtain ⟨v5, h5, hf⟩ := dh_bd hf
    refine m_iald hC hK kd_52 h5 dX2_holds_38 ?_
    refine r_istore (lv' := [(4, .int v5), (3, .int v4), (0, .ref (dm_am E)), (1, .int x1), (2, .int x2)]) hC dX2_holds_39 (Nat.le_of_ble_eq_true rfl) rfl ?_
    refine r_aload_n hC dX2_holds_41 rfl (j := 2) rfl ?_
    refine m_getA hC hK fa_51 dX2_holds_42 ?_
    refine r_iload_n hC dX2_holds_45 rfl (j := 4) rfl ?_
    obtain ⟨v6, h6, hf⟩ := dh_bd hf
    refine m_iald hC hK kd_51 h6 dX2_holds_46 ?_
    refine r_bipush hC dX2_holds_47 kb_60 ?_
    refine r_icmp_ne hC dX2_holds_49 (tgt := 66) (by decide) (fun c7 => ?_) (fun c7 => ?_)
    · have hf := dh_el hf c7
      refine r_aload_n hC dX2_holds_66 rfl (j := 2) rfl ?_
      refine m_getA hC hK fa_51 dX2_holds_67 ?_
      refine r_iload_n hC dX2_holds_70 rfl (j := 4) rfl ?_
      obtain ⟨v8, h8, hf⟩ := dh_bd hf
      refine m_iald hC hK kd_51 h8 dX2_holds_71 ?_
      refine r_bipush hC dX2_holds_72 kb_62 ?_
      refine r_icmp_ne hC dX2_holds_74 (tgt := 91) (by decide) (fun c9 => ?_) (fun c9 => ?_)
      · have hf := dh_el hf c9
        refine r_iload_n hC dX2_holds_91 rfl (j := 1) rfl ?_
        refine r_iload hC dX2_holds_92 (j := 0) rfl ?_
        refine r_icmp_ne hC dX2_holds_94 (tgt := 101) (by decide) (fun c10 => ?_) (fun c10 => ?_)
        · have hf := dh_el hf c10
          refine r_iconst hC dX2_holds_101 ki_0 ?_
          exact r_sub [2, 3, 4] rfl (wM_holds_b102 hC hK hR M k4 hk4 x1 x2 0 hf)
        · have hf := dh_if hf c10
          refine r_iconst hC dX2_holds_97 ki_1 ?_
          refine r_goto hC dX2_holds_98 (tgt := 102) (by decide) ?_
          exact r_sub [2, 3, 4] rfl (wM_holds_b102 hC hK hR M k4 hk4 x1 x2 1 hf)
      · have hf := dh_if hf c9
        refine r_iload_n hC dX2_holds_77 rfl (j := 1) rfl ?_
        refine r_iload hC dX2_holds_78 (j := 0) rfl ?_
        refine r_icmp_le hC dX2_holds_80 (tgt := 87) (by decide) (fun c14 => ?_) (fun c14 => ?_)
        · have hf := dh_if hf c14
          refine r_iconst hC dX2_holds_87 ki_0 ?_
          refine r_goto hC dX2_holds_88 (tgt := 102) (by decide) ?_
          exact r_sub [2, 3, 4] rfl (wM_holds_b102 hC hK hR M k4 hk4 x1 x2 0 hf)
        · have hf := dh_el hf c14
          refine r_iconst hC dX2_holds_83 ki_1 ?_
          refine r_goto hC dX2_holds_84 (tgt := 102) (by decide) ?_
          exact r_sub [2, 3, 4] rfl (wM_holds_b102 hC hK hR M k4 hk4 x1 x2 1 hf)
    · have hf := dh_if hf c7
      refine r_iload_n hC dX2_holds_52 rfl (j := 1) rfl ?_
      refine r_iload hC dX2_holds_53 (j := 0) rfl ?_
      refine r_icmp_ge hC dX2_holds_55 (tgt := 62) (by decide) (fun c15 => ?_) (fun c15 => ?_)
      · have hf := dh_if hf c15
        refine r_iconst hC dX2_holds_62 ki_0 ?_
        refine r_goto hC dX2_holds_63 (tgt := 102) (by decide) ?_
        exact r_sub [2, 3, 4] rfl (wM_holds_b102 hC hK hR M k4 hk4 x1 x2 0 hf)
      · have hf := dh_el hf c15
        refine r_iconst hC dX2_holds_58 ki_1 ?_
        refine r_goto hC dX2_holds_59 (tgt := 102) (by decide) ?_
        exact r_sub [2, 3, 4] rfl (wM_holds_b102 hC hK hR M k4 hk4 x1 x2 1 hf)
def gM_holds_L4 (M : dm_M) : Nat → Int32 → Int32 → Option Int32
  | 0 => fun _ _ => none
  | n + 1 => gM_holds_L4_F (gM_holds_L4 M n) M
theorem wM_holds_L4 {C : dh_C} {A : Nat → Prop} {E : dm_E} (hC : dh_ok C cX2_holds 6 RX2 (some .boolean)) (hK : dm_Kn E (dh_s C)) (hR : dh_R C = { frames := 0, cells := 0, slots := 0, locals := 0 }) {r : Int32} (M : dm_M) : ∀ (n : Nat) (x1 : Int32) (x2 : Int32) (_ : gM_holds_L4 M n x1 x2 = some r), dh_W C A (dm_P E A M) (dm_Q E A (some (.int r)) M) 0 0 0 0 4 [(0, .ref (dm_am E)), (1, .int x1), (2, .int x2)] [] := by
  intro n
  induction n with
  | zero => intro x1 x2 hf; exact dh_no hf
  | succ n ih => intro x1 x2 hf; exact wM_holds_L4_F hC hK hR M (gM_holds_L4 M n) ih x1 x2 hf
def gM_holds (M : dm_M) (x1 : Int32) : Option Int32 :=
  gM_holds_L4 M dh_fu x1 (4 * x1)
theorem wM_holds {C : dh_C} {A : Nat → Prop} {E : dm_E} (hC : dh_ok C cX2_holds 6 RX2 (some .boolean)) (hK : dm_Kn E (dh_s C)) (hR : dh_R C = { frames := 0, cells := 0, slots := 0, locals := 0 }) {r : Int32} (M : dm_M) (x1 : Int32) (hf : gM_holds M x1 = some r) : dh_W C A (dm_P E A M) (dm_Q E A (some (.int r)) M) 0 0 0 0 0 [(0, .ref (dm_am E)), (1, .int x1)] [] := by
  unfold gM_holds at hf
  refine r_iconst hC dX2_holds_0 ki_4 ?_
  refine r_iload_n hC dX2_holds_1 rfl (j := 1) rfl ?_
  refine r_imul hC dX2_holds_2 ?_
  refine r_istore_n (lv' := [(2, .int (4 * x1)), (0, .ref (dm_am E)), (1, .int x1)]) hC dX2_holds_3 rfl (Nat.le_of_ble_eq_true rfl) rfl ?_
  exact r_sub [1, 2, 0] rfl (wM_holds_L4 hC hK hR M dh_fu x1 (4 * x1) hf)
theorem cM_holds (l : Launch) (E : dm_E) (A : Nat → Prop) (M : dm_M) (x1 : Int32) {r : Int32} (h : gM_holds M x1 = some r) : dm_Met l yX2_holds cX2_holds 6 (some .boolean) 0 0 E A [.ref (dm_am E), .int x1] M (some (.int r)) M := by
  refine dh_met (by decide) (Nat.le_of_ble_eq_true rfl) (fun _ _ h => ⟨_, h.1⟩) (fun C hl hR hC hnm hK => ?_)
  exact wM_holds hC hK hR M x1 h
theorem q_holds : dm_calV yX2_holds cX2_holds 6 (some .boolean) 1 := ⟨q1831, qs65, q1832, by decide +kernel⟩
/-! plain(I)I -/
def gM_plain (M : dm_M) (x0 : Int32) : Option Int32 :=
  if x0 = 4 then (
    some 50)
  else
  if x0 = 5 then (
    some 75)
  else
  if x0 = 0 then (
    some 1)
  else
  if x0 = 6 then (
    some 1)
  else
  if x0 = 8 then (
    some 1)
  else
  some 0
theorem wM_plain {C : dh_C} {A : Nat → Prop} {E : dm_E} (hC : dh_ok C cX2_plain 1 RX2 (some .int)) (hK : dm_Kn E (dh_s C)) (hR : dh_R C = { frames := 0, cells := 0, slots := 0, locals := 0 }) {r : Int32} (M : dm_M) (x0 : Int32) (hf : gM_plain M x0 = some r) : dh_W C A (dm_P E A M) (dm_Q E A (some (.int r)) M) 0 0 0 0 0 [(0, .int x0)] [] := by
  unfold gM_plain at hf
  refine r_iload_n hC dX2_plain_0 rfl (j := 0) rfl ?_
  refine r_iconst hC dX2_plain_1 ki_4 ?_
  refine r_icmp_ne hC dX2_plain_2 (tgt := 10) (by decide) (fun c1 => ?_) (fun c1 => ?_)
  · have hf := dh_el hf c1
    refine r_iload_n hC dX2_plain_10 rfl (j := 0) rfl ?_
    refine r_iconst hC dX2_plain_11 ki_5 ?_
    refine r_icmp_ne hC dX2_plain_12 (tgt := 20) (by decide) (fun c2 => ?_) (fun c2 => ?_)
    · have hf := dh_el hf c2
      refine r_iload_n hC dX2_plain_20 rfl (j := 0) rfl ?_
      refine r_if_eq hC dX2_plain_21 (tgt := 36) (by decide) (fun c3 => ?_) (fun c3 => ?_)
      · have hf := dh_if hf c3
        refine r_iconst hC dX2_plain_36 ki_1 ?_
        refine r_goto hC dX2_plain_37 (tgt := 41) (by decide) ?_
        exact m_iret1 hC dX2_plain_41 rfl hf
      · have hf := dh_el hf c3
        refine r_iload_n hC dX2_plain_24 rfl (j := 0) rfl ?_
        refine r_bipush hC dX2_plain_25 kb_6 ?_
        refine r_icmp_eq hC dX2_plain_27 (tgt := 36) (by decide) (fun c4 => ?_) (fun c4 => ?_)
        · have hf := dh_if hf c4
          refine r_iconst hC dX2_plain_36 ki_1 ?_
          refine r_goto hC dX2_plain_37 (tgt := 41) (by decide) ?_
          exact m_iret1 hC dX2_plain_41 rfl hf
        · have hf := dh_el hf c4
          refine r_iload_n hC dX2_plain_30 rfl (j := 0) rfl ?_
          refine r_bipush hC dX2_plain_31 kb_8 ?_
          refine r_icmp_ne hC dX2_plain_33 (tgt := 40) (by decide) (fun c5 => ?_) (fun c5 => ?_)
          · have hf := dh_el hf c5
            refine r_iconst hC dX2_plain_40 ki_0 ?_
            exact m_iret1 hC dX2_plain_41 rfl hf
          · have hf := dh_if hf c5
            refine r_iconst hC dX2_plain_36 ki_1 ?_
            refine r_goto hC dX2_plain_37 (tgt := 41) (by decide) ?_
            exact m_iret1 hC dX2_plain_41 rfl hf
    · have hf := dh_if hf c2
      refine r_bipush hC dX2_plain_15 kb_75 ?_
      refine r_goto hC dX2_plain_17 (tgt := 41) (by decide) ?_
      exact m_iret1 hC dX2_plain_41 rfl hf
  · have hf := dh_if hf c1
    refine r_bipush hC dX2_plain_5 kb_50 ?_
    refine r_goto hC dX2_plain_7 (tgt := 41) (by decide) ?_
    exact m_iret1 hC dX2_plain_41 rfl hf
theorem cM_plain (l : Launch) (E : dm_E) (A : Nat → Prop) (M : dm_M) (x0 : Int32) {r : Int32} (h : gM_plain M x0 = some r) : dm_Met l yX2_plain cX2_plain 1 (some .int) 0 0 E A [.int x0] M (some (.int r)) M := by
  refine dh_met (by decide) (Nat.le_of_ble_eq_true rfl) (fun _ _ h => ⟨_, h.1⟩) (fun C hl hR hC hnm hK => ?_)
  exact wM_plain hC hK hR M x0 h
theorem q_plain : dm_calS yX2_plain cX2_plain 1 (some .int) 1 := ⟨q1834, q1835, by decide +kernel⟩
/-! tellsBy(II)I -/
def gM_tellsBy_L10_F (k10 : (Int32 → Int32 → Int32 → Option Int32)) (M : dm_M) (x1 : Int32) (x2 : Int32) (x3 : Int32) : Option Int32 :=
  (dm_rd M 46 x2).bind fun v3 =>
  if ((20 * x2) + v3) ≤ x3 then (
    (gM_plain M x1).bind fun p5 =>
    some p5)
  else
  (dm_rd M 47 x3).bind fun v6 =>
  if v6 = x1 then (
    (gM_holds M x3).bind fun p8 =>
    if p8 = 0 then (
      k10 x1 x2 (x3 + 1))
    else
    (dm_rd M 49 x3).bind fun v10 =>
    some v10)
  else
  k10 x1 x2 (x3 + 1)
theorem wM_tellsBy_L10_F {C : dh_C} {A : Nat → Prop} {E : dm_E} (hC : dh_ok C cX2_tellsBy 4 RX2 (some .int)) (hK : dm_Kn E (dh_s C)) (hR : dh_R C = { frames := 1, cells := 0, slots := 0, locals := 25 }) {r : Int32} (M : dm_M) (k10 : (Int32 → Int32 → Int32 → Option Int32)) (hk10 : ∀ (x1 : Int32) (x2 : Int32) (x3 : Int32), k10 x1 x2 x3 = some r → dh_W C A (dm_P E A M) (dm_Q E A (some (.int r)) M) 0 0 0 0 10 [(0, .ref (dm_am E)), (1, .int x1), (2, .int x2), (3, .int x3)] []) (x1 : Int32) (x2 : Int32) (x3 : Int32) (hf : gM_tellsBy_L10_F k10 M x1 x2 x3 = some r) : dh_W C A (dm_P E A M) (dm_Q E A (some (.int r)) M) 0 0 0 0 10 [(0, .ref (dm_am E)), (1, .int x1), (2, .int x2), (3, .int x3)] [] := by
  unfold gM_tellsBy_L10_F at hf
  refine r_iload_n hC dX2_tellsBy_10 rfl (j := 3) rfl ?_
  refine r_bipush hC dX2_tellsBy_11 kb_20 ?_
  refine r_iload_n hC dX2_tellsBy_13 rfl (j := 2) rfl ?_
  refine r_imul hC dX2_tellsBy_14 ?_
  refine r_aload_n hC dX2_tellsBy_15 rfl (j := 0) rfl ?_
  refine m_getA hC hK fa_46 dX2_tellsBy_16 ?_
  refine r_iload_n hC dX2_tellsBy_19 rfl (j := 2) rfl ?_
  obtain ⟨v3, h3, hf⟩ := dh_bd hf
  refine m_iald hC hK kd_46 h3 dX2_tellsBy_20 ?_
  refine r_iadd hC dX2_tellsBy_21 ?_
  refine r_icmp_ge hC dX2_tellsBy_22 (tgt := 56) (by decide) (fun c4 => ?_) (fun c4 => ?_)
  · have hf := dh_if hf c4
    refine r_iload_n hC dX2_tellsBy_56 rfl (j := 1) rfl ?_
    obtain ⟨p5, h5, hf⟩ := dh_bd hf
    refine m_callS' hC hK hR (cM_plain _ E A M x1 h5) q1833 q_plain (Nat.le_of_ble_eq_true rfl) (Nat.le_of_ble_eq_true rfl) rfl (Nat.le_of_ble_eq_true rfl) dX2_tellsBy_57 ?_
    exact m_iret1 hC dX2_tellsBy_60 rfl hf
  · have hf := dh_el hf c4
    refine r_aload_n hC dX2_tellsBy_25 rfl (j := 0) rfl ?_
    refine m_getA hC hK fa_47 dX2_tellsBy_26 ?_
    refine r_iload_n hC dX2_tellsBy_29 rfl (j := 3) rfl ?_
    obtain ⟨v6, h6, hf⟩ := dh_bd hf
    refine m_iald hC hK kd_47 h6 dX2_tellsBy_30 ?_
    refine r_iload_n hC dX2_tellsBy_31 rfl (j := 1) rfl ?_
    refine r_icmp_ne hC dX2_tellsBy_32 (tgt := 50) (by decide) (fun c7 => ?_) (fun c7 => ?_)
    · have hf := dh_el hf c7
      refine r_iinc (lv' := [(3, .int (x3 + 1)), (0, .ref (dm_am E)), (1, .int x1), (2, .int x2)]) hC dX2_tellsBy_50 (j := 3) rfl (congrArg _ ki_1) (Nat.le_of_ble_eq_true rfl) rfl ?_
      refine r_goto hC dX2_tellsBy_53 (tgt := 10) (by decide) ?_
      exact r_sub [1, 2, 3, 0] rfl (hk10 x1 x2 (x3 + 1) hf)
    · have hf := dh_if hf c7
      refine r_aload_n hC dX2_tellsBy_35 rfl (j := 0) rfl ?_
      refine r_iload_n hC dX2_tellsBy_36 rfl (j := 3) rfl ?_
      obtain ⟨p8, h8, hf⟩ := dh_bd hf
      refine m_callV' hC hK hR (cM_holds _ E A M x3 h8) q1829 q_holds (Nat.le_of_ble_eq_true rfl) (Nat.le_of_ble_eq_true rfl) rfl (Nat.le_of_ble_eq_true rfl) dX2_tellsBy_37 ?_
      refine r_if_eq hC dX2_tellsBy_40 (tgt := 50) (by decide) (fun c9 => ?_) (fun c9 => ?_)
      · have hf := dh_if hf c9
        refine r_iinc (lv' := [(3, .int (x3 + 1)), (0, .ref (dm_am E)), (1, .int x1), (2, .int x2)]) hC dX2_tellsBy_50 (j := 3) rfl (congrArg _ ki_1) (Nat.le_of_ble_eq_true rfl) rfl ?_
        refine r_goto hC dX2_tellsBy_53 (tgt := 10) (by decide) ?_
        exact r_sub [1, 2, 3, 0] rfl (hk10 x1 x2 (x3 + 1) hf)
      · have hf := dh_el hf c9
        refine r_aload_n hC dX2_tellsBy_43 rfl (j := 0) rfl ?_
        refine m_getA hC hK fa_49 dX2_tellsBy_44 ?_
        refine r_iload_n hC dX2_tellsBy_47 rfl (j := 3) rfl ?_
        obtain ⟨v10, h10, hf⟩ := dh_bd hf
        refine m_iald hC hK kd_49 h10 dX2_tellsBy_48 ?_
        exact m_iret1 hC dX2_tellsBy_49 rfl hf
def gM_tellsBy_L10 (M : dm_M) : Nat → Int32 → Int32 → Int32 → Option Int32
  | 0 => fun _ _ _ => none
  | n + 1 => gM_tellsBy_L10_F (gM_tellsBy_L10 M n) M
theorem wM_tellsBy_L10 {C : dh_C} {A : Nat → Prop} {E : dm_E} (hC : dh_ok C cX2_tellsBy 4 RX2 (some .int)) (hK : dm_Kn E (dh_s C)) (hR : dh_R C = { frames := 1, cells := 0, slots := 0, locals := 25 }) {r : Int32} (M : dm_M) : ∀ (n : Nat) (x1 : Int32) (x2 : Int32) (x3 : Int32) (_ : gM_tellsBy_L10 M n x1 x2 x3 = some r), dh_W C A (dm_P E A M) (dm_Q E A (some (.int r)) M) 0 0 0 0 10 [(0, .ref (dm_am E)), (1, .int x1), (2, .int x2), (3, .int x3)] [] := by
  intro n
  induction n with
  | zero => intro x1 x2 x3 hf; exact dh_no hf
  | succ n ih => intro x1 x2 x3 hf; exact wM_tellsBy_L10_F hC hK hR M (gM_tellsBy_L10 M n) ih x1 x2 x3 hf
def gM_tellsBy (M : dm_M) (x1 : Int32) (x2 : Int32) : Option Int32 :=
  if ¬ (x2 = (-1)) then (
    gM_tellsBy_L10 M dh_fu x1 x2 (20 * x2))
  else
  (gM_plain M x1).bind fun p2 =>
  some p2
theorem wM_tellsBy {C : dh_C} {A : Nat → Prop} {E : dm_E} (hC : dh_ok C cX2_tellsBy 4 RX2 (some .int)) (hK : dm_Kn E (dh_s C)) (hR : dh_R C = { frames := 1, cells := 0, slots := 0, locals := 25 }) {r : Int32} (M : dm_M) (x1 : Int32) (x2 : Int32) (hf : gM_tellsBy M x1 x2 = some r) : dh_W C A (dm_P E A M) (dm_Q E A (some (.int r)) M) 0 0 0 0 0 [(0, .ref (dm_am E)), (1, .int x1), (2, .int x2)] [] := by
  unfold gM_tellsBy at hf
  refine r_iload_n hC dX2_tellsBy_0 rfl (j := 2) rfl ?_
  refine r_iconst hC dX2_tellsBy_1 ki_m1 ?_
  refine r_icmp_eq hC dX2_tellsBy_2 (tgt := 56) (by decide) (fun c1 => ?_) (fun c1 => ?_)
  · have hf := dh_el hf (fun q => q c1)
    refine r_iload_n hC dX2_tellsBy_56 rfl (j := 1) rfl ?_
    obtain ⟨p2, h2, hf⟩ := dh_bd hf
    refine m_callS' hC hK hR (cM_plain _ E A M x1 h2) q1833 q_plain (Nat.le_of_ble_eq_true rfl) (Nat.le_of_ble_eq_true rfl) rfl (Nat.le_of_ble_eq_true rfl) dX2_tellsBy_57 ?_
    exact m_iret1 hC dX2_tellsBy_60 rfl hf
  · have hf := dh_if hf c1
    refine r_bipush hC dX2_tellsBy_5 kb_20 ?_
    refine r_iload_n hC dX2_tellsBy_7 rfl (j := 2) rfl ?_
    refine r_imul hC dX2_tellsBy_8 ?_
    refine r_istore_n (lv' := [(3, .int (20 * x2)), (0, .ref (dm_am E)), (1, .int x1), (2, .int x2)]) hC dX2_tellsBy_9 rfl (Nat.le_of_ble_eq_true rfl) rfl ?_
    exact r_sub [1, 2, 3, 0] rfl (wM_tellsBy_L10 hC hK hR M dh_fu x1 x2 (20 * x2) hf)
theorem cM_tellsBy (l : Launch) (E : dm_E) (A : Nat → Prop) (M : dm_M) (x1 : Int32) (x2 : Int32) {r : Int32} (h : gM_tellsBy M x1 x2 = some r) : dm_Met l yX2_tellsBy cX2_tellsBy 4 (some .int) 1 25 E A [.ref (dm_am E), .int x1, .int x2] M (some (.int r)) M := by
  refine dh_met (by decide) (Nat.le_of_ble_eq_true rfl) (fun _ _ h => ⟨_, h.1⟩) (fun C hl hR hC hnm hK => ?_)
  exact wM_tellsBy hC hK hR M x1 x2 h
theorem q_tellsBy : dm_calV yX2_tellsBy cX2_tellsBy 4 (some .int) 2 := ⟨q1827, qs64, q1828, by decide +kernel⟩
/-! tellsNow(II)I -/
def gM_tellsNow (M : dm_M) (x1 : Int32) (x2 : Int32) : Option (Int32 × dm_M) :=
  (gM_lookAt M x1).bind fun p1 =>
  (dm_rd p1 5 0).bind fun v2 =>
  (dm_rd p1 5 0).bind fun v3 =>
  (gM_goodOn p1 v2 v3).bind fun p4 =>
  (gM_tellsBy p1 x2 p4).bind fun p5 =>
  some (p5, p1)
theorem wM_tellsNow {C : dh_C} {A : Nat → Prop} {E : dm_E} (hC : dh_ok C cX2_tellsNow 3 RX2 (some .int)) (hK : dm_Kn E (dh_s C)) (hR : dh_R C = { frames := 3, cells := 0, slots := 0, locals := 64 }) {r : Int32} {M' : dm_M} (M : dm_M) (x1 : Int32) (x2 : Int32) (hf : gM_tellsNow M x1 x2 = some (r, M')) : dh_W C A (dm_P E A M) (dm_Q E A (some (.int r)) M') 0 0 0 0 0 [(0, .ref (dm_am E)), (1, .int x1), (2, .int x2)] [] := by
  unfold gM_tellsNow at hf
  refine r_aload_n hC dX2_tellsNow_0 rfl (j := 0) rfl ?_
  refine r_iload_n hC dX2_tellsNow_1 rfl (j := 1) rfl ?_
  obtain ⟨p1, h1, hf⟩ := dh_bd hf
  refine m_callV' hC hK hR (cM_lookAt _ E A M x1 h1) q1821 q_lookAt (Nat.le_of_ble_eq_true rfl) (Nat.le_of_ble_eq_true rfl) rfl (Nat.le_of_ble_eq_true rfl) dX2_tellsNow_2 ?_
  refine r_aload_n hC dX2_tellsNow_5 rfl (j := 0) rfl ?_
  refine r_iload_n hC dX2_tellsNow_6 rfl (j := 2) rfl ?_
  refine r_aload_n hC dX2_tellsNow_7 rfl (j := 0) rfl ?_
  refine r_aload_n hC dX2_tellsNow_8 rfl (j := 0) rfl ?_
  refine m_getA hC hK fa_5 dX2_tellsNow_9 ?_
  refine r_iconst hC dX2_tellsNow_12 ki_0 ?_
  obtain ⟨v2, h2, hf⟩ := dh_bd hf
  refine m_iald hC hK kd_5 h2 dX2_tellsNow_13 ?_
  refine r_aload_n hC dX2_tellsNow_14 rfl (j := 0) rfl ?_
  refine m_getA hC hK fa_5 dX2_tellsNow_15 ?_
  refine r_iconst hC dX2_tellsNow_18 ki_0 ?_
  obtain ⟨v3, h3, hf⟩ := dh_bd hf
  refine m_iald hC hK kd_5 h3 dX2_tellsNow_19 ?_
  obtain ⟨p4, h4, hf⟩ := dh_bd hf
  refine m_callV' hC hK hR (cM_goodOn _ E A p1 v2 v3 h4) q1813 q_goodOn (Nat.le_of_ble_eq_true rfl) (Nat.le_of_ble_eq_true rfl) rfl (Nat.le_of_ble_eq_true rfl) dX2_tellsNow_20 ?_
  obtain ⟨p5, h5, hf⟩ := dh_bd hf
  refine m_callV' hC hK hR (cM_tellsBy _ E A p1 x2 p4 h5) q1825 q_tellsBy (Nat.le_of_ble_eq_true rfl) (Nat.le_of_ble_eq_true rfl) rfl (Nat.le_of_ble_eq_true rfl) dX2_tellsNow_23 ?_
  exact m_iret hC dX2_tellsNow_26 rfl hf
theorem cM_tellsNow (l : Launch) (E : dm_E) (A : Nat → Prop) (M : dm_M) (x1 : Int32) (x2 : Int32) {p : Int32 × dm_M} (h : gM_tellsNow M x1 x2 = some p) : dm_Met l yX2_tellsNow cX2_tellsNow 3 (some .int) 3 64 E A [.ref (dm_am E), .int x1, .int x2] M (some (.int p.1)) p.2 := by
  refine dh_met (by decide) (Nat.le_of_ble_eq_true rfl) (fun _ _ h => ⟨_, h.1⟩) (fun C hl hR hC hnm hK => ?_)
  exact wM_tellsNow hC hK hR M x1 x2 h
theorem q_tellsNow : dm_calV yX2_tellsNow cX2_tellsNow 3 (some .int) 2 := ⟨q1850, qs67, q1851, by decide +kernel⟩
/-! asItIs(I)V -/
def gM_asItIs_L18_F (k18 : (dm_M → Int32 → Int32 → Int32 → Option dm_M)) (M : dm_M) (x1 : Int32) (x2 : Int32) (x3 : Int32) : Option dm_M :=
  (dm_rd M 25 0).bind fun v3 =>
  if v3 ≤ x3 then (
    some M)
  else
  (dm_rd M 27 x3).bind fun v5 =>
  (dm_wr M 71 x3 v5).bind fun M6 =>
  (dm_rd M6 33 x3).bind fun v7 =>
  if v7 = 0 then (
    (dm_rd M6 26 x3).bind fun v10 =>
    if v10 = x1 then (
      if x2 = 0 then (
        (dm_rd M6 38 x3).bind fun v15 =>
        if v15 = 0 then (
          (dm_wr M6 72 x3 (vp_nar .boolean 1)).bind fun M18 =>
          k18 M18 x1 x2 (x3 + 1))
        else
        (dm_wr M6 72 x3 (vp_nar .boolean 0)).bind fun M17 =>
        k18 M17 x1 x2 (x3 + 1))
      else
      (dm_wr M6 72 x3 (vp_nar .boolean 1)).bind fun M14 =>
      k18 M14 x1 x2 (x3 + 1))
    else
    (dm_wr M6 72 x3 (vp_nar .boolean 0)).bind fun M12 =>
    k18 M12 x1 x2 (x3 + 1))
  else
  (dm_wr M6 72 x3 (vp_nar .boolean 0)).bind fun M9 =>
  k18 M9 x1 x2 (x3 + 1)
theorem wM_asItIs_L18_F {C : dh_C} {A : Nat → Prop} {E : dm_E} (hC : dh_ok C cX2_asItIs 4 RX2 none) (hK : dm_Kn E (dh_s C)) (hR : dh_R C = { frames := 4, cells := 0, slots := 0, locals := 86 }) {M' : dm_M} (k18 : (dm_M → Int32 → Int32 → Int32 → Option dm_M)) (hk18 : ∀ (M : dm_M) (x1 : Int32) (x2 : Int32) (x3 : Int32), k18 M x1 x2 x3 = some M' → dh_W C A (dm_P E A M) (dm_Q E A none M') 0 0 0 0 18 [(0, .ref (dm_am E)), (1, .int x1), (2, .int x2), (3, .int x3)] []) (M : dm_M) (x1 : Int32) (x2 : Int32) (x3 : Int32) (hf : gM_asItIs_L18_F k18 M x1 x2 x3 = some M') : dh_W C A (dm_P E A M) (dm_Q E A none M') 0 0 0 0 18 [(0, .ref (dm_am E)), (1, .int x1), (2, .int x2), (3, .int x3)] [] := by
  unfold gM_asItIs_L18_F at hf
  refine r_iload_n hC dX2_asItIs_18 rfl (j := 3) rfl ?_
  refine r_aload_n hC dX2_asItIs_19 rfl (j := 0) rfl ?_
  refine m_getA hC hK fa_25 dX2_asItIs_20 ?_
  refine r_iconst hC dX2_asItIs_23 ki_0 ?_
  obtain ⟨v3, h3, hf⟩ := dh_bd hf
  refine m_iald hC hK kd_25 h3 dX2_asItIs_24 ?_
  refine r_icmp_ge hC dX2_asItIs_25 (tgt := 89) (by decide) (fun c4 => ?_) (fun c4 => ?_)
  · have hf := dh_if hf c4
    exact m_vret hC dX2_asItIs_89 rfl hf
  · have hf := dh_el hf c4
    refine r_aload_n hC dX2_asItIs_28 rfl (j := 0) rfl ?_
    refine m_getA hC hK fa_71 dX2_asItIs_29 ?_
    refine r_iload_n hC dX2_asItIs_32 rfl (j := 3) rfl ?_
    refine r_aload_n hC dX2_asItIs_33 rfl (j := 0) rfl ?_
    refine m_getA hC hK fa_27 dX2_asItIs_34 ?_
    refine r_iload_n hC dX2_asItIs_37 rfl (j := 3) rfl ?_
    obtain ⟨v5, h5, hf⟩ := dh_bd hf
    refine m_iald hC hK kd_27 h5 dX2_asItIs_38 ?_
    obtain ⟨M6, h6, hf⟩ := dh_bd hf
    refine m_iast hC hK kd_71 h6 dX2_asItIs_39 ?_
    refine r_aload_n hC dX2_asItIs_40 rfl (j := 0) rfl ?_
    refine m_getA hC hK fa_72 dX2_asItIs_41 ?_
    refine r_iload_n hC dX2_asItIs_44 rfl (j := 3) rfl ?_
    refine r_aload_n hC dX2_asItIs_45 rfl (j := 0) rfl ?_
    refine m_getA hC hK fa_33 dX2_asItIs_46 ?_
    refine r_iload_n hC dX2_asItIs_49 rfl (j := 3) rfl ?_
    obtain ⟨v7, h7, hf⟩ := dh_bd hf
    refine m_iald hC hK kd_33 h7 dX2_asItIs_50 ?_
    refine r_if_ne hC dX2_asItIs_51 (tgt := 81) (by decide) (fun c8 => ?_) (fun c8 => ?_)
    · have hf := dh_el hf c8
      refine r_iconst hC dX2_asItIs_81 ki_0 ?_
      obtain ⟨M9, h9, hf⟩ := dh_bd hf
      refine m_zast hC hK kd_72 h9 dX2_asItIs_82 ?_
      refine r_iinc (lv' := [(3, .int (x3 + 1)), (0, .ref (dm_am E)), (1, .int x1), (2, .int x2)]) hC dX2_asItIs_83 (j := 3) rfl (congrArg _ ki_1) (Nat.le_of_ble_eq_true rfl) rfl ?_
      refine r_goto hC dX2_asItIs_86 (tgt := 18) (by decide) ?_
      exact r_sub [1, 2, 3, 0] rfl (hk18 M9 x1 x2 (x3 + 1) hf)
    · have hf := dh_if hf c8
      refine r_aload_n hC dX2_asItIs_54 rfl (j := 0) rfl ?_
      refine m_getA hC hK fa_26 dX2_asItIs_55 ?_
      refine r_iload_n hC dX2_asItIs_58 rfl (j := 3) rfl ?_
      obtain ⟨v10, h10, hf⟩ := dh_bd hf
      refine m_iald hC hK kd_26 h10 dX2_asItIs_59 ?_
      refine r_iload_n hC dX2_asItIs_60 rfl (j := 1) rfl ?_
      refine r_icmp_ne hC dX2_asItIs_61 (tgt := 81) (by decide) (fun c11 => ?_) (fun c11 => ?_)
      · have hf := dh_el hf c11
        refine r_iconst hC dX2_asItIs_81 ki_0 ?_
        obtain ⟨M12, h12, hf⟩ := dh_bd hf
        refine m_zast hC hK kd_72 h12 dX2_asItIs_82 ?_
        refine r_iinc (lv' := [(3, .int (x3 + 1)), (0, .ref (dm_am E)), (1, .int x1), (2, .int x2)]) hC dX2_asItIs_83 (j := 3) rfl (congrArg _ ki_1) (Nat.le_of_ble_eq_true rfl) rfl ?_
        refine r_goto hC dX2_asItIs_86 (tgt := 18) (by decide) ?_
        exact r_sub [1, 2, 3, 0] rfl (hk18 M12 x1 x2 (x3 + 1) hf)
      · have hf := dh_if hf c11
        refine r_iload_n hC dX2_asItIs_64 rfl (j := 2) rfl ?_
        refine r_if_ne hC dX2_asItIs_65 (tgt := 77) (by decide) (fun c13 => ?_) (fun c13 => ?_)
        · have hf := dh_el hf c13
          refine r_iconst hC dX2_asItIs_77 ki_1 ?_
          refine r_goto hC dX2_asItIs_78 (tgt := 82) (by decide) ?_
          obtain ⟨M14, h14, hf⟩ := dh_bd hf
          refine m_zast hC hK kd_72 h14 dX2_asItIs_82 ?_
          refine r_iinc (lv' := [(3, .int (x3 + 1)), (0, .ref (dm_am E)), (1, .int x1), (2, .int x2)]) hC dX2_asItIs_83 (j := 3) rfl (congrArg _ ki_1) (Nat.le_of_ble_eq_true rfl) rfl ?_
          refine r_goto hC dX2_asItIs_86 (tgt := 18) (by decide) ?_
          exact r_sub [1, 2, 3, 0] rfl (hk18 M14 x1 x2 (x3 + 1) hf)
        · have hf := dh_if hf c13
          refine r_aload_n hC dX2_asItIs_68 rfl (j := 0) rfl ?_
          refine m_getA hC hK fa_38 dX2_asItIs_69 ?_
          refine r_iload_n hC dX2_asItIs_72 rfl (j := 3) rfl ?_
          obtain ⟨v15, h15, hf⟩ := dh_bd hf
          refine m_zald hC hK kd_38 h15 dX2_asItIs_73 ?_
          refine r_if_ne hC dX2_asItIs_74 (tgt := 81) (by decide) (fun c16 => ?_) (fun c16 => ?_)
          · have hf := dh_el hf c16
            refine r_iconst hC dX2_asItIs_81 ki_0 ?_
            obtain ⟨M17, h17, hf⟩ := dh_bd hf
            refine m_zast hC hK kd_72 h17 dX2_asItIs_82 ?_
            refine r_iinc (lv' := [(3, .int (x3 + 1)), (0, .ref (dm_am E)), (1, .int x1), (2, .int x2)]) hC dX2_asItIs_83 (j := 3) rfl (congrArg _ ki_1) (Nat.le_of_ble_eq_true rfl) rfl ?_
            refine r_goto hC dX2_asItIs_86 (tgt := 18) (by decide) ?_
            exact r_sub [1, 2, 3, 0] rfl (hk18 M17 x1 x2 (x3 + 1) hf)
          · have hf := dh_if hf c16
            refine r_iconst hC dX2_asItIs_77 ki_1 ?_
            refine r_goto hC dX2_asItIs_78 (tgt := 82) (by decide) ?_
            obtain ⟨M18, h18, hf⟩ := dh_bd hf
            refine m_zast hC hK kd_72 h18 dX2_asItIs_82 ?_
            refine r_iinc (lv' := [(3, .int (x3 + 1)), (0, .ref (dm_am E)), (1, .int x1), (2, .int x2)]) hC dX2_asItIs_83 (j := 3) rfl (congrArg _ ki_1) (Nat.le_of_ble_eq_true rfl) rfl ?_
            refine r_goto hC dX2_asItIs_86 (tgt := 18) (by decide) ?_
            exact r_sub [1, 2, 3, 0] rfl (hk18 M18 x1 x2 (x3 + 1) hf)
def gM_asItIs_L18 : Nat → dm_M → Int32 → Int32 → Int32 → Option dm_M
  | 0 => fun _ _ _ _ => none
  | n + 1 => gM_asItIs_L18_F (gM_asItIs_L18 n)
theorem wM_asItIs_L18 {C : dh_C} {A : Nat → Prop} {E : dm_E} (hC : dh_ok C cX2_asItIs 4 RX2 none) (hK : dm_Kn E (dh_s C)) (hR : dh_R C = { frames := 4, cells := 0, slots := 0, locals := 86 }) {M' : dm_M} : ∀ (n : Nat) (M : dm_M) (x1 : Int32) (x2 : Int32) (x3 : Int32) (_ : gM_asItIs_L18 n M x1 x2 x3 = some M'), dh_W C A (dm_P E A M) (dm_Q E A none M') 0 0 0 0 18 [(0, .ref (dm_am E)), (1, .int x1), (2, .int x2), (3, .int x3)] [] := by
  intro n
  induction n with
  | zero => intro M x1 x2 x3 hf; exact dh_no hf
  | succ n ih => intro M x1 x2 x3 hf; exact wM_asItIs_L18_F hC hK hR (gM_asItIs_L18 n) ih M x1 x2 x3 hf
def gM_asItIs (M : dm_M) (x1 : Int32) : Option dm_M :=
  (gM_tellsNow M x1 6).bind fun p1 =>
  if p1.1 = 0 then (
    gM_asItIs_L18 dh_fu p1.2 x1 0 0)
  else
  gM_asItIs_L18 dh_fu p1.2 x1 1 0
theorem wM_asItIs {C : dh_C} {A : Nat → Prop} {E : dm_E} (hC : dh_ok C cX2_asItIs 4 RX2 none) (hK : dm_Kn E (dh_s C)) (hR : dh_R C = { frames := 4, cells := 0, slots := 0, locals := 86 }) {M' : dm_M} (M : dm_M) (x1 : Int32) (hf : gM_asItIs M x1 = some M') : dh_W C A (dm_P E A M) (dm_Q E A none M') 0 0 0 0 0 [(0, .ref (dm_am E)), (1, .int x1)] [] := by
  unfold gM_asItIs at hf
  refine r_aload_n hC dX2_asItIs_0 rfl (j := 0) rfl ?_
  refine r_iload_n hC dX2_asItIs_1 rfl (j := 1) rfl ?_
  refine r_bipush hC dX2_asItIs_2 kb_6 ?_
  obtain ⟨p1, h1, hf⟩ := dh_bd hf
  refine m_callV' hC hK hR (cM_tellsNow _ E A M x1 6 h1) q1848 q_tellsNow (Nat.le_of_ble_eq_true rfl) (Nat.le_of_ble_eq_true rfl) rfl (Nat.le_of_ble_eq_true rfl) dX2_asItIs_4 ?_
  refine r_if_eq hC dX2_asItIs_7 (tgt := 14) (by decide) (fun c2 => ?_) (fun c2 => ?_)
  · have hf := dh_if hf c2
    refine r_iconst hC dX2_asItIs_14 ki_0 ?_
    refine r_istore_n (lv' := [(2, .int 0), (0, .ref (dm_am E)), (1, .int x1)]) hC dX2_asItIs_15 rfl (Nat.le_of_ble_eq_true rfl) rfl ?_
    refine r_iconst hC dX2_asItIs_16 ki_0 ?_
    refine r_istore_n (lv' := [(3, .int 0), (2, .int 0), (0, .ref (dm_am E)), (1, .int x1)]) hC dX2_asItIs_17 rfl (Nat.le_of_ble_eq_true rfl) rfl ?_
    exact r_sub [2, 3, 1, 0] rfl (wM_asItIs_L18 hC hK hR dh_fu p1.2 x1 0 0 hf)
  · have hf := dh_el hf c2
    refine r_iconst hC dX2_asItIs_10 ki_1 ?_
    refine r_goto hC dX2_asItIs_11 (tgt := 15) (by decide) ?_
    refine r_istore_n (lv' := [(2, .int 1), (0, .ref (dm_am E)), (1, .int x1)]) hC dX2_asItIs_15 rfl (Nat.le_of_ble_eq_true rfl) rfl ?_
    refine r_iconst hC dX2_asItIs_16 ki_0 ?_
    refine r_istore_n (lv' := [(3, .int 0), (2, .int 1), (0, .ref (dm_am E)), (1, .int x1)]) hC dX2_asItIs_17 rfl (Nat.le_of_ble_eq_true rfl) rfl ?_
    exact r_sub [2, 3, 1, 0] rfl (wM_asItIs_L18 hC hK hR dh_fu p1.2 x1 1 0 hf)
theorem cM_asItIs (l : Launch) (E : dm_E) (A : Nat → Prop) (M : dm_M) (x1 : Int32) {M' : dm_M} (h : gM_asItIs M x1 = some M') : dm_Met l yX2_asItIs cX2_asItIs 4 none 4 86 E A [.ref (dm_am E), .int x1] M none M' := by
  refine dh_met (by decide) (Nat.le_of_ble_eq_true rfl) (fun _ _ h => ⟨_, h.1⟩) (fun C hl hR hC hnm hK => ?_)
  exact wM_asItIs hC hK hR M x1 h
theorem q_asItIs : dm_calV yX2_asItIs cX2_asItIs 4 none 1 := ⟨q1918, qs73, q1919, by decide +kernel⟩
