set_option maxRecDepth 100000
/-! bindsSo(III)Z -/
def gM_bindsSo_b161 (k31 : (dm_M → Int32 → Int32 → Int32 → Int32 → Int32 → Int32 → Int32 → Int64 → Int64 → Int32 → Option (Int32 × dm_M))) (M : dm_M) (x1 : Int32) (x2 : Int32) (x3 : Int32) (x4 : Int32) (x5 : Int32) (x6 : Int32) (x8 : Int64) (x10 : Int64) (x12 : Int32) (x13 : Int64) (x16 : Int32) (y0 : Int32) (y1 : Int32) : Option (Int32 × dm_M) :=
  if x16 = 0 then (
    k31 M x1 x2 x3 x4 x5 x6 (y1 + y0) x8 (x10 + 0) (x12 + 1))
  else
  k31 M x1 x2 x3 x4 x5 x6 (y1 + y0) x8 (x10 + x13) (x12 + 1)
theorem wM_bindsSo_b161 {C : dh_C} {A : Nat → Prop} {E : dm_E} (hC : dh_ok C cX2_bindsSo 17 RX2 (some .boolean)) (hK : dm_Kn E (dh_s C)) (hR : dh_R C = { frames := 4, cells := 0, slots := 0, locals := 86 }) {r : Int32} {M' : dm_M} (k31 : (dm_M → Int32 → Int32 → Int32 → Int32 → Int32 → Int32 → Int32 → Int64 → Int64 → Int32 → Option (Int32 × dm_M))) (hk31 : ∀ (M : dm_M) (x1 : Int32) (x2 : Int32) (x3 : Int32) (x4 : Int32) (x5 : Int32) (x6 : Int32) (x7 : Int32) (x8 : Int64) (x10 : Int64) (x12 : Int32), k31 M x1 x2 x3 x4 x5 x6 x7 x8 x10 x12 = some (r, M') → dh_W C A (dm_P E A M) (dm_Q E A (some (.int r)) M') 0 0 0 0 31 [(0, .ref (dm_am E)), (1, .int x1), (2, .int x2), (3, .int x3), (4, .int x4), (5, .int x5), (6, .int x6), (7, .int x7), (8, .long x8), (10, .long x10), (12, .int x12)] []) (M : dm_M) (x1 : Int32) (x2 : Int32) (x3 : Int32) (x4 : Int32) (x5 : Int32) (x6 : Int32) (x8 : Int64) (x10 : Int64) (x12 : Int32) (x13 : Int64) (x16 : Int32) (y0 : Int32) (y1 : Int32) (hf : gM_bindsSo_b161 k31 M x1 x2 x3 x4 x5 x6 x8 x10 x12 x13 x16 y0 y1 = some (r, M')) : dh_W C A (dm_P E A M) (dm_Q E A (some (.int r)) M') 0 0 0 0 161 [(0, .ref (dm_am E)), (1, .int x1), (2, .int x2), (3, .int x3), (4, .int x4), (5, .int x5), (6, .int x6), (8, .long x8), (10, .long x10), (12, .int x12), (13, .long x13), (16, .int x16)] [.int y0, .int y1] := by
  unfold gM_bindsSo_b161 at hf
  refine r_iadd hC dX2_bindsSo_161 ?_
  refine r_istore (lv' := [(7, .int (y1 + y0)), (0, .ref (dm_am E)), (1, .int x1), (2, .int x2), (3, .int x3), (4, .int x4), (5, .int x5), (6, .int x6), (8, .long x8), (10, .long x10), (12, .int x12), (13, .long x13), (16, .int x16)]) hC dX2_bindsSo_162 (Nat.le_of_ble_eq_true rfl) rfl ?_
  refine r_lload hC dX2_bindsSo_164 (j := 9) rfl ?_
  refine r_iload hC dX2_bindsSo_166 (j := 12) rfl ?_
  refine r_if_eq hC dX2_bindsSo_168 (tgt := 176) (by decide) (fun c13 => ?_) (fun c13 => ?_)
  · have hf := dh_if hf c13
    refine r_lconst hC dX2_bindsSo_176 kl_0 ?_
    refine r_ladd hC dX2_bindsSo_177 ?_
    refine r_lstore (lv' := [(10, .long (x10 + 0)), (7, .int (y1 + y0)), (0, .ref (dm_am E)), (1, .int x1), (2, .int x2), (3, .int x3), (4, .int x4), (5, .int x5), (6, .int x6), (8, .long x8), (12, .int x12), (13, .long x13), (16, .int x16)]) hC dX2_bindsSo_178 (Nat.le_of_ble_eq_true rfl) rfl ?_
    refine r_iinc (lv' := [(12, .int (x12 + 1)), (10, .long (x10 + 0)), (7, .int (y1 + y0)), (0, .ref (dm_am E)), (1, .int x1), (2, .int x2), (3, .int x3), (4, .int x4), (5, .int x5), (6, .int x6), (8, .long x8), (13, .long x13), (16, .int x16)]) hC dX2_bindsSo_180 (j := 10) rfl (congrArg _ ki_1) (Nat.le_of_ble_eq_true rfl) rfl ?_
    refine r_goto hC dX2_bindsSo_183 (tgt := 31) (by decide) ?_
    exact r_sub [3, 4, 5, 6, 7, 8, 9, 2, 10, 1, 0] rfl (hk31 M x1 x2 x3 x4 x5 x6 (y1 + y0) x8 (x10 + 0) (x12 + 1) hf)
  · have hf := dh_el hf c13
    refine r_lload hC dX2_bindsSo_171 (j := 11) rfl ?_
    refine r_goto hC dX2_bindsSo_173 (tgt := 177) (by decide) ?_
    refine r_ladd hC dX2_bindsSo_177 ?_
    refine r_lstore (lv' := [(10, .long (x10 + x13)), (7, .int (y1 + y0)), (0, .ref (dm_am E)), (1, .int x1), (2, .int x2), (3, .int x3), (4, .int x4), (5, .int x5), (6, .int x6), (8, .long x8), (12, .int x12), (13, .long x13), (16, .int x16)]) hC dX2_bindsSo_178 (Nat.le_of_ble_eq_true rfl) rfl ?_
    refine r_iinc (lv' := [(12, .int (x12 + 1)), (10, .long (x10 + x13)), (7, .int (y1 + y0)), (0, .ref (dm_am E)), (1, .int x1), (2, .int x2), (3, .int x3), (4, .int x4), (5, .int x5), (6, .int x6), (8, .long x8), (13, .long x13), (16, .int x16)]) hC dX2_bindsSo_180 (j := 10) rfl (congrArg _ ki_1) (Nat.le_of_ble_eq_true rfl) rfl ?_
    refine r_goto hC dX2_bindsSo_183 (tgt := 31) (by decide) ?_
    exact r_sub [3, 4, 5, 6, 7, 8, 9, 2, 10, 1, 0] rfl (hk31 M x1 x2 x3 x4 x5 x6 (y1 + y0) x8 (x10 + x13) (x12 + 1) hf)
def gM_bindsSo_b137 (k31 : (dm_M → Int32 → Int32 → Int32 → Int32 → Int32 → Int32 → Int32 → Int64 → Int64 → Int32 → Option (Int32 × dm_M))) (M : dm_M) (x1 : Int32) (x2 : Int32) (x3 : Int32) (x4 : Int32) (x5 : Int32) (x6 : Int32) (x7 : Int32) (x8 : Int64) (x10 : Int64) (x12 : Int32) (x13 : Int64) (y0 : Int32) : Option (Int32 × dm_M) :=
  if y0 = 0 then (
    gM_bindsSo_b161 k31 M x1 x2 x3 x4 x5 (x6 + 1) (x8 + x13) x10 x12 x13 y0 0 x7)
  else
  gM_bindsSo_b161 k31 M x1 x2 x3 x4 x5 (x6 + 1) (x8 + x13) x10 x12 x13 y0 1 x7
theorem wM_bindsSo_b137 {C : dh_C} {A : Nat → Prop} {E : dm_E} (hC : dh_ok C cX2_bindsSo 17 RX2 (some .boolean)) (hK : dm_Kn E (dh_s C)) (hR : dh_R C = { frames := 4, cells := 0, slots := 0, locals := 86 }) {r : Int32} {M' : dm_M} (k31 : (dm_M → Int32 → Int32 → Int32 → Int32 → Int32 → Int32 → Int32 → Int64 → Int64 → Int32 → Option (Int32 × dm_M))) (hk31 : ∀ (M : dm_M) (x1 : Int32) (x2 : Int32) (x3 : Int32) (x4 : Int32) (x5 : Int32) (x6 : Int32) (x7 : Int32) (x8 : Int64) (x10 : Int64) (x12 : Int32), k31 M x1 x2 x3 x4 x5 x6 x7 x8 x10 x12 = some (r, M') → dh_W C A (dm_P E A M) (dm_Q E A (some (.int r)) M') 0 0 0 0 31 [(0, .ref (dm_am E)), (1, .int x1), (2, .int x2), (3, .int x3), (4, .int x4), (5, .int x5), (6, .int x6), (7, .int x7), (8, .long x8), (10, .long x10), (12, .int x12)] []) (M : dm_M) (x1 : Int32) (x2 : Int32) (x3 : Int32) (x4 : Int32) (x5 : Int32) (x6 : Int32) (x7 : Int32) (x8 : Int64) (x10 : Int64) (x12 : Int32) (x13 : Int64) (y0 : Int32) (hf : gM_bindsSo_b137 k31 M x1 x2 x3 x4 x5 x6 x7 x8 x10 x12 x13 y0 = some (r, M')) : dh_W C A (dm_P E A M) (dm_Q E A (some (.int r)) M') 0 0 0 0 137 [(0, .ref (dm_am E)), (1, .int x1), (2, .int x2), (3, .int x3), (4, .int x4), (5, .int x5), (6, .int x6), (7, .int x7), (8, .long x8), (10, .long x10), (12, .int x12), (13, .long x13)] [.int y0] := by
  unfold gM_bindsSo_b137 at hf
  refine r_istore (lv' := [(16, .int y0), (0, .ref (dm_am E)), (1, .int x1), (2, .int x2), (3, .int x3), (4, .int x4), (5, .int x5), (6, .int x6), (7, .int x7), (8, .long x8), (10, .long x10), (12, .int x12), (13, .long x13)]) hC dX2_bindsSo_137 (Nat.le_of_ble_eq_true rfl) rfl ?_
  refine r_iinc (lv' := [(6, .int (x6 + 1)), (16, .int y0), (0, .ref (dm_am E)), (1, .int x1), (2, .int x2), (3, .int x3), (4, .int x4), (5, .int x5), (7, .int x7), (8, .long x8), (10, .long x10), (12, .int x12), (13, .long x13)]) hC dX2_bindsSo_139 (j := 7) rfl (congrArg _ ki_1) (Nat.le_of_ble_eq_true rfl) rfl ?_
  refine r_lload hC dX2_bindsSo_142 (j := 9) rfl ?_
  refine r_lload hC dX2_bindsSo_144 (j := 12) rfl ?_
  refine r_ladd hC dX2_bindsSo_146 ?_
  refine r_lstore (lv' := [(8, .long (x8 + x13)), (6, .int (x6 + 1)), (16, .int y0), (0, .ref (dm_am E)), (1, .int x1), (2, .int x2), (3, .int x3), (4, .int x4), (5, .int x5), (7, .int x7), (10, .long x10), (12, .int x12), (13, .long x13)]) hC dX2_bindsSo_147 (Nat.le_of_ble_eq_true rfl) rfl ?_
  refine r_iload hC dX2_bindsSo_149 (j := 9) rfl ?_
  refine r_iload hC dX2_bindsSo_151 (j := 2) rfl ?_
  refine r_if_eq hC dX2_bindsSo_153 (tgt := 160) (by decide) (fun c12 => ?_) (fun c12 => ?_)
  · have hf := dh_if hf c12
    refine r_iconst hC dX2_bindsSo_160 ki_0 ?_
    exact r_sub [3, 4, 5, 6, 7, 8, 1, 0, 10, 11, 12, 2] rfl (wM_bindsSo_b161 hC hK hR k31 hk31 M x1 x2 x3 x4 x5 (x6 + 1) (x8 + x13) x10 x12 x13 y0 0 x7 hf)
  · have hf := dh_el hf c12
    refine r_iconst hC dX2_bindsSo_156 ki_1 ?_
    refine r_goto hC dX2_bindsSo_157 (tgt := 161) (by decide) ?_
    exact r_sub [3, 4, 5, 6, 7, 8, 1, 0, 10, 11, 12, 2] rfl (wM_bindsSo_b161 hC hK hR k31 hk31 M x1 x2 x3 x4 x5 (x6 + 1) (x8 + x13) x10 x12 x13 y0 1 x7 hf)
def gM_bindsSo_L51_F (k31 : (dm_M → Int32 → Int32 → Int32 → Int32 → Int32 → Int32 → Int32 → Int64 → Int64 → Int32 → Option (Int32 × dm_M))) (k51 : (dm_M → Int32 → Int32 → Int32 → Int32 → Int32 → Int32 → Int32 → Int64 → Int64 → Int32 → Int64 → Int32 → Int32 → Option (Int32 × dm_M))) (M : dm_M) (x1 : Int32) (x2 : Int32) (x3 : Int32) (x4 : Int32) (x5 : Int32) (x6 : Int32) (x7 : Int32) (x8 : Int64) (x10 : Int64) (x12 : Int32) (x13 : Int64) (x15 : Int32) (x16 : Int32) : Option (Int32 × dm_M) :=
  (dm_rd M 25 0).bind fun v8 =>
  if ¬ (v8 ≤ x16) then (
    (dm_rd M 72 x16).bind fun v16 =>
    if v16 = 0 then (
      k51 M x1 x2 x3 x4 x5 x6 x7 x8 x10 x12 x13 x15 (x16 + 1))
    else
    (dm_rd M 71 x16).bind fun v18 =>
    if v18 = x12 then (
      (gM_dueOf M x16).bind fun p20 =>
      k51 M x1 x2 x3 x4 x5 x6 x7 x8 x10 x12 (x13 + (Int32.toInt64 p20)) 1 (x16 + 1))
    else
    k51 M x1 x2 x3 x4 x5 x6 x7 x8 x10 x12 x13 x15 (x16 + 1))
  else
  if x15 = 0 then (
    k31 M x1 x2 x3 x4 x5 x6 x7 x8 x10 (x12 + 1))
  else
  if x12 = x3 then (
    gM_bindsSo_b137 k31 M x1 x2 x3 x4 x5 x6 x7 x8 x10 x12 x13 1)
  else
  (dm_rd M 24 ((12 * x12) + x1)).bind fun v14 =>
  if x2 < v14 then (
    gM_bindsSo_b137 k31 M x1 x2 x3 x4 x5 x6 x7 x8 x10 x12 x13 0)
  else
  gM_bindsSo_b137 k31 M x1 x2 x3 x4 x5 x6 x7 x8 x10 x12 x13 1
theorem wM_bindsSo_L51_F {C : dh_C} {A : Nat → Prop} {E : dm_E} (hC : dh_ok C cX2_bindsSo 17 RX2 (some .boolean)) (hK : dm_Kn E (dh_s C)) (hR : dh_R C = { frames := 4, cells := 0, slots := 0, locals := 86 }) {r : Int32} {M' : dm_M} (k31 : (dm_M → Int32 → Int32 → Int32 → Int32 → Int32 → Int32 → Int32 → Int64 → Int64 → Int32 → Option (Int32 × dm_M))) (hk31 : ∀ (M : dm_M) (x1 : Int32) (x2 : Int32) (x3 : Int32) (x4 : Int32) (x5 : Int32) (x6 : Int32) (x7 : Int32) (x8 : Int64) (x10 : Int64) (x12 : Int32), k31 M x1 x2 x3 x4 x5 x6 x7 x8 x10 x12 = some (r, M') → dh_W C A (dm_P E A M) (dm_Q E A (some (.int r)) M') 0 0 0 0 31 [(0, .ref (dm_am E)), (1, .int x1), (2, .int x2), (3, .int x3), (4, .int x4), (5, .int x5), (6, .int x6), (7, .int x7), (8, .long x8), (10, .long x10), (12, .int x12)] []) (k51 : (dm_M → Int32 → Int32 → Int32 → Int32 → Int32 → Int32 → Int32 → Int64 → Int64 → Int32 → Int64 → Int32 → Int32 → Option (Int32 × dm_M))) (hk51 : ∀ (M : dm_M) (x1 : Int32) (x2 : Int32) (x3 : Int32) (x4 : Int32) (x5 : Int32) (x6 : Int32) (x7 : Int32) (x8 : Int64) (x10 : Int64) (x12 : Int32) (x13 : Int64) (x15 : Int32) (x16 : Int32), k51 M x1 x2 x3 x4 x5 x6 x7 x8 x10 x12 x13 x15 x16 = some (r, M') → dh_W C A (dm_P E A M) (dm_Q E A (some (.int r)) M') 0 0 0 0 51 [(0, .ref (dm_am E)), (1, .int x1), (2, .int x2), (3, .int x3), (4, .int x4), (5, .int x5), (6, .int x6), (7, .int x7), (8, .long x8), (10, .long x10), (12, .int x12), (13, .long x13), (15, .int x15), (16, .int x16)] []) (M : dm_M) (x1 : Int32) (x2 : Int32) (x3 : Int32) (x4 : Int32) (x5 : Int32) (x6 : Int32) (x7 : Int32) (x8 : Int64) (x10 : Int64) (x12 : Int32) (x13 : Int64) (x15 : Int32) (x16 : Int32) (hf : gM_bindsSo_L51_F k31 k51 M x1 x2 x3 x4 x5 x6 x7 x8 x10 x12 x13 x15 x16 = some (r, M')) : dh_W C A (dm_P E A M) (dm_Q E A (some (.int r)) M') 0 0 0 0 51 [(0, .ref (dm_am E)), (1, .int x1), (2, .int x2), (3, .int x3), (4, .int x4), (5, .int x5), (6, .int x6), (7, .int x7), (8, .long x8), (10, .long x10), (12, .int x12), (13, .long x13), (15, .int x15), (16, .int x16)] [] := by
  unfold gM_bindsSo_L51_F at hf
  refine r_iload hC dX2_bindsSo_51 (j := 13) rfl ?_
  refine r_aload_n hC dX2_bindsSo_53 rfl (j := 0) rfl ?_
  refine m_getA hC hK fa_25 dX2_bindsSo_54 ?_
  refine r_iconst hC dX2_bindsSo_57 ki_0 ?_
  obtain ⟨v8, h8, hf⟩ := dh_bd hf
  refine m_iald hC hK kd_25 h8 dX2_bindsSo_58 ?_
  refine r_icmp_ge hC dX2_bindsSo_59 (tgt := 105) (by decide) (fun c9 => ?_) (fun c9 => ?_)
  · have hf := dh_el hf (fun q => q c9)
    refine r_iload hC dX2_bindsSo_105 (j := 12) rfl ?_
    refine r_if_eq hC dX2_bindsSo_107 (tgt := 180) (by decide) (fun c10 => ?_) (fun c10 => ?_)
    · have hf := dh_if hf c10
      refine r_iinc (lv' := [(12, .int (x12 + 1)), (0, .ref (dm_am E)), (1, .int x1), (2, .int x2), (3, .int x3), (4, .int x4), (5, .int x5), (6, .int x6), (7, .int x7), (8, .long x8), (10, .long x10), (13, .long x13), (15, .int x15), (16, .int x16)]) hC dX2_bindsSo_180 (j := 10) rfl (congrArg _ ki_1) (Nat.le_of_ble_eq_true rfl) rfl ?_
      refine r_goto hC dX2_bindsSo_183 (tgt := 31) (by decide) ?_
      exact r_sub [1, 2, 3, 4, 5, 6, 7, 8, 9, 10, 0] rfl (hk31 M x1 x2 x3 x4 x5 x6 x7 x8 x10 (x12 + 1) hf)
    · have hf := dh_el hf c10
      refine r_iload hC dX2_bindsSo_110 (j := 10) rfl ?_
      refine r_iload_n hC dX2_bindsSo_112 rfl (j := 3) rfl ?_
      refine r_icmp_eq hC dX2_bindsSo_113 (tgt := 132) (by decide) (fun c11 => ?_) (fun c11 => ?_)
      · have hf := dh_if hf c11
        refine r_iconst hC dX2_bindsSo_132 ki_1 ?_
        refine r_goto hC dX2_bindsSo_133 (tgt := 137) (by decide) ?_
        exact r_sub [0, 1, 2, 3, 4, 5, 6, 7, 8, 9, 10, 11] rfl (wM_bindsSo_b137 hC hK hR k31 hk31 M x1 x2 x3 x4 x5 x6 x7 x8 x10 x12 x13 1 hf)
      · have hf := dh_el hf c11
        refine r_iload_n hC dX2_bindsSo_116 rfl (j := 2) rfl ?_
        refine r_aload_n hC dX2_bindsSo_117 rfl (j := 0) rfl ?_
        refine m_getA hC hK fa_24 dX2_bindsSo_118 ?_
        refine r_bipush hC dX2_bindsSo_121 kb_12 ?_
        refine r_iload hC dX2_bindsSo_123 (j := 10) rfl ?_
        refine r_imul hC dX2_bindsSo_125 ?_
        refine r_iload_n hC dX2_bindsSo_126 rfl (j := 1) rfl ?_
        refine r_iadd hC dX2_bindsSo_127 ?_
        obtain ⟨v14, h14, hf⟩ := dh_bd hf
        refine m_iald hC hK kd_24 h14 dX2_bindsSo_128 ?_
        refine r_icmp_lt hC dX2_bindsSo_129 (tgt := 136) (by decide) (fun c15 => ?_) (fun c15 => ?_)
        · have hf := dh_if hf c15
          refine r_iconst hC dX2_bindsSo_136 ki_0 ?_
          exact r_sub [0, 1, 2, 3, 4, 5, 6, 7, 8, 9, 10, 11] rfl (wM_bindsSo_b137 hC hK hR k31 hk31 M x1 x2 x3 x4 x5 x6 x7 x8 x10 x12 x13 0 hf)
        · have hf := dh_el hf c15
          refine r_iconst hC dX2_bindsSo_132 ki_1 ?_
          refine r_goto hC dX2_bindsSo_133 (tgt := 137) (by decide) ?_
          exact r_sub [0, 1, 2, 3, 4, 5, 6, 7, 8, 9, 10, 11] rfl (wM_bindsSo_b137 hC hK hR k31 hk31 M x1 x2 x3 x4 x5 x6 x7 x8 x10 x12 x13 1 hf)
  · have hf := dh_if hf c9
    refine r_aload_n hC dX2_bindsSo_62 rfl (j := 0) rfl ?_
    refine m_getA hC hK fa_72 dX2_bindsSo_63 ?_
    refine r_iload hC dX2_bindsSo_66 (j := 13) rfl ?_
    obtain ⟨v16, h16, hf⟩ := dh_bd hf
    refine m_zald hC hK kd_72 h16 dX2_bindsSo_68 ?_
    refine r_if_eq hC dX2_bindsSo_69 (tgt := 99) (by decide) (fun c17 => ?_) (fun c17 => ?_)
    · have hf := dh_if hf c17
      refine r_iinc (lv' := [(16, .int (x16 + 1)), (0, .ref (dm_am E)), (1, .int x1), (2, .int x2), (3, .int x3), (4, .int x4), (5, .int x5), (6, .int x6), (7, .int x7), (8, .long x8), (10, .long x10), (12, .int x12), (13, .long x13), (15, .int x15)]) hC dX2_bindsSo_99 (j := 13) rfl (congrArg _ ki_1) (Nat.le_of_ble_eq_true rfl) rfl ?_
      refine r_goto hC dX2_bindsSo_102 (tgt := 51) (by decide) ?_
      exact r_sub [1, 2, 3, 4, 5, 6, 7, 8, 9, 10, 11, 12, 13, 0] rfl (hk51 M x1 x2 x3 x4 x5 x6 x7 x8 x10 x12 x13 x15 (x16 + 1) hf)
    · have hf := dh_el hf c17
      refine r_aload_n hC dX2_bindsSo_72 rfl (j := 0) rfl ?_
      refine m_getA hC hK fa_71 dX2_bindsSo_73 ?_
      refine r_iload hC dX2_bindsSo_76 (j := 13) rfl ?_
      obtain ⟨v18, h18, hf⟩ := dh_bd hf
      refine m_iald hC hK kd_71 h18 dX2_bindsSo_78 ?_
      refine r_iload hC dX2_bindsSo_79 (j := 10) rfl ?_
      refine r_icmp_ne hC dX2_bindsSo_81 (tgt := 99) (by decide) (fun c19 => ?_) (fun c19 => ?_)
      · have hf := dh_el hf c19
        refine r_iinc (lv' := [(16, .int (x16 + 1)), (0, .ref (dm_am E)), (1, .int x1), (2, .int x2), (3, .int x3), (4, .int x4), (5, .int x5), (6, .int x6), (7, .int x7), (8, .long x8), (10, .long x10), (12, .int x12), (13, .long x13), (15, .int x15)]) hC dX2_bindsSo_99 (j := 13) rfl (congrArg _ ki_1) (Nat.le_of_ble_eq_true rfl) rfl ?_
        refine r_goto hC dX2_bindsSo_102 (tgt := 51) (by decide) ?_
        exact r_sub [1, 2, 3, 4, 5, 6, 7, 8, 9, 10, 11, 12, 13, 0] rfl (hk51 M x1 x2 x3 x4 x5 x6 x7 x8 x10 x12 x13 x15 (x16 + 1) hf)
      · have hf := dh_if hf c19
        refine r_iconst hC dX2_bindsSo_84 ki_1 ?_
        refine r_istore (lv' := [(15, .int 1), (0, .ref (dm_am E)), (1, .int x1), (2, .int x2), (3, .int x3), (4, .int x4), (5, .int x5), (6, .int x6), (7, .int x7), (8, .long x8), (10, .long x10), (12, .int x12), (13, .long x13), (16, .int x16)]) hC dX2_bindsSo_85 (Nat.le_of_ble_eq_true rfl) rfl ?_
        refine r_lload hC dX2_bindsSo_87 (j := 12) rfl ?_
        refine r_aload_n hC dX2_bindsSo_89 rfl (j := 1) rfl ?_
        refine r_iload hC dX2_bindsSo_90 (j := 13) rfl ?_
        obtain ⟨p20, h20, hf⟩ := dh_bd hf
        refine m_callV' hC hK hR (cM_dueOf _ E A M x16 h20) q1667 q_dueOf (Nat.le_of_ble_eq_true rfl) (Nat.le_of_ble_eq_true rfl) rfl (Nat.le_of_ble_eq_true rfl) dX2_bindsSo_92 ?_
        refine r_i2l hC dX2_bindsSo_95 ?_
        refine r_ladd hC dX2_bindsSo_96 ?_
        refine r_lstore (lv' := [(13, .long (x13 + (Int32.toInt64 p20))), (15, .int 1), (0, .ref (dm_am E)), (1, .int x1), (2, .int x2), (3, .int x3), (4, .int x4), (5, .int x5), (6, .int x6), (7, .int x7), (8, .long x8), (10, .long x10), (12, .int x12), (16, .int x16)]) hC dX2_bindsSo_97 (Nat.le_of_ble_eq_true rfl) rfl ?_
        refine r_iinc (lv' := [(16, .int (x16 + 1)), (13, .long (x13 + (Int32.toInt64 p20))), (15, .int 1), (0, .ref (dm_am E)), (1, .int x1), (2, .int x2), (3, .int x3), (4, .int x4), (5, .int x5), (6, .int x6), (7, .int x7), (8, .long x8), (10, .long x10), (12, .int x12)]) hC dX2_bindsSo_99 (j := 13) rfl (congrArg _ ki_1) (Nat.le_of_ble_eq_true rfl) rfl ?_
        refine r_goto hC dX2_bindsSo_102 (tgt := 51) (by decide) ?_
        exact r_sub [3, 4, 5, 6, 7, 8, 9, 10, 11, 12, 13, 1, 2, 0] rfl (hk51 M x1 x2 x3 x4 x5 x6 x7 x8 x10 x12 (x13 + (Int32.toInt64 p20)) 1 (x16 + 1) hf)
def gM_bindsSo_L51 (k31 : (dm_M → Int32 → Int32 → Int32 → Int32 → Int32 → Int32 → Int32 → Int64 → Int64 → Int32 → Option (Int32 × dm_M))) : Nat → dm_M → Int32 → Int32 → Int32 → Int32 → Int32 → Int32 → Int32 → Int64 → Int64 → Int32 → Int64 → Int32 → Int32 → Option (Int32 × dm_M)
  | 0 => fun _ _ _ _ _ _ _ _ _ _ _ _ _ _ => none
  | n + 1 => gM_bindsSo_L51_F k31 (gM_bindsSo_L51 k31 n)
theorem wM_bindsSo_L51 {C : dh_C} {A : Nat → Prop} {E : dm_E} (hC : dh_ok C cX2_bindsSo 17 RX2 (some .boolean)) (hK : dm_Kn E (dh_s C)) (hR : dh_R C = { frames := 4, cells := 0, slots := 0, locals := 86 }) {r : Int32} {M' : dm_M} (k31 : (dm_M → Int32 → Int32 → Int32 → Int32 → Int32 → Int32 → Int32 → Int64 → Int64 → Int32 → Option (Int32 × dm_M))) (hk31 : ∀ (M : dm_M) (x1 : Int32) (x2 : Int32) (x3 : Int32) (x4 : Int32) (x5 : Int32) (x6 : Int32) (x7 : Int32) (x8 : Int64) (x10 : Int64) (x12 : Int32), k31 M x1 x2 x3 x4 x5 x6 x7 x8 x10 x12 = some (r, M') → dh_W C A (dm_P E A M) (dm_Q E A (some (.int r)) M') 0 0 0 0 31 [(0, .ref (dm_am E)), (1, .int x1), (2, .int x2), (3, .int x3), (4, .int x4), (5, .int x5), (6, .int x6), (7, .int x7), (8, .long x8), (10, .long x10), (12, .int x12)] []) : ∀ (n : Nat) (M : dm_M) (x1 : Int32) (x2 : Int32) (x3 : Int32) (x4 : Int32) (x5 : Int32) (x6 : Int32) (x7 : Int32) (x8 : Int64) (x10 : Int64) (x12 : Int32) (x13 : Int64) (x15 : Int32) (x16 : Int32) (_ : gM_bindsSo_L51 k31 n M x1 x2 x3 x4 x5 x6 x7 x8 x10 x12 x13 x15 x16 = some (r, M')), dh_W C A (dm_P E A M) (dm_Q E A (some (.int r)) M') 0 0 0 0 51 [(0, .ref (dm_am E)), (1, .int x1), (2, .int x2), (3, .int x3), (4, .int x4), (5, .int x5), (6, .int x6), (7, .int x7), (8, .long x8), (10, .long x10), (12, .int x12), (13, .long x13), (15, .int x15), (16, .int x16)] [] := by
  intro n
  induction n with
  | zero => intro M x1 x2 x3 x4 x5 x6 x7 x8 x10 x12 x13 x15 x16 hf; exact dh_no hf
  | succ n ih => intro M x1 x2 x3 x4 x5 x6 x7 x8 x10 x12 x13 x15 x16 hf; exact wM_bindsSo_L51_F hC hK hR k31 hk31 (gM_bindsSo_L51 k31 n) ih M x1 x2 x3 x4 x5 x6 x7 x8 x10 x12 x13 x15 x16 hf
def gM_bindsSo_L31_F (k31 : (dm_M → Int32 → Int32 → Int32 → Int32 → Int32 → Int32 → Int32 → Int64 → Int64 → Int32 → Option (Int32 × dm_M))) (M : dm_M) (x1 : Int32) (x2 : Int32) (x3 : Int32) (x4 : Int32) (x5 : Int32) (x6 : Int32) (x7 : Int32) (x8 : Int64) (x10 : Int64) (x12 : Int32) : Option (Int32 × dm_M) :=
  (dm_rd M 8 0).bind fun v3 =>
  if ¬ (v3 ≤ x12) then (
    gM_bindsSo_L51 k31 dh_fu M x1 x2 x3 x4 x5 x6 x7 x8 x10 x12 0 0 0)
  else
  if x6 ≤ 0 then (
    some (0, M))
  else
  if (100 * x7) < (x4 * x6) then (
    some (0, M))
  else
  if (lg_cmp (100 * x10) ((Int32.toInt64 x5) * x8)) < 0 then (
    some (0, M))
  else
  some (1, M)
theorem wM_bindsSo_L31_F {C : dh_C} {A : Nat → Prop} {E : dm_E} (hC : dh_ok C cX2_bindsSo 17 RX2 (some .boolean)) (hK : dm_Kn E (dh_s C)) (hR : dh_R C = { frames := 4, cells := 0, slots := 0, locals := 86 }) {r : Int32} {M' : dm_M} (k31 : (dm_M → Int32 → Int32 → Int32 → Int32 → Int32 → Int32 → Int32 → Int64 → Int64 → Int32 → Option (Int32 × dm_M))) (hk31 : ∀ (M : dm_M) (x1 : Int32) (x2 : Int32) (x3 : Int32) (x4 : Int32) (x5 : Int32) (x6 : Int32) (x7 : Int32) (x8 : Int64) (x10 : Int64) (x12 : Int32), k31 M x1 x2 x3 x4 x5 x6 x7 x8 x10 x12 = some (r, M') → dh_W C A (dm_P E A M) (dm_Q E A (some (.int r)) M') 0 0 0 0 31 [(0, .ref (dm_am E)), (1, .int x1), (2, .int x2), (3, .int x3), (4, .int x4), (5, .int x5), (6, .int x6), (7, .int x7), (8, .long x8), (10, .long x10), (12, .int x12)] []) (M : dm_M) (x1 : Int32) (x2 : Int32) (x3 : Int32) (x4 : Int32) (x5 : Int32) (x6 : Int32) (x7 : Int32) (x8 : Int64) (x10 : Int64) (x12 : Int32) (hf : gM_bindsSo_L31_F k31 M x1 x2 x3 x4 x5 x6 x7 x8 x10 x12 = some (r, M')) : dh_W C A (dm_P E A M) (dm_Q E A (some (.int r)) M') 0 0 0 0 31 [(0, .ref (dm_am E)), (1, .int x1), (2, .int x2), (3, .int x3), (4, .int x4), (5, .int x5), (6, .int x6), (7, .int x7), (8, .long x8), (10, .long x10), (12, .int x12)] [] := by
  unfold gM_bindsSo_L31_F at hf
  refine r_iload hC dX2_bindsSo_31 (j := 10) rfl ?_
  refine r_aload_n hC dX2_bindsSo_33 rfl (j := 0) rfl ?_
  refine m_getA hC hK fa_8 dX2_bindsSo_34 ?_
  refine r_iconst hC dX2_bindsSo_37 ki_0 ?_
  obtain ⟨v3, h3, hf⟩ := dh_bd hf
  refine m_iald hC hK kd_8 h3 dX2_bindsSo_38 ?_
  refine r_icmp_ge hC dX2_bindsSo_39 (tgt := 186) (by decide) (fun c4 => ?_) (fun c4 => ?_)
  · have hf := dh_el hf (fun q => q c4)
    refine r_iload hC dX2_bindsSo_186 (j := 6) rfl ?_
    refine r_if_le hC dX2_bindsSo_188 (tgt := 224) (by decide) (fun c5 => ?_) (fun c5 => ?_)
    · have hf := dh_if hf c5
      refine r_iconst hC dX2_bindsSo_224 ki_0 ?_
      exact m_zret hC dX2_bindsSo_225 rfl rfl hf
    · have hf := dh_el hf c5
      refine r_bipush hC dX2_bindsSo_191 kb_100 ?_
      refine r_iload hC dX2_bindsSo_193 (j := 7) rfl ?_
      refine r_imul hC dX2_bindsSo_195 ?_
      refine r_iload hC dX2_bindsSo_196 (j := 4) rfl ?_
      refine r_iload hC dX2_bindsSo_198 (j := 6) rfl ?_
      refine r_imul hC dX2_bindsSo_200 ?_
      refine r_icmp_lt hC dX2_bindsSo_201 (tgt := 224) (by decide) (fun c6 => ?_) (fun c6 => ?_)
      · have hf := dh_if hf c6
        refine r_iconst hC dX2_bindsSo_224 ki_0 ?_
        exact m_zret hC dX2_bindsSo_225 rfl rfl hf
      · have hf := dh_el hf c6
        refine r_ldc2 hC q1924 dX2_bindsSo_204 ?_
        refine r_lload hC dX2_bindsSo_207 (j := 9) rfl ?_
        refine r_lmul hC dX2_bindsSo_209 ?_
        refine r_iload hC dX2_bindsSo_210 (j := 5) rfl ?_
        refine r_i2l hC dX2_bindsSo_212 ?_
        refine r_lload hC dX2_bindsSo_213 (j := 8) rfl ?_
        refine r_lmul hC dX2_bindsSo_215 ?_
        refine r_lcmp hC dX2_bindsSo_216 ?_
        refine r_if_lt hC dX2_bindsSo_217 (tgt := 224) (by decide) (fun c7 => ?_) (fun c7 => ?_)
        · have hf := dh_if hf c7
          refine r_iconst hC dX2_bindsSo_224 ki_0 ?_
          exact m_zret hC dX2_bindsSo_225 rfl rfl hf
        · have hf := dh_el hf c7
          refine r_iconst hC dX2_bindsSo_220 ki_1 ?_
          refine r_goto hC dX2_bindsSo_221 (tgt := 225) (by decide) ?_
          exact m_zret hC dX2_bindsSo_225 rfl rfl hf
  · have hf := dh_if hf c4
    refine r_lconst hC dX2_bindsSo_42 kl_0 ?_
    refine r_lstore (lv' := [(13, .long 0), (0, .ref (dm_am E)), (1, .int x1), (2, .int x2), (3, .int x3), (4, .int x4), (5, .int x5), (6, .int x6), (7, .int x7), (8, .long x8), (10, .long x10), (12, .int x12)]) hC dX2_bindsSo_43 (Nat.le_of_ble_eq_true rfl) rfl ?_
    refine r_iconst hC dX2_bindsSo_45 ki_0 ?_
    refine r_istore (lv' := [(15, .int 0), (13, .long 0), (0, .ref (dm_am E)), (1, .int x1), (2, .int x2), (3, .int x3), (4, .int x4), (5, .int x5), (6, .int x6), (7, .int x7), (8, .long x8), (10, .long x10), (12, .int x12)]) hC dX2_bindsSo_46 (Nat.le_of_ble_eq_true rfl) rfl ?_
    refine r_iconst hC dX2_bindsSo_48 ki_0 ?_
    refine r_istore (lv' := [(16, .int 0), (15, .int 0), (13, .long 0), (0, .ref (dm_am E)), (1, .int x1), (2, .int x2), (3, .int x3), (4, .int x4), (5, .int x5), (6, .int x6), (7, .int x7), (8, .long x8), (10, .long x10), (12, .int x12)]) hC dX2_bindsSo_49 (Nat.le_of_ble_eq_true rfl) rfl ?_
    exact r_sub [3, 4, 5, 6, 7, 8, 9, 10, 11, 12, 13, 2, 1, 0] rfl (wM_bindsSo_L51 hC hK hR k31 hk31 dh_fu M x1 x2 x3 x4 x5 x6 x7 x8 x10 x12 0 0 0 hf)
def gM_bindsSo_L31 : Nat → dm_M → Int32 → Int32 → Int32 → Int32 → Int32 → Int32 → Int32 → Int64 → Int64 → Int32 → Option (Int32 × dm_M)
  | 0 => fun _ _ _ _ _ _ _ _ _ _ _ => none
  | n + 1 => gM_bindsSo_L31_F (gM_bindsSo_L31 n)
theorem wM_bindsSo_L31 {C : dh_C} {A : Nat → Prop} {E : dm_E} (hC : dh_ok C cX2_bindsSo 17 RX2 (some .boolean)) (hK : dm_Kn E (dh_s C)) (hR : dh_R C = { frames := 4, cells := 0, slots := 0, locals := 86 }) {r : Int32} {M' : dm_M} : ∀ (n : Nat) (M : dm_M) (x1 : Int32) (x2 : Int32) (x3 : Int32) (x4 : Int32) (x5 : Int32) (x6 : Int32) (x7 : Int32) (x8 : Int64) (x10 : Int64) (x12 : Int32) (_ : gM_bindsSo_L31 n M x1 x2 x3 x4 x5 x6 x7 x8 x10 x12 = some (r, M')), dh_W C A (dm_P E A M) (dm_Q E A (some (.int r)) M') 0 0 0 0 31 [(0, .ref (dm_am E)), (1, .int x1), (2, .int x2), (3, .int x3), (4, .int x4), (5, .int x5), (6, .int x6), (7, .int x7), (8, .long x8), (10, .long x10), (12, .int x12)] [] := by
  intro n
  induction n with
  | zero => intro M x1 x2 x3 x4 x5 x6 x7 x8 x10 x12 hf; exact dh_no hf
  | succ n ih => intro M x1 x2 x3 x4 x5 x6 x7 x8 x10 x12 hf; exact wM_bindsSo_L31_F hC hK hR (gM_bindsSo_L31 n) ih M x1 x2 x3 x4 x5 x6 x7 x8 x10 x12 hf
def gM_bindsSo (M : dm_M) (x1 : Int32) (x2 : Int32) (x3 : Int32) : Option (Int32 × dm_M) :=
  (gM_tellsNow M x1 4).bind fun p1 =>
  (gM_tellsNow p1.2 x1 5).bind fun p2 =>
  gM_bindsSo_L31 dh_fu p2.2 x1 x2 x3 p1.1 p2.1 0 0 0 0 0
theorem wM_bindsSo {C : dh_C} {A : Nat → Prop} {E : dm_E} (hC : dh_ok C cX2_bindsSo 17 RX2 (some .boolean)) (hK : dm_Kn E (dh_s C)) (hR : dh_R C = { frames := 4, cells := 0, slots := 0, locals := 86 }) {r : Int32} {M' : dm_M} (M : dm_M) (x1 : Int32) (x2 : Int32) (x3 : Int32) (hf : gM_bindsSo M x1 x2 x3 = some (r, M')) : dh_W C A (dm_P E A M) (dm_Q E A (some (.int r)) M') 0 0 0 0 0 [(0, .ref (dm_am E)), (1, .int x1), (2, .int x2), (3, .int x3)] [] := by
  unfold gM_bindsSo at hf
  refine r_aload_n hC dX2_bindsSo_0 rfl (j := 0) rfl ?_
  refine r_iload_n hC dX2_bindsSo_1 rfl (j := 1) rfl ?_
  refine r_iconst hC dX2_bindsSo_2 ki_4 ?_
  obtain ⟨p1, h1, hf⟩ := dh_bd hf
  refine m_callV' hC hK hR (cM_tellsNow _ E A M x1 4 h1) q1848 q_tellsNow (Nat.le_of_ble_eq_true rfl) (Nat.le_of_ble_eq_true rfl) rfl (Nat.le_of_ble_eq_true rfl) dX2_bindsSo_3 ?_
  refine r_istore (lv' := [(4, .int p1.1), (0, .ref (dm_am E)), (1, .int x1), (2, .int x2), (3, .int x3)]) hC dX2_bindsSo_6 (Nat.le_of_ble_eq_true rfl) rfl ?_
  refine r_aload_n hC dX2_bindsSo_8 rfl (j := 1) rfl ?_
  refine r_iload_n hC dX2_bindsSo_9 rfl (j := 2) rfl ?_
  refine r_iconst hC dX2_bindsSo_10 ki_5 ?_
  obtain ⟨p2, h2, hf⟩ := dh_bd hf
  refine m_callV' hC hK hR (cM_tellsNow _ E A p1.2 x1 5 h2) q1848 q_tellsNow (Nat.le_of_ble_eq_true rfl) (Nat.le_of_ble_eq_true rfl) rfl (Nat.le_of_ble_eq_true rfl) dX2_bindsSo_11 ?_
  refine r_istore (lv' := [(5, .int p2.1), (4, .int p1.1), (0, .ref (dm_am E)), (1, .int x1), (2, .int x2), (3, .int x3)]) hC dX2_bindsSo_14 (Nat.le_of_ble_eq_true rfl) rfl ?_
  refine r_iconst hC dX2_bindsSo_16 ki_0 ?_
  refine r_istore (lv' := [(6, .int 0), (5, .int p2.1), (4, .int p1.1), (0, .ref (dm_am E)), (1, .int x1), (2, .int x2), (3, .int x3)]) hC dX2_bindsSo_17 (Nat.le_of_ble_eq_true rfl) rfl ?_
  refine r_iconst hC dX2_bindsSo_19 ki_0 ?_
  refine r_istore (lv' := [(7, .int 0), (6, .int 0), (5, .int p2.1), (4, .int p1.1), (0, .ref (dm_am E)), (1, .int x1), (2, .int x2), (3, .int x3)]) hC dX2_bindsSo_20 (Nat.le_of_ble_eq_true rfl) rfl ?_
  refine r_lconst hC dX2_bindsSo_22 kl_0 ?_
  refine r_lstore (lv' := [(8, .long 0), (7, .int 0), (6, .int 0), (5, .int p2.1), (4, .int p1.1), (0, .ref (dm_am E)), (1, .int x1), (2, .int x2), (3, .int x3)]) hC dX2_bindsSo_23 (Nat.le_of_ble_eq_true rfl) rfl ?_
  refine r_lconst hC dX2_bindsSo_25 kl_0 ?_
  refine r_lstore (lv' := [(10, .long 0), (8, .long 0), (7, .int 0), (6, .int 0), (5, .int p2.1), (4, .int p1.1), (0, .ref (dm_am E)), (1, .int x1), (2, .int x2), (3, .int x3)]) hC dX2_bindsSo_26 (Nat.le_of_ble_eq_true rfl) rfl ?_
  refine r_iconst hC dX2_bindsSo_28 ki_0 ?_
  refine r_istore (lv' := [(12, .int 0), (10, .long 0), (8, .long 0), (7, .int 0), (6, .int 0), (5, .int p2.1), (4, .int p1.1), (0, .ref (dm_am E)), (1, .int x1), (2, .int x2), (3, .int x3)]) hC dX2_bindsSo_29 (Nat.le_of_ble_eq_true rfl) rfl ?_
  exact r_sub [7, 8, 9, 10, 6, 5, 4, 3, 2, 1, 0] rfl (wM_bindsSo_L31 hC hK hR dh_fu p2.2 x1 x2 x3 p1.1 p2.1 0 0 0 0 0 hf)
theorem cM_bindsSo (l : Launch) (E : dm_E) (A : Nat → Prop) (M : dm_M) (x1 : Int32) (x2 : Int32) (x3 : Int32) {p : Int32 × dm_M} (h : gM_bindsSo M x1 x2 x3 = some p) : dm_Met l yX2_bindsSo cX2_bindsSo 17 (some .boolean) 4 86 E A [.ref (dm_am E), .int x1, .int x2, .int x3] M (some (.int p.1)) p.2 := by
  refine dh_met (by decide) (Nat.le_of_ble_eq_true rfl) (fun _ _ h => ⟨_, h.1⟩) (fun C hl hR hC hnm hK => ?_)
  exact wM_bindsSo hC hK hR M x1 x2 x3 h
theorem q_bindsSo : dm_calV yX2_bindsSo cX2_bindsSo 17 (some .boolean) 3 := ⟨q1922, qs74, q1923, by decide +kernel⟩
/-! bindsNow(II)Z -/
def gM_bindsNow (M : dm_M) (x1 : Int32) (x2 : Int32) : Option (Int32 × dm_M) :=
  (gM_asItIs M x1).bind fun p1 =>
  (gM_bindsSo p1 x1 x2 (-1)).bind fun p2 =>
  (dh_bo p2.1).bind fun _ =>
  some (p2.1, p2.2)
theorem wM_bindsNow {C : dh_C} {A : Nat → Prop} {E : dm_E} (hC : dh_ok C cX2_bindsNow 3 RX2 (some .boolean)) (hK : dm_Kn E (dh_s C)) (hR : dh_R C = { frames := 5, cells := 0, slots := 0, locals := 122 }) {r : Int32} {M' : dm_M} (M : dm_M) (x1 : Int32) (x2 : Int32) (hf : gM_bindsNow M x1 x2 = some (r, M')) : dh_W C A (dm_P E A M) (dm_Q E A (some (.int r)) M') 0 0 0 0 0 [(0, .ref (dm_am E)), (1, .int x1), (2, .int x2)] [] := by
  unfold gM_bindsNow at hf
  refine r_aload_n hC dX2_bindsNow_0 rfl (j := 0) rfl ?_
  refine r_iload_n hC dX2_bindsNow_1 rfl (j := 1) rfl ?_
  obtain ⟨p1, h1, hf⟩ := dh_bd hf
  refine m_callV' hC hK hR (cM_asItIs _ E A M x1 h1) q1916 q_asItIs (Nat.le_of_ble_eq_true rfl) (Nat.le_of_ble_eq_true rfl) rfl (Nat.le_of_ble_eq_true rfl) dX2_bindsNow_2 ?_
  refine r_aload_n hC dX2_bindsNow_5 rfl (j := 0) rfl ?_
  refine r_iload_n hC dX2_bindsNow_6 rfl (j := 1) rfl ?_
  refine r_iload_n hC dX2_bindsNow_7 rfl (j := 2) rfl ?_
  refine r_iconst hC dX2_bindsNow_8 ki_m1 ?_
  obtain ⟨p2, h2, hf⟩ := dh_bd hf
  refine m_callV' hC hK hR (cM_bindsSo _ E A p1 x1 x2 (-1) h2) q1920 q_bindsSo (Nat.le_of_ble_eq_true rfl) (Nat.le_of_ble_eq_true rfl) rfl (Nat.le_of_ble_eq_true rfl) dX2_bindsNow_9 ?_
  obtain ⟨_, h3, hf⟩ := dh_bd hf
  exact m_zret hC dX2_bindsNow_12 rfl (dh_bo_n h3) hf
theorem cM_bindsNow (l : Launch) (E : dm_E) (A : Nat → Prop) (M : dm_M) (x1 : Int32) (x2 : Int32) {p : Int32 × dm_M} (h : gM_bindsNow M x1 x2 = some p) : dm_Met l yX2_bindsNow cX2_bindsNow 3 (some .boolean) 5 122 E A [.ref (dm_am E), .int x1, .int x2] M (some (.int p.1)) p.2 := by
  refine dh_met (by decide) (Nat.le_of_ble_eq_true rfl) (fun _ _ h => ⟨_, h.1⟩) (fun C hl hR hC hnm hK => ?_)
  exact wM_bindsNow hC hK hR M x1 x2 h
theorem q_bindsNow : dm_calV yX2_bindsNow cX2_bindsNow 3 (some .boolean) 2 := ⟨q1914, qs72, q1915, by decide +kernel⟩
/-! binds(II)Z -/
def gM_binds (M : dm_M) (x1 : Int32) (x2 : Int32) : Option (Int32 × dm_M) :=
  (some (dm_set M 0 0 0)).bind fun M1 =>
  (gM_isPerson M1 x1).bind fun p2 =>
  if p2 = 0 then (
    some (0, M1))
  else
  (gM_in M1 x2 0 1000).bind fun p4 =>
  if p4 = 0 then (
    some (0, M1))
  else
  (gM_bindsNow M1 x1 x2).bind fun p6 =>
  if p6.1 = 0 then (
    some (0, p6.2))
  else
  some (1, p6.2)
theorem wM_binds {C : dh_C} {A : Nat → Prop} {E : dm_E} (hC : dh_ok C cX2_binds 3 RX2 (some .boolean)) (hK : dm_Kn E (dh_s C)) (hR : dh_R C = { frames := 6, cells := 0, slots := 0, locals := 144 }) {r : Int32} {M' : dm_M} (M : dm_M) (x1 : Int32) (x2 : Int32) (hf : gM_binds M x1 x2 = some (r, M')) : dh_W C A (dm_P E A M) (dm_Q E A (some (.int r)) M') 0 0 0 0 0 [(0, .ref (dm_am E)), (1, .int x1), (2, .int x2)] [] := by
  unfold gM_binds at hf
  refine r_aload_n hC dX2_binds_0 rfl (j := 0) rfl ?_
  refine r_iconst hC dX2_binds_1 ki_0 ?_
  obtain ⟨M1, h1, hf⟩ := dh_bd hf
  refine m_putI hC hK fi_0 dX2_binds_2 h1 ?_
  refine r_aload_n hC dX2_binds_5 rfl (j := 0) rfl ?_
  refine r_iload_n hC dX2_binds_6 rfl (j := 1) rfl ?_
  obtain ⟨p2, h2, hf⟩ := dh_bd hf
  refine m_callV' hC hK hR (cM_isPerson _ E A M1 x1 h2) q1650 q_isPerson (Nat.le_of_ble_eq_true rfl) (Nat.le_of_ble_eq_true rfl) rfl (Nat.le_of_ble_eq_true rfl) dX2_binds_7 ?_
  refine r_if_eq hC dX2_binds_10 (tgt := 37) (by decide) (fun c3 => ?_) (fun c3 => ?_)
  · have hf := dh_if hf c3
    refine r_iconst hC dX2_binds_37 ki_0 ?_
    exact m_zret hC dX2_binds_38 rfl rfl hf
  · have hf := dh_el hf c3
    refine r_iload_n hC dX2_binds_13 rfl (j := 2) rfl ?_
    refine r_iconst hC dX2_binds_14 ki_0 ?_
    refine r_sipush hC dX2_binds_15 ks_1000 ?_
    obtain ⟨p4, h4, hf⟩ := dh_bd hf
    refine m_callS' hC hK hR (cM_in _ E A M1 x2 0 1000 h4) q1639 q_in (Nat.le_of_ble_eq_true rfl) (Nat.le_of_ble_eq_true rfl) rfl (Nat.le_of_ble_eq_true rfl) dX2_binds_18 ?_
    refine r_if_eq hC dX2_binds_21 (tgt := 37) (by decide) (fun c5 => ?_) (fun c5 => ?_)
    · have hf := dh_if hf c5
      refine r_iconst hC dX2_binds_37 ki_0 ?_
      exact m_zret hC dX2_binds_38 rfl rfl hf
    · have hf := dh_el hf c5
      refine r_aload_n hC dX2_binds_24 rfl (j := 0) rfl ?_
      refine r_iload_n hC dX2_binds_25 rfl (j := 1) rfl ?_
      refine r_iload_n hC dX2_binds_26 rfl (j := 2) rfl ?_
      obtain ⟨p6, h6, hf⟩ := dh_bd hf
      refine m_callV' hC hK hR (cM_bindsNow _ E A M1 x1 x2 h6) q1912 q_bindsNow (Nat.le_of_ble_eq_true rfl) (Nat.le_of_ble_eq_true rfl) rfl (Nat.le_of_ble_eq_true rfl) dX2_binds_27 ?_
      refine r_if_eq hC dX2_binds_30 (tgt := 37) (by decide) (fun c7 => ?_) (fun c7 => ?_)
      · have hf := dh_if hf c7
        refine r_iconst hC dX2_binds_37 ki_0 ?_
        exact m_zret hC dX2_binds_38 rfl rfl hf
      · have hf := dh_el hf c7
        refine r_iconst hC dX2_binds_33 ki_1 ?_
        refine r_goto hC dX2_binds_34 (tgt := 38) (by decide) ?_
        exact m_zret hC dX2_binds_38 rfl rfl hf
theorem cM_binds (l : Launch) (E : dm_E) (A : Nat → Prop) (M : dm_M) (x1 : Int32) (x2 : Int32) {p : Int32 × dm_M} (h : gM_binds M x1 x2 = some p) : dm_Met l yX2_binds cX2_binds 3 (some .boolean) 6 144 E A [.ref (dm_am E), .int x1, .int x2] M (some (.int p.1)) p.2 := by
  refine dh_met (by decide) (Nat.le_of_ble_eq_true rfl) (fun _ _ h => ⟨_, h.1⟩) (fun C hl hR hC hnm hK => ?_)
  exact wM_binds hC hK hR M x1 x2 h
theorem q_binds : dm_calV yX2_binds cX2_binds 3 (some .boolean) 2 := ⟨q1909, q1910, q1911, by decide +kernel⟩
/-! book(II)I -/
def gM_book (M : dm_M) (x1 : Int32) (x2 : Int32) : Option (Int32 × dm_M) :=
  (some (dm_set M 0 0 0)).bind fun M1 =>
  (gM_isPerson M1 x1).bind fun p2 =>
  if p2 = 0 then (
    some ((-1), M1))
  else
  (dm_rd M1 23 0).bind fun v4 =>
  if v4 = 60 then (
    some ((-1), M1))
  else
  if x2 = 0 then (
    some ((-1), M1))
  else
  (gM_in M1 x2 (-100000) 100000).bind fun p7 =>
  if p7 = 0 then (
    some ((-1), M1))
  else
  (dm_rd M1 23 0).bind fun v9 =>
  (dm_wr M1 23 0 (v9 + 1)).bind fun M10 =>
  (dm_rd M10 21 x1).bind fun v11 =>
  (dm_wr M10 21 x1 (v11 + x2)).bind fun M12 =>
  (dm_rd M12 21 x1).bind fun v13 =>
  (dm_rd M12 22 x1).bind fun v14 =>
  if v14 ≤ v13 then (
    (dm_rd M12 22 x1).bind fun v16 =>
    (dm_wr M12 22 x1 v16).bind fun M17 =>
    (dm_rd M17 22 x1).bind fun v18 =>
    some (-v18, M17))
  else
  (dm_rd M12 21 x1).bind fun v19 =>
  (dm_wr M12 22 x1 v19).bind fun M20 =>
  (dm_rd M20 22 x1).bind fun v21 =>
  some (-v21, M20)
theorem wM_book {C : dh_C} {A : Nat → Prop} {E : dm_E} (hC : dh_ok C cX2_book 3 RX2 (some .int)) (hK : dm_Kn E (dh_s C)) (hR : dh_R C = { frames := 2, cells := 0, slots := 0, locals := 43 }) {r : Int32} {M' : dm_M} (M : dm_M) (x1 : Int32) (x2 : Int32) (hf : gM_book M x1 x2 = some (r, M')) : dh_W C A (dm_P E A M) (dm_Q E A (some (.int r)) M') 0 0 0 0 0 [(0, .ref (dm_am E)), (1, .int x1), (2, .int x2)] [] := by
  unfold gM_book at hf
  refine r_aload_n hC dX2_book_0 rfl (j := 0) rfl ?_
  refine r_iconst hC dX2_book_1 ki_0 ?_
  obtain ⟨M1, h1, hf⟩ := dh_bd hf
  refine m_putI hC hK fi_0 dX2_book_2 h1 ?_
  refine r_aload_n hC dX2_book_5 rfl (j := 0) rfl ?_
  refine r_iload_n hC dX2_book_6 rfl (j := 1) rfl ?_
  obtain ⟨p2, h2, hf⟩ := dh_bd hf
  refine m_callV' hC hK hR (cM_isPerson _ E A M1 x1 h2) q1650 q_isPerson (Nat.le_of_ble_eq_true rfl) (Nat.le_of_ble_eq_true rfl) rfl (Nat.le_of_ble_eq_true rfl) dX2_book_7 ?_
  refine r_if_eq hC dX2_book_10 (tgt := 40) (by decide) (fun c3 => ?_) (fun c3 => ?_)
  · have hf := dh_if hf c3
    refine r_iconst hC dX2_book_40 ki_m1 ?_
    exact m_iret hC dX2_book_41 rfl hf
  · have hf := dh_el hf c3
    refine r_aload_n hC dX2_book_13 rfl (j := 0) rfl ?_
    refine m_getA hC hK fa_23 dX2_book_14 ?_
    refine r_iconst hC dX2_book_17 ki_0 ?_
    obtain ⟨v4, h4, hf⟩ := dh_bd hf
    refine m_iald hC hK kd_23 h4 dX2_book_18 ?_
    refine r_bipush hC dX2_book_19 kb_60 ?_
    refine r_icmp_eq hC dX2_book_21 (tgt := 40) (by decide) (fun c5 => ?_) (fun c5 => ?_)
    · have hf := dh_if hf c5
      refine r_iconst hC dX2_book_40 ki_m1 ?_
      exact m_iret hC dX2_book_41 rfl hf
    · have hf := dh_el hf c5
      refine r_iload_n hC dX2_book_24 rfl (j := 2) rfl ?_
      refine r_if_eq hC dX2_book_25 (tgt := 40) (by decide) (fun c6 => ?_) (fun c6 => ?_)
      · have hf := dh_if hf c6
        refine r_iconst hC dX2_book_40 ki_m1 ?_
        exact m_iret hC dX2_book_41 rfl hf
      · have hf := dh_el hf c6
        refine r_iload_n hC dX2_book_28 rfl (j := 2) rfl ?_
        refine r_ldcw hC q1963 dX2_book_29 ?_
        refine r_ldc hC q1654 dX2_book_32 ?_
        obtain ⟨p7, h7, hf⟩ := dh_bd hf
        refine m_callS' hC hK hR (cM_in _ E A M1 x2 (-100000) 100000 h7) q1639 q_in (Nat.le_of_ble_eq_true rfl) (Nat.le_of_ble_eq_true rfl) rfl (Nat.le_of_ble_eq_true rfl) dX2_book_34 ?_
        refine r_if_ne hC dX2_book_37 (tgt := 42) (by decide) (fun c8 => ?_) (fun c8 => ?_)
        · have hf := dh_el hf c8
          refine r_aload_n hC dX2_book_42 rfl (j := 0) rfl ?_
          refine m_getA hC hK fa_23 dX2_book_43 ?_
          refine r_iconst hC dX2_book_46 ki_0 ?_
          refine r_dup2_11 hC dX2_book_47 rfl rfl ?_
          obtain ⟨v9, h9, hf⟩ := dh_bd hf
          refine m_iald hC hK kd_23 h9 dX2_book_48 ?_
          refine r_iconst hC dX2_book_49 ki_1 ?_
          refine r_iadd hC dX2_book_50 ?_
          obtain ⟨M10, h10, hf⟩ := dh_bd hf
          refine m_iast hC hK kd_23 h10 dX2_book_51 ?_
          refine r_aload_n hC dX2_book_52 rfl (j := 0) rfl ?_
          refine m_getA hC hK fa_21 dX2_book_53 ?_
          refine r_iload_n hC dX2_book_56 rfl (j := 1) rfl ?_
          refine r_dup2_11 hC dX2_book_57 rfl rfl ?_
          obtain ⟨v11, h11, hf⟩ := dh_bd hf
          refine m_iald hC hK kd_21 h11 dX2_book_58 ?_
          refine r_iload_n hC dX2_book_59 rfl (j := 2) rfl ?_
          refine r_iadd hC dX2_book_60 ?_
          obtain ⟨M12, h12, hf⟩ := dh_bd hf
          refine m_iast hC hK kd_21 h12 dX2_book_61 ?_
          refine r_aload_n hC dX2_book_62 rfl (j := 0) rfl ?_
          refine m_getA hC hK fa_22 dX2_book_63 ?_
          refine r_iload_n hC dX2_book_66 rfl (j := 1) rfl ?_
          refine r_aload_n hC dX2_book_67 rfl (j := 0) rfl ?_
          refine m_getA hC hK fa_21 dX2_book_68 ?_
          refine r_iload_n hC dX2_book_71 rfl (j := 1) rfl ?_
          obtain ⟨v13, h13, hf⟩ := dh_bd hf
          refine m_iald hC hK kd_21 h13 dX2_book_72 ?_
          refine r_aload_n hC dX2_book_73 rfl (j := 0) rfl ?_
          refine m_getA hC hK fa_22 dX2_book_74 ?_
          refine r_iload_n hC dX2_book_77 rfl (j := 1) rfl ?_
          obtain ⟨v14, h14, hf⟩ := dh_bd hf
          refine m_iald hC hK kd_22 h14 dX2_book_78 ?_
          refine r_icmp_ge hC dX2_book_79 (tgt := 91) (by decide) (fun c15 => ?_) (fun c15 => ?_)
          · have hf := dh_if hf c15
            refine r_aload_n hC dX2_book_91 rfl (j := 0) rfl ?_
            refine m_getA hC hK fa_22 dX2_book_92 ?_
            refine r_iload_n hC dX2_book_95 rfl (j := 1) rfl ?_
            obtain ⟨v16, h16, hf⟩ := dh_bd hf
            refine m_iald hC hK kd_22 h16 dX2_book_96 ?_
            obtain ⟨M17, h17, hf⟩ := dh_bd hf
            refine m_iast hC hK kd_22 h17 dX2_book_97 ?_
            refine r_aload_n hC dX2_book_98 rfl (j := 0) rfl ?_
            refine m_getA hC hK fa_22 dX2_book_99 ?_
            refine r_iload_n hC dX2_book_102 rfl (j := 1) rfl ?_
            obtain ⟨v18, h18, hf⟩ := dh_bd hf
            refine m_iald hC hK kd_22 h18 dX2_book_103 ?_
            refine r_ineg hC dX2_book_104 ?_
            exact m_iret hC dX2_book_105 rfl hf
          · have hf := dh_el hf c15
            refine r_aload_n hC dX2_book_82 rfl (j := 0) rfl ?_
            refine m_getA hC hK fa_21 dX2_book_83 ?_
            refine r_iload_n hC dX2_book_86 rfl (j := 1) rfl ?_
            obtain ⟨v19, h19, hf⟩ := dh_bd hf
            refine m_iald hC hK kd_21 h19 dX2_book_87 ?_
            refine r_goto hC dX2_book_88 (tgt := 97) (by decide) ?_
            obtain ⟨M20, h20, hf⟩ := dh_bd hf
            refine m_iast hC hK kd_22 h20 dX2_book_97 ?_
            refine r_aload_n hC dX2_book_98 rfl (j := 0) rfl ?_
            refine m_getA hC hK fa_22 dX2_book_99 ?_
            refine r_iload_n hC dX2_book_102 rfl (j := 1) rfl ?_
            obtain ⟨v21, h21, hf⟩ := dh_bd hf
            refine m_iald hC hK kd_22 h21 dX2_book_103 ?_
            refine r_ineg hC dX2_book_104 ?_
            exact m_iret hC dX2_book_105 rfl hf
        · have hf := dh_if hf c8
          refine r_iconst hC dX2_book_40 ki_m1 ?_
          exact m_iret hC dX2_book_41 rfl hf
theorem cM_book (l : Launch) (E : dm_E) (A : Nat → Prop) (M : dm_M) (x1 : Int32) (x2 : Int32) {p : Int32 × dm_M} (h : gM_book M x1 x2 = some p) : dm_Met l yX2_book cX2_book 3 (some .int) 2 43 E A [.ref (dm_am E), .int x1, .int x2] M (some (.int p.1)) p.2 := by
  refine dh_met (by decide) (Nat.le_of_ble_eq_true rfl) (fun _ _ h => ⟨_, h.1⟩) (fun C hl hR hC hnm hK => ?_)
  exact wM_book hC hK hR M x1 x2 h
theorem q_book : dm_calV yX2_book cX2_book 3 (some .int) 2 := ⟨q1960, q1961, q1962, by decide +kernel⟩
/-! isLive(I)Z -/
def gM_isLive (M : dm_M) (x1 : Int32) : Option Int32 :=
  (gM_isDebt M x1).bind fun p1 =>
  if p1 = 0 then (
    some 0)
  else
  (dm_rd M 33 x1).bind fun v3 =>
  if v3 = 0 then (
    some 1)
  else
  some 0
theorem wM_isLive {C : dh_C} {A : Nat → Prop} {E : dm_E} (hC : dh_ok C cX2_isLive 2 RX2 (some .boolean)) (hK : dm_Kn E (dh_s C)) (hR : dh_R C = { frames := 2, cells := 0, slots := 0, locals := 43 }) {r : Int32} (M : dm_M) (x1 : Int32) (hf : gM_isLive M x1 = some r) : dh_W C A (dm_P E A M) (dm_Q E A (some (.int r)) M) 0 0 0 0 0 [(0, .ref (dm_am E)), (1, .int x1)] [] := by
  unfold gM_isLive at hf
  refine r_aload_n hC dX2_isLive_0 rfl (j := 0) rfl ?_
  refine r_iload_n hC dX2_isLive_1 rfl (j := 1) rfl ?_
  obtain ⟨p1, h1, hf⟩ := dh_bd hf
  refine m_callV' hC hK hR (cM_isDebt _ E A M x1 h1) q1663 q_isDebt (Nat.le_of_ble_eq_true rfl) (Nat.le_of_ble_eq_true rfl) rfl (Nat.le_of_ble_eq_true rfl) dX2_isLive_2 ?_
  refine r_if_eq hC dX2_isLive_5 (tgt := 21) (by decide) (fun c2 => ?_) (fun c2 => ?_)
  · have hf := dh_if hf c2
    refine r_iconst hC dX2_isLive_21 ki_0 ?_
    exact m_zret1 hC dX2_isLive_22 rfl rfl hf
  · have hf := dh_el hf c2
    refine r_aload_n hC dX2_isLive_8 rfl (j := 0) rfl ?_
    refine m_getA hC hK fa_33 dX2_isLive_9 ?_
    refine r_iload_n hC dX2_isLive_12 rfl (j := 1) rfl ?_
    obtain ⟨v3, h3, hf⟩ := dh_bd hf
    refine m_iald hC hK kd_33 h3 dX2_isLive_13 ?_
    refine r_if_ne hC dX2_isLive_14 (tgt := 21) (by decide) (fun c4 => ?_) (fun c4 => ?_)
    · have hf := dh_el hf c4
      refine r_iconst hC dX2_isLive_21 ki_0 ?_
      exact m_zret1 hC dX2_isLive_22 rfl rfl hf
    · have hf := dh_if hf c4
      refine r_iconst hC dX2_isLive_17 ki_1 ?_
      refine r_goto hC dX2_isLive_18 (tgt := 22) (by decide) ?_
      exact m_zret1 hC dX2_isLive_22 rfl rfl hf
theorem cM_isLive (l : Launch) (E : dm_E) (A : Nat → Prop) (M : dm_M) (x1 : Int32) {r : Int32} (h : gM_isLive M x1 = some r) : dm_Met l yX2_isLive cX2_isLive 2 (some .boolean) 2 43 E A [.ref (dm_am E), .int x1] M (some (.int r)) M := by
  refine dh_met (by decide) (Nat.le_of_ble_eq_true rfl) (fun _ _ h => ⟨_, h.1⟩) (fun C hl hR hC hnm hK => ?_)
  exact wM_isLive hC hK hR M x1 h
theorem q_isLive : dm_calV yX2_isLive cX2_isLive 2 (some .boolean) 1 := ⟨q1661, qs40, q1662, by decide +kernel⟩
/-! letGo()V -/
def gM_letGo_L16_F (k2 : (dm_M → Int32 → Option dm_M)) (k16 : (dm_M → Int32 → Int32 → Int32 → Option dm_M)) (M : dm_M) (x1 : Int32) (x2 : Int32) (x3 : Int32) : Option dm_M :=
  (dm_rd M 25 0).bind fun v3 =>
  if v3 ≤ x3 then (
    (dm_rd M 19 x1).bind fun v5 =>
    (dm_wr M 19 x1 (v5 &&& x2)).bind fun M6 =>
    k2 M6 (x1 + 1))
  else
  (dm_rd M 33 x3).bind fun v7 =>
  if v7 = 0 then (
    (dm_rd M 26 x3).bind fun v9 =>
    if v9 = x1 then (
      (dm_rd M 27 x3).bind fun v11 =>
      k16 M x1 (x2 ||| (1 <<< (v11 &&& 31))) (x3 + 1))
    else
    k16 M x1 (x2 ||| 0) (x3 + 1))
  else
  k16 M x1 (x2 ||| 0) (x3 + 1)
theorem wM_letGo_L16_F {C : dh_C} {A : Nat → Prop} {E : dm_E} (hC : dh_ok C cX2_letGo 4 RX2 none) (hK : dm_Kn E (dh_s C)) (hR : dh_R C = { frames := 0, cells := 0, slots := 0, locals := 0 }) {M' : dm_M} (k2 : (dm_M → Int32 → Option dm_M)) (hk2 : ∀ (M : dm_M) (x1 : Int32), k2 M x1 = some M' → dh_W C A (dm_P E A M) (dm_Q E A none M') 0 0 0 0 2 [(0, .ref (dm_am E)), (1, .int x1)] []) (k16 : (dm_M → Int32 → Int32 → Int32 → Option dm_M)) (hk16 : ∀ (M : dm_M) (x1 : Int32) (x2 : Int32) (x3 : Int32), k16 M x1 x2 x3 = some M' → dh_W C A (dm_P E A M) (dm_Q E A none M') 0 0 0 0 16 [(0, .ref (dm_am E)), (1, .int x1), (2, .int x2), (3, .int x3)] []) (M : dm_M) (x1 : Int32) (x2 : Int32) (x3 : Int32) (hf : gM_letGo_L16_F k2 k16 M x1 x2 x3 = some M') : dh_W C A (dm_P E A M) (dm_Q E A none M') 0 0 0 0 16 [(0, .ref (dm_am E)), (1, .int x1), (2, .int x2), (3, .int x3)] [] := by
  unfold gM_letGo_L16_F at hf
  refine r_iload_n hC dX2_letGo_16 rfl (j := 3) rfl ?_
  refine r_aload_n hC dX2_letGo_17 rfl (j := 0) rfl ?_
  refine m_getA hC hK fa_25 dX2_letGo_18 ?_
  refine r_iconst hC dX2_letGo_21 ki_0 ?_
  obtain ⟨v3, h3, hf⟩ := dh_bd hf
  refine m_iald hC hK kd_25 h3 dX2_letGo_22 ?_
  refine r_icmp_ge hC dX2_letGo_23 (tgt := 66) (by decide) (fun c4 => ?_) (fun c4 => ?_)
  · have hf := dh_if hf c4
    refine r_aload_n hC dX2_letGo_66 rfl (j := 0) rfl ?_
    refine m_getA hC hK fa_19 dX2_letGo_67 ?_
    refine r_iload_n hC dX2_letGo_70 rfl (j := 1) rfl ?_
    refine r_dup2_11 hC dX2_letGo_71 rfl rfl ?_
    obtain ⟨v5, h5, hf⟩ := dh_bd hf
    refine m_iald hC hK kd_19 h5 dX2_letGo_72 ?_
    refine r_iload_n hC dX2_letGo_73 rfl (j := 2) rfl ?_
    refine r_iand hC dX2_letGo_74 ?_
    obtain ⟨M6, h6, hf⟩ := dh_bd hf
    refine m_iast hC hK kd_19 h6 dX2_letGo_75 ?_
    refine r_iinc (lv' := [(1, .int (x1 + 1)), (0, .ref (dm_am E)), (2, .int x2), (3, .int x3)]) hC dX2_letGo_76 (j := 1) rfl (congrArg _ ki_1) (Nat.le_of_ble_eq_true rfl) rfl ?_
    refine r_goto hC dX2_letGo_79 (tgt := 2) (by decide) ?_
    exact r_sub [1, 0] rfl (hk2 M6 (x1 + 1) hf)
  · have hf := dh_el hf c4
    refine r_iload_n hC dX2_letGo_26 rfl (j := 2) rfl ?_
    refine r_aload_n hC dX2_letGo_27 rfl (j := 0) rfl ?_
    refine m_getA hC hK fa_33 dX2_letGo_28 ?_
    refine r_iload_n hC dX2_letGo_31 rfl (j := 3) rfl ?_
    obtain ⟨v7, h7, hf⟩ := dh_bd hf
    refine m_iald hC hK kd_33 h7 dX2_letGo_32 ?_
    refine r_if_ne hC dX2_letGo_33 (tgt := 57) (by decide) (fun c8 => ?_) (fun c8 => ?_)
    · have hf := dh_el hf c8
      refine r_iconst hC dX2_letGo_57 ki_0 ?_
      refine r_ior hC dX2_letGo_58 ?_
      refine r_istore_n (lv' := [(2, .int (x2 ||| 0)), (0, .ref (dm_am E)), (1, .int x1), (3, .int x3)]) hC dX2_letGo_59 rfl (Nat.le_of_ble_eq_true rfl) rfl ?_
      refine r_iinc (lv' := [(3, .int (x3 + 1)), (2, .int (x2 ||| 0)), (0, .ref (dm_am E)), (1, .int x1)]) hC dX2_letGo_60 (j := 3) rfl (congrArg _ ki_1) (Nat.le_of_ble_eq_true rfl) rfl ?_
      refine r_goto hC dX2_letGo_63 (tgt := 16) (by decide) ?_
      exact r_sub [2, 3, 1, 0] rfl (hk16 M x1 (x2 ||| 0) (x3 + 1) hf)
    · have hf := dh_if hf c8
      refine r_aload_n hC dX2_letGo_36 rfl (j := 0) rfl ?_
      refine m_getA hC hK fa_26 dX2_letGo_37 ?_
      refine r_iload_n hC dX2_letGo_40 rfl (j := 3) rfl ?_
      obtain ⟨v9, h9, hf⟩ := dh_bd hf
      refine m_iald hC hK kd_26 h9 dX2_letGo_41 ?_
      refine r_iload_n hC dX2_letGo_42 rfl (j := 1) rfl ?_
      refine r_icmp_ne hC dX2_letGo_43 (tgt := 57) (by decide) (fun c10 => ?_) (fun c10 => ?_)
      · have hf := dh_el hf c10
        refine r_iconst hC dX2_letGo_57 ki_0 ?_
        refine r_ior hC dX2_letGo_58 ?_
        refine r_istore_n (lv' := [(2, .int (x2 ||| 0)), (0, .ref (dm_am E)), (1, .int x1), (3, .int x3)]) hC dX2_letGo_59 rfl (Nat.le_of_ble_eq_true rfl) rfl ?_
        refine r_iinc (lv' := [(3, .int (x3 + 1)), (2, .int (x2 ||| 0)), (0, .ref (dm_am E)), (1, .int x1)]) hC dX2_letGo_60 (j := 3) rfl (congrArg _ ki_1) (Nat.le_of_ble_eq_true rfl) rfl ?_
        refine r_goto hC dX2_letGo_63 (tgt := 16) (by decide) ?_
        exact r_sub [2, 3, 1, 0] rfl (hk16 M x1 (x2 ||| 0) (x3 + 1) hf)
      · have hf := dh_if hf c10
        refine r_iconst hC dX2_letGo_46 ki_1 ?_
        refine r_aload_n hC dX2_letGo_47 rfl (j := 0) rfl ?_
        refine m_getA hC hK fa_27 dX2_letGo_48 ?_
        refine r_iload_n hC dX2_letGo_51 rfl (j := 3) rfl ?_
        obtain ⟨v11, h11, hf⟩ := dh_bd hf
        refine m_iald hC hK kd_27 h11 dX2_letGo_52 ?_
        refine r_ishl hC dX2_letGo_53 ?_
        refine r_goto hC dX2_letGo_54 (tgt := 58) (by decide) ?_
        refine r_ior hC dX2_letGo_58 ?_
        refine r_istore_n (lv' := [(2, .int (x2 ||| (1 <<< (v11 &&& 31)))), (0, .ref (dm_am E)), (1, .int x1), (3, .int x3)]) hC dX2_letGo_59 rfl (Nat.le_of_ble_eq_true rfl) rfl ?_
        refine r_iinc (lv' := [(3, .int (x3 + 1)), (2, .int (x2 ||| (1 <<< (v11 &&& 31)))), (0, .ref (dm_am E)), (1, .int x1)]) hC dX2_letGo_60 (j := 3) rfl (congrArg _ ki_1) (Nat.le_of_ble_eq_true rfl) rfl ?_
        refine r_goto hC dX2_letGo_63 (tgt := 16) (by decide) ?_
        exact r_sub [2, 3, 1, 0] rfl (hk16 M x1 (x2 ||| (1 <<< (v11 &&& 31))) (x3 + 1) hf)
def gM_letGo_L16 (k2 : (dm_M → Int32 → Option dm_M)) : Nat → dm_M → Int32 → Int32 → Int32 → Option dm_M
  | 0 => fun _ _ _ _ => none
  | n + 1 => gM_letGo_L16_F k2 (gM_letGo_L16 k2 n)
theorem wM_letGo_L16 {C : dh_C} {A : Nat → Prop} {E : dm_E} (hC : dh_ok C cX2_letGo 4 RX2 none) (hK : dm_Kn E (dh_s C)) (hR : dh_R C = { frames := 0, cells := 0, slots := 0, locals := 0 }) {M' : dm_M} (k2 : (dm_M → Int32 → Option dm_M)) (hk2 : ∀ (M : dm_M) (x1 : Int32), k2 M x1 = some M' → dh_W C A (dm_P E A M) (dm_Q E A none M') 0 0 0 0 2 [(0, .ref (dm_am E)), (1, .int x1)] []) : ∀ (n : Nat) (M : dm_M) (x1 : Int32) (x2 : Int32) (x3 : Int32) (_ : gM_letGo_L16 k2 n M x1 x2 x3 = some M'), dh_W C A (dm_P E A M) (dm_Q E A none M') 0 0 0 0 16 [(0, .ref (dm_am E)), (1, .int x1), (2, .int x2), (3, .int x3)] [] := by
  intro n
  induction n with
  | zero => intro M x1 x2 x3 hf; exact dh_no hf
  | succ n ih => intro M x1 x2 x3 hf; exact wM_letGo_L16_F hC hK hR k2 hk2 (gM_letGo_L16 k2 n) ih M x1 x2 x3 hf
def gM_letGo_L2_F (k2 : (dm_M → Int32 → Option dm_M)) (M : dm_M) (x1 : Int32) : Option dm_M :=
  (dm_rd M 8 0).bind fun v1 =>
  if v1 ≤ x1 then (
    some M)
  else
  gM_letGo_L16 k2 dh_fu M x1 0 0
theorem wM_letGo_L2_F {C : dh_C} {A : Nat → Prop} {E : dm_E} (hC : dh_ok C cX2_letGo 4 RX2 none) (hK : dm_Kn E (dh_s C)) (hR : dh_R C = { frames := 0, cells := 0, slots := 0, locals := 0 }) {M' : dm_M} (k2 : (dm_M → Int32 → Option dm_M)) (hk2 : ∀ (M : dm_M) (x1 : Int32), k2 M x1 = some M' → dh_W C A (dm_P E A M) (dm_Q E A none M') 0 0 0 0 2 [(0, .ref (dm_am E)), (1, .int x1)] []) (M : dm_M) (x1 : Int32) (hf : gM_letGo_L2_F k2 M x1 = some M') : dh_W C A (dm_P E A M) (dm_Q E A none M') 0 0 0 0 2 [(0, .ref (dm_am E)), (1, .int x1)] [] := by
  unfold gM_letGo_L2_F at hf
  refine r_iload_n hC dX2_letGo_2 rfl (j := 1) rfl ?_
  refine r_aload_n hC dX2_letGo_3 rfl (j := 0) rfl ?_
  refine m_getA hC hK fa_8 dX2_letGo_4 ?_
  refine r_iconst hC dX2_letGo_7 ki_0 ?_
  obtain ⟨v1, h1, hf⟩ := dh_bd hf
  refine m_iald hC hK kd_8 h1 dX2_letGo_8 ?_
  refine r_icmp_ge hC dX2_letGo_9 (tgt := 82) (by decide) (fun c2 => ?_) (fun c2 => ?_)
  · have hf := dh_if hf c2
    exact m_vret hC dX2_letGo_82 rfl hf
  · have hf := dh_el hf c2
    refine r_iconst hC dX2_letGo_12 ki_0 ?_
    refine r_istore_n (lv' := [(2, .int 0), (0, .ref (dm_am E)), (1, .int x1)]) hC dX2_letGo_13 rfl (Nat.le_of_ble_eq_true rfl) rfl ?_
    refine r_iconst hC dX2_letGo_14 ki_0 ?_
    refine r_istore_n (lv' := [(3, .int 0), (2, .int 0), (0, .ref (dm_am E)), (1, .int x1)]) hC dX2_letGo_15 rfl (Nat.le_of_ble_eq_true rfl) rfl ?_
    exact r_sub [2, 3, 1, 0] rfl (wM_letGo_L16 hC hK hR k2 hk2 dh_fu M x1 0 0 hf)
def gM_letGo_L2 : Nat → dm_M → Int32 → Option dm_M
  | 0 => fun _ _ => none
  | n + 1 => gM_letGo_L2_F (gM_letGo_L2 n)
theorem wM_letGo_L2 {C : dh_C} {A : Nat → Prop} {E : dm_E} (hC : dh_ok C cX2_letGo 4 RX2 none) (hK : dm_Kn E (dh_s C)) (hR : dh_R C = { frames := 0, cells := 0, slots := 0, locals := 0 }) {M' : dm_M} : ∀ (n : Nat) (M : dm_M) (x1 : Int32) (_ : gM_letGo_L2 n M x1 = some M'), dh_W C A (dm_P E A M) (dm_Q E A none M') 0 0 0 0 2 [(0, .ref (dm_am E)), (1, .int x1)] [] := by
  intro n
  induction n with
  | zero => intro M x1 hf; exact dh_no hf
  | succ n ih => intro M x1 hf; exact wM_letGo_L2_F hC hK hR (gM_letGo_L2 n) ih M x1 hf
def gM_letGo (M : dm_M) : Option dm_M :=
  gM_letGo_L2 dh_fu M 0
theorem wM_letGo {C : dh_C} {A : Nat → Prop} {E : dm_E} (hC : dh_ok C cX2_letGo 4 RX2 none) (hK : dm_Kn E (dh_s C)) (hR : dh_R C = { frames := 0, cells := 0, slots := 0, locals := 0 }) {M' : dm_M} (M : dm_M) (hf : gM_letGo M = some M') : dh_W C A (dm_P E A M) (dm_Q E A none M') 0 0 0 0 0 [(0, .ref (dm_am E))] [] := by
  unfold gM_letGo at hf
  refine r_iconst hC dX2_letGo_0 ki_0 ?_
  refine r_istore_n (lv' := [(1, .int 0), (0, .ref (dm_am E))]) hC dX2_letGo_1 rfl (Nat.le_of_ble_eq_true rfl) rfl ?_
  exact r_sub [1, 0] rfl (wM_letGo_L2 hC hK hR dh_fu M 0 hf)
theorem cM_letGo (l : Launch) (E : dm_E) (A : Nat → Prop) (M : dm_M) {M' : dm_M} (h : gM_letGo M = some M') : dm_Met l yX2_letGo cX2_letGo 4 none 0 0 E A [.ref (dm_am E)] M none M' := by
  refine dh_met (by decide) (Nat.le_of_ble_eq_true rfl) (fun _ _ h => ⟨_, h.1⟩) (fun C hl hR hC hnm hK => ?_)
  exact wM_letGo hC hK hR M h
theorem q_letGo : dm_calV yX2_letGo cX2_letGo 4 none 0 := ⟨q1690, qs46, q1691, by decide +kernel⟩
/-! buy(III)Z -/
def gM_buy (M : dm_M) (x1 : Int32) (x2 : Int32) (x3 : Int32) : Option (Int32 × dm_M) :=
  (some (dm_set M 0 0 0)).bind fun M1 =>
  (gM_isLive M1 x1).bind fun p2 =>
  if p2 = 0 then (
    some (0, M1))
  else
  (gM_isPerson M1 x2).bind fun p4 =>
  if p4 = 0 then (
    some (0, M1))
  else
  (dm_rd M1 26 x1).bind fun v6 =>
  if x2 = v6 then (
    some (0, M1))
  else
  (dm_rd M1 27 x1).bind fun v8 =>
  if x2 = v8 then (
    some (0, M1))
  else
  (gM_in M1 x3 0 100000).bind fun p10 =>
  if p10 = 0 then (
    some (0, M1))
  else
  (dm_rd M1 9 x2).bind fun v12 =>
  if ¬ (x3 ≤ v12) then (
    some (0, M1))
  else
  (dm_rd M1 9 x2).bind fun v14 =>
  (dm_wr M1 9 x2 (v14 - x3)).bind fun M15 =>
  (dm_rd M15 27 x1).bind fun v16 =>
  (dm_rd M15 9 v16).bind fun v17 =>
  (dm_wr M15 9 v16 (v17 + x3)).bind fun M18 =>
  (dm_wr M18 27 x1 x2).bind fun M19 =>
  (dm_wr M19 38 x1 (vp_nar .boolean 1)).bind fun M20 =>
  (gM_letGo M20).bind fun p21 =>
  some (1, p21)
theorem wM_buy {C : dh_C} {A : Nat → Prop} {E : dm_E} (hC : dh_ok C cX2_buy 4 RX2 (some .boolean)) (hK : dm_Kn E (dh_s C)) (hR : dh_R C = { frames := 3, cells := 0, slots := 0, locals := 64 }) {r : Int32} {M' : dm_M} (M : dm_M) (x1 : Int32) (x2 : Int32) (x3 : Int32) (hf : gM_buy M x1 x2 x3 = some (r, M')) : dh_W C A (dm_P E A M) (dm_Q E A (some (.int r)) M') 0 0 0 0 0 [(0, .ref (dm_am E)), (1, .int x1), (2, .int x2), (3, .int x3)] [] := by
  unfold gM_buy at hf
  refine r_aload_n hC dX2_buy_0 rfl (j := 0) rfl ?_
  refine r_iconst hC dX2_buy_1 ki_0 ?_
  obtain ⟨M1, h1, hf⟩ := dh_bd hf
  refine m_putI hC hK fi_0 dX2_buy_2 h1 ?_
  refine r_aload_n hC dX2_buy_5 rfl (j := 0) rfl ?_
  refine r_iload_n hC dX2_buy_6 rfl (j := 1) rfl ?_
  obtain ⟨p2, h2, hf⟩ := dh_bd hf
  refine m_callV' hC hK hR (cM_isLive _ E A M1 x1 h2) q1659 q_isLive (Nat.le_of_ble_eq_true rfl) (Nat.le_of_ble_eq_true rfl) rfl (Nat.le_of_ble_eq_true rfl) dX2_buy_7 ?_
  refine r_if_eq hC dX2_buy_10 (tgt := 61) (by decide) (fun c3 => ?_) (fun c3 => ?_)
  · have hf := dh_if hf c3
    refine r_iconst hC dX2_buy_61 ki_0 ?_
    exact m_zret hC dX2_buy_62 rfl rfl hf
  · have hf := dh_el hf c3
    refine r_aload_n hC dX2_buy_13 rfl (j := 0) rfl ?_
    refine r_iload_n hC dX2_buy_14 rfl (j := 2) rfl ?_
    obtain ⟨p4, h4, hf⟩ := dh_bd hf
    refine m_callV' hC hK hR (cM_isPerson _ E A M1 x2 h4) q1650 q_isPerson (Nat.le_of_ble_eq_true rfl) (Nat.le_of_ble_eq_true rfl) rfl (Nat.le_of_ble_eq_true rfl) dX2_buy_15 ?_
    refine r_if_eq hC dX2_buy_18 (tgt := 61) (by decide) (fun c5 => ?_) (fun c5 => ?_)
    · have hf := dh_if hf c5
      refine r_iconst hC dX2_buy_61 ki_0 ?_
      exact m_zret hC dX2_buy_62 rfl rfl hf
    · have hf := dh_el hf c5
      refine r_iload_n hC dX2_buy_21 rfl (j := 2) rfl ?_
      refine r_aload_n hC dX2_buy_22 rfl (j := 0) rfl ?_
      refine m_getA hC hK fa_26 dX2_buy_23 ?_
      refine r_iload_n hC dX2_buy_26 rfl (j := 1) rfl ?_
      obtain ⟨v6, h6, hf⟩ := dh_bd hf
      refine m_iald hC hK kd_26 h6 dX2_buy_27 ?_
      refine r_icmp_eq hC dX2_buy_28 (tgt := 61) (by decide) (fun c7 => ?_) (fun c7 => ?_)
      · have hf := dh_if hf c7
        refine r_iconst hC dX2_buy_61 ki_0 ?_
        exact m_zret hC dX2_buy_62 rfl rfl hf
      · have hf := dh_el hf c7
        refine r_iload_n hC dX2_buy_31 rfl (j := 2) rfl ?_
        refine r_aload_n hC dX2_buy_32 rfl (j := 0) rfl ?_
        refine m_getA hC hK fa_27 dX2_buy_33 ?_
        refine r_iload_n hC dX2_buy_36 rfl (j := 1) rfl ?_
        obtain ⟨v8, h8, hf⟩ := dh_bd hf
        refine m_iald hC hK kd_27 h8 dX2_buy_37 ?_
        refine r_icmp_eq hC dX2_buy_38 (tgt := 61) (by decide) (fun c9 => ?_) (fun c9 => ?_)
        · have hf := dh_if hf c9
          refine r_iconst hC dX2_buy_61 ki_0 ?_
          exact m_zret hC dX2_buy_62 rfl rfl hf
        · have hf := dh_el hf c9
          refine r_iload_n hC dX2_buy_41 rfl (j := 3) rfl ?_
          refine r_iconst hC dX2_buy_42 ki_0 ?_
          refine r_ldc hC q1654 dX2_buy_43 ?_
          obtain ⟨p10, h10, hf⟩ := dh_bd hf
          refine m_callS' hC hK hR (cM_in _ E A M1 x3 0 100000 h10) q1639 q_in (Nat.le_of_ble_eq_true rfl) (Nat.le_of_ble_eq_true rfl) rfl (Nat.le_of_ble_eq_true rfl) dX2_buy_45 ?_
          refine r_if_eq hC dX2_buy_48 (tgt := 61) (by decide) (fun c11 => ?_) (fun c11 => ?_)
          · have hf := dh_if hf c11
            refine r_iconst hC dX2_buy_61 ki_0 ?_
            exact m_zret hC dX2_buy_62 rfl rfl hf
          · have hf := dh_el hf c11
            refine r_iload_n hC dX2_buy_51 rfl (j := 3) rfl ?_
            refine r_aload_n hC dX2_buy_52 rfl (j := 0) rfl ?_
            refine m_getA hC hK fa_9 dX2_buy_53 ?_
            refine r_iload_n hC dX2_buy_56 rfl (j := 2) rfl ?_
            obtain ⟨v12, h12, hf⟩ := dh_bd hf
            refine m_iald hC hK kd_9 h12 dX2_buy_57 ?_
            refine r_icmp_le hC dX2_buy_58 (tgt := 63) (by decide) (fun c13 => ?_) (fun c13 => ?_)
            · have hf := dh_el hf (fun q => q c13)
              refine r_aload_n hC dX2_buy_63 rfl (j := 0) rfl ?_
              refine m_getA hC hK fa_9 dX2_buy_64 ?_
              refine r_iload_n hC dX2_buy_67 rfl (j := 2) rfl ?_
              refine r_dup2_11 hC dX2_buy_68 rfl rfl ?_
              obtain ⟨v14, h14, hf⟩ := dh_bd hf
              refine m_iald hC hK kd_9 h14 dX2_buy_69 ?_
              refine r_iload_n hC dX2_buy_70 rfl (j := 3) rfl ?_
              refine r_isub hC dX2_buy_71 ?_
              obtain ⟨M15, h15, hf⟩ := dh_bd hf
              refine m_iast hC hK kd_9 h15 dX2_buy_72 ?_
              refine r_aload_n hC dX2_buy_73 rfl (j := 0) rfl ?_
              refine m_getA hC hK fa_9 dX2_buy_74 ?_
              refine r_aload_n hC dX2_buy_77 rfl (j := 0) rfl ?_
              refine m_getA hC hK fa_27 dX2_buy_78 ?_
              refine r_iload_n hC dX2_buy_81 rfl (j := 1) rfl ?_
              obtain ⟨v16, h16, hf⟩ := dh_bd hf
              refine m_iald hC hK kd_27 h16 dX2_buy_82 ?_
              refine r_dup2_11 hC dX2_buy_83 rfl rfl ?_
              obtain ⟨v17, h17, hf⟩ := dh_bd hf
              refine m_iald hC hK kd_9 h17 dX2_buy_84 ?_
              refine r_iload_n hC dX2_buy_85 rfl (j := 3) rfl ?_
              refine r_iadd hC dX2_buy_86 ?_
              obtain ⟨M18, h18, hf⟩ := dh_bd hf
              refine m_iast hC hK kd_9 h18 dX2_buy_87 ?_
              refine r_aload_n hC dX2_buy_88 rfl (j := 0) rfl ?_
              refine m_getA hC hK fa_27 dX2_buy_89 ?_
              refine r_iload_n hC dX2_buy_92 rfl (j := 1) rfl ?_
              refine r_iload_n hC dX2_buy_93 rfl (j := 2) rfl ?_
              obtain ⟨M19, h19, hf⟩ := dh_bd hf
              refine m_iast hC hK kd_27 h19 dX2_buy_94 ?_
              refine r_aload_n hC dX2_buy_95 rfl (j := 0) rfl ?_
              refine m_getA hC hK fa_38 dX2_buy_96 ?_
              refine r_iload_n hC dX2_buy_99 rfl (j := 1) rfl ?_
              refine r_iconst hC dX2_buy_100 ki_1 ?_
              obtain ⟨M20, h20, hf⟩ := dh_bd hf
              refine m_zast hC hK kd_38 h20 dX2_buy_101 ?_
              refine r_aload_n hC dX2_buy_102 rfl (j := 0) rfl ?_
              obtain ⟨p21, h21, hf⟩ := dh_bd hf
              refine m_callV' hC hK hR (cM_letGo _ E A M20 h21) q1688 q_letGo (Nat.le_of_ble_eq_true rfl) (Nat.le_of_ble_eq_true rfl) rfl (Nat.le_of_ble_eq_true rfl) dX2_buy_103 ?_
              refine r_iconst hC dX2_buy_106 ki_1 ?_
              exact m_zret hC dX2_buy_107 rfl rfl hf
            · have hf := dh_if hf c13
              refine r_iconst hC dX2_buy_61 ki_0 ?_
              exact m_zret hC dX2_buy_62 rfl rfl hf
theorem cM_buy (l : Launch) (E : dm_E) (A : Nat → Prop) (M : dm_M) (x1 : Int32) (x2 : Int32) (x3 : Int32) {p : Int32 × dm_M} (h : gM_buy M x1 x2 x3 = some p) : dm_Met l yX2_buy cX2_buy 4 (some .boolean) 3 64 E A [.ref (dm_am E), .int x1, .int x2, .int x3] M (some (.int p.1)) p.2 := by
  refine dh_met (by decide) (Nat.le_of_ble_eq_true rfl) (fun _ _ h => ⟨_, h.1⟩) (fun C hl hR hC hnm hK => ?_)
  exact wM_buy hC hK hR M x1 x2 x3 h
theorem q_buy : dm_calV yX2_buy cX2_buy 4 (some .boolean) 3 := ⟨q1935, q1936, q1937, by decide +kernel⟩
/-! ends(II)V -/
def gM_ends (M : dm_M) (x1 : Int32) (x2 : Int32) : Option dm_M :=
  (dm_wr M 33 x1 x2).bind fun M1 =>
  (dm_rd M1 5 0).bind fun v2 =>
  (dm_wr M1 40 x1 v2).bind fun M3 =>
  some M3
theorem wM_ends {C : dh_C} {A : Nat → Prop} {E : dm_E} (hC : dh_ok C cX2_ends 3 RX2 none) (hK : dm_Kn E (dh_s C)) (hR : dh_R C = { frames := 0, cells := 0, slots := 0, locals := 0 }) {M' : dm_M} (M : dm_M) (x1 : Int32) (x2 : Int32) (hf : gM_ends M x1 x2 = some M') : dh_W C A (dm_P E A M) (dm_Q E A none M') 0 0 0 0 0 [(0, .ref (dm_am E)), (1, .int x1), (2, .int x2)] [] := by
  unfold gM_ends at hf
  refine r_aload_n hC dX2_ends_0 rfl (j := 0) rfl ?_
  refine m_getA hC hK fa_33 dX2_ends_1 ?_
  refine r_iload_n hC dX2_ends_4 rfl (j := 1) rfl ?_
  refine r_iload_n hC dX2_ends_5 rfl (j := 2) rfl ?_
  obtain ⟨M1, h1, hf⟩ := dh_bd hf
  refine m_iast hC hK kd_33 h1 dX2_ends_6 ?_
  refine r_aload_n hC dX2_ends_7 rfl (j := 0) rfl ?_
  refine m_getA hC hK fa_40 dX2_ends_8 ?_
  refine r_iload_n hC dX2_ends_11 rfl (j := 1) rfl ?_
  refine r_aload_n hC dX2_ends_12 rfl (j := 0) rfl ?_
  refine m_getA hC hK fa_5 dX2_ends_13 ?_
  refine r_iconst hC dX2_ends_16 ki_0 ?_
  obtain ⟨v2, h2, hf⟩ := dh_bd hf
  refine m_iald hC hK kd_5 h2 dX2_ends_17 ?_
  obtain ⟨M3, h3, hf⟩ := dh_bd hf
  refine m_iast hC hK kd_40 h3 dX2_ends_18 ?_
  exact m_vret hC dX2_ends_19 rfl hf
theorem cM_ends (l : Launch) (E : dm_E) (A : Nat → Prop) (M : dm_M) (x1 : Int32) (x2 : Int32) {M' : dm_M} (h : gM_ends M x1 x2 = some M') : dm_Met l yX2_ends cX2_ends 3 none 0 0 E A [.ref (dm_am E), .int x1, .int x2] M none M' := by
  refine dh_met (by decide) (Nat.le_of_ble_eq_true rfl) (fun _ _ h => ⟨_, h.1⟩) (fun C hl hR hC hnm hK => ?_)
  exact wM_ends hC hK hR M x1 x2 h
theorem q_ends : dm_calV yX2_ends cX2_ends 3 none 2 := ⟨q1686, qs45, q1687, by decide +kernel⟩
