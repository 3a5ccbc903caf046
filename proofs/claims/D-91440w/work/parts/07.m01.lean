set_option maxRecDepth 100000
/-! next()V -/
def gM_next_L168_F (k168 : (dm_M → Int32 → Option dm_M)) (M : dm_M) (x2 : Int32) : Option dm_M :=
  (gM_see M).bind fun p28 =>
  (gM_in M p28 48 57).bind fun p29 =>
  if p29 = 0 then (
    if x2 ≤ 5 then (
      (some (dm_set M 57 0 3)).bind fun M32 =>
      some M32)
    else
    (some (dm_set M 57 0 1)).bind fun M33 =>
    some M33)
  else
  if 5 ≤ x2 then (
    (some (dm_set M 58 0 (M.1 58 0))).bind fun M35 =>
    (some (dm_set M35 54 0 ((M35.1 54 0) + 1))).bind fun M36 =>
    k168 M36 (x2 + 1))
  else
  (gM_see M).bind fun p37 =>
  (some (dm_set M 58 0 (((10 * (M.1 58 0)) + p37) - 48))).bind fun M38 =>
  (some (dm_set M38 54 0 ((M38.1 54 0) + 1))).bind fun M39 =>
  k168 M39 (x2 + 1)
theorem wM_next_L168_F {C : dh_C} {A : Nat → Prop} {E : dm_E} (hC : dh_ok C cX2_next 3 RX2 none) (hK : dm_Kn E (dh_s C)) (hR : dh_R C = { frames := 1, cells := 0, slots := 0, locals := 22 }) {M' : dm_M} (k168 : (dm_M → Int32 → Option dm_M)) (hk168 : ∀ (M : dm_M) (x2 : Int32), k168 M x2 = some M' → dh_W C A (dm_P E A M) (dm_Q E A none M') 0 0 0 0 168 [(0, .ref (dm_am E)), (2, .int x2)] []) (M : dm_M) (x2 : Int32) (hf : gM_next_L168_F k168 M x2 = some M') : dh_W C A (dm_P E A M) (dm_Q E A none M') 0 0 0 0 168 [(0, .ref (dm_am E)), (2, .int x2)] [] := by
  unfold gM_next_L168_F at hf
  refine r_aload_n hC dX2_next_168 rfl (j := 0) rfl ?_
  obtain ⟨p28, h28, hf⟩ := dh_bd hf
  refine m_callV' hC hK hR (cM_see _ E A M h28) q1743 q_see (Nat.le_of_ble_eq_true rfl) (Nat.le_of_ble_eq_true rfl) rfl (Nat.le_of_ble_eq_true rfl) dX2_next_169 ?_
  refine r_bipush hC dX2_next_172 kb_48 ?_
  refine r_bipush hC dX2_next_174 kb_57 ?_
  obtain ⟨p29, h29, hf⟩ := dh_bd hf
  refine m_callS' hC hK hR (cM_in _ E A M p28 48 57 h29) q1639 q_in (Nat.le_of_ble_eq_true rfl) (Nat.le_of_ble_eq_true rfl) rfl (Nat.le_of_ble_eq_true rfl) dX2_next_176 ?_
  refine r_if_eq hC dX2_next_179 (tgt := 229) (by decide) (fun c30 => ?_) (fun c30 => ?_)
  · have hf := dh_if hf c30
    refine r_aload_n hC dX2_next_229 rfl (j := 0) rfl ?_
    refine r_iload_n hC dX2_next_230 rfl (j := 1) rfl ?_
    refine r_iconst hC dX2_next_231 ki_5 ?_
    refine r_icmp_le hC dX2_next_232 (tgt := 239) (by decide) (fun c31 => ?_) (fun c31 => ?_)
    · have hf := dh_if hf c31
      refine r_iconst hC dX2_next_239 ki_3 ?_
      obtain ⟨M32, h32, hf⟩ := dh_bd hf
      refine m_putI hC hK fi_57 dX2_next_240 h32 ?_
      refine r_goto hC dX2_next_243 (tgt := 295) (by decide) ?_
      exact m_vret hC dX2_next_295 rfl hf
    · have hf := dh_el hf c31
      refine r_iconst hC dX2_next_235 ki_1 ?_
      refine r_goto hC dX2_next_236 (tgt := 240) (by decide) ?_
      obtain ⟨M33, h33, hf⟩ := dh_bd hf
      refine m_putI hC hK fi_57 dX2_next_240 h33 ?_
      refine r_goto hC dX2_next_243 (tgt := 295) (by decide) ?_
      exact m_vret hC dX2_next_295 rfl hf
  · have hf := dh_el hf c30
    refine r_aload_n hC dX2_next_182 rfl (j := 0) rfl ?_
    refine r_iload_n hC dX2_next_183 rfl (j := 1) rfl ?_
    refine r_iconst hC dX2_next_184 ki_5 ?_
    refine r_icmp_ge hC dX2_next_185 (tgt := 206) (by decide) (fun c34 => ?_) (fun c34 => ?_)
    · have hf := dh_if hf c34
      refine r_aload_n hC dX2_next_206 rfl (j := 0) rfl ?_
      refine m_getI hC hK fi_58 dX2_next_207 ?_
      obtain ⟨M35, h35, hf⟩ := dh_bd hf
      refine m_putI hC hK fi_58 dX2_next_210 h35 ?_
      refine r_aload_n hC dX2_next_213 rfl (j := 0) rfl ?_
      refine r_dup hC dX2_next_214 rfl ?_
      refine m_getI hC hK fi_54 dX2_next_215 ?_
      refine r_iconst hC dX2_next_218 ki_1 ?_
      refine r_iadd hC dX2_next_219 ?_
      obtain ⟨M36, h36, hf⟩ := dh_bd hf
      refine m_putI hC hK fi_54 dX2_next_220 h36 ?_
      refine r_iinc (lv' := [(2, .int (x2 + 1)), (0, .ref (dm_am E))]) hC dX2_next_223 (j := 1) rfl (congrArg _ ki_1) (Nat.le_of_ble_eq_true rfl) rfl ?_
      refine r_goto hC dX2_next_226 (tgt := 168) (by decide) ?_
      exact r_sub [1, 0] rfl (hk168 M36 (x2 + 1) hf)
    · have hf := dh_el hf c34
      refine r_bipush hC dX2_next_188 kb_10 ?_
      refine r_aload_n hC dX2_next_190 rfl (j := 0) rfl ?_
      refine m_getI hC hK fi_58 dX2_next_191 ?_
      refine r_imul hC dX2_next_194 ?_
      refine r_aload_n hC dX2_next_195 rfl (j := 0) rfl ?_
      obtain ⟨p37, h37, hf⟩ := dh_bd hf
      refine m_callV' hC hK hR (cM_see _ E A M h37) q1743 q_see (Nat.le_of_ble_eq_true rfl) (Nat.le_of_ble_eq_true rfl) rfl (Nat.le_of_ble_eq_true rfl) dX2_next_196 ?_
      refine r_iadd hC dX2_next_199 ?_
      refine r_bipush hC dX2_next_200 kb_48 ?_
      refine r_isub hC dX2_next_202 ?_
      refine r_goto hC dX2_next_203 (tgt := 210) (by decide) ?_
      obtain ⟨M38, h38, hf⟩ := dh_bd hf
      refine m_putI hC hK fi_58 dX2_next_210 h38 ?_
      refine r_aload_n hC dX2_next_213 rfl (j := 0) rfl ?_
      refine r_dup hC dX2_next_214 rfl ?_
      refine m_getI hC hK fi_54 dX2_next_215 ?_
      refine r_iconst hC dX2_next_218 ki_1 ?_
      refine r_iadd hC dX2_next_219 ?_
      obtain ⟨M39, h39, hf⟩ := dh_bd hf
      refine m_putI hC hK fi_54 dX2_next_220 h39 ?_
      refine r_iinc (lv' := [(2, .int (x2 + 1)), (0, .ref (dm_am E))]) hC dX2_next_223 (j := 1) rfl (congrArg _ ki_1) (Nat.le_of_ble_eq_true rfl) rfl ?_
      refine r_goto hC dX2_next_226 (tgt := 168) (by decide) ?_
      exact r_sub [1, 0] rfl (hk168 M39 (x2 + 1) hf)
def gM_next_L168 : Nat → dm_M → Int32 → Option dm_M
  | 0 => fun _ _ => none
  | n + 1 => gM_next_L168_F (gM_next_L168 n)
theorem wM_next_L168 {C : dh_C} {A : Nat → Prop} {E : dm_E} (hC : dh_ok C cX2_next 3 RX2 none) (hK : dm_Kn E (dh_s C)) (hR : dh_R C = { frames := 1, cells := 0, slots := 0, locals := 22 }) {M' : dm_M} : ∀ (n : Nat) (M : dm_M) (x2 : Int32) (_ : gM_next_L168 n M x2 = some M'), dh_W C A (dm_P E A M) (dm_Q E A none M') 0 0 0 0 168 [(0, .ref (dm_am E)), (2, .int x2)] [] := by
  intro n
  induction n with
  | zero => intro M x2 hf; exact dh_no hf
  | succ n ih => intro M x2 hf; exact wM_next_L168_F hC hK hR (gM_next_L168 n) ih M x2 hf
def gM_next_L79_F (k79 : (dm_M → Int32 → Option dm_M)) (M : dm_M) (x2 : Int32) : Option dm_M :=
  (gM_see M).bind fun p40 =>
  (gM_in M p40 97 122).bind fun p41 =>
  if ¬ (p41 = 0) then (
    (gM_see M).bind fun p48 =>
    (some (dm_setL M 59 0 (((M.2 59 0) <<< (Int32.toInt64 8 &&& 63)) ||| (Int32.toInt64 p48)))).bind fun M49 =>
    (some (dm_set M49 54 0 ((M49.1 54 0) + 1))).bind fun M50 =>
    k79 M50 (x2 + 1))
  else
  if x2 ≤ 8 then (
    (some (dm_setL M 59 0 (M.2 59 0))).bind fun M44 =>
    (some (dm_set M44 57 0 2)).bind fun M45 =>
    some M45)
  else
  (some (dm_setL M 59 0 0)).bind fun M46 =>
  (some (dm_set M46 57 0 2)).bind fun M47 =>
  some M47
theorem wM_next_L79_F {C : dh_C} {A : Nat → Prop} {E : dm_E} (hC : dh_ok C cX2_next 3 RX2 none) (hK : dm_Kn E (dh_s C)) (hR : dh_R C = { frames := 1, cells := 0, slots := 0, locals := 22 }) {M' : dm_M} (k79 : (dm_M → Int32 → Option dm_M)) (hk79 : ∀ (M : dm_M) (x2 : Int32), k79 M x2 = some M' → dh_W C A (dm_P E A M) (dm_Q E A none M') 0 0 0 0 79 [(0, .ref (dm_am E)), (2, .int x2)] []) (M : dm_M) (x2 : Int32) (hf : gM_next_L79_F k79 M x2 = some M') : dh_W C A (dm_P E A M) (dm_Q E A none M') 0 0 0 0 79 [(0, .ref (dm_am E)), (2, .int x2)] [] := by
  unfold gM_next_L79_F at hf
  refine r_aload_n hC dX2_next_79 rfl (j := 0) rfl ?_
  obtain ⟨p40, h40, hf⟩ := dh_bd hf
  refine m_callV' hC hK hR (cM_see _ E A M h40) q1743 q_see (Nat.le_of_ble_eq_true rfl) (Nat.le_of_ble_eq_true rfl) rfl (Nat.le_of_ble_eq_true rfl) dX2_next_80 ?_
  refine r_bipush hC dX2_next_83 kb_97 ?_
  refine r_bipush hC dX2_next_85 kb_122 ?_
  obtain ⟨p41, h41, hf⟩ := dh_bd hf
  refine m_callS' hC hK hR (cM_in _ E A M p40 97 122 h41) q1639 q_in (Nat.le_of_ble_eq_true rfl) (Nat.le_of_ble_eq_true rfl) rfl (Nat.le_of_ble_eq_true rfl) dX2_next_87 ?_
  refine r_if_eq hC dX2_next_90 (tgt := 126) (by decide) (fun c42 => ?_) (fun c42 => ?_)
  · have hf := dh_el hf (fun q => q c42)
    refine r_aload_n hC dX2_next_126 rfl (j := 0) rfl ?_
    refine r_iload_n hC dX2_next_127 rfl (j := 1) rfl ?_
    refine r_bipush hC dX2_next_128 kb_8 ?_
    refine r_icmp_le hC dX2_next_130 (tgt := 137) (by decide) (fun c43 => ?_) (fun c43 => ?_)
    · have hf := dh_if hf c43
      refine r_aload_n hC dX2_next_137 rfl (j := 0) rfl ?_
      refine m_getL hC hK fj_59 dX2_next_138 ?_
      obtain ⟨M44, h44, hf⟩ := dh_bd hf
      refine m_putL hC hK fj_59 dX2_next_141 h44 ?_
      refine r_aload_n hC dX2_next_144 rfl (j := 0) rfl ?_
      refine r_iconst hC dX2_next_145 ki_2 ?_
      obtain ⟨M45, h45, hf⟩ := dh_bd hf
      refine m_putI hC hK fi_57 dX2_next_146 h45 ?_
      refine r_goto hC dX2_next_149 (tgt := 295) (by decide) ?_
      exact m_vret hC dX2_next_295 rfl hf
    · have hf := dh_el hf c43
      refine r_lconst hC dX2_next_133 kl_0 ?_
      refine r_goto hC dX2_next_134 (tgt := 141) (by decide) ?_
      obtain ⟨M46, h46, hf⟩ := dh_bd hf
      refine m_putL hC hK fj_59 dX2_next_141 h46 ?_
      refine r_aload_n hC dX2_next_144 rfl (j := 0) rfl ?_
      refine r_iconst hC dX2_next_145 ki_2 ?_
      obtain ⟨M47, h47, hf⟩ := dh_bd hf
      refine m_putI hC hK fi_57 dX2_next_146 h47 ?_
      refine r_goto hC dX2_next_149 (tgt := 295) (by decide) ?_
      exact m_vret hC dX2_next_295 rfl hf
  · have hf := dh_if hf c42
    refine r_aload_n hC dX2_next_93 rfl (j := 0) rfl ?_
    refine r_aload_n hC dX2_next_94 rfl (j := 0) rfl ?_
    refine m_getL hC hK fj_59 dX2_next_95 ?_
    refine r_bipush hC dX2_next_98 kb_8 ?_
    refine r_lshl hC dX2_next_100 ?_
    refine r_aload_n hC dX2_next_101 rfl (j := 0) rfl ?_
    obtain ⟨p48, h48, hf⟩ := dh_bd hf
    refine m_callV' hC hK hR (cM_see _ E A M h48) q1743 q_see (Nat.le_of_ble_eq_true rfl) (Nat.le_of_ble_eq_true rfl) rfl (Nat.le_of_ble_eq_true rfl) dX2_next_102 ?_
    refine r_i2l hC dX2_next_105 ?_
    refine r_lor hC dX2_next_106 ?_
    obtain ⟨M49, h49, hf⟩ := dh_bd hf
    refine m_putL hC hK fj_59 dX2_next_107 h49 ?_
    refine r_aload_n hC dX2_next_110 rfl (j := 0) rfl ?_
    refine r_dup hC dX2_next_111 rfl ?_
    refine m_getI hC hK fi_54 dX2_next_112 ?_
    refine r_iconst hC dX2_next_115 ki_1 ?_
    refine r_iadd hC dX2_next_116 ?_
    obtain ⟨M50, h50, hf⟩ := dh_bd hf
    refine m_putI hC hK fi_54 dX2_next_117 h50 ?_
    refine r_iinc (lv' := [(2, .int (x2 + 1)), (0, .ref (dm_am E))]) hC dX2_next_120 (j := 1) rfl (congrArg _ ki_1) (Nat.le_of_ble_eq_true rfl) rfl ?_
    refine r_goto hC dX2_next_123 (tgt := 79) (by decide) ?_
    exact r_sub [1, 0] rfl (hk79 M50 (x2 + 1) hf)
def gM_next_L79 : Nat → dm_M → Int32 → Option dm_M
  | 0 => fun _ _ => none
  | n + 1 => gM_next_L79_F (gM_next_L79 n)
theorem wM_next_L79 {C : dh_C} {A : Nat → Prop} {E : dm_E} (hC : dh_ok C cX2_next 3 RX2 none) (hK : dm_Kn E (dh_s C)) (hR : dh_R C = { frames := 1, cells := 0, slots := 0, locals := 22 }) {M' : dm_M} : ∀ (n : Nat) (M : dm_M) (x2 : Int32) (_ : gM_next_L79 n M x2 = some M'), dh_W C A (dm_P E A M) (dm_Q E A none M') 0 0 0 0 79 [(0, .ref (dm_am E)), (2, .int x2)] [] := by
  intro n
  induction n with
  | zero => intro M x2 hf; exact dh_no hf
  | succ n ih => intro M x2 hf; exact wM_next_L79_F hC hK hR (gM_next_L79 n) ih M x2 hf
def gM_next_L0_F (k0 : (dm_M → Option dm_M)) (M : dm_M) : Option dm_M :=
  (gM_see M).bind fun p1 =>
  if p1 = 10 then (
    (some (dm_set M 54 0 ((M.1 54 0) + 1))).bind fun M3 =>
    k0 M3)
  else
  (gM_see M).bind fun p4 =>
  if p4 = 32 then (
    (some (dm_set M 54 0 ((M.1 54 0) + 1))).bind fun M52 =>
    k0 M52)
  else
  (some (dm_set M 56 0 (M.1 54 0))).bind fun M6 =>
  (gM_see M6).bind fun p7 =>
  (some (dm_set M6 58 0 p7)).bind fun M8 =>
  (some (dm_setL M8 59 0 0)).bind fun M9 =>
  if ¬ (0 ≤ p7) then (
    (some (dm_set M9 57 0 0)).bind fun M51 =>
    some M51)
  else
  (gM_in M9 p7 97 122).bind fun p11 =>
  if ¬ (p11 = 0) then (
    gM_next_L79 dh_fu M9 0)
  else
  (gM_in M9 p7 48 57).bind fun p13 =>
  if ¬ (p13 = 0) then (
    (some (dm_set M9 58 0 0)).bind fun M27 =>
    gM_next_L168 dh_fu M27 0)
  else
  (some (dm_set M9 54 0 ((M9.1 54 0) + 1))).bind fun M15 =>
  if p7 = 58 then (
    (some (dm_set M15 57 0 4)).bind fun M17 =>
    some M17)
  else
  if p7 = 59 then (
    (some (dm_set M15 57 0 4)).bind fun M19 =>
    some M19)
  else
  if p7 = 60 then (
    (some (dm_set M15 57 0 4)).bind fun M21 =>
    some M21)
  else
  if p7 = 62 then (
    (some (dm_set M15 57 0 4)).bind fun M23 =>
    some M23)
  else
  if p7 = 61 then (
    (some (dm_set M15 57 0 4)).bind fun M26 =>
    some M26)
  else
  (some (dm_set M15 57 0 1)).bind fun M25 =>
  some M25
theorem wM_next_L0_F {C : dh_C} {A : Nat → Prop} {E : dm_E} (hC : dh_ok C cX2_next 3 RX2 none) (hK : dm_Kn E (dh_s C)) (hR : dh_R C = { frames := 1, cells := 0, slots := 0, locals := 22 }) {M' : dm_M} (k0 : (dm_M → Option dm_M)) (hk0 : ∀ (M : dm_M), k0 M = some M' → dh_W C A (dm_P E A M) (dm_Q E A none M') 0 0 0 0 0 [(0, .ref (dm_am E))] []) (M : dm_M) (hf : gM_next_L0_F k0 M = some M') : dh_W C A (dm_P E A M) (dm_Q E A none M') 0 0 0 0 0 [(0, .ref (dm_am E))] [] := by
  unfold gM_next_L0_F at hf
  refine r_aload_n hC dX2_next_0 rfl (j := 0) rfl ?_
  obtain ⟨p1, h1, hf⟩ := dh_bd hf
  refine m_callV' hC hK hR (cM_see _ E A M h1) q1743 q_see (Nat.le_of_ble_eq_true rfl) (Nat.le_of_ble_eq_true rfl) rfl (Nat.le_of_ble_eq_true rfl) dX2_next_1 ?_
  refine r_bipush hC dX2_next_4 kb_10 ?_
  refine r_icmp_eq hC dX2_next_6 (tgt := 18) (by decide) (fun c2 => ?_) (fun c2 => ?_)
  · have hf := dh_if hf c2
    refine r_aload_n hC dX2_next_18 rfl (j := 0) rfl ?_
    refine r_dup hC dX2_next_19 rfl ?_
    refine m_getI hC hK fi_54 dX2_next_20 ?_
    refine r_iconst hC dX2_next_23 ki_1 ?_
    refine r_iadd hC dX2_next_24 ?_
    obtain ⟨M3, h3, hf⟩ := dh_bd hf
    refine m_putI hC hK fi_54 dX2_next_25 h3 ?_
    refine r_goto hC dX2_next_28 (tgt := 0) (by decide) ?_
    exact r_sub [0] rfl (hk0 M3 hf)
  · have hf := dh_el hf c2
    refine r_aload_n hC dX2_next_9 rfl (j := 0) rfl ?_
    obtain ⟨p4, h4, hf⟩ := dh_bd hf
    refine m_callV' hC hK hR (cM_see _ E A M h4) q1743 q_see (Nat.le_of_ble_eq_true rfl) (Nat.le_of_ble_eq_true rfl) rfl (Nat.le_of_ble_eq_true rfl) dX2_next_10 ?_
    refine r_bipush hC dX2_next_13 kb_32 ?_
    refine r_icmp_ne hC dX2_next_15 (tgt := 31) (by decide) (fun c5 => ?_) (fun c5 => ?_)
    · have hf := dh_el hf c5
      refine r_aload_n hC dX2_next_31 rfl (j := 0) rfl ?_
      refine r_aload_n hC dX2_next_32 rfl (j := 0) rfl ?_
      refine m_getI hC hK fi_54 dX2_next_33 ?_
      obtain ⟨M6, h6, hf⟩ := dh_bd hf
      refine m_putI hC hK fi_56 dX2_next_36 h6 ?_
      refine r_aload_n hC dX2_next_39 rfl (j := 0) rfl ?_
      obtain ⟨p7, h7, hf⟩ := dh_bd hf
      refine m_callV' hC hK hR (cM_see _ E A M6 h7) q1743 q_see (Nat.le_of_ble_eq_true rfl) (Nat.le_of_ble_eq_true rfl) rfl (Nat.le_of_ble_eq_true rfl) dX2_next_40 ?_
      refine r_istore_n (lv' := [(1, .int p7), (0, .ref (dm_am E))]) hC dX2_next_43 rfl (Nat.le_of_ble_eq_true rfl) rfl ?_
      refine r_aload_n hC dX2_next_44 rfl (j := 1) rfl ?_
      refine r_iload_n hC dX2_next_45 rfl (j := 0) rfl ?_
      obtain ⟨M8, h8, hf⟩ := dh_bd hf
      refine m_putI hC hK fi_58 dX2_next_46 h8 ?_
      refine r_aload_n hC dX2_next_49 rfl (j := 1) rfl ?_
      refine r_lconst hC dX2_next_50 kl_0 ?_
      obtain ⟨M9, h9, hf⟩ := dh_bd hf
      refine m_putL hC hK fj_59 dX2_next_51 h9 ?_
      refine r_iconst hC dX2_next_54 ki_0 ?_
      refine r_istore_n (lv' := [(2, .int 0), (1, .int p7), (0, .ref (dm_am E))]) hC dX2_next_55 rfl (Nat.le_of_ble_eq_true rfl) rfl ?_
      refine r_iload_n hC dX2_next_56 rfl (j := 1) rfl ?_
      refine r_if_ge hC dX2_next_57 (tgt := 68) (by decide) (fun c10 => ?_) (fun c10 => ?_)
      · have hf := dh_el hf (fun q => q c10)
        refine r_iload_n hC dX2_next_68 rfl (j := 1) rfl ?_
        refine r_bipush hC dX2_next_69 kb_97 ?_
        refine r_bipush hC dX2_next_71 kb_122 ?_
        obtain ⟨p11, h11, hf⟩ := dh_bd hf
        refine m_callS' hC hK hR (cM_in _ E A M9 p7 97 122 h11) q1639 q_in (Nat.le_of_ble_eq_true rfl) (Nat.le_of_ble_eq_true rfl) rfl (Nat.le_of_ble_eq_true rfl) dX2_next_73 ?_
        refine r_if_eq hC dX2_next_76 (tgt := 152) (by decide) (fun c12 => ?_) (fun c12 => ?_)
        · have hf := dh_el hf (fun q => q c12)
          refine r_iload_n hC dX2_next_152 rfl (j := 1) rfl ?_
          refine r_bipush hC dX2_next_153 kb_48 ?_
          refine r_bipush hC dX2_next_155 kb_57 ?_
          obtain ⟨p13, h13, hf⟩ := dh_bd hf
          refine m_callS' hC hK hR (cM_in _ E A M9 p7 48 57 h13) q1639 q_in (Nat.le_of_ble_eq_true rfl) (Nat.le_of_ble_eq_true rfl) rfl (Nat.le_of_ble_eq_true rfl) dX2_next_157 ?_
          refine r_if_eq hC dX2_next_160 (tgt := 246) (by decide) (fun c14 => ?_) (fun c14 => ?_)
          · have hf := dh_el hf (fun q => q c14)
            refine r_aload_n hC dX2_next_246 rfl (j := 2) rfl ?_
            refine r_dup hC dX2_next_247 rfl ?_
            refine m_getI hC hK fi_54 dX2_next_248 ?_
            refine r_iconst hC dX2_next_251 ki_1 ?_
            refine r_iadd hC dX2_next_252 ?_
            obtain ⟨M15, h15, hf⟩ := dh_bd hf
            refine m_putI hC hK fi_54 dX2_next_253 h15 ?_
            refine r_aload_n hC dX2_next_256 rfl (j := 2) rfl ?_
            refine r_iload_n hC dX2_next_257 rfl (j := 1) rfl ?_
            refine r_bipush hC dX2_next_258 kb_58 ?_
            refine r_icmp_eq hC dX2_next_260 (tgt := 287) (by decide) (fun c16 => ?_) (fun c16 => ?_)
            · have hf := dh_if hf c16
              refine r_iconst hC dX2_next_287 ki_4 ?_
              refine r_goto hC dX2_next_288 (tgt := 292) (by decide) ?_
              obtain ⟨M17, h17, hf⟩ := dh_bd hf
              refine m_putI hC hK fi_57 dX2_next_292 h17 ?_
              exact m_vret hC dX2_next_295 rfl hf
            · have hf := dh_el hf c16
              refine r_iload_n hC dX2_next_263 rfl (j := 1) rfl ?_
              refine r_bipush hC dX2_next_264 kb_59 ?_
              refine r_icmp_eq hC dX2_next_266 (tgt := 287) (by decide) (fun c18 => ?_) (fun c18 => ?_)
              · have hf := dh_if hf c18
                refine r_iconst hC dX2_next_287 ki_4 ?_
                refine r_goto hC dX2_next_288 (tgt := 292) (by decide) ?_
                obtain ⟨M19, h19, hf⟩ := dh_bd hf
                refine m_putI hC hK fi_57 dX2_next_292 h19 ?_
                exact m_vret hC dX2_next_295 rfl hf
              · have hf := dh_el hf c18
                refine r_iload_n hC dX2_next_269 rfl (j := 1) rfl ?_
                refine r_bipush hC dX2_next_270 kb_60 ?_
                refine r_icmp_eq hC dX2_next_272 (tgt := 287) (by decide) (fun c20 => ?_) (fun c20 => ?_)
                · have hf := dh_if hf c20
                  refine r_iconst hC dX2_next_287 ki_4 ?_
                  refine r_goto hC dX2_next_288 (tgt := 292) (by decide) ?_
                  obtain ⟨M21, h21, hf⟩ := dh_bd hf
                  refine m_putI hC hK fi_57 dX2_next_292 h21 ?_
                  exact m_vret hC dX2_next_295 rfl hf
                · have hf := dh_el hf c20
                  refine r_iload_n hC dX2_next_275 rfl (j := 1) rfl ?_
                  refine r_bipush hC dX2_next_276 kb_62 ?_
                  refine r_icmp_eq hC dX2_next_278 (tgt := 287) (by decide) (fun c22 => ?_) (fun c22 => ?_)
                  · have hf := dh_if hf c22
                    refine r_iconst hC dX2_next_287 ki_4 ?_
                    refine r_goto hC dX2_next_288 (tgt := 292) (by decide) ?_
                    obtain ⟨M23, h23, hf⟩ := dh_bd hf
                    refine m_putI hC hK fi_57 dX2_next_292 h23 ?_
                    exact m_vret hC dX2_next_295 rfl hf
                  · have hf := dh_el hf c22
                    refine r_iload_n hC dX2_next_281 rfl (j := 1) rfl ?_
                    refine r_bipush hC dX2_next_282 kb_61 ?_
                    refine r_icmp_ne hC dX2_next_284 (tgt := 291) (by decide) (fun c24 => ?_) (fun c24 => ?_)
                    · have hf := dh_el hf c24
                      refine r_iconst hC dX2_next_291 ki_1 ?_
                      obtain ⟨M25, h25, hf⟩ := dh_bd hf
                      refine m_putI hC hK fi_57 dX2_next_292 h25 ?_
                      exact m_vret hC dX2_next_295 rfl hf
                    · have hf := dh_if hf c24
                      refine r_iconst hC dX2_next_287 ki_4 ?_
                      refine r_goto hC dX2_next_288 (tgt := 292) (by decide) ?_
                      obtain ⟨M26, h26, hf⟩ := dh_bd hf
                      refine m_putI hC hK fi_57 dX2_next_292 h26 ?_
                      exact m_vret hC dX2_next_295 rfl hf
          · have hf := dh_if hf c14
            refine r_aload_n hC dX2_next_163 rfl (j := 2) rfl ?_
            refine r_iconst hC dX2_next_164 ki_0 ?_
            obtain ⟨M27, h27, hf⟩ := dh_bd hf
            refine m_putI hC hK fi_58 dX2_next_165 h27 ?_
            exact r_sub [2, 0] rfl (wM_next_L168 hC hK hR dh_fu M27 0 hf)
        · have hf := dh_if hf c12
          exact r_sub [2, 0] rfl (wM_next_L79 hC hK hR dh_fu M9 0 hf)
      · have hf := dh_if hf c10
        refine r_aload_n hC dX2_next_60 rfl (j := 2) rfl ?_
        refine r_iconst hC dX2_next_61 ki_0 ?_
        obtain ⟨M51, h51, hf⟩ := dh_bd hf
        refine m_putI hC hK fi_57 dX2_next_62 h51 ?_
        refine r_goto hC dX2_next_65 (tgt := 295) (by decide) ?_
        exact m_vret hC dX2_next_295 rfl hf
    · have hf := dh_if hf c5
      refine r_aload_n hC dX2_next_18 rfl (j := 0) rfl ?_
      refine r_dup hC dX2_next_19 rfl ?_
      refine m_getI hC hK fi_54 dX2_next_20 ?_
      refine r_iconst hC dX2_next_23 ki_1 ?_
      refine r_iadd hC dX2_next_24 ?_
      obtain ⟨M52, h52, hf⟩ := dh_bd hf
      refine m_putI hC hK fi_54 dX2_next_25 h52 ?_
      refine r_goto hC dX2_next_28 (tgt := 0) (by decide) ?_
      exact r_sub [0] rfl (hk0 M52 hf)
def gM_next_L0 : Nat → dm_M → Option dm_M
  | 0 => fun _ => none
  | n + 1 => gM_next_L0_F (gM_next_L0 n)
theorem wM_next_L0 {C : dh_C} {A : Nat → Prop} {E : dm_E} (hC : dh_ok C cX2_next 3 RX2 none) (hK : dm_Kn E (dh_s C)) (hR : dh_R C = { frames := 1, cells := 0, slots := 0, locals := 22 }) {M' : dm_M} : ∀ (n : Nat) (M : dm_M) (_ : gM_next_L0 n M = some M'), dh_W C A (dm_P E A M) (dm_Q E A none M') 0 0 0 0 0 [(0, .ref (dm_am E))] [] := by
  intro n
  induction n with
  | zero => intro M  hf; exact dh_no hf
  | succ n ih => intro M  hf; exact wM_next_L0_F hC hK hR (gM_next_L0 n) ih M  hf
def gM_next (M : dm_M) : Option dm_M :=
  gM_next_L0 dh_fu M
theorem wM_next {C : dh_C} {A : Nat → Prop} {E : dm_E} (hC : dh_ok C cX2_next 3 RX2 none) (hK : dm_Kn E (dh_s C)) (hR : dh_R C = { frames := 1, cells := 0, slots := 0, locals := 22 }) {M' : dm_M} (M : dm_M) (hf : gM_next M = some M') : dh_W C A (dm_P E A M) (dm_Q E A none M') 0 0 0 0 0 [(0, .ref (dm_am E))] [] := by
  unfold gM_next at hf
  exact r_sub [0] rfl (wM_next_L0 hC hK hR dh_fu M hf)
theorem cM_next (l : Launch) (E : dm_E) (A : Nat → Prop) (M : dm_M) {M' : dm_M} (h : gM_next M = some M') : dm_Met l yX2_next cX2_next 3 none 1 22 E A [.ref (dm_am E)] M none M' := by
  refine dh_met (by decide) (Nat.le_of_ble_eq_true rfl) (fun _ _ h => ⟨_, h.1⟩) (fun C hl hR hC hnm hK => ?_)
  exact wM_next hC hK hR M h
theorem q_next : dm_calV yX2_next cX2_next 3 none 0 := ⟨q1741, qs51, q1742, by decide +kernel⟩
/-! later(II)V -/
def gM_later (M : dm_M) (x1 : Int32) (x2 : Int32) : Option dm_M :=
  if (M.1 61 0) = 0 then (
    (some (dm_set M 61 0 x1)).bind fun M2 =>
    (some (dm_set M2 62 0 x2)).bind fun M3 =>
    some M3)
  else
  some M
theorem wM_later {C : dh_C} {A : Nat → Prop} {E : dm_E} (hC : dh_ok C cX2_later 3 RX2 none) (hK : dm_Kn E (dh_s C)) (hR : dh_R C = { frames := 0, cells := 0, slots := 0, locals := 0 }) {M' : dm_M} (M : dm_M) (x1 : Int32) (x2 : Int32) (hf : gM_later M x1 x2 = some M') : dh_W C A (dm_P E A M) (dm_Q E A none M') 0 0 0 0 0 [(0, .ref (dm_am E)), (1, .int x1), (2, .int x2)] [] := by
  unfold gM_later at hf
  refine r_aload_n hC dX2_later_0 rfl (j := 0) rfl ?_
  refine m_getI hC hK fi_61 dX2_later_1 ?_
  refine r_if_ne hC dX2_later_4 (tgt := 17) (by decide) (fun c1 => ?_) (fun c1 => ?_)
  · have hf := dh_el hf c1
    exact m_vret hC dX2_later_17 rfl hf
  · have hf := dh_if hf c1
    refine r_aload_n hC dX2_later_7 rfl (j := 0) rfl ?_
    refine r_iload_n hC dX2_later_8 rfl (j := 1) rfl ?_
    obtain ⟨M2, h2, hf⟩ := dh_bd hf
    refine m_putI hC hK fi_61 dX2_later_9 h2 ?_
    refine r_aload_n hC dX2_later_12 rfl (j := 0) rfl ?_
    refine r_iload_n hC dX2_later_13 rfl (j := 2) rfl ?_
    obtain ⟨M3, h3, hf⟩ := dh_bd hf
    refine m_putI hC hK fi_62 dX2_later_14 h3 ?_
    exact m_vret hC dX2_later_17 rfl hf
theorem cM_later (l : Launch) (E : dm_E) (A : Nat → Prop) (M : dm_M) (x1 : Int32) (x2 : Int32) {M' : dm_M} (h : gM_later M x1 x2 = some M') : dm_Met l yX2_later cX2_later 3 none 0 0 E A [.ref (dm_am E), .int x1, .int x2] M none M' := by
  refine dh_met (by decide) (Nat.le_of_ble_eq_true rfl) (fun _ _ h => ⟨_, h.1⟩) (fun C hl hR hC hnm hK => ?_)
  exact wM_later hC hK hR M x1 x2 h
theorem q_later : dm_calV yX2_later cX2_later 3 none 2 := ⟨q1753, qs54, q1754, by decide +kernel⟩
/-! isWord(J)Z -/
def gM_isWord (M : dm_M) (x1 : Int64) : Option Int32 :=
  if (M.1 57 0) = 2 then (
    if (lg_cmp (M.2 59 0) x1) = 0 then (
      some 1)
    else
    some 0)
  else
  some 0
theorem wM_isWord {C : dh_C} {A : Nat → Prop} {E : dm_E} (hC : dh_ok C cX2_isWord 3 RX2 (some .boolean)) (hK : dm_Kn E (dh_s C)) (hR : dh_R C = { frames := 0, cells := 0, slots := 0, locals := 0 }) {r : Int32} (M : dm_M) (x1 : Int64) (hf : gM_isWord M x1 = some r) : dh_W C A (dm_P E A M) (dm_Q E A (some (.int r)) M) 0 0 0 0 0 [(0, .ref (dm_am E)), (1, .long x1)] [] := by
  unfold gM_isWord at hf
  refine r_aload_n hC dX2_isWord_0 rfl (j := 0) rfl ?_
  refine m_getI hC hK fi_57 dX2_isWord_1 ?_
  refine r_iconst hC dX2_isWord_4 ki_2 ?_
  refine r_icmp_ne hC dX2_isWord_5 (tgt := 21) (by decide) (fun c1 => ?_) (fun c1 => ?_)
  · have hf := dh_el hf c1
    refine r_iconst hC dX2_isWord_21 ki_0 ?_
    exact m_zret1 hC dX2_isWord_22 rfl rfl hf
  · have hf := dh_if hf c1
    refine r_aload_n hC dX2_isWord_8 rfl (j := 0) rfl ?_
    refine m_getL hC hK fj_59 dX2_isWord_9 ?_
    refine r_lload_n hC dX2_isWord_12 rfl (j := 1) rfl ?_
    refine r_lcmp hC dX2_isWord_13 ?_
    refine r_if_ne hC dX2_isWord_14 (tgt := 21) (by decide) (fun c2 => ?_) (fun c2 => ?_)
    · have hf := dh_el hf c2
      refine r_iconst hC dX2_isWord_21 ki_0 ?_
      exact m_zret1 hC dX2_isWord_22 rfl rfl hf
    · have hf := dh_if hf c2
      refine r_iconst hC dX2_isWord_17 ki_1 ?_
      refine r_goto hC dX2_isWord_18 (tgt := 22) (by decide) ?_
      exact m_zret1 hC dX2_isWord_22 rfl rfl hf
theorem cM_isWord (l : Launch) (E : dm_E) (A : Nat → Prop) (M : dm_M) (x1 : Int64) {r : Int32} (h : gM_isWord M x1 = some r) : dm_Met l yX2_isWord cX2_isWord 3 (some .boolean) 0 0 E A [.ref (dm_am E), .long x1] M (some (.int r)) M := by
  refine dh_met (by decide) (Nat.le_of_ble_eq_true rfl) (fun _ _ h => ⟨_, h.1⟩) (fun C hl hR hC hnm hK => ?_)
  exact wM_isWord hC hK hR M x1 h
theorem q_isWord : dm_calV yX2_isWord cX2_isWord 3 (some .boolean) 1 := ⟨q1762, qs56, q1763, by decide +kernel⟩
/-! topicWord()I -/
def gM_topicWord (M : dm_M) : Option Int32 :=
  (gM_isWord M 1751477348).bind fun p1 =>
  if ¬ (p1 = 0) then (
    some 0)
  else
  (gM_isWord M 435644822137).bind fun p3 =>
  if ¬ (p3 = 0) then (
    some 1)
  else
  (gM_isWord M 431131028601).bind fun p5 =>
  if ¬ (p5 = 0) then (
    some 2)
  else
  (gM_isWord M 2002873451).bind fun p7 =>
  if ¬ (p7 = 0) then (
    some 3)
  else
  (gM_isWord M 121450625394034).bind fun p9 =>
  if ¬ (p9 = 0) then (
    some 4)
  else
  (gM_isWord M 512970880104).bind fun p11 =>
  if ¬ (p11 = 0) then (
    some 5)
  else
  (gM_isWord M 422877685106).bind fun p13 =>
  if ¬ (p13 = 0) then (
    some 6)
  else
  (gM_isWord M 1801807216).bind fun p15 =>
  if ¬ (p15 = 0) then (
    some 7)
  else
  (gM_isWord M 478627065459).bind fun p17 =>
  if p17 = 0 then (
    some (-1))
  else
  some 8
theorem wM_topicWord {C : dh_C} {A : Nat → Prop} {E : dm_E} (hC : dh_ok C cX2_topicWord 1 RX2 (some .int)) (hK : dm_Kn E (dh_s C)) (hR : dh_R C = { frames := 1, cells := 0, slots := 0, locals := 22 }) {r : Int32} (M : dm_M) (hf : gM_topicWord M = some r) : dh_W C A (dm_P E A M) (dm_Q E A (some (.int r)) M) 0 0 0 0 0 [(0, .ref (dm_am E))] [] := by
  unfold gM_topicWord at hf
  refine r_aload_n hC dX2_topicWord_0 rfl (j := 0) rfl ?_
  refine r_ldc2 hC q1759 dX2_topicWord_1 ?_
  obtain ⟨p1, h1, hf⟩ := dh_bd hf
  refine m_callV' hC hK hR (cM_isWord _ E A M 1751477348 h1) q1760 q_isWord (Nat.le_of_ble_eq_true rfl) (Nat.le_of_ble_eq_true rfl) rfl (Nat.le_of_ble_eq_true rfl) dX2_topicWord_4 ?_
  refine r_if_eq hC dX2_topicWord_7 (tgt := 14) (by decide) (fun c2 => ?_) (fun c2 => ?_)
  · have hf := dh_el hf (fun q => q c2)
    refine r_aload_n hC dX2_topicWord_14 rfl (j := 0) rfl ?_
    refine r_ldc2 hC q1764 dX2_topicWord_15 ?_
    obtain ⟨p3, h3, hf⟩ := dh_bd hf
    refine m_callV' hC hK hR (cM_isWord _ E A M 435644822137 h3) q1760 q_isWord (Nat.le_of_ble_eq_true rfl) (Nat.le_of_ble_eq_true rfl) rfl (Nat.le_of_ble_eq_true rfl) dX2_topicWord_18 ?_
    refine r_if_eq hC dX2_topicWord_21 (tgt := 28) (by decide) (fun c4 => ?_) (fun c4 => ?_)
    · have hf := dh_el hf (fun q => q c4)
      refine r_aload_n hC dX2_topicWord_28 rfl (j := 0) rfl ?_
      refine r_ldc2 hC q1765 dX2_topicWord_29 ?_
      obtain ⟨p5, h5, hf⟩ := dh_bd hf
      refine m_callV' hC hK hR (cM_isWord _ E A M 431131028601 h5) q1760 q_isWord (Nat.le_of_ble_eq_true rfl) (Nat.le_of_ble_eq_true rfl) rfl (Nat.le_of_ble_eq_true rfl) dX2_topicWord_32 ?_
      refine r_if_eq hC dX2_topicWord_35 (tgt := 42) (by decide) (fun c6 => ?_) (fun c6 => ?_)
      · have hf := dh_el hf (fun q => q c6)
        refine r_aload_n hC dX2_topicWord_42 rfl (j := 0) rfl ?_
        refine r_ldc2 hC q1766 dX2_topicWord_43 ?_
        obtain ⟨p7, h7, hf⟩ := dh_bd hf
        refine m_callV' hC hK hR (cM_isWord _ E A M 2002873451 h7) q1760 q_isWord (Nat.le_of_ble_eq_true rfl) (Nat.le_of_ble_eq_true rfl) rfl (Nat.le_of_ble_eq_true rfl) dX2_topicWord_46 ?_
        refine r_if_eq hC dX2_topicWord_49 (tgt := 56) (by decide) (fun c8 => ?_) (fun c8 => ?_)
        · have hf := dh_el hf (fun q => q c8)
          refine r_aload_n hC dX2_topicWord_56 rfl (j := 0) rfl ?_
          refine r_ldc2 hC q1767 dX2_topicWord_57 ?_
          obtain ⟨p9, h9, hf⟩ := dh_bd hf
          refine m_callV' hC hK hR (cM_isWord _ E A M 121450625394034 h9) q1760 q_isWord (Nat.le_of_ble_eq_true rfl) (Nat.le_of_ble_eq_true rfl) rfl (Nat.le_of_ble_eq_true rfl) dX2_topicWord_60 ?_
          refine r_if_eq hC dX2_topicWord_63 (tgt := 70) (by decide) (fun c10 => ?_) (fun c10 => ?_)
          · have hf := dh_el hf (fun q => q c10)
            refine r_aload_n hC dX2_topicWord_70 rfl (j := 0) rfl ?_
            refine r_ldc2 hC q1768 dX2_topicWord_71 ?_
            obtain ⟨p11, h11, hf⟩ := dh_bd hf
            refine m_callV' hC hK hR (cM_isWord _ E A M 512970880104 h11) q1760 q_isWord (Nat.le_of_ble_eq_true rfl) (Nat.le_of_ble_eq_true rfl) rfl (Nat.le_of_ble_eq_true rfl) dX2_topicWord_74 ?_
            refine r_if_eq hC dX2_topicWord_77 (tgt := 84) (by decide) (fun c12 => ?_) (fun c12 => ?_)
            · have hf := dh_el hf (fun q => q c12)
              refine r_aload_n hC dX2_topicWord_84 rfl (j := 0) rfl ?_
              refine r_ldc2 hC q1769 dX2_topicWord_85 ?_
              obtain ⟨p13, h13, hf⟩ := dh_bd hf
              refine m_callV' hC hK hR (cM_isWord _ E A M 422877685106 h13) q1760 q_isWord (Nat.le_of_ble_eq_true rfl) (Nat.le_of_ble_eq_true rfl) rfl (Nat.le_of_ble_eq_true rfl) dX2_topicWord_88 ?_
              refine r_if_eq hC dX2_topicWord_91 (tgt := 99) (by decide) (fun c14 => ?_) (fun c14 => ?_)
              · have hf := dh_el hf (fun q => q c14)
                refine r_aload_n hC dX2_topicWord_99 rfl (j := 0) rfl ?_
                refine r_ldc2 hC q1770 dX2_topicWord_100 ?_
                obtain ⟨p15, h15, hf⟩ := dh_bd hf
                refine m_callV' hC hK hR (cM_isWord _ E A M 1801807216 h15) q1760 q_isWord (Nat.le_of_ble_eq_true rfl) (Nat.le_of_ble_eq_true rfl) rfl (Nat.le_of_ble_eq_true rfl) dX2_topicWord_103 ?_
                refine r_if_eq hC dX2_topicWord_106 (tgt := 114) (by decide) (fun c16 => ?_) (fun c16 => ?_)
                · have hf := dh_el hf (fun q => q c16)
                  refine r_aload_n hC dX2_topicWord_114 rfl (j := 0) rfl ?_
                  refine r_ldc2 hC q1771 dX2_topicWord_115 ?_
                  obtain ⟨p17, h17, hf⟩ := dh_bd hf
                  refine m_callV' hC hK hR (cM_isWord _ E A M 478627065459 h17) q1760 q_isWord (Nat.le_of_ble_eq_true rfl) (Nat.le_of_ble_eq_true rfl) rfl (Nat.le_of_ble_eq_true rfl) dX2_topicWord_118 ?_
                  refine r_if_eq hC dX2_topicWord_121 (tgt := 129) (by decide) (fun c18 => ?_) (fun c18 => ?_)
                  · have hf := dh_if hf c18
                    refine r_iconst hC dX2_topicWord_129 ki_m1 ?_
                    exact m_iret1 hC dX2_topicWord_130 rfl hf
                  · have hf := dh_el hf c18
                    refine r_bipush hC dX2_topicWord_124 kb_8 ?_
                    refine r_goto hC dX2_topicWord_126 (tgt := 130) (by decide) ?_
                    exact m_iret1 hC dX2_topicWord_130 rfl hf
                · have hf := dh_if hf c16
                  refine r_bipush hC dX2_topicWord_109 kb_7 ?_
                  refine r_goto hC dX2_topicWord_111 (tgt := 130) (by decide) ?_
                  exact m_iret1 hC dX2_topicWord_130 rfl hf
              · have hf := dh_if hf c14
                refine r_bipush hC dX2_topicWord_94 kb_6 ?_
                refine r_goto hC dX2_topicWord_96 (tgt := 130) (by decide) ?_
                exact m_iret1 hC dX2_topicWord_130 rfl hf
            · have hf := dh_if hf c12
              refine r_iconst hC dX2_topicWord_80 ki_5 ?_
              refine r_goto hC dX2_topicWord_81 (tgt := 130) (by decide) ?_
              exact m_iret1 hC dX2_topicWord_130 rfl hf
          · have hf := dh_if hf c10
            refine r_iconst hC dX2_topicWord_66 ki_4 ?_
            refine r_goto hC dX2_topicWord_67 (tgt := 130) (by decide) ?_
            exact m_iret1 hC dX2_topicWord_130 rfl hf
        · have hf := dh_if hf c8
          refine r_iconst hC dX2_topicWord_52 ki_3 ?_
          refine r_goto hC dX2_topicWord_53 (tgt := 130) (by decide) ?_
          exact m_iret1 hC dX2_topicWord_130 rfl hf
      · have hf := dh_if hf c6
        refine r_iconst hC dX2_topicWord_38 ki_2 ?_
        refine r_goto hC dX2_topicWord_39 (tgt := 130) (by decide) ?_
        exact m_iret1 hC dX2_topicWord_130 rfl hf
    · have hf := dh_if hf c4
      refine r_iconst hC dX2_topicWord_24 ki_1 ?_
      refine r_goto hC dX2_topicWord_25 (tgt := 130) (by decide) ?_
      exact m_iret1 hC dX2_topicWord_130 rfl hf
  · have hf := dh_if hf c2
    refine r_iconst hC dX2_topicWord_10 ki_0 ?_
    refine r_goto hC dX2_topicWord_11 (tgt := 130) (by decide) ?_
    exact m_iret1 hC dX2_topicWord_130 rfl hf
theorem cM_topicWord (l : Launch) (E : dm_E) (A : Nat → Prop) (M : dm_M) {r : Int32} (h : gM_topicWord M = some r) : dm_Met l yX2_topicWord cX2_topicWord 1 (some .int) 1 22 E A [.ref (dm_am E)] M (some (.int r)) M := by
  refine dh_met (by decide) (Nat.le_of_ble_eq_true rfl) (fun _ _ h => ⟨_, h.1⟩) (fun C hl hR hC hnm hK => ?_)
  exact wM_topicWord hC hK hR M h
theorem q_topicWord : dm_calV yX2_topicWord cX2_topicWord 1 (some .int) 0 := ⟨q1757, qs55, q1758, by decide +kernel⟩
/-! wrong()Z -/
def gM_wrong (M : dm_M) : Option (Int32 × dm_M) :=
  (some (dm_set M 60 0 (M.1 56 0))).bind fun M1 =>
  some (0, M1)
theorem wM_wrong {C : dh_C} {A : Nat → Prop} {E : dm_E} (hC : dh_ok C cX2_wrong 1 RX2 (some .boolean)) (hK : dm_Kn E (dh_s C)) (hR : dh_R C = { frames := 0, cells := 0, slots := 0, locals := 0 }) {r : Int32} {M' : dm_M} (M : dm_M) (hf : gM_wrong M = some (r, M')) : dh_W C A (dm_P E A M) (dm_Q E A (some (.int r)) M') 0 0 0 0 0 [(0, .ref (dm_am E))] [] := by
  unfold gM_wrong at hf
  refine r_aload_n hC dX2_wrong_0 rfl (j := 0) rfl ?_
  refine r_aload_n hC dX2_wrong_1 rfl (j := 0) rfl ?_
  refine m_getI hC hK fi_56 dX2_wrong_2 ?_
  obtain ⟨M1, h1, hf⟩ := dh_bd hf
  refine m_putI hC hK fi_60 dX2_wrong_5 h1 ?_
  refine r_iconst hC dX2_wrong_8 ki_0 ?_
  exact m_zret hC dX2_wrong_9 rfl rfl hf
theorem cM_wrong (l : Launch) (E : dm_E) (A : Nat → Prop) (M : dm_M) {p : Int32 × dm_M} (h : gM_wrong M = some p) : dm_Met l yX2_wrong cX2_wrong 1 (some .boolean) 0 0 E A [.ref (dm_am E)] M (some (.int p.1)) p.2 := by
  refine dh_met (by decide) (Nat.le_of_ble_eq_true rfl) (fun _ _ h => ⟨_, h.1⟩) (fun C hl hR hC hnm hK => ?_)
  exact wM_wrong hC hK hR M h
theorem q_wrong : dm_calV yX2_wrong cX2_wrong 1 (some .boolean) 0 := ⟨q1774, qs57, q1775, by decide +kernel⟩
/-! testWord()I -/
def gM_testWord (M : dm_M) : Option Int32 :=
  (gM_isWord M 7566701).bind fun p1 =>
  if ¬ (p1 = 0) then (
    some 0)
  else
  (gM_isWord M 431197680755).bind fun p3 =>
  if ¬ (p3 = 0) then (
    some 1)
  else
  (gM_isWord M 1918987883).bind fun p5 =>
  if ¬ (p5 = 0) then (
    some 2)
  else
  (gM_isWord M 1684109683).bind fun p7 =>
  if ¬ (p7 = 0) then (
    some 3)
  else
  (gM_isWord M 7163091121595377006).bind fun p9 =>
  if ¬ (p9 = 0) then (
    some 4)
  else
  (gM_isWord M 1919905645).bind fun p11 =>
  if ¬ (p11 = 0) then (
    some 5)
  else
  (gM_isWord M 1752135026).bind fun p13 =>
  if ¬ (p13 = 0) then (
    some 6)
  else
  (gM_isWord M 427070942835).bind fun p15 =>
  if p15 = 0 then (
    some (-1))
  else
  some 7
theorem wM_testWord {C : dh_C} {A : Nat → Prop} {E : dm_E} (hC : dh_ok C cX2_testWord 1 RX2 (some .int)) (hK : dm_Kn E (dh_s C)) (hR : dh_R C = { frames := 1, cells := 0, slots := 0, locals := 22 }) {r : Int32} (M : dm_M) (hf : gM_testWord M = some r) : dh_W C A (dm_P E A M) (dm_Q E A (some (.int r)) M) 0 0 0 0 0 [(0, .ref (dm_am E))] [] := by
  unfold gM_testWord at hf
  refine r_aload_n hC dX2_testWord_0 rfl (j := 0) rfl ?_
  refine r_ldc2 hC q1786 dX2_testWord_1 ?_
  obtain ⟨p1, h1, hf⟩ := dh_bd hf
  refine m_callV' hC hK hR (cM_isWord _ E A M 7566701 h1) q1760 q_isWord (Nat.le_of_ble_eq_true rfl) (Nat.le_of_ble_eq_true rfl) rfl (Nat.le_of_ble_eq_true rfl) dX2_testWord_4 ?_
  refine r_if_eq hC dX2_testWord_7 (tgt := 14) (by decide) (fun c2 => ?_) (fun c2 => ?_)
  · have hf := dh_el hf (fun q => q c2)
    refine r_aload_n hC dX2_testWord_14 rfl (j := 0) rfl ?_
    refine r_ldc2 hC q1787 dX2_testWord_15 ?_
    obtain ⟨p3, h3, hf⟩ := dh_bd hf
    refine m_callV' hC hK hR (cM_isWord _ E A M 431197680755 h3) q1760 q_isWord (Nat.le_of_ble_eq_true rfl) (Nat.le_of_ble_eq_true rfl) rfl (Nat.le_of_ble_eq_true rfl) dX2_testWord_18 ?_
    refine r_if_eq hC dX2_testWord_21 (tgt := 28) (by decide) (fun c4 => ?_) (fun c4 => ?_)
    · have hf := dh_el hf (fun q => q c4)
      refine r_aload_n hC dX2_testWord_28 rfl (j := 0) rfl ?_
      refine r_ldc2 hC q1788 dX2_testWord_29 ?_
      obtain ⟨p5, h5, hf⟩ := dh_bd hf
      refine m_callV' hC hK hR (cM_isWord _ E A M 1918987883 h5) q1760 q_isWord (Nat.le_of_ble_eq_true rfl) (Nat.le_of_ble_eq_true rfl) rfl (Nat.le_of_ble_eq_true rfl) dX2_testWord_32 ?_
      refine r_if_eq hC dX2_testWord_35 (tgt := 42) (by decide) (fun c6 => ?_) (fun c6 => ?_)
      · have hf := dh_el hf (fun q => q c6)
        refine r_aload_n hC dX2_testWord_42 rfl (j := 0) rfl ?_
        refine r_ldc2 hC q1789 dX2_testWord_43 ?_
        obtain ⟨p7, h7, hf⟩ := dh_bd hf
        refine m_callV' hC hK hR (cM_isWord _ E A M 1684109683 h7) q1760 q_isWord (Nat.le_of_ble_eq_true rfl) (Nat.le_of_ble_eq_true rfl) rfl (Nat.le_of_ble_eq_true rfl) dX2_testWord_46 ?_
        refine r_if_eq hC dX2_testWord_49 (tgt := 56) (by decide) (fun c8 => ?_) (fun c8 => ?_)
        · have hf := dh_el hf (fun q => q c8)
          refine r_aload_n hC dX2_testWord_56 rfl (j := 0) rfl ?_
          refine r_ldc2 hC q1790 dX2_testWord_57 ?_
          obtain ⟨p9, h9, hf⟩ := dh_bd hf
          refine m_callV' hC hK hR (cM_isWord _ E A M 7163091121595377006 h9) q1760 q_isWord (Nat.le_of_ble_eq_true rfl) (Nat.le_of_ble_eq_true rfl) rfl (Nat.le_of_ble_eq_true rfl) dX2_testWord_60 ?_
          refine r_if_eq hC dX2_testWord_63 (tgt := 70) (by decide) (fun c10 => ?_) (fun c10 => ?_)
          · have hf := dh_el hf (fun q => q c10)
            refine r_aload_n hC dX2_testWord_70 rfl (j := 0) rfl ?_
            refine r_ldc2 hC q1791 dX2_testWord_71 ?_
            obtain ⟨p11, h11, hf⟩ := dh_bd hf
            refine m_callV' hC hK hR (cM_isWord _ E A M 1919905645 h11) q1760 q_isWord (Nat.le_of_ble_eq_true rfl) (Nat.le_of_ble_eq_true rfl) rfl (Nat.le_of_ble_eq_true rfl) dX2_testWord_74 ?_
            refine r_if_eq hC dX2_testWord_77 (tgt := 84) (by decide) (fun c12 => ?_) (fun c12 => ?_)
            · have hf := dh_el hf (fun q => q c12)
              refine r_aload_n hC dX2_testWord_84 rfl (j := 0) rfl ?_
              refine r_ldc2 hC q1792 dX2_testWord_85 ?_
              obtain ⟨p13, h13, hf⟩ := dh_bd hf
              refine m_callV' hC hK hR (cM_isWord _ E A M 1752135026 h13) q1760 q_isWord (Nat.le_of_ble_eq_true rfl) (Nat.le_of_ble_eq_true rfl) rfl (Nat.le_of_ble_eq_true rfl) dX2_testWord_88 ?_
              refine r_if_eq hC dX2_testWord_91 (tgt := 99) (by decide) (fun c14 => ?_) (fun c14 => ?_)
              · have hf := dh_el hf (fun q => q c14)
                refine r_aload_n hC dX2_testWord_99 rfl (j := 0) rfl ?_
                refine r_ldc2 hC q1793 dX2_testWord_100 ?_
                obtain ⟨p15, h15, hf⟩ := dh_bd hf
                refine m_callV' hC hK hR (cM_isWord _ E A M 427070942835 h15) q1760 q_isWord (Nat.le_of_ble_eq_true rfl) (Nat.le_of_ble_eq_true rfl) rfl (Nat.le_of_ble_eq_true rfl) dX2_testWord_103 ?_
                refine r_if_eq hC dX2_testWord_106 (tgt := 114) (by decide) (fun c16 => ?_) (fun c16 => ?_)
                · have hf := dh_if hf c16
                  refine r_iconst hC dX2_testWord_114 ki_m1 ?_
                  exact m_iret1 hC dX2_testWord_115 rfl hf
                · have hf := dh_el hf c16
                  refine r_bipush hC dX2_testWord_109 kb_7 ?_
                  refine r_goto hC dX2_testWord_111 (tgt := 115) (by decide) ?_
                  exact m_iret1 hC dX2_testWord_115 rfl hf
              · have hf := dh_if hf c14
                refine r_bipush hC dX2_testWord_94 kb_6 ?_
                refine r_goto hC dX2_testWord_96 (tgt := 115) (by decide) ?_
                exact m_iret1 hC dX2_testWord_115 rfl hf
            · have hf := dh_if hf c12
              refine r_iconst hC dX2_testWord_80 ki_5 ?_
              refine r_goto hC dX2_testWord_81 (tgt := 115) (by decide) ?_
              exact m_iret1 hC dX2_testWord_115 rfl hf
          · have hf := dh_if hf c10
            refine r_iconst hC dX2_testWord_66 ki_4 ?_
            refine r_goto hC dX2_testWord_67 (tgt := 115) (by decide) ?_
            exact m_iret1 hC dX2_testWord_115 rfl hf
        · have hf := dh_if hf c8
          refine r_iconst hC dX2_testWord_52 ki_3 ?_
          refine r_goto hC dX2_testWord_53 (tgt := 115) (by decide) ?_
          exact m_iret1 hC dX2_testWord_115 rfl hf
      · have hf := dh_if hf c6
        refine r_iconst hC dX2_testWord_38 ki_2 ?_
        refine r_goto hC dX2_testWord_39 (tgt := 115) (by decide) ?_
        exact m_iret1 hC dX2_testWord_115 rfl hf
    · have hf := dh_if hf c4
      refine r_iconst hC dX2_testWord_24 ki_1 ?_
      refine r_goto hC dX2_testWord_25 (tgt := 115) (by decide) ?_
      exact m_iret1 hC dX2_testWord_115 rfl hf
  · have hf := dh_if hf c2
    refine r_iconst hC dX2_testWord_10 ki_0 ?_
    refine r_goto hC dX2_testWord_11 (tgt := 115) (by decide) ?_
    exact m_iret1 hC dX2_testWord_115 rfl hf
theorem cM_testWord (l : Launch) (E : dm_E) (A : Nat → Prop) (M : dm_M) {r : Int32} (h : gM_testWord M = some r) : dm_Met l yX2_testWord cX2_testWord 1 (some .int) 1 22 E A [.ref (dm_am E)] M (some (.int r)) M := by
  refine dh_met (by decide) (Nat.le_of_ble_eq_true rfl) (fun _ _ h => ⟨_, h.1⟩) (fun C hl hR hC hnm hK => ?_)
  exact wM_testWord hC hK hR M h
theorem q_testWord : dm_calV yX2_testWord cX2_testWord 1 (some .int) 0 := ⟨q1784, qs59, q1785, by decide +kernel⟩
