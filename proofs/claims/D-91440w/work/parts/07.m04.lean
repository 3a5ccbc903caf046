set_option maxRecDepth 100000
/-! copy(II)V -/
def gM_copy_L2_F (k2 : (dm_M → Int32 → Int32 → Int32 → Option dm_M)) (M : dm_M) (x1 : Int32) (x2 : Int32) (x3 : Int32) : Option dm_M :=
  if ¬ (600 ≤ x3) then (
    (dm_rd M 1 ((600 * x1) + x3)).bind fun v38 =>
    (dm_wr M 1 ((600 * x2) + x3) (vp_nar .byte v38)).bind fun M39 =>
    k2 M39 x1 x2 (x3 + 1))
  else
  (gM_move M 2 1 x1 x2).bind fun p2 =>
  (gM_move p2 3 1 x1 x2).bind fun p3 =>
  (gM_move p3 4 1 x1 x2).bind fun p4 =>
  (gM_move p4 5 1 x1 x2).bind fun p5 =>
  (gM_move p5 6 1 x1 x2).bind fun p6 =>
  (gM_move p6 7 1 x1 x2).bind fun p7 =>
  (gM_move p7 8 1 x1 x2).bind fun p8 =>
  (gM_move p8 9 12 x1 x2).bind fun p9 =>
  (gM_move p9 10 12 x1 x2).bind fun p10 =>
  (gM_moveBits p10 11 12 x1 x2).bind fun p11 =>
  (gM_move p11 12 12 x1 x2).bind fun p12 =>
  (gM_move p12 13 12 x1 x2).bind fun p13 =>
  (gM_move p13 14 12 x1 x2).bind fun p14 =>
  (gM_moveBits p14 15 12 x1 x2).bind fun p15 =>
  (gM_move p15 16 12 x1 x2).bind fun p16 =>
  (gM_move p16 17 12 x1 x2).bind fun p17 =>
  (gM_move p17 18 12 x1 x2).bind fun p18 =>
  (gM_move p18 19 12 x1 x2).bind fun p19 =>
  (gM_moveBits p19 20 12 x1 x2).bind fun p20 =>
  (gM_move p20 21 12 x1 x2).bind fun p21 =>
  (gM_move p21 22 12 x1 x2).bind fun p22 =>
  (gM_move p22 23 1 x1 x2).bind fun p23 =>
  (gM_move p23 24 144 x1 x2).bind fun p24 =>
  (gM_copyDebts p24 x1 x2).bind fun p25 =>
  (gM_move p25 41 1 x1 x2).bind fun p26 =>
  (gM_move p26 42 12 x1 x2).bind fun p27 =>
  (gM_move p27 43 1 x1 x2).bind fun p28 =>
  (gM_move p28 44 4 x1 x2).bind fun p29 =>
  (gM_move p29 45 4 x1 x2).bind fun p30 =>
  (gM_move p30 46 4 x1 x2).bind fun p31 =>
  (gM_move p31 47 80 x1 x2).bind fun p32 =>
  (gM_move p32 48 80 x1 x2).bind fun p33 =>
  (gM_move p33 49 80 x1 x2).bind fun p34 =>
  (gM_move p34 50 320 x1 x2).bind fun p35 =>
  (gM_move p35 51 320 x1 x2).bind fun p36 =>
  (gM_move p36 52 320 x1 x2).bind fun p37 =>
  some p37
theorem wM_copy_L2_F {C : dh_C} {A : Nat → Prop} {E : dm_E} (hC : dh_ok C cX2_copy 4 RX2 none) (hK : dm_Kn E (dh_s C)) (hR : dh_R C = { frames := 2, cells := 0, slots := 0, locals := 46 }) {M' : dm_M} (k2 : (dm_M → Int32 → Int32 → Int32 → Option dm_M)) (hk2 : ∀ (M : dm_M) (x1 : Int32) (x2 : Int32) (x3 : Int32), k2 M x1 x2 x3 = some M' → dh_W C A (dm_P E A M) (dm_Q E A none M') 0 0 0 0 2 [(0, .ref (dm_am E)), (1, .int x1), (2, .int x2), (3, .int x3)] []) (M : dm_M) (x1 : Int32) (x2 : Int32) (x3 : Int32) (hf : gM_copy_L2_F k2 M x1 x2 x3 = some M') : dh_W C A (dm_P E A M) (dm_Q E A none M') 0 0 0 0 2 [(0, .ref (dm_am E)), (1, .int x1), (2, .int x2), (3, .int x3)] [] := by
  unfold gM_copy_L2_F at hf
  refine r_iload_n hC dX2_copy_2 rfl (j := 3) rfl ?_
  refine r_sipush hC dX2_copy_3 ks_600 ?_
  refine r_icmp_ge hC dX2_copy_6 (tgt := 39) (by decide) (fun c1 => ?_) (fun c1 => ?_)
  · have hf := dh_el hf (fun q => q c1)
    refine r_aload_n hC dX2_copy_39 rfl (j := 0) rfl ?_
    refine m_getA hC hK fa_2 dX2_copy_40 ?_
    refine r_iconst hC dX2_copy_43 ki_1 ?_
    refine r_iload_n hC dX2_copy_44 rfl (j := 1) rfl ?_
    refine r_iload_n hC dX2_copy_45 rfl (j := 2) rfl ?_
    obtain ⟨p2, h2, hf⟩ := dh_bd hf
    refine m_callS' hC hK hR (cM_move _ E A M 2 1 x1 x2 kd_2 h2) q1985 q_move (Nat.le_of_ble_eq_true rfl) (Nat.le_of_ble_eq_true rfl) rfl (Nat.le_of_ble_eq_true rfl) dX2_copy_46 ?_
    refine r_aload_n hC dX2_copy_49 rfl (j := 0) rfl ?_
    refine m_getA hC hK fa_3 dX2_copy_50 ?_
    refine r_iconst hC dX2_copy_53 ki_1 ?_
    refine r_iload_n hC dX2_copy_54 rfl (j := 1) rfl ?_
    refine r_iload_n hC dX2_copy_55 rfl (j := 2) rfl ?_
    obtain ⟨p3, h3, hf⟩ := dh_bd hf
    refine m_callS' hC hK hR (cM_move _ E A p2 3 1 x1 x2 kd_3 h3) q1985 q_move (Nat.le_of_ble_eq_true rfl) (Nat.le_of_ble_eq_true rfl) rfl (Nat.le_of_ble_eq_true rfl) dX2_copy_56 ?_
    refine r_aload_n hC dX2_copy_59 rfl (j := 0) rfl ?_
    refine m_getA hC hK fa_4 dX2_copy_60 ?_
    refine r_iconst hC dX2_copy_63 ki_1 ?_
    refine r_iload_n hC dX2_copy_64 rfl (j := 1) rfl ?_
    refine r_iload_n hC dX2_copy_65 rfl (j := 2) rfl ?_
    obtain ⟨p4, h4, hf⟩ := dh_bd hf
    refine m_callS' hC hK hR (cM_move _ E A p3 4 1 x1 x2 kd_4 h4) q1985 q_move (Nat.le_of_ble_eq_true rfl) (Nat.le_of_ble_eq_true rfl) rfl (Nat.le_of_ble_eq_true rfl) dX2_copy_66 ?_
    refine r_aload_n hC dX2_copy_69 rfl (j := 0) rfl ?_
    refine m_getA hC hK fa_5 dX2_copy_70 ?_
    refine r_iconst hC dX2_copy_73 ki_1 ?_
    refine r_iload_n hC dX2_copy_74 rfl (j := 1) rfl ?_
    refine r_iload_n hC dX2_copy_75 rfl (j := 2) rfl ?_
    obtain ⟨p5, h5, hf⟩ := dh_bd hf
    refine m_callS' hC hK hR (cM_move _ E A p4 5 1 x1 x2 kd_5 h5) q1985 q_move (Nat.le_of_ble_eq_true rfl) (Nat.le_of_ble_eq_true rfl) rfl (Nat.le_of_ble_eq_true rfl) dX2_copy_76 ?_
    refine r_aload_n hC dX2_copy_79 rfl (j := 0) rfl ?_
    refine m_getA hC hK fa_6 dX2_copy_80 ?_
    refine r_iconst hC dX2_copy_83 ki_1 ?_
    refine r_iload_n hC dX2_copy_84 rfl (j := 1) rfl ?_
    refine r_iload_n hC dX2_copy_85 rfl (j := 2) rfl ?_
    obtain ⟨p6, h6, hf⟩ := dh_bd hf
    refine m_callS' hC hK hR (cM_move _ E A p5 6 1 x1 x2 kd_6 h6) q1985 q_move (Nat.le_of_ble_eq_true rfl) (Nat.le_of_ble_eq_true rfl) rfl (Nat.le_of_ble_eq_true rfl) dX2_copy_86 ?_
    refine r_aload_n hC dX2_copy_89 rfl (j := 0) rfl ?_
    refine m_getA hC hK fa_7 dX2_copy_90 ?_
    refine r_iconst hC dX2_copy_93 ki_1 ?_
    refine r_iload_n hC dX2_copy_94 rfl (j := 1) rfl ?_
    refine r_iload_n hC dX2_copy_95 rfl (j := 2) rfl ?_
    obtain ⟨p7, h7, hf⟩ := dh_bd hf
    refine m_callS' hC hK hR (cM_move _ E A p6 7 1 x1 x2 kd_7 h7) q1985 q_move (Nat.le_of_ble_eq_true rfl) (Nat.le_of_ble_eq_true rfl) rfl (Nat.le_of_ble_eq_true rfl) dX2_copy_96 ?_
    refine r_aload_n hC dX2_copy_99 rfl (j := 0) rfl ?_
    refine m_getA hC hK fa_8 dX2_copy_100 ?_
    refine r_iconst hC dX2_copy_103 ki_1 ?_
    refine r_iload_n hC dX2_copy_104 rfl (j := 1) rfl ?_
    refine r_iload_n hC dX2_copy_105 rfl (j := 2) rfl ?_
    obtain ⟨p8, h8, hf⟩ := dh_bd hf
    refine m_callS' hC hK hR (cM_move _ E A p7 8 1 x1 x2 kd_8 h8) q1985 q_move (Nat.le_of_ble_eq_true rfl) (Nat.le_of_ble_eq_true rfl) rfl (Nat.le_of_ble_eq_true rfl) dX2_copy_106 ?_
    refine r_aload_n hC dX2_copy_109 rfl (j := 0) rfl ?_
    refine m_getA hC hK fa_9 dX2_copy_110 ?_
    refine r_bipush hC dX2_copy_113 kb_12 ?_
    refine r_iload_n hC dX2_copy_115 rfl (j := 1) rfl ?_
    refine r_iload_n hC dX2_copy_116 rfl (j := 2) rfl ?_
    obtain ⟨p9, h9, hf⟩ := dh_bd hf
    refine m_callS' hC hK hR (cM_move _ E A p8 9 12 x1 x2 kd_9 h9) q1985 q_move (Nat.le_of_ble_eq_true rfl) (Nat.le_of_ble_eq_true rfl) rfl (Nat.le_of_ble_eq_true rfl) dX2_copy_117 ?_
    refine r_aload_n hC dX2_copy_120 rfl (j := 0) rfl ?_
    refine m_getA hC hK fa_10 dX2_copy_121 ?_
    refine r_bipush hC dX2_copy_124 kb_12 ?_
    refine r_iload_n hC dX2_copy_126 rfl (j := 1) rfl ?_
    refine r_iload_n hC dX2_copy_127 rfl (j := 2) rfl ?_
    obtain ⟨p10, h10, hf⟩ := dh_bd hf
    refine m_callS' hC hK hR (cM_move _ E A p9 10 12 x1 x2 kd_10 h10) q1985 q_move (Nat.le_of_ble_eq_true rfl) (Nat.le_of_ble_eq_true rfl) rfl (Nat.le_of_ble_eq_true rfl) dX2_copy_128 ?_
    refine r_aload_n hC dX2_copy_131 rfl (j := 0) rfl ?_
    refine m_getA hC hK fa_11 dX2_copy_132 ?_
    refine r_bipush hC dX2_copy_135 kb_12 ?_
    refine r_iload_n hC dX2_copy_137 rfl (j := 1) rfl ?_
    refine r_iload_n hC dX2_copy_138 rfl (j := 2) rfl ?_
    obtain ⟨p11, h11, hf⟩ := dh_bd hf
    refine m_callS' hC hK hR (cM_moveBits _ E A p10 11 12 x1 x2 kd_11 h11) q1988 q_moveBits (Nat.le_of_ble_eq_true rfl) (Nat.le_of_ble_eq_true rfl) rfl (Nat.le_of_ble_eq_true rfl) dX2_copy_139 ?_
    refine r_aload_n hC dX2_copy_142 rfl (j := 0) rfl ?_
    refine m_getA hC hK fa_12 dX2_copy_143 ?_
    refine r_bipush hC dX2_copy_146 kb_12 ?_
    refine r_iload_n hC dX2_copy_148 rfl (j := 1) rfl ?_
    refine r_iload_n hC dX2_copy_149 rfl (j := 2) rfl ?_
    obtain ⟨p12, h12, hf⟩ := dh_bd hf
    refine m_callS' hC hK hR (cM_move _ E A p11 12 12 x1 x2 kd_12 h12) q1985 q_move (Nat.le_of_ble_eq_true rfl) (Nat.le_of_ble_eq_true rfl) rfl (Nat.le_of_ble_eq_true rfl) dX2_copy_150 ?_
    refine r_aload_n hC dX2_copy_153 rfl (j := 0) rfl ?_
    refine m_getA hC hK fa_13 dX2_copy_154 ?_
    refine r_bipush hC dX2_copy_157 kb_12 ?_
    refine r_iload_n hC dX2_copy_159 rfl (j := 1) rfl ?_
    refine r_iload_n hC dX2_copy_160 rfl (j := 2) rfl ?_
    obtain ⟨p13, h13, hf⟩ := dh_bd hf
    refine m_callS' hC hK hR (cM_move _ E A p12 13 12 x1 x2 kd_13 h13) q1985 q_move (Nat.le_of_ble_eq_true rfl) (Nat.le_of_ble_eq_true rfl) rfl (Nat.le_of_ble_eq_true rfl) dX2_copy_161 ?_
    refine r_aload_n hC dX2_copy_164 rfl (j := 0) rfl ?_
    refine m_getA hC hK fa_14 dX2_copy_165 ?_
    refine r_bipush hC dX2_copy_168 kb_12 ?_
    refine r_iload_n hC dX2_copy_170 rfl (j := 1) rfl ?_
    refine r_iload_n hC dX2_copy_171 rfl (j := 2) rfl ?_
    obtain ⟨p14, h14, hf⟩ := dh_bd hf
    refine m_callS' hC hK hR (cM_move _ E A p13 14 12 x1 x2 kd_14 h14) q1985 q_move (Nat.le_of_ble_eq_true rfl) (Nat.le_of_ble_eq_true rfl) rfl (Nat.le_of_ble_eq_true rfl) dX2_copy_172 ?_
    refine r_aload_n hC dX2_copy_175 rfl (j := 0) rfl ?_
    refine m_getA hC hK fa_15 dX2_copy_176 ?_
    refine r_bipush hC dX2_copy_179 kb_12 ?_
    refine r_iload_n hC dX2_copy_181 rfl (j := 1) rfl ?_
    refine r_iload_n hC dX2_copy_182 rfl (j := 2) rfl ?_
    obtain ⟨p15, h15, hf⟩ := dh_bd hf
    refine m_callS' hC hK hR (cM_moveBits _ E A p14 15 12 x1 x2 kd_15 h15) q1988 q_moveBits (Nat.le_of_ble_eq_true rfl) (Nat.le_of_ble_eq_true rfl) rfl (Nat.le_of_ble_eq_true rfl) dX2_copy_183 ?_
    refine r_aload_n hC dX2_copy_186 rfl (j := 0) rfl ?_
    refine m_getA hC hK fa_16 dX2_copy_187 ?_
    refine r_bipush hC dX2_copy_190 kb_12 ?_
    refine r_iload_n hC dX2_copy_192 rfl (j := 1) rfl ?_
    refine r_iload_n hC dX2_copy_193 rfl (j := 2) rfl ?_
    obtain ⟨p16, h16, hf⟩ := dh_bd hf
    refine m_callS' hC hK hR (cM_move _ E A p15 16 12 x1 x2 kd_16 h16) q1985 q_move (Nat.le_of_ble_eq_true rfl) (Nat.le_of_ble_eq_true rfl) rfl (Nat.le_of_ble_eq_true rfl) dX2_copy_194 ?_
    refine r_aload_n hC dX2_copy_197 rfl (j := 0) rfl ?_
    refine m_getA hC hK fa_17 dX2_copy_198 ?_
    refine r_bipush hC dX2_copy_201 kb_12 ?_
    refine r_iload_n hC dX2_copy_203 rfl (j := 1) rfl ?_
    refine r_iload_n hC dX2_copy_204 rfl (j := 2) rfl ?_
    obtain ⟨p17, h17, hf⟩ := dh_bd hf
    refine m_callS' hC hK hR (cM_move _ E A p16 17 12 x1 x2 kd_17 h17) q1985 q_move (Nat.le_of_ble_eq_true rfl) (Nat.le_of_ble_eq_true rfl) rfl (Nat.le_of_ble_eq_true rfl) dX2_copy_205 ?_
    refine r_aload_n hC dX2_copy_208 rfl (j := 0) rfl ?_
    refine m_getA hC hK fa_18 dX2_copy_209 ?_
    refine r_bipush hC dX2_copy_212 kb_12 ?_
    refine r_iload_n hC dX2_copy_214 rfl (j := 1) rfl ?_
    refine r_iload_n hC dX2_copy_215 rfl (j := 2) rfl ?_
    obtain ⟨p18, h18, hf⟩ := dh_bd hf
    refine m_callS' hC hK hR (cM_move _ E A p17 18 12 x1 x2 kd_18 h18) q1985 q_move (Nat.le_of_ble_eq_true rfl) (Nat.le_of_ble_eq_true rfl) rfl (Nat.le_of_ble_eq_true rfl) dX2_copy_216 ?_
    refine r_aload_n hC dX2_copy_219 rfl (j := 0) rfl ?_
    refine m_getA hC hK fa_19 dX2_copy_220 ?_
    refine r_bipush hC dX2_copy_223 kb_12 ?_
    refine r_iload_n hC dX2_copy_225 rfl (j := 1) rfl ?_
    refine r_iload_n hC dX2_copy_226 rfl (j := 2) rfl ?_
    obtain ⟨p19, h19, hf⟩ := dh_bd hf
    refine m_callS' hC hK hR (cM_move _ E A p18 19 12 x1 x2 kd_19 h19) q1985 q_move (Nat.le_of_ble_eq_true rfl) (Nat.le_of_ble_eq_true rfl) rfl (Nat.le_of_ble_eq_true rfl) dX2_copy_227 ?_
    refine r_aload_n hC dX2_copy_230 rfl (j := 0) rfl ?_
    refine m_getA hC hK fa_20 dX2_copy_231 ?_
    refine r_bipush hC dX2_copy_234 kb_12 ?_
    refine r_iload_n hC dX2_copy_236 rfl (j := 1) rfl ?_
    refine r_iload_n hC dX2_copy_237 rfl (j := 2) rfl ?_
    obtain ⟨p20, h20, hf⟩ := dh_bd hf
    refine m_callS' hC hK hR (cM_moveBits _ E A p19 20 12 x1 x2 kd_20 h20) q1988 q_moveBits (Nat.le_of_ble_eq_true rfl) (Nat.le_of_ble_eq_true rfl) rfl (Nat.le_of_ble_eq_true rfl) dX2_copy_238 ?_
    refine r_aload_n hC dX2_copy_241 rfl (j := 0) rfl ?_
    refine m_getA hC hK fa_21 dX2_copy_242 ?_
    refine r_bipush hC dX2_copy_245 kb_12 ?_
    refine r_iload_n hC dX2_copy_247 rfl (j := 1) rfl ?_
    refine r_iload_n hC dX2_copy_248 rfl (j := 2) rfl ?_
    obtain ⟨p21, h21, hf⟩ := dh_bd hf
    refine m_callS' hC hK hR (cM_move _ E A p20 21 12 x1 x2 kd_21 h21) q1985 q_move (Nat.le_of_ble_eq_true rfl) (Nat.le_of_ble_eq_true rfl) rfl (Nat.le_of_ble_eq_true rfl) dX2_copy_249 ?_
    refine r_aload_n hC dX2_copy_252 rfl (j := 0) rfl ?_
    refine m_getA hC hK fa_22 dX2_copy_253 ?_
    refine r_bipush hC dX2_copy_256 kb_12 ?_
    refine r_iload_n hC dX2_copy_258 rfl (j := 1) rfl ?_
    refine r_iload_n hC dX2_copy_259 rfl (j := 2) rfl ?_
    obtain ⟨p22, h22, hf⟩ := dh_bd hf
    refine m_callS' hC hK hR (cM_move _ E A p21 22 12 x1 x2 kd_22 h22) q1985 q_move (Nat.le_of_ble_eq_true rfl) (Nat.le_of_ble_eq_true rfl) rfl (Nat.le_of_ble_eq_true rfl) dX2_copy_260 ?_
    refine r_aload_n hC dX2_copy_263 rfl (j := 0) rfl ?_
    refine m_getA hC hK fa_23 dX2_copy_264 ?_
    refine r_iconst hC dX2_copy_267 ki_1 ?_
    refine r_iload_n hC dX2_copy_268 rfl (j := 1) rfl ?_
    refine r_iload_n hC dX2_copy_269 rfl (j := 2) rfl ?_
    obtain ⟨p23, h23, hf⟩ := dh_bd hf
    refine m_callS' hC hK hR (cM_move _ E A p22 23 1 x1 x2 kd_23 h23) q1985 q_move (Nat.le_of_ble_eq_true rfl) (Nat.le_of_ble_eq_true rfl) rfl (Nat.le_of_ble_eq_true rfl) dX2_copy_270 ?_
    refine r_aload_n hC dX2_copy_273 rfl (j := 0) rfl ?_
    refine m_getA hC hK fa_24 dX2_copy_274 ?_
    refine r_sipush hC dX2_copy_277 ks_144 ?_
    refine r_iload_n hC dX2_copy_280 rfl (j := 1) rfl ?_
    refine r_iload_n hC dX2_copy_281 rfl (j := 2) rfl ?_
    obtain ⟨p24, h24, hf⟩ := dh_bd hf
    refine m_callS' hC hK hR (cM_move _ E A p23 24 144 x1 x2 kd_24 h24) q1985 q_move (Nat.le_of_ble_eq_true rfl) (Nat.le_of_ble_eq_true rfl) rfl (Nat.le_of_ble_eq_true rfl) dX2_copy_282 ?_
    refine r_aload_n hC dX2_copy_285 rfl (j := 0) rfl ?_
    refine r_iload_n hC dX2_copy_286 rfl (j := 1) rfl ?_
    refine r_iload_n hC dX2_copy_287 rfl (j := 2) rfl ?_
    obtain ⟨p25, h25, hf⟩ := dh_bd hf
    refine m_callV' hC hK hR (cM_copyDebts _ E A p24 x1 x2 h25) q1991 q_copyDebts (Nat.le_of_ble_eq_true rfl) (Nat.le_of_ble_eq_true rfl) rfl (Nat.le_of_ble_eq_true rfl) dX2_copy_288 ?_
    refine r_aload_n hC dX2_copy_291 rfl (j := 0) rfl ?_
    refine m_getA hC hK fa_41 dX2_copy_292 ?_
    refine r_iconst hC dX2_copy_295 ki_1 ?_
    refine r_iload_n hC dX2_copy_296 rfl (j := 1) rfl ?_
    refine r_iload_n hC dX2_copy_297 rfl (j := 2) rfl ?_
    obtain ⟨p26, h26, hf⟩ := dh_bd hf
    refine m_callS' hC hK hR (cM_move _ E A p25 41 1 x1 x2 kd_41 h26) q1985 q_move (Nat.le_of_ble_eq_true rfl) (Nat.le_of_ble_eq_true rfl) rfl (Nat.le_of_ble_eq_true rfl) dX2_copy_298 ?_
    refine r_aload_n hC dX2_copy_301 rfl (j := 0) rfl ?_
    refine m_getA hC hK fa_42 dX2_copy_302 ?_
    refine r_bipush hC dX2_copy_305 kb_12 ?_
    refine r_iload_n hC dX2_copy_307 rfl (j := 1) rfl ?_
    refine r_iload_n hC dX2_copy_308 rfl (j := 2) rfl ?_
    obtain ⟨p27, h27, hf⟩ := dh_bd hf
    refine m_callS' hC hK hR (cM_move _ E A p26 42 12 x1 x2 kd_42 h27) q1985 q_move (Nat.le_of_ble_eq_true rfl) (Nat.le_of_ble_eq_true rfl) rfl (Nat.le_of_ble_eq_true rfl) dX2_copy_309 ?_
    refine r_aload_n hC dX2_copy_312 rfl (j := 0) rfl ?_
    refine m_getA hC hK fa_43 dX2_copy_313 ?_
    refine r_iconst hC dX2_copy_316 ki_1 ?_
    refine r_iload_n hC dX2_copy_317 rfl (j := 1) rfl ?_
    refine r_iload_n hC dX2_copy_318 rfl (j := 2) rfl ?_
    obtain ⟨p28, h28, hf⟩ := dh_bd hf
    refine m_callS' hC hK hR (cM_move _ E A p27 43 1 x1 x2 kd_43 h28) q1985 q_move (Nat.le_of_ble_eq_true rfl) (Nat.le_of_ble_eq_true rfl) rfl (Nat.le_of_ble_eq_true rfl) dX2_copy_319 ?_
    refine r_aload_n hC dX2_copy_322 rfl (j := 0) rfl ?_
    refine m_getA hC hK fa_44 dX2_copy_323 ?_
    refine r_iconst hC dX2_copy_326 ki_4 ?_
    refine r_iload_n hC dX2_copy_327 rfl (j := 1) rfl ?_
    refine r_iload_n hC dX2_copy_328 rfl (j := 2) rfl ?_
    obtain ⟨p29, h29, hf⟩ := dh_bd hf
    refine m_callS' hC hK hR (cM_move _ E A p28 44 4 x1 x2 kd_44 h29) q1985 q_move (Nat.le_of_ble_eq_true rfl) (Nat.le_of_ble_eq_true rfl) rfl (Nat.le_of_ble_eq_true rfl) dX2_copy_329 ?_
    refine r_aload_n hC dX2_copy_332 rfl (j := 0) rfl ?_
    refine m_getA hC hK fa_45 dX2_copy_333 ?_
    refine r_iconst hC dX2_copy_336 ki_4 ?_
    refine r_iload_n hC dX2_copy_337 rfl (j := 1) rfl ?_
    refine r_iload_n hC dX2_copy_338 rfl (j := 2) rfl ?_
    obtain ⟨p30, h30, hf⟩ := dh_bd hf
    refine m_callS' hC hK hR (cM_move _ E A p29 45 4 x1 x2 kd_45 h30) q1985 q_move (Nat.le_of_ble_eq_true rfl) (Nat.le_of_ble_eq_true rfl) rfl (Nat.le_of_ble_eq_true rfl) dX2_copy_339 ?_
    refine r_aload_n hC dX2_copy_342 rfl (j := 0) rfl ?_
    refine m_getA hC hK fa_46 dX2_copy_343 ?_
    refine r_iconst hC dX2_copy_346 ki_4 ?_
    refine r_iload_n hC dX2_copy_347 rfl (j := 1) rfl ?_
    refine r_iload_n hC dX2_copy_348 rfl (j := 2) rfl ?_
    obtain ⟨p31, h31, hf⟩ := dh_bd hf
    refine m_callS' hC hK hR (cM_move _ E A p30 46 4 x1 x2 kd_46 h31) q1985 q_move (Nat.le_of_ble_eq_true rfl) (Nat.le_of_ble_eq_true rfl) rfl (Nat.le_of_ble_eq_true rfl) dX2_copy_349 ?_
    refine r_aload_n hC dX2_copy_352 rfl (j := 0) rfl ?_
    refine m_getA hC hK fa_47 dX2_copy_353 ?_
    refine r_bipush hC dX2_copy_356 kb_80 ?_
    refine r_iload_n hC dX2_copy_358 rfl (j := 1) rfl ?_
    refine r_iload_n hC dX2_copy_359 rfl (j := 2) rfl ?_
    obtain ⟨p32, h32, hf⟩ := dh_bd hf
    refine m_callS' hC hK hR (cM_move _ E A p31 47 80 x1 x2 kd_47 h32) q1985 q_move (Nat.le_of_ble_eq_true rfl) (Nat.le_of_ble_eq_true rfl) rfl (Nat.le_of_ble_eq_true rfl) dX2_copy_360 ?_
    refine r_aload_n hC dX2_copy_363 rfl (j := 0) rfl ?_
    refine m_getA hC hK fa_48 dX2_copy_364 ?_
    refine r_bipush hC dX2_copy_367 kb_80 ?_
    refine r_iload_n hC dX2_copy_369 rfl (j := 1) rfl ?_
    refine r_iload_n hC dX2_copy_370 rfl (j := 2) rfl ?_
    obtain ⟨p33, h33, hf⟩ := dh_bd hf
    refine m_callS' hC hK hR (cM_move _ E A p32 48 80 x1 x2 kd_48 h33) q1985 q_move (Nat.le_of_ble_eq_true rfl) (Nat.le_of_ble_eq_true rfl) rfl (Nat.le_of_ble_eq_true rfl) dX2_copy_371 ?_
    refine r_aload_n hC dX2_copy_374 rfl (j := 0) rfl ?_
    refine m_getA hC hK fa_49 dX2_copy_375 ?_
    refine r_bipush hC dX2_copy_378 kb_80 ?_
    refine r_iload_n hC dX2_copy_380 rfl (j := 1) rfl ?_
    refine r_iload_n hC dX2_copy_381 rfl (j := 2) rfl ?_
    obtain ⟨p34, h34, hf⟩ := dh_bd hf
    refine m_callS' hC hK hR (cM_move _ E A p33 49 80 x1 x2 kd_49 h34) q1985 q_move (Nat.le_of_ble_eq_true rfl) (Nat.le_of_ble_eq_true rfl) rfl (Nat.le_of_ble_eq_true rfl) dX2_copy_382 ?_
    refine r_aload_n hC dX2_copy_385 rfl (j := 0) rfl ?_
    refine m_getA hC hK fa_50 dX2_copy_386 ?_
    refine r_sipush hC dX2_copy_389 ks_320 ?_
    refine r_iload_n hC dX2_copy_392 rfl (j := 1) rfl ?_
    refine r_iload_n hC dX2_copy_393 rfl (j := 2) rfl ?_
    obtain ⟨p35, h35, hf⟩ := dh_bd hf
    refine m_callS' hC hK hR (cM_move _ E A p34 50 320 x1 x2 kd_50 h35) q1985 q_move (Nat.le_of_ble_eq_true rfl) (Nat.le_of_ble_eq_true rfl) rfl (Nat.le_of_ble_eq_true rfl) dX2_copy_394 ?_
    refine r_aload_n hC dX2_copy_397 rfl (j := 0) rfl ?_
    refine m_getA hC hK fa_51 dX2_copy_398 ?_
    refine r_sipush hC dX2_copy_401 ks_320 ?_
    refine r_iload_n hC dX2_copy_404 rfl (j := 1) rfl ?_
    refine r_iload_n hC dX2_copy_405 rfl (j := 2) rfl ?_
    obtain ⟨p36, h36, hf⟩ := dh_bd hf
    refine m_callS' hC hK hR (cM_move _ E A p35 51 320 x1 x2 kd_51 h36) q1985 q_move (Nat.le_of_ble_eq_true rfl) (Nat.le_of_ble_eq_true rfl) rfl (Nat.le_of_ble_eq_true rfl) dX2_copy_406 ?_
    refine r_aload_n hC dX2_copy_409 rfl (j := 0) rfl ?_
    refine m_getA hC hK fa_52 dX2_copy_410 ?_
    refine r_sipush hC dX2_copy_413 ks_320 ?_
    refine r_iload_n hC dX2_copy_416 rfl (j := 1) rfl ?_
    refine r_iload_n hC dX2_copy_417 rfl (j := 2) rfl ?_
    obtain ⟨p37, h37, hf⟩ := dh_bd hf
    refine m_callS' hC hK hR (cM_move _ E A p36 52 320 x1 x2 kd_52 h37) q1985 q_move (Nat.le_of_ble_eq_true rfl) (Nat.le_of_ble_eq_true rfl) rfl (Nat.le_of_ble_eq_true rfl) dX2_copy_418 ?_
    exact m_vret hC dX2_copy_421 rfl hf
  · have hf := dh_if hf c1
    refine r_aload_n hC dX2_copy_9 rfl (j := 0) rfl ?_
    refine m_getA hC hK fa_1 dX2_copy_10 ?_
    refine r_sipush hC dX2_copy_13 ks_600 ?_
    refine r_iload_n hC dX2_copy_16 rfl (j := 2) rfl ?_
    refine r_imul hC dX2_copy_17 ?_
    refine r_iload_n hC dX2_copy_18 rfl (j := 3) rfl ?_
    refine r_iadd hC dX2_copy_19 ?_
    refine r_aload_n hC dX2_copy_20 rfl (j := 0) rfl ?_
    refine m_getA hC hK fa_1 dX2_copy_21 ?_
    refine r_sipush hC dX2_copy_24 ks_600 ?_
    refine r_iload_n hC dX2_copy_27 rfl (j := 1) rfl ?_
    refine r_imul hC dX2_copy_28 ?_
    refine r_iload_n hC dX2_copy_29 rfl (j := 3) rfl ?_
    refine r_iadd hC dX2_copy_30 ?_
    obtain ⟨v38, h38, hf⟩ := dh_bd hf
    refine m_bald hC hK kd_1 h38 dX2_copy_31 ?_
    obtain ⟨M39, h39, hf⟩ := dh_bd hf
    refine m_bast hC hK kd_1 h39 dX2_copy_32 ?_
    refine r_iinc (lv' := [(3, .int (x3 + 1)), (0, .ref (dm_am E)), (1, .int x1), (2, .int x2)]) hC dX2_copy_33 (j := 3) rfl (congrArg _ ki_1) (Nat.le_of_ble_eq_true rfl) rfl ?_
    refine r_goto hC dX2_copy_36 (tgt := 2) (by decide) ?_
    exact r_sub [1, 2, 3, 0] rfl (hk2 M39 x1 x2 (x3 + 1) hf)
def gM_copy_L2 : Nat → dm_M → Int32 → Int32 → Int32 → Option dm_M
  | 0 => fun _ _ _ _ => none
  | n + 1 => gM_copy_L2_F (gM_copy_L2 n)
theorem wM_copy_L2 {C : dh_C} {A : Nat → Prop} {E : dm_E} (hC : dh_ok C cX2_copy 4 RX2 none) (hK : dm_Kn E (dh_s C)) (hR : dh_R C = { frames := 2, cells := 0, slots := 0, locals := 46 }) {M' : dm_M} : ∀ (n : Nat) (M : dm_M) (x1 : Int32) (x2 : Int32) (x3 : Int32) (_ : gM_copy_L2 n M x1 x2 x3 = some M'), dh_W C A (dm_P E A M) (dm_Q E A none M') 0 0 0 0 2 [(0, .ref (dm_am E)), (1, .int x1), (2, .int x2), (3, .int x3)] [] := by
  intro n
  induction n with
  | zero => intro M x1 x2 x3 hf; exact dh_no hf
  | succ n ih => intro M x1 x2 x3 hf; exact wM_copy_L2_F hC hK hR (gM_copy_L2 n) ih M x1 x2 x3 hf
def gM_copy (M : dm_M) (x1 : Int32) (x2 : Int32) : Option dm_M :=
  gM_copy_L2 dh_fu M x1 x2 0
theorem wM_copy {C : dh_C} {A : Nat → Prop} {E : dm_E} (hC : dh_ok C cX2_copy 4 RX2 none) (hK : dm_Kn E (dh_s C)) (hR : dh_R C = { frames := 2, cells := 0, slots := 0, locals := 46 }) {M' : dm_M} (M : dm_M) (x1 : Int32) (x2 : Int32) (hf : gM_copy M x1 x2 = some M') : dh_W C A (dm_P E A M) (dm_Q E A none M') 0 0 0 0 0 [(0, .ref (dm_am E)), (1, .int x1), (2, .int x2)] [] := by
  unfold gM_copy at hf
  refine r_iconst hC dX2_copy_0 ki_0 ?_
  refine r_istore_n (lv' := [(3, .int 0), (0, .ref (dm_am E)), (1, .int x1), (2, .int x2)]) hC dX2_copy_1 rfl (Nat.le_of_ble_eq_true rfl) rfl ?_
  exact r_sub [1, 2, 3, 0] rfl (wM_copy_L2 hC hK hR dh_fu M x1 x2 0 hf)
theorem cM_copy (l : Launch) (E : dm_E) (A : Nat → Prop) (M : dm_M) (x1 : Int32) (x2 : Int32) {M' : dm_M} (h : gM_copy M x1 x2 = some M') : dm_Met l yX2_copy cX2_copy 4 none 2 46 E A [.ref (dm_am E), .int x1, .int x2] M none M' := by
  refine dh_met (by decide) (Nat.le_of_ble_eq_true rfl) (fun _ _ h => ⟨_, h.1⟩) (fun C hl hR hC hnm hK => ?_)
  exact wM_copy hC hK hR M x1 x2 h
theorem q_copy : dm_calV yX2_copy cX2_copy 4 none 2 := ⟨q1983, qs78, q1984, by decide +kernel⟩
/-! again(I)Z -/
def gM_again (M : dm_M) (x1 : Int32) : Option (Int32 × dm_M) :=
  (some (dm_set M 0 0 0)).bind fun M1 =>
  (gM_in M1 x1 0 2).bind fun p2 =>
  if p2 = 0 then (
    some (0, M1))
  else
  (dm_rd M1 79 x1).bind fun v4 =>
  if v4 = 0 then (
    some (0, M1))
  else
  (gM_copy M1 (x1 + 1) 0).bind fun p6 =>
  some (1, p6)
theorem wM_again {C : dh_C} {A : Nat → Prop} {E : dm_E} (hC : dh_ok C cX2_again 2 RX2 (some .boolean)) (hK : dm_Kn E (dh_s C)) (hR : dh_R C = { frames := 3, cells := 0, slots := 0, locals := 69 }) {r : Int32} {M' : dm_M} (M : dm_M) (x1 : Int32) (hf : gM_again M x1 = some (r, M')) : dh_W C A (dm_P E A M) (dm_Q E A (some (.int r)) M') 0 0 0 0 0 [(0, .ref (dm_am E)), (1, .int x1)] [] := by
  unfold gM_again at hf
  refine r_aload_n hC dX2_again_0 rfl (j := 0) rfl ?_
  refine r_iconst hC dX2_again_1 ki_0 ?_
  obtain ⟨M1, h1, hf⟩ := dh_bd hf
  refine m_putI hC hK fi_0 dX2_again_2 h1 ?_
  refine r_iload_n hC dX2_again_5 rfl (j := 1) rfl ?_
  refine r_iconst hC dX2_again_6 ki_0 ?_
  refine r_iconst hC dX2_again_7 ki_2 ?_
  obtain ⟨p2, h2, hf⟩ := dh_bd hf
  refine m_callS' hC hK hR (cM_in _ E A M1 x1 0 2 h2) q1639 q_in (Nat.le_of_ble_eq_true rfl) (Nat.le_of_ble_eq_true rfl) rfl (Nat.le_of_ble_eq_true rfl) dX2_again_8 ?_
  refine r_if_eq hC dX2_again_11 (tgt := 23) (by decide) (fun c3 => ?_) (fun c3 => ?_)
  · have hf := dh_if hf c3
    refine r_iconst hC dX2_again_23 ki_0 ?_
    exact m_zret hC dX2_again_24 rfl rfl hf
  · have hf := dh_el hf c3
    refine r_aload_n hC dX2_again_14 rfl (j := 0) rfl ?_
    refine m_getA hC hK fa_79 dX2_again_15 ?_
    refine r_iload_n hC dX2_again_18 rfl (j := 1) rfl ?_
    obtain ⟨v4, h4, hf⟩ := dh_bd hf
    refine m_zald hC hK kd_79 h4 dX2_again_19 ?_
    refine r_if_ne hC dX2_again_20 (tgt := 25) (by decide) (fun c5 => ?_) (fun c5 => ?_)
    · have hf := dh_el hf c5
      refine r_aload_n hC dX2_again_25 rfl (j := 0) rfl ?_
      refine r_iload_n hC dX2_again_26 rfl (j := 1) rfl ?_
      refine r_iconst hC dX2_again_27 ki_1 ?_
      refine r_iadd hC dX2_again_28 ?_
      refine r_iconst hC dX2_again_29 ki_0 ?_
      obtain ⟨p6, h6, hf⟩ := dh_bd hf
      refine m_callV' hC hK hR (cM_copy _ E A M1 (x1 + 1) 0 h6) q1981 q_copy (Nat.le_of_ble_eq_true rfl) (Nat.le_of_ble_eq_true rfl) rfl (Nat.le_of_ble_eq_true rfl) dX2_again_30 ?_
      refine r_iconst hC dX2_again_33 ki_1 ?_
      exact m_zret hC dX2_again_34 rfl rfl hf
    · have hf := dh_if hf c5
      refine r_iconst hC dX2_again_23 ki_0 ?_
      exact m_zret hC dX2_again_24 rfl rfl hf
theorem cM_again (l : Launch) (E : dm_E) (A : Nat → Prop) (M : dm_M) (x1 : Int32) {p : Int32 × dm_M} (h : gM_again M x1 = some p) : dm_Met l yX2_again cX2_again 2 (some .boolean) 3 69 E A [.ref (dm_am E), .int x1] M (some (.int p.1)) p.2 := by
  refine dh_met (by decide) (Nat.le_of_ble_eq_true rfl) (fun _ _ h => ⟨_, h.1⟩) (fun C hl hR hC hnm hK => ?_)
  exact wM_again hC hK hR M x1 h
theorem q_again : dm_calV yX2_again cX2_again 2 (some .boolean) 1 := ⟨q1996, q1997, q1998, by decide +kernel⟩
/-! theTurn()I -/
def gM_theTurn_b81 (k4 : (Int32 → Int32 → Option Int32)) (M : dm_M) (x1 : Int32) (x2 : Int32) (y0 : Int32) : Option Int32 :=
  if y0 = 0 then (
    k4 x1 (x2 + 1))
  else
  k4 x2 (x2 + 1)
theorem wM_theTurn_b81 {C : dh_C} {A : Nat → Prop} {E : dm_E} (hC : dh_ok C cX2_theTurn 4 RX2 (some .int)) (hK : dm_Kn E (dh_s C)) (hR : dh_R C = { frames := 0, cells := 0, slots := 0, locals := 0 }) {r : Int32} (M : dm_M) (k4 : (Int32 → Int32 → Option Int32)) (hk4 : ∀ (x1 : Int32) (x2 : Int32), k4 x1 x2 = some r → dh_W C A (dm_P E A M) (dm_Q E A (some (.int r)) M) 0 0 0 0 4 [(0, .ref (dm_am E)), (1, .int x1), (2, .int x2)] []) (x1 : Int32) (x2 : Int32) (y0 : Int32) (hf : gM_theTurn_b81 k4 M x1 x2 y0 = some r) : dh_W C A (dm_P E A M) (dm_Q E A (some (.int r)) M) 0 0 0 0 81 [(0, .ref (dm_am E)), (1, .int x1), (2, .int x2)] [.int y0] := by
  unfold gM_theTurn_b81 at hf
  refine r_istore_n (lv' := [(3, .int y0), (0, .ref (dm_am E)), (1, .int x1), (2, .int x2)]) hC dX2_theTurn_81 rfl (Nat.le_of_ble_eq_true rfl) rfl ?_
  refine r_iload_n hC dX2_theTurn_82 rfl (j := 0) rfl ?_
  refine r_if_eq hC dX2_theTurn_83 (tgt := 90) (by decide) (fun c6 => ?_) (fun c6 => ?_)
  · have hf := dh_if hf c6
    refine r_iload_n hC dX2_theTurn_90 rfl (j := 2) rfl ?_
    refine r_istore_n (lv' := [(1, .int x1), (3, .int y0), (0, .ref (dm_am E)), (2, .int x2)]) hC dX2_theTurn_91 rfl (Nat.le_of_ble_eq_true rfl) rfl ?_
    refine r_iinc (lv' := [(2, .int (x2 + 1)), (1, .int x1), (3, .int y0), (0, .ref (dm_am E))]) hC dX2_theTurn_92 (j := 3) rfl (congrArg _ ki_1) (Nat.le_of_ble_eq_true rfl) rfl ?_
    refine r_goto hC dX2_theTurn_95 (tgt := 4) (by decide) ?_
    exact r_sub [3, 1, 0] rfl (hk4 x1 (x2 + 1) hf)
  · have hf := dh_el hf c6
    refine r_iload_n hC dX2_theTurn_86 rfl (j := 3) rfl ?_
    refine r_goto hC dX2_theTurn_87 (tgt := 91) (by decide) ?_
    refine r_istore_n (lv' := [(1, .int x2), (3, .int y0), (0, .ref (dm_am E)), (2, .int x2)]) hC dX2_theTurn_91 rfl (Nat.le_of_ble_eq_true rfl) rfl ?_
    refine r_iinc (lv' := [(2, .int (x2 + 1)), (1, .int x2), (3, .int y0), (0, .ref (dm_am E))]) hC dX2_theTurn_92 (j := 3) rfl (congrArg _ ki_1) (Nat.le_of_ble_eq_true rfl) rfl ?_
    refine r_goto hC dX2_theTurn_95 (tgt := 4) (by decide) ?_
    exact r_sub [3, 1, 0] rfl (hk4 x2 (x2 + 1) hf)
def gM_theTurn_L4_F (k4 : (Int32 → Int32 → Option Int32)) (M : dm_M) (x1 : Int32) (x2 : Int32) : Option Int32 :=
  (dm_rd M 8 0).bind fun v1 =>
  if v1 ≤ x2 then (
    some x1)
  else
  (dm_rd M 11 x2).bind fun v3 =>
  if v3 = 0 then (
    k4 x1 (x2 + 1))
  else
  if x1 = (-1) then (
    gM_theTurn_b81 k4 M x1 x2 1)
  else
  (dm_rd M 17 x2).bind fun v7 =>
  (dm_rd M 17 x1).bind fun v8 =>
  if v7 < v8 then (
    gM_theTurn_b81 k4 M x1 x2 1)
  else
  (dm_rd M 17 x2).bind fun v10 =>
  (dm_rd M 17 x1).bind fun v11 =>
  if v10 = v11 then (
    (dm_rd M 12 x2).bind fun v13 =>
    (dm_rd M 12 x1).bind fun v14 =>
    if v14 ≤ v13 then (
      gM_theTurn_b81 k4 M x1 x2 0)
    else
    gM_theTurn_b81 k4 M x1 x2 1)
  else
  gM_theTurn_b81 k4 M x1 x2 0
theorem wM_theTurn_L4_F {C : dh_C} {A : Nat → Prop} {E : dm_E} (hC : dh_ok C cX2_theTurn 4 RX2 (some .int)) (hK : dm_Kn E (dh_s C)) (hR : dh_R C = { frames := 0, cells := 0, slots := 0, locals := 0 }) {r : Int32} (M : dm_M) (k4 : (Int32 → Int32 → Option Int32)) (hk4 : ∀ (x1 : Int32) (x2 : Int32), k4 x1 x2 = some r → dh_W C A (dm_P E A M) (dm_Q E A (some (.int r)) M) 0 0 0 0 4 [(0, .ref (dm_am E)), (1, .int x1), (2, .int x2)] []) (x1 : Int32) (x2 : Int32) (hf : gM_theTurn_L4_F k4 M x1 x2 = some r) : dh_W C A (dm_P E A M) (dm_Q E A (some (.int r)) M) 0 0 0 0 4 [(0, .ref (dm_am E)), (1, .int x1), (2, .int x2)] [] := by
  unfold gM_theTurn_L4_F at hf
  refine r_iload_n hC dX2_theTurn_4 rfl (j := 2) rfl ?_
  refine r_aload_n hC dX2_theTurn_5 rfl (j := 0) rfl ?_
  refine m_getA hC hK fa_8 dX2_theTurn_6 ?_
  refine r_iconst hC dX2_theTurn_9 ki_0 ?_
  obtain ⟨v1, h1, hf⟩ := dh_bd hf
  refine m_iald hC hK kd_8 h1 dX2_theTurn_10 ?_
  refine r_icmp_ge hC dX2_theTurn_11 (tgt := 98) (by decide) (fun c2 => ?_) (fun c2 => ?_)
  · have hf := dh_if hf c2
    refine r_iload_n hC dX2_theTurn_98 rfl (j := 1) rfl ?_
    exact m_iret1 hC dX2_theTurn_99 rfl hf
  · have hf := dh_el hf c2
    refine r_aload_n hC dX2_theTurn_14 rfl (j := 0) rfl ?_
    refine m_getA hC hK fa_11 dX2_theTurn_15 ?_
    refine r_iload_n hC dX2_theTurn_18 rfl (j := 2) rfl ?_
    obtain ⟨v3, h3, hf⟩ := dh_bd hf
    refine m_zald hC hK kd_11 h3 dX2_theTurn_19 ?_
    refine r_if_ne hC dX2_theTurn_20 (tgt := 26) (by decide) (fun c4 => ?_) (fun c4 => ?_)
    · have hf := dh_el hf c4
      refine r_iload_n hC dX2_theTurn_26 rfl (j := 1) rfl ?_
      refine r_iconst hC dX2_theTurn_27 ki_m1 ?_
      refine r_icmp_eq hC dX2_theTurn_28 (tgt := 76) (by decide) (fun c5 => ?_) (fun c5 => ?_)
      · have hf := dh_if hf c5
        refine r_iconst hC dX2_theTurn_76 ki_1 ?_
        refine r_goto hC dX2_theTurn_77 (tgt := 81) (by decide) ?_
        exact r_sub [0, 1, 2] rfl (wM_theTurn_b81 hC hK hR M k4 hk4 x1 x2 1 hf)
      · have hf := dh_el hf c5
        refine r_aload_n hC dX2_theTurn_31 rfl (j := 0) rfl ?_
        refine m_getA hC hK fa_17 dX2_theTurn_32 ?_
        refine r_iload_n hC dX2_theTurn_35 rfl (j := 2) rfl ?_
        obtain ⟨v7, h7, hf⟩ := dh_bd hf
        refine m_iald hC hK kd_17 h7 dX2_theTurn_36 ?_
        refine r_aload_n hC dX2_theTurn_37 rfl (j := 0) rfl ?_
        refine m_getA hC hK fa_17 dX2_theTurn_38 ?_
        refine r_iload_n hC dX2_theTurn_41 rfl (j := 1) rfl ?_
        obtain ⟨v8, h8, hf⟩ := dh_bd hf
        refine m_iald hC hK kd_17 h8 dX2_theTurn_42 ?_
        refine r_icmp_lt hC dX2_theTurn_43 (tgt := 76) (by decide) (fun c9 => ?_) (fun c9 => ?_)
        · have hf := dh_if hf c9
          refine r_iconst hC dX2_theTurn_76 ki_1 ?_
          refine r_goto hC dX2_theTurn_77 (tgt := 81) (by decide) ?_
          exact r_sub [0, 1, 2] rfl (wM_theTurn_b81 hC hK hR M k4 hk4 x1 x2 1 hf)
        · have hf := dh_el hf c9
          refine r_aload_n hC dX2_theTurn_46 rfl (j := 0) rfl ?_
          refine m_getA hC hK fa_17 dX2_theTurn_47 ?_
          refine r_iload_n hC dX2_theTurn_50 rfl (j := 2) rfl ?_
          obtain ⟨v10, h10, hf⟩ := dh_bd hf
          refine m_iald hC hK kd_17 h10 dX2_theTurn_51 ?_
          refine r_aload_n hC dX2_theTurn_52 rfl (j := 0) rfl ?_
          refine m_getA hC hK fa_17 dX2_theTurn_53 ?_
          refine r_iload_n hC dX2_theTurn_56 rfl (j := 1) rfl ?_
          obtain ⟨v11, h11, hf⟩ := dh_bd hf
          refine m_iald hC hK kd_17 h11 dX2_theTurn_57 ?_
          refine r_icmp_ne hC dX2_theTurn_58 (tgt := 80) (by decide) (fun c12 => ?_) (fun c12 => ?_)
          · have hf := dh_el hf c12
            refine r_iconst hC dX2_theTurn_80 ki_0 ?_
            exact r_sub [0, 1, 2] rfl (wM_theTurn_b81 hC hK hR M k4 hk4 x1 x2 0 hf)
          · have hf := dh_if hf c12
            refine r_aload_n hC dX2_theTurn_61 rfl (j := 0) rfl ?_
            refine m_getA hC hK fa_12 dX2_theTurn_62 ?_
            refine r_iload_n hC dX2_theTurn_65 rfl (j := 2) rfl ?_
            obtain ⟨v13, h13, hf⟩ := dh_bd hf
            refine m_iald hC hK kd_12 h13 dX2_theTurn_66 ?_
            refine r_aload_n hC dX2_theTurn_67 rfl (j := 0) rfl ?_
            refine m_getA hC hK fa_12 dX2_theTurn_68 ?_
            refine r_iload_n hC dX2_theTurn_71 rfl (j := 1) rfl ?_
            obtain ⟨v14, h14, hf⟩ := dh_bd hf
            refine m_iald hC hK kd_12 h14 dX2_theTurn_72 ?_
            refine r_icmp_ge hC dX2_theTurn_73 (tgt := 80) (by decide) (fun c15 => ?_) (fun c15 => ?_)
            · have hf := dh_if hf c15
              refine r_iconst hC dX2_theTurn_80 ki_0 ?_
              exact r_sub [0, 1, 2] rfl (wM_theTurn_b81 hC hK hR M k4 hk4 x1 x2 0 hf)
            · have hf := dh_el hf c15
              refine r_iconst hC dX2_theTurn_76 ki_1 ?_
              refine r_goto hC dX2_theTurn_77 (tgt := 81) (by decide) ?_
              exact r_sub [0, 1, 2] rfl (wM_theTurn_b81 hC hK hR M k4 hk4 x1 x2 1 hf)
    · have hf := dh_if hf c4
      refine r_goto hC dX2_theTurn_23 (tgt := 92) (by decide) ?_
      refine r_iinc (lv' := [(2, .int (x2 + 1)), (0, .ref (dm_am E)), (1, .int x1)]) hC dX2_theTurn_92 (j := 2) rfl (congrArg _ ki_1) (Nat.le_of_ble_eq_true rfl) rfl ?_
      refine r_goto hC dX2_theTurn_95 (tgt := 4) (by decide) ?_
      exact r_sub [1, 2, 0] rfl (hk4 x1 (x2 + 1) hf)
def gM_theTurn_L4 (M : dm_M) : Nat → Int32 → Int32 → Option Int32
  | 0 => fun _ _ => none
  | n + 1 => gM_theTurn_L4_F (gM_theTurn_L4 M n) M
theorem wM_theTurn_L4 {C : dh_C} {A : Nat → Prop} {E : dm_E} (hC : dh_ok C cX2_theTurn 4 RX2 (some .int)) (hK : dm_Kn E (dh_s C)) (hR : dh_R C = { frames := 0, cells := 0, slots := 0, locals := 0 }) {r : Int32} (M : dm_M) : ∀ (n : Nat) (x1 : Int32) (x2 : Int32) (_ : gM_theTurn_L4 M n x1 x2 = some r), dh_W C A (dm_P E A M) (dm_Q E A (some (.int r)) M) 0 0 0 0 4 [(0, .ref (dm_am E)), (1, .int x1), (2, .int x2)] [] := by
  intro n
  induction n with
  | zero => intro x1 x2 hf; exact dh_no hf
  | succ n ih => intro x1 x2 hf; exact wM_theTurn_L4_F hC hK hR M (gM_theTurn_L4 M n) ih x1 x2 hf
def gM_theTurn (M : dm_M) : Option Int32 :=
  gM_theTurn_L4 M dh_fu (-1) 0
theorem wM_theTurn {C : dh_C} {A : Nat → Prop} {E : dm_E} (hC : dh_ok C cX2_theTurn 4 RX2 (some .int)) (hK : dm_Kn E (dh_s C)) (hR : dh_R C = { frames := 0, cells := 0, slots := 0, locals := 0 }) {r : Int32} (M : dm_M) (hf : gM_theTurn M = some r) : dh_W C A (dm_P E A M) (dm_Q E A (some (.int r)) M) 0 0 0 0 0 [(0, .ref (dm_am E))] [] := by
  unfold gM_theTurn at hf
  refine r_iconst hC dX2_theTurn_0 ki_m1 ?_
  refine r_istore_n (lv' := [(1, .int (-1)), (0, .ref (dm_am E))]) hC dX2_theTurn_1 rfl (Nat.le_of_ble_eq_true rfl) rfl ?_
  refine r_iconst hC dX2_theTurn_2 ki_0 ?_
  refine r_istore_n (lv' := [(2, .int 0), (1, .int (-1)), (0, .ref (dm_am E))]) hC dX2_theTurn_3 rfl (Nat.le_of_ble_eq_true rfl) rfl ?_
  exact r_sub [2, 1, 0] rfl (wM_theTurn_L4 hC hK hR M dh_fu (-1) 0 hf)
theorem cM_theTurn (l : Launch) (E : dm_E) (A : Nat → Prop) (M : dm_M) {r : Int32} (h : gM_theTurn M = some r) : dm_Met l yX2_theTurn cX2_theTurn 4 (some .int) 0 0 E A [.ref (dm_am E)] M (some (.int r)) M := by
  refine dh_met (by decide) (Nat.le_of_ble_eq_true rfl) (fun _ _ h => ⟨_, h.1⟩) (fun C hl hR hC hnm hK => ?_)
  exact wM_theTurn hC hK hR M h
theorem q_theTurn : dm_calV yX2_theTurn cX2_theTurn 4 (some .int) 0 := ⟨q1882, qs69, q1883, by decide +kernel⟩
/-! alms(I)I -/
def gM_alms (M : dm_M) (x1 : Int32) : Option (Int32 × dm_M) :=
  (some (dm_set M 0 0 0)).bind fun M1 =>
  (gM_theTurn M1).bind fun p2 =>
  if p2 = (-1) then (
    some ((-1), M1))
  else
  (gM_in M1 x1 1 10000).bind fun p4 =>
  if p4 = 0 then (
    some ((-1), M1))
  else
  (dm_rd M1 9 p2).bind fun v6 =>
  (dm_wr M1 9 p2 (v6 + x1)).bind fun M7 =>
  some (p2, M7)
theorem wM_alms {C : dh_C} {A : Nat → Prop} {E : dm_E} (hC : dh_ok C cX2_alms 3 RX2 (some .int)) (hK : dm_Kn E (dh_s C)) (hR : dh_R C = { frames := 1, cells := 0, slots := 0, locals := 23 }) {r : Int32} {M' : dm_M} (M : dm_M) (x1 : Int32) (hf : gM_alms M x1 = some (r, M')) : dh_W C A (dm_P E A M) (dm_Q E A (some (.int r)) M') 0 0 0 0 0 [(0, .ref (dm_am E)), (1, .int x1)] [] := by
  unfold gM_alms at hf
  refine r_aload_n hC dX2_alms_0 rfl (j := 0) rfl ?_
  refine r_iconst hC dX2_alms_1 ki_0 ?_
  obtain ⟨M1, h1, hf⟩ := dh_bd hf
  refine m_putI hC hK fi_0 dX2_alms_2 h1 ?_
  refine r_aload_n hC dX2_alms_5 rfl (j := 0) rfl ?_
  obtain ⟨p2, h2, hf⟩ := dh_bd hf
  refine m_callV' hC hK hR (cM_theTurn _ E A M1 h2) q1880 q_theTurn (Nat.le_of_ble_eq_true rfl) (Nat.le_of_ble_eq_true rfl) rfl (Nat.le_of_ble_eq_true rfl) dX2_alms_6 ?_
  refine r_istore_n (lv' := [(2, .int p2), (0, .ref (dm_am E)), (1, .int x1)]) hC dX2_alms_9 rfl (Nat.le_of_ble_eq_true rfl) rfl ?_
  refine r_iload_n hC dX2_alms_10 rfl (j := 0) rfl ?_
  refine r_iconst hC dX2_alms_11 ki_m1 ?_
  refine r_icmp_eq hC dX2_alms_12 (tgt := 26) (by decide) (fun c3 => ?_) (fun c3 => ?_)
  · have hf := dh_if hf c3
    refine r_iconst hC dX2_alms_26 ki_m1 ?_
    exact m_iret hC dX2_alms_27 rfl hf
  · have hf := dh_el hf c3
    refine r_iload_n hC dX2_alms_15 rfl (j := 2) rfl ?_
    refine r_iconst hC dX2_alms_16 ki_1 ?_
    refine r_sipush hC dX2_alms_17 ks_10000 ?_
    obtain ⟨p4, h4, hf⟩ := dh_bd hf
    refine m_callS' hC hK hR (cM_in _ E A M1 x1 1 10000 h4) q1639 q_in (Nat.le_of_ble_eq_true rfl) (Nat.le_of_ble_eq_true rfl) rfl (Nat.le_of_ble_eq_true rfl) dX2_alms_20 ?_
    refine r_if_ne hC dX2_alms_23 (tgt := 28) (by decide) (fun c5 => ?_) (fun c5 => ?_)
    · have hf := dh_el hf c5
      refine r_aload_n hC dX2_alms_28 rfl (j := 1) rfl ?_
      refine m_getA hC hK fa_9 dX2_alms_29 ?_
      refine r_iload_n hC dX2_alms_32 rfl (j := 0) rfl ?_
      refine r_dup2_11 hC dX2_alms_33 rfl rfl ?_
      obtain ⟨v6, h6, hf⟩ := dh_bd hf
      refine m_iald hC hK kd_9 h6 dX2_alms_34 ?_
      refine r_iload_n hC dX2_alms_35 rfl (j := 2) rfl ?_
      refine r_iadd hC dX2_alms_36 ?_
      obtain ⟨M7, h7, hf⟩ := dh_bd hf
      refine m_iast hC hK kd_9 h7 dX2_alms_37 ?_
      refine r_iload_n hC dX2_alms_38 rfl (j := 0) rfl ?_
      exact m_iret hC dX2_alms_39 rfl hf
    · have hf := dh_if hf c5
      refine r_iconst hC dX2_alms_26 ki_m1 ?_
      exact m_iret hC dX2_alms_27 rfl hf
theorem cM_alms (l : Launch) (E : dm_E) (A : Nat → Prop) (M : dm_M) (x1 : Int32) {p : Int32 × dm_M} (h : gM_alms M x1 = some p) : dm_Met l yX2_alms cX2_alms 3 (some .int) 1 23 E A [.ref (dm_am E), .int x1] M (some (.int p.1)) p.2 := by
  refine dh_met (by decide) (Nat.le_of_ble_eq_true rfl) (fun _ _ h => ⟨_, h.1⟩) (fun C hl hR hC hnm hK => ?_)
  exact wM_alms hC hK hR M x1 h
theorem q_alms : dm_calV yX2_alms cX2_alms 3 (some .int) 1 := ⟨q1889, q1890, q1891, by decide +kernel⟩
/-! isPerson(I)Z -/
def gM_isPerson (M : dm_M) (x1 : Int32) : Option Int32 :=
  (dm_rd M 8 0).bind fun v1 =>
  (gM_in M x1 0 (v1 - 1)).bind fun p2 =>
  (dh_bo p2).bind fun _ =>
  some p2
theorem wM_isPerson {C : dh_C} {A : Nat → Prop} {E : dm_E} (hC : dh_ok C cX2_isPerson 2 RX2 (some .boolean)) (hK : dm_Kn E (dh_s C)) (hR : dh_R C = { frames := 1, cells := 0, slots := 0, locals := 22 }) {r : Int32} (M : dm_M) (x1 : Int32) (hf : gM_isPerson M x1 = some r) : dh_W C A (dm_P E A M) (dm_Q E A (some (.int r)) M) 0 0 0 0 0 [(0, .ref (dm_am E)), (1, .int x1)] [] := by
  unfold gM_isPerson at hf
  refine r_iload_n hC dX2_isPerson_0 rfl (j := 1) rfl ?_
  refine r_iconst hC dX2_isPerson_1 ki_0 ?_
  refine r_aload_n hC dX2_isPerson_2 rfl (j := 0) rfl ?_
  refine m_getA hC hK fa_8 dX2_isPerson_3 ?_
  refine r_iconst hC dX2_isPerson_6 ki_0 ?_
  obtain ⟨v1, h1, hf⟩ := dh_bd hf
  refine m_iald hC hK kd_8 h1 dX2_isPerson_7 ?_
  refine r_iconst hC dX2_isPerson_8 ki_1 ?_
  refine r_isub hC dX2_isPerson_9 ?_
  obtain ⟨p2, h2, hf⟩ := dh_bd hf
  refine m_callS' hC hK hR (cM_in _ E A M x1 0 (v1 - 1) h2) q1639 q_in (Nat.le_of_ble_eq_true rfl) (Nat.le_of_ble_eq_true rfl) rfl (Nat.le_of_ble_eq_true rfl) dX2_isPerson_10 ?_
  obtain ⟨_, h3, hf⟩ := dh_bd hf
  exact m_zret1 hC dX2_isPerson_13 rfl (dh_bo_n h3) hf
theorem cM_isPerson (l : Launch) (E : dm_E) (A : Nat → Prop) (M : dm_M) (x1 : Int32) {r : Int32} (h : gM_isPerson M x1 = some r) : dm_Met l yX2_isPerson cX2_isPerson 2 (some .boolean) 1 22 E A [.ref (dm_am E), .int x1] M (some (.int r)) M := by
  refine dh_met (by decide) (Nat.le_of_ble_eq_true rfl) (fun _ _ h => ⟨_, h.1⟩) (fun C hl hR hC hnm hK => ?_)
  exact wM_isPerson hC hK hR M x1 h
theorem q_isPerson : dm_calV yX2_isPerson cX2_isPerson 2 (some .boolean) 1 := ⟨q1652, qs39, q1653, by decide +kernel⟩
/-! areTwo(II)Z -/
def gM_areTwo (M : dm_M) (x1 : Int32) (x2 : Int32) : Option Int32 :=
  (gM_isPerson M x1).bind fun p1 =>
  if p1 = 0 then (
    some 0)
  else
  (gM_isPerson M x2).bind fun p3 =>
  if p3 = 0 then (
    some 0)
  else
  if x1 = x2 then (
    some 0)
  else
  some 1
theorem wM_areTwo {C : dh_C} {A : Nat → Prop} {E : dm_E} (hC : dh_ok C cX2_areTwo 3 RX2 (some .boolean)) (hK : dm_Kn E (dh_s C)) (hR : dh_R C = { frames := 2, cells := 0, slots := 0, locals := 43 }) {r : Int32} (M : dm_M) (x1 : Int32) (x2 : Int32) (hf : gM_areTwo M x1 x2 = some r) : dh_W C A (dm_P E A M) (dm_Q E A (some (.int r)) M) 0 0 0 0 0 [(0, .ref (dm_am E)), (1, .int x1), (2, .int x2)] [] := by
  unfold gM_areTwo at hf
  refine r_aload_n hC dX2_areTwo_0 rfl (j := 0) rfl ?_
  refine r_iload_n hC dX2_areTwo_1 rfl (j := 1) rfl ?_
  obtain ⟨p1, h1, hf⟩ := dh_bd hf
  refine m_callV' hC hK hR (cM_isPerson _ E A M x1 h1) q1650 q_isPerson (Nat.le_of_ble_eq_true rfl) (Nat.le_of_ble_eq_true rfl) rfl (Nat.le_of_ble_eq_true rfl) dX2_areTwo_2 ?_
  refine r_if_eq hC dX2_areTwo_5 (tgt := 25) (by decide) (fun c2 => ?_) (fun c2 => ?_)
  · have hf := dh_if hf c2
    refine r_iconst hC dX2_areTwo_25 ki_0 ?_
    exact m_zret1 hC dX2_areTwo_26 rfl rfl hf
  · have hf := dh_el hf c2
    refine r_aload_n hC dX2_areTwo_8 rfl (j := 0) rfl ?_
    refine r_iload_n hC dX2_areTwo_9 rfl (j := 2) rfl ?_
    obtain ⟨p3, h3, hf⟩ := dh_bd hf
    refine m_callV' hC hK hR (cM_isPerson _ E A M x2 h3) q1650 q_isPerson (Nat.le_of_ble_eq_true rfl) (Nat.le_of_ble_eq_true rfl) rfl (Nat.le_of_ble_eq_true rfl) dX2_areTwo_10 ?_
    refine r_if_eq hC dX2_areTwo_13 (tgt := 25) (by decide) (fun c4 => ?_) (fun c4 => ?_)
    · have hf := dh_if hf c4
      refine r_iconst hC dX2_areTwo_25 ki_0 ?_
      exact m_zret1 hC dX2_areTwo_26 rfl rfl hf
    · have hf := dh_el hf c4
      refine r_iload_n hC dX2_areTwo_16 rfl (j := 1) rfl ?_
      refine r_iload_n hC dX2_areTwo_17 rfl (j := 2) rfl ?_
      refine r_icmp_eq hC dX2_areTwo_18 (tgt := 25) (by decide) (fun c5 => ?_) (fun c5 => ?_)
      · have hf := dh_if hf c5
        refine r_iconst hC dX2_areTwo_25 ki_0 ?_
        exact m_zret1 hC dX2_areTwo_26 rfl rfl hf
      · have hf := dh_el hf c5
        refine r_iconst hC dX2_areTwo_21 ki_1 ?_
        refine r_goto hC dX2_areTwo_22 (tgt := 26) (by decide) ?_
        exact m_zret1 hC dX2_areTwo_26 rfl rfl hf
theorem cM_areTwo (l : Launch) (E : dm_E) (A : Nat → Prop) (M : dm_M) (x1 : Int32) (x2 : Int32) {r : Int32} (h : gM_areTwo M x1 x2 = some r) : dm_Met l yX2_areTwo cX2_areTwo 3 (some .boolean) 2 43 E A [.ref (dm_am E), .int x1, .int x2] M (some (.int r)) M := by
  refine dh_met (by decide) (Nat.le_of_ble_eq_true rfl) (fun _ _ h => ⟨_, h.1⟩) (fun C hl hR hC hnm hK => ?_)
  exact wM_areTwo hC hK hR M x1 x2 h
theorem q_areTwo : dm_calV yX2_areTwo cX2_areTwo 3 (some .boolean) 2 := ⟨q1648, qs38, q1649, by decide +kernel⟩
