set_option maxRecDepth 100000
/-! act(I)I -/
def gM_act_b129 (M : dm_M) (x2 : Int32) (y0 : Int32) (y1 : Int32) : Option (Int32 × dm_M) :=
  (dm_wr M 3 y1 y0).bind fun M19 =>
  if x2 = 0 then (
    (dm_wr M19 4 0 (M19.1 60 0)).bind fun M21 =>
    some ((-1), M21))
  else
  (dm_wr M19 4 0 (M19.1 62 0)).bind fun M22 =>
  some ((-1), M22)
theorem wM_act_b129 {C : dh_C} {A : Nat → Prop} {E : dm_E} (hC : dh_ok C cX2_act 7 RX2 (some .int)) (hK : dm_Kn E (dh_s C)) (hR : dh_R C = { frames := 4, cells := 0, slots := 0, locals := 94 }) {r : Int32} {M' : dm_M} (M : dm_M) (x2 : Int32) (y0 : Int32) (y1 : Int32) (hf : gM_act_b129 M x2 y0 y1 = some (r, M')) : dh_W C A (dm_P E A M) (dm_Q E A (some (.int r)) M') 0 0 0 0 129 [(0, .ref (dm_am E)), (2, .int x2)] [.int y0, .int y1, .ref (dm_am E + dm_ad 3)] := by
  unfold gM_act_b129 at hf
  obtain ⟨M19, h19, hf⟩ := dh_bd hf
  refine m_iast hC hK kd_3 h19 dX2_act_129 ?_
  refine r_aload_n hC dX2_act_130 rfl (j := 0) rfl ?_
  refine m_getA hC hK fa_4 dX2_act_131 ?_
  refine r_iconst hC dX2_act_134 ki_0 ?_
  refine r_iload_n hC dX2_act_135 rfl (j := 1) rfl ?_
  refine r_if_eq hC dX2_act_136 (tgt := 146) (by decide) (fun c20 => ?_) (fun c20 => ?_)
  · have hf := dh_if hf c20
    refine r_aload_n hC dX2_act_146 rfl (j := 0) rfl ?_
    refine m_getI hC hK fi_60 dX2_act_147 ?_
    obtain ⟨M21, h21, hf⟩ := dh_bd hf
    refine m_iast hC hK kd_4 h21 dX2_act_150 ?_
    refine r_iconst hC dX2_act_151 ki_m1 ?_
    exact m_iret hC dX2_act_152 rfl hf
  · have hf := dh_el hf c20
    refine r_aload_n hC dX2_act_139 rfl (j := 0) rfl ?_
    refine m_getI hC hK fi_62 dX2_act_140 ?_
    refine r_goto hC dX2_act_143 (tgt := 150) (by decide) ?_
    obtain ⟨M22, h22, hf⟩ := dh_bd hf
    refine m_iast hC hK kd_4 h22 dX2_act_150 ?_
    refine r_iconst hC dX2_act_151 ki_m1 ?_
    exact m_iret hC dX2_act_152 rfl hf
def gM_act_b112 (M : dm_M) (x2 : Int32) : Option (Int32 × dm_M) :=
  if x2 = 0 then (
    gM_act_b129 M x2 1 0)
  else
  gM_act_b129 M x2 (M.1 61 0) 0
theorem wM_act_b112 {C : dh_C} {A : Nat → Prop} {E : dm_E} (hC : dh_ok C cX2_act 7 RX2 (some .int)) (hK : dm_Kn E (dh_s C)) (hR : dh_R C = { frames := 4, cells := 0, slots := 0, locals := 94 }) {r : Int32} {M' : dm_M} (M : dm_M) (x2 : Int32) (hf : gM_act_b112 M x2 = some (r, M')) : dh_W C A (dm_P E A M) (dm_Q E A (some (.int r)) M') 0 0 0 0 112 [(0, .ref (dm_am E)), (2, .int x2)] [] := by
  unfold gM_act_b112 at hf
  refine r_aload_n hC dX2_act_112 rfl (j := 0) rfl ?_
  refine m_getA hC hK fa_3 dX2_act_113 ?_
  refine r_iconst hC dX2_act_116 ki_0 ?_
  refine r_iload_n hC dX2_act_117 rfl (j := 1) rfl ?_
  refine r_if_eq hC dX2_act_118 (tgt := 128) (by decide) (fun c18 => ?_) (fun c18 => ?_)
  · have hf := dh_if hf c18
    refine r_iconst hC dX2_act_128 ki_1 ?_
    exact r_sub [0, 1] rfl (wM_act_b129 hC hK hR M x2 1 0 hf)
  · have hf := dh_el hf c18
    refine r_aload_n hC dX2_act_121 rfl (j := 0) rfl ?_
    refine m_getI hC hK fi_61 dX2_act_122 ?_
    refine r_goto hC dX2_act_125 (tgt := 129) (by decide) ?_
    exact r_sub [0, 1] rfl (wM_act_b129 hC hK hR M x2 (M.1 61 0) 0 hf)
def gM_act_L265_F (k202 : (dm_M → Int32 → Int32 → Option (Int32 × dm_M))) (k265 : (dm_M → Int32 → Int32 → Int32 → Int32 → Option (Int32 × dm_M))) (M : dm_M) (x3 : Int32) (x4 : Int32) (x5 : Int32) (x6 : Int32) : Option (Int32 × dm_M) :=
  (dm_rd M 65 x4).bind fun v38 =>
  if v38 ≤ x6 then (
    k202 M x3 (x4 + 1))
  else
  (dm_rd M 67 ((4 * x4) + x6)).bind fun v40 =>
  (dm_wr M 50 ((4 * x5) + x6) v40).bind fun M41 =>
  (dm_rd M41 68 ((4 * x4) + x6)).bind fun v42 =>
  (dm_wr M41 51 ((4 * x5) + x6) v42).bind fun M43 =>
  (dm_rd M43 69 ((4 * x4) + x6)).bind fun v44 =>
  (dm_wr M43 52 ((4 * x5) + x6) v44).bind fun M45 =>
  k265 M45 x3 x4 x5 (x6 + 1)
theorem wM_act_L265_F {C : dh_C} {A : Nat → Prop} {E : dm_E} (hC : dh_ok C cX2_act 7 RX2 (some .int)) (hK : dm_Kn E (dh_s C)) (hR : dh_R C = { frames := 4, cells := 0, slots := 0, locals := 94 }) {r : Int32} {M' : dm_M} (k202 : (dm_M → Int32 → Int32 → Option (Int32 × dm_M))) (hk202 : ∀ (M : dm_M) (x3 : Int32) (x4 : Int32), k202 M x3 x4 = some (r, M') → dh_W C A (dm_P E A M) (dm_Q E A (some (.int r)) M') 0 0 0 0 202 [(0, .ref (dm_am E)), (3, .int x3), (4, .int x4)] []) (k265 : (dm_M → Int32 → Int32 → Int32 → Int32 → Option (Int32 × dm_M))) (hk265 : ∀ (M : dm_M) (x3 : Int32) (x4 : Int32) (x5 : Int32) (x6 : Int32), k265 M x3 x4 x5 x6 = some (r, M') → dh_W C A (dm_P E A M) (dm_Q E A (some (.int r)) M') 0 0 0 0 265 [(0, .ref (dm_am E)), (3, .int x3), (4, .int x4), (5, .int x5), (6, .int x6)] []) (M : dm_M) (x3 : Int32) (x4 : Int32) (x5 : Int32) (x6 : Int32) (hf : gM_act_L265_F k202 k265 M x3 x4 x5 x6 = some (r, M')) : dh_W C A (dm_P E A M) (dm_Q E A (some (.int r)) M') 0 0 0 0 265 [(0, .ref (dm_am E)), (3, .int x3), (4, .int x4), (5, .int x5), (6, .int x6)] [] := by
  unfold gM_act_L265_F at hf
  refine r_iload hC dX2_act_265 (j := 4) rfl ?_
  refine r_aload_n hC dX2_act_267 rfl (j := 0) rfl ?_
  refine m_getA hC hK fa_65 dX2_act_268 ?_
  refine r_iload hC dX2_act_271 (j := 2) rfl ?_
  obtain ⟨v38, h38, hf⟩ := dh_bd hf
  refine m_iald hC hK kd_65 h38 dX2_act_273 ?_
  refine r_icmp_ge hC dX2_act_274 (tgt := 355) (by decide) (fun c39 => ?_) (fun c39 => ?_)
  · have hf := dh_if hf c39
    refine r_iinc (lv' := [(4, .int (x4 + 1)), (0, .ref (dm_am E)), (3, .int x3), (5, .int x5), (6, .int x6)]) hC dX2_act_355 (j := 2) rfl (congrArg _ ki_1) (Nat.le_of_ble_eq_true rfl) rfl ?_
    refine r_goto hC dX2_act_358 (tgt := 202) (by decide) ?_
    exact r_sub [1, 2, 0] rfl (hk202 M x3 (x4 + 1) hf)
  · have hf := dh_el hf c39
    refine r_aload_n hC dX2_act_277 rfl (j := 0) rfl ?_
    refine m_getA hC hK fa_50 dX2_act_278 ?_
    refine r_iconst hC dX2_act_281 ki_4 ?_
    refine r_iload hC dX2_act_282 (j := 3) rfl ?_
    refine r_imul hC dX2_act_284 ?_
    refine r_iload hC dX2_act_285 (j := 4) rfl ?_
    refine r_iadd hC dX2_act_287 ?_
    refine r_aload_n hC dX2_act_288 rfl (j := 0) rfl ?_
    refine m_getA hC hK fa_67 dX2_act_289 ?_
    refine r_iconst hC dX2_act_292 ki_4 ?_
    refine r_iload hC dX2_act_293 (j := 2) rfl ?_
    refine r_imul hC dX2_act_295 ?_
    refine r_iload hC dX2_act_296 (j := 4) rfl ?_
    refine r_iadd hC dX2_act_298 ?_
    obtain ⟨v40, h40, hf⟩ := dh_bd hf
    refine m_iald hC hK kd_67 h40 dX2_act_299 ?_
    obtain ⟨M41, h41, hf⟩ := dh_bd hf
    refine m_iast hC hK kd_50 h41 dX2_act_300 ?_
    refine r_aload_n hC dX2_act_301 rfl (j := 0) rfl ?_
    refine m_getA hC hK fa_51 dX2_act_302 ?_
    refine r_iconst hC dX2_act_305 ki_4 ?_
    refine r_iload hC dX2_act_306 (j := 3) rfl ?_
    refine r_imul hC dX2_act_308 ?_
    refine r_iload hC dX2_act_309 (j := 4) rfl ?_
    refine r_iadd hC dX2_act_311 ?_
    refine r_aload_n hC dX2_act_312 rfl (j := 0) rfl ?_
    refine m_getA hC hK fa_68 dX2_act_313 ?_
    refine r_iconst hC dX2_act_316 ki_4 ?_
    refine r_iload hC dX2_act_317 (j := 2) rfl ?_
    refine r_imul hC dX2_act_319 ?_
    refine r_iload hC dX2_act_320 (j := 4) rfl ?_
    refine r_iadd hC dX2_act_322 ?_
    obtain ⟨v42, h42, hf⟩ := dh_bd hf
    refine m_iald hC hK kd_68 h42 dX2_act_323 ?_
    obtain ⟨M43, h43, hf⟩ := dh_bd hf
    refine m_iast hC hK kd_51 h43 dX2_act_324 ?_
    refine r_aload_n hC dX2_act_325 rfl (j := 0) rfl ?_
    refine m_getA hC hK fa_52 dX2_act_326 ?_
    refine r_iconst hC dX2_act_329 ki_4 ?_
    refine r_iload hC dX2_act_330 (j := 3) rfl ?_
    refine r_imul hC dX2_act_332 ?_
    refine r_iload hC dX2_act_333 (j := 4) rfl ?_
    refine r_iadd hC dX2_act_335 ?_
    refine r_aload_n hC dX2_act_336 rfl (j := 0) rfl ?_
    refine m_getA hC hK fa_69 dX2_act_337 ?_
    refine r_iconst hC dX2_act_340 ki_4 ?_
    refine r_iload hC dX2_act_341 (j := 2) rfl ?_
    refine r_imul hC dX2_act_343 ?_
    refine r_iload hC dX2_act_344 (j := 4) rfl ?_
    refine r_iadd hC dX2_act_346 ?_
    obtain ⟨v44, h44, hf⟩ := dh_bd hf
    refine m_iald hC hK kd_69 h44 dX2_act_347 ?_
    obtain ⟨M45, h45, hf⟩ := dh_bd hf
    refine m_iast hC hK kd_52 h45 dX2_act_348 ?_
    refine r_iinc (lv' := [(6, .int (x6 + 1)), (0, .ref (dm_am E)), (3, .int x3), (4, .int x4), (5, .int x5)]) hC dX2_act_349 (j := 4) rfl (congrArg _ ki_1) (Nat.le_of_ble_eq_true rfl) rfl ?_
    refine r_goto hC dX2_act_352 (tgt := 265) (by decide) ?_
    exact r_sub [1, 2, 3, 4, 0] rfl (hk265 M45 x3 x4 x5 (x6 + 1) hf)
def gM_act_L265 (k202 : (dm_M → Int32 → Int32 → Option (Int32 × dm_M))) : Nat → dm_M → Int32 → Int32 → Int32 → Int32 → Option (Int32 × dm_M)
  | 0 => fun _ _ _ _ _ => none
  | n + 1 => gM_act_L265_F k202 (gM_act_L265 k202 n)
theorem wM_act_L265 {C : dh_C} {A : Nat → Prop} {E : dm_E} (hC : dh_ok C cX2_act 7 RX2 (some .int)) (hK : dm_Kn E (dh_s C)) (hR : dh_R C = { frames := 4, cells := 0, slots := 0, locals := 94 }) {r : Int32} {M' : dm_M} (k202 : (dm_M → Int32 → Int32 → Option (Int32 × dm_M))) (hk202 : ∀ (M : dm_M) (x3 : Int32) (x4 : Int32), k202 M x3 x4 = some (r, M') → dh_W C A (dm_P E A M) (dm_Q E A (some (.int r)) M') 0 0 0 0 202 [(0, .ref (dm_am E)), (3, .int x3), (4, .int x4)] []) : ∀ (n : Nat) (M : dm_M) (x3 : Int32) (x4 : Int32) (x5 : Int32) (x6 : Int32) (_ : gM_act_L265 k202 n M x3 x4 x5 x6 = some (r, M')), dh_W C A (dm_P E A M) (dm_Q E A (some (.int r)) M') 0 0 0 0 265 [(0, .ref (dm_am E)), (3, .int x3), (4, .int x4), (5, .int x5), (6, .int x6)] [] := by
  intro n
  induction n with
  | zero => intro M x3 x4 x5 x6 hf; exact dh_no hf
  | succ n ih => intro M x3 x4 x5 x6 hf; exact wM_act_L265_F hC hK hR k202 hk202 (gM_act_L265 k202 n) ih M x3 x4 x5 x6 hf
def gM_act_L202_F (k202 : (dm_M → Int32 → Int32 → Option (Int32 × dm_M))) (M : dm_M) (x3 : Int32) (x4 : Int32) : Option (Int32 × dm_M) :=
  if (M.1 63 0) ≤ x4 then (
    some (x3, M))
  else
  (dm_rd M 64 x4).bind fun v32 =>
  (dm_wr M 47 ((20 * x3) + x4) v32).bind fun M33 =>
  (dm_rd M33 65 x4).bind fun v34 =>
  (dm_wr M33 48 ((20 * x3) + x4) v34).bind fun M35 =>
  (dm_rd M35 66 x4).bind fun v36 =>
  (dm_wr M35 49 ((20 * x3) + x4) v36).bind fun M37 =>
  gM_act_L265 k202 dh_fu M37 x3 x4 ((20 * x3) + x4) 0
theorem wM_act_L202_F {C : dh_C} {A : Nat → Prop} {E : dm_E} (hC : dh_ok C cX2_act 7 RX2 (some .int)) (hK : dm_Kn E (dh_s C)) (hR : dh_R C = { frames := 4, cells := 0, slots := 0, locals := 94 }) {r : Int32} {M' : dm_M} (k202 : (dm_M → Int32 → Int32 → Option (Int32 × dm_M))) (hk202 : ∀ (M : dm_M) (x3 : Int32) (x4 : Int32), k202 M x3 x4 = some (r, M') → dh_W C A (dm_P E A M) (dm_Q E A (some (.int r)) M') 0 0 0 0 202 [(0, .ref (dm_am E)), (3, .int x3), (4, .int x4)] []) (M : dm_M) (x3 : Int32) (x4 : Int32) (hf : gM_act_L202_F k202 M x3 x4 = some (r, M')) : dh_W C A (dm_P E A M) (dm_Q E A (some (.int r)) M') 0 0 0 0 202 [(0, .ref (dm_am E)), (3, .int x3), (4, .int x4)] [] := by
  unfold gM_act_L202_F at hf
  refine r_iload hC dX2_act_202 (j := 2) rfl ?_
  refine r_aload_n hC dX2_act_204 rfl (j := 0) rfl ?_
  refine m_getI hC hK fi_63 dX2_act_205 ?_
  refine r_icmp_ge hC dX2_act_208 (tgt := 361) (by decide) (fun c31 => ?_) (fun c31 => ?_)
  · have hf := dh_if hf c31
    refine r_iload_n hC dX2_act_361 rfl (j := 1) rfl ?_
    exact m_iret hC dX2_act_362 rfl hf
  · have hf := dh_el hf c31
    refine r_bipush hC dX2_act_211 kb_20 ?_
    refine r_iload_n hC dX2_act_213 rfl (j := 1) rfl ?_
    refine r_imul hC dX2_act_214 ?_
    refine r_iload hC dX2_act_215 (j := 2) rfl ?_
    refine r_iadd hC dX2_act_217 ?_
    refine r_istore (lv' := [(5, .int ((20 * x3) + x4)), (0, .ref (dm_am E)), (3, .int x3), (4, .int x4)]) hC dX2_act_218 (Nat.le_of_ble_eq_true rfl) rfl ?_
    refine r_aload_n hC dX2_act_220 rfl (j := 1) rfl ?_
    refine m_getA hC hK fa_47 dX2_act_221 ?_
    refine r_iload hC dX2_act_224 (j := 0) rfl ?_
    refine r_aload_n hC dX2_act_226 rfl (j := 1) rfl ?_
    refine m_getA hC hK fa_64 dX2_act_227 ?_
    refine r_iload hC dX2_act_230 (j := 3) rfl ?_
    obtain ⟨v32, h32, hf⟩ := dh_bd hf
    refine m_iald hC hK kd_64 h32 dX2_act_232 ?_
    obtain ⟨M33, h33, hf⟩ := dh_bd hf
    refine m_iast hC hK kd_47 h33 dX2_act_233 ?_
    refine r_aload_n hC dX2_act_234 rfl (j := 1) rfl ?_
    refine m_getA hC hK fa_48 dX2_act_235 ?_
    refine r_iload hC dX2_act_238 (j := 0) rfl ?_
    refine r_aload_n hC dX2_act_240 rfl (j := 1) rfl ?_
    refine m_getA hC hK fa_65 dX2_act_241 ?_
    refine r_iload hC dX2_act_244 (j := 3) rfl ?_
    obtain ⟨v34, h34, hf⟩ := dh_bd hf
    refine m_iald hC hK kd_65 h34 dX2_act_246 ?_
    obtain ⟨M35, h35, hf⟩ := dh_bd hf
    refine m_iast hC hK kd_48 h35 dX2_act_247 ?_
    refine r_aload_n hC dX2_act_248 rfl (j := 1) rfl ?_
    refine m_getA hC hK fa_49 dX2_act_249 ?_
    refine r_iload hC dX2_act_252 (j := 0) rfl ?_
    refine r_aload_n hC dX2_act_254 rfl (j := 1) rfl ?_
    refine m_getA hC hK fa_66 dX2_act_255 ?_
    refine r_iload hC dX2_act_258 (j := 3) rfl ?_
    obtain ⟨v36, h36, hf⟩ := dh_bd hf
    refine m_iald hC hK kd_66 h36 dX2_act_260 ?_
    obtain ⟨M37, h37, hf⟩ := dh_bd hf
    refine m_iast hC hK kd_49 h37 dX2_act_261 ?_
    refine r_iconst hC dX2_act_262 ki_0 ?_
    refine r_istore (lv' := [(6, .int 0), (5, .int ((20 * x3) + x4)), (0, .ref (dm_am E)), (3, .int x3), (4, .int x4)]) hC dX2_act_263 (Nat.le_of_ble_eq_true rfl) rfl ?_
    exact r_sub [2, 3, 4, 1, 0] rfl (wM_act_L265 hC hK hR k202 hk202 dh_fu M37 x3 x4 ((20 * x3) + x4) 0 hf)
def gM_act_L202 : Nat → dm_M → Int32 → Int32 → Option (Int32 × dm_M)
  | 0 => fun _ _ _ => none
  | n + 1 => gM_act_L202_F (gM_act_L202 n)
theorem wM_act_L202 {C : dh_C} {A : Nat → Prop} {E : dm_E} (hC : dh_ok C cX2_act 7 RX2 (some .int)) (hK : dm_Kn E (dh_s C)) (hR : dh_R C = { frames := 4, cells := 0, slots := 0, locals := 94 }) {r : Int32} {M' : dm_M} : ∀ (n : Nat) (M : dm_M) (x3 : Int32) (x4 : Int32) (_ : gM_act_L202 n M x3 x4 = some (r, M')), dh_W C A (dm_P E A M) (dm_Q E A (some (.int r)) M') 0 0 0 0 202 [(0, .ref (dm_am E)), (3, .int x3), (4, .int x4)] [] := by
  intro n
  induction n with
  | zero => intro M x3 x4 hf; exact dh_no hf
  | succ n ih => intro M x3 x4 hf; exact wM_act_L202_F hC hK hR (gM_act_L202 n) ih M x3 x4 hf
def gM_act_b101 (M : dm_M) (x1 : Int32) (x2 : Int32) : Option (Int32 × dm_M) :=
  if x2 = 0 then (
    gM_act_b112 M x2)
  else
  if ¬ ((M.1 61 0) ≤ 0) then (
    gM_act_b112 M x2)
  else
  (dm_rd M 43 0).bind fun v24 =>
  (dm_rd M 43 0).bind fun v25 =>
  (dm_wr M 43 0 (v25 + 1)).bind fun M26 =>
  (dm_wr M26 44 v24 x1).bind fun M27 =>
  (dm_rd M27 5 0).bind fun v28 =>
  (dm_wr M27 45 v24 v28).bind fun M29 =>
  (dm_wr M29 46 v24 (M29.1 63 0)).bind fun M30 =>
  gM_act_L202 dh_fu M30 v24 0
theorem wM_act_b101 {C : dh_C} {A : Nat → Prop} {E : dm_E} (hC : dh_ok C cX2_act 7 RX2 (some .int)) (hK : dm_Kn E (dh_s C)) (hR : dh_R C = { frames := 4, cells := 0, slots := 0, locals := 94 }) {r : Int32} {M' : dm_M} (M : dm_M) (x1 : Int32) (x2 : Int32) (hf : gM_act_b101 M x1 x2 = some (r, M')) : dh_W C A (dm_P E A M) (dm_Q E A (some (.int r)) M') 0 0 0 0 101 [(0, .ref (dm_am E)), (1, .int x1), (2, .int x2)] [] := by
  unfold gM_act_b101 at hf
  refine r_iload_n hC dX2_act_101 rfl (j := 2) rfl ?_
  refine r_if_eq hC dX2_act_102 (tgt := 112) (by decide) (fun c17 => ?_) (fun c17 => ?_)
  · have hf := dh_if hf c17
    exact r_sub [0, 2] rfl (wM_act_b112 hC hK hR M x2 hf)
  · have hf := dh_el hf c17
    refine r_aload_n hC dX2_act_105 rfl (j := 0) rfl ?_
    refine m_getI hC hK fi_61 dX2_act_106 ?_
    refine r_if_le hC dX2_act_109 (tgt := 153) (by decide) (fun c23 => ?_) (fun c23 => ?_)
    · have hf := dh_el hf (fun q => q c23)
      refine r_aload_n hC dX2_act_153 rfl (j := 0) rfl ?_
      refine m_getA hC hK fa_43 dX2_act_154 ?_
      refine r_iconst hC dX2_act_157 ki_0 ?_
      obtain ⟨v24, h24, hf⟩ := dh_bd hf
      refine m_iald hC hK kd_43 h24 dX2_act_158 ?_
      refine r_istore_n (lv' := [(3, .int v24), (0, .ref (dm_am E)), (1, .int x1), (2, .int x2)]) hC dX2_act_159 rfl (Nat.le_of_ble_eq_true rfl) rfl ?_
      refine r_aload_n hC dX2_act_160 rfl (j := 1) rfl ?_
      refine m_getA hC hK fa_43 dX2_act_161 ?_
      refine r_iconst hC dX2_act_164 ki_0 ?_
      refine r_dup2_11 hC dX2_act_165 rfl rfl ?_
      obtain ⟨v25, h25, hf⟩ := dh_bd hf
      refine m_iald hC hK kd_43 h25 dX2_act_166 ?_
      refine r_iconst hC dX2_act_167 ki_1 ?_
      refine r_iadd hC dX2_act_168 ?_
      obtain ⟨M26, h26, hf⟩ := dh_bd hf
      refine m_iast hC hK kd_43 h26 dX2_act_169 ?_
      refine r_aload_n hC dX2_act_170 rfl (j := 1) rfl ?_
      refine m_getA hC hK fa_44 dX2_act_171 ?_
      refine r_iload_n hC dX2_act_174 rfl (j := 0) rfl ?_
      refine r_iload_n hC dX2_act_175 rfl (j := 2) rfl ?_
      obtain ⟨M27, h27, hf⟩ := dh_bd hf
      refine m_iast hC hK kd_44 h27 dX2_act_176 ?_
      refine r_aload_n hC dX2_act_177 rfl (j := 1) rfl ?_
      refine m_getA hC hK fa_45 dX2_act_178 ?_
      refine r_iload_n hC dX2_act_181 rfl (j := 0) rfl ?_
      refine r_aload_n hC dX2_act_182 rfl (j := 1) rfl ?_
      refine m_getA hC hK fa_5 dX2_act_183 ?_
      refine r_iconst hC dX2_act_186 ki_0 ?_
      obtain ⟨v28, h28, hf⟩ := dh_bd hf
      refine m_iald hC hK kd_5 h28 dX2_act_187 ?_
      obtain ⟨M29, h29, hf⟩ := dh_bd hf
      refine m_iast hC hK kd_45 h29 dX2_act_188 ?_
      refine r_aload_n hC dX2_act_189 rfl (j := 1) rfl ?_
      refine m_getA hC hK fa_46 dX2_act_190 ?_
      refine r_iload_n hC dX2_act_193 rfl (j := 0) rfl ?_
      refine r_aload_n hC dX2_act_194 rfl (j := 1) rfl ?_
      refine m_getI hC hK fi_63 dX2_act_195 ?_
      obtain ⟨M30, h30, hf⟩ := dh_bd hf
      refine m_iast hC hK kd_46 h30 dX2_act_198 ?_
      refine r_iconst hC dX2_act_199 ki_0 ?_
      refine r_istore (lv' := [(4, .int 0), (3, .int v24), (0, .ref (dm_am E)), (1, .int x1), (2, .int x2)]) hC dX2_act_200 (Nat.le_of_ble_eq_true rfl) rfl ?_
      exact r_sub [2, 1, 0] rfl (wM_act_L202 hC hK hR dh_fu M30 v24 0 hf)
    · have hf := dh_if hf c23
      exact r_sub [0, 2] rfl (wM_act_b112 hC hK hR M x2 hf)
def gM_act_L82_F (k82 : (dm_M → Int32 → Int32 → Option (Int32 × dm_M))) (M : dm_M) (x1 : Int32) (x2 : Int32) : Option (Int32 × dm_M) :=
  if x2 = 0 then (
    gM_act_b101 M x1 x2)
  else
  if (M.1 57 0) = 0 then (
    gM_act_b101 M x1 x2)
  else
  (gM_oneLine M).bind fun p47 =>
  k82 p47.2 x1 p47.1
theorem wM_act_L82_F {C : dh_C} {A : Nat → Prop} {E : dm_E} (hC : dh_ok C cX2_act 7 RX2 (some .int)) (hK : dm_Kn E (dh_s C)) (hR : dh_R C = { frames := 4, cells := 0, slots := 0, locals := 94 }) {r : Int32} {M' : dm_M} (k82 : (dm_M → Int32 → Int32 → Option (Int32 × dm_M))) (hk82 : ∀ (M : dm_M) (x1 : Int32) (x2 : Int32), k82 M x1 x2 = some (r, M') → dh_W C A (dm_P E A M) (dm_Q E A (some (.int r)) M') 0 0 0 0 82 [(0, .ref (dm_am E)), (1, .int x1), (2, .int x2)] []) (M : dm_M) (x1 : Int32) (x2 : Int32) (hf : gM_act_L82_F k82 M x1 x2 = some (r, M')) : dh_W C A (dm_P E A M) (dm_Q E A (some (.int r)) M') 0 0 0 0 82 [(0, .ref (dm_am E)), (1, .int x1), (2, .int x2)] [] := by
  unfold gM_act_L82_F at hf
  refine r_iload_n hC dX2_act_82 rfl (j := 2) rfl ?_
  refine r_if_eq hC dX2_act_83 (tgt := 101) (by decide) (fun c16 => ?_) (fun c16 => ?_)
  · have hf := dh_if hf c16
    exact r_sub [0, 1, 2] rfl (wM_act_b101 hC hK hR M x1 x2 hf)
  · have hf := dh_el hf c16
    refine r_aload_n hC dX2_act_86 rfl (j := 0) rfl ?_
    refine m_getI hC hK fi_57 dX2_act_87 ?_
    refine r_if_eq hC dX2_act_90 (tgt := 101) (by decide) (fun c46 => ?_) (fun c46 => ?_)
    · have hf := dh_if hf c46
      exact r_sub [0, 1, 2] rfl (wM_act_b101 hC hK hR M x1 x2 hf)
    · have hf := dh_el hf c46
      refine r_aload_n hC dX2_act_93 rfl (j := 0) rfl ?_
      obtain ⟨p47, h47, hf⟩ := dh_bd hf
      refine m_callV' hC hK hR (cM_oneLine _ E A M h47) q1747 q_oneLine (Nat.le_of_ble_eq_true rfl) (Nat.le_of_ble_eq_true rfl) rfl (Nat.le_of_ble_eq_true rfl) dX2_act_94 ?_
      refine r_istore_n (lv' := [(2, .int p47.1), (0, .ref (dm_am E)), (1, .int x1)]) hC dX2_act_97 rfl (Nat.le_of_ble_eq_true rfl) rfl ?_
      refine r_goto hC dX2_act_98 (tgt := 82) (by decide) ?_
      exact r_sub [1, 2, 0] rfl (hk82 p47.2 x1 p47.1 hf)
def gM_act_L82 : Nat → dm_M → Int32 → Int32 → Option (Int32 × dm_M)
  | 0 => fun _ _ _ => none
  | n + 1 => gM_act_L82_F (gM_act_L82 n)
theorem wM_act_L82 {C : dh_C} {A : Nat → Prop} {E : dm_E} (hC : dh_ok C cX2_act 7 RX2 (some .int)) (hK : dm_Kn E (dh_s C)) (hR : dh_R C = { frames := 4, cells := 0, slots := 0, locals := 94 }) {r : Int32} {M' : dm_M} : ∀ (n : Nat) (M : dm_M) (x1 : Int32) (x2 : Int32) (_ : gM_act_L82 n M x1 x2 = some (r, M')), dh_W C A (dm_P E A M) (dm_Q E A (some (.int r)) M') 0 0 0 0 82 [(0, .ref (dm_am E)), (1, .int x1), (2, .int x2)] [] := by
  intro n
  induction n with
  | zero => intro M x1 x2 hf; exact dh_no hf
  | succ n ih => intro M x1 x2 hf; exact wM_act_L82_F hC hK hR (gM_act_L82 n) ih M x1 x2 hf
def gM_act (M : dm_M) (x1 : Int32) : Option (Int32 × dm_M) :=
  (some (dm_set M 0 0 0)).bind fun M1 =>
  (dm_rd M1 2 0).bind fun v2 =>
  (some (dm_set M1 55 0 v2)).bind fun M3 =>
  (dm_wr M3 2 0 0).bind fun M4 =>
  (dm_wr M4 3 0 0).bind fun M5 =>
  (dm_wr M5 4 0 (-1)).bind fun M6 =>
  (dm_rd M6 43 0).bind fun v7 =>
  if v7 = 4 then (
    some ((-2), M6))
  else
  (gM_isDay M6 x1).bind fun p9 =>
  if p9 = 0 then (
    some ((-2), M6))
  else
  (some (dm_set M6 54 0 0)).bind fun M11 =>
  (some (dm_set M11 60 0 (-1))).bind fun M12 =>
  (some (dm_set M12 61 0 0)).bind fun M13 =>
  (some (dm_set M13 63 0 0)).bind fun M14 =>
  (gM_next M14).bind fun p15 =>
  gM_act_L82 dh_fu p15 x1 1
theorem wM_act {C : dh_C} {A : Nat → Prop} {E : dm_E} (hC : dh_ok C cX2_act 7 RX2 (some .int)) (hK : dm_Kn E (dh_s C)) (hR : dh_R C = { frames := 4, cells := 0, slots := 0, locals := 94 }) {r : Int32} {M' : dm_M} (M : dm_M) (x1 : Int32) (hf : gM_act M x1 = some (r, M')) : dh_W C A (dm_P E A M) (dm_Q E A (some (.int r)) M') 0 0 0 0 0 [(0, .ref (dm_am E)), (1, .int x1)] [] := by
  unfold gM_act at hf
  refine r_aload_n hC dX2_act_0 rfl (j := 0) rfl ?_
  refine r_iconst hC dX2_act_1 ki_0 ?_
  obtain ⟨M1, h1, hf⟩ := dh_bd hf
  refine m_putI hC hK fi_0 dX2_act_2 h1 ?_
  refine r_aload_n hC dX2_act_5 rfl (j := 0) rfl ?_
  refine r_aload_n hC dX2_act_6 rfl (j := 0) rfl ?_
  refine m_getA hC hK fa_2 dX2_act_7 ?_
  refine r_iconst hC dX2_act_10 ki_0 ?_
  obtain ⟨v2, h2, hf⟩ := dh_bd hf
  refine m_iald hC hK kd_2 h2 dX2_act_11 ?_
  obtain ⟨M3, h3, hf⟩ := dh_bd hf
  refine m_putI hC hK fi_55 dX2_act_12 h3 ?_
  refine r_aload_n hC dX2_act_15 rfl (j := 0) rfl ?_
  refine m_getA hC hK fa_2 dX2_act_16 ?_
  refine r_iconst hC dX2_act_19 ki_0 ?_
  refine r_iconst hC dX2_act_20 ki_0 ?_
  obtain ⟨M4, h4, hf⟩ := dh_bd hf
  refine m_iast hC hK kd_2 h4 dX2_act_21 ?_
  refine r_aload_n hC dX2_act_22 rfl (j := 0) rfl ?_
  refine m_getA hC hK fa_3 dX2_act_23 ?_
  refine r_iconst hC dX2_act_26 ki_0 ?_
  refine r_iconst hC dX2_act_27 ki_0 ?_
  obtain ⟨M5, h5, hf⟩ := dh_bd hf
  refine m_iast hC hK kd_3 h5 dX2_act_28 ?_
  refine r_aload_n hC dX2_act_29 rfl (j := 0) rfl ?_
  refine m_getA hC hK fa_4 dX2_act_30 ?_
  refine r_iconst hC dX2_act_33 ki_0 ?_
  refine r_iconst hC dX2_act_34 ki_m1 ?_
  obtain ⟨M6, h6, hf⟩ := dh_bd hf
  refine m_iast hC hK kd_4 h6 dX2_act_35 ?_
  refine r_aload_n hC dX2_act_36 rfl (j := 0) rfl ?_
  refine m_getA hC hK fa_43 dX2_act_37 ?_
  refine r_iconst hC dX2_act_40 ki_0 ?_
  obtain ⟨v7, h7, hf⟩ := dh_bd hf
  refine m_iald hC hK kd_43 h7 dX2_act_41 ?_
  refine r_iconst hC dX2_act_42 ki_4 ?_
  refine r_icmp_eq hC dX2_act_43 (tgt := 53) (by decide) (fun c8 => ?_) (fun c8 => ?_)
  · have hf := dh_if hf c8
    refine r_bipush hC dX2_act_53 kb_m2 ?_
    exact m_iret hC dX2_act_55 rfl hf
  · have hf := dh_el hf c8
    refine r_iload_n hC dX2_act_46 rfl (j := 1) rfl ?_
    obtain ⟨p9, h9, hf⟩ := dh_bd hf
    refine m_callS' hC hK hR (cM_isDay _ E A M6 x1 h9) q1736 q_isDay (Nat.le_of_ble_eq_true rfl) (Nat.le_of_ble_eq_true rfl) rfl (Nat.le_of_ble_eq_true rfl) dX2_act_47 ?_
    refine r_if_ne hC dX2_act_50 (tgt := 56) (by decide) (fun c10 => ?_) (fun c10 => ?_)
    · have hf := dh_el hf c10
      refine r_aload_n hC dX2_act_56 rfl (j := 0) rfl ?_
      refine r_iconst hC dX2_act_57 ki_0 ?_
      obtain ⟨M11, h11, hf⟩ := dh_bd hf
      refine m_putI hC hK fi_54 dX2_act_58 h11 ?_
      refine r_aload_n hC dX2_act_61 rfl (j := 0) rfl ?_
      refine r_iconst hC dX2_act_62 ki_m1 ?_
      obtain ⟨M12, h12, hf⟩ := dh_bd hf
      refine m_putI hC hK fi_60 dX2_act_63 h12 ?_
      refine r_aload_n hC dX2_act_66 rfl (j := 0) rfl ?_
      refine r_iconst hC dX2_act_67 ki_0 ?_
      obtain ⟨M13, h13, hf⟩ := dh_bd hf
      refine m_putI hC hK fi_61 dX2_act_68 h13 ?_
      refine r_aload_n hC dX2_act_71 rfl (j := 0) rfl ?_
      refine r_iconst hC dX2_act_72 ki_0 ?_
      obtain ⟨M14, h14, hf⟩ := dh_bd hf
      refine m_putI hC hK fi_63 dX2_act_73 h14 ?_
      refine r_iconst hC dX2_act_76 ki_1 ?_
      refine r_istore_n (lv' := [(2, .int 1), (0, .ref (dm_am E)), (1, .int x1)]) hC dX2_act_77 rfl (Nat.le_of_ble_eq_true rfl) rfl ?_
      refine r_aload_n hC dX2_act_78 rfl (j := 1) rfl ?_
      obtain ⟨p15, h15, hf⟩ := dh_bd hf
      refine m_callV' hC hK hR (cM_next _ E A M14 h15) q1739 q_next (Nat.le_of_ble_eq_true rfl) (Nat.le_of_ble_eq_true rfl) rfl (Nat.le_of_ble_eq_true rfl) dX2_act_79 ?_
      exact r_sub [1, 2, 0] rfl (wM_act_L82 hC hK hR dh_fu p15 x1 1 hf)
    · have hf := dh_if hf c10
      refine r_bipush hC dX2_act_53 kb_m2 ?_
      exact m_iret hC dX2_act_55 rfl hf
theorem cM_act (l : Launch) (E : dm_E) (A : Nat → Prop) (M : dm_M) (x1 : Int32) {p : Int32 × dm_M} (h : gM_act M x1 = some p) : dm_Met l yX2_act cX2_act 7 (some .int) 4 94 E A [.ref (dm_am E), .int x1] M (some (.int p.1)) p.2 := by
  refine dh_met (by decide) (Nat.le_of_ble_eq_true rfl) (fun _ _ h => ⟨_, h.1⟩) (fun C hl hR hC hnm hK => ?_)
  exact wM_act hC hK hR M x1 h
theorem q_act : dm_calV yX2_act cX2_act 7 (some .int) 1 := ⟨q1733, q1734, q1735, by decide +kernel⟩
/-! move([IIII)V -/
def gM_move_L3_F (k3 : (dm_M → Nat → Int32 → Int32 → Int32 → Int32 → Option dm_M)) (M : dm_M) (x0 : Nat) (x1 : Int32) (x2 : Int32) (x3 : Int32) (x4 : Int32) : Option dm_M :=
  if x1 ≤ x4 then (
    some M)
  else
  (dm_rd M x0 ((x1 * x2) + x4)).bind fun v2 =>
  (dm_wr M x0 ((x1 * x3) + x4) v2).bind fun M3 =>
  k3 M3 x0 x1 x2 x3 (x4 + 1)
theorem wM_move_L3_F {C : dh_C} {A : Nat → Prop} {E : dm_E} (hC : dh_ok C cX2_move 5 RX2 none) (hK : dm_Kn E (dh_s C)) (hR : dh_R C = { frames := 0, cells := 0, slots := 0, locals := 0 }) {M' : dm_M} (k3 : (dm_M → Nat → Int32 → Int32 → Int32 → Int32 → Option dm_M)) (hk3 : ∀ (M : dm_M) (x0 : Nat) (x1 : Int32) (x2 : Int32) (x3 : Int32) (x4 : Int32) (_ : dm_kd x0 = 0), k3 M x0 x1 x2 x3 x4 = some M' → dh_W C A (dm_P E A M) (dm_Q E A none M') 0 0 0 0 3 [(0, .ref (dm_am E + dm_ad x0)), (1, .int x1), (2, .int x2), (3, .int x3), (4, .int x4)] []) (M : dm_M) (x0 : Nat) (x1 : Int32) (x2 : Int32) (x3 : Int32) (x4 : Int32) (ha_x0 : dm_kd x0 = 0) (hf : gM_move_L3_F k3 M x0 x1 x2 x3 x4 = some M') : dh_W C A (dm_P E A M) (dm_Q E A none M') 0 0 0 0 3 [(0, .ref (dm_am E + dm_ad x0)), (1, .int x1), (2, .int x2), (3, .int x3), (4, .int x4)] [] := by
  unfold gM_move_L3_F at hf
  refine r_iload hC dX2_move_3 (j := 4) rfl ?_
  refine r_iload_n hC dX2_move_5 rfl (j := 1) rfl ?_
  refine r_icmp_ge hC dX2_move_6 (tgt := 31) (by decide) (fun c1 => ?_) (fun c1 => ?_)
  · have hf := dh_if hf c1
    exact m_vret hC dX2_move_31 rfl hf
  · have hf := dh_el hf c1
    refine r_aload_n hC dX2_move_9 rfl (j := 0) rfl ?_
    refine r_iload_n hC dX2_move_10 rfl (j := 1) rfl ?_
    refine r_iload_n hC dX2_move_11 rfl (j := 3) rfl ?_
    refine r_imul hC dX2_move_12 ?_
    refine r_iload hC dX2_move_13 (j := 4) rfl ?_
    refine r_iadd hC dX2_move_15 ?_
    refine r_aload_n hC dX2_move_16 rfl (j := 0) rfl ?_
    refine r_iload_n hC dX2_move_17 rfl (j := 1) rfl ?_
    refine r_iload_n hC dX2_move_18 rfl (j := 2) rfl ?_
    refine r_imul hC dX2_move_19 ?_
    refine r_iload hC dX2_move_20 (j := 4) rfl ?_
    refine r_iadd hC dX2_move_22 ?_
    obtain ⟨v2, h2, hf⟩ := dh_bd hf
    refine m_iald hC hK ha_x0 h2 dX2_move_23 ?_
    obtain ⟨M3, h3, hf⟩ := dh_bd hf
    refine m_iast hC hK ha_x0 h3 dX2_move_24 ?_
    refine r_iinc (lv' := [(4, .int (x4 + 1)), (0, .ref (dm_am E + dm_ad x0)), (1, .int x1), (2, .int x2), (3, .int x3)]) hC dX2_move_25 (j := 4) rfl (congrArg _ ki_1) (Nat.le_of_ble_eq_true rfl) rfl ?_
    refine r_goto hC dX2_move_28 (tgt := 3) (by decide) ?_
    exact r_sub [1, 2, 3, 4, 0] rfl (hk3 M3 x0 x1 x2 x3 (x4 + 1) ha_x0 hf)
def gM_move_L3 : Nat → dm_M → Nat → Int32 → Int32 → Int32 → Int32 → Option dm_M
  | 0 => fun _ _ _ _ _ _ => none
  | n + 1 => gM_move_L3_F (gM_move_L3 n)
theorem wM_move_L3 {C : dh_C} {A : Nat → Prop} {E : dm_E} (hC : dh_ok C cX2_move 5 RX2 none) (hK : dm_Kn E (dh_s C)) (hR : dh_R C = { frames := 0, cells := 0, slots := 0, locals := 0 }) {M' : dm_M} : ∀ (n : Nat) (M : dm_M) (x0 : Nat) (x1 : Int32) (x2 : Int32) (x3 : Int32) (x4 : Int32) (_ha_x0 : dm_kd x0 = 0) (_ : gM_move_L3 n M x0 x1 x2 x3 x4 = some M'), dh_W C A (dm_P E A M) (dm_Q E A none M') 0 0 0 0 3 [(0, .ref (dm_am E + dm_ad x0)), (1, .int x1), (2, .int x2), (3, .int x3), (4, .int x4)] [] := by
  intro n
  induction n with
  | zero => intro M x0 x1 x2 x3 x4 _ hf; exact dh_no hf
  | succ n ih => intro M x0 x1 x2 x3 x4 ha_x0 hf; exact wM_move_L3_F hC hK hR (gM_move_L3 n) ih M x0 x1 x2 x3 x4 ha_x0 hf
def gM_move (M : dm_M) (x0 : Nat) (x1 : Int32) (x2 : Int32) (x3 : Int32) : Option dm_M :=
  gM_move_L3 dh_fu M x0 x1 x2 x3 0
theorem wM_move {C : dh_C} {A : Nat → Prop} {E : dm_E} (hC : dh_ok C cX2_move 5 RX2 none) (hK : dm_Kn E (dh_s C)) (hR : dh_R C = { frames := 0, cells := 0, slots := 0, locals := 0 }) {M' : dm_M} (M : dm_M) (x0 : Nat) (x1 : Int32) (x2 : Int32) (x3 : Int32) (ha_x0 : dm_kd x0 = 0) (hf : gM_move M x0 x1 x2 x3 = some M') : dh_W C A (dm_P E A M) (dm_Q E A none M') 0 0 0 0 0 [(0, .ref (dm_am E + dm_ad x0)), (1, .int x1), (2, .int x2), (3, .int x3)] [] := by
  unfold gM_move at hf
  refine r_iconst hC dX2_move_0 ki_0 ?_
  refine r_istore (lv' := [(4, .int 0), (0, .ref (dm_am E + dm_ad x0)), (1, .int x1), (2, .int x2), (3, .int x3)]) hC dX2_move_1 (Nat.le_of_ble_eq_true rfl) rfl ?_
  exact r_sub [1, 2, 3, 4, 0] rfl (wM_move_L3 hC hK hR dh_fu M x0 x1 x2 x3 0 ha_x0 hf)
theorem cM_move (l : Launch) (E : dm_E) (A : Nat → Prop) (M : dm_M) (x0 : Nat) (x1 : Int32) (x2 : Int32) (x3 : Int32) (ha_x0 : dm_kd x0 = 0) {M' : dm_M} (h : gM_move M x0 x1 x2 x3 = some M') : dm_Met l yX2_move cX2_move 5 none 0 0 E A [.ref (dm_am E + dm_ad x0), .int x1, .int x2, .int x3] M none M' := by
  refine dh_met (by decide) (Nat.le_of_ble_eq_true rfl) (fun _ _ h => ⟨_, h.1⟩) (fun C hl hR hC hnm hK => ?_)
  exact wM_move hC hK hR M x0 x1 x2 x3 ha_x0 h
theorem q_move : dm_calS yX2_move cX2_move 5 none 4 := ⟨q1986, q1987, by decide +kernel⟩
/-! moveBits([ZIII)V -/
def gM_moveBits_L3_F (k3 : (dm_M → Nat → Int32 → Int32 → Int32 → Int32 → Option dm_M)) (M : dm_M) (x0 : Nat) (x1 : Int32) (x2 : Int32) (x3 : Int32) (x4 : Int32) : Option dm_M :=
  if x1 ≤ x4 then (
    some M)
  else
  (dm_rd M x0 ((x1 * x2) + x4)).bind fun v2 =>
  (dm_wr M x0 ((x1 * x3) + x4) (vp_nar .boolean v2)).bind fun M3 =>
  k3 M3 x0 x1 x2 x3 (x4 + 1)
theorem wM_moveBits_L3_F {C : dh_C} {A : Nat → Prop} {E : dm_E} (hC : dh_ok C cX2_moveBits 5 RX2 none) (hK : dm_Kn E (dh_s C)) (hR : dh_R C = { frames := 0, cells := 0, slots := 0, locals := 0 }) {M' : dm_M} (k3 : (dm_M → Nat → Int32 → Int32 → Int32 → Int32 → Option dm_M)) (hk3 : ∀ (M : dm_M) (x0 : Nat) (x1 : Int32) (x2 : Int32) (x3 : Int32) (x4 : Int32) (_ : dm_kd x0 = 2), k3 M x0 x1 x2 x3 x4 = some M' → dh_W C A (dm_P E A M) (dm_Q E A none M') 0 0 0 0 3 [(0, .ref (dm_am E + dm_ad x0)), (1, .int x1), (2, .int x2), (3, .int x3), (4, .int x4)] []) (M : dm_M) (x0 : Nat) (x1 : Int32) (x2 : Int32) (x3 : Int32) (x4 : Int32) (ha_x0 : dm_kd x0 = 2) (hf : gM_moveBits_L3_F k3 M x0 x1 x2 x3 x4 = some M') : dh_W C A (dm_P E A M) (dm_Q E A none M') 0 0 0 0 3 [(0, .ref (dm_am E + dm_ad x0)), (1, .int x1), (2, .int x2), (3, .int x3), (4, .int x4)] [] := by
  unfold gM_moveBits_L3_F at hf
  refine r_iload hC dX2_moveBits_3 (j := 4) rfl ?_
  refine r_iload_n hC dX2_moveBits_5 rfl (j := 1) rfl ?_
  refine r_icmp_ge hC dX2_moveBits_6 (tgt := 31) (by decide) (fun c1 => ?_) (fun c1 => ?_)
  · have hf := dh_if hf c1
    exact m_vret hC dX2_moveBits_31 rfl hf
  · have hf := dh_el hf c1
    refine r_aload_n hC dX2_moveBits_9 rfl (j := 0) rfl ?_
    refine r_iload_n hC dX2_moveBits_10 rfl (j := 1) rfl ?_
    refine r_iload_n hC dX2_moveBits_11 rfl (j := 3) rfl ?_
    refine r_imul hC dX2_moveBits_12 ?_
    refine r_iload hC dX2_moveBits_13 (j := 4) rfl ?_
    refine r_iadd hC dX2_moveBits_15 ?_
    refine r_aload_n hC dX2_moveBits_16 rfl (j := 0) rfl ?_
    refine r_iload_n hC dX2_moveBits_17 rfl (j := 1) rfl ?_
    refine r_iload_n hC dX2_moveBits_18 rfl (j := 2) rfl ?_
    refine r_imul hC dX2_moveBits_19 ?_
    refine r_iload hC dX2_moveBits_20 (j := 4) rfl ?_
    refine r_iadd hC dX2_moveBits_22 ?_
    obtain ⟨v2, h2, hf⟩ := dh_bd hf
    refine m_zald hC hK ha_x0 h2 dX2_moveBits_23 ?_
    obtain ⟨M3, h3, hf⟩ := dh_bd hf
    refine m_zast hC hK ha_x0 h3 dX2_moveBits_24 ?_
    refine r_iinc (lv' := [(4, .int (x4 + 1)), (0, .ref (dm_am E + dm_ad x0)), (1, .int x1), (2, .int x2), (3, .int x3)]) hC dX2_moveBits_25 (j := 4) rfl (congrArg _ ki_1) (Nat.le_of_ble_eq_true rfl) rfl ?_
    refine r_goto hC dX2_moveBits_28 (tgt := 3) (by decide) ?_
    exact r_sub [1, 2, 3, 4, 0] rfl (hk3 M3 x0 x1 x2 x3 (x4 + 1) ha_x0 hf)
def gM_moveBits_L3 : Nat → dm_M → Nat → Int32 → Int32 → Int32 → Int32 → Option dm_M
  | 0 => fun _ _ _ _ _ _ => none
  | n + 1 => gM_moveBits_L3_F (gM_moveBits_L3 n)
theorem wM_moveBits_L3 {C : dh_C} {A : Nat → Prop} {E : dm_E} (hC : dh_ok C cX2_moveBits 5 RX2 none) (hK : dm_Kn E (dh_s C)) (hR : dh_R C = { frames := 0, cells := 0, slots := 0, locals := 0 }) {M' : dm_M} : ∀ (n : Nat) (M : dm_M) (x0 : Nat) (x1 : Int32) (x2 : Int32) (x3 : Int32) (x4 : Int32) (_ha_x0 : dm_kd x0 = 2) (_ : gM_moveBits_L3 n M x0 x1 x2 x3 x4 = some M'), dh_W C A (dm_P E A M) (dm_Q E A none M') 0 0 0 0 3 [(0, .ref (dm_am E + dm_ad x0)), (1, .int x1), (2, .int x2), (3, .int x3), (4, .int x4)] [] := by
  intro n
  induction n with
  | zero => intro M x0 x1 x2 x3 x4 _ hf; exact dh_no hf
  | succ n ih => intro M x0 x1 x2 x3 x4 ha_x0 hf; exact wM_moveBits_L3_F hC hK hR (gM_moveBits_L3 n) ih M x0 x1 x2 x3 x4 ha_x0 hf
def gM_moveBits (M : dm_M) (x0 : Nat) (x1 : Int32) (x2 : Int32) (x3 : Int32) : Option dm_M :=
  gM_moveBits_L3 dh_fu M x0 x1 x2 x3 0
theorem wM_moveBits {C : dh_C} {A : Nat → Prop} {E : dm_E} (hC : dh_ok C cX2_moveBits 5 RX2 none) (hK : dm_Kn E (dh_s C)) (hR : dh_R C = { frames := 0, cells := 0, slots := 0, locals := 0 }) {M' : dm_M} (M : dm_M) (x0 : Nat) (x1 : Int32) (x2 : Int32) (x3 : Int32) (ha_x0 : dm_kd x0 = 2) (hf : gM_moveBits M x0 x1 x2 x3 = some M') : dh_W C A (dm_P E A M) (dm_Q E A none M') 0 0 0 0 0 [(0, .ref (dm_am E + dm_ad x0)), (1, .int x1), (2, .int x2), (3, .int x3)] [] := by
  unfold gM_moveBits at hf
  refine r_iconst hC dX2_moveBits_0 ki_0 ?_
  refine r_istore (lv' := [(4, .int 0), (0, .ref (dm_am E + dm_ad x0)), (1, .int x1), (2, .int x2), (3, .int x3)]) hC dX2_moveBits_1 (Nat.le_of_ble_eq_true rfl) rfl ?_
  exact r_sub [1, 2, 3, 4, 0] rfl (wM_moveBits_L3 hC hK hR dh_fu M x0 x1 x2 x3 0 ha_x0 hf)
theorem cM_moveBits (l : Launch) (E : dm_E) (A : Nat → Prop) (M : dm_M) (x0 : Nat) (x1 : Int32) (x2 : Int32) (x3 : Int32) (ha_x0 : dm_kd x0 = 2) {M' : dm_M} (h : gM_moveBits M x0 x1 x2 x3 = some M') : dm_Met l yX2_moveBits cX2_moveBits 5 none 0 0 E A [.ref (dm_am E + dm_ad x0), .int x1, .int x2, .int x3] M none M' := by
  refine dh_met (by decide) (Nat.le_of_ble_eq_true rfl) (fun _ _ h => ⟨_, h.1⟩) (fun C hl hR hC hnm hK => ?_)
  exact wM_moveBits hC hK hR M x0 x1 x2 x3 ha_x0 h
theorem q_moveBits : dm_calS yX2_moveBits cX2_moveBits 5 none 4 := ⟨q1989, q1990, by decide +kernel⟩
/-! copyDebts(II)V -/
def gM_copyDebts (M : dm_M) (x1 : Int32) (x2 : Int32) : Option dm_M :=
  (gM_move M 25 1 x1 x2).bind fun p1 =>
  (gM_move p1 26 40 x1 x2).bind fun p2 =>
  (gM_move p2 27 40 x1 x2).bind fun p3 =>
  (gM_move p3 28 40 x1 x2).bind fun p4 =>
  (gM_move p4 29 40 x1 x2).bind fun p5 =>
  (gM_move p5 30 40 x1 x2).bind fun p6 =>
  (gM_move p6 31 40 x1 x2).bind fun p7 =>
  (gM_move p7 32 40 x1 x2).bind fun p8 =>
  (gM_move p8 33 40 x1 x2).bind fun p9 =>
  (gM_move p9 34 40 x1 x2).bind fun p10 =>
  (gM_move p10 35 40 x1 x2).bind fun p11 =>
  (gM_move p11 36 40 x1 x2).bind fun p12 =>
  (gM_move p12 37 40 x1 x2).bind fun p13 =>
  (gM_moveBits p13 38 40 x1 x2).bind fun p14 =>
  (gM_move p14 39 40 x1 x2).bind fun p15 =>
  (gM_move p15 40 40 x1 x2).bind fun p16 =>
  some p16
theorem wM_copyDebts {C : dh_C} {A : Nat → Prop} {E : dm_E} (hC : dh_ok C cX2_copyDebts 3 RX2 none) (hK : dm_Kn E (dh_s C)) (hR : dh_R C = { frames := 1, cells := 0, slots := 0, locals := 24 }) {M' : dm_M} (M : dm_M) (x1 : Int32) (x2 : Int32) (hf : gM_copyDebts M x1 x2 = some M') : dh_W C A (dm_P E A M) (dm_Q E A none M') 0 0 0 0 0 [(0, .ref (dm_am E)), (1, .int x1), (2, .int x2)] [] := by
  unfold gM_copyDebts at hf
  refine r_aload_n hC dX2_copyDebts_0 rfl (j := 0) rfl ?_
  refine m_getA hC hK fa_25 dX2_copyDebts_1 ?_
  refine r_iconst hC dX2_copyDebts_4 ki_1 ?_
  refine r_iload_n hC dX2_copyDebts_5 rfl (j := 1) rfl ?_
  refine r_iload_n hC dX2_copyDebts_6 rfl (j := 2) rfl ?_
  obtain ⟨p1, h1, hf⟩ := dh_bd hf
  refine m_callS' hC hK hR (cM_move _ E A M 25 1 x1 x2 kd_25 h1) q1985 q_move (Nat.le_of_ble_eq_true rfl) (Nat.le_of_ble_eq_true rfl) rfl (Nat.le_of_ble_eq_true rfl) dX2_copyDebts_7 ?_
  refine r_aload_n hC dX2_copyDebts_10 rfl (j := 0) rfl ?_
  refine m_getA hC hK fa_26 dX2_copyDebts_11 ?_
  refine r_bipush hC dX2_copyDebts_14 kb_40 ?_
  refine r_iload_n hC dX2_copyDebts_16 rfl (j := 1) rfl ?_
  refine r_iload_n hC dX2_copyDebts_17 rfl (j := 2) rfl ?_
  obtain ⟨p2, h2, hf⟩ := dh_bd hf
  refine m_callS' hC hK hR (cM_move _ E A p1 26 40 x1 x2 kd_26 h2) q1985 q_move (Nat.le_of_ble_eq_true rfl) (Nat.le_of_ble_eq_true rfl) rfl (Nat.le_of_ble_eq_true rfl) dX2_copyDebts_18 ?_
  refine r_aload_n hC dX2_copyDebts_21 rfl (j := 0) rfl ?_
  refine m_getA hC hK fa_27 dX2_copyDebts_22 ?_
  refine r_bipush hC dX2_copyDebts_25 kb_40 ?_
  refine r_iload_n hC dX2_copyDebts_27 rfl (j := 1) rfl ?_
  refine r_iload_n hC dX2_copyDebts_28 rfl (j := 2) rfl ?_
  obtain ⟨p3, h3, hf⟩ := dh_bd hf
  refine m_callS' hC hK hR (cM_move _ E A p2 27 40 x1 x2 kd_27 h3) q1985 q_move (Nat.le_of_ble_eq_true rfl) (Nat.le_of_ble_eq_true rfl) rfl (Nat.le_of_ble_eq_true rfl) dX2_copyDebts_29 ?_
  refine r_aload_n hC dX2_copyDebts_32 rfl (j := 0) rfl ?_
  refine m_getA hC hK fa_28 dX2_copyDebts_33 ?_
  refine r_bipush hC dX2_copyDebts_36 kb_40 ?_
  refine r_iload_n hC dX2_copyDebts_38 rfl (j := 1) rfl ?_
  refine r_iload_n hC dX2_copyDebts_39 rfl (j := 2) rfl ?_
  obtain ⟨p4, h4, hf⟩ := dh_bd hf
  refine m_callS' hC hK hR (cM_move _ E A p3 28 40 x1 x2 kd_28 h4) q1985 q_move (Nat.le_of_ble_eq_true rfl) (Nat.le_of_ble_eq_true rfl) rfl (Nat.le_of_ble_eq_true rfl) dX2_copyDebts_40 ?_
  refine r_aload_n hC dX2_copyDebts_43 rfl (j := 0) rfl ?_
  refine m_getA hC hK fa_29 dX2_copyDebts_44 ?_
  refine r_bipush hC dX2_copyDebts_47 kb_40 ?_
  refine r_iload_n hC dX2_copyDebts_49 rfl (j := 1) rfl ?_
  refine r_iload_n hC dX2_copyDebts_50 rfl (j := 2) rfl ?_
  obtain ⟨p5, h5, hf⟩ := dh_bd hf
  refine m_callS' hC hK hR (cM_move _ E A p4 29 40 x1 x2 kd_29 h5) q1985 q_move (Nat.le_of_ble_eq_true rfl) (Nat.le_of_ble_eq_true rfl) rfl (Nat.le_of_ble_eq_true rfl) dX2_copyDebts_51 ?_
  refine r_aload_n hC dX2_copyDebts_54 rfl (j := 0) rfl ?_
  refine m_getA hC hK fa_30 dX2_copyDebts_55 ?_
  refine r_bipush hC dX2_copyDebts_58 kb_40 ?_
  refine r_iload_n hC dX2_copyDebts_60 rfl (j := 1) rfl ?_
  refine r_iload_n hC dX2_copyDebts_61 rfl (j := 2) rfl ?_
  obtain ⟨p6, h6, hf⟩ := dh_bd hf
  refine m_callS' hC hK hR (cM_move _ E A p5 30 40 x1 x2 kd_30 h6) q1985 q_move (Nat.le_of_ble_eq_true rfl) (Nat.le_of_ble_eq_true rfl) rfl (Nat.le_of_ble_eq_true rfl) dX2_copyDebts_62 ?_
  refine r_aload_n hC dX2_copyDebts_65 rfl (j := 0) rfl ?_
  refine m_getA hC hK fa_31 dX2_copyDebts_66 ?_
  refine r_bipush hC dX2_copyDebts_69 kb_40 ?_
  refine r_iload_n hC dX2_copyDebts_71 rfl (j := 1) rfl ?_
  refine r_iload_n hC dX2_copyDebts_72 rfl (j := 2) rfl ?_
  obtain ⟨p7, h7, hf⟩ := dh_bd hf
  refine m_callS' hC hK hR (cM_move _ E A p6 31 40 x1 x2 kd_31 h7) q1985 q_move (Nat.le_of_ble_eq_true rfl) (Nat.le_of_ble_eq_true rfl) rfl (Nat.le_of_ble_eq_true rfl) dX2_copyDebts_73 ?_
  refine r_aload_n hC dX2_copyDebts_76 rfl (j := 0) rfl ?_
  refine m_getA hC hK fa_32 dX2_copyDebts_77 ?_
  refine r_bipush hC dX2_copyDebts_80 kb_40 ?_
  refine r_iload_n hC dX2_copyDebts_82 rfl (j := 1) rfl ?_
  refine r_iload_n hC dX2_copyDebts_83 rfl (j := 2) rfl ?_
  obtain ⟨p8, h8, hf⟩ := dh_bd hf
  refine m_callS' hC hK hR (cM_move _ E A p7 32 40 x1 x2 kd_32 h8) q1985 q_move (Nat.le_of_ble_eq_true rfl) (Nat.le_of_ble_eq_true rfl) rfl (Nat.le_of_ble_eq_true rfl) dX2_copyDebts_84 ?_
  refine r_aload_n hC dX2_copyDebts_87 rfl (j := 0) rfl ?_
  refine m_getA hC hK fa_33 dX2_copyDebts_88 ?_
  refine r_bipush hC dX2_copyDebts_91 kb_40 ?_
  refine r_iload_n hC dX2_copyDebts_93 rfl (j := 1) rfl ?_
  refine r_iload_n hC dX2_copyDebts_94 rfl (j := 2) rfl ?_
  obtain ⟨p9, h9, hf⟩ := dh_bd hf
  refine m_callS' hC hK hR (cM_move _ E A p8 33 40 x1 x2 kd_33 h9) q1985 q_move (Nat.le_of_ble_eq_true rfl) (Nat.le_of_ble_eq_true rfl) rfl (Nat.le_of_ble_eq_true rfl) dX2_copyDebts_95 ?_
  refine r_aload_n hC dX2_copyDebts_98 rfl (j := 0) rfl ?_
  refine m_getA hC hK fa_34 dX2_copyDebts_99 ?_
  refine r_bipush hC dX2_copyDebts_102 kb_40 ?_
  refine r_iload_n hC dX2_copyDebts_104 rfl (j := 1) rfl ?_
  refine r_iload_n hC dX2_copyDebts_105 rfl (j := 2) rfl ?_
  obtain ⟨p10, h10, hf⟩ := dh_bd hf
  refine m_callS' hC hK hR (cM_move _ E A p9 34 40 x1 x2 kd_34 h10) q1985 q_move (Nat.le_of_ble_eq_true rfl) (Nat.le_of_ble_eq_true rfl) rfl (Nat.le_of_ble_eq_true rfl) dX2_copyDebts_106 ?_
  refine r_aload_n hC dX2_copyDebts_109 rfl (j := 0) rfl ?_
  refine m_getA hC hK fa_35 dX2_copyDebts_110 ?_
  refine r_bipush hC dX2_copyDebts_113 kb_40 ?_
  refine r_iload_n hC dX2_copyDebts_115 rfl (j := 1) rfl ?_
  refine r_iload_n hC dX2_copyDebts_116 rfl (j := 2) rfl ?_
  obtain ⟨p11, h11, hf⟩ := dh_bd hf
  refine m_callS' hC hK hR (cM_move _ E A p10 35 40 x1 x2 kd_35 h11) q1985 q_move (Nat.le_of_ble_eq_true rfl) (Nat.le_of_ble_eq_true rfl) rfl (Nat.le_of_ble_eq_true rfl) dX2_copyDebts_117 ?_
  refine r_aload_n hC dX2_copyDebts_120 rfl (j := 0) rfl ?_
  refine m_getA hC hK fa_36 dX2_copyDebts_121 ?_
  refine r_bipush hC dX2_copyDebts_124 kb_40 ?_
  refine r_iload_n hC dX2_copyDebts_126 rfl (j := 1) rfl ?_
  refine r_iload_n hC dX2_copyDebts_127 rfl (j := 2) rfl ?_
  obtain ⟨p12, h12, hf⟩ := dh_bd hf
  refine m_callS' hC hK hR (cM_move _ E A p11 36 40 x1 x2 kd_36 h12) q1985 q_move (Nat.le_of_ble_eq_true rfl) (Nat.le_of_ble_eq_true rfl) rfl (Nat.le_of_ble_eq_true rfl) dX2_copyDebts_128 ?_
  refine r_aload_n hC dX2_copyDebts_131 rfl (j := 0) rfl ?_
  refine m_getA hC hK fa_37 dX2_copyDebts_132 ?_
  refine r_bipush hC dX2_copyDebts_135 kb_40 ?_
  refine r_iload_n hC dX2_copyDebts_137 rfl (j := 1) rfl ?_
  refine r_iload_n hC dX2_copyDebts_138 rfl (j := 2) rfl ?_
  obtain ⟨p13, h13, hf⟩ := dh_bd hf
  refine m_callS' hC hK hR (cM_move _ E A p12 37 40 x1 x2 kd_37 h13) q1985 q_move (Nat.le_of_ble_eq_true rfl) (Nat.le_of_ble_eq_true rfl) rfl (Nat.le_of_ble_eq_true rfl) dX2_copyDebts_139 ?_
  refine r_aload_n hC dX2_copyDebts_142 rfl (j := 0) rfl ?_
  refine m_getA hC hK fa_38 dX2_copyDebts_143 ?_
  refine r_bipush hC dX2_copyDebts_146 kb_40 ?_
  refine r_iload_n hC dX2_copyDebts_148 rfl (j := 1) rfl ?_
  refine r_iload_n hC dX2_copyDebts_149 rfl (j := 2) rfl ?_
  obtain ⟨p14, h14, hf⟩ := dh_bd hf
  refine m_callS' hC hK hR (cM_moveBits _ E A p13 38 40 x1 x2 kd_38 h14) q1988 q_moveBits (Nat.le_of_ble_eq_true rfl) (Nat.le_of_ble_eq_true rfl) rfl (Nat.le_of_ble_eq_true rfl) dX2_copyDebts_150 ?_
  refine r_aload_n hC dX2_copyDebts_153 rfl (j := 0) rfl ?_
  refine m_getA hC hK fa_39 dX2_copyDebts_154 ?_
  refine r_bipush hC dX2_copyDebts_157 kb_40 ?_
  refine r_iload_n hC dX2_copyDebts_159 rfl (j := 1) rfl ?_
  refine r_iload_n hC dX2_copyDebts_160 rfl (j := 2) rfl ?_
  obtain ⟨p15, h15, hf⟩ := dh_bd hf
  refine m_callS' hC hK hR (cM_move _ E A p14 39 40 x1 x2 kd_39 h15) q1985 q_move (Nat.le_of_ble_eq_true rfl) (Nat.le_of_ble_eq_true rfl) rfl (Nat.le_of_ble_eq_true rfl) dX2_copyDebts_161 ?_
  refine r_aload_n hC dX2_copyDebts_164 rfl (j := 0) rfl ?_
  refine m_getA hC hK fa_40 dX2_copyDebts_165 ?_
  refine r_bipush hC dX2_copyDebts_168 kb_40 ?_
  refine r_iload_n hC dX2_copyDebts_170 rfl (j := 1) rfl ?_
  refine r_iload_n hC dX2_copyDebts_171 rfl (j := 2) rfl ?_
  obtain ⟨p16, h16, hf⟩ := dh_bd hf
  refine m_callS' hC hK hR (cM_move _ E A p15 40 40 x1 x2 kd_40 h16) q1985 q_move (Nat.le_of_ble_eq_true rfl) (Nat.le_of_ble_eq_true rfl) rfl (Nat.le_of_ble_eq_true rfl) dX2_copyDebts_172 ?_
  exact m_vret hC dX2_copyDebts_175 rfl hf
theorem cM_copyDebts (l : Launch) (E : dm_E) (A : Nat → Prop) (M : dm_M) (x1 : Int32) (x2 : Int32) {M' : dm_M} (h : gM_copyDebts M x1 x2 = some M') : dm_Met l yX2_copyDebts cX2_copyDebts 3 none 1 24 E A [.ref (dm_am E), .int x1, .int x2] M none M' := by
  refine dh_met (by decide) (Nat.le_of_ble_eq_true rfl) (fun _ _ h => ⟨_, h.1⟩) (fun C hl hR hC hnm hK => ?_)
  exact wM_copyDebts hC hK hR M x1 x2 h
theorem q_copyDebts : dm_calV yX2_copyDebts cX2_copyDebts 3 none 2 := ⟨q1993, qs79, q1994, by decide +kernel⟩
