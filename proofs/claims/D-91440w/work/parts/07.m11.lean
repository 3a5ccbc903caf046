set_option maxRecDepth 100000
/-! free(II)I -/
def gM_free_L278_F (k278 : (dm_M → Int32 → Int32 → Int32 → Int32 → Int32 → Int32 → Option (Int32 × dm_M))) (M : dm_M) (x2 : Int32) (x3 : Int32) (x4 : Int32) (x5 : Int32) (x6 : Int32) (x7 : Int32) : Option (Int32 × dm_M) :=
  if ¬ (x3 ≤ x7) then (
    if ((x4 >>> (x7 &&& 31)) &&& 1) = 0 then (
      k278 M x2 x3 x4 x5 (x6 ||| 0) (x7 + 1))
    else
    (dm_rd M 77 x7).bind fun v15 =>
    k278 M x2 x3 x4 x5 (x6 ||| (1 <<< (v15 &&& 31))) (x7 + 1))
  else
  if x2 = 0 then (
    some (x5, M))
  else
  if x2 = 1 then (
    some (x6, M))
  else
  (dm_rd M 78 x4).bind fun v13 =>
  some (v13, M)
theorem wM_free_L278_F {C : dh_C} {A : Nat → Prop} {E : dm_E} (hC : dh_ok C cX2_free 11 RX2 (some .int)) (hK : dm_Kn E (dh_s C)) (hR : dh_R C = { frames := 4, cells := 0, slots := 0, locals := 93 }) {r : Int32} {M' : dm_M} (k278 : (dm_M → Int32 → Int32 → Int32 → Int32 → Int32 → Int32 → Option (Int32 × dm_M))) (hk278 : ∀ (M : dm_M) (x2 : Int32) (x3 : Int32) (x4 : Int32) (x5 : Int32) (x6 : Int32) (x7 : Int32), k278 M x2 x3 x4 x5 x6 x7 = some (r, M') → dh_W C A (dm_P E A M) (dm_Q E A (some (.int r)) M') 0 0 0 0 278 [(0, .ref (dm_am E)), (2, .int x2), (3, .int x3), (4, .int x4), (5, .int x5), (6, .int x6), (7, .int x7)] []) (M : dm_M) (x2 : Int32) (x3 : Int32) (x4 : Int32) (x5 : Int32) (x6 : Int32) (x7 : Int32) (hf : gM_free_L278_F k278 M x2 x3 x4 x5 x6 x7 = some (r, M')) : dh_W C A (dm_P E A M) (dm_Q E A (some (.int r)) M') 0 0 0 0 278 [(0, .ref (dm_am E)), (2, .int x2), (3, .int x3), (4, .int x4), (5, .int x5), (6, .int x6), (7, .int x7)] [] := by
  unfold gM_free_L278_F at hf
  refine r_iload hC dX2_free_278 (j := 6) rfl ?_
  refine r_iload_n hC dX2_free_280 rfl (j := 2) rfl ?_
  refine r_icmp_ge hC dX2_free_281 (tgt := 318) (by decide) (fun c10 => ?_) (fun c10 => ?_)
  · have hf := dh_el hf (fun q => q c10)
    refine r_iload_n hC dX2_free_318 rfl (j := 1) rfl ?_
    refine r_if_ne hC dX2_free_319 (tgt := 327) (by decide) (fun c11 => ?_) (fun c11 => ?_)
    · have hf := dh_el hf c11
      refine r_iload_n hC dX2_free_327 rfl (j := 1) rfl ?_
      refine r_iconst hC dX2_free_328 ki_1 ?_
      refine r_icmp_ne hC dX2_free_329 (tgt := 337) (by decide) (fun c12 => ?_) (fun c12 => ?_)
      · have hf := dh_el hf c12
        refine r_aload_n hC dX2_free_337 rfl (j := 0) rfl ?_
        refine m_getA hC hK fa_78 dX2_free_338 ?_
        refine r_iload hC dX2_free_341 (j := 3) rfl ?_
        obtain ⟨v13, h13, hf⟩ := dh_bd hf
        refine m_iald hC hK kd_78 h13 dX2_free_343 ?_
        exact m_iret hC dX2_free_344 rfl hf
      · have hf := dh_if hf c12
        refine r_iload hC dX2_free_332 (j := 5) rfl ?_
        refine r_goto hC dX2_free_334 (tgt := 344) (by decide) ?_
        exact m_iret hC dX2_free_344 rfl hf
    · have hf := dh_if hf c11
      refine r_iload hC dX2_free_322 (j := 4) rfl ?_
      refine r_goto hC dX2_free_324 (tgt := 344) (by decide) ?_
      exact m_iret hC dX2_free_344 rfl hf
  · have hf := dh_if hf c10
    refine r_iload hC dX2_free_284 (j := 5) rfl ?_
    refine r_iload hC dX2_free_286 (j := 3) rfl ?_
    refine r_iload hC dX2_free_288 (j := 6) rfl ?_
    refine r_ishr hC dX2_free_290 ?_
    refine r_iconst hC dX2_free_291 ki_1 ?_
    refine r_iand hC dX2_free_292 ?_
    refine r_if_eq hC dX2_free_293 (tgt := 308) (by decide) (fun c14 => ?_) (fun c14 => ?_)
    · have hf := dh_if hf c14
      refine r_iconst hC dX2_free_308 ki_0 ?_
      refine r_ior hC dX2_free_309 ?_
      refine r_istore (lv' := [(6, .int (x6 ||| 0)), (0, .ref (dm_am E)), (2, .int x2), (3, .int x3), (4, .int x4), (5, .int x5), (7, .int x7)]) hC dX2_free_310 (Nat.le_of_ble_eq_true rfl) rfl ?_
      refine r_iinc (lv' := [(7, .int (x7 + 1)), (6, .int (x6 ||| 0)), (0, .ref (dm_am E)), (2, .int x2), (3, .int x3), (4, .int x4), (5, .int x5)]) hC dX2_free_312 (j := 6) rfl (congrArg _ ki_1) (Nat.le_of_ble_eq_true rfl) rfl ?_
      refine r_goto hC dX2_free_315 (tgt := 278) (by decide) ?_
      exact r_sub [2, 3, 4, 5, 6, 1, 0] rfl (hk278 M x2 x3 x4 x5 (x6 ||| 0) (x7 + 1) hf)
    · have hf := dh_el hf c14
      refine r_iconst hC dX2_free_296 ki_1 ?_
      refine r_aload_n hC dX2_free_297 rfl (j := 0) rfl ?_
      refine m_getA hC hK fa_77 dX2_free_298 ?_
      refine r_iload hC dX2_free_301 (j := 6) rfl ?_
      obtain ⟨v15, h15, hf⟩ := dh_bd hf
      refine m_iald hC hK kd_77 h15 dX2_free_303 ?_
      refine r_ishl hC dX2_free_304 ?_
      refine r_goto hC dX2_free_305 (tgt := 309) (by decide) ?_
      refine r_ior hC dX2_free_309 ?_
      refine r_istore (lv' := [(6, .int (x6 ||| (1 <<< (v15 &&& 31)))), (0, .ref (dm_am E)), (2, .int x2), (3, .int x3), (4, .int x4), (5, .int x5), (7, .int x7)]) hC dX2_free_310 (Nat.le_of_ble_eq_true rfl) rfl ?_
      refine r_iinc (lv' := [(7, .int (x7 + 1)), (6, .int (x6 ||| (1 <<< (v15 &&& 31)))), (0, .ref (dm_am E)), (2, .int x2), (3, .int x3), (4, .int x4), (5, .int x5)]) hC dX2_free_312 (j := 6) rfl (congrArg _ ki_1) (Nat.le_of_ble_eq_true rfl) rfl ?_
      refine r_goto hC dX2_free_315 (tgt := 278) (by decide) ?_
      exact r_sub [2, 3, 4, 5, 6, 1, 0] rfl (hk278 M x2 x3 x4 x5 (x6 ||| (1 <<< (v15 &&& 31))) (x7 + 1) hf)
def gM_free_L278 : Nat → dm_M → Int32 → Int32 → Int32 → Int32 → Int32 → Int32 → Option (Int32 × dm_M)
  | 0 => fun _ _ _ _ _ _ _ => none
  | n + 1 => gM_free_L278_F (gM_free_L278 n)
theorem wM_free_L278 {C : dh_C} {A : Nat → Prop} {E : dm_E} (hC : dh_ok C cX2_free 11 RX2 (some .int)) (hK : dm_Kn E (dh_s C)) (hR : dh_R C = { frames := 4, cells := 0, slots := 0, locals := 93 }) {r : Int32} {M' : dm_M} : ∀ (n : Nat) (M : dm_M) (x2 : Int32) (x3 : Int32) (x4 : Int32) (x5 : Int32) (x6 : Int32) (x7 : Int32) (_ : gM_free_L278 n M x2 x3 x4 x5 x6 x7 = some (r, M')), dh_W C A (dm_P E A M) (dm_Q E A (some (.int r)) M') 0 0 0 0 278 [(0, .ref (dm_am E)), (2, .int x2), (3, .int x3), (4, .int x4), (5, .int x5), (6, .int x6), (7, .int x7)] [] := by
  intro n
  induction n with
  | zero => intro M x2 x3 x4 x5 x6 x7 hf; exact dh_no hf
  | succ n ih => intro M x2 x3 x4 x5 x6 x7 hf; exact wM_free_L278_F hC hK hR (gM_free_L278 n) ih M x2 x3 x4 x5 x6 x7 hf
def gM_free_b177 (k91 : (dm_M → Int32 → Int32 → Int32 → Int32 → Int32 → Int32 → Option (Int32 × dm_M))) (k115 : (dm_M → Int32 → Int32 → Int32 → Int32 → Int32 → Int32 → Int32 → Int32 → Option (Int32 × dm_M))) (M : dm_M) (x1 : Int32) (x2 : Int32) (x3 : Int32) (x4 : Int32) (x5 : Int32) (x6 : Int32) (x7 : Int32) (x8 : Int32) (y0 : Int32) : Option (Int32 × dm_M) :=
  (dm_rd M 78 x6).bind fun v29 =>
  if ¬ (v29 ≤ y0) then (
    (dm_wr M 78 x6 y0).bind fun M33 =>
    k115 M33 x1 x2 x3 x4 x5 x6 x7 (x8 + 1))
  else
  (dm_rd M 78 x6).bind fun v31 =>
  (dm_wr M 78 x6 v31).bind fun M32 =>
  k115 M32 x1 x2 x3 x4 x5 x6 x7 (x8 + 1)
theorem wM_free_b177 {C : dh_C} {A : Nat → Prop} {E : dm_E} (hC : dh_ok C cX2_free 11 RX2 (some .int)) (hK : dm_Kn E (dh_s C)) (hR : dh_R C = { frames := 4, cells := 0, slots := 0, locals := 93 }) {r : Int32} {M' : dm_M} (k91 : (dm_M → Int32 → Int32 → Int32 → Int32 → Int32 → Int32 → Option (Int32 × dm_M))) (hk91 : ∀ (M : dm_M) (x1 : Int32) (x2 : Int32) (x3 : Int32) (x4 : Int32) (x5 : Int32) (x6 : Int32), k91 M x1 x2 x3 x4 x5 x6 = some (r, M') → dh_W C A (dm_P E A M) (dm_Q E A (some (.int r)) M') 0 0 0 0 91 [(0, .ref (dm_am E)), (1, .int x1), (2, .int x2), (3, .int x3), (4, .int x4), (5, .int x5), (6, .int x6)] []) (k115 : (dm_M → Int32 → Int32 → Int32 → Int32 → Int32 → Int32 → Int32 → Int32 → Option (Int32 × dm_M))) (hk115 : ∀ (M : dm_M) (x1 : Int32) (x2 : Int32) (x3 : Int32) (x4 : Int32) (x5 : Int32) (x6 : Int32) (x7 : Int32) (x8 : Int32), k115 M x1 x2 x3 x4 x5 x6 x7 x8 = some (r, M') → dh_W C A (dm_P E A M) (dm_Q E A (some (.int r)) M') 0 0 0 0 115 [(0, .ref (dm_am E)), (1, .int x1), (2, .int x2), (3, .int x3), (4, .int x4), (5, .int x5), (6, .int x6), (7, .int x7), (8, .int x8)] []) (M : dm_M) (x1 : Int32) (x2 : Int32) (x3 : Int32) (x4 : Int32) (x5 : Int32) (x6 : Int32) (x7 : Int32) (x8 : Int32) (y0 : Int32) (hf : gM_free_b177 k91 k115 M x1 x2 x3 x4 x5 x6 x7 x8 y0 = some (r, M')) : dh_W C A (dm_P E A M) (dm_Q E A (some (.int r)) M') 0 0 0 0 177 [(0, .ref (dm_am E)), (1, .int x1), (2, .int x2), (3, .int x3), (4, .int x4), (5, .int x5), (6, .int x6), (7, .int x7), (8, .int x8)] [.int y0] := by
  unfold gM_free_b177 at hf
  refine r_istore (lv' := [(10, .int y0), (0, .ref (dm_am E)), (1, .int x1), (2, .int x2), (3, .int x3), (4, .int x4), (5, .int x5), (6, .int x6), (7, .int x7), (8, .int x8)]) hC dX2_free_177 (Nat.le_of_ble_eq_true rfl) rfl ?_
  refine r_aload_n hC dX2_free_179 rfl (j := 1) rfl ?_
  refine m_getA hC hK fa_78 dX2_free_180 ?_
  refine r_iload hC dX2_free_183 (j := 7) rfl ?_
  refine r_iload hC dX2_free_185 (j := 0) rfl ?_
  refine r_aload_n hC dX2_free_187 rfl (j := 1) rfl ?_
  refine m_getA hC hK fa_78 dX2_free_188 ?_
  refine r_iload hC dX2_free_191 (j := 7) rfl ?_
  obtain ⟨v29, h29, hf⟩ := dh_bd hf
  refine m_iald hC hK kd_78 h29 dX2_free_193 ?_
  refine r_icmp_ge hC dX2_free_194 (tgt := 202) (by decide) (fun c30 => ?_) (fun c30 => ?_)
  · have hf := dh_el hf (fun q => q c30)
    refine r_aload_n hC dX2_free_202 rfl (j := 1) rfl ?_
    refine m_getA hC hK fa_78 dX2_free_203 ?_
    refine r_iload hC dX2_free_206 (j := 7) rfl ?_
    obtain ⟨v31, h31, hf⟩ := dh_bd hf
    refine m_iald hC hK kd_78 h31 dX2_free_208 ?_
    obtain ⟨M32, h32, hf⟩ := dh_bd hf
    refine m_iast hC hK kd_78 h32 dX2_free_209 ?_
    refine r_iinc (lv' := [(8, .int (x8 + 1)), (10, .int y0), (0, .ref (dm_am E)), (1, .int x1), (2, .int x2), (3, .int x3), (4, .int x4), (5, .int x5), (6, .int x6), (7, .int x7)]) hC dX2_free_210 (j := 9) rfl (congrArg _ ki_1) (Nat.le_of_ble_eq_true rfl) rfl ?_
    refine r_goto hC dX2_free_213 (tgt := 115) (by decide) ?_
    exact r_sub [2, 3, 4, 5, 6, 7, 8, 9, 0] rfl (hk115 M32 x1 x2 x3 x4 x5 x6 x7 (x8 + 1) hf)
  · have hf := dh_if hf c30
    refine r_iload hC dX2_free_197 (j := 0) rfl ?_
    refine r_goto hC dX2_free_199 (tgt := 209) (by decide) ?_
    obtain ⟨M33, h33, hf⟩ := dh_bd hf
    refine m_iast hC hK kd_78 h33 dX2_free_209 ?_
    refine r_iinc (lv' := [(8, .int (x8 + 1)), (10, .int y0), (0, .ref (dm_am E)), (1, .int x1), (2, .int x2), (3, .int x3), (4, .int x4), (5, .int x5), (6, .int x6), (7, .int x7)]) hC dX2_free_210 (j := 9) rfl (congrArg _ ki_1) (Nat.le_of_ble_eq_true rfl) rfl ?_
    refine r_goto hC dX2_free_213 (tgt := 115) (by decide) ?_
    exact r_sub [2, 3, 4, 5, 6, 7, 8, 9, 0] rfl (hk115 M33 x1 x2 x3 x4 x5 x6 x7 (x8 + 1) hf)
def gM_free_L115_F (k91 : (dm_M → Int32 → Int32 → Int32 → Int32 → Int32 → Int32 → Option (Int32 × dm_M))) (k115 : (dm_M → Int32 → Int32 → Int32 → Int32 → Int32 → Int32 → Int32 → Int32 → Option (Int32 × dm_M))) (M : dm_M) (x1 : Int32) (x2 : Int32) (x3 : Int32) (x4 : Int32) (x5 : Int32) (x6 : Int32) (x7 : Int32) (x8 : Int32) : Option (Int32 × dm_M) :=
  if ¬ (x3 ≤ x8) then (
    if ((x6 >>> (x8 &&& 31)) &&& 1) = 0 then (
      k115 M x1 x2 x3 x4 x5 x6 x7 (x8 + 1))
    else
    (dm_rd M 78 (x6 - (1 <<< (x8 &&& 31)))).bind fun v26 =>
    if ¬ (v26 ≤ x1) then (
      gM_free_b177 k91 k115 M x1 x2 x3 x4 x5 x6 (x7 + 1) x8 2000000000)
    else
    (gM_lacks M x8 (x6 - (1 <<< (x8 &&& 31))) x3).bind fun p28 =>
    gM_free_b177 k91 k115 M x1 x2 x3 x4 x5 x6 (x7 + 1) x8 (v26 + p28))
  else
  (dm_rd M 78 x6).bind fun v18 =>
  if x1 < v18 then (
    k91 M x1 x2 x3 x4 x5 (x6 + 1))
  else
  if x5 < x7 then (
    k91 M x1 x2 x3 x6 x7 (x6 + 1))
  else
  if x7 = x5 then (
    (dm_rd M 78 x6).bind fun v22 =>
    (dm_rd M 78 x4).bind fun v23 =>
    if v23 ≤ v22 then (
      k91 M x1 x2 x3 x4 x5 (x6 + 1))
    else
    k91 M x1 x2 x3 x6 x7 (x6 + 1))
  else
  k91 M x1 x2 x3 x4 x5 (x6 + 1)
theorem wM_free_L115_F {C : dh_C} {A : Nat → Prop} {E : dm_E} (hC : dh_ok C cX2_free 11 RX2 (some .int)) (hK : dm_Kn E (dh_s C)) (hR : dh_R C = { frames := 4, cells := 0, slots := 0, locals := 93 }) {r : Int32} {M' : dm_M} (k91 : (dm_M → Int32 → Int32 → Int32 → Int32 → Int32 → Int32 → Option (Int32 × dm_M))) (hk91 : ∀ (M : dm_M) (x1 : Int32) (x2 : Int32) (x3 : Int32) (x4 : Int32) (x5 : Int32) (x6 : Int32), k91 M x1 x2 x3 x4 x5 x6 = some (r, M') → dh_W C A (dm_P E A M) (dm_Q E A (some (.int r)) M') 0 0 0 0 91 [(0, .ref (dm_am E)), (1, .int x1), (2, .int x2), (3, .int x3), (4, .int x4), (5, .int x5), (6, .int x6)] []) (k115 : (dm_M → Int32 → Int32 → Int32 → Int32 → Int32 → Int32 → Int32 → Int32 → Option (Int32 × dm_M))) (hk115 : ∀ (M : dm_M) (x1 : Int32) (x2 : Int32) (x3 : Int32) (x4 : Int32) (x5 : Int32) (x6 : Int32) (x7 : Int32) (x8 : Int32), k115 M x1 x2 x3 x4 x5 x6 x7 x8 = some (r, M') → dh_W C A (dm_P E A M) (dm_Q E A (some (.int r)) M') 0 0 0 0 115 [(0, .ref (dm_am E)), (1, .int x1), (2, .int x2), (3, .int x3), (4, .int x4), (5, .int x5), (6, .int x6), (7, .int x7), (8, .int x8)] []) (M : dm_M) (x1 : Int32) (x2 : Int32) (x3 : Int32) (x4 : Int32) (x5 : Int32) (x6 : Int32) (x7 : Int32) (x8 : Int32) (hf : gM_free_L115_F k91 k115 M x1 x2 x3 x4 x5 x6 x7 x8 = some (r, M')) : dh_W C A (dm_P E A M) (dm_Q E A (some (.int r)) M') 0 0 0 0 115 [(0, .ref (dm_am E)), (1, .int x1), (2, .int x2), (3, .int x3), (4, .int x4), (5, .int x5), (6, .int x6), (7, .int x7), (8, .int x8)] [] := by
  unfold gM_free_L115_F at hf
  refine r_iload hC dX2_free_115 (j := 8) rfl ?_
  refine r_iload_n hC dX2_free_117 rfl (j := 3) rfl ?_
  refine r_icmp_ge hC dX2_free_118 (tgt := 216) (by decide) (fun c17 => ?_) (fun c17 => ?_)
  · have hf := dh_el hf (fun q => q c17)
    refine r_aload_n hC dX2_free_216 rfl (j := 0) rfl ?_
    refine m_getA hC hK fa_78 dX2_free_217 ?_
    refine r_iload hC dX2_free_220 (j := 6) rfl ?_
    obtain ⟨v18, h18, hf⟩ := dh_bd hf
    refine m_iald hC hK kd_78 h18 dX2_free_222 ?_
    refine r_iload_n hC dX2_free_223 rfl (j := 1) rfl ?_
    refine r_icmp_gt hC dX2_free_224 (tgt := 266) (by decide) (fun c19 => ?_) (fun c19 => ?_)
    · have hf := dh_if hf c19
      refine r_iinc (lv' := [(6, .int (x6 + 1)), (0, .ref (dm_am E)), (1, .int x1), (2, .int x2), (3, .int x3), (4, .int x4), (5, .int x5), (7, .int x7), (8, .int x8)]) hC dX2_free_266 (j := 6) rfl (congrArg _ ki_1) (Nat.le_of_ble_eq_true rfl) rfl ?_
      refine r_goto hC dX2_free_269 (tgt := 91) (by decide) ?_
      exact r_sub [1, 2, 3, 4, 5, 6, 0] rfl (hk91 M x1 x2 x3 x4 x5 (x6 + 1) hf)
    · have hf := dh_el hf c19
      refine r_iload hC dX2_free_227 (j := 7) rfl ?_
      refine r_iload hC dX2_free_229 (j := 5) rfl ?_
      refine r_icmp_gt hC dX2_free_231 (tgt := 258) (by decide) (fun c20 => ?_) (fun c20 => ?_)
      · have hf := dh_if hf c20
        refine r_iload hC dX2_free_258 (j := 6) rfl ?_
        refine r_istore (lv' := [(4, .int x6), (0, .ref (dm_am E)), (1, .int x1), (2, .int x2), (3, .int x3), (5, .int x5), (6, .int x6), (7, .int x7), (8, .int x8)]) hC dX2_free_260 (Nat.le_of_ble_eq_true rfl) rfl ?_
        refine r_iload hC dX2_free_262 (j := 7) rfl ?_
        refine r_istore (lv' := [(5, .int x7), (4, .int x6), (0, .ref (dm_am E)), (1, .int x1), (2, .int x2), (3, .int x3), (6, .int x6), (7, .int x7), (8, .int x8)]) hC dX2_free_264 (Nat.le_of_ble_eq_true rfl) rfl ?_
        refine r_iinc (lv' := [(6, .int (x6 + 1)), (5, .int x7), (4, .int x6), (0, .ref (dm_am E)), (1, .int x1), (2, .int x2), (3, .int x3), (7, .int x7), (8, .int x8)]) hC dX2_free_266 (j := 6) rfl (congrArg _ ki_1) (Nat.le_of_ble_eq_true rfl) rfl ?_
        refine r_goto hC dX2_free_269 (tgt := 91) (by decide) ?_
        exact r_sub [3, 4, 5, 6, 2, 1, 0] rfl (hk91 M x1 x2 x3 x6 x7 (x6 + 1) hf)
      · have hf := dh_el hf c20
        refine r_iload hC dX2_free_234 (j := 7) rfl ?_
        refine r_iload hC dX2_free_236 (j := 5) rfl ?_
        refine r_icmp_ne hC dX2_free_238 (tgt := 266) (by decide) (fun c21 => ?_) (fun c21 => ?_)
        · have hf := dh_el hf c21
          refine r_iinc (lv' := [(6, .int (x6 + 1)), (0, .ref (dm_am E)), (1, .int x1), (2, .int x2), (3, .int x3), (4, .int x4), (5, .int x5), (7, .int x7), (8, .int x8)]) hC dX2_free_266 (j := 6) rfl (congrArg _ ki_1) (Nat.le_of_ble_eq_true rfl) rfl ?_
          refine r_goto hC dX2_free_269 (tgt := 91) (by decide) ?_
          exact r_sub [1, 2, 3, 4, 5, 6, 0] rfl (hk91 M x1 x2 x3 x4 x5 (x6 + 1) hf)
        · have hf := dh_if hf c21
          refine r_aload_n hC dX2_free_241 rfl (j := 0) rfl ?_
          refine m_getA hC hK fa_78 dX2_free_242 ?_
          refine r_iload hC dX2_free_245 (j := 6) rfl ?_
          obtain ⟨v22, h22, hf⟩ := dh_bd hf
          refine m_iald hC hK kd_78 h22 dX2_free_247 ?_
          refine r_aload_n hC dX2_free_248 rfl (j := 0) rfl ?_
          refine m_getA hC hK fa_78 dX2_free_249 ?_
          refine r_iload hC dX2_free_252 (j := 4) rfl ?_
          obtain ⟨v23, h23, hf⟩ := dh_bd hf
          refine m_iald hC hK kd_78 h23 dX2_free_254 ?_
          refine r_icmp_ge hC dX2_free_255 (tgt := 266) (by decide) (fun c24 => ?_) (fun c24 => ?_)
          · have hf := dh_if hf c24
            refine r_iinc (lv' := [(6, .int (x6 + 1)), (0, .ref (dm_am E)), (1, .int x1), (2, .int x2), (3, .int x3), (4, .int x4), (5, .int x5), (7, .int x7), (8, .int x8)]) hC dX2_free_266 (j := 6) rfl (congrArg _ ki_1) (Nat.le_of_ble_eq_true rfl) rfl ?_
            refine r_goto hC dX2_free_269 (tgt := 91) (by decide) ?_
            exact r_sub [1, 2, 3, 4, 5, 6, 0] rfl (hk91 M x1 x2 x3 x4 x5 (x6 + 1) hf)
          · have hf := dh_el hf c24
            refine r_iload hC dX2_free_258 (j := 6) rfl ?_
            refine r_istore (lv' := [(4, .int x6), (0, .ref (dm_am E)), (1, .int x1), (2, .int x2), (3, .int x3), (5, .int x5), (6, .int x6), (7, .int x7), (8, .int x8)]) hC dX2_free_260 (Nat.le_of_ble_eq_true rfl) rfl ?_
            refine r_iload hC dX2_free_262 (j := 7) rfl ?_
            refine r_istore (lv' := [(5, .int x7), (4, .int x6), (0, .ref (dm_am E)), (1, .int x1), (2, .int x2), (3, .int x3), (6, .int x6), (7, .int x7), (8, .int x8)]) hC dX2_free_264 (Nat.le_of_ble_eq_true rfl) rfl ?_
            refine r_iinc (lv' := [(6, .int (x6 + 1)), (5, .int x7), (4, .int x6), (0, .ref (dm_am E)), (1, .int x1), (2, .int x2), (3, .int x3), (7, .int x7), (8, .int x8)]) hC dX2_free_266 (j := 6) rfl (congrArg _ ki_1) (Nat.le_of_ble_eq_true rfl) rfl ?_
            refine r_goto hC dX2_free_269 (tgt := 91) (by decide) ?_
            exact r_sub [3, 4, 5, 6, 2, 1, 0] rfl (hk91 M x1 x2 x3 x6 x7 (x6 + 1) hf)
  · have hf := dh_if hf c17
    refine r_iload hC dX2_free_121 (j := 6) rfl ?_
    refine r_iload hC dX2_free_123 (j := 8) rfl ?_
    refine r_ishr hC dX2_free_125 ?_
    refine r_iconst hC dX2_free_126 ki_1 ?_
    refine r_iand hC dX2_free_127 ?_
    refine r_if_eq hC dX2_free_128 (tgt := 210) (by decide) (fun c25 => ?_) (fun c25 => ?_)
    · have hf := dh_if hf c25
      refine r_iinc (lv' := [(8, .int (x8 + 1)), (0, .ref (dm_am E)), (1, .int x1), (2, .int x2), (3, .int x3), (4, .int x4), (5, .int x5), (6, .int x6), (7, .int x7)]) hC dX2_free_210 (j := 8) rfl (congrArg _ ki_1) (Nat.le_of_ble_eq_true rfl) rfl ?_
      refine r_goto hC dX2_free_213 (tgt := 115) (by decide) ?_
      exact r_sub [1, 2, 3, 4, 5, 6, 7, 8, 0] rfl (hk115 M x1 x2 x3 x4 x5 x6 x7 (x8 + 1) hf)
    · have hf := dh_el hf c25
      refine r_iinc (lv' := [(7, .int (x7 + 1)), (0, .ref (dm_am E)), (1, .int x1), (2, .int x2), (3, .int x3), (4, .int x4), (5, .int x5), (6, .int x6), (8, .int x8)]) hC dX2_free_131 (j := 7) rfl (congrArg _ ki_1) (Nat.le_of_ble_eq_true rfl) rfl ?_
      refine r_aload_n hC dX2_free_134 rfl (j := 1) rfl ?_
      refine m_getA hC hK fa_78 dX2_free_135 ?_
      refine r_iload hC dX2_free_138 (j := 7) rfl ?_
      refine r_iconst hC dX2_free_140 ki_1 ?_
      refine r_iload hC dX2_free_141 (j := 8) rfl ?_
      refine r_ishl hC dX2_free_143 ?_
      refine r_isub hC dX2_free_144 ?_
      obtain ⟨v26, h26, hf⟩ := dh_bd hf
      refine m_iald hC hK kd_78 h26 dX2_free_145 ?_
      refine r_istore (lv' := [(9, .int v26), (7, .int (x7 + 1)), (0, .ref (dm_am E)), (1, .int x1), (2, .int x2), (3, .int x3), (4, .int x4), (5, .int x5), (6, .int x6), (8, .int x8)]) hC dX2_free_146 (Nat.le_of_ble_eq_true rfl) rfl ?_
      refine r_iload hC dX2_free_148 (j := 0) rfl ?_
      refine r_iload_n hC dX2_free_150 rfl (j := 3) rfl ?_
      refine r_icmp_le hC dX2_free_151 (tgt := 160) (by decide) (fun c27 => ?_) (fun c27 => ?_)
      · have hf := dh_el hf (fun q => q c27)
        refine r_iload hC dX2_free_160 (j := 0) rfl ?_
        refine r_aload_n hC dX2_free_162 rfl (j := 2) rfl ?_
        refine r_iload hC dX2_free_163 (j := 9) rfl ?_
        refine r_iload hC dX2_free_165 (j := 8) rfl ?_
        refine r_iconst hC dX2_free_167 ki_1 ?_
        refine r_iload hC dX2_free_168 (j := 9) rfl ?_
        refine r_ishl hC dX2_free_170 ?_
        refine r_isub hC dX2_free_171 ?_
        refine r_iload_n hC dX2_free_172 rfl (j := 5) rfl ?_
        obtain ⟨p28, h28, hf⟩ := dh_bd hf
        refine m_callV' hC hK hR (cM_lacks _ E A M x8 (x6 - (1 <<< (x8 &&& 31))) x3 h28) q1969 q_lacks (Nat.le_of_ble_eq_true rfl) (Nat.le_of_ble_eq_true rfl) rfl (Nat.le_of_ble_eq_true rfl) dX2_free_173 ?_
        refine r_iadd hC dX2_free_176 ?_
        exact r_sub [2, 3, 4, 5, 6, 7, 8, 1, 9] rfl (wM_free_b177 hC hK hR k91 hk91 k115 hk115 M x1 x2 x3 x4 x5 x6 (x7 + 1) x8 (v26 + p28) hf)
      · have hf := dh_if hf c27
        refine r_ldcw hC q1968 dX2_free_154 ?_
        refine r_goto hC dX2_free_157 (tgt := 177) (by decide) ?_
        exact r_sub [2, 3, 4, 5, 6, 7, 8, 1, 9] rfl (wM_free_b177 hC hK hR k91 hk91 k115 hk115 M x1 x2 x3 x4 x5 x6 (x7 + 1) x8 2000000000 hf)
def gM_free_L115 (k91 : (dm_M → Int32 → Int32 → Int32 → Int32 → Int32 → Int32 → Option (Int32 × dm_M))) : Nat → dm_M → Int32 → Int32 → Int32 → Int32 → Int32 → Int32 → Int32 → Int32 → Option (Int32 × dm_M)
  | 0 => fun _ _ _ _ _ _ _ _ _ => none
  | n + 1 => gM_free_L115_F k91 (gM_free_L115 k91 n)
theorem wM_free_L115 {C : dh_C} {A : Nat → Prop} {E : dm_E} (hC : dh_ok C cX2_free 11 RX2 (some .int)) (hK : dm_Kn E (dh_s C)) (hR : dh_R C = { frames := 4, cells := 0, slots := 0, locals := 93 }) {r : Int32} {M' : dm_M} (k91 : (dm_M → Int32 → Int32 → Int32 → Int32 → Int32 → Int32 → Option (Int32 × dm_M))) (hk91 : ∀ (M : dm_M) (x1 : Int32) (x2 : Int32) (x3 : Int32) (x4 : Int32) (x5 : Int32) (x6 : Int32), k91 M x1 x2 x3 x4 x5 x6 = some (r, M') → dh_W C A (dm_P E A M) (dm_Q E A (some (.int r)) M') 0 0 0 0 91 [(0, .ref (dm_am E)), (1, .int x1), (2, .int x2), (3, .int x3), (4, .int x4), (5, .int x5), (6, .int x6)] []) : ∀ (n : Nat) (M : dm_M) (x1 : Int32) (x2 : Int32) (x3 : Int32) (x4 : Int32) (x5 : Int32) (x6 : Int32) (x7 : Int32) (x8 : Int32) (_ : gM_free_L115 k91 n M x1 x2 x3 x4 x5 x6 x7 x8 = some (r, M')), dh_W C A (dm_P E A M) (dm_Q E A (some (.int r)) M') 0 0 0 0 115 [(0, .ref (dm_am E)), (1, .int x1), (2, .int x2), (3, .int x3), (4, .int x4), (5, .int x5), (6, .int x6), (7, .int x7), (8, .int x8)] [] := by
  intro n
  induction n with
  | zero => intro M x1 x2 x3 x4 x5 x6 x7 x8 hf; exact dh_no hf
  | succ n ih => intro M x1 x2 x3 x4 x5 x6 x7 x8 hf; exact wM_free_L115_F hC hK hR k91 hk91 (gM_free_L115 k91 n) ih M x1 x2 x3 x4 x5 x6 x7 x8 hf
def gM_free_L91_F (k91 : (dm_M → Int32 → Int32 → Int32 → Int32 → Int32 → Int32 → Option (Int32 × dm_M))) (M : dm_M) (x1 : Int32) (x2 : Int32) (x3 : Int32) (x4 : Int32) (x5 : Int32) (x6 : Int32) : Option (Int32 × dm_M) :=
  if (1 <<< (x3 &&& 31)) ≤ x6 then (
    gM_free_L278 dh_fu M x2 x3 x4 x5 0 0)
  else
  (dm_wr M 78 x6 2000000000).bind fun M16 =>
  gM_free_L115 k91 dh_fu M16 x1 x2 x3 x4 x5 x6 0 0
theorem wM_free_L91_F {C : dh_C} {A : Nat → Prop} {E : dm_E} (hC : dh_ok C cX2_free 11 RX2 (some .int)) (hK : dm_Kn E (dh_s C)) (hR : dh_R C = { frames := 4, cells := 0, slots := 0, locals := 93 }) {r : Int32} {M' : dm_M} (k91 : (dm_M → Int32 → Int32 → Int32 → Int32 → Int32 → Int32 → Option (Int32 × dm_M))) (hk91 : ∀ (M : dm_M) (x1 : Int32) (x2 : Int32) (x3 : Int32) (x4 : Int32) (x5 : Int32) (x6 : Int32), k91 M x1 x2 x3 x4 x5 x6 = some (r, M') → dh_W C A (dm_P E A M) (dm_Q E A (some (.int r)) M') 0 0 0 0 91 [(0, .ref (dm_am E)), (1, .int x1), (2, .int x2), (3, .int x3), (4, .int x4), (5, .int x5), (6, .int x6)] []) (M : dm_M) (x1 : Int32) (x2 : Int32) (x3 : Int32) (x4 : Int32) (x5 : Int32) (x6 : Int32) (hf : gM_free_L91_F k91 M x1 x2 x3 x4 x5 x6 = some (r, M')) : dh_W C A (dm_P E A M) (dm_Q E A (some (.int r)) M') 0 0 0 0 91 [(0, .ref (dm_am E)), (1, .int x1), (2, .int x2), (3, .int x3), (4, .int x4), (5, .int x5), (6, .int x6)] [] := by
  unfold gM_free_L91_F at hf
  refine r_iload hC dX2_free_91 (j := 6) rfl ?_
  refine r_iconst hC dX2_free_93 ki_1 ?_
  refine r_iload_n hC dX2_free_94 rfl (j := 3) rfl ?_
  refine r_ishl hC dX2_free_95 ?_
  refine r_icmp_ge hC dX2_free_96 (tgt := 272) (by decide) (fun c9 => ?_) (fun c9 => ?_)
  · have hf := dh_if hf c9
    refine r_iconst hC dX2_free_272 ki_0 ?_
    refine r_istore (lv' := [(6, .int 0), (0, .ref (dm_am E)), (1, .int x1), (2, .int x2), (3, .int x3), (4, .int x4), (5, .int x5)]) hC dX2_free_273 (Nat.le_of_ble_eq_true rfl) rfl ?_
    refine r_iconst hC dX2_free_275 ki_0 ?_
    refine r_istore (lv' := [(7, .int 0), (6, .int 0), (0, .ref (dm_am E)), (1, .int x1), (2, .int x2), (3, .int x3), (4, .int x4), (5, .int x5)]) hC dX2_free_276 (Nat.le_of_ble_eq_true rfl) rfl ?_
    exact r_sub [2, 4, 5, 6, 7, 1, 0] rfl (wM_free_L278 hC hK hR dh_fu M x2 x3 x4 x5 0 0 hf)
  · have hf := dh_el hf c9
    refine r_iconst hC dX2_free_99 ki_0 ?_
    refine r_istore (lv' := [(7, .int 0), (0, .ref (dm_am E)), (1, .int x1), (2, .int x2), (3, .int x3), (4, .int x4), (5, .int x5), (6, .int x6)]) hC dX2_free_100 (Nat.le_of_ble_eq_true rfl) rfl ?_
    refine r_aload_n hC dX2_free_102 rfl (j := 1) rfl ?_
    refine m_getA hC hK fa_78 dX2_free_103 ?_
    refine r_iload hC dX2_free_106 (j := 7) rfl ?_
    refine r_ldcw hC q1968 dX2_free_108 ?_
    obtain ⟨M16, h16, hf⟩ := dh_bd hf
    refine m_iast hC hK kd_78 h16 dX2_free_111 ?_
    refine r_iconst hC dX2_free_112 ki_0 ?_
    refine r_istore (lv' := [(8, .int 0), (7, .int 0), (0, .ref (dm_am E)), (1, .int x1), (2, .int x2), (3, .int x3), (4, .int x4), (5, .int x5), (6, .int x6)]) hC dX2_free_113 (Nat.le_of_ble_eq_true rfl) rfl ?_
    exact r_sub [2, 3, 4, 5, 6, 7, 8, 1, 0] rfl (wM_free_L115 hC hK hR k91 hk91 dh_fu M16 x1 x2 x3 x4 x5 x6 0 0 hf)
def gM_free_L91 : Nat → dm_M → Int32 → Int32 → Int32 → Int32 → Int32 → Int32 → Option (Int32 × dm_M)
  | 0 => fun _ _ _ _ _ _ _ => none
  | n + 1 => gM_free_L91_F (gM_free_L91 n)
theorem wM_free_L91 {C : dh_C} {A : Nat → Prop} {E : dm_E} (hC : dh_ok C cX2_free 11 RX2 (some .int)) (hK : dm_Kn E (dh_s C)) (hR : dh_R C = { frames := 4, cells := 0, slots := 0, locals := 93 }) {r : Int32} {M' : dm_M} : ∀ (n : Nat) (M : dm_M) (x1 : Int32) (x2 : Int32) (x3 : Int32) (x4 : Int32) (x5 : Int32) (x6 : Int32) (_ : gM_free_L91 n M x1 x2 x3 x4 x5 x6 = some (r, M')), dh_W C A (dm_P E A M) (dm_Q E A (some (.int r)) M') 0 0 0 0 91 [(0, .ref (dm_am E)), (1, .int x1), (2, .int x2), (3, .int x3), (4, .int x4), (5, .int x5), (6, .int x6)] [] := by
  intro n
  induction n with
  | zero => intro M x1 x2 x3 x4 x5 x6 hf; exact dh_no hf
  | succ n ih => intro M x1 x2 x3 x4 x5 x6 hf; exact wM_free_L91_F hC hK hR (gM_free_L91 n) ih M x1 x2 x3 x4 x5 x6 hf
def gM_free_L31_F (k31 : (dm_M → Int32 → Int32 → Int32 → Int32 → Option (Int32 × dm_M))) (M : dm_M) (x1 : Int32) (x2 : Int32) (x3 : Int32) (x4 : Int32) : Option (Int32 × dm_M) :=
  (dm_rd M 8 0).bind fun v6 =>
  if v6 ≤ x4 then (
    (dm_wr M 78 0 0).bind fun M8 =>
    gM_free_L91 dh_fu M8 x1 x2 x3 0 0 1)
  else
  if 8 ≤ x3 then (
    (dm_wr M 78 0 0).bind fun M35 =>
    gM_free_L91 dh_fu M35 x1 x2 x3 0 0 1)
  else
  (dm_rd M 11 x4).bind fun v36 =>
  if v36 = 0 then (
    k31 M x1 x2 x3 (x4 + 1))
  else
  (dm_wr M 77 x3 x4).bind fun M38 =>
  k31 M38 x1 x2 (x3 + 1) (x4 + 1)
theorem wM_free_L31_F {C : dh_C} {A : Nat → Prop} {E : dm_E} (hC : dh_ok C cX2_free 11 RX2 (some .int)) (hK : dm_Kn E (dh_s C)) (hR : dh_R C = { frames := 4, cells := 0, slots := 0, locals := 93 }) {r : Int32} {M' : dm_M} (k31 : (dm_M → Int32 → Int32 → Int32 → Int32 → Option (Int32 × dm_M))) (hk31 : ∀ (M : dm_M) (x1 : Int32) (x2 : Int32) (x3 : Int32) (x4 : Int32), k31 M x1 x2 x3 x4 = some (r, M') → dh_W C A (dm_P E A M) (dm_Q E A (some (.int r)) M') 0 0 0 0 31 [(0, .ref (dm_am E)), (1, .int x1), (2, .int x2), (3, .int x3), (4, .int x4)] []) (M : dm_M) (x1 : Int32) (x2 : Int32) (x3 : Int32) (x4 : Int32) (hf : gM_free_L31_F k31 M x1 x2 x3 x4 = some (r, M')) : dh_W C A (dm_P E A M) (dm_Q E A (some (.int r)) M') 0 0 0 0 31 [(0, .ref (dm_am E)), (1, .int x1), (2, .int x2), (3, .int x3), (4, .int x4)] [] := by
  unfold gM_free_L31_F at hf
  refine r_iload hC dX2_free_31 (j := 4) rfl ?_
  refine r_aload_n hC dX2_free_33 rfl (j := 0) rfl ?_
  refine m_getA hC hK fa_8 dX2_free_34 ?_
  refine r_iconst hC dX2_free_37 ki_0 ?_
  obtain ⟨v6, h6, hf⟩ := dh_bd hf
  refine m_iald hC hK kd_8 h6 dX2_free_38 ?_
  refine r_icmp_ge hC dX2_free_39 (tgt := 75) (by decide) (fun c7 => ?_) (fun c7 => ?_)
  · have hf := dh_if hf c7
    refine r_iconst hC dX2_free_75 ki_0 ?_
    refine r_istore (lv' := [(4, .int 0), (0, .ref (dm_am E)), (1, .int x1), (2, .int x2), (3, .int x3)]) hC dX2_free_76 (Nat.le_of_ble_eq_true rfl) rfl ?_
    refine r_iconst hC dX2_free_78 ki_0 ?_
    refine r_istore (lv' := [(5, .int 0), (4, .int 0), (0, .ref (dm_am E)), (1, .int x1), (2, .int x2), (3, .int x3)]) hC dX2_free_79 (Nat.le_of_ble_eq_true rfl) rfl ?_
    refine r_aload_n hC dX2_free_81 rfl (j := 2) rfl ?_
    refine m_getA hC hK fa_78 dX2_free_82 ?_
    refine r_iconst hC dX2_free_85 ki_0 ?_
    refine r_iconst hC dX2_free_86 ki_0 ?_
    obtain ⟨M8, h8, hf⟩ := dh_bd hf
    refine m_iast hC hK kd_78 h8 dX2_free_87 ?_
    refine r_iconst hC dX2_free_88 ki_1 ?_
    refine r_istore (lv' := [(6, .int 1), (5, .int 0), (4, .int 0), (0, .ref (dm_am E)), (1, .int x1), (2, .int x2), (3, .int x3)]) hC dX2_free_89 (Nat.le_of_ble_eq_true rfl) rfl ?_
    exact r_sub [3, 4, 5, 6, 2, 1, 0] rfl (wM_free_L91 hC hK hR dh_fu M8 x1 x2 x3 0 0 1 hf)
  · have hf := dh_el hf c7
    refine r_iload_n hC dX2_free_42 rfl (j := 3) rfl ?_
    refine r_bipush hC dX2_free_43 kb_8 ?_
    refine r_icmp_ge hC dX2_free_45 (tgt := 75) (by decide) (fun c34 => ?_) (fun c34 => ?_)
    · have hf := dh_if hf c34
      refine r_iconst hC dX2_free_75 ki_0 ?_
      refine r_istore (lv' := [(4, .int 0), (0, .ref (dm_am E)), (1, .int x1), (2, .int x2), (3, .int x3)]) hC dX2_free_76 (Nat.le_of_ble_eq_true rfl) rfl ?_
      refine r_iconst hC dX2_free_78 ki_0 ?_
      refine r_istore (lv' := [(5, .int 0), (4, .int 0), (0, .ref (dm_am E)), (1, .int x1), (2, .int x2), (3, .int x3)]) hC dX2_free_79 (Nat.le_of_ble_eq_true rfl) rfl ?_
      refine r_aload_n hC dX2_free_81 rfl (j := 2) rfl ?_
      refine m_getA hC hK fa_78 dX2_free_82 ?_
      refine r_iconst hC dX2_free_85 ki_0 ?_
      refine r_iconst hC dX2_free_86 ki_0 ?_
      obtain ⟨M35, h35, hf⟩ := dh_bd hf
      refine m_iast hC hK kd_78 h35 dX2_free_87 ?_
      refine r_iconst hC dX2_free_88 ki_1 ?_
      refine r_istore (lv' := [(6, .int 1), (5, .int 0), (4, .int 0), (0, .ref (dm_am E)), (1, .int x1), (2, .int x2), (3, .int x3)]) hC dX2_free_89 (Nat.le_of_ble_eq_true rfl) rfl ?_
      exact r_sub [3, 4, 5, 6, 2, 1, 0] rfl (wM_free_L91 hC hK hR dh_fu M35 x1 x2 x3 0 0 1 hf)
    · have hf := dh_el hf c34
      refine r_aload_n hC dX2_free_48 rfl (j := 0) rfl ?_
      refine m_getA hC hK fa_11 dX2_free_49 ?_
      refine r_iload hC dX2_free_52 (j := 4) rfl ?_
      obtain ⟨v36, h36, hf⟩ := dh_bd hf
      refine m_zald hC hK kd_11 h36 dX2_free_54 ?_
      refine r_if_eq hC dX2_free_55 (tgt := 69) (by decide) (fun c37 => ?_) (fun c37 => ?_)
      · have hf := dh_if hf c37
        refine r_iinc (lv' := [(4, .int (x4 + 1)), (0, .ref (dm_am E)), (1, .int x1), (2, .int x2), (3, .int x3)]) hC dX2_free_69 (j := 4) rfl (congrArg _ ki_1) (Nat.le_of_ble_eq_true rfl) rfl ?_
        refine r_goto hC dX2_free_72 (tgt := 31) (by decide) ?_
        exact r_sub [1, 2, 3, 4, 0] rfl (hk31 M x1 x2 x3 (x4 + 1) hf)
      · have hf := dh_el hf c37
        refine r_aload_n hC dX2_free_58 rfl (j := 0) rfl ?_
        refine m_getA hC hK fa_77 dX2_free_59 ?_
        refine r_iload_n hC dX2_free_62 rfl (j := 3) rfl ?_
        refine r_iload hC dX2_free_63 (j := 4) rfl ?_
        obtain ⟨M38, h38, hf⟩ := dh_bd hf
        refine m_iast hC hK kd_77 h38 dX2_free_65 ?_
        refine r_iinc (lv' := [(3, .int (x3 + 1)), (0, .ref (dm_am E)), (1, .int x1), (2, .int x2), (4, .int x4)]) hC dX2_free_66 (j := 3) rfl (congrArg _ ki_1) (Nat.le_of_ble_eq_true rfl) rfl ?_
        refine r_iinc (lv' := [(4, .int (x4 + 1)), (3, .int (x3 + 1)), (0, .ref (dm_am E)), (1, .int x1), (2, .int x2)]) hC dX2_free_69 (j := 4) rfl (congrArg _ ki_1) (Nat.le_of_ble_eq_true rfl) rfl ?_
        refine r_goto hC dX2_free_72 (tgt := 31) (by decide) ?_
        exact r_sub [2, 3, 4, 1, 0] rfl (hk31 M38 x1 x2 (x3 + 1) (x4 + 1) hf)
def gM_free_L31 : Nat → dm_M → Int32 → Int32 → Int32 → Int32 → Option (Int32 × dm_M)
  | 0 => fun _ _ _ _ _ => none
  | n + 1 => gM_free_L31_F (gM_free_L31 n)
theorem wM_free_L31 {C : dh_C} {A : Nat → Prop} {E : dm_E} (hC : dh_ok C cX2_free 11 RX2 (some .int)) (hK : dm_Kn E (dh_s C)) (hR : dh_R C = { frames := 4, cells := 0, slots := 0, locals := 93 }) {r : Int32} {M' : dm_M} : ∀ (n : Nat) (M : dm_M) (x1 : Int32) (x2 : Int32) (x3 : Int32) (x4 : Int32) (_ : gM_free_L31 n M x1 x2 x3 x4 = some (r, M')), dh_W C A (dm_P E A M) (dm_Q E A (some (.int r)) M') 0 0 0 0 31 [(0, .ref (dm_am E)), (1, .int x1), (2, .int x2), (3, .int x3), (4, .int x4)] [] := by
  intro n
  induction n with
  | zero => intro M x1 x2 x3 x4 hf; exact dh_no hf
  | succ n ih => intro M x1 x2 x3 x4 hf; exact wM_free_L31_F hC hK hR (gM_free_L31 n) ih M x1 x2 x3 x4 hf
def gM_free (M : dm_M) (x1 : Int32) (x2 : Int32) : Option (Int32 × dm_M) :=
  (some (dm_set M 0 0 0)).bind fun M1 =>
  (gM_in M1 x1 0 1000000).bind fun p2 =>
  if p2 = 0 then (
    some ((-1), M1))
  else
  (gM_in M1 x2 0 2).bind fun p4 =>
  if p4 = 0 then (
    some ((-1), M1))
  else
  gM_free_L31 dh_fu M1 x1 x2 0 0
theorem wM_free {C : dh_C} {A : Nat → Prop} {E : dm_E} (hC : dh_ok C cX2_free 11 RX2 (some .int)) (hK : dm_Kn E (dh_s C)) (hR : dh_R C = { frames := 4, cells := 0, slots := 0, locals := 93 }) {r : Int32} {M' : dm_M} (M : dm_M) (x1 : Int32) (x2 : Int32) (hf : gM_free M x1 x2 = some (r, M')) : dh_W C A (dm_P E A M) (dm_Q E A (some (.int r)) M') 0 0 0 0 0 [(0, .ref (dm_am E)), (1, .int x1), (2, .int x2)] [] := by
  unfold gM_free at hf
  refine r_aload_n hC dX2_free_0 rfl (j := 0) rfl ?_
  refine r_iconst hC dX2_free_1 ki_0 ?_
  obtain ⟨M1, h1, hf⟩ := dh_bd hf
  refine m_putI hC hK fi_0 dX2_free_2 h1 ?_
  refine r_iload_n hC dX2_free_5 rfl (j := 1) rfl ?_
  refine r_iconst hC dX2_free_6 ki_0 ?_
  refine r_ldc hC q1638 dX2_free_7 ?_
  obtain ⟨p2, h2, hf⟩ := dh_bd hf
  refine m_callS' hC hK hR (cM_in _ E A M1 x1 0 1000000 h2) q1639 q_in (Nat.le_of_ble_eq_true rfl) (Nat.le_of_ble_eq_true rfl) rfl (Nat.le_of_ble_eq_true rfl) dX2_free_9 ?_
  refine r_if_eq hC dX2_free_12 (tgt := 24) (by decide) (fun c3 => ?_) (fun c3 => ?_)
  · have hf := dh_if hf c3
    refine r_iconst hC dX2_free_24 ki_m1 ?_
    exact m_iret hC dX2_free_25 rfl hf
  · have hf := dh_el hf c3
    refine r_iload_n hC dX2_free_15 rfl (j := 2) rfl ?_
    refine r_iconst hC dX2_free_16 ki_0 ?_
    refine r_iconst hC dX2_free_17 ki_2 ?_
    obtain ⟨p4, h4, hf⟩ := dh_bd hf
    refine m_callS' hC hK hR (cM_in _ E A M1 x2 0 2 h4) q1639 q_in (Nat.le_of_ble_eq_true rfl) (Nat.le_of_ble_eq_true rfl) rfl (Nat.le_of_ble_eq_true rfl) dX2_free_18 ?_
    refine r_if_ne hC dX2_free_21 (tgt := 26) (by decide) (fun c5 => ?_) (fun c5 => ?_)
    · have hf := dh_el hf c5
      refine r_iconst hC dX2_free_26 ki_0 ?_
      refine r_istore_n (lv' := [(3, .int 0), (0, .ref (dm_am E)), (1, .int x1), (2, .int x2)]) hC dX2_free_27 rfl (Nat.le_of_ble_eq_true rfl) rfl ?_
      refine r_iconst hC dX2_free_28 ki_0 ?_
      refine r_istore (lv' := [(4, .int 0), (3, .int 0), (0, .ref (dm_am E)), (1, .int x1), (2, .int x2)]) hC dX2_free_29 (Nat.le_of_ble_eq_true rfl) rfl ?_
      exact r_sub [2, 3, 4, 1, 0] rfl (wM_free_L31 hC hK hR dh_fu M1 x1 x2 0 0 hf)
    · have hf := dh_if hf c5
      refine r_iconst hC dX2_free_24 ki_m1 ?_
      exact m_iret hC dX2_free_25 rfl hf
theorem cM_free (l : Launch) (E : dm_E) (A : Nat → Prop) (M : dm_M) (x1 : Int32) (x2 : Int32) {p : Int32 × dm_M} (h : gM_free M x1 x2 = some p) : dm_Met l yX2_free cX2_free 11 (some .int) 4 93 E A [.ref (dm_am E), .int x1, .int x2] M (some (.int p.1)) p.2 := by
  refine dh_met (by decide) (Nat.le_of_ble_eq_true rfl) (fun _ _ h => ⟨_, h.1⟩) (fun C hl hR hC hnm hK => ?_)
  exact wM_free hC hK hR M x1 x2 h
theorem q_free : dm_calV yX2_free cX2_free 11 (some .int) 2 := ⟨q1965, q1966, q1967, by decide +kernel⟩
/-! good(II)I -/
def gM_good (M : dm_M) (x1 : Int32) (x2 : Int32) : Option (Int32 × dm_M) :=
  (some (dm_set M 0 0 0)).bind fun M1 =>
  (gM_isDay M1 x1).bind fun p2 =>
  if p2 = 0 then (
    some ((-1), M1))
  else
  (gM_isDay M1 x2).bind fun p4 =>
  if p4 = 0 then (
    some ((-1), M1))
  else
  (gM_goodOn M1 x1 x2).bind fun p6 =>
  some (p6, M1)
theorem wM_good {C : dh_C} {A : Nat → Prop} {E : dm_E} (hC : dh_ok C cX2_good 3 RX2 (some .int)) (hK : dm_Kn E (dh_s C)) (hR : dh_R C = { frames := 2, cells := 0, slots := 0, locals := 42 }) {r : Int32} {M' : dm_M} (M : dm_M) (x1 : Int32) (x2 : Int32) (hf : gM_good M x1 x2 = some (r, M')) : dh_W C A (dm_P E A M) (dm_Q E A (some (.int r)) M') 0 0 0 0 0 [(0, .ref (dm_am E)), (1, .int x1), (2, .int x2)] [] := by
  unfold gM_good at hf
  refine r_aload_n hC dX2_good_0 rfl (j := 0) rfl ?_
  refine r_iconst hC dX2_good_1 ki_0 ?_
  obtain ⟨M1, h1, hf⟩ := dh_bd hf
  refine m_putI hC hK fi_0 dX2_good_2 h1 ?_
  refine r_iload_n hC dX2_good_5 rfl (j := 1) rfl ?_
  obtain ⟨p2, h2, hf⟩ := dh_bd hf
  refine m_callS' hC hK hR (cM_isDay _ E A M1 x1 h2) q1736 q_isDay (Nat.le_of_ble_eq_true rfl) (Nat.le_of_ble_eq_true rfl) rfl (Nat.le_of_ble_eq_true rfl) dX2_good_6 ?_
  refine r_if_eq hC dX2_good_9 (tgt := 28) (by decide) (fun c3 => ?_) (fun c3 => ?_)
  · have hf := dh_if hf c3
    refine r_iconst hC dX2_good_28 ki_m1 ?_
    exact m_iret hC dX2_good_29 rfl hf
  · have hf := dh_el hf c3
    refine r_iload_n hC dX2_good_12 rfl (j := 2) rfl ?_
    obtain ⟨p4, h4, hf⟩ := dh_bd hf
    refine m_callS' hC hK hR (cM_isDay _ E A M1 x2 h4) q1736 q_isDay (Nat.le_of_ble_eq_true rfl) (Nat.le_of_ble_eq_true rfl) rfl (Nat.le_of_ble_eq_true rfl) dX2_good_13 ?_
    refine r_if_eq hC dX2_good_16 (tgt := 28) (by decide) (fun c5 => ?_) (fun c5 => ?_)
    · have hf := dh_if hf c5
      refine r_iconst hC dX2_good_28 ki_m1 ?_
      exact m_iret hC dX2_good_29 rfl hf
    · have hf := dh_el hf c5
      refine r_aload_n hC dX2_good_19 rfl (j := 0) rfl ?_
      refine r_iload_n hC dX2_good_20 rfl (j := 1) rfl ?_
      refine r_iload_n hC dX2_good_21 rfl (j := 2) rfl ?_
      obtain ⟨p6, h6, hf⟩ := dh_bd hf
      refine m_callV' hC hK hR (cM_goodOn _ E A M1 x1 x2 h6) q1813 q_goodOn (Nat.le_of_ble_eq_true rfl) (Nat.le_of_ble_eq_true rfl) rfl (Nat.le_of_ble_eq_true rfl) dX2_good_22 ?_
      refine r_goto hC dX2_good_25 (tgt := 29) (by decide) ?_
      exact m_iret hC dX2_good_29 rfl hf
theorem cM_good (l : Launch) (E : dm_E) (A : Nat → Prop) (M : dm_M) (x1 : Int32) (x2 : Int32) {p : Int32 × dm_M} (h : gM_good M x1 x2 = some p) : dm_Met l yX2_good cX2_good 3 (some .int) 2 42 E A [.ref (dm_am E), .int x1, .int x2] M (some (.int p.1)) p.2 := by
  refine dh_met (by decide) (Nat.le_of_ble_eq_true rfl) (fun _ _ h => ⟨_, h.1⟩) (fun C hl hR hC hnm hK => ?_)
  exact wM_good hC hK hR M x1 x2 h
theorem q_good : dm_calV yX2_good cX2_good 3 (some .int) 2 := ⟨q1810, q1811, q1812, by decide +kernel⟩
/-! owes(II)Z -/
def gM_owes_L2_F (k2 : (Int32 → Int32 → Int32 → Option Int32)) (M : dm_M) (x1 : Int32) (x2 : Int32) (x3 : Int32) : Option Int32 :=
  (dm_rd M 25 0).bind fun v1 =>
  if v1 ≤ x3 then (
    some 0)
  else
  (dm_rd M 33 x3).bind fun v3 =>
  if v3 = 0 then (
    (dm_rd M 26 x3).bind fun v5 =>
    if v5 = x1 then (
      (dm_rd M 27 x3).bind fun v7 =>
      if v7 = x2 then (
        some 1)
      else
      k2 x1 x2 (x3 + 1))
    else
    k2 x1 x2 (x3 + 1))
  else
  k2 x1 x2 (x3 + 1)
theorem wM_owes_L2_F {C : dh_C} {A : Nat → Prop} {E : dm_E} (hC : dh_ok C cX2_owes 4 RX2 (some .boolean)) (hK : dm_Kn E (dh_s C)) (hR : dh_R C = { frames := 0, cells := 0, slots := 0, locals := 0 }) {r : Int32} (M : dm_M) (k2 : (Int32 → Int32 → Int32 → Option Int32)) (hk2 : ∀ (x1 : Int32) (x2 : Int32) (x3 : Int32), k2 x1 x2 x3 = some r → dh_W C A (dm_P E A M) (dm_Q E A (some (.int r)) M) 0 0 0 0 2 [(0, .ref (dm_am E)), (1, .int x1), (2, .int x2), (3, .int x3)] []) (x1 : Int32) (x2 : Int32) (x3 : Int32) (hf : gM_owes_L2_F k2 M x1 x2 x3 = some r) : dh_W C A (dm_P E A M) (dm_Q E A (some (.int r)) M) 0 0 0 0 2 [(0, .ref (dm_am E)), (1, .int x1), (2, .int x2), (3, .int x3)] [] := by
  unfold gM_owes_L2_F at hf
  refine r_iload_n hC dX2_owes_2 rfl (j := 3) rfl ?_
  refine r_aload_n hC dX2_owes_3 rfl (j := 0) rfl ?_
  refine m_getA hC hK fa_25 dX2_owes_4 ?_
  refine r_iconst hC dX2_owes_7 ki_0 ?_
  obtain ⟨v1, h1, hf⟩ := dh_bd hf
  refine m_iald hC hK kd_25 h1 dX2_owes_8 ?_
  refine r_icmp_ge hC dX2_owes_9 (tgt := 49) (by decide) (fun c2 => ?_) (fun c2 => ?_)
  · have hf := dh_if hf c2
    refine r_iconst hC dX2_owes_49 ki_0 ?_
    exact m_zret1 hC dX2_owes_50 rfl rfl hf
  · have hf := dh_el hf c2
    refine r_aload_n hC dX2_owes_12 rfl (j := 0) rfl ?_
    refine m_getA hC hK fa_33 dX2_owes_13 ?_
    refine r_iload_n hC dX2_owes_16 rfl (j := 3) rfl ?_
    obtain ⟨v3, h3, hf⟩ := dh_bd hf
    refine m_iald hC hK kd_33 h3 dX2_owes_17 ?_
    refine r_if_ne hC dX2_owes_18 (tgt := 43) (by decide) (fun c4 => ?_) (fun c4 => ?_)
    · have hf := dh_el hf c4
      refine r_iinc (lv' := [(3, .int (x3 + 1)), (0, .ref (dm_am E)), (1, .int x1), (2, .int x2)]) hC dX2_owes_43 (j := 3) rfl (congrArg _ ki_1) (Nat.le_of_ble_eq_true rfl) rfl ?_
      refine r_goto hC dX2_owes_46 (tgt := 2) (by decide) ?_
      exact r_sub [1, 2, 3, 0] rfl (hk2 x1 x2 (x3 + 1) hf)
    · have hf := dh_if hf c4
      refine r_aload_n hC dX2_owes_21 rfl (j := 0) rfl ?_
      refine m_getA hC hK fa_26 dX2_owes_22 ?_
      refine r_iload_n hC dX2_owes_25 rfl (j := 3) rfl ?_
      obtain ⟨v5, h5, hf⟩ := dh_bd hf
      refine m_iald hC hK kd_26 h5 dX2_owes_26 ?_
      refine r_iload_n hC dX2_owes_27 rfl (j := 1) rfl ?_
      refine r_icmp_ne hC dX2_owes_28 (tgt := 43) (by decide) (fun c6 => ?_) (fun c6 => ?_)
      · have hf := dh_el hf c6
        refine r_iinc (lv' := [(3, .int (x3 + 1)), (0, .ref (dm_am E)), (1, .int x1), (2, .int x2)]) hC dX2_owes_43 (j := 3) rfl (congrArg _ ki_1) (Nat.le_of_ble_eq_true rfl) rfl ?_
        refine r_goto hC dX2_owes_46 (tgt := 2) (by decide) ?_
        exact r_sub [1, 2, 3, 0] rfl (hk2 x1 x2 (x3 + 1) hf)
      · have hf := dh_if hf c6
        refine r_aload_n hC dX2_owes_31 rfl (j := 0) rfl ?_
        refine m_getA hC hK fa_27 dX2_owes_32 ?_
        refine r_iload_n hC dX2_owes_35 rfl (j := 3) rfl ?_
        obtain ⟨v7, h7, hf⟩ := dh_bd hf
        refine m_iald hC hK kd_27 h7 dX2_owes_36 ?_
        refine r_iload_n hC dX2_owes_37 rfl (j := 2) rfl ?_
        refine r_icmp_ne hC dX2_owes_38 (tgt := 43) (by decide) (fun c8 => ?_) (fun c8 => ?_)
        · have hf := dh_el hf c8
          refine r_iinc (lv' := [(3, .int (x3 + 1)), (0, .ref (dm_am E)), (1, .int x1), (2, .int x2)]) hC dX2_owes_43 (j := 3) rfl (congrArg _ ki_1) (Nat.le_of_ble_eq_true rfl) rfl ?_
          refine r_goto hC dX2_owes_46 (tgt := 2) (by decide) ?_
          exact r_sub [1, 2, 3, 0] rfl (hk2 x1 x2 (x3 + 1) hf)
        · have hf := dh_if hf c8
          refine r_iconst hC dX2_owes_41 ki_1 ?_
          exact m_zret1 hC dX2_owes_42 rfl rfl hf
def gM_owes_L2 (M : dm_M) : Nat → Int32 → Int32 → Int32 → Option Int32
  | 0 => fun _ _ _ => none
  | n + 1 => gM_owes_L2_F (gM_owes_L2 M n) M
theorem wM_owes_L2 {C : dh_C} {A : Nat → Prop} {E : dm_E} (hC : dh_ok C cX2_owes 4 RX2 (some .boolean)) (hK : dm_Kn E (dh_s C)) (hR : dh_R C = { frames := 0, cells := 0, slots := 0, locals := 0 }) {r : Int32} (M : dm_M) : ∀ (n : Nat) (x1 : Int32) (x2 : Int32) (x3 : Int32) (_ : gM_owes_L2 M n x1 x2 x3 = some r), dh_W C A (dm_P E A M) (dm_Q E A (some (.int r)) M) 0 0 0 0 2 [(0, .ref (dm_am E)), (1, .int x1), (2, .int x2), (3, .int x3)] [] := by
  intro n
  induction n with
  | zero => intro x1 x2 x3 hf; exact dh_no hf
  | succ n ih => intro x1 x2 x3 hf; exact wM_owes_L2_F hC hK hR M (gM_owes_L2 M n) ih x1 x2 x3 hf
def gM_owes (M : dm_M) (x1 : Int32) (x2 : Int32) : Option Int32 :=
  gM_owes_L2 M dh_fu x1 x2 0
theorem wM_owes {C : dh_C} {A : Nat → Prop} {E : dm_E} (hC : dh_ok C cX2_owes 4 RX2 (some .boolean)) (hK : dm_Kn E (dh_s C)) (hR : dh_R C = { frames := 0, cells := 0, slots := 0, locals := 0 }) {r : Int32} (M : dm_M) (x1 : Int32) (x2 : Int32) (hf : gM_owes M x1 x2 = some r) : dh_W C A (dm_P E A M) (dm_Q E A (some (.int r)) M) 0 0 0 0 0 [(0, .ref (dm_am E)), (1, .int x1), (2, .int x2)] [] := by
  unfold gM_owes at hf
  refine r_iconst hC dX2_owes_0 ki_0 ?_
  refine r_istore_n (lv' := [(3, .int 0), (0, .ref (dm_am E)), (1, .int x1), (2, .int x2)]) hC dX2_owes_1 rfl (Nat.le_of_ble_eq_true rfl) rfl ?_
  exact r_sub [1, 2, 3, 0] rfl (wM_owes_L2 hC hK hR M dh_fu x1 x2 0 hf)
theorem cM_owes (l : Launch) (E : dm_E) (A : Nat → Prop) (M : dm_M) (x1 : Int32) (x2 : Int32) {r : Int32} (h : gM_owes M x1 x2 = some r) : dm_Met l yX2_owes cX2_owes 4 (some .boolean) 0 0 E A [.ref (dm_am E), .int x1, .int x2] M (some (.int r)) M := by
  refine dh_met (by decide) (Nat.le_of_ble_eq_true rfl) (fun _ _ h => ⟨_, h.1⟩) (fun C hl hR hC hnm hK => ?_)
  exact wM_owes hC hK hR M x1 x2 h
theorem q_owes : dm_calV yX2_owes cX2_owes 4 (some .boolean) 2 := ⟨q1846, qs66, q1847, by decide +kernel⟩
/-! hold(II)Z -/
def gM_hold (M : dm_M) (x1 : Int32) (x2 : Int32) : Option (Int32 × dm_M) :=
  (some (dm_set M 0 0 0)).bind fun M1 =>
  (gM_areTwo M1 x1 x2).bind fun p2 =>
  if p2 = 0 then (
    some (0, M1))
  else
  (gM_owes M1 x2 x1).bind fun p4 =>
  if p4 = 0 then (
    some (0, M1))
  else
  (dm_rd M1 19 x2).bind fun v6 =>
  if ((v6 >>> (x1 &&& 31)) &&& 1) = 0 then (
    (gM_tellsNow M1 x2 0).bind fun p8 =>
    if p8.1 = 0 then (
      some (0, p8.2))
    else
    (dm_rd p8.2 11 x2).bind fun v10 =>
    if v10 = 0 then (
      (gM_tellsNow p8.2 x2 1).bind fun p14 =>
      (dm_wr p14.2 14 x2 p14.1).bind fun M15 =>
      (dm_wr M15 11 x2 (vp_nar .boolean 1)).bind fun M16 =>
      (dm_rd M16 5 0).bind fun v17 =>
      (dm_wr M16 12 x2 v17).bind fun M18 =>
      (dm_wr M18 13 x2 0).bind fun M19 =>
      (dm_wr M19 15 x2 (vp_nar .boolean 0)).bind fun M20 =>
      (dm_rd M20 19 x2).bind fun v21 =>
      (dm_wr M20 19 x2 (v21 ||| (1 <<< (x1 &&& 31)))).bind fun M22 =>
      some (1, M22))
    else
    (dm_rd p8.2 19 x2).bind fun v12 =>
    (dm_wr p8.2 19 x2 (v12 ||| (1 <<< (x1 &&& 31)))).bind fun M13 =>
    some (1, M13))
  else
  some (0, M1)
theorem wM_hold {C : dh_C} {A : Nat → Prop} {E : dm_E} (hC : dh_ok C cX2_hold 3 RX2 (some .boolean)) (hK : dm_Kn E (dh_s C)) (hR : dh_R C = { frames := 4, cells := 0, slots := 0, locals := 86 }) {r : Int32} {M' : dm_M} (M : dm_M) (x1 : Int32) (x2 : Int32) (hf : gM_hold M x1 x2 = some (r, M')) : dh_W C A (dm_P E A M) (dm_Q E A (some (.int r)) M') 0 0 0 0 0 [(0, .ref (dm_am E)), (1, .int x1), (2, .int x2)] [] := by
  unfold gM_hold at hf
  refine r_aload_n hC dX2_hold_0 rfl (j := 0) rfl ?_
  refine r_iconst hC dX2_hold_1 ki_0 ?_
  obtain ⟨M1, h1, hf⟩ := dh_bd hf
  refine m_putI hC hK fi_0 dX2_hold_2 h1 ?_
  refine r_aload_n hC dX2_hold_5 rfl (j := 0) rfl ?_
  refine r_iload_n hC dX2_hold_6 rfl (j := 1) rfl ?_
  refine r_iload_n hC dX2_hold_7 rfl (j := 2) rfl ?_
  obtain ⟨p2, h2, hf⟩ := dh_bd hf
  refine m_callV' hC hK hR (cM_areTwo _ E A M1 x1 x2 h2) q1646 q_areTwo (Nat.le_of_ble_eq_true rfl) (Nat.le_of_ble_eq_true rfl) rfl (Nat.le_of_ble_eq_true rfl) dX2_hold_8 ?_
  refine r_if_eq hC dX2_hold_11 (tgt := 45) (by decide) (fun c3 => ?_) (fun c3 => ?_)
  · have hf := dh_if hf c3
    refine r_iconst hC dX2_hold_45 ki_0 ?_
    exact m_zret hC dX2_hold_46 rfl rfl hf
  · have hf := dh_el hf c3
    refine r_aload_n hC dX2_hold_14 rfl (j := 0) rfl ?_
    refine r_iload_n hC dX2_hold_15 rfl (j := 2) rfl ?_
    refine r_iload_n hC dX2_hold_16 rfl (j := 1) rfl ?_
    obtain ⟨p4, h4, hf⟩ := dh_bd hf
    refine m_callV' hC hK hR (cM_owes _ E A M1 x2 x1 h4) q1844 q_owes (Nat.le_of_ble_eq_true rfl) (Nat.le_of_ble_eq_true rfl) rfl (Nat.le_of_ble_eq_true rfl) dX2_hold_17 ?_
    refine r_if_eq hC dX2_hold_20 (tgt := 45) (by decide) (fun c5 => ?_) (fun c5 => ?_)
    · have hf := dh_if hf c5
      refine r_iconst hC dX2_hold_45 ki_0 ?_
      exact m_zret hC dX2_hold_46 rfl rfl hf
    · have hf := dh_el hf c5
      refine r_aload_n hC dX2_hold_23 rfl (j := 0) rfl ?_
      refine m_getA hC hK fa_19 dX2_hold_24 ?_
      refine r_iload_n hC dX2_hold_27 rfl (j := 2) rfl ?_
      obtain ⟨v6, h6, hf⟩ := dh_bd hf
      refine m_iald hC hK kd_19 h6 dX2_hold_28 ?_
      refine r_iload_n hC dX2_hold_29 rfl (j := 1) rfl ?_
      refine r_ishr hC dX2_hold_30 ?_
      refine r_iconst hC dX2_hold_31 ki_1 ?_
      refine r_iand hC dX2_hold_32 ?_
      refine r_if_ne hC dX2_hold_33 (tgt := 45) (by decide) (fun c7 => ?_) (fun c7 => ?_)
      · have hf := dh_el hf c7
        refine r_iconst hC dX2_hold_45 ki_0 ?_
        exact m_zret hC dX2_hold_46 rfl rfl hf
      · have hf := dh_if hf c7
        refine r_aload_n hC dX2_hold_36 rfl (j := 0) rfl ?_
        refine r_iload_n hC dX2_hold_37 rfl (j := 2) rfl ?_
        refine r_iconst hC dX2_hold_38 ki_0 ?_
        obtain ⟨p8, h8, hf⟩ := dh_bd hf
        refine m_callV' hC hK hR (cM_tellsNow _ E A M1 x2 0 h8) q1848 q_tellsNow (Nat.le_of_ble_eq_true rfl) (Nat.le_of_ble_eq_true rfl) rfl (Nat.le_of_ble_eq_true rfl) dX2_hold_39 ?_
        refine r_if_ne hC dX2_hold_42 (tgt := 47) (by decide) (fun c9 => ?_) (fun c9 => ?_)
        · have hf := dh_el hf c9
          refine r_aload_n hC dX2_hold_47 rfl (j := 0) rfl ?_
          refine m_getA hC hK fa_11 dX2_hold_48 ?_
          refine r_iload_n hC dX2_hold_51 rfl (j := 2) rfl ?_
          obtain ⟨v10, h10, hf⟩ := dh_bd hf
          refine m_zald hC hK kd_11 h10 dX2_hold_52 ?_
          refine r_if_ne hC dX2_hold_53 (tgt := 101) (by decide) (fun c11 => ?_) (fun c11 => ?_)
          · have hf := dh_el hf c11
            refine r_aload_n hC dX2_hold_101 rfl (j := 0) rfl ?_
            refine m_getA hC hK fa_19 dX2_hold_102 ?_
            refine r_iload_n hC dX2_hold_105 rfl (j := 2) rfl ?_
            refine r_dup2_11 hC dX2_hold_106 rfl rfl ?_
            obtain ⟨v12, h12, hf⟩ := dh_bd hf
            refine m_iald hC hK kd_19 h12 dX2_hold_107 ?_
            refine r_iconst hC dX2_hold_108 ki_1 ?_
            refine r_iload_n hC dX2_hold_109 rfl (j := 1) rfl ?_
            refine r_ishl hC dX2_hold_110 ?_
            refine r_ior hC dX2_hold_111 ?_
            obtain ⟨M13, h13, hf⟩ := dh_bd hf
            refine m_iast hC hK kd_19 h13 dX2_hold_112 ?_
            refine r_iconst hC dX2_hold_113 ki_1 ?_
            exact m_zret hC dX2_hold_114 rfl rfl hf
          · have hf := dh_if hf c11
            refine r_aload_n hC dX2_hold_56 rfl (j := 0) rfl ?_
            refine m_getA hC hK fa_14 dX2_hold_57 ?_
            refine r_iload_n hC dX2_hold_60 rfl (j := 2) rfl ?_
            refine r_aload_n hC dX2_hold_61 rfl (j := 0) rfl ?_
            refine r_iload_n hC dX2_hold_62 rfl (j := 2) rfl ?_
            refine r_iconst hC dX2_hold_63 ki_1 ?_
            obtain ⟨p14, h14, hf⟩ := dh_bd hf
            refine m_callV' hC hK hR (cM_tellsNow _ E A p8.2 x2 1 h14) q1848 q_tellsNow (Nat.le_of_ble_eq_true rfl) (Nat.le_of_ble_eq_true rfl) rfl (Nat.le_of_ble_eq_true rfl) dX2_hold_64 ?_
            obtain ⟨M15, h15, hf⟩ := dh_bd hf
            refine m_iast hC hK kd_14 h15 dX2_hold_67 ?_
            refine r_aload_n hC dX2_hold_68 rfl (j := 0) rfl ?_
            refine m_getA hC hK fa_11 dX2_hold_69 ?_
            refine r_iload_n hC dX2_hold_72 rfl (j := 2) rfl ?_
            refine r_iconst hC dX2_hold_73 ki_1 ?_
            obtain ⟨M16, h16, hf⟩ := dh_bd hf
            refine m_zast hC hK kd_11 h16 dX2_hold_74 ?_
            refine r_aload_n hC dX2_hold_75 rfl (j := 0) rfl ?_
            refine m_getA hC hK fa_12 dX2_hold_76 ?_
            refine r_iload_n hC dX2_hold_79 rfl (j := 2) rfl ?_
            refine r_aload_n hC dX2_hold_80 rfl (j := 0) rfl ?_
            refine m_getA hC hK fa_5 dX2_hold_81 ?_
            refine r_iconst hC dX2_hold_84 ki_0 ?_
            obtain ⟨v17, h17, hf⟩ := dh_bd hf
            refine m_iald hC hK kd_5 h17 dX2_hold_85 ?_
            obtain ⟨M18, h18, hf⟩ := dh_bd hf
            refine m_iast hC hK kd_12 h18 dX2_hold_86 ?_
            refine r_aload_n hC dX2_hold_87 rfl (j := 0) rfl ?_
            refine m_getA hC hK fa_13 dX2_hold_88 ?_
            refine r_iload_n hC dX2_hold_91 rfl (j := 2) rfl ?_
            refine r_iconst hC dX2_hold_92 ki_0 ?_
            obtain ⟨M19, h19, hf⟩ := dh_bd hf
            refine m_iast hC hK kd_13 h19 dX2_hold_93 ?_
            refine r_aload_n hC dX2_hold_94 rfl (j := 0) rfl ?_
            refine m_getA hC hK fa_15 dX2_hold_95 ?_
            refine r_iload_n hC dX2_hold_98 rfl (j := 2) rfl ?_
            refine r_iconst hC dX2_hold_99 ki_0 ?_
            obtain ⟨M20, h20, hf⟩ := dh_bd hf
            refine m_zast hC hK kd_15 h20 dX2_hold_100 ?_
            refine r_aload_n hC dX2_hold_101 rfl (j := 0) rfl ?_
            refine m_getA hC hK fa_19 dX2_hold_102 ?_
            refine r_iload_n hC dX2_hold_105 rfl (j := 2) rfl ?_
            refine r_dup2_11 hC dX2_hold_106 rfl rfl ?_
            obtain ⟨v21, h21, hf⟩ := dh_bd hf
            refine m_iald hC hK kd_19 h21 dX2_hold_107 ?_
            refine r_iconst hC dX2_hold_108 ki_1 ?_
            refine r_iload_n hC dX2_hold_109 rfl (j := 1) rfl ?_
            refine r_ishl hC dX2_hold_110 ?_
            refine r_ior hC dX2_hold_111 ?_
            obtain ⟨M22, h22, hf⟩ := dh_bd hf
            refine m_iast hC hK kd_19 h22 dX2_hold_112 ?_
            refine r_iconst hC dX2_hold_113 ki_1 ?_
            exact m_zret hC dX2_hold_114 rfl rfl hf
        · have hf := dh_if hf c9
          refine r_iconst hC dX2_hold_45 ki_0 ?_
          exact m_zret hC dX2_hold_46 rfl rfl hf
theorem cM_hold (l : Launch) (E : dm_E) (A : Nat → Prop) (M : dm_M) (x1 : Int32) (x2 : Int32) {p : Int32 × dm_M} (h : gM_hold M x1 x2 = some p) : dm_Met l yX2_hold cX2_hold 3 (some .boolean) 4 86 E A [.ref (dm_am E), .int x1, .int x2] M (some (.int p.1)) p.2 := by
  refine dh_met (by decide) (Nat.le_of_ble_eq_true rfl) (fun _ _ h => ⟨_, h.1⟩) (fun C hl hR hC hnm hK => ?_)
  exact wM_hold hC hK hR M x1 x2 h
theorem q_hold : dm_calV yX2_hold cX2_hold 3 (some .boolean) 2 := ⟨q1841, q1842, q1843, by decide +kernel⟩
/-! hour()I -/
def gM_hour_L20_F (k20 : (dm_M → Int32 → Option (Int32 × dm_M))) (M : dm_M) (x1 : Int32) : Option (Int32 × dm_M) :=
  (dm_rd M 8 0).bind fun v4 =>
  if v4 ≤ x1 then (
    (dm_rd M 6 0).bind fun v6 =>
    (dm_wr M 6 0 (v6 + 1)).bind fun M7 =>
    (dm_rd M7 6 0).bind fun v8 =>
    some (v8, M7))
  else
  (dm_rd M 16 x1).bind fun v9 =>
  (dm_rd M 11 x1).bind fun v10 =>
  if v10 = 0 then (
    (dm_wr M 16 x1 (v9 + 0)).bind fun M12 =>
    k20 M12 (x1 + 1))
  else
  (dm_rd M 15 x1).bind fun v13 =>
  if v13 = 0 then (
    (dm_wr M 16 x1 (v9 + 0)).bind fun M15 =>
    k20 M15 (x1 + 1))
  else
  (gM_tellsNow M x1 3).bind fun p16 =>
  if p16.1 = 0 then (
    (dm_wr p16.2 16 x1 (v9 + 1)).bind fun M19 =>
    k20 M19 (x1 + 1))
  else
  (dm_wr p16.2 16 x1 (v9 + 0)).bind fun M18 =>
  k20 M18 (x1 + 1)
theorem wM_hour_L20_F {C : dh_C} {A : Nat → Prop} {E : dm_E} (hC : dh_ok C cX2_hour 2 RX2 (some .int)) (hK : dm_Kn E (dh_s C)) (hR : dh_R C = { frames := 4, cells := 0, slots := 0, locals := 86 }) {r : Int32} {M' : dm_M} (k20 : (dm_M → Int32 → Option (Int32 × dm_M))) (hk20 : ∀ (M : dm_M) (x1 : Int32), k20 M x1 = some (r, M') → dh_W C A (dm_P E A M) (dm_Q E A (some (.int r)) M') 0 0 0 0 20 [(0, .ref (dm_am E)), (1, .int x1)] []) (M : dm_M) (x1 : Int32) (hf : gM_hour_L20_F k20 M x1 = some (r, M')) : dh_W C A (dm_P E A M) (dm_Q E A (some (.int r)) M') 0 0 0 0 20 [(0, .ref (dm_am E)), (1, .int x1)] [] := by
  unfold gM_hour_L20_F at hf
  refine r_iload_n hC dX2_hour_20 rfl (j := 1) rfl ?_
  refine r_aload_n hC dX2_hour_21 rfl (j := 0) rfl ?_
  refine m_getA hC hK fa_8 dX2_hour_22 ?_
  refine r_iconst hC dX2_hour_25 ki_0 ?_
  obtain ⟨v4, h4, hf⟩ := dh_bd hf
  refine m_iald hC hK kd_8 h4 dX2_hour_26 ?_
  refine r_icmp_ge hC dX2_hour_27 (tgt := 77) (by decide) (fun c5 => ?_) (fun c5 => ?_)
  · have hf := dh_if hf c5
    refine r_aload_n hC dX2_hour_77 rfl (j := 0) rfl ?_
    refine m_getA hC hK fa_6 dX2_hour_78 ?_
    refine r_iconst hC dX2_hour_81 ki_0 ?_
    refine r_dup2_11 hC dX2_hour_82 rfl rfl ?_
    obtain ⟨v6, h6, hf⟩ := dh_bd hf
    refine m_iald hC hK kd_6 h6 dX2_hour_83 ?_
    refine r_iconst hC dX2_hour_84 ki_1 ?_
    refine r_iadd hC dX2_hour_85 ?_
    obtain ⟨M7, h7, hf⟩ := dh_bd hf
    refine m_iast hC hK kd_6 h7 dX2_hour_86 ?_
    refine r_aload_n hC dX2_hour_87 rfl (j := 0) rfl ?_
    refine m_getA hC hK fa_6 dX2_hour_88 ?_
    refine r_iconst hC dX2_hour_91 ki_0 ?_
    obtain ⟨v8, h8, hf⟩ := dh_bd hf
    refine m_iald hC hK kd_6 h8 dX2_hour_92 ?_
    exact m_iret hC dX2_hour_93 rfl hf
  · have hf := dh_el hf c5
    refine r_aload_n hC dX2_hour_30 rfl (j := 0) rfl ?_
    refine m_getA hC hK fa_16 dX2_hour_31 ?_
    refine r_iload_n hC dX2_hour_34 rfl (j := 1) rfl ?_
    refine r_dup2_11 hC dX2_hour_35 rfl rfl ?_
    obtain ⟨v9, h9, hf⟩ := dh_bd hf
    refine m_iald hC hK kd_16 h9 dX2_hour_36 ?_
    refine r_aload_n hC dX2_hour_37 rfl (j := 0) rfl ?_
    refine m_getA hC hK fa_11 dX2_hour_38 ?_
    refine r_iload_n hC dX2_hour_41 rfl (j := 1) rfl ?_
    obtain ⟨v10, h10, hf⟩ := dh_bd hf
    refine m_zald hC hK kd_11 h10 dX2_hour_42 ?_
    refine r_if_eq hC dX2_hour_43 (tgt := 68) (by decide) (fun c11 => ?_) (fun c11 => ?_)
    · have hf := dh_if hf c11
      refine r_iconst hC dX2_hour_68 ki_0 ?_
      refine r_iadd hC dX2_hour_69 ?_
      obtain ⟨M12, h12, hf⟩ := dh_bd hf
      refine m_iast hC hK kd_16 h12 dX2_hour_70 ?_
      refine r_iinc (lv' := [(1, .int (x1 + 1)), (0, .ref (dm_am E))]) hC dX2_hour_71 (j := 1) rfl (congrArg _ ki_1) (Nat.le_of_ble_eq_true rfl) rfl ?_
      refine r_goto hC dX2_hour_74 (tgt := 20) (by decide) ?_
      exact r_sub [1, 0] rfl (hk20 M12 (x1 + 1) hf)
    · have hf := dh_el hf c11
      refine r_aload_n hC dX2_hour_46 rfl (j := 0) rfl ?_
      refine m_getA hC hK fa_15 dX2_hour_47 ?_
      refine r_iload_n hC dX2_hour_50 rfl (j := 1) rfl ?_
      obtain ⟨v13, h13, hf⟩ := dh_bd hf
      refine m_zald hC hK kd_15 h13 dX2_hour_51 ?_
      refine r_if_eq hC dX2_hour_52 (tgt := 68) (by decide) (fun c14 => ?_) (fun c14 => ?_)
      · have hf := dh_if hf c14
        refine r_iconst hC dX2_hour_68 ki_0 ?_
        refine r_iadd hC dX2_hour_69 ?_
        obtain ⟨M15, h15, hf⟩ := dh_bd hf
        refine m_iast hC hK kd_16 h15 dX2_hour_70 ?_
        refine r_iinc (lv' := [(1, .int (x1 + 1)), (0, .ref (dm_am E))]) hC dX2_hour_71 (j := 1) rfl (congrArg _ ki_1) (Nat.le_of_ble_eq_true rfl) rfl ?_
        refine r_goto hC dX2_hour_74 (tgt := 20) (by decide) ?_
        exact r_sub [1, 0] rfl (hk20 M15 (x1 + 1) hf)
      · have hf := dh_el hf c14
        refine r_aload_n hC dX2_hour_55 rfl (j := 0) rfl ?_
        refine r_iload_n hC dX2_hour_56 rfl (j := 1) rfl ?_
        refine r_iconst hC dX2_hour_57 ki_3 ?_
        obtain ⟨p16, h16, hf⟩ := dh_bd hf
        refine m_callV' hC hK hR (cM_tellsNow _ E A M x1 3 h16) q1848 q_tellsNow (Nat.le_of_ble_eq_true rfl) (Nat.le_of_ble_eq_true rfl) rfl (Nat.le_of_ble_eq_true rfl) dX2_hour_58 ?_
        refine r_if_ne hC dX2_hour_61 (tgt := 68) (by decide) (fun c17 => ?_) (fun c17 => ?_)
        · have hf := dh_el hf c17
          refine r_iconst hC dX2_hour_68 ki_0 ?_
          refine r_iadd hC dX2_hour_69 ?_
          obtain ⟨M18, h18, hf⟩ := dh_bd hf
          refine m_iast hC hK kd_16 h18 dX2_hour_70 ?_
          refine r_iinc (lv' := [(1, .int (x1 + 1)), (0, .ref (dm_am E))]) hC dX2_hour_71 (j := 1) rfl (congrArg _ ki_1) (Nat.le_of_ble_eq_true rfl) rfl ?_
          refine r_goto hC dX2_hour_74 (tgt := 20) (by decide) ?_
          exact r_sub [1, 0] rfl (hk20 M18 (x1 + 1) hf)
        · have hf := dh_if hf c17
          refine r_iconst hC dX2_hour_64 ki_1 ?_
          refine r_goto hC dX2_hour_65 (tgt := 69) (by decide) ?_
          refine r_iadd hC dX2_hour_69 ?_
          obtain ⟨M19, h19, hf⟩ := dh_bd hf
          refine m_iast hC hK kd_16 h19 dX2_hour_70 ?_
          refine r_iinc (lv' := [(1, .int (x1 + 1)), (0, .ref (dm_am E))]) hC dX2_hour_71 (j := 1) rfl (congrArg _ ki_1) (Nat.le_of_ble_eq_true rfl) rfl ?_
          refine r_goto hC dX2_hour_74 (tgt := 20) (by decide) ?_
          exact r_sub [1, 0] rfl (hk20 M19 (x1 + 1) hf)
def gM_hour_L20 : Nat → dm_M → Int32 → Option (Int32 × dm_M)
  | 0 => fun _ _ => none
  | n + 1 => gM_hour_L20_F (gM_hour_L20 n)
theorem wM_hour_L20 {C : dh_C} {A : Nat → Prop} {E : dm_E} (hC : dh_ok C cX2_hour 2 RX2 (some .int)) (hK : dm_Kn E (dh_s C)) (hR : dh_R C = { frames := 4, cells := 0, slots := 0, locals := 86 }) {r : Int32} {M' : dm_M} : ∀ (n : Nat) (M : dm_M) (x1 : Int32) (_ : gM_hour_L20 n M x1 = some (r, M')), dh_W C A (dm_P E A M) (dm_Q E A (some (.int r)) M') 0 0 0 0 20 [(0, .ref (dm_am E)), (1, .int x1)] [] := by
  intro n
  induction n with
  | zero => intro M x1 hf; exact dh_no hf
  | succ n ih => intro M x1 hf; exact wM_hour_L20_F hC hK hR (gM_hour_L20 n) ih M x1 hf
def gM_hour (M : dm_M) : Option (Int32 × dm_M) :=
  (some (dm_set M 0 0 0)).bind fun M1 =>
  (dm_rd M1 6 0).bind fun v2 =>
  if v2 = 23 then (
    some ((-1), M1))
  else
  gM_hour_L20 dh_fu M1 0
theorem wM_hour {C : dh_C} {A : Nat → Prop} {E : dm_E} (hC : dh_ok C cX2_hour 2 RX2 (some .int)) (hK : dm_Kn E (dh_s C)) (hR : dh_R C = { frames := 4, cells := 0, slots := 0, locals := 86 }) {r : Int32} {M' : dm_M} (M : dm_M) (hf : gM_hour M = some (r, M')) : dh_W C A (dm_P E A M) (dm_Q E A (some (.int r)) M') 0 0 0 0 0 [(0, .ref (dm_am E))] [] := by
  unfold gM_hour at hf
  refine r_aload_n hC dX2_hour_0 rfl (j := 0) rfl ?_
  refine r_iconst hC dX2_hour_1 ki_0 ?_
  obtain ⟨M1, h1, hf⟩ := dh_bd hf
  refine m_putI hC hK fi_0 dX2_hour_2 h1 ?_
  refine r_aload_n hC dX2_hour_5 rfl (j := 0) rfl ?_
  refine m_getA hC hK fa_6 dX2_hour_6 ?_
  refine r_iconst hC dX2_hour_9 ki_0 ?_
  obtain ⟨v2, h2, hf⟩ := dh_bd hf
  refine m_iald hC hK kd_6 h2 dX2_hour_10 ?_
  refine r_bipush hC dX2_hour_11 kb_23 ?_
  refine r_icmp_ne hC dX2_hour_13 (tgt := 18) (by decide) (fun c3 => ?_) (fun c3 => ?_)
  · have hf := dh_el hf c3
    refine r_iconst hC dX2_hour_18 ki_0 ?_
    refine r_istore_n (lv' := [(1, .int 0), (0, .ref (dm_am E))]) hC dX2_hour_19 rfl (Nat.le_of_ble_eq_true rfl) rfl ?_
    exact r_sub [1, 0] rfl (wM_hour_L20 hC hK hR dh_fu M1 0 hf)
  · have hf := dh_if hf c3
    refine r_iconst hC dX2_hour_16 ki_m1 ?_
    exact m_iret hC dX2_hour_17 rfl hf
theorem cM_hour (l : Launch) (E : dm_E) (A : Nat → Prop) (M : dm_M) {p : Int32 × dm_M} (h : gM_hour M = some p) : dm_Met l yX2_hour cX2_hour 2 (some .int) 4 86 E A [.ref (dm_am E)] M (some (.int p.1)) p.2 := by
  refine dh_met (by decide) (Nat.le_of_ble_eq_true rfl) (fun _ _ h => ⟨_, h.1⟩) (fun C hl hR hC hnm hK => ?_)
  exact wM_hour hC hK hR M h
theorem q_hour : dm_calV yX2_hour cX2_hour 2 (some .int) 0 := ⟨q1873, q1874, q1875, by decide +kernel⟩
