set_option maxRecDepth 100000
/-! in(III)Z -/
def gM_in (M : dm_M) (x0 : Int32) (x1 : Int32) (x2 : Int32) : Option Int32 :=
  if x0 < x1 then (
    some 0)
  else
  if x2 < x0 then (
    some 0)
  else
  some 1
theorem wM_in {C : dh_C} {A : Nat → Prop} {E : dm_E} (hC : dh_ok C cX2_in 3 RX2 (some .boolean)) (hK : dm_Kn E (dh_s C)) (hR : dh_R C = { frames := 0, cells := 0, slots := 0, locals := 0 }) {r : Int32} (M : dm_M) (x0 : Int32) (x1 : Int32) (x2 : Int32) (hf : gM_in M x0 x1 x2 = some r) : dh_W C A (dm_P E A M) (dm_Q E A (some (.int r)) M) 0 0 0 0 0 [(0, .int x0), (1, .int x1), (2, .int x2)] [] := by
  unfold gM_in at hf
  refine r_iload_n hC dX2_in_0 rfl (j := 0) rfl ?_
  refine r_iload_n hC dX2_in_1 rfl (j := 1) rfl ?_
  refine r_icmp_lt hC dX2_in_2 (tgt := 14) (by decide) (fun c1 => ?_) (fun c1 => ?_)
  · have hf := dh_if hf c1
    refine r_iconst hC dX2_in_14 ki_0 ?_
    exact m_zret1 hC dX2_in_15 rfl rfl hf
  · have hf := dh_el hf c1
    refine r_iload_n hC dX2_in_5 rfl (j := 0) rfl ?_
    refine r_iload_n hC dX2_in_6 rfl (j := 2) rfl ?_
    refine r_icmp_gt hC dX2_in_7 (tgt := 14) (by decide) (fun c2 => ?_) (fun c2 => ?_)
    · have hf := dh_if hf c2
      refine r_iconst hC dX2_in_14 ki_0 ?_
      exact m_zret1 hC dX2_in_15 rfl rfl hf
    · have hf := dh_el hf c2
      refine r_iconst hC dX2_in_10 ki_1 ?_
      refine r_goto hC dX2_in_11 (tgt := 15) (by decide) ?_
      exact m_zret1 hC dX2_in_15 rfl rfl hf
theorem cM_in (l : Launch) (E : dm_E) (A : Nat → Prop) (M : dm_M) (x0 : Int32) (x1 : Int32) (x2 : Int32) {r : Int32} (h : gM_in M x0 x1 x2 = some r) : dm_Met l yX2_in cX2_in 3 (some .boolean) 0 0 E A [.int x0, .int x1, .int x2] M (some (.int r)) M := by
  refine dh_met (by decide) (Nat.le_of_ble_eq_true rfl) (fun _ _ h => ⟨_, h.1⟩) (fun C hl hR hC hnm hK => ?_)
  exact wM_in hC hK hR M x0 x1 x2 h
theorem q_in : dm_calS yX2_in cX2_in 3 (some .boolean) 3 := ⟨q1640, q1641, by decide +kernel⟩
/-! isDebt(I)Z -/
def gM_isDebt (M : dm_M) (x1 : Int32) : Option Int32 :=
  (dm_rd M 25 0).bind fun v1 =>
  (gM_in M x1 0 (v1 - 1)).bind fun p2 =>
  (dh_bo p2).bind fun _ =>
  some p2
theorem wM_isDebt {C : dh_C} {A : Nat → Prop} {E : dm_E} (hC : dh_ok C cX2_isDebt 2 RX2 (some .boolean)) (hK : dm_Kn E (dh_s C)) (hR : dh_R C = { frames := 1, cells := 0, slots := 0, locals := 22 }) {r : Int32} (M : dm_M) (x1 : Int32) (hf : gM_isDebt M x1 = some r) : dh_W C A (dm_P E A M) (dm_Q E A (some (.int r)) M) 0 0 0 0 0 [(0, .ref (dm_am E)), (1, .int x1)] [] := by
  unfold gM_isDebt at hf
  refine r_iload_n hC dX2_isDebt_0 rfl (j := 1) rfl ?_
  refine r_iconst hC dX2_isDebt_1 ki_0 ?_
  refine r_aload_n hC dX2_isDebt_2 rfl (j := 0) rfl ?_
  refine m_getA hC hK fa_25 dX2_isDebt_3 ?_
  refine r_iconst hC dX2_isDebt_6 ki_0 ?_
  obtain ⟨v1, h1, hf⟩ := dh_bd hf
  refine m_iald hC hK kd_25 h1 dX2_isDebt_7 ?_
  refine r_iconst hC dX2_isDebt_8 ki_1 ?_
  refine r_isub hC dX2_isDebt_9 ?_
  obtain ⟨p2, h2, hf⟩ := dh_bd hf
  refine m_callS' hC hK hR (cM_in _ E A M x1 0 (v1 - 1) h2) q1639 q_in (Nat.le_of_ble_eq_true rfl) (Nat.le_of_ble_eq_true rfl) rfl (Nat.le_of_ble_eq_true rfl) dX2_isDebt_10 ?_
  obtain ⟨_, h3, hf⟩ := dh_bd hf
  exact m_zret1 hC dX2_isDebt_13 rfl (dh_bo_n h3) hf
theorem cM_isDebt (l : Launch) (E : dm_E) (A : Nat → Prop) (M : dm_M) (x1 : Int32) {r : Int32} (h : gM_isDebt M x1 = some r) : dm_Met l yX2_isDebt cX2_isDebt 2 (some .boolean) 1 22 E A [.ref (dm_am E), .int x1] M (some (.int r)) M := by
  refine dh_met (by decide) (Nat.le_of_ble_eq_true rfl) (fun _ _ h => ⟨_, h.1⟩) (fun C hl hR hC hnm hK => ?_)
  exact wM_isDebt hC hK hR M x1 h
theorem q_isDebt : dm_calV yX2_isDebt cX2_isDebt 2 (some .boolean) 1 := ⟨q1665, qs41, q1666, by decide +kernel⟩
/-! interestOf(I)I -/
def gM_interestOf (M : dm_M) (x1 : Int32) : Option Int32 :=
  (dm_rd M 35 x1).bind fun v1 =>
  (dm_rd M 34 x1).bind fun v2 =>
  (dm_rd M 30 x1).bind fun v3 =>
  (dm_rd M 5 0).bind fun v4 =>
  (dm_rd M 36 x1).bind fun v5 =>
  some (v1 + (Int64.toInt32 ((((Int32.toInt64 v2) * (Int32.toInt64 v3)) * (Int32.toInt64 (v4 - v5))) / 360000)))
theorem wM_interestOf {C : dh_C} {A : Nat → Prop} {E : dm_E} (hC : dh_ok C cX2_interestOf 2 RX2 (some .int)) (hK : dm_Kn E (dh_s C)) (hR : dh_R C = { frames := 0, cells := 0, slots := 0, locals := 0 }) {r : Int32} (M : dm_M) (x1 : Int32) (hf : gM_interestOf M x1 = some r) : dh_W C A (dm_P E A M) (dm_Q E A (some (.int r)) M) 0 0 0 0 0 [(0, .ref (dm_am E)), (1, .int x1)] [] := by
  unfold gM_interestOf at hf
  refine r_aload_n hC dX2_interestOf_0 rfl (j := 0) rfl ?_
  refine m_getA hC hK fa_35 dX2_interestOf_1 ?_
  refine r_iload_n hC dX2_interestOf_4 rfl (j := 1) rfl ?_
  obtain ⟨v1, h1, hf⟩ := dh_bd hf
  refine m_iald hC hK kd_35 h1 dX2_interestOf_5 ?_
  refine r_aload_n hC dX2_interestOf_6 rfl (j := 0) rfl ?_
  refine m_getA hC hK fa_34 dX2_interestOf_7 ?_
  refine r_iload_n hC dX2_interestOf_10 rfl (j := 1) rfl ?_
  obtain ⟨v2, h2, hf⟩ := dh_bd hf
  refine m_iald hC hK kd_34 h2 dX2_interestOf_11 ?_
  refine r_i2l hC dX2_interestOf_12 ?_
  refine r_aload_n hC dX2_interestOf_13 rfl (j := 0) rfl ?_
  refine m_getA hC hK fa_30 dX2_interestOf_14 ?_
  refine r_iload_n hC dX2_interestOf_17 rfl (j := 1) rfl ?_
  obtain ⟨v3, h3, hf⟩ := dh_bd hf
  refine m_iald hC hK kd_30 h3 dX2_interestOf_18 ?_
  refine r_i2l hC dX2_interestOf_19 ?_
  refine r_lmul hC dX2_interestOf_20 ?_
  refine r_aload_n hC dX2_interestOf_21 rfl (j := 0) rfl ?_
  refine m_getA hC hK fa_5 dX2_interestOf_22 ?_
  refine r_iconst hC dX2_interestOf_25 ki_0 ?_
  obtain ⟨v4, h4, hf⟩ := dh_bd hf
  refine m_iald hC hK kd_5 h4 dX2_interestOf_26 ?_
  refine r_aload_n hC dX2_interestOf_27 rfl (j := 0) rfl ?_
  refine m_getA hC hK fa_36 dX2_interestOf_28 ?_
  refine r_iload_n hC dX2_interestOf_31 rfl (j := 1) rfl ?_
  obtain ⟨v5, h5, hf⟩ := dh_bd hf
  refine m_iald hC hK kd_36 h5 dX2_interestOf_32 ?_
  refine r_isub hC dX2_interestOf_33 ?_
  refine r_i2l hC dX2_interestOf_34 ?_
  refine r_lmul hC dX2_interestOf_35 ?_
  refine r_ldc2 hC q1675 dX2_interestOf_36 ?_
  refine r_ldiv hC dX2_interestOf_39 (by decide) ?_
  refine r_l2i hC dX2_interestOf_40 ?_
  refine r_iadd hC dX2_interestOf_41 ?_
  exact m_iret1 hC dX2_interestOf_42 rfl hf
theorem cM_interestOf (l : Launch) (E : dm_E) (A : Nat → Prop) (M : dm_M) (x1 : Int32) {r : Int32} (h : gM_interestOf M x1 = some r) : dm_Met l yX2_interestOf cX2_interestOf 2 (some .int) 0 0 E A [.ref (dm_am E), .int x1] M (some (.int r)) M := by
  refine dh_met (by decide) (Nat.le_of_ble_eq_true rfl) (fun _ _ h => ⟨_, h.1⟩) (fun C hl hR hC hnm hK => ?_)
  exact wM_interestOf hC hK hR M x1 h
theorem q_interestOf : dm_calV yX2_interestOf cX2_interestOf 2 (some .int) 1 := ⟨q1673, qs43, q1674, by decide +kernel⟩
/-! dueOf(I)I -/
def gM_dueOf (M : dm_M) (x1 : Int32) : Option Int32 :=
  (dm_rd M 33 x1).bind fun v1 =>
  if v1 = 0 then (
    (dm_rd M 37 x1).bind fun v3 =>
    (gM_interestOf M x1).bind fun p4 =>
    (dm_rd M 34 x1).bind fun v5 =>
    some ((v3 + p4) + v5))
  else
  some 0
theorem wM_dueOf {C : dh_C} {A : Nat → Prop} {E : dm_E} (hC : dh_ok C cX2_dueOf 2 RX2 (some .int)) (hK : dm_Kn E (dh_s C)) (hR : dh_R C = { frames := 1, cells := 0, slots := 0, locals := 21 }) {r : Int32} (M : dm_M) (x1 : Int32) (hf : gM_dueOf M x1 = some r) : dh_W C A (dm_P E A M) (dm_Q E A (some (.int r)) M) 0 0 0 0 0 [(0, .ref (dm_am E)), (1, .int x1)] [] := by
  unfold gM_dueOf at hf
  refine r_aload_n hC dX2_dueOf_0 rfl (j := 0) rfl ?_
  refine m_getA hC hK fa_33 dX2_dueOf_1 ?_
  refine r_iload_n hC dX2_dueOf_4 rfl (j := 1) rfl ?_
  obtain ⟨v1, h1, hf⟩ := dh_bd hf
  refine m_iald hC hK kd_33 h1 dX2_dueOf_5 ?_
  refine r_if_ne hC dX2_dueOf_6 (tgt := 31) (by decide) (fun c2 => ?_) (fun c2 => ?_)
  · have hf := dh_el hf c2
    refine r_iconst hC dX2_dueOf_31 ki_0 ?_
    exact m_iret1 hC dX2_dueOf_32 rfl hf
  · have hf := dh_if hf c2
    refine r_aload_n hC dX2_dueOf_9 rfl (j := 0) rfl ?_
    refine m_getA hC hK fa_37 dX2_dueOf_10 ?_
    refine r_iload_n hC dX2_dueOf_13 rfl (j := 1) rfl ?_
    obtain ⟨v3, h3, hf⟩ := dh_bd hf
    refine m_iald hC hK kd_37 h3 dX2_dueOf_14 ?_
    refine r_aload_n hC dX2_dueOf_15 rfl (j := 0) rfl ?_
    refine r_iload_n hC dX2_dueOf_16 rfl (j := 1) rfl ?_
    obtain ⟨p4, h4, hf⟩ := dh_bd hf
    refine m_callV' hC hK hR (cM_interestOf _ E A M x1 h4) q1671 q_interestOf (Nat.le_of_ble_eq_true rfl) (Nat.le_of_ble_eq_true rfl) rfl (Nat.le_of_ble_eq_true rfl) dX2_dueOf_17 ?_
    refine r_iadd hC dX2_dueOf_20 ?_
    refine r_aload_n hC dX2_dueOf_21 rfl (j := 0) rfl ?_
    refine m_getA hC hK fa_34 dX2_dueOf_22 ?_
    refine r_iload_n hC dX2_dueOf_25 rfl (j := 1) rfl ?_
    obtain ⟨v5, h5, hf⟩ := dh_bd hf
    refine m_iald hC hK kd_34 h5 dX2_dueOf_26 ?_
    refine r_iadd hC dX2_dueOf_27 ?_
    refine r_goto hC dX2_dueOf_28 (tgt := 32) (by decide) ?_
    exact m_iret1 hC dX2_dueOf_32 rfl hf
theorem cM_dueOf (l : Launch) (E : dm_E) (A : Nat → Prop) (M : dm_M) (x1 : Int32) {r : Int32} (h : gM_dueOf M x1 = some r) : dm_Met l yX2_dueOf cX2_dueOf 2 (some .int) 1 21 E A [.ref (dm_am E), .int x1] M (some (.int r)) M := by
  refine dh_met (by decide) (Nat.le_of_ble_eq_true rfl) (fun _ _ h => ⟨_, h.1⟩) (fun C hl hR hC hnm hK => ?_)
  exact wM_dueOf hC hK hR M x1 h
theorem q_dueOf : dm_calV yX2_dueOf cX2_dueOf 2 (some .int) 1 := ⟨q1669, qs42, q1670, by decide +kernel⟩
/-! about(II)I -/
def gM_about_b30 (M : dm_M) (x1 : Int32) (x2 : Int32) (y0 : Int32) : Option (Int32 × dm_M) :=
  if x2 = 0 then (
    (dm_rd M 26 x1).bind fun v7 =>
    some (v7, M))
  else
  if x2 = 1 then (
    (dm_rd M 27 x1).bind fun v9 =>
    some (v9, M))
  else
  if x2 = 2 then (
    (dm_rd M 28 x1).bind fun v11 =>
    some (v11, M))
  else
  if x2 = 3 then (
    (dm_rd M 29 x1).bind fun v13 =>
    some (v13, M))
  else
  if x2 = 4 then (
    (dm_rd M 30 x1).bind fun v15 =>
    some (v15, M))
  else
  if x2 = 5 then (
    (dm_rd M 31 x1).bind fun v17 =>
    some (v17, M))
  else
  if x2 = 6 then (
    (dm_rd M 32 x1).bind fun v19 =>
    some (v19, M))
  else
  if x2 = 7 then (
    (dm_rd M 33 x1).bind fun v21 =>
    some (v21, M))
  else
  if x2 = 8 then (
    if y0 = 0 then (
      some (0, M))
    else
    (dm_rd M 34 x1).bind fun v24 =>
    some (v24, M))
  else
  if x2 = 9 then (
    if y0 = 0 then (
      some (0, M))
    else
    (gM_interestOf M x1).bind fun p27 =>
    some (p27, M))
  else
  if x2 = 10 then (
    if y0 = 0 then (
      some (0, M))
    else
    (dm_rd M 37 x1).bind fun v30 =>
    some (v30, M))
  else
  if x2 = 11 then (
    (gM_dueOf M x1).bind fun p32 =>
    some (p32, M))
  else
  if x2 = 12 then (
    (dm_rd M 38 x1).bind fun v34 =>
    if v34 = 0 then (
      some (0, M))
    else
    some (1, M))
  else
  if x2 = 13 then (
    (dm_rd M 39 x1).bind fun v37 =>
    some (v37, M))
  else
  if x2 = 14 then (
    (dm_rd M 40 x1).bind fun v39 =>
    some (v39, M))
  else
  some ((-100), M)
theorem wM_about_b30 {C : dh_C} {A : Nat → Prop} {E : dm_E} (hC : dh_ok C cX2_about 4 RX2 (some .int)) (hK : dm_Kn E (dh_s C)) (hR : dh_R C = { frames := 2, cells := 0, slots := 0, locals := 43 }) {r : Int32} {M' : dm_M} (M : dm_M) (x1 : Int32) (x2 : Int32) (y0 : Int32) (hf : gM_about_b30 M x1 x2 y0 = some (r, M')) : dh_W C A (dm_P E A M) (dm_Q E A (some (.int r)) M') 0 0 0 0 30 [(0, .ref (dm_am E)), (1, .int x1), (2, .int x2)] [.int y0] := by
  unfold gM_about_b30 at hf
  refine r_istore_n (lv' := [(3, .int y0), (0, .ref (dm_am E)), (1, .int x1), (2, .int x2)]) hC dX2_about_30 rfl (Nat.le_of_ble_eq_true rfl) rfl ?_
  refine r_iload_n hC dX2_about_31 rfl (j := 3) rfl ?_
  by_cases c6 : x2 = 0
  · have hf := dh_if hf c6
    refine r_tableAt hC dX2_about_32 (tgt := 108) 0 (by rw [c6]; rfl) (by decide) (by decide) rfl (by decide) ?_
    refine r_aload_n hC dX2_about_108 rfl (j := 1) rfl ?_
    refine m_getA hC hK fa_26 dX2_about_109 ?_
    refine r_iload_n hC dX2_about_112 rfl (j := 2) rfl ?_
    obtain ⟨v7, h7, hf⟩ := dh_bd hf
    refine m_iald hC hK kd_26 h7 dX2_about_113 ?_
    exact m_iret hC dX2_about_114 rfl hf
  have hf := dh_el hf c6
  by_cases c8 : x2 = 1
  · have hf := dh_if hf c8
    refine r_tableAt hC dX2_about_32 (tgt := 115) 1 (by rw [c8]; rfl) (by decide) (by decide) rfl (by decide) ?_
    refine r_aload_n hC dX2_about_115 rfl (j := 1) rfl ?_
    refine m_getA hC hK fa_27 dX2_about_116 ?_
    refine r_iload_n hC dX2_about_119 rfl (j := 2) rfl ?_
    obtain ⟨v9, h9, hf⟩ := dh_bd hf
    refine m_iald hC hK kd_27 h9 dX2_about_120 ?_
    exact m_iret hC dX2_about_121 rfl hf
  have hf := dh_el hf c8
  by_cases c10 : x2 = 2
  · have hf := dh_if hf c10
    refine r_tableAt hC dX2_about_32 (tgt := 122) 2 (by rw [c10]; rfl) (by decide) (by decide) rfl (by decide) ?_
    refine r_aload_n hC dX2_about_122 rfl (j := 1) rfl ?_
    refine m_getA hC hK fa_28 dX2_about_123 ?_
    refine r_iload_n hC dX2_about_126 rfl (j := 2) rfl ?_
    obtain ⟨v11, h11, hf⟩ := dh_bd hf
    refine m_iald hC hK kd_28 h11 dX2_about_127 ?_
    exact m_iret hC dX2_about_128 rfl hf
  have hf := dh_el hf c10
  by_cases c12 : x2 = 3
  · have hf := dh_if hf c12
    refine r_tableAt hC dX2_about_32 (tgt := 129) 3 (by rw [c12]; rfl) (by decide) (by decide) rfl (by decide) ?_
    refine r_aload_n hC dX2_about_129 rfl (j := 1) rfl ?_
    refine m_getA hC hK fa_29 dX2_about_130 ?_
    refine r_iload_n hC dX2_about_133 rfl (j := 2) rfl ?_
    obtain ⟨v13, h13, hf⟩ := dh_bd hf
    refine m_iald hC hK kd_29 h13 dX2_about_134 ?_
    exact m_iret hC dX2_about_135 rfl hf
  have hf := dh_el hf c12
  by_cases c14 : x2 = 4
  · have hf := dh_if hf c14
    refine r_tableAt hC dX2_about_32 (tgt := 136) 4 (by rw [c14]; rfl) (by decide) (by decide) rfl (by decide) ?_
    refine r_aload_n hC dX2_about_136 rfl (j := 1) rfl ?_
    refine m_getA hC hK fa_30 dX2_about_137 ?_
    refine r_iload_n hC dX2_about_140 rfl (j := 2) rfl ?_
    obtain ⟨v15, h15, hf⟩ := dh_bd hf
    refine m_iald hC hK kd_30 h15 dX2_about_141 ?_
    exact m_iret hC dX2_about_142 rfl hf
  have hf := dh_el hf c14
  by_cases c16 : x2 = 5
  · have hf := dh_if hf c16
    refine r_tableAt hC dX2_about_32 (tgt := 143) 5 (by rw [c16]; rfl) (by decide) (by decide) rfl (by decide) ?_
    refine r_aload_n hC dX2_about_143 rfl (j := 1) rfl ?_
    refine m_getA hC hK fa_31 dX2_about_144 ?_
    refine r_iload_n hC dX2_about_147 rfl (j := 2) rfl ?_
    obtain ⟨v17, h17, hf⟩ := dh_bd hf
    refine m_iald hC hK kd_31 h17 dX2_about_148 ?_
    exact m_iret hC dX2_about_149 rfl hf
  have hf := dh_el hf c16
  by_cases c18 : x2 = 6
  · have hf := dh_if hf c18
    refine r_tableAt hC dX2_about_32 (tgt := 150) 6 (by rw [c18]; rfl) (by decide) (by decide) rfl (by decide) ?_
    refine r_aload_n hC dX2_about_150 rfl (j := 1) rfl ?_
    refine m_getA hC hK fa_32 dX2_about_151 ?_
    refine r_iload_n hC dX2_about_154 rfl (j := 2) rfl ?_
    obtain ⟨v19, h19, hf⟩ := dh_bd hf
    refine m_iald hC hK kd_32 h19 dX2_about_155 ?_
    exact m_iret hC dX2_about_156 rfl hf
  have hf := dh_el hf c18
  by_cases c20 : x2 = 7
  · have hf := dh_if hf c20
    refine r_tableAt hC dX2_about_32 (tgt := 157) 7 (by rw [c20]; rfl) (by decide) (by decide) rfl (by decide) ?_
    refine r_aload_n hC dX2_about_157 rfl (j := 1) rfl ?_
    refine m_getA hC hK fa_33 dX2_about_158 ?_
    refine r_iload_n hC dX2_about_161 rfl (j := 2) rfl ?_
    obtain ⟨v21, h21, hf⟩ := dh_bd hf
    refine m_iald hC hK kd_33 h21 dX2_about_162 ?_
    exact m_iret hC dX2_about_163 rfl hf
  have hf := dh_el hf c20
  by_cases c22 : x2 = 8
  · have hf := dh_if hf c22
    refine r_tableAt hC dX2_about_32 (tgt := 164) 8 (by rw [c22]; rfl) (by decide) (by decide) rfl (by decide) ?_
    refine r_iload_n hC dX2_about_164 rfl (j := 0) rfl ?_
    refine r_if_eq hC dX2_about_165 (tgt := 177) (by decide) (fun c23 => ?_) (fun c23 => ?_)
    · have hf := dh_if hf c23
      refine r_iconst hC dX2_about_177 ki_0 ?_
      exact m_iret hC dX2_about_178 rfl hf
    · have hf := dh_el hf c23
      refine r_aload_n hC dX2_about_168 rfl (j := 1) rfl ?_
      refine m_getA hC hK fa_34 dX2_about_169 ?_
      refine r_iload_n hC dX2_about_172 rfl (j := 2) rfl ?_
      obtain ⟨v24, h24, hf⟩ := dh_bd hf
      refine m_iald hC hK kd_34 h24 dX2_about_173 ?_
      refine r_goto hC dX2_about_174 (tgt := 178) (by decide) ?_
      exact m_iret hC dX2_about_178 rfl hf
  have hf := dh_el hf c22
  by_cases c25 : x2 = 9
  · have hf := dh_if hf c25
    refine r_tableAt hC dX2_about_32 (tgt := 179) 9 (by rw [c25]; rfl) (by decide) (by decide) rfl (by decide) ?_
    refine r_iload_n hC dX2_about_179 rfl (j := 0) rfl ?_
    refine r_if_eq hC dX2_about_180 (tgt := 191) (by decide) (fun c26 => ?_) (fun c26 => ?_)
    · have hf := dh_if hf c26
      refine r_iconst hC dX2_about_191 ki_0 ?_
      exact m_iret hC dX2_about_192 rfl hf
    · have hf := dh_el hf c26
      refine r_aload_n hC dX2_about_183 rfl (j := 1) rfl ?_
      refine r_iload_n hC dX2_about_184 rfl (j := 2) rfl ?_
      obtain ⟨p27, h27, hf⟩ := dh_bd hf
      refine m_callV' hC hK hR (cM_interestOf _ E A M x1 h27) q1671 q_interestOf (Nat.le_of_ble_eq_true rfl) (Nat.le_of_ble_eq_true rfl) rfl (Nat.le_of_ble_eq_true rfl) dX2_about_185 ?_
      refine r_goto hC dX2_about_188 (tgt := 192) (by decide) ?_
      exact m_iret hC dX2_about_192 rfl hf
  have hf := dh_el hf c25
  by_cases c28 : x2 = 10
  · have hf := dh_if hf c28
    refine r_tableAt hC dX2_about_32 (tgt := 193) 10 (by rw [c28]; rfl) (by decide) (by decide) rfl (by decide) ?_
    refine r_iload_n hC dX2_about_193 rfl (j := 0) rfl ?_
    refine r_if_eq hC dX2_about_194 (tgt := 206) (by decide) (fun c29 => ?_) (fun c29 => ?_)
    · have hf := dh_if hf c29
      refine r_iconst hC dX2_about_206 ki_0 ?_
      exact m_iret hC dX2_about_207 rfl hf
    · have hf := dh_el hf c29
      refine r_aload_n hC dX2_about_197 rfl (j := 1) rfl ?_
      refine m_getA hC hK fa_37 dX2_about_198 ?_
      refine r_iload_n hC dX2_about_201 rfl (j := 2) rfl ?_
      obtain ⟨v30, h30, hf⟩ := dh_bd hf
      refine m_iald hC hK kd_37 h30 dX2_about_202 ?_
      refine r_goto hC dX2_about_203 (tgt := 207) (by decide) ?_
      exact m_iret hC dX2_about_207 rfl hf
  have hf := dh_el hf c28
  by_cases c31 : x2 = 11
  · have hf := dh_if hf c31
    refine r_tableAt hC dX2_about_32 (tgt := 208) 11 (by rw [c31]; rfl) (by decide) (by decide) rfl (by decide) ?_
    refine r_aload_n hC dX2_about_208 rfl (j := 1) rfl ?_
    refine r_iload_n hC dX2_about_209 rfl (j := 2) rfl ?_
    obtain ⟨p32, h32, hf⟩ := dh_bd hf
    refine m_callV' hC hK hR (cM_dueOf _ E A M x1 h32) q1667 q_dueOf (Nat.le_of_ble_eq_true rfl) (Nat.le_of_ble_eq_true rfl) rfl (Nat.le_of_ble_eq_true rfl) dX2_about_210 ?_
    exact m_iret hC dX2_about_213 rfl hf
  have hf := dh_el hf c31
  by_cases c33 : x2 = 12
  · have hf := dh_if hf c33
    refine r_tableAt hC dX2_about_32 (tgt := 214) 12 (by rw [c33]; rfl) (by decide) (by decide) rfl (by decide) ?_
    refine r_aload_n hC dX2_about_214 rfl (j := 1) rfl ?_
    refine m_getA hC hK fa_38 dX2_about_215 ?_
    refine r_iload_n hC dX2_about_218 rfl (j := 2) rfl ?_
    obtain ⟨v34, h34, hf⟩ := dh_bd hf
    refine m_zald hC hK kd_38 h34 dX2_about_219 ?_
    refine r_if_eq hC dX2_about_220 (tgt := 227) (by decide) (fun c35 => ?_) (fun c35 => ?_)
    · have hf := dh_if hf c35
      refine r_iconst hC dX2_about_227 ki_0 ?_
      exact m_iret hC dX2_about_228 rfl hf
    · have hf := dh_el hf c35
      refine r_iconst hC dX2_about_223 ki_1 ?_
      refine r_goto hC dX2_about_224 (tgt := 228) (by decide) ?_
      exact m_iret hC dX2_about_228 rfl hf
  have hf := dh_el hf c33
  by_cases c36 : x2 = 13
  · have hf := dh_if hf c36
    refine r_tableAt hC dX2_about_32 (tgt := 229) 13 (by rw [c36]; rfl) (by decide) (by decide) rfl (by decide) ?_
    refine r_aload_n hC dX2_about_229 rfl (j := 1) rfl ?_
    refine m_getA hC hK fa_39 dX2_about_230 ?_
    refine r_iload_n hC dX2_about_233 rfl (j := 2) rfl ?_
    obtain ⟨v37, h37, hf⟩ := dh_bd hf
    refine m_iald hC hK kd_39 h37 dX2_about_234 ?_
    exact m_iret hC dX2_about_235 rfl hf
  have hf := dh_el hf c36
  by_cases c38 : x2 = 14
  · have hf := dh_if hf c38
    refine r_tableAt hC dX2_about_32 (tgt := 236) 14 (by rw [c38]; rfl) (by decide) (by decide) rfl (by decide) ?_
    refine r_aload_n hC dX2_about_236 rfl (j := 1) rfl ?_
    refine m_getA hC hK fa_40 dX2_about_237 ?_
    refine r_iload_n hC dX2_about_240 rfl (j := 2) rfl ?_
    obtain ⟨v39, h39, hf⟩ := dh_bd hf
    refine m_iald hC hK kd_40 h39 dX2_about_241 ?_
    exact m_iret hC dX2_about_242 rfl hf
  have hf := dh_el hf c38
  refine r_tableOut hC dX2_about_32 (tgt := 243) (by have := lv_neT c6 (a := 0) rfl; have := lv_neT c8 (a := 1) rfl; have := lv_neT c10 (a := 2) rfl; have := lv_neT c12 (a := 3) rfl; have := lv_neT c14 (a := 4) rfl; have := lv_neT c16 (a := 5) rfl; have := lv_neT c18 (a := 6) rfl; have := lv_neT c20 (a := 7) rfl; have := lv_neT c22 (a := 8) rfl; have := lv_neT c25 (a := 9) rfl; have := lv_neT c28 (a := 10) rfl; have := lv_neT c31 (a := 11) rfl; have := lv_neT c33 (a := 12) rfl; have := lv_neT c36 (a := 13) rfl; have := lv_neT c38 (a := 14) rfl; omega) (by decide) ?_
  refine r_bipush hC dX2_about_243 kb_m100 ?_
  exact m_iret hC dX2_about_245 rfl hf
def gM_about (M : dm_M) (x1 : Int32) (x2 : Int32) : Option (Int32 × dm_M) :=
  (some (dm_set M 0 0 0)).bind fun M1 =>
  (gM_isDebt M1 x1).bind fun p2 =>
  if p2 = 0 then (
    some ((-100), M1))
  else
  (dm_rd M1 33 x1).bind fun v4 =>
  if v4 = 0 then (
    gM_about_b30 M1 x1 x2 1)
  else
  gM_about_b30 M1 x1 x2 0
theorem wM_about {C : dh_C} {A : Nat → Prop} {E : dm_E} (hC : dh_ok C cX2_about 4 RX2 (some .int)) (hK : dm_Kn E (dh_s C)) (hR : dh_R C = { frames := 2, cells := 0, slots := 0, locals := 43 }) {r : Int32} {M' : dm_M} (M : dm_M) (x1 : Int32) (x2 : Int32) (hf : gM_about M x1 x2 = some (r, M')) : dh_W C A (dm_P E A M) (dm_Q E A (some (.int r)) M') 0 0 0 0 0 [(0, .ref (dm_am E)), (1, .int x1), (2, .int x2)] [] := by
  unfold gM_about at hf
  refine r_aload_n hC dX2_about_0 rfl (j := 0) rfl ?_
  refine r_iconst hC dX2_about_1 ki_0 ?_
  obtain ⟨M1, h1, hf⟩ := dh_bd hf
  refine m_putI hC hK fi_0 dX2_about_2 h1 ?_
  refine r_aload_n hC dX2_about_5 rfl (j := 0) rfl ?_
  refine r_iload_n hC dX2_about_6 rfl (j := 1) rfl ?_
  obtain ⟨p2, h2, hf⟩ := dh_bd hf
  refine m_callV' hC hK hR (cM_isDebt _ E A M1 x1 h2) q1663 q_isDebt (Nat.le_of_ble_eq_true rfl) (Nat.le_of_ble_eq_true rfl) rfl (Nat.le_of_ble_eq_true rfl) dX2_about_7 ?_
  refine r_if_ne hC dX2_about_10 (tgt := 16) (by decide) (fun c3 => ?_) (fun c3 => ?_)
  · have hf := dh_el hf c3
    refine r_aload_n hC dX2_about_16 rfl (j := 0) rfl ?_
    refine m_getA hC hK fa_33 dX2_about_17 ?_
    refine r_iload_n hC dX2_about_20 rfl (j := 1) rfl ?_
    obtain ⟨v4, h4, hf⟩ := dh_bd hf
    refine m_iald hC hK kd_33 h4 dX2_about_21 ?_
    refine r_if_ne hC dX2_about_22 (tgt := 29) (by decide) (fun c5 => ?_) (fun c5 => ?_)
    · have hf := dh_el hf c5
      refine r_iconst hC dX2_about_29 ki_0 ?_
      exact r_sub [0, 1, 2] rfl (wM_about_b30 hC hK hR M1 x1 x2 0 hf)
    · have hf := dh_if hf c5
      refine r_iconst hC dX2_about_25 ki_1 ?_
      refine r_goto hC dX2_about_26 (tgt := 30) (by decide) ?_
      exact r_sub [0, 1, 2] rfl (wM_about_b30 hC hK hR M1 x1 x2 1 hf)
  · have hf := dh_if hf c3
    refine r_bipush hC dX2_about_13 kb_m100 ?_
    exact m_iret hC dX2_about_15 rfl hf
theorem cM_about (l : Launch) (E : dm_E) (A : Nat → Prop) (M : dm_M) (x1 : Int32) (x2 : Int32) {p : Int32 × dm_M} (h : gM_about M x1 x2 = some p) : dm_Met l yX2_about cX2_about 4 (some .int) 2 43 E A [.ref (dm_am E), .int x1, .int x2] M (some (.int p.1)) p.2 := by
  refine dh_met (by decide) (Nat.le_of_ble_eq_true rfl) (fun _ _ h => ⟨_, h.1⟩) (fun C hl hR hC hnm hK => ?_)
  exact wM_about hC hK hR M x1 x2 h
theorem q_about : dm_calV yX2_about cX2_about 4 (some .int) 2 := ⟨q1693, q1694, q1695, by decide +kernel⟩
/-! isDay(I)Z -/
def gM_isDay (M : dm_M) (x0 : Int32) : Option Int32 :=
  (gM_in M x0 0 9999).bind fun p1 =>
  (dh_bo p1).bind fun _ =>
  some p1
theorem wM_isDay {C : dh_C} {A : Nat → Prop} {E : dm_E} (hC : dh_ok C cX2_isDay 1 RX2 (some .boolean)) (hK : dm_Kn E (dh_s C)) (hR : dh_R C = { frames := 1, cells := 0, slots := 0, locals := 22 }) {r : Int32} (M : dm_M) (x0 : Int32) (hf : gM_isDay M x0 = some r) : dh_W C A (dm_P E A M) (dm_Q E A (some (.int r)) M) 0 0 0 0 0 [(0, .int x0)] [] := by
  unfold gM_isDay at hf
  refine r_iload_n hC dX2_isDay_0 rfl (j := 0) rfl ?_
  refine r_iconst hC dX2_isDay_1 ki_0 ?_
  refine r_sipush hC dX2_isDay_2 ks_9999 ?_
  obtain ⟨p1, h1, hf⟩ := dh_bd hf
  refine m_callS' hC hK hR (cM_in _ E A M x0 0 9999 h1) q1639 q_in (Nat.le_of_ble_eq_true rfl) (Nat.le_of_ble_eq_true rfl) rfl (Nat.le_of_ble_eq_true rfl) dX2_isDay_5 ?_
  obtain ⟨_, h2, hf⟩ := dh_bd hf
  exact m_zret1 hC dX2_isDay_8 rfl (dh_bo_n h2) hf
theorem cM_isDay (l : Launch) (E : dm_E) (A : Nat → Prop) (M : dm_M) (x0 : Int32) {r : Int32} (h : gM_isDay M x0 = some r) : dm_Met l yX2_isDay cX2_isDay 1 (some .boolean) 1 22 E A [.int x0] M (some (.int r)) M := by
  refine dh_met (by decide) (Nat.le_of_ble_eq_true rfl) (fun _ _ h => ⟨_, h.1⟩) (fun C hl hR hC hnm hK => ?_)
  exact wM_isDay hC hK hR M x0 h
theorem q_isDay : dm_calS yX2_isDay cX2_isDay 1 (some .boolean) 1 := ⟨q1737, q1738, by decide +kernel⟩
/-! see()I -/
def gM_see (M : dm_M) : Option Int32 :=
  if (M.1 55 0) ≤ (M.1 54 0) then (
    some (-1))
  else
  (dm_rd M 1 (M.1 54 0)).bind fun v2 =>
  some (v2 &&& 255)
theorem wM_see {C : dh_C} {A : Nat → Prop} {E : dm_E} (hC : dh_ok C cX2_see 1 RX2 (some .int)) (hK : dm_Kn E (dh_s C)) (hR : dh_R C = { frames := 0, cells := 0, slots := 0, locals := 0 }) {r : Int32} (M : dm_M) (hf : gM_see M = some r) : dh_W C A (dm_P E A M) (dm_Q E A (some (.int r)) M) 0 0 0 0 0 [(0, .ref (dm_am E))] [] := by
  unfold gM_see at hf
  refine r_aload_n hC dX2_see_0 rfl (j := 0) rfl ?_
  refine m_getI hC hK fi_54 dX2_see_1 ?_
  refine r_aload_n hC dX2_see_4 rfl (j := 0) rfl ?_
  refine m_getI hC hK fi_55 dX2_see_5 ?_
  refine r_icmp_ge hC dX2_see_8 (tgt := 27) (by decide) (fun c1 => ?_) (fun c1 => ?_)
  · have hf := dh_if hf c1
    refine r_iconst hC dX2_see_27 ki_m1 ?_
    exact m_iret1 hC dX2_see_28 rfl hf
  · have hf := dh_el hf c1
    refine r_aload_n hC dX2_see_11 rfl (j := 0) rfl ?_
    refine m_getA hC hK fa_1 dX2_see_12 ?_
    refine r_aload_n hC dX2_see_15 rfl (j := 0) rfl ?_
    refine m_getI hC hK fi_54 dX2_see_16 ?_
    obtain ⟨v2, h2, hf⟩ := dh_bd hf
    refine m_bald hC hK kd_1 h2 dX2_see_19 ?_
    refine r_sipush hC dX2_see_20 ks_255 ?_
    refine r_iand hC dX2_see_23 ?_
    refine r_goto hC dX2_see_24 (tgt := 28) (by decide) ?_
    exact m_iret1 hC dX2_see_28 rfl hf
theorem cM_see (l : Launch) (E : dm_E) (A : Nat → Prop) (M : dm_M) {r : Int32} (h : gM_see M = some r) : dm_Met l yX2_see cX2_see 1 (some .int) 0 0 E A [.ref (dm_am E)] M (some (.int r)) M := by
  refine dh_met (by decide) (Nat.le_of_ble_eq_true rfl) (fun _ _ h => ⟨_, h.1⟩) (fun C hl hR hC hnm hK => ?_)
  exact wM_see hC hK hR M h
theorem q_see : dm_calV yX2_see cX2_see 1 (some .int) 0 := ⟨q1745, qs52, q1746, by decide +kernel⟩
