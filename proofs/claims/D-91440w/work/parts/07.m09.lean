set_option maxRecDepth 100000
/-! goesOn(III)Z -/
def gM_goesOn_L41_F (k41 : (Int32 → Int32 → Int32 → Option Int32)) (M : dm_M) (x1 : Int32) (x2 : Int32) (x4 : Int32) : Option Int32 :=
  if x1 ≤ x4 then (
    some 1)
  else
  (dm_rd M 53 x4).bind fun v9 =>
  (dm_rd M 26 v9).bind fun v10 =>
  (dm_rd M 26 x2).bind fun v11 =>
  if v10 = v11 then (
    some 0)
  else
  k41 x1 x2 (x4 + 1)
theorem wM_goesOn_L41_F {C : dh_C} {A : Nat → Prop} {E : dm_E} (hC : dh_ok C cX2_goesOn 5 RX2 (some .boolean)) (hK : dm_Kn E (dh_s C)) (hR : dh_R C = { frames := 0, cells := 0, slots := 0, locals := 0 }) {r : Int32} (M : dm_M) (k41 : (Int32 → Int32 → Int32 → Option Int32)) (hk41 : ∀ (x1 : Int32) (x2 : Int32) (x4 : Int32), k41 x1 x2 x4 = some r → dh_W C A (dm_P E A M) (dm_Q E A (some (.int r)) M) 0 0 0 0 41 [(0, .ref (dm_am E)), (1, .int x1), (2, .int x2), (4, .int x4)] []) (x1 : Int32) (x2 : Int32) (x4 : Int32) (hf : gM_goesOn_L41_F k41 M x1 x2 x4 = some r) : dh_W C A (dm_P E A M) (dm_Q E A (some (.int r)) M) 0 0 0 0 41 [(0, .ref (dm_am E)), (1, .int x1), (2, .int x2), (4, .int x4)] [] := by
  unfold gM_goesOn_L41_F at hf
  refine r_iload hC dX2_goesOn_41 (j := 3) rfl ?_
  refine r_iload_n hC dX2_goesOn_43 rfl (j := 1) rfl ?_
  refine r_icmp_ge hC dX2_goesOn_44 (tgt := 76) (by decide) (fun c8 => ?_) (fun c8 => ?_)
  · have hf := dh_if hf c8
    refine r_iconst hC dX2_goesOn_76 ki_1 ?_
    exact m_zret1 hC dX2_goesOn_77 rfl rfl hf
  · have hf := dh_el hf c8
    refine r_aload_n hC dX2_goesOn_47 rfl (j := 0) rfl ?_
    refine m_getA hC hK fa_26 dX2_goesOn_48 ?_
    refine r_aload_n hC dX2_goesOn_51 rfl (j := 0) rfl ?_
    refine m_getA hC hK fa_53 dX2_goesOn_52 ?_
    refine r_iload hC dX2_goesOn_55 (j := 3) rfl ?_
    obtain ⟨v9, h9, hf⟩ := dh_bd hf
    refine m_iald hC hK kd_53 h9 dX2_goesOn_57 ?_
    obtain ⟨v10, h10, hf⟩ := dh_bd hf
    refine m_iald hC hK kd_26 h10 dX2_goesOn_58 ?_
    refine r_aload_n hC dX2_goesOn_59 rfl (j := 0) rfl ?_
    refine m_getA hC hK fa_26 dX2_goesOn_60 ?_
    refine r_iload_n hC dX2_goesOn_63 rfl (j := 2) rfl ?_
    obtain ⟨v11, h11, hf⟩ := dh_bd hf
    refine m_iald hC hK kd_26 h11 dX2_goesOn_64 ?_
    refine r_icmp_ne hC dX2_goesOn_65 (tgt := 70) (by decide) (fun c12 => ?_) (fun c12 => ?_)
    · have hf := dh_el hf c12
      refine r_iinc (lv' := [(4, .int (x4 + 1)), (0, .ref (dm_am E)), (1, .int x1), (2, .int x2)]) hC dX2_goesOn_70 (j := 3) rfl (congrArg _ ki_1) (Nat.le_of_ble_eq_true rfl) rfl ?_
      refine r_goto hC dX2_goesOn_73 (tgt := 41) (by decide) ?_
      exact r_sub [1, 2, 3, 0] rfl (hk41 x1 x2 (x4 + 1) hf)
    · have hf := dh_if hf c12
      refine r_iconst hC dX2_goesOn_68 ki_0 ?_
      exact m_zret1 hC dX2_goesOn_69 rfl rfl hf
def gM_goesOn_L41 (M : dm_M) : Nat → Int32 → Int32 → Int32 → Option Int32
  | 0 => fun _ _ _ => none
  | n + 1 => gM_goesOn_L41_F (gM_goesOn_L41 M n) M
theorem wM_goesOn_L41 {C : dh_C} {A : Nat → Prop} {E : dm_E} (hC : dh_ok C cX2_goesOn 5 RX2 (some .boolean)) (hK : dm_Kn E (dh_s C)) (hR : dh_R C = { frames := 0, cells := 0, slots := 0, locals := 0 }) {r : Int32} (M : dm_M) : ∀ (n : Nat) (x1 : Int32) (x2 : Int32) (x4 : Int32) (_ : gM_goesOn_L41 M n x1 x2 x4 = some r), dh_W C A (dm_P E A M) (dm_Q E A (some (.int r)) M) 0 0 0 0 41 [(0, .ref (dm_am E)), (1, .int x1), (2, .int x2), (4, .int x4)] [] := by
  intro n
  induction n with
  | zero => intro x1 x2 x4 hf; exact dh_no hf
  | succ n ih => intro x1 x2 x4 hf; exact wM_goesOn_L41_F hC hK hR M (gM_goesOn_L41 M n) ih x1 x2 x4 hf
def gM_goesOn (M : dm_M) (x1 : Int32) (x2 : Int32) (x3 : Int32) : Option Int32 :=
  (dm_rd M 33 x2).bind fun v1 =>
  if v1 = 0 then (
    if x2 < x3 then (
      some 0)
    else
    (dm_rd M 26 x2).bind fun v4 =>
    (dm_rd M 53 (x1 - 1)).bind fun v5 =>
    (dm_rd M 27 v5).bind fun v6 =>
    if v4 = v6 then (
      gM_goesOn_L41 M dh_fu x1 x2 0)
    else
    some 0)
  else
  some 0
theorem wM_goesOn {C : dh_C} {A : Nat → Prop} {E : dm_E} (hC : dh_ok C cX2_goesOn 5 RX2 (some .boolean)) (hK : dm_Kn E (dh_s C)) (hR : dh_R C = { frames := 0, cells := 0, slots := 0, locals := 0 }) {r : Int32} (M : dm_M) (x1 : Int32) (x2 : Int32) (x3 : Int32) (hf : gM_goesOn M x1 x2 x3 = some r) : dh_W C A (dm_P E A M) (dm_Q E A (some (.int r)) M) 0 0 0 0 0 [(0, .ref (dm_am E)), (1, .int x1), (2, .int x2), (3, .int x3)] [] := by
  unfold gM_goesOn at hf
  refine r_aload_n hC dX2_goesOn_0 rfl (j := 0) rfl ?_
  refine m_getA hC hK fa_33 dX2_goesOn_1 ?_
  refine r_iload_n hC dX2_goesOn_4 rfl (j := 2) rfl ?_
  obtain ⟨v1, h1, hf⟩ := dh_bd hf
  refine m_iald hC hK kd_33 h1 dX2_goesOn_5 ?_
  refine r_if_ne hC dX2_goesOn_6 (tgt := 36) (by decide) (fun c2 => ?_) (fun c2 => ?_)
  · have hf := dh_el hf c2
    refine r_iconst hC dX2_goesOn_36 ki_0 ?_
    exact m_zret1 hC dX2_goesOn_37 rfl rfl hf
  · have hf := dh_if hf c2
    refine r_iload_n hC dX2_goesOn_9 rfl (j := 2) rfl ?_
    refine r_iload_n hC dX2_goesOn_10 rfl (j := 3) rfl ?_
    refine r_icmp_lt hC dX2_goesOn_11 (tgt := 36) (by decide) (fun c3 => ?_) (fun c3 => ?_)
    · have hf := dh_if hf c3
      refine r_iconst hC dX2_goesOn_36 ki_0 ?_
      exact m_zret1 hC dX2_goesOn_37 rfl rfl hf
    · have hf := dh_el hf c3
      refine r_aload_n hC dX2_goesOn_14 rfl (j := 0) rfl ?_
      refine m_getA hC hK fa_26 dX2_goesOn_15 ?_
      refine r_iload_n hC dX2_goesOn_18 rfl (j := 2) rfl ?_
      obtain ⟨v4, h4, hf⟩ := dh_bd hf
      refine m_iald hC hK kd_26 h4 dX2_goesOn_19 ?_
      refine r_aload_n hC dX2_goesOn_20 rfl (j := 0) rfl ?_
      refine m_getA hC hK fa_27 dX2_goesOn_21 ?_
      refine r_aload_n hC dX2_goesOn_24 rfl (j := 0) rfl ?_
      refine m_getA hC hK fa_53 dX2_goesOn_25 ?_
      refine r_iload_n hC dX2_goesOn_28 rfl (j := 1) rfl ?_
      refine r_iconst hC dX2_goesOn_29 ki_1 ?_
      refine r_isub hC dX2_goesOn_30 ?_
      obtain ⟨v5, h5, hf⟩ := dh_bd hf
      refine m_iald hC hK kd_53 h5 dX2_goesOn_31 ?_
      obtain ⟨v6, h6, hf⟩ := dh_bd hf
      refine m_iald hC hK kd_27 h6 dX2_goesOn_32 ?_
      refine r_icmp_eq hC dX2_goesOn_33 (tgt := 38) (by decide) (fun c7 => ?_) (fun c7 => ?_)
      · have hf := dh_if hf c7
        refine r_iconst hC dX2_goesOn_38 ki_0 ?_
        refine r_istore (lv' := [(4, .int 0), (0, .ref (dm_am E)), (1, .int x1), (2, .int x2), (3, .int x3)]) hC dX2_goesOn_39 (Nat.le_of_ble_eq_true rfl) rfl ?_
        exact r_sub [1, 2, 3, 0] rfl (wM_goesOn_L41 hC hK hR M dh_fu x1 x2 0 hf)
      · have hf := dh_el hf c7
        refine r_iconst hC dX2_goesOn_36 ki_0 ?_
        exact m_zret1 hC dX2_goesOn_37 rfl rfl hf
theorem cM_goesOn (l : Launch) (E : dm_E) (A : Nat → Prop) (M : dm_M) (x1 : Int32) (x2 : Int32) (x3 : Int32) {r : Int32} (h : gM_goesOn M x1 x2 x3 = some r) : dm_Met l yX2_goesOn cX2_goesOn 5 (some .boolean) 0 0 E A [.ref (dm_am E), .int x1, .int x2, .int x3] M (some (.int r)) M := by
  refine dh_met (by decide) (Nat.le_of_ble_eq_true rfl) (fun _ _ h => ⟨_, h.1⟩) (fun C hl hR hC hnm hK => ?_)
  exact wM_goesOn hC hK hR M x1 x2 x3 h
theorem q_goesOn : dm_calV yX2_goesOn cX2_goesOn 5 (some .boolean) 3 := ⟨q1710, qs49, q1711, by decide +kernel⟩
/-! findRing(II)Z -/
def gM_findRing_b84 (k14 : (dm_M → Int32 → Int32 → Int32 → Int32 → Option (Int32 × dm_M))) (M : dm_M) (x1 : Int32) (x2 : Int32) (x3 : Int32) (x5 : Int32) : Option (Int32 × dm_M) :=
  if x2 ≤ x3 then (
    (dm_rd M 53 (x3 + (-1))).bind fun v6 =>
    k14 M x1 x2 (x3 + (-1)) (v6 + 1))
  else
  (dm_rd M 25 0).bind fun v7 =>
  if v7 ≤ x5 then (
    (dm_rd M 53 (x3 + (-1))).bind fun v9 =>
    k14 M x1 x2 (x3 + (-1)) (v9 + 1))
  else
  (dm_wr M 53 x3 x5).bind fun M10 =>
  k14 M10 x1 x2 (x3 + 1) (x1 + 1)
theorem wM_findRing_b84 {C : dh_C} {A : Nat → Prop} {E : dm_E} (hC : dh_ok C cX2_findRing 6 RX2 (some .boolean)) (hK : dm_Kn E (dh_s C)) (hR : dh_R C = { frames := 1, cells := 0, slots := 0, locals := 24 }) {r : Int32} {M' : dm_M} (k14 : (dm_M → Int32 → Int32 → Int32 → Int32 → Option (Int32 × dm_M))) (hk14 : ∀ (M : dm_M) (x1 : Int32) (x2 : Int32) (x3 : Int32) (x4 : Int32), k14 M x1 x2 x3 x4 = some (r, M') → dh_W C A (dm_P E A M) (dm_Q E A (some (.int r)) M') 0 0 0 0 14 [(0, .ref (dm_am E)), (1, .int x1), (2, .int x2), (3, .int x3), (4, .int x4)] []) (M : dm_M) (x1 : Int32) (x2 : Int32) (x3 : Int32) (x5 : Int32) (hf : gM_findRing_b84 k14 M x1 x2 x3 x5 = some (r, M')) : dh_W C A (dm_P E A M) (dm_Q E A (some (.int r)) M') 0 0 0 0 84 [(0, .ref (dm_am E)), (1, .int x1), (2, .int x2), (3, .int x3), (5, .int x5)] [] := by
  unfold gM_findRing_b84 at hf
  refine r_iload_n hC dX2_findRing_84 rfl (j := 3) rfl ?_
  refine r_iload_n hC dX2_findRing_85 rfl (j := 2) rfl ?_
  refine r_icmp_ge hC dX2_findRing_86 (tgt := 119) (by decide) (fun c5 => ?_) (fun c5 => ?_)
  · have hf := dh_if hf c5
    refine r_iinc (lv' := [(3, .int (x3 + (-1))), (0, .ref (dm_am E)), (1, .int x1), (2, .int x2), (5, .int x5)]) hC dX2_findRing_119 (j := 3) rfl (congrArg _ ki_m1) (Nat.le_of_ble_eq_true rfl) rfl ?_
    refine r_aload_n hC dX2_findRing_122 rfl (j := 1) rfl ?_
    refine m_getA hC hK fa_53 dX2_findRing_123 ?_
    refine r_iload_n hC dX2_findRing_126 rfl (j := 0) rfl ?_
    obtain ⟨v6, h6, hf⟩ := dh_bd hf
    refine m_iald hC hK kd_53 h6 dX2_findRing_127 ?_
    refine r_iconst hC dX2_findRing_128 ki_1 ?_
    refine r_iadd hC dX2_findRing_129 ?_
    refine r_istore (lv' := [(4, .int (v6 + 1)), (3, .int (x3 + (-1))), (0, .ref (dm_am E)), (1, .int x1), (2, .int x2), (5, .int x5)]) hC dX2_findRing_130 (Nat.le_of_ble_eq_true rfl) rfl ?_
    refine r_goto hC dX2_findRing_132 (tgt := 14) (by decide) ?_
    exact r_sub [2, 3, 4, 1, 0] rfl (hk14 M x1 x2 (x3 + (-1)) (v6 + 1) hf)
  · have hf := dh_el hf c5
    refine r_iload hC dX2_findRing_89 (j := 4) rfl ?_
    refine r_aload_n hC dX2_findRing_91 rfl (j := 0) rfl ?_
    refine m_getA hC hK fa_25 dX2_findRing_92 ?_
    refine r_iconst hC dX2_findRing_95 ki_0 ?_
    obtain ⟨v7, h7, hf⟩ := dh_bd hf
    refine m_iald hC hK kd_25 h7 dX2_findRing_96 ?_
    refine r_icmp_ge hC dX2_findRing_97 (tgt := 119) (by decide) (fun c8 => ?_) (fun c8 => ?_)
    · have hf := dh_if hf c8
      refine r_iinc (lv' := [(3, .int (x3 + (-1))), (0, .ref (dm_am E)), (1, .int x1), (2, .int x2), (5, .int x5)]) hC dX2_findRing_119 (j := 3) rfl (congrArg _ ki_m1) (Nat.le_of_ble_eq_true rfl) rfl ?_
      refine r_aload_n hC dX2_findRing_122 rfl (j := 1) rfl ?_
      refine m_getA hC hK fa_53 dX2_findRing_123 ?_
      refine r_iload_n hC dX2_findRing_126 rfl (j := 0) rfl ?_
      obtain ⟨v9, h9, hf⟩ := dh_bd hf
      refine m_iald hC hK kd_53 h9 dX2_findRing_127 ?_
      refine r_iconst hC dX2_findRing_128 ki_1 ?_
      refine r_iadd hC dX2_findRing_129 ?_
      refine r_istore (lv' := [(4, .int (v9 + 1)), (3, .int (x3 + (-1))), (0, .ref (dm_am E)), (1, .int x1), (2, .int x2), (5, .int x5)]) hC dX2_findRing_130 (Nat.le_of_ble_eq_true rfl) rfl ?_
      refine r_goto hC dX2_findRing_132 (tgt := 14) (by decide) ?_
      exact r_sub [2, 3, 4, 1, 0] rfl (hk14 M x1 x2 (x3 + (-1)) (v9 + 1) hf)
    · have hf := dh_el hf c8
      refine r_aload_n hC dX2_findRing_100 rfl (j := 0) rfl ?_
      refine m_getA hC hK fa_53 dX2_findRing_101 ?_
      refine r_iload_n hC dX2_findRing_104 rfl (j := 3) rfl ?_
      refine r_iload hC dX2_findRing_105 (j := 4) rfl ?_
      obtain ⟨M10, h10, hf⟩ := dh_bd hf
      refine m_iast hC hK kd_53 h10 dX2_findRing_107 ?_
      refine r_iinc (lv' := [(3, .int (x3 + 1)), (0, .ref (dm_am E)), (1, .int x1), (2, .int x2), (5, .int x5)]) hC dX2_findRing_108 (j := 3) rfl (congrArg _ ki_1) (Nat.le_of_ble_eq_true rfl) rfl ?_
      refine r_iload_n hC dX2_findRing_111 rfl (j := 2) rfl ?_
      refine r_iconst hC dX2_findRing_112 ki_1 ?_
      refine r_iadd hC dX2_findRing_113 ?_
      refine r_istore (lv' := [(4, .int (x1 + 1)), (3, .int (x3 + 1)), (0, .ref (dm_am E)), (1, .int x1), (2, .int x2), (5, .int x5)]) hC dX2_findRing_114 (Nat.le_of_ble_eq_true rfl) rfl ?_
      refine r_goto hC dX2_findRing_116 (tgt := 132) (by decide) ?_
      refine r_goto hC dX2_findRing_132 (tgt := 14) (by decide) ?_
      exact r_sub [2, 3, 4, 1, 0] rfl (hk14 M10 x1 x2 (x3 + 1) (x1 + 1) hf)
def gM_findRing_L51_F (k14 : (dm_M → Int32 → Int32 → Int32 → Int32 → Option (Int32 × dm_M))) (k51 : (dm_M → Int32 → Int32 → Int32 → Int32 → Option (Int32 × dm_M))) (M : dm_M) (x1 : Int32) (x2 : Int32) (x3 : Int32) (x5 : Int32) : Option (Int32 × dm_M) :=
  if x2 ≤ x3 then (
    gM_findRing_b84 k14 M x1 x2 x3 x5)
  else
  (dm_rd M 25 0).bind fun v11 =>
  if v11 ≤ x5 then (
    gM_findRing_b84 k14 M x1 x2 x3 x5)
  else
  (gM_goesOn M x3 x5 x1).bind fun p13 =>
  if p13 = 0 then (
    k51 M x1 x2 x3 (x5 + 1))
  else
  gM_findRing_b84 k14 M x1 x2 x3 x5
theorem wM_findRing_L51_F {C : dh_C} {A : Nat → Prop} {E : dm_E} (hC : dh_ok C cX2_findRing 6 RX2 (some .boolean)) (hK : dm_Kn E (dh_s C)) (hR : dh_R C = { frames := 1, cells := 0, slots := 0, locals := 24 }) {r : Int32} {M' : dm_M} (k14 : (dm_M → Int32 → Int32 → Int32 → Int32 → Option (Int32 × dm_M))) (hk14 : ∀ (M : dm_M) (x1 : Int32) (x2 : Int32) (x3 : Int32) (x4 : Int32), k14 M x1 x2 x3 x4 = some (r, M') → dh_W C A (dm_P E A M) (dm_Q E A (some (.int r)) M') 0 0 0 0 14 [(0, .ref (dm_am E)), (1, .int x1), (2, .int x2), (3, .int x3), (4, .int x4)] []) (k51 : (dm_M → Int32 → Int32 → Int32 → Int32 → Option (Int32 × dm_M))) (hk51 : ∀ (M : dm_M) (x1 : Int32) (x2 : Int32) (x3 : Int32) (x5 : Int32), k51 M x1 x2 x3 x5 = some (r, M') → dh_W C A (dm_P E A M) (dm_Q E A (some (.int r)) M') 0 0 0 0 51 [(0, .ref (dm_am E)), (1, .int x1), (2, .int x2), (3, .int x3), (5, .int x5)] []) (M : dm_M) (x1 : Int32) (x2 : Int32) (x3 : Int32) (x5 : Int32) (hf : gM_findRing_L51_F k14 k51 M x1 x2 x3 x5 = some (r, M')) : dh_W C A (dm_P E A M) (dm_Q E A (some (.int r)) M') 0 0 0 0 51 [(0, .ref (dm_am E)), (1, .int x1), (2, .int x2), (3, .int x3), (5, .int x5)] [] := by
  unfold gM_findRing_L51_F at hf
  refine r_iload_n hC dX2_findRing_51 rfl (j := 3) rfl ?_
  refine r_iload_n hC dX2_findRing_52 rfl (j := 2) rfl ?_
  refine r_icmp_ge hC dX2_findRing_53 (tgt := 84) (by decide) (fun c4 => ?_) (fun c4 => ?_)
  · have hf := dh_if hf c4
    exact r_sub [0, 1, 2, 3, 4] rfl (wM_findRing_b84 hC hK hR k14 hk14 M x1 x2 x3 x5 hf)
  · have hf := dh_el hf c4
    refine r_iload hC dX2_findRing_56 (j := 4) rfl ?_
    refine r_aload_n hC dX2_findRing_58 rfl (j := 0) rfl ?_
    refine m_getA hC hK fa_25 dX2_findRing_59 ?_
    refine r_iconst hC dX2_findRing_62 ki_0 ?_
    obtain ⟨v11, h11, hf⟩ := dh_bd hf
    refine m_iald hC hK kd_25 h11 dX2_findRing_63 ?_
    refine r_icmp_ge hC dX2_findRing_64 (tgt := 84) (by decide) (fun c12 => ?_) (fun c12 => ?_)
    · have hf := dh_if hf c12
      exact r_sub [0, 1, 2, 3, 4] rfl (wM_findRing_b84 hC hK hR k14 hk14 M x1 x2 x3 x5 hf)
    · have hf := dh_el hf c12
      refine r_aload_n hC dX2_findRing_67 rfl (j := 0) rfl ?_
      refine r_iload_n hC dX2_findRing_68 rfl (j := 3) rfl ?_
      refine r_iload hC dX2_findRing_69 (j := 4) rfl ?_
      refine r_iload_n hC dX2_findRing_71 rfl (j := 1) rfl ?_
      obtain ⟨p13, h13, hf⟩ := dh_bd hf
      refine m_callV' hC hK hR (cM_goesOn _ E A M x3 x5 x1 h13) q1708 q_goesOn (Nat.le_of_ble_eq_true rfl) (Nat.le_of_ble_eq_true rfl) rfl (Nat.le_of_ble_eq_true rfl) dX2_findRing_72 ?_
      refine r_if_ne hC dX2_findRing_75 (tgt := 84) (by decide) (fun c14 => ?_) (fun c14 => ?_)
      · have hf := dh_el hf c14
        exact r_sub [0, 1, 2, 3, 4] rfl (wM_findRing_b84 hC hK hR k14 hk14 M x1 x2 x3 x5 hf)
      · have hf := dh_if hf c14
        refine r_iinc (lv' := [(5, .int (x5 + 1)), (0, .ref (dm_am E)), (1, .int x1), (2, .int x2), (3, .int x3)]) hC dX2_findRing_78 (j := 4) rfl (congrArg _ ki_1) (Nat.le_of_ble_eq_true rfl) rfl ?_
        refine r_goto hC dX2_findRing_81 (tgt := 51) (by decide) ?_
        exact r_sub [1, 2, 3, 4, 0] rfl (hk51 M x1 x2 x3 (x5 + 1) hf)
def gM_findRing_L51 (k14 : (dm_M → Int32 → Int32 → Int32 → Int32 → Option (Int32 × dm_M))) : Nat → dm_M → Int32 → Int32 → Int32 → Int32 → Option (Int32 × dm_M)
  | 0 => fun _ _ _ _ _ => none
  | n + 1 => gM_findRing_L51_F k14 (gM_findRing_L51 k14 n)
theorem wM_findRing_L51 {C : dh_C} {A : Nat → Prop} {E : dm_E} (hC : dh_ok C cX2_findRing 6 RX2 (some .boolean)) (hK : dm_Kn E (dh_s C)) (hR : dh_R C = { frames := 1, cells := 0, slots := 0, locals := 24 }) {r : Int32} {M' : dm_M} (k14 : (dm_M → Int32 → Int32 → Int32 → Int32 → Option (Int32 × dm_M))) (hk14 : ∀ (M : dm_M) (x1 : Int32) (x2 : Int32) (x3 : Int32) (x4 : Int32), k14 M x1 x2 x3 x4 = some (r, M') → dh_W C A (dm_P E A M) (dm_Q E A (some (.int r)) M') 0 0 0 0 14 [(0, .ref (dm_am E)), (1, .int x1), (2, .int x2), (3, .int x3), (4, .int x4)] []) : ∀ (n : Nat) (M : dm_M) (x1 : Int32) (x2 : Int32) (x3 : Int32) (x5 : Int32) (_ : gM_findRing_L51 k14 n M x1 x2 x3 x5 = some (r, M')), dh_W C A (dm_P E A M) (dm_Q E A (some (.int r)) M') 0 0 0 0 51 [(0, .ref (dm_am E)), (1, .int x1), (2, .int x2), (3, .int x3), (5, .int x5)] [] := by
  intro n
  induction n with
  | zero => intro M x1 x2 x3 x5 hf; exact dh_no hf
  | succ n ih => intro M x1 x2 x3 x5 hf; exact wM_findRing_L51_F hC hK hR k14 hk14 (gM_findRing_L51 k14 n) ih M x1 x2 x3 x5 hf
def gM_findRing_L14_F (k14 : (dm_M → Int32 → Int32 → Int32 → Int32 → Option (Int32 × dm_M))) (M : dm_M) (x1 : Int32) (x2 : Int32) (x3 : Int32) (x4 : Int32) : Option (Int32 × dm_M) :=
  if x3 ≤ 0 then (
    some (0, M))
  else
  if x3 = x2 then (
    (dm_rd M 53 (x3 - 1)).bind fun v15 =>
    (dm_rd M 27 v15).bind fun v16 =>
    (dm_rd M 26 x1).bind fun v17 =>
    if v16 = v17 then (
      some (1, M))
    else
    gM_findRing_L51 k14 dh_fu M x1 x2 x3 x4)
  else
  gM_findRing_L51 k14 dh_fu M x1 x2 x3 x4
theorem wM_findRing_L14_F {C : dh_C} {A : Nat → Prop} {E : dm_E} (hC : dh_ok C cX2_findRing 6 RX2 (some .boolean)) (hK : dm_Kn E (dh_s C)) (hR : dh_R C = { frames := 1, cells := 0, slots := 0, locals := 24 }) {r : Int32} {M' : dm_M} (k14 : (dm_M → Int32 → Int32 → Int32 → Int32 → Option (Int32 × dm_M))) (hk14 : ∀ (M : dm_M) (x1 : Int32) (x2 : Int32) (x3 : Int32) (x4 : Int32), k14 M x1 x2 x3 x4 = some (r, M') → dh_W C A (dm_P E A M) (dm_Q E A (some (.int r)) M') 0 0 0 0 14 [(0, .ref (dm_am E)), (1, .int x1), (2, .int x2), (3, .int x3), (4, .int x4)] []) (M : dm_M) (x1 : Int32) (x2 : Int32) (x3 : Int32) (x4 : Int32) (hf : gM_findRing_L14_F k14 M x1 x2 x3 x4 = some (r, M')) : dh_W C A (dm_P E A M) (dm_Q E A (some (.int r)) M') 0 0 0 0 14 [(0, .ref (dm_am E)), (1, .int x1), (2, .int x2), (3, .int x3), (4, .int x4)] [] := by
  unfold gM_findRing_L14_F at hf
  refine r_iload_n hC dX2_findRing_14 rfl (j := 3) rfl ?_
  refine r_if_le hC dX2_findRing_15 (tgt := 135) (by decide) (fun c2 => ?_) (fun c2 => ?_)
  · have hf := dh_if hf c2
    refine r_iconst hC dX2_findRing_135 ki_0 ?_
    exact m_zret hC dX2_findRing_136 rfl rfl hf
  · have hf := dh_el hf c2
    refine r_iload_n hC dX2_findRing_18 rfl (j := 3) rfl ?_
    refine r_iload_n hC dX2_findRing_19 rfl (j := 2) rfl ?_
    refine r_icmp_ne hC dX2_findRing_20 (tgt := 47) (by decide) (fun c3 => ?_) (fun c3 => ?_)
    · have hf := dh_el hf c3
      refine r_iload hC dX2_findRing_47 (j := 4) rfl ?_
      refine r_istore (lv' := [(5, .int x4), (0, .ref (dm_am E)), (1, .int x1), (2, .int x2), (3, .int x3), (4, .int x4)]) hC dX2_findRing_49 (Nat.le_of_ble_eq_true rfl) rfl ?_
      exact r_sub [1, 2, 3, 4, 0] rfl (wM_findRing_L51 hC hK hR k14 hk14 dh_fu M x1 x2 x3 x4 hf)
    · have hf := dh_if hf c3
      refine r_aload_n hC dX2_findRing_23 rfl (j := 0) rfl ?_
      refine m_getA hC hK fa_27 dX2_findRing_24 ?_
      refine r_aload_n hC dX2_findRing_27 rfl (j := 0) rfl ?_
      refine m_getA hC hK fa_53 dX2_findRing_28 ?_
      refine r_iload_n hC dX2_findRing_31 rfl (j := 3) rfl ?_
      refine r_iconst hC dX2_findRing_32 ki_1 ?_
      refine r_isub hC dX2_findRing_33 ?_
      obtain ⟨v15, h15, hf⟩ := dh_bd hf
      refine m_iald hC hK kd_53 h15 dX2_findRing_34 ?_
      obtain ⟨v16, h16, hf⟩ := dh_bd hf
      refine m_iald hC hK kd_27 h16 dX2_findRing_35 ?_
      refine r_aload_n hC dX2_findRing_36 rfl (j := 0) rfl ?_
      refine m_getA hC hK fa_26 dX2_findRing_37 ?_
      refine r_iload_n hC dX2_findRing_40 rfl (j := 1) rfl ?_
      obtain ⟨v17, h17, hf⟩ := dh_bd hf
      refine m_iald hC hK kd_26 h17 dX2_findRing_41 ?_
      refine r_icmp_ne hC dX2_findRing_42 (tgt := 47) (by decide) (fun c18 => ?_) (fun c18 => ?_)
      · have hf := dh_el hf c18
        refine r_iload hC dX2_findRing_47 (j := 4) rfl ?_
        refine r_istore (lv' := [(5, .int x4), (0, .ref (dm_am E)), (1, .int x1), (2, .int x2), (3, .int x3), (4, .int x4)]) hC dX2_findRing_49 (Nat.le_of_ble_eq_true rfl) rfl ?_
        exact r_sub [1, 2, 3, 4, 0] rfl (wM_findRing_L51 hC hK hR k14 hk14 dh_fu M x1 x2 x3 x4 hf)
      · have hf := dh_if hf c18
        refine r_iconst hC dX2_findRing_45 ki_1 ?_
        exact m_zret hC dX2_findRing_46 rfl rfl hf
def gM_findRing_L14 : Nat → dm_M → Int32 → Int32 → Int32 → Int32 → Option (Int32 × dm_M)
  | 0 => fun _ _ _ _ _ => none
  | n + 1 => gM_findRing_L14_F (gM_findRing_L14 n)
theorem wM_findRing_L14 {C : dh_C} {A : Nat → Prop} {E : dm_E} (hC : dh_ok C cX2_findRing 6 RX2 (some .boolean)) (hK : dm_Kn E (dh_s C)) (hR : dh_R C = { frames := 1, cells := 0, slots := 0, locals := 24 }) {r : Int32} {M' : dm_M} : ∀ (n : Nat) (M : dm_M) (x1 : Int32) (x2 : Int32) (x3 : Int32) (x4 : Int32) (_ : gM_findRing_L14 n M x1 x2 x3 x4 = some (r, M')), dh_W C A (dm_P E A M) (dm_Q E A (some (.int r)) M') 0 0 0 0 14 [(0, .ref (dm_am E)), (1, .int x1), (2, .int x2), (3, .int x3), (4, .int x4)] [] := by
  intro n
  induction n with
  | zero => intro M x1 x2 x3 x4 hf; exact dh_no hf
  | succ n ih => intro M x1 x2 x3 x4 hf; exact wM_findRing_L14_F hC hK hR (gM_findRing_L14 n) ih M x1 x2 x3 x4 hf
def gM_findRing (M : dm_M) (x1 : Int32) (x2 : Int32) : Option (Int32 × dm_M) :=
  (dm_wr M 53 0 x1).bind fun M1 =>
  gM_findRing_L14 dh_fu M1 x1 x2 1 (x1 + 1)
theorem wM_findRing {C : dh_C} {A : Nat → Prop} {E : dm_E} (hC : dh_ok C cX2_findRing 6 RX2 (some .boolean)) (hK : dm_Kn E (dh_s C)) (hR : dh_R C = { frames := 1, cells := 0, slots := 0, locals := 24 }) {r : Int32} {M' : dm_M} (M : dm_M) (x1 : Int32) (x2 : Int32) (hf : gM_findRing M x1 x2 = some (r, M')) : dh_W C A (dm_P E A M) (dm_Q E A (some (.int r)) M') 0 0 0 0 0 [(0, .ref (dm_am E)), (1, .int x1), (2, .int x2)] [] := by
  unfold gM_findRing at hf
  refine r_aload_n hC dX2_findRing_0 rfl (j := 0) rfl ?_
  refine m_getA hC hK fa_53 dX2_findRing_1 ?_
  refine r_iconst hC dX2_findRing_4 ki_0 ?_
  refine r_iload_n hC dX2_findRing_5 rfl (j := 1) rfl ?_
  obtain ⟨M1, h1, hf⟩ := dh_bd hf
  refine m_iast hC hK kd_53 h1 dX2_findRing_6 ?_
  refine r_iconst hC dX2_findRing_7 ki_1 ?_
  refine r_istore_n (lv' := [(3, .int 1), (0, .ref (dm_am E)), (1, .int x1), (2, .int x2)]) hC dX2_findRing_8 rfl (Nat.le_of_ble_eq_true rfl) rfl ?_
  refine r_iload_n hC dX2_findRing_9 rfl (j := 2) rfl ?_
  refine r_iconst hC dX2_findRing_10 ki_1 ?_
  refine r_iadd hC dX2_findRing_11 ?_
  refine r_istore (lv' := [(4, .int (x1 + 1)), (3, .int 1), (0, .ref (dm_am E)), (1, .int x1), (2, .int x2)]) hC dX2_findRing_12 (Nat.le_of_ble_eq_true rfl) rfl ?_
  exact r_sub [2, 3, 4, 1, 0] rfl (wM_findRing_L14 hC hK hR dh_fu M1 x1 x2 1 (x1 + 1) hf)
theorem cM_findRing (l : Launch) (E : dm_E) (A : Nat → Prop) (M : dm_M) (x1 : Int32) (x2 : Int32) {p : Int32 × dm_M} (h : gM_findRing M x1 x2 = some p) : dm_Met l yX2_findRing cX2_findRing 6 (some .boolean) 1 24 E A [.ref (dm_am E), .int x1, .int x2] M (some (.int p.1)) p.2 := by
  refine dh_met (by decide) (Nat.le_of_ble_eq_true rfl) (fun _ _ h => ⟨_, h.1⟩) (fun C hl hR hC hnm hK => ?_)
  exact wM_findRing hC hK hR M x1 x2 h
theorem q_findRing : dm_calV yX2_findRing cX2_findRing 6 (some .boolean) 2 := ⟨q1706, qs48, q1707, by decide +kernel⟩
/-! findTheRing()Z -/
def gM_findTheRing_L51_F (k51 : (dm_M → Int32 → Int32 → Option (Int32 × dm_M))) (M : dm_M) (x1 : Int32) (x3 : Int32) : Option (Int32 × dm_M) :=
  if x1 ≤ x3 then (
    some (1, M))
  else
  (dm_rd M 53 x3).bind fun v12 =>
  (dm_wr M 42 x3 v12).bind fun M13 =>
  k51 M13 x1 (x3 + 1)
theorem wM_findTheRing_L51_F {C : dh_C} {A : Nat → Prop} {E : dm_E} (hC : dh_ok C cX2_findTheRing 4 RX2 (some .boolean)) (hK : dm_Kn E (dh_s C)) (hR : dh_R C = { frames := 2, cells := 0, slots := 0, locals := 49 }) {r : Int32} {M' : dm_M} (k51 : (dm_M → Int32 → Int32 → Option (Int32 × dm_M))) (hk51 : ∀ (M : dm_M) (x1 : Int32) (x3 : Int32), k51 M x1 x3 = some (r, M') → dh_W C A (dm_P E A M) (dm_Q E A (some (.int r)) M') 0 0 0 0 51 [(0, .ref (dm_am E)), (1, .int x1), (3, .int x3)] []) (M : dm_M) (x1 : Int32) (x3 : Int32) (hf : gM_findTheRing_L51_F k51 M x1 x3 = some (r, M')) : dh_W C A (dm_P E A M) (dm_Q E A (some (.int r)) M') 0 0 0 0 51 [(0, .ref (dm_am E)), (1, .int x1), (3, .int x3)] [] := by
  unfold gM_findTheRing_L51_F at hf
  refine r_iload_n hC dX2_findTheRing_51 rfl (j := 2) rfl ?_
  refine r_iload_n hC dX2_findTheRing_52 rfl (j := 1) rfl ?_
  refine r_icmp_ge hC dX2_findTheRing_53 (tgt := 74) (by decide) (fun c11 => ?_) (fun c11 => ?_)
  · have hf := dh_if hf c11
    refine r_iconst hC dX2_findTheRing_74 ki_1 ?_
    exact m_zret hC dX2_findTheRing_75 rfl rfl hf
  · have hf := dh_el hf c11
    refine r_aload_n hC dX2_findTheRing_56 rfl (j := 0) rfl ?_
    refine m_getA hC hK fa_42 dX2_findTheRing_57 ?_
    refine r_iload_n hC dX2_findTheRing_60 rfl (j := 2) rfl ?_
    refine r_aload_n hC dX2_findTheRing_61 rfl (j := 0) rfl ?_
    refine m_getA hC hK fa_53 dX2_findTheRing_62 ?_
    refine r_iload_n hC dX2_findTheRing_65 rfl (j := 2) rfl ?_
    obtain ⟨v12, h12, hf⟩ := dh_bd hf
    refine m_iald hC hK kd_53 h12 dX2_findTheRing_66 ?_
    obtain ⟨M13, h13, hf⟩ := dh_bd hf
    refine m_iast hC hK kd_42 h13 dX2_findTheRing_67 ?_
    refine r_iinc (lv' := [(3, .int (x3 + 1)), (0, .ref (dm_am E)), (1, .int x1)]) hC dX2_findTheRing_68 (j := 2) rfl (congrArg _ ki_1) (Nat.le_of_ble_eq_true rfl) rfl ?_
    refine r_goto hC dX2_findTheRing_71 (tgt := 51) (by decide) ?_
    exact r_sub [1, 2, 0] rfl (hk51 M13 x1 (x3 + 1) hf)
def gM_findTheRing_L51 : Nat → dm_M → Int32 → Int32 → Option (Int32 × dm_M)
  | 0 => fun _ _ _ => none
  | n + 1 => gM_findTheRing_L51_F (gM_findTheRing_L51 n)
theorem wM_findTheRing_L51 {C : dh_C} {A : Nat → Prop} {E : dm_E} (hC : dh_ok C cX2_findTheRing 4 RX2 (some .boolean)) (hK : dm_Kn E (dh_s C)) (hR : dh_R C = { frames := 2, cells := 0, slots := 0, locals := 49 }) {r : Int32} {M' : dm_M} : ∀ (n : Nat) (M : dm_M) (x1 : Int32) (x3 : Int32) (_ : gM_findTheRing_L51 n M x1 x3 = some (r, M')), dh_W C A (dm_P E A M) (dm_Q E A (some (.int r)) M') 0 0 0 0 51 [(0, .ref (dm_am E)), (1, .int x1), (3, .int x3)] [] := by
  intro n
  induction n with
  | zero => intro M x1 x3 hf; exact dh_no hf
  | succ n ih => intro M x1 x3 hf; exact wM_findTheRing_L51_F hC hK hR (gM_findTheRing_L51 n) ih M x1 x3 hf
def gM_findTheRing_L14_F (k2 : (dm_M → Int32 → Option (Int32 × dm_M))) (k14 : (dm_M → Int32 → Int32 → Option (Int32 × dm_M))) (M : dm_M) (x1 : Int32) (x2 : Int32) : Option (Int32 × dm_M) :=
  (dm_rd M 25 0).bind fun v4 =>
  if v4 ≤ x2 then (
    k2 M (x1 + 1))
  else
  (dm_rd M 33 x2).bind fun v6 =>
  if v6 = 0 then (
    (gM_findRing M x2 x1).bind fun p8 =>
    if p8.1 = 0 then (
      k14 p8.2 x1 (x2 + 1))
    else
    (dm_wr p8.2 41 0 x1).bind fun M10 =>
    gM_findTheRing_L51 dh_fu M10 x1 0)
  else
  k14 M x1 (x2 + 1)
theorem wM_findTheRing_L14_F {C : dh_C} {A : Nat → Prop} {E : dm_E} (hC : dh_ok C cX2_findTheRing 4 RX2 (some .boolean)) (hK : dm_Kn E (dh_s C)) (hR : dh_R C = { frames := 2, cells := 0, slots := 0, locals := 49 }) {r : Int32} {M' : dm_M} (k2 : (dm_M → Int32 → Option (Int32 × dm_M))) (hk2 : ∀ (M : dm_M) (x1 : Int32), k2 M x1 = some (r, M') → dh_W C A (dm_P E A M) (dm_Q E A (some (.int r)) M') 0 0 0 0 2 [(0, .ref (dm_am E)), (1, .int x1)] []) (k14 : (dm_M → Int32 → Int32 → Option (Int32 × dm_M))) (hk14 : ∀ (M : dm_M) (x1 : Int32) (x2 : Int32), k14 M x1 x2 = some (r, M') → dh_W C A (dm_P E A M) (dm_Q E A (some (.int r)) M') 0 0 0 0 14 [(0, .ref (dm_am E)), (1, .int x1), (2, .int x2)] []) (M : dm_M) (x1 : Int32) (x2 : Int32) (hf : gM_findTheRing_L14_F k2 k14 M x1 x2 = some (r, M')) : dh_W C A (dm_P E A M) (dm_Q E A (some (.int r)) M') 0 0 0 0 14 [(0, .ref (dm_am E)), (1, .int x1), (2, .int x2)] [] := by
  unfold gM_findTheRing_L14_F at hf
  refine r_iload_n hC dX2_findTheRing_14 rfl (j := 2) rfl ?_
  refine r_aload_n hC dX2_findTheRing_15 rfl (j := 0) rfl ?_
  refine m_getA hC hK fa_25 dX2_findTheRing_16 ?_
  refine r_iconst hC dX2_findTheRing_19 ki_0 ?_
  obtain ⟨v4, h4, hf⟩ := dh_bd hf
  refine m_iald hC hK kd_25 h4 dX2_findTheRing_20 ?_
  refine r_icmp_ge hC dX2_findTheRing_21 (tgt := 82) (by decide) (fun c5 => ?_) (fun c5 => ?_)
  · have hf := dh_if hf c5
    refine r_iinc (lv' := [(1, .int (x1 + 1)), (0, .ref (dm_am E)), (2, .int x2)]) hC dX2_findTheRing_82 (j := 1) rfl (congrArg _ ki_1) (Nat.le_of_ble_eq_true rfl) rfl ?_
    refine r_goto hC dX2_findTheRing_85 (tgt := 2) (by decide) ?_
    exact r_sub [1, 0] rfl (hk2 M (x1 + 1) hf)
  · have hf := dh_el hf c5
    refine r_aload_n hC dX2_findTheRing_24 rfl (j := 0) rfl ?_
    refine m_getA hC hK fa_33 dX2_findTheRing_25 ?_
    refine r_iload_n hC dX2_findTheRing_28 rfl (j := 2) rfl ?_
    obtain ⟨v6, h6, hf⟩ := dh_bd hf
    refine m_iald hC hK kd_33 h6 dX2_findTheRing_29 ?_
    refine r_if_ne hC dX2_findTheRing_30 (tgt := 76) (by decide) (fun c7 => ?_) (fun c7 => ?_)
    · have hf := dh_el hf c7
      refine r_iinc (lv' := [(2, .int (x2 + 1)), (0, .ref (dm_am E)), (1, .int x1)]) hC dX2_findTheRing_76 (j := 2) rfl (congrArg _ ki_1) (Nat.le_of_ble_eq_true rfl) rfl ?_
      refine r_goto hC dX2_findTheRing_79 (tgt := 14) (by decide) ?_
      exact r_sub [1, 2, 0] rfl (hk14 M x1 (x2 + 1) hf)
    · have hf := dh_if hf c7
      refine r_aload_n hC dX2_findTheRing_33 rfl (j := 0) rfl ?_
      refine r_iload_n hC dX2_findTheRing_34 rfl (j := 2) rfl ?_
      refine r_iload_n hC dX2_findTheRing_35 rfl (j := 1) rfl ?_
      obtain ⟨p8, h8, hf⟩ := dh_bd hf
      refine m_callV' hC hK hR (cM_findRing _ E A M x2 x1 h8) q1704 q_findRing (Nat.le_of_ble_eq_true rfl) (Nat.le_of_ble_eq_true rfl) rfl (Nat.le_of_ble_eq_true rfl) dX2_findTheRing_36 ?_
      refine r_if_eq hC dX2_findTheRing_39 (tgt := 76) (by decide) (fun c9 => ?_) (fun c9 => ?_)
      · have hf := dh_if hf c9
        refine r_iinc (lv' := [(2, .int (x2 + 1)), (0, .ref (dm_am E)), (1, .int x1)]) hC dX2_findTheRing_76 (j := 2) rfl (congrArg _ ki_1) (Nat.le_of_ble_eq_true rfl) rfl ?_
        refine r_goto hC dX2_findTheRing_79 (tgt := 14) (by decide) ?_
        exact r_sub [1, 2, 0] rfl (hk14 p8.2 x1 (x2 + 1) hf)
      · have hf := dh_el hf c9
        refine r_aload_n hC dX2_findTheRing_42 rfl (j := 0) rfl ?_
        refine m_getA hC hK fa_41 dX2_findTheRing_43 ?_
        refine r_iconst hC dX2_findTheRing_46 ki_0 ?_
        refine r_iload_n hC dX2_findTheRing_47 rfl (j := 1) rfl ?_
        obtain ⟨M10, h10, hf⟩ := dh_bd hf
        refine m_iast hC hK kd_41 h10 dX2_findTheRing_48 ?_
        refine r_iconst hC dX2_findTheRing_49 ki_0 ?_
        refine r_istore_n (lv' := [(3, .int 0), (0, .ref (dm_am E)), (1, .int x1), (2, .int x2)]) hC dX2_findTheRing_50 rfl (Nat.le_of_ble_eq_true rfl) rfl ?_
        exact r_sub [1, 2, 0] rfl (wM_findTheRing_L51 hC hK hR dh_fu M10 x1 0 hf)
def gM_findTheRing_L14 (k2 : (dm_M → Int32 → Option (Int32 × dm_M))) : Nat → dm_M → Int32 → Int32 → Option (Int32 × dm_M)
  | 0 => fun _ _ _ => none
  | n + 1 => gM_findTheRing_L14_F k2 (gM_findTheRing_L14 k2 n)
theorem wM_findTheRing_L14 {C : dh_C} {A : Nat → Prop} {E : dm_E} (hC : dh_ok C cX2_findTheRing 4 RX2 (some .boolean)) (hK : dm_Kn E (dh_s C)) (hR : dh_R C = { frames := 2, cells := 0, slots := 0, locals := 49 }) {r : Int32} {M' : dm_M} (k2 : (dm_M → Int32 → Option (Int32 × dm_M))) (hk2 : ∀ (M : dm_M) (x1 : Int32), k2 M x1 = some (r, M') → dh_W C A (dm_P E A M) (dm_Q E A (some (.int r)) M') 0 0 0 0 2 [(0, .ref (dm_am E)), (1, .int x1)] []) : ∀ (n : Nat) (M : dm_M) (x1 : Int32) (x2 : Int32) (_ : gM_findTheRing_L14 k2 n M x1 x2 = some (r, M')), dh_W C A (dm_P E A M) (dm_Q E A (some (.int r)) M') 0 0 0 0 14 [(0, .ref (dm_am E)), (1, .int x1), (2, .int x2)] [] := by
  intro n
  induction n with
  | zero => intro M x1 x2 hf; exact dh_no hf
  | succ n ih => intro M x1 x2 hf; exact wM_findTheRing_L14_F hC hK hR k2 hk2 (gM_findTheRing_L14 k2 n) ih M x1 x2 hf
def gM_findTheRing_L2_F (k2 : (dm_M → Int32 → Option (Int32 × dm_M))) (M : dm_M) (x1 : Int32) : Option (Int32 × dm_M) :=
  (dm_rd M 8 0).bind fun v1 =>
  if ¬ (v1 < x1) then (
    gM_findTheRing_L14 k2 dh_fu M x1 0)
  else
  (dm_wr M 41 0 0).bind fun M3 =>
  some (0, M3)
theorem wM_findTheRing_L2_F {C : dh_C} {A : Nat → Prop} {E : dm_E} (hC : dh_ok C cX2_findTheRing 4 RX2 (some .boolean)) (hK : dm_Kn E (dh_s C)) (hR : dh_R C = { frames := 2, cells := 0, slots := 0, locals := 49 }) {r : Int32} {M' : dm_M} (k2 : (dm_M → Int32 → Option (Int32 × dm_M))) (hk2 : ∀ (M : dm_M) (x1 : Int32), k2 M x1 = some (r, M') → dh_W C A (dm_P E A M) (dm_Q E A (some (.int r)) M') 0 0 0 0 2 [(0, .ref (dm_am E)), (1, .int x1)] []) (M : dm_M) (x1 : Int32) (hf : gM_findTheRing_L2_F k2 M x1 = some (r, M')) : dh_W C A (dm_P E A M) (dm_Q E A (some (.int r)) M') 0 0 0 0 2 [(0, .ref (dm_am E)), (1, .int x1)] [] := by
  unfold gM_findTheRing_L2_F at hf
  refine r_iload_n hC dX2_findTheRing_2 rfl (j := 1) rfl ?_
  refine r_aload_n hC dX2_findTheRing_3 rfl (j := 0) rfl ?_
  refine m_getA hC hK fa_8 dX2_findTheRing_4 ?_
  refine r_iconst hC dX2_findTheRing_7 ki_0 ?_
  obtain ⟨v1, h1, hf⟩ := dh_bd hf
  refine m_iald hC hK kd_8 h1 dX2_findTheRing_8 ?_
  refine r_icmp_gt hC dX2_findTheRing_9 (tgt := 88) (by decide) (fun c2 => ?_) (fun c2 => ?_)
  · have hf := dh_el hf (fun q => q c2)
    refine r_aload_n hC dX2_findTheRing_88 rfl (j := 0) rfl ?_
    refine m_getA hC hK fa_41 dX2_findTheRing_89 ?_
    refine r_iconst hC dX2_findTheRing_92 ki_0 ?_
    refine r_iconst hC dX2_findTheRing_93 ki_0 ?_
    obtain ⟨M3, h3, hf⟩ := dh_bd hf
    refine m_iast hC hK kd_41 h3 dX2_findTheRing_94 ?_
    refine r_iconst hC dX2_findTheRing_95 ki_0 ?_
    exact m_zret hC dX2_findTheRing_96 rfl rfl hf
  · have hf := dh_if hf c2
    refine r_iconst hC dX2_findTheRing_12 ki_0 ?_
    refine r_istore_n (lv' := [(2, .int 0), (0, .ref (dm_am E)), (1, .int x1)]) hC dX2_findTheRing_13 rfl (Nat.le_of_ble_eq_true rfl) rfl ?_
    exact r_sub [1, 2, 0] rfl (wM_findTheRing_L14 hC hK hR k2 hk2 dh_fu M x1 0 hf)
def gM_findTheRing_L2 : Nat → dm_M → Int32 → Option (Int32 × dm_M)
  | 0 => fun _ _ => none
  | n + 1 => gM_findTheRing_L2_F (gM_findTheRing_L2 n)
theorem wM_findTheRing_L2 {C : dh_C} {A : Nat → Prop} {E : dm_E} (hC : dh_ok C cX2_findTheRing 4 RX2 (some .boolean)) (hK : dm_Kn E (dh_s C)) (hR : dh_R C = { frames := 2, cells := 0, slots := 0, locals := 49 }) {r : Int32} {M' : dm_M} : ∀ (n : Nat) (M : dm_M) (x1 : Int32) (_ : gM_findTheRing_L2 n M x1 = some (r, M')), dh_W C A (dm_P E A M) (dm_Q E A (some (.int r)) M') 0 0 0 0 2 [(0, .ref (dm_am E)), (1, .int x1)] [] := by
  intro n
  induction n with
  | zero => intro M x1 hf; exact dh_no hf
  | succ n ih => intro M x1 hf; exact wM_findTheRing_L2_F hC hK hR (gM_findTheRing_L2 n) ih M x1 hf
def gM_findTheRing (M : dm_M) : Option (Int32 × dm_M) :=
  gM_findTheRing_L2 dh_fu M 2
theorem wM_findTheRing {C : dh_C} {A : Nat → Prop} {E : dm_E} (hC : dh_ok C cX2_findTheRing 4 RX2 (some .boolean)) (hK : dm_Kn E (dh_s C)) (hR : dh_R C = { frames := 2, cells := 0, slots := 0, locals := 49 }) {r : Int32} {M' : dm_M} (M : dm_M) (hf : gM_findTheRing M = some (r, M')) : dh_W C A (dm_P E A M) (dm_Q E A (some (.int r)) M') 0 0 0 0 0 [(0, .ref (dm_am E))] [] := by
  unfold gM_findTheRing at hf
  refine r_iconst hC dX2_findTheRing_0 ki_2 ?_
  refine r_istore_n (lv' := [(1, .int 2), (0, .ref (dm_am E))]) hC dX2_findTheRing_1 rfl (Nat.le_of_ble_eq_true rfl) rfl ?_
  exact r_sub [1, 0] rfl (wM_findTheRing_L2 hC hK hR dh_fu M 2 hf)
theorem cM_findTheRing (l : Launch) (E : dm_E) (A : Nat → Prop) (M : dm_M) {p : Int32 × dm_M} (h : gM_findTheRing M = some p) : dm_Met l yX2_findTheRing cX2_findTheRing 4 (some .boolean) 2 49 E A [.ref (dm_am E)] M (some (.int p.1)) p.2 := by
  refine dh_met (by decide) (Nat.le_of_ble_eq_true rfl) (fun _ _ h => ⟨_, h.1⟩) (fun C hl hR hC hnm hK => ?_)
  exact wM_findTheRing hC hK hR M h
theorem q_findTheRing : dm_calV yX2_findTheRing cX2_findTheRing 4 (some .boolean) 0 := ⟨q1702, qs47, q1703, by decide +kernel⟩
/-! partRank(II)V -/
def gM_partRank_L213_F (k195 : (dm_M → Int32 → Int64 → Int32 → Option dm_M)) (k213 : (dm_M → Int32 → Int64 → Int32 → Int32 → Int32 → Option dm_M)) (M : dm_M) (x2 : Int32) (x3 : Int64) (x5 : Int32) (x6 : Int32) (x7 : Int32) : Option dm_M :=
  (dm_rd M 25 0).bind fun v7 =>
  if v7 ≤ x7 then (
    (dm_rd M 75 x6).bind fun v9 =>
    (dm_wr M 75 x6 (v9 + 1)).bind fun M10 =>
    (dm_wrL M10 76 x6 (-1)).bind fun M11 =>
    k195 M11 x2 x3 (x5 + (-1)))
  else
  (dm_rdL M 76 x7).bind fun v12 =>
  if (lg_cmp v12 0) < 0 then (
    k213 M x2 x3 x5 x6 (x7 + 1))
  else
  if x6 = (-1) then (
    k213 M x2 x3 x5 x7 (x7 + 1))
  else
  (dm_rdL M 76 x7).bind fun v15 =>
  (dm_rdL M 76 x6).bind fun v16 =>
  if (lg_cmp v15 v16) ≤ 0 then (
    k213 M x2 x3 x5 x6 (x7 + 1))
  else
  k213 M x2 x3 x5 x7 (x7 + 1)
theorem wM_partRank_L213_F {C : dh_C} {A : Nat → Prop} {E : dm_E} (hC : dh_ok C cX2_partRank 8 RX2 none) (hK : dm_Kn E (dh_s C)) (hR : dh_R C = { frames := 0, cells := 0, slots := 0, locals := 0 }) {M' : dm_M} (k195 : (dm_M → Int32 → Int64 → Int32 → Option dm_M)) (hk195 : ∀ (M : dm_M) (x2 : Int32) (x3 : Int64) (x5 : Int32), k195 M x2 x3 x5 = some M' → dh_W C A (dm_P E A M) (dm_Q E A none M') 0 0 0 0 195 [(0, .ref (dm_am E)), (2, .int x2), (3, .long x3), (5, .int x5)] []) (k213 : (dm_M → Int32 → Int64 → Int32 → Int32 → Int32 → Option dm_M)) (hk213 : ∀ (M : dm_M) (x2 : Int32) (x3 : Int64) (x5 : Int32) (x6 : Int32) (x7 : Int32), k213 M x2 x3 x5 x6 x7 = some M' → dh_W C A (dm_P E A M) (dm_Q E A none M') 0 0 0 0 213 [(0, .ref (dm_am E)), (2, .int x2), (3, .long x3), (5, .int x5), (6, .int x6), (7, .int x7)] []) (M : dm_M) (x2 : Int32) (x3 : Int64) (x5 : Int32) (x6 : Int32) (x7 : Int32) (hf : gM_partRank_L213_F k195 k213 M x2 x3 x5 x6 x7 = some M') : dh_W C A (dm_P E A M) (dm_Q E A none M') 0 0 0 0 213 [(0, .ref (dm_am E)), (2, .int x2), (3, .long x3), (5, .int x5), (6, .int x6), (7, .int x7)] [] := by
  unfold gM_partRank_L213_F at hf
  refine r_iload hC dX2_partRank_213 (j := 5) rfl ?_
  refine r_aload_n hC dX2_partRank_215 rfl (j := 0) rfl ?_
  refine m_getA hC hK fa_25 dX2_partRank_216 ?_
  refine r_iconst hC dX2_partRank_219 ki_0 ?_
  obtain ⟨v7, h7, hf⟩ := dh_bd hf
  refine m_iald hC hK kd_25 h7 dX2_partRank_220 ?_
  refine r_icmp_ge hC dX2_partRank_221 (tgt := 275) (by decide) (fun c8 => ?_) (fun c8 => ?_)
  · have hf := dh_if hf c8
    refine r_aload_n hC dX2_partRank_275 rfl (j := 0) rfl ?_
    refine m_getA hC hK fa_75 dX2_partRank_276 ?_
    refine r_iload hC dX2_partRank_279 (j := 4) rfl ?_
    refine r_dup2_11 hC dX2_partRank_281 rfl rfl ?_
    obtain ⟨v9, h9, hf⟩ := dh_bd hf
    refine m_iald hC hK kd_75 h9 dX2_partRank_282 ?_
    refine r_iconst hC dX2_partRank_283 ki_1 ?_
    refine r_iadd hC dX2_partRank_284 ?_
    obtain ⟨M10, h10, hf⟩ := dh_bd hf
    refine m_iast hC hK kd_75 h10 dX2_partRank_285 ?_
    refine r_aload_n hC dX2_partRank_286 rfl (j := 0) rfl ?_
    refine m_getA hC hK fa_76 dX2_partRank_287 ?_
    refine r_iload hC dX2_partRank_290 (j := 4) rfl ?_
    refine r_ldc2 hC q1954 dX2_partRank_292 ?_
    obtain ⟨M11, h11, hf⟩ := dh_bd hf
    refine m_last hC hK kd_76 h11 dX2_partRank_295 ?_
    refine r_iinc (lv' := [(5, .int (x5 + (-1))), (0, .ref (dm_am E)), (2, .int x2), (3, .long x3), (6, .int x6), (7, .int x7)]) hC dX2_partRank_296 (j := 3) rfl (congrArg _ ki_m1) (Nat.le_of_ble_eq_true rfl) rfl ?_
    refine r_goto hC dX2_partRank_299 (tgt := 195) (by decide) ?_
    exact r_sub [1, 2, 3, 0] rfl (hk195 M11 x2 x3 (x5 + (-1)) hf)
  · have hf := dh_el hf c8
    refine r_aload_n hC dX2_partRank_224 rfl (j := 0) rfl ?_
    refine m_getA hC hK fa_76 dX2_partRank_225 ?_
    refine r_iload hC dX2_partRank_228 (j := 5) rfl ?_
    obtain ⟨v12, h12, hf⟩ := dh_bd hf
    refine m_lald hC hK kd_76 h12 dX2_partRank_230 ?_
    refine r_lconst hC dX2_partRank_231 kl_0 ?_
    refine r_lcmp hC dX2_partRank_232 ?_
    refine r_if_lt hC dX2_partRank_233 (tgt := 265) (by decide) (fun c13 => ?_) (fun c13 => ?_)
    · have hf := dh_if hf c13
      refine r_iload hC dX2_partRank_265 (j := 4) rfl ?_
      refine r_istore (lv' := [(6, .int x6), (0, .ref (dm_am E)), (2, .int x2), (3, .long x3), (5, .int x5), (7, .int x7)]) hC dX2_partRank_267 (Nat.le_of_ble_eq_true rfl) rfl ?_
      refine r_iinc (lv' := [(7, .int (x7 + 1)), (6, .int x6), (0, .ref (dm_am E)), (2, .int x2), (3, .long x3), (5, .int x5)]) hC dX2_partRank_269 (j := 5) rfl (congrArg _ ki_1) (Nat.le_of_ble_eq_true rfl) rfl ?_
      refine r_goto hC dX2_partRank_272 (tgt := 213) (by decide) ?_
      exact r_sub [2, 3, 4, 5, 1, 0] rfl (hk213 M x2 x3 x5 x6 (x7 + 1) hf)
    · have hf := dh_el hf c13
      refine r_iload hC dX2_partRank_236 (j := 4) rfl ?_
      refine r_iconst hC dX2_partRank_238 ki_m1 ?_
      refine r_icmp_eq hC dX2_partRank_239 (tgt := 260) (by decide) (fun c14 => ?_) (fun c14 => ?_)
      · have hf := dh_if hf c14
        refine r_iload hC dX2_partRank_260 (j := 5) rfl ?_
        refine r_goto hC dX2_partRank_262 (tgt := 267) (by decide) ?_
        refine r_istore (lv' := [(6, .int x7), (0, .ref (dm_am E)), (2, .int x2), (3, .long x3), (5, .int x5), (7, .int x7)]) hC dX2_partRank_267 (Nat.le_of_ble_eq_true rfl) rfl ?_
        refine r_iinc (lv' := [(7, .int (x7 + 1)), (6, .int x7), (0, .ref (dm_am E)), (2, .int x2), (3, .long x3), (5, .int x5)]) hC dX2_partRank_269 (j := 5) rfl (congrArg _ ki_1) (Nat.le_of_ble_eq_true rfl) rfl ?_
        refine r_goto hC dX2_partRank_272 (tgt := 213) (by decide) ?_
        exact r_sub [2, 3, 4, 5, 1, 0] rfl (hk213 M x2 x3 x5 x7 (x7 + 1) hf)
      · have hf := dh_el hf c14
        refine r_aload_n hC dX2_partRank_242 rfl (j := 0) rfl ?_
        refine m_getA hC hK fa_76 dX2_partRank_243 ?_
        refine r_iload hC dX2_partRank_246 (j := 5) rfl ?_
        obtain ⟨v15, h15, hf⟩ := dh_bd hf
        refine m_lald hC hK kd_76 h15 dX2_partRank_248 ?_
        refine r_aload_n hC dX2_partRank_249 rfl (j := 0) rfl ?_
        refine m_getA hC hK fa_76 dX2_partRank_250 ?_
        refine r_iload hC dX2_partRank_253 (j := 4) rfl ?_
        obtain ⟨v16, h16, hf⟩ := dh_bd hf
        refine m_lald hC hK kd_76 h16 dX2_partRank_255 ?_
        refine r_lcmp hC dX2_partRank_256 ?_
        refine r_if_le hC dX2_partRank_257 (tgt := 265) (by decide) (fun c17 => ?_) (fun c17 => ?_)
        · have hf := dh_if hf c17
          refine r_iload hC dX2_partRank_265 (j := 4) rfl ?_
          refine r_istore (lv' := [(6, .int x6), (0, .ref (dm_am E)), (2, .int x2), (3, .long x3), (5, .int x5), (7, .int x7)]) hC dX2_partRank_267 (Nat.le_of_ble_eq_true rfl) rfl ?_
          refine r_iinc (lv' := [(7, .int (x7 + 1)), (6, .int x6), (0, .ref (dm_am E)), (2, .int x2), (3, .long x3), (5, .int x5)]) hC dX2_partRank_269 (j := 5) rfl (congrArg _ ki_1) (Nat.le_of_ble_eq_true rfl) rfl ?_
          refine r_goto hC dX2_partRank_272 (tgt := 213) (by decide) ?_
          exact r_sub [2, 3, 4, 5, 1, 0] rfl (hk213 M x2 x3 x5 x6 (x7 + 1) hf)
        · have hf := dh_el hf c17
          refine r_iload hC dX2_partRank_260 (j := 5) rfl ?_
          refine r_goto hC dX2_partRank_262 (tgt := 267) (by decide) ?_
          refine r_istore (lv' := [(6, .int x7), (0, .ref (dm_am E)), (2, .int x2), (3, .long x3), (5, .int x5), (7, .int x7)]) hC dX2_partRank_267 (Nat.le_of_ble_eq_true rfl) rfl ?_
          refine r_iinc (lv' := [(7, .int (x7 + 1)), (6, .int x7), (0, .ref (dm_am E)), (2, .int x2), (3, .long x3), (5, .int x5)]) hC dX2_partRank_269 (j := 5) rfl (congrArg _ ki_1) (Nat.le_of_ble_eq_true rfl) rfl ?_
          refine r_goto hC dX2_partRank_272 (tgt := 213) (by decide) ?_
          exact r_sub [2, 3, 4, 5, 1, 0] rfl (hk213 M x2 x3 x5 x7 (x7 + 1) hf)
def gM_partRank_L213 (k195 : (dm_M → Int32 → Int64 → Int32 → Option dm_M)) : Nat → dm_M → Int32 → Int64 → Int32 → Int32 → Int32 → Option dm_M
  | 0 => fun _ _ _ _ _ _ => none
  | n + 1 => gM_partRank_L213_F k195 (gM_partRank_L213 k195 n)
theorem wM_partRank_L213 {C : dh_C} {A : Nat → Prop} {E : dm_E} (hC : dh_ok C cX2_partRank 8 RX2 none) (hK : dm_Kn E (dh_s C)) (hR : dh_R C = { frames := 0, cells := 0, slots := 0, locals := 0 }) {M' : dm_M} (k195 : (dm_M → Int32 → Int64 → Int32 → Option dm_M)) (hk195 : ∀ (M : dm_M) (x2 : Int32) (x3 : Int64) (x5 : Int32), k195 M x2 x3 x5 = some M' → dh_W C A (dm_P E A M) (dm_Q E A none M') 0 0 0 0 195 [(0, .ref (dm_am E)), (2, .int x2), (3, .long x3), (5, .int x5)] []) : ∀ (n : Nat) (M : dm_M) (x2 : Int32) (x3 : Int64) (x5 : Int32) (x6 : Int32) (x7 : Int32) (_ : gM_partRank_L213 k195 n M x2 x3 x5 x6 x7 = some M'), dh_W C A (dm_P E A M) (dm_Q E A none M') 0 0 0 0 213 [(0, .ref (dm_am E)), (2, .int x2), (3, .long x3), (5, .int x5), (6, .int x6), (7, .int x7)] [] := by
  intro n
  induction n with
  | zero => intro M x2 x3 x5 x6 x7 hf; exact dh_no hf
  | succ n ih => intro M x2 x3 x5 x6 x7 hf; exact wM_partRank_L213_F hC hK hR k195 hk195 (gM_partRank_L213 k195 n) ih M x2 x3 x5 x6 x7 hf
def gM_partRank_L195_F (k195 : (dm_M → Int32 → Int64 → Int32 → Option dm_M)) (M : dm_M) (x2 : Int32) (x3 : Int64) (x5 : Int32) : Option dm_M :=
  if (lg_cmp x3 (Int32.toInt64 x2)) ≤ 0 then (
    some M)
  else
  if x5 ≤ 0 then (
    some M)
  else
  gM_partRank_L213 k195 dh_fu M x2 x3 x5 (-1) 0
theorem wM_partRank_L195_F {C : dh_C} {A : Nat → Prop} {E : dm_E} (hC : dh_ok C cX2_partRank 8 RX2 none) (hK : dm_Kn E (dh_s C)) (hR : dh_R C = { frames := 0, cells := 0, slots := 0, locals := 0 }) {M' : dm_M} (k195 : (dm_M → Int32 → Int64 → Int32 → Option dm_M)) (hk195 : ∀ (M : dm_M) (x2 : Int32) (x3 : Int64) (x5 : Int32), k195 M x2 x3 x5 = some M' → dh_W C A (dm_P E A M) (dm_Q E A none M') 0 0 0 0 195 [(0, .ref (dm_am E)), (2, .int x2), (3, .long x3), (5, .int x5)] []) (M : dm_M) (x2 : Int32) (x3 : Int64) (x5 : Int32) (hf : gM_partRank_L195_F k195 M x2 x3 x5 = some M') : dh_W C A (dm_P E A M) (dm_Q E A none M') 0 0 0 0 195 [(0, .ref (dm_am E)), (2, .int x2), (3, .long x3), (5, .int x5)] [] := by
  unfold gM_partRank_L195_F at hf
  refine r_lload_n hC dX2_partRank_195 rfl (j := 2) rfl ?_
  refine r_iload_n hC dX2_partRank_196 rfl (j := 1) rfl ?_
  refine r_i2l hC dX2_partRank_197 ?_
  refine r_lcmp hC dX2_partRank_198 ?_
  refine r_if_le hC dX2_partRank_199 (tgt := 302) (by decide) (fun c5 => ?_) (fun c5 => ?_)
  · have hf := dh_if hf c5
    exact m_vret hC dX2_partRank_302 rfl hf
  · have hf := dh_el hf c5
    refine r_iload hC dX2_partRank_202 (j := 3) rfl ?_
    refine r_if_le hC dX2_partRank_204 (tgt := 302) (by decide) (fun c6 => ?_) (fun c6 => ?_)
    · have hf := dh_if hf c6
      exact m_vret hC dX2_partRank_302 rfl hf
    · have hf := dh_el hf c6
      refine r_iconst hC dX2_partRank_207 ki_m1 ?_
      refine r_istore (lv' := [(6, .int (-1)), (0, .ref (dm_am E)), (2, .int x2), (3, .long x3), (5, .int x5)]) hC dX2_partRank_208 (Nat.le_of_ble_eq_true rfl) rfl ?_
      refine r_iconst hC dX2_partRank_210 ki_0 ?_
      refine r_istore (lv' := [(7, .int 0), (6, .int (-1)), (0, .ref (dm_am E)), (2, .int x2), (3, .long x3), (5, .int x5)]) hC dX2_partRank_211 (Nat.le_of_ble_eq_true rfl) rfl ?_
      exact r_sub [2, 3, 4, 5, 1, 0] rfl (wM_partRank_L213 hC hK hR k195 hk195 dh_fu M x2 x3 x5 (-1) 0 hf)
def gM_partRank_L195 : Nat → dm_M → Int32 → Int64 → Int32 → Option dm_M
  | 0 => fun _ _ _ _ => none
  | n + 1 => gM_partRank_L195_F (gM_partRank_L195 n)
theorem wM_partRank_L195 {C : dh_C} {A : Nat → Prop} {E : dm_E} (hC : dh_ok C cX2_partRank 8 RX2 none) (hK : dm_Kn E (dh_s C)) (hR : dh_R C = { frames := 0, cells := 0, slots := 0, locals := 0 }) {M' : dm_M} : ∀ (n : Nat) (M : dm_M) (x2 : Int32) (x3 : Int64) (x5 : Int32) (_ : gM_partRank_L195 n M x2 x3 x5 = some M'), dh_W C A (dm_P E A M) (dm_Q E A none M') 0 0 0 0 195 [(0, .ref (dm_am E)), (2, .int x2), (3, .long x3), (5, .int x5)] [] := by
  intro n
  induction n with
  | zero => intro M x2 x3 x5 hf; exact dh_no hf
  | succ n ih => intro M x2 x3 x5 hf; exact wM_partRank_L195_F hC hK hR (gM_partRank_L195 n) ih M x2 x3 x5 hf
def gM_partRank_b145 (k54 : (dm_M → Int32 → Int32 → Int64 → Int32 → Int32 → Option dm_M)) (M : dm_M) (x1 : Int32) (x2 : Int32) (x3 : Int64) (x5 : Int32) (x6 : Int32) (x7 : Int32) (y0 : Int32) (y1 : Int32) : Option dm_M :=
  (dm_wr M 75 y1 y0).bind fun M27 =>
  if ¬ (x7 = 0) then (
    (dm_wrL M27 76 x6 (-1)).bind fun M33 =>
    (dm_rd M33 75 x6).bind fun v34 =>
    k54 M33 x1 x2 x3 (x5 - v34) (x6 + 1))
  else
  (dm_rd M27 74 x6).bind fun v29 =>
  if x3 = 0 then none else
  (dm_wrL M27 76 x6 (((Int32.toInt64 v29) * (Int32.toInt64 x2)) - ((Int32.toInt64 v29) * (Int32.toInt64 x2)) / x3 * x3)).bind fun M31 =>
  (dm_rd M31 75 x6).bind fun v32 =>
  k54 M31 x1 x2 x3 (x5 - v32) (x6 + 1)
theorem wM_partRank_b145 {C : dh_C} {A : Nat → Prop} {E : dm_E} (hC : dh_ok C cX2_partRank 8 RX2 none) (hK : dm_Kn E (dh_s C)) (hR : dh_R C = { frames := 0, cells := 0, slots := 0, locals := 0 }) {M' : dm_M} (k54 : (dm_M → Int32 → Int32 → Int64 → Int32 → Int32 → Option dm_M)) (hk54 : ∀ (M : dm_M) (x1 : Int32) (x2 : Int32) (x3 : Int64) (x5 : Int32) (x6 : Int32), k54 M x1 x2 x3 x5 x6 = some M' → dh_W C A (dm_P E A M) (dm_Q E A none M') 0 0 0 0 54 [(0, .ref (dm_am E)), (1, .int x1), (2, .int x2), (3, .long x3), (5, .int x5), (6, .int x6)] []) (M : dm_M) (x1 : Int32) (x2 : Int32) (x3 : Int64) (x5 : Int32) (x6 : Int32) (x7 : Int32) (y0 : Int32) (y1 : Int32) (hf : gM_partRank_b145 k54 M x1 x2 x3 x5 x6 x7 y0 y1 = some M') : dh_W C A (dm_P E A M) (dm_Q E A none M') 0 0 0 0 145 [(0, .ref (dm_am E)), (1, .int x1), (2, .int x2), (3, .long x3), (5, .int x5), (6, .int x6), (7, .int x7)] [.int y0, .int y1, .ref (dm_am E + dm_ad 75)] := by
  unfold gM_partRank_b145 at hf
  obtain ⟨M27, h27, hf⟩ := dh_bd hf
  refine m_iast hC hK kd_75 h27 dX2_partRank_145 ?_
  refine r_aload_n hC dX2_partRank_146 rfl (j := 0) rfl ?_
  refine m_getA hC hK fa_76 dX2_partRank_147 ?_
  refine r_iload hC dX2_partRank_150 (j := 5) rfl ?_
  refine r_iload hC dX2_partRank_152 (j := 6) rfl ?_
  refine r_if_eq hC dX2_partRank_154 (tgt := 163) (by decide) (fun c28 => ?_) (fun c28 => ?_)
  · have hf := dh_el hf (fun q => q c28)
    refine r_aload_n hC dX2_partRank_163 rfl (j := 0) rfl ?_
    refine m_getA hC hK fa_74 dX2_partRank_164 ?_
    refine r_iload hC dX2_partRank_167 (j := 5) rfl ?_
    obtain ⟨v29, h29, hf⟩ := dh_bd hf
    refine m_iald hC hK kd_74 h29 dX2_partRank_169 ?_
    refine r_i2l hC dX2_partRank_170 ?_
    refine r_iload_n hC dX2_partRank_171 rfl (j := 2) rfl ?_
    refine r_i2l hC dX2_partRank_172 ?_
    refine r_lmul hC dX2_partRank_173 ?_
    refine r_lload_n hC dX2_partRank_174 rfl (j := 3) rfl ?_
    obtain ⟨hz30, hf⟩ := dh_nz hf
    refine r_lrem hC dX2_partRank_175 hz30 ?_
    obtain ⟨M31, h31, hf⟩ := dh_bd hf
    refine m_last hC hK kd_76 h31 dX2_partRank_176 ?_
    refine r_iload hC dX2_partRank_177 (j := 4) rfl ?_
    refine r_aload_n hC dX2_partRank_179 rfl (j := 0) rfl ?_
    refine m_getA hC hK fa_75 dX2_partRank_180 ?_
    refine r_iload hC dX2_partRank_183 (j := 5) rfl ?_
    obtain ⟨v32, h32, hf⟩ := dh_bd hf
    refine m_iald hC hK kd_75 h32 dX2_partRank_185 ?_
    refine r_isub hC dX2_partRank_186 ?_
    refine r_istore (lv' := [(5, .int (x5 - v32)), (0, .ref (dm_am E)), (1, .int x1), (2, .int x2), (3, .long x3), (6, .int x6), (7, .int x7)]) hC dX2_partRank_187 (Nat.le_of_ble_eq_true rfl) rfl ?_
    refine r_iinc (lv' := [(6, .int (x6 + 1)), (5, .int (x5 - v32)), (0, .ref (dm_am E)), (1, .int x1), (2, .int x2), (3, .long x3), (7, .int x7)]) hC dX2_partRank_189 (j := 5) rfl (congrArg _ ki_1) (Nat.le_of_ble_eq_true rfl) rfl ?_
    refine r_goto hC dX2_partRank_192 (tgt := 54) (by decide) ?_
    exact r_sub [2, 3, 4, 5, 1, 0] rfl (hk54 M31 x1 x2 x3 (x5 - v32) (x6 + 1) hf)
  · have hf := dh_if hf c28
    refine r_ldc2 hC q1954 dX2_partRank_157 ?_
    refine r_goto hC dX2_partRank_160 (tgt := 176) (by decide) ?_
    obtain ⟨M33, h33, hf⟩ := dh_bd hf
    refine m_last hC hK kd_76 h33 dX2_partRank_176 ?_
    refine r_iload hC dX2_partRank_177 (j := 4) rfl ?_
    refine r_aload_n hC dX2_partRank_179 rfl (j := 0) rfl ?_
    refine m_getA hC hK fa_75 dX2_partRank_180 ?_
    refine r_iload hC dX2_partRank_183 (j := 5) rfl ?_
    obtain ⟨v34, h34, hf⟩ := dh_bd hf
    refine m_iald hC hK kd_75 h34 dX2_partRank_185 ?_
    refine r_isub hC dX2_partRank_186 ?_
    refine r_istore (lv' := [(5, .int (x5 - v34)), (0, .ref (dm_am E)), (1, .int x1), (2, .int x2), (3, .long x3), (6, .int x6), (7, .int x7)]) hC dX2_partRank_187 (Nat.le_of_ble_eq_true rfl) rfl ?_
    refine r_iinc (lv' := [(6, .int (x6 + 1)), (5, .int (x5 - v34)), (0, .ref (dm_am E)), (1, .int x1), (2, .int x2), (3, .long x3), (7, .int x7)]) hC dX2_partRank_189 (j := 5) rfl (congrArg _ ki_1) (Nat.le_of_ble_eq_true rfl) rfl ?_
    refine r_goto hC dX2_partRank_192 (tgt := 54) (by decide) ?_
    exact r_sub [2, 3, 4, 5, 1, 0] rfl (hk54 M33 x1 x2 x3 (x5 - v34) (x6 + 1) hf)
def gM_partRank_b108 (k54 : (dm_M → Int32 → Int32 → Int64 → Int32 → Int32 → Option dm_M)) (M : dm_M) (x1 : Int32) (x2 : Int32) (x3 : Int64) (x5 : Int32) (x6 : Int32) (y0 : Int32) : Option dm_M :=
  if ¬ (y0 = 0) then (
    (dm_rd M 74 x6).bind fun v35 =>
    gM_partRank_b145 k54 M x1 x2 x3 x5 x6 y0 v35 x6)
  else
  (dm_rd M 74 x6).bind fun v25 =>
  if x3 = 0 then none else
  gM_partRank_b145 k54 M x1 x2 x3 x5 x6 y0 (Int64.toInt32 (((Int32.toInt64 v25) * (Int32.toInt64 x2)) / x3)) x6
theorem wM_partRank_b108 {C : dh_C} {A : Nat → Prop} {E : dm_E} (hC : dh_ok C cX2_partRank 8 RX2 none) (hK : dm_Kn E (dh_s C)) (hR : dh_R C = { frames := 0, cells := 0, slots := 0, locals := 0 }) {M' : dm_M} (k54 : (dm_M → Int32 → Int32 → Int64 → Int32 → Int32 → Option dm_M)) (hk54 : ∀ (M : dm_M) (x1 : Int32) (x2 : Int32) (x3 : Int64) (x5 : Int32) (x6 : Int32), k54 M x1 x2 x3 x5 x6 = some M' → dh_W C A (dm_P E A M) (dm_Q E A none M') 0 0 0 0 54 [(0, .ref (dm_am E)), (1, .int x1), (2, .int x2), (3, .long x3), (5, .int x5), (6, .int x6)] []) (M : dm_M) (x1 : Int32) (x2 : Int32) (x3 : Int64) (x5 : Int32) (x6 : Int32) (y0 : Int32) (hf : gM_partRank_b108 k54 M x1 x2 x3 x5 x6 y0 = some M') : dh_W C A (dm_P E A M) (dm_Q E A none M') 0 0 0 0 108 [(0, .ref (dm_am E)), (1, .int x1), (2, .int x2), (3, .long x3), (5, .int x5), (6, .int x6)] [.int y0] := by
  unfold gM_partRank_b108 at hf
  refine r_istore (lv' := [(7, .int y0), (0, .ref (dm_am E)), (1, .int x1), (2, .int x2), (3, .long x3), (5, .int x5), (6, .int x6)]) hC dX2_partRank_108 (Nat.le_of_ble_eq_true rfl) rfl ?_
  refine r_aload_n hC dX2_partRank_110 rfl (j := 1) rfl ?_
  refine m_getA hC hK fa_75 dX2_partRank_111 ?_
  refine r_iload hC dX2_partRank_114 (j := 6) rfl ?_
  refine r_iload hC dX2_partRank_116 (j := 0) rfl ?_
  refine r_if_eq hC dX2_partRank_118 (tgt := 131) (by decide) (fun c24 => ?_) (fun c24 => ?_)
  · have hf := dh_el hf (fun q => q c24)
    refine r_aload_n hC dX2_partRank_131 rfl (j := 1) rfl ?_
    refine m_getA hC hK fa_74 dX2_partRank_132 ?_
    refine r_iload hC dX2_partRank_135 (j := 6) rfl ?_
    obtain ⟨v25, h25, hf⟩ := dh_bd hf
    refine m_iald hC hK kd_74 h25 dX2_partRank_137 ?_
    refine r_i2l hC dX2_partRank_138 ?_
    refine r_iload_n hC dX2_partRank_139 rfl (j := 3) rfl ?_
    refine r_i2l hC dX2_partRank_140 ?_
    refine r_lmul hC dX2_partRank_141 ?_
    refine r_lload_n hC dX2_partRank_142 rfl (j := 4) rfl ?_
    obtain ⟨hz26, hf⟩ := dh_nz hf
    refine r_ldiv hC dX2_partRank_143 hz26 ?_
    refine r_l2i hC dX2_partRank_144 ?_
    exact r_sub [1, 2, 3, 4, 5, 6, 0] rfl (wM_partRank_b145 hC hK hR k54 hk54 M x1 x2 x3 x5 x6 y0 (Int64.toInt32 (((Int32.toInt64 v25) * (Int32.toInt64 x2)) / x3)) x6 hf)
  · have hf := dh_if hf c24
    refine r_aload_n hC dX2_partRank_121 rfl (j := 1) rfl ?_
    refine m_getA hC hK fa_74 dX2_partRank_122 ?_
    refine r_iload hC dX2_partRank_125 (j := 6) rfl ?_
    obtain ⟨v35, h35, hf⟩ := dh_bd hf
    refine m_iald hC hK kd_74 h35 dX2_partRank_127 ?_
    refine r_goto hC dX2_partRank_128 (tgt := 145) (by decide) ?_
    exact r_sub [1, 2, 3, 4, 5, 6, 0] rfl (wM_partRank_b145 hC hK hR k54 hk54 M x1 x2 x3 x5 x6 y0 v35 x6 hf)
def gM_partRank_L54_F (k54 : (dm_M → Int32 → Int32 → Int64 → Int32 → Int32 → Option dm_M)) (M : dm_M) (x1 : Int32) (x2 : Int32) (x3 : Int64) (x5 : Int32) (x6 : Int32) : Option dm_M :=
  (dm_rd M 25 0).bind fun v3 =>
  if v3 ≤ x6 then (
    gM_partRank_L195 dh_fu M x2 x3 x5)
  else
  (dm_wrL M 76 x6 (-1)).bind fun M18 =>
  (dm_rd M18 29 x6).bind fun v19 =>
  if v19 = x1 then (
    (dm_rd M18 74 x6).bind fun v21 =>
    if v21 ≤ 0 then (
      k54 M18 x1 x2 x3 x5 (x6 + 1))
    else
    if (lg_cmp (Int32.toInt64 x2) x3) < 0 then (
      gM_partRank_b108 k54 M18 x1 x2 x3 x5 x6 0)
    else
    gM_partRank_b108 k54 M18 x1 x2 x3 x5 x6 1)
  else
  k54 M18 x1 x2 x3 x5 (x6 + 1)
theorem wM_partRank_L54_F {C : dh_C} {A : Nat → Prop} {E : dm_E} (hC : dh_ok C cX2_partRank 8 RX2 none) (hK : dm_Kn E (dh_s C)) (hR : dh_R C = { frames := 0, cells := 0, slots := 0, locals := 0 }) {M' : dm_M} (k54 : (dm_M → Int32 → Int32 → Int64 → Int32 → Int32 → Option dm_M)) (hk54 : ∀ (M : dm_M) (x1 : Int32) (x2 : Int32) (x3 : Int64) (x5 : Int32) (x6 : Int32), k54 M x1 x2 x3 x5 x6 = some M' → dh_W C A (dm_P E A M) (dm_Q E A none M') 0 0 0 0 54 [(0, .ref (dm_am E)), (1, .int x1), (2, .int x2), (3, .long x3), (5, .int x5), (6, .int x6)] []) (M : dm_M) (x1 : Int32) (x2 : Int32) (x3 : Int64) (x5 : Int32) (x6 : Int32) (hf : gM_partRank_L54_F k54 M x1 x2 x3 x5 x6 = some M') : dh_W C A (dm_P E A M) (dm_Q E A none M') 0 0 0 0 54 [(0, .ref (dm_am E)), (1, .int x1), (2, .int x2), (3, .long x3), (5, .int x5), (6, .int x6)] [] := by
  unfold gM_partRank_L54_F at hf
  refine r_iload hC dX2_partRank_54 (j := 5) rfl ?_
  refine r_aload_n hC dX2_partRank_56 rfl (j := 0) rfl ?_
  refine m_getA hC hK fa_25 dX2_partRank_57 ?_
  refine r_iconst hC dX2_partRank_60 ki_0 ?_
  obtain ⟨v3, h3, hf⟩ := dh_bd hf
  refine m_iald hC hK kd_25 h3 dX2_partRank_61 ?_
  refine r_icmp_ge hC dX2_partRank_62 (tgt := 195) (by decide) (fun c4 => ?_) (fun c4 => ?_)
  · have hf := dh_if hf c4
    exact r_sub [0, 2, 3, 4] rfl (wM_partRank_L195 hC hK hR dh_fu M x2 x3 x5 hf)
  · have hf := dh_el hf c4
    refine r_aload_n hC dX2_partRank_65 rfl (j := 0) rfl ?_
    refine m_getA hC hK fa_76 dX2_partRank_66 ?_
    refine r_iload hC dX2_partRank_69 (j := 5) rfl ?_
    refine r_ldc2 hC q1954 dX2_partRank_71 ?_
    obtain ⟨M18, h18, hf⟩ := dh_bd hf
    refine m_last hC hK kd_76 h18 dX2_partRank_74 ?_
    refine r_aload_n hC dX2_partRank_75 rfl (j := 0) rfl ?_
    refine m_getA hC hK fa_29 dX2_partRank_76 ?_
    refine r_iload hC dX2_partRank_79 (j := 5) rfl ?_
    obtain ⟨v19, h19, hf⟩ := dh_bd hf
    refine m_iald hC hK kd_29 h19 dX2_partRank_81 ?_
    refine r_iload_n hC dX2_partRank_82 rfl (j := 1) rfl ?_
    refine r_icmp_ne hC dX2_partRank_83 (tgt := 189) (by decide) (fun c20 => ?_) (fun c20 => ?_)
    · have hf := dh_el hf c20
      refine r_iinc (lv' := [(6, .int (x6 + 1)), (0, .ref (dm_am E)), (1, .int x1), (2, .int x2), (3, .long x3), (5, .int x5)]) hC dX2_partRank_189 (j := 5) rfl (congrArg _ ki_1) (Nat.le_of_ble_eq_true rfl) rfl ?_
      refine r_goto hC dX2_partRank_192 (tgt := 54) (by decide) ?_
      exact r_sub [1, 2, 3, 4, 5, 0] rfl (hk54 M18 x1 x2 x3 x5 (x6 + 1) hf)
    · have hf := dh_if hf c20
      refine r_aload_n hC dX2_partRank_86 rfl (j := 0) rfl ?_
      refine m_getA hC hK fa_74 dX2_partRank_87 ?_
      refine r_iload hC dX2_partRank_90 (j := 5) rfl ?_
      obtain ⟨v21, h21, hf⟩ := dh_bd hf
      refine m_iald hC hK kd_74 h21 dX2_partRank_92 ?_
      refine r_if_le hC dX2_partRank_93 (tgt := 189) (by decide) (fun c22 => ?_) (fun c22 => ?_)
      · have hf := dh_if hf c22
        refine r_iinc (lv' := [(6, .int (x6 + 1)), (0, .ref (dm_am E)), (1, .int x1), (2, .int x2), (3, .long x3), (5, .int x5)]) hC dX2_partRank_189 (j := 5) rfl (congrArg _ ki_1) (Nat.le_of_ble_eq_true rfl) rfl ?_
        refine r_goto hC dX2_partRank_192 (tgt := 54) (by decide) ?_
        exact r_sub [1, 2, 3, 4, 5, 0] rfl (hk54 M18 x1 x2 x3 x5 (x6 + 1) hf)
      · have hf := dh_el hf c22
        refine r_iload_n hC dX2_partRank_96 rfl (j := 2) rfl ?_
        refine r_i2l hC dX2_partRank_97 ?_
        refine r_lload_n hC dX2_partRank_98 rfl (j := 3) rfl ?_
        refine r_lcmp hC dX2_partRank_99 ?_
        refine r_if_lt hC dX2_partRank_100 (tgt := 107) (by decide) (fun c23 => ?_) (fun c23 => ?_)
        · have hf := dh_if hf c23
          refine r_iconst hC dX2_partRank_107 ki_0 ?_
          exact r_sub [0, 1, 2, 3, 4, 5] rfl (wM_partRank_b108 hC hK hR k54 hk54 M18 x1 x2 x3 x5 x6 0 hf)
        · have hf := dh_el hf c23
          refine r_iconst hC dX2_partRank_103 ki_1 ?_
          refine r_goto hC dX2_partRank_104 (tgt := 108) (by decide) ?_
          exact r_sub [0, 1, 2, 3, 4, 5] rfl (wM_partRank_b108 hC hK hR k54 hk54 M18 x1 x2 x3 x5 x6 1 hf)
def gM_partRank_L54 : Nat → dm_M → Int32 → Int32 → Int64 → Int32 → Int32 → Option dm_M
  | 0 => fun _ _ _ _ _ _ => none
  | n + 1 => gM_partRank_L54_F (gM_partRank_L54 n)
theorem wM_partRank_L54 {C : dh_C} {A : Nat → Prop} {E : dm_E} (hC : dh_ok C cX2_partRank 8 RX2 none) (hK : dm_Kn E (dh_s C)) (hR : dh_R C = { frames := 0, cells := 0, slots := 0, locals := 0 }) {M' : dm_M} : ∀ (n : Nat) (M : dm_M) (x1 : Int32) (x2 : Int32) (x3 : Int64) (x5 : Int32) (x6 : Int32) (_ : gM_partRank_L54 n M x1 x2 x3 x5 x6 = some M'), dh_W C A (dm_P E A M) (dm_Q E A none M') 0 0 0 0 54 [(0, .ref (dm_am E)), (1, .int x1), (2, .int x2), (3, .long x3), (5, .int x5), (6, .int x6)] [] := by
  intro n
  induction n with
  | zero => intro M x1 x2 x3 x5 x6 hf; exact dh_no hf
  | succ n ih => intro M x1 x2 x3 x5 x6 hf; exact wM_partRank_L54_F hC hK hR (gM_partRank_L54 n) ih M x1 x2 x3 x5 x6 hf
def gM_partRank_L5_F (k5 : (dm_M → Int32 → Int32 → Int64 → Int32 → Option dm_M)) (M : dm_M) (x1 : Int32) (x2 : Int32) (x3 : Int64) (x5 : Int32) : Option dm_M :=
  (dm_rd M 25 0).bind fun v1 =>
  if v1 ≤ x5 then (
    gM_partRank_L54 dh_fu M x1 x2 x3 x2 0)
  else
  (dm_rd M 29 x5).bind fun v36 =>
  if v36 = x1 then (
    (dm_rd M 74 x5).bind fun v38 =>
    k5 M x1 x2 (x3 + (Int32.toInt64 v38)) (x5 + 1))
  else
  k5 M x1 x2 (x3 + 0) (x5 + 1)
theorem wM_partRank_L5_F {C : dh_C} {A : Nat → Prop} {E : dm_E} (hC : dh_ok C cX2_partRank 8 RX2 none) (hK : dm_Kn E (dh_s C)) (hR : dh_R C = { frames := 0, cells := 0, slots := 0, locals := 0 }) {M' : dm_M} (k5 : (dm_M → Int32 → Int32 → Int64 → Int32 → Option dm_M)) (hk5 : ∀ (M : dm_M) (x1 : Int32) (x2 : Int32) (x3 : Int64) (x5 : Int32), k5 M x1 x2 x3 x5 = some M' → dh_W C A (dm_P E A M) (dm_Q E A none M') 0 0 0 0 5 [(0, .ref (dm_am E)), (1, .int x1), (2, .int x2), (3, .long x3), (5, .int x5)] []) (M : dm_M) (x1 : Int32) (x2 : Int32) (x3 : Int64) (x5 : Int32) (hf : gM_partRank_L5_F k5 M x1 x2 x3 x5 = some M') : dh_W C A (dm_P E A M) (dm_Q E A none M') 0 0 0 0 5 [(0, .ref (dm_am E)), (1, .int x1), (2, .int x2), (3, .long x3), (5, .int x5)] [] := by
  unfold gM_partRank_L5_F at hf
  refine r_iload hC dX2_partRank_5 (j := 4) rfl ?_
  refine r_aload_n hC dX2_partRank_7 rfl (j := 0) rfl ?_
  refine m_getA hC hK fa_25 dX2_partRank_8 ?_
  refine r_iconst hC dX2_partRank_11 ki_0 ?_
  obtain ⟨v1, h1, hf⟩ := dh_bd hf
  refine m_iald hC hK kd_25 h1 dX2_partRank_12 ?_
  refine r_icmp_ge hC dX2_partRank_13 (tgt := 48) (by decide) (fun c2 => ?_) (fun c2 => ?_)
  · have hf := dh_if hf c2
    refine r_iload_n hC dX2_partRank_48 rfl (j := 2) rfl ?_
    refine r_istore (lv' := [(5, .int x2), (0, .ref (dm_am E)), (1, .int x1), (2, .int x2), (3, .long x3)]) hC dX2_partRank_49 (Nat.le_of_ble_eq_true rfl) rfl ?_
    refine r_iconst hC dX2_partRank_51 ki_0 ?_
    refine r_istore (lv' := [(6, .int 0), (5, .int x2), (0, .ref (dm_am E)), (1, .int x1), (2, .int x2), (3, .long x3)]) hC dX2_partRank_52 (Nat.le_of_ble_eq_true rfl) rfl ?_
    exact r_sub [2, 3, 4, 5, 1, 0] rfl (wM_partRank_L54 hC hK hR dh_fu M x1 x2 x3 x2 0 hf)
  · have hf := dh_el hf c2
    refine r_lload_n hC dX2_partRank_16 rfl (j := 3) rfl ?_
    refine r_aload_n hC dX2_partRank_17 rfl (j := 0) rfl ?_
    refine m_getA hC hK fa_29 dX2_partRank_18 ?_
    refine r_iload hC dX2_partRank_21 (j := 4) rfl ?_
    obtain ⟨v36, h36, hf⟩ := dh_bd hf
    refine m_iald hC hK kd_29 h36 dX2_partRank_23 ?_
    refine r_iload_n hC dX2_partRank_24 rfl (j := 1) rfl ?_
    refine r_icmp_ne hC dX2_partRank_25 (tgt := 39) (by decide) (fun c37 => ?_) (fun c37 => ?_)
    · have hf := dh_el hf c37
      refine r_lconst hC dX2_partRank_39 kl_0 ?_
      refine r_ladd hC dX2_partRank_40 ?_
      refine r_lstore_n (lv' := [(3, .long (x3 + 0)), (0, .ref (dm_am E)), (1, .int x1), (2, .int x2), (5, .int x5)]) hC dX2_partRank_41 rfl (Nat.le_of_ble_eq_true rfl) rfl ?_
      refine r_iinc (lv' := [(5, .int (x5 + 1)), (3, .long (x3 + 0)), (0, .ref (dm_am E)), (1, .int x1), (2, .int x2)]) hC dX2_partRank_42 (j := 4) rfl (congrArg _ ki_1) (Nat.le_of_ble_eq_true rfl) rfl ?_
      refine r_goto hC dX2_partRank_45 (tgt := 5) (by decide) ?_
      exact r_sub [2, 3, 4, 1, 0] rfl (hk5 M x1 x2 (x3 + 0) (x5 + 1) hf)
    · have hf := dh_if hf c37
      refine r_aload_n hC dX2_partRank_28 rfl (j := 0) rfl ?_
      refine m_getA hC hK fa_74 dX2_partRank_29 ?_
      refine r_iload hC dX2_partRank_32 (j := 4) rfl ?_
      obtain ⟨v38, h38, hf⟩ := dh_bd hf
      refine m_iald hC hK kd_74 h38 dX2_partRank_34 ?_
      refine r_i2l hC dX2_partRank_35 ?_
      refine r_goto hC dX2_partRank_36 (tgt := 40) (by decide) ?_
      refine r_ladd hC dX2_partRank_40 ?_
      refine r_lstore_n (lv' := [(3, .long (x3 + (Int32.toInt64 v38))), (0, .ref (dm_am E)), (1, .int x1), (2, .int x2), (5, .int x5)]) hC dX2_partRank_41 rfl (Nat.le_of_ble_eq_true rfl) rfl ?_
      refine r_iinc (lv' := [(5, .int (x5 + 1)), (3, .long (x3 + (Int32.toInt64 v38))), (0, .ref (dm_am E)), (1, .int x1), (2, .int x2)]) hC dX2_partRank_42 (j := 4) rfl (congrArg _ ki_1) (Nat.le_of_ble_eq_true rfl) rfl ?_
      refine r_goto hC dX2_partRank_45 (tgt := 5) (by decide) ?_
      exact r_sub [2, 3, 4, 1, 0] rfl (hk5 M x1 x2 (x3 + (Int32.toInt64 v38)) (x5 + 1) hf)
def gM_partRank_L5 : Nat → dm_M → Int32 → Int32 → Int64 → Int32 → Option dm_M
  | 0 => fun _ _ _ _ _ => none
  | n + 1 => gM_partRank_L5_F (gM_partRank_L5 n)
theorem wM_partRank_L5 {C : dh_C} {A : Nat → Prop} {E : dm_E} (hC : dh_ok C cX2_partRank 8 RX2 none) (hK : dm_Kn E (dh_s C)) (hR : dh_R C = { frames := 0, cells := 0, slots := 0, locals := 0 }) {M' : dm_M} : ∀ (n : Nat) (M : dm_M) (x1 : Int32) (x2 : Int32) (x3 : Int64) (x5 : Int32) (_ : gM_partRank_L5 n M x1 x2 x3 x5 = some M'), dh_W C A (dm_P E A M) (dm_Q E A none M') 0 0 0 0 5 [(0, .ref (dm_am E)), (1, .int x1), (2, .int x2), (3, .long x3), (5, .int x5)] [] := by
  intro n
  induction n with
  | zero => intro M x1 x2 x3 x5 hf; exact dh_no hf
  | succ n ih => intro M x1 x2 x3 x5 hf; exact wM_partRank_L5_F hC hK hR (gM_partRank_L5 n) ih M x1 x2 x3 x5 hf
def gM_partRank (M : dm_M) (x1 : Int32) (x2 : Int32) : Option dm_M :=
  gM_partRank_L5 dh_fu M x1 x2 0 0
theorem wM_partRank {C : dh_C} {A : Nat → Prop} {E : dm_E} (hC : dh_ok C cX2_partRank 8 RX2 none) (hK : dm_Kn E (dh_s C)) (hR : dh_R C = { frames := 0, cells := 0, slots := 0, locals := 0 }) {M' : dm_M} (M : dm_M) (x1 : Int32) (x2 : Int32) (hf : gM_partRank M x1 x2 = some M') : dh_W C A (dm_P E A M) (dm_Q E A none M') 0 0 0 0 0 [(0, .ref (dm_am E)), (1, .int x1), (2, .int x2)] [] := by
  unfold gM_partRank at hf
  refine r_lconst hC dX2_partRank_0 kl_0 ?_
  refine r_lstore_n (lv' := [(3, .long 0), (0, .ref (dm_am E)), (1, .int x1), (2, .int x2)]) hC dX2_partRank_1 rfl (Nat.le_of_ble_eq_true rfl) rfl ?_
  refine r_iconst hC dX2_partRank_2 ki_0 ?_
  refine r_istore (lv' := [(5, .int 0), (3, .long 0), (0, .ref (dm_am E)), (1, .int x1), (2, .int x2)]) hC dX2_partRank_3 (Nat.le_of_ble_eq_true rfl) rfl ?_
  exact r_sub [2, 3, 4, 1, 0] rfl (wM_partRank_L5 hC hK hR dh_fu M x1 x2 0 0 hf)
theorem cM_partRank (l : Launch) (E : dm_E) (A : Nat → Prop) (M : dm_M) (x1 : Int32) (x2 : Int32) {M' : dm_M} (h : gM_partRank M x1 x2 = some M') : dm_Met l yX2_partRank cX2_partRank 8 none 0 0 E A [.ref (dm_am E), .int x1, .int x2] M none M' := by
  refine dh_met (by decide) (Nat.le_of_ble_eq_true rfl) (fun _ _ h => ⟨_, h.1⟩) (fun C hl hR hC hnm hK => ?_)
  exact wM_partRank hC hK hR M x1 x2 h
theorem q_partRank : dm_calV yX2_partRank cX2_partRank 8 none 2 := ⟨q1952, qs76, q1953, by decide +kernel⟩
