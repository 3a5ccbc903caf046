set_option maxRecDepth 100000
/-! net()I -/
def gM_net_L74_F (k74 : (dm_M → Int32 → Int32 → Option (Int32 × dm_M))) (M : dm_M) (x1 : Int32) (x2 : Int32) : Option (Int32 × dm_M) :=
  (dm_rd M 41 0).bind fun v8 =>
  if v8 ≤ x2 then (
    (gM_letGo M).bind fun p10 =>
    some (x1, p10))
  else
  (dm_rd M 42 x2).bind fun v11 =>
  (gM_takeOff M v11 x1).bind fun p12 =>
  k74 p12 x1 (x2 + 1)
theorem wM_net_L74_F {C : dh_C} {A : Nat → Prop} {E : dm_E} (hC : dh_ok C cX2_net 3 RX2 (some .int)) (hK : dm_Kn E (dh_s C)) (hR : dh_R C = { frames := 3, cells := 0, slots := 0, locals := 72 }) {r : Int32} {M' : dm_M} (k74 : (dm_M → Int32 → Int32 → Option (Int32 × dm_M))) (hk74 : ∀ (M : dm_M) (x1 : Int32) (x2 : Int32), k74 M x1 x2 = some (r, M') → dh_W C A (dm_P E A M) (dm_Q E A (some (.int r)) M') 0 0 0 0 74 [(0, .ref (dm_am E)), (1, .int x1), (2, .int x2)] []) (M : dm_M) (x1 : Int32) (x2 : Int32) (hf : gM_net_L74_F k74 M x1 x2 = some (r, M')) : dh_W C A (dm_P E A M) (dm_Q E A (some (.int r)) M') 0 0 0 0 74 [(0, .ref (dm_am E)), (1, .int x1), (2, .int x2)] [] := by
  unfold gM_net_L74_F at hf
  refine r_iload_n hC dX2_net_74 rfl (j := 2) rfl ?_
  refine r_aload_n hC dX2_net_75 rfl (j := 0) rfl ?_
  refine m_getA hC hK fa_41 dX2_net_76 ?_
  refine r_iconst hC dX2_net_79 ki_0 ?_
  obtain ⟨v8, h8, hf⟩ := dh_bd hf
  refine m_iald hC hK kd_41 h8 dX2_net_80 ?_
  refine r_icmp_ge hC dX2_net_81 (tgt := 101) (by decide) (fun c9 => ?_) (fun c9 => ?_)
  · have hf := dh_if hf c9
    refine r_aload_n hC dX2_net_101 rfl (j := 0) rfl ?_
    obtain ⟨p10, h10, hf⟩ := dh_bd hf
    refine m_callV' hC hK hR (cM_letGo _ E A M h10) q1688 q_letGo (Nat.le_of_ble_eq_true rfl) (Nat.le_of_ble_eq_true rfl) rfl (Nat.le_of_ble_eq_true rfl) dX2_net_102 ?_
    refine r_iload_n hC dX2_net_105 rfl (j := 1) rfl ?_
    exact m_iret hC dX2_net_106 rfl hf
  · have hf := dh_el hf c9
    refine r_aload_n hC dX2_net_84 rfl (j := 0) rfl ?_
    refine r_aload_n hC dX2_net_85 rfl (j := 0) rfl ?_
    refine m_getA hC hK fa_42 dX2_net_86 ?_
    refine r_iload_n hC dX2_net_89 rfl (j := 2) rfl ?_
    obtain ⟨v11, h11, hf⟩ := dh_bd hf
    refine m_iald hC hK kd_42 h11 dX2_net_90 ?_
    refine r_iload_n hC dX2_net_91 rfl (j := 1) rfl ?_
    obtain ⟨p12, h12, hf⟩ := dh_bd hf
    refine m_callV' hC hK hR (cM_takeOff _ E A M v11 x1 h12) q1680 q_takeOff (Nat.le_of_ble_eq_true rfl) (Nat.le_of_ble_eq_true rfl) rfl (Nat.le_of_ble_eq_true rfl) dX2_net_92 ?_
    refine r_iinc (lv' := [(2, .int (x2 + 1)), (0, .ref (dm_am E)), (1, .int x1)]) hC dX2_net_95 (j := 2) rfl (congrArg _ ki_1) (Nat.le_of_ble_eq_true rfl) rfl ?_
    refine r_goto hC dX2_net_98 (tgt := 74) (by decide) ?_
    exact r_sub [1, 2, 0] rfl (hk74 p12 x1 (x2 + 1) hf)
def gM_net_L74 : Nat → dm_M → Int32 → Int32 → Option (Int32 × dm_M)
  | 0 => fun _ _ _ => none
  | n + 1 => gM_net_L74_F (gM_net_L74 n)
theorem wM_net_L74 {C : dh_C} {A : Nat → Prop} {E : dm_E} (hC : dh_ok C cX2_net 3 RX2 (some .int)) (hK : dm_Kn E (dh_s C)) (hR : dh_R C = { frames := 3, cells := 0, slots := 0, locals := 72 }) {r : Int32} {M' : dm_M} : ∀ (n : Nat) (M : dm_M) (x1 : Int32) (x2 : Int32) (_ : gM_net_L74 n M x1 x2 = some (r, M')), dh_W C A (dm_P E A M) (dm_Q E A (some (.int r)) M') 0 0 0 0 74 [(0, .ref (dm_am E)), (1, .int x1), (2, .int x2)] [] := by
  intro n
  induction n with
  | zero => intro M x1 x2 hf; exact dh_no hf
  | succ n ih => intro M x1 x2 hf; exact wM_net_L74_F hC hK hR (gM_net_L74 n) ih M x1 x2 hf
def gM_net_L27_F (k27 : (dm_M → Int32 → Int32 → Option (Int32 × dm_M))) (M : dm_M) (x1 : Int32) (x2 : Int32) : Option (Int32 × dm_M) :=
  (dm_rd M 41 0).bind fun v6 =>
  if v6 ≤ x2 then (
    gM_net_L74 dh_fu M x1 0)
  else
  (dm_rd M 42 x2).bind fun v13 =>
  (gM_dueOf M v13).bind fun p14 =>
  if x1 ≤ p14 then (
    k27 M x1 (x2 + 1))
  else
  (dm_rd M 42 x2).bind fun v16 =>
  (gM_dueOf M v16).bind fun p17 =>
  k27 M p17 (x2 + 1)
theorem wM_net_L27_F {C : dh_C} {A : Nat → Prop} {E : dm_E} (hC : dh_ok C cX2_net 3 RX2 (some .int)) (hK : dm_Kn E (dh_s C)) (hR : dh_R C = { frames := 3, cells := 0, slots := 0, locals := 72 }) {r : Int32} {M' : dm_M} (k27 : (dm_M → Int32 → Int32 → Option (Int32 × dm_M))) (hk27 : ∀ (M : dm_M) (x1 : Int32) (x2 : Int32), k27 M x1 x2 = some (r, M') → dh_W C A (dm_P E A M) (dm_Q E A (some (.int r)) M') 0 0 0 0 27 [(0, .ref (dm_am E)), (1, .int x1), (2, .int x2)] []) (M : dm_M) (x1 : Int32) (x2 : Int32) (hf : gM_net_L27_F k27 M x1 x2 = some (r, M')) : dh_W C A (dm_P E A M) (dm_Q E A (some (.int r)) M') 0 0 0 0 27 [(0, .ref (dm_am E)), (1, .int x1), (2, .int x2)] [] := by
  unfold gM_net_L27_F at hf
  refine r_iload_n hC dX2_net_27 rfl (j := 2) rfl ?_
  refine r_aload_n hC dX2_net_28 rfl (j := 0) rfl ?_
  refine m_getA hC hK fa_41 dX2_net_29 ?_
  refine r_iconst hC dX2_net_32 ki_0 ?_
  obtain ⟨v6, h6, hf⟩ := dh_bd hf
  refine m_iald hC hK kd_41 h6 dX2_net_33 ?_
  refine r_icmp_ge hC dX2_net_34 (tgt := 72) (by decide) (fun c7 => ?_) (fun c7 => ?_)
  · have hf := dh_if hf c7
    refine r_iconst hC dX2_net_72 ki_0 ?_
    refine r_istore_n (lv' := [(2, .int 0), (0, .ref (dm_am E)), (1, .int x1)]) hC dX2_net_73 rfl (Nat.le_of_ble_eq_true rfl) rfl ?_
    exact r_sub [1, 2, 0] rfl (wM_net_L74 hC hK hR dh_fu M x1 0 hf)
  · have hf := dh_el hf c7
    refine r_aload_n hC dX2_net_37 rfl (j := 0) rfl ?_
    refine r_aload_n hC dX2_net_38 rfl (j := 0) rfl ?_
    refine m_getA hC hK fa_42 dX2_net_39 ?_
    refine r_iload_n hC dX2_net_42 rfl (j := 2) rfl ?_
    obtain ⟨v13, h13, hf⟩ := dh_bd hf
    refine m_iald hC hK kd_42 h13 dX2_net_43 ?_
    obtain ⟨p14, h14, hf⟩ := dh_bd hf
    refine m_callV' hC hK hR (cM_dueOf _ E A M v13 h14) q1667 q_dueOf (Nat.le_of_ble_eq_true rfl) (Nat.le_of_ble_eq_true rfl) rfl (Nat.le_of_ble_eq_true rfl) dX2_net_44 ?_
    refine r_iload_n hC dX2_net_47 rfl (j := 1) rfl ?_
    refine r_icmp_ge hC dX2_net_48 (tgt := 64) (by decide) (fun c15 => ?_) (fun c15 => ?_)
    · have hf := dh_if hf c15
      refine r_iload_n hC dX2_net_64 rfl (j := 1) rfl ?_
      refine r_istore_n (lv' := [(1, .int x1), (0, .ref (dm_am E)), (2, .int x2)]) hC dX2_net_65 rfl (Nat.le_of_ble_eq_true rfl) rfl ?_
      refine r_iinc (lv' := [(2, .int (x2 + 1)), (1, .int x1), (0, .ref (dm_am E))]) hC dX2_net_66 (j := 2) rfl (congrArg _ ki_1) (Nat.le_of_ble_eq_true rfl) rfl ?_
      refine r_goto hC dX2_net_69 (tgt := 27) (by decide) ?_
      exact r_sub [2, 1, 0] rfl (hk27 M x1 (x2 + 1) hf)
    · have hf := dh_el hf c15
      refine r_aload_n hC dX2_net_51 rfl (j := 0) rfl ?_
      refine r_aload_n hC dX2_net_52 rfl (j := 0) rfl ?_
      refine m_getA hC hK fa_42 dX2_net_53 ?_
      refine r_iload_n hC dX2_net_56 rfl (j := 2) rfl ?_
      obtain ⟨v16, h16, hf⟩ := dh_bd hf
      refine m_iald hC hK kd_42 h16 dX2_net_57 ?_
      obtain ⟨p17, h17, hf⟩ := dh_bd hf
      refine m_callV' hC hK hR (cM_dueOf _ E A M v16 h17) q1667 q_dueOf (Nat.le_of_ble_eq_true rfl) (Nat.le_of_ble_eq_true rfl) rfl (Nat.le_of_ble_eq_true rfl) dX2_net_58 ?_
      refine r_goto hC dX2_net_61 (tgt := 65) (by decide) ?_
      refine r_istore_n (lv' := [(1, .int p17), (0, .ref (dm_am E)), (2, .int x2)]) hC dX2_net_65 rfl (Nat.le_of_ble_eq_true rfl) rfl ?_
      refine r_iinc (lv' := [(2, .int (x2 + 1)), (1, .int p17), (0, .ref (dm_am E))]) hC dX2_net_66 (j := 2) rfl (congrArg _ ki_1) (Nat.le_of_ble_eq_true rfl) rfl ?_
      refine r_goto hC dX2_net_69 (tgt := 27) (by decide) ?_
      exact r_sub [2, 1, 0] rfl (hk27 M p17 (x2 + 1) hf)
def gM_net_L27 : Nat → dm_M → Int32 → Int32 → Option (Int32 × dm_M)
  | 0 => fun _ _ _ => none
  | n + 1 => gM_net_L27_F (gM_net_L27 n)
theorem wM_net_L27 {C : dh_C} {A : Nat → Prop} {E : dm_E} (hC : dh_ok C cX2_net 3 RX2 (some .int)) (hK : dm_Kn E (dh_s C)) (hR : dh_R C = { frames := 3, cells := 0, slots := 0, locals := 72 }) {r : Int32} {M' : dm_M} : ∀ (n : Nat) (M : dm_M) (x1 : Int32) (x2 : Int32) (_ : gM_net_L27 n M x1 x2 = some (r, M')), dh_W C A (dm_P E A M) (dm_Q E A (some (.int r)) M') 0 0 0 0 27 [(0, .ref (dm_am E)), (1, .int x1), (2, .int x2)] [] := by
  intro n
  induction n with
  | zero => intro M x1 x2 hf; exact dh_no hf
  | succ n ih => intro M x1 x2 hf; exact wM_net_L27_F hC hK hR (gM_net_L27 n) ih M x1 x2 hf
def gM_net (M : dm_M) : Option (Int32 × dm_M) :=
  (some (dm_set M 0 0 0)).bind fun M1 =>
  (gM_findTheRing M1).bind fun p2 =>
  if p2.1 = 0 then (
    some ((-1), p2.2))
  else
  (dm_rd p2.2 42 0).bind fun v4 =>
  (gM_dueOf p2.2 v4).bind fun p5 =>
  gM_net_L27 dh_fu p2.2 p5 1
theorem wM_net {C : dh_C} {A : Nat → Prop} {E : dm_E} (hC : dh_ok C cX2_net 3 RX2 (some .int)) (hK : dm_Kn E (dh_s C)) (hR : dh_R C = { frames := 3, cells := 0, slots := 0, locals := 72 }) {r : Int32} {M' : dm_M} (M : dm_M) (hf : gM_net M = some (r, M')) : dh_W C A (dm_P E A M) (dm_Q E A (some (.int r)) M') 0 0 0 0 0 [(0, .ref (dm_am E))] [] := by
  unfold gM_net at hf
  refine r_aload_n hC dX2_net_0 rfl (j := 0) rfl ?_
  refine r_iconst hC dX2_net_1 ki_0 ?_
  obtain ⟨M1, h1, hf⟩ := dh_bd hf
  refine m_putI hC hK fi_0 dX2_net_2 h1 ?_
  refine r_aload_n hC dX2_net_5 rfl (j := 0) rfl ?_
  obtain ⟨p2, h2, hf⟩ := dh_bd hf
  refine m_callV' hC hK hR (cM_findTheRing _ E A M1 h2) q1700 q_findTheRing (Nat.le_of_ble_eq_true rfl) (Nat.le_of_ble_eq_true rfl) rfl (Nat.le_of_ble_eq_true rfl) dX2_net_6 ?_
  refine r_if_ne hC dX2_net_9 (tgt := 14) (by decide) (fun c3 => ?_) (fun c3 => ?_)
  · have hf := dh_el hf c3
    refine r_aload_n hC dX2_net_14 rfl (j := 0) rfl ?_
    refine r_aload_n hC dX2_net_15 rfl (j := 0) rfl ?_
    refine m_getA hC hK fa_42 dX2_net_16 ?_
    refine r_iconst hC dX2_net_19 ki_0 ?_
    obtain ⟨v4, h4, hf⟩ := dh_bd hf
    refine m_iald hC hK kd_42 h4 dX2_net_20 ?_
    obtain ⟨p5, h5, hf⟩ := dh_bd hf
    refine m_callV' hC hK hR (cM_dueOf _ E A p2.2 v4 h5) q1667 q_dueOf (Nat.le_of_ble_eq_true rfl) (Nat.le_of_ble_eq_true rfl) rfl (Nat.le_of_ble_eq_true rfl) dX2_net_21 ?_
    refine r_istore_n (lv' := [(1, .int p5), (0, .ref (dm_am E))]) hC dX2_net_24 rfl (Nat.le_of_ble_eq_true rfl) rfl ?_
    refine r_iconst hC dX2_net_25 ki_1 ?_
    refine r_istore_n (lv' := [(2, .int 1), (1, .int p5), (0, .ref (dm_am E))]) hC dX2_net_26 rfl (Nat.le_of_ble_eq_true rfl) rfl ?_
    exact r_sub [2, 1, 0] rfl (wM_net_L27 hC hK hR dh_fu p2.2 p5 1 hf)
  · have hf := dh_if hf c3
    refine r_iconst hC dX2_net_12 ki_m1 ?_
    exact m_iret hC dX2_net_13 rfl hf
theorem cM_net (l : Launch) (E : dm_E) (A : Nat → Prop) (M : dm_M) {p : Int32 × dm_M} (h : gM_net M = some p) : dm_Met l yX2_net cX2_net 3 (some .int) 3 72 E A [.ref (dm_am E)] M (some (.int p.1)) p.2 := by
  refine dh_met (by decide) (Nat.le_of_ble_eq_true rfl) (fun _ _ h => ⟨_, h.1⟩) (fun C hl hR hC hnm hK => ?_)
  exact wM_net hC hK hR M h
theorem q_net : dm_calV yX2_net cX2_net 3 (some .int) 0 := ⟨q1717, q1718, q1719, by decide +kernel⟩
/-! offer(I)I -/
def gM_offer_L17_F (k17 : (dm_M → Int32 → Int32 → Option (Int32 × dm_M))) (M : dm_M) (x1 : Int32) (x2 : Int32) : Option (Int32 × dm_M) :=
  if 1000 < x2 then (
    some ((-1), M))
  else
  (gM_bindsNow M x1 x2).bind fun p5 =>
  if p5.1 = 0 then (
    k17 p5.2 x1 (x2 + 1))
  else
  some (x2, p5.2)
theorem wM_offer_L17_F {C : dh_C} {A : Nat → Prop} {E : dm_E} (hC : dh_ok C cX2_offer 3 RX2 (some .int)) (hK : dm_Kn E (dh_s C)) (hR : dh_R C = { frames := 6, cells := 0, slots := 0, locals := 144 }) {r : Int32} {M' : dm_M} (k17 : (dm_M → Int32 → Int32 → Option (Int32 × dm_M))) (hk17 : ∀ (M : dm_M) (x1 : Int32) (x2 : Int32), k17 M x1 x2 = some (r, M') → dh_W C A (dm_P E A M) (dm_Q E A (some (.int r)) M') 0 0 0 0 17 [(0, .ref (dm_am E)), (1, .int x1), (2, .int x2)] []) (M : dm_M) (x1 : Int32) (x2 : Int32) (hf : gM_offer_L17_F k17 M x1 x2 = some (r, M')) : dh_W C A (dm_P E A M) (dm_Q E A (some (.int r)) M') 0 0 0 0 17 [(0, .ref (dm_am E)), (1, .int x1), (2, .int x2)] [] := by
  unfold gM_offer_L17_F at hf
  refine r_iload_n hC dX2_offer_17 rfl (j := 2) rfl ?_
  refine r_sipush hC dX2_offer_18 ks_1000 ?_
  refine r_icmp_gt hC dX2_offer_21 (tgt := 41) (by decide) (fun c4 => ?_) (fun c4 => ?_)
  · have hf := dh_if hf c4
    refine r_iconst hC dX2_offer_41 ki_m1 ?_
    exact m_iret hC dX2_offer_42 rfl hf
  · have hf := dh_el hf c4
    refine r_aload_n hC dX2_offer_24 rfl (j := 0) rfl ?_
    refine r_iload_n hC dX2_offer_25 rfl (j := 1) rfl ?_
    refine r_iload_n hC dX2_offer_26 rfl (j := 2) rfl ?_
    obtain ⟨p5, h5, hf⟩ := dh_bd hf
    refine m_callV' hC hK hR (cM_bindsNow _ E A M x1 x2 h5) q1912 q_bindsNow (Nat.le_of_ble_eq_true rfl) (Nat.le_of_ble_eq_true rfl) rfl (Nat.le_of_ble_eq_true rfl) dX2_offer_27 ?_
    refine r_if_eq hC dX2_offer_30 (tgt := 35) (by decide) (fun c6 => ?_) (fun c6 => ?_)
    · have hf := dh_if hf c6
      refine r_iinc (lv' := [(2, .int (x2 + 1)), (0, .ref (dm_am E)), (1, .int x1)]) hC dX2_offer_35 (j := 2) rfl (congrArg _ ki_1) (Nat.le_of_ble_eq_true rfl) rfl ?_
      refine r_goto hC dX2_offer_38 (tgt := 17) (by decide) ?_
      exact r_sub [1, 2, 0] rfl (hk17 p5.2 x1 (x2 + 1) hf)
    · have hf := dh_el hf c6
      refine r_iload_n hC dX2_offer_33 rfl (j := 2) rfl ?_
      exact m_iret hC dX2_offer_34 rfl hf
def gM_offer_L17 : Nat → dm_M → Int32 → Int32 → Option (Int32 × dm_M)
  | 0 => fun _ _ _ => none
  | n + 1 => gM_offer_L17_F (gM_offer_L17 n)
theorem wM_offer_L17 {C : dh_C} {A : Nat → Prop} {E : dm_E} (hC : dh_ok C cX2_offer 3 RX2 (some .int)) (hK : dm_Kn E (dh_s C)) (hR : dh_R C = { frames := 6, cells := 0, slots := 0, locals := 144 }) {r : Int32} {M' : dm_M} : ∀ (n : Nat) (M : dm_M) (x1 : Int32) (x2 : Int32) (_ : gM_offer_L17 n M x1 x2 = some (r, M')), dh_W C A (dm_P E A M) (dm_Q E A (some (.int r)) M') 0 0 0 0 17 [(0, .ref (dm_am E)), (1, .int x1), (2, .int x2)] [] := by
  intro n
  induction n with
  | zero => intro M x1 x2 hf; exact dh_no hf
  | succ n ih => intro M x1 x2 hf; exact wM_offer_L17_F hC hK hR (gM_offer_L17 n) ih M x1 x2 hf
def gM_offer (M : dm_M) (x1 : Int32) : Option (Int32 × dm_M) :=
  (some (dm_set M 0 0 0)).bind fun M1 =>
  (gM_isPerson M1 x1).bind fun p2 =>
  if p2 = 0 then (
    some ((-1), M1))
  else
  gM_offer_L17 dh_fu M1 x1 0
theorem wM_offer {C : dh_C} {A : Nat → Prop} {E : dm_E} (hC : dh_ok C cX2_offer 3 RX2 (some .int)) (hK : dm_Kn E (dh_s C)) (hR : dh_R C = { frames := 6, cells := 0, slots := 0, locals := 144 }) {r : Int32} {M' : dm_M} (M : dm_M) (x1 : Int32) (hf : gM_offer M x1 = some (r, M')) : dh_W C A (dm_P E A M) (dm_Q E A (some (.int r)) M') 0 0 0 0 0 [(0, .ref (dm_am E)), (1, .int x1)] [] := by
  unfold gM_offer at hf
  refine r_aload_n hC dX2_offer_0 rfl (j := 0) rfl ?_
  refine r_iconst hC dX2_offer_1 ki_0 ?_
  obtain ⟨M1, h1, hf⟩ := dh_bd hf
  refine m_putI hC hK fi_0 dX2_offer_2 h1 ?_
  refine r_aload_n hC dX2_offer_5 rfl (j := 0) rfl ?_
  refine r_iload_n hC dX2_offer_6 rfl (j := 1) rfl ?_
  obtain ⟨p2, h2, hf⟩ := dh_bd hf
  refine m_callV' hC hK hR (cM_isPerson _ E A M1 x1 h2) q1650 q_isPerson (Nat.le_of_ble_eq_true rfl) (Nat.le_of_ble_eq_true rfl) rfl (Nat.le_of_ble_eq_true rfl) dX2_offer_7 ?_
  refine r_if_ne hC dX2_offer_10 (tgt := 15) (by decide) (fun c3 => ?_) (fun c3 => ?_)
  · have hf := dh_el hf c3
    refine r_iconst hC dX2_offer_15 ki_0 ?_
    refine r_istore_n (lv' := [(2, .int 0), (0, .ref (dm_am E)), (1, .int x1)]) hC dX2_offer_16 rfl (Nat.le_of_ble_eq_true rfl) rfl ?_
    exact r_sub [1, 2, 0] rfl (wM_offer_L17 hC hK hR dh_fu M1 x1 0 hf)
  · have hf := dh_if hf c3
    refine r_iconst hC dX2_offer_13 ki_m1 ?_
    exact m_iret hC dX2_offer_14 rfl hf
theorem cM_offer (l : Launch) (E : dm_E) (A : Nat → Prop) (M : dm_M) (x1 : Int32) {p : Int32 × dm_M} (h : gM_offer M x1 = some p) : dm_Met l yX2_offer cX2_offer 3 (some .int) 6 144 E A [.ref (dm_am E), .int x1] M (some (.int p.1)) p.2 := by
  refine dh_met (by decide) (Nat.le_of_ble_eq_true rfl) (fun _ _ h => ⟨_, h.1⟩) (fun C hl hR hC hnm hK => ?_)
  exact wM_offer hC hK hR M x1 h
theorem q_offer : dm_calV yX2_offer cX2_offer 3 (some .int) 1 := ⟨q1926, q1927, q1928, by decide +kernel⟩
/-! pay(II)I -/
def gM_pay (M : dm_M) (x1 : Int32) (x2 : Int32) : Option (Int32 × dm_M) :=
  (some (dm_set M 0 0 0)).bind fun M1 =>
  (gM_isLive M1 x1).bind fun p2 =>
  if p2 = 0 then (
    some ((-1), M1))
  else
  if x2 < 1 then (
    some ((-1), M1))
  else
  (dm_rd M1 26 x1).bind fun v5 =>
  (dm_rd M1 9 v5).bind fun v6 =>
  if v6 < x2 then (
    some ((-1), M1))
  else
  (gM_dueOf M1 x1).bind fun p8 =>
  if ¬ (x2 ≤ p8) then (
    some ((-1), M1))
  else
  (dm_rd M1 26 x1).bind fun v10 =>
  (dm_rd M1 9 v10).bind fun v11 =>
  (dm_wr M1 9 v10 (v11 - x2)).bind fun M12 =>
  (dm_rd M12 27 x1).bind fun v13 =>
  (dm_rd M12 9 v13).bind fun v14 =>
  (dm_wr M12 9 v13 (v14 + x2)).bind fun M15 =>
  (gM_takeOff M15 x1 x2).bind fun p16 =>
  (gM_letGo p16).bind fun p17 =>
  (gM_dueOf p17 x1).bind fun p18 =>
  some (p18, p17)
theorem wM_pay {C : dh_C} {A : Nat → Prop} {E : dm_E} (hC : dh_ok C cX2_pay 3 RX2 (some .int)) (hK : dm_Kn E (dh_s C)) (hR : dh_R C = { frames := 3, cells := 0, slots := 0, locals := 64 }) {r : Int32} {M' : dm_M} (M : dm_M) (x1 : Int32) (x2 : Int32) (hf : gM_pay M x1 x2 = some (r, M')) : dh_W C A (dm_P E A M) (dm_Q E A (some (.int r)) M') 0 0 0 0 0 [(0, .ref (dm_am E)), (1, .int x1), (2, .int x2)] [] := by
  unfold gM_pay at hf
  refine r_aload_n hC dX2_pay_0 rfl (j := 0) rfl ?_
  refine r_iconst hC dX2_pay_1 ki_0 ?_
  obtain ⟨M1, h1, hf⟩ := dh_bd hf
  refine m_putI hC hK fi_0 dX2_pay_2 h1 ?_
  refine r_aload_n hC dX2_pay_5 rfl (j := 0) rfl ?_
  refine r_iload_n hC dX2_pay_6 rfl (j := 1) rfl ?_
  obtain ⟨p2, h2, hf⟩ := dh_bd hf
  refine m_callV' hC hK hR (cM_isLive _ E A M1 x1 h2) q1659 q_isLive (Nat.le_of_ble_eq_true rfl) (Nat.le_of_ble_eq_true rfl) rfl (Nat.le_of_ble_eq_true rfl) dX2_pay_7 ?_
  refine r_if_eq hC dX2_pay_10 (tgt := 42) (by decide) (fun c3 => ?_) (fun c3 => ?_)
  · have hf := dh_if hf c3
    refine r_iconst hC dX2_pay_42 ki_m1 ?_
    exact m_iret hC dX2_pay_43 rfl hf
  · have hf := dh_el hf c3
    refine r_iload_n hC dX2_pay_13 rfl (j := 2) rfl ?_
    refine r_iconst hC dX2_pay_14 ki_1 ?_
    refine r_icmp_lt hC dX2_pay_15 (tgt := 42) (by decide) (fun c4 => ?_) (fun c4 => ?_)
    · have hf := dh_if hf c4
      refine r_iconst hC dX2_pay_42 ki_m1 ?_
      exact m_iret hC dX2_pay_43 rfl hf
    · have hf := dh_el hf c4
      refine r_iload_n hC dX2_pay_18 rfl (j := 2) rfl ?_
      refine r_aload_n hC dX2_pay_19 rfl (j := 0) rfl ?_
      refine m_getA hC hK fa_9 dX2_pay_20 ?_
      refine r_aload_n hC dX2_pay_23 rfl (j := 0) rfl ?_
      refine m_getA hC hK fa_26 dX2_pay_24 ?_
      refine r_iload_n hC dX2_pay_27 rfl (j := 1) rfl ?_
      obtain ⟨v5, h5, hf⟩ := dh_bd hf
      refine m_iald hC hK kd_26 h5 dX2_pay_28 ?_
      obtain ⟨v6, h6, hf⟩ := dh_bd hf
      refine m_iald hC hK kd_9 h6 dX2_pay_29 ?_
      refine r_icmp_gt hC dX2_pay_30 (tgt := 42) (by decide) (fun c7 => ?_) (fun c7 => ?_)
      · have hf := dh_if hf c7
        refine r_iconst hC dX2_pay_42 ki_m1 ?_
        exact m_iret hC dX2_pay_43 rfl hf
      · have hf := dh_el hf c7
        refine r_iload_n hC dX2_pay_33 rfl (j := 2) rfl ?_
        refine r_aload_n hC dX2_pay_34 rfl (j := 0) rfl ?_
        refine r_iload_n hC dX2_pay_35 rfl (j := 1) rfl ?_
        obtain ⟨p8, h8, hf⟩ := dh_bd hf
        refine m_callV' hC hK hR (cM_dueOf _ E A M1 x1 h8) q1667 q_dueOf (Nat.le_of_ble_eq_true rfl) (Nat.le_of_ble_eq_true rfl) rfl (Nat.le_of_ble_eq_true rfl) dX2_pay_36 ?_
        refine r_icmp_le hC dX2_pay_39 (tgt := 44) (by decide) (fun c9 => ?_) (fun c9 => ?_)
        · have hf := dh_el hf (fun q => q c9)
          refine r_aload_n hC dX2_pay_44 rfl (j := 0) rfl ?_
          refine m_getA hC hK fa_9 dX2_pay_45 ?_
          refine r_aload_n hC dX2_pay_48 rfl (j := 0) rfl ?_
          refine m_getA hC hK fa_26 dX2_pay_49 ?_
          refine r_iload_n hC dX2_pay_52 rfl (j := 1) rfl ?_
          obtain ⟨v10, h10, hf⟩ := dh_bd hf
          refine m_iald hC hK kd_26 h10 dX2_pay_53 ?_
          refine r_dup2_11 hC dX2_pay_54 rfl rfl ?_
          obtain ⟨v11, h11, hf⟩ := dh_bd hf
          refine m_iald hC hK kd_9 h11 dX2_pay_55 ?_
          refine r_iload_n hC dX2_pay_56 rfl (j := 2) rfl ?_
          refine r_isub hC dX2_pay_57 ?_
          obtain ⟨M12, h12, hf⟩ := dh_bd hf
          refine m_iast hC hK kd_9 h12 dX2_pay_58 ?_
          refine r_aload_n hC dX2_pay_59 rfl (j := 0) rfl ?_
          refine m_getA hC hK fa_9 dX2_pay_60 ?_
          refine r_aload_n hC dX2_pay_63 rfl (j := 0) rfl ?_
          refine m_getA hC hK fa_27 dX2_pay_64 ?_
          refine r_iload_n hC dX2_pay_67 rfl (j := 1) rfl ?_
          obtain ⟨v13, h13, hf⟩ := dh_bd hf
          refine m_iald hC hK kd_27 h13 dX2_pay_68 ?_
          refine r_dup2_11 hC dX2_pay_69 rfl rfl ?_
          obtain ⟨v14, h14, hf⟩ := dh_bd hf
          refine m_iald hC hK kd_9 h14 dX2_pay_70 ?_
          refine r_iload_n hC dX2_pay_71 rfl (j := 2) rfl ?_
          refine r_iadd hC dX2_pay_72 ?_
          obtain ⟨M15, h15, hf⟩ := dh_bd hf
          refine m_iast hC hK kd_9 h15 dX2_pay_73 ?_
          refine r_aload_n hC dX2_pay_74 rfl (j := 0) rfl ?_
          refine r_iload_n hC dX2_pay_75 rfl (j := 1) rfl ?_
          refine r_iload_n hC dX2_pay_76 rfl (j := 2) rfl ?_
          obtain ⟨p16, h16, hf⟩ := dh_bd hf
          refine m_callV' hC hK hR (cM_takeOff _ E A M15 x1 x2 h16) q1680 q_takeOff (Nat.le_of_ble_eq_true rfl) (Nat.le_of_ble_eq_true rfl) rfl (Nat.le_of_ble_eq_true rfl) dX2_pay_77 ?_
          refine r_aload_n hC dX2_pay_80 rfl (j := 0) rfl ?_
          obtain ⟨p17, h17, hf⟩ := dh_bd hf
          refine m_callV' hC hK hR (cM_letGo _ E A p16 h17) q1688 q_letGo (Nat.le_of_ble_eq_true rfl) (Nat.le_of_ble_eq_true rfl) rfl (Nat.le_of_ble_eq_true rfl) dX2_pay_81 ?_
          refine r_aload_n hC dX2_pay_84 rfl (j := 0) rfl ?_
          refine r_iload_n hC dX2_pay_85 rfl (j := 1) rfl ?_
          obtain ⟨p18, h18, hf⟩ := dh_bd hf
          refine m_callV' hC hK hR (cM_dueOf _ E A p17 x1 h18) q1667 q_dueOf (Nat.le_of_ble_eq_true rfl) (Nat.le_of_ble_eq_true rfl) rfl (Nat.le_of_ble_eq_true rfl) dX2_pay_86 ?_
          exact m_iret hC dX2_pay_89 rfl hf
        · have hf := dh_if hf c9
          refine r_iconst hC dX2_pay_42 ki_m1 ?_
          exact m_iret hC dX2_pay_43 rfl hf
theorem cM_pay (l : Launch) (E : dm_E) (A : Nat → Prop) (M : dm_M) (x1 : Int32) (x2 : Int32) {p : Int32 × dm_M} (h : gM_pay M x1 x2 = some p) : dm_Met l yX2_pay cX2_pay 3 (some .int) 3 64 E A [.ref (dm_am E), .int x1, .int x2] M (some (.int p.1)) p.2 := by
  refine dh_met (by decide) (Nat.le_of_ble_eq_true rfl) (fun _ _ h => ⟨_, h.1⟩) (fun C hl hR hC hnm hK => ?_)
  exact wM_pay hC hK hR M x1 x2 h
theorem q_pay : dm_calV yX2_pay cX2_pay 3 (some .int) 2 := ⟨q1677, q1678, q1679, by decide +kernel⟩
/-! person(II)I -/
def gM_person_L156_F (k156 : (dm_M → Int32 → Int32 → Option (Int32 × dm_M))) (M : dm_M) (x3 : Int32) (x4 : Int32) : Option (Int32 × dm_M) :=
  if 12 ≤ x4 then (
    some (x3, M))
  else
  (dm_wr M 24 ((12 * x3) + x4) 1000).bind fun M26 =>
  (dm_wr M26 24 ((12 * x4) + x3) 1000).bind fun M27 =>
  k156 M27 x3 (x4 + 1)
theorem wM_person_L156_F {C : dh_C} {A : Nat → Prop} {E : dm_E} (hC : dh_ok C cX2_person 5 RX2 (some .int)) (hK : dm_Kn E (dh_s C)) (hR : dh_R C = { frames := 1, cells := 0, slots := 0, locals := 22 }) {r : Int32} {M' : dm_M} (k156 : (dm_M → Int32 → Int32 → Option (Int32 × dm_M))) (hk156 : ∀ (M : dm_M) (x3 : Int32) (x4 : Int32), k156 M x3 x4 = some (r, M') → dh_W C A (dm_P E A M) (dm_Q E A (some (.int r)) M') 0 0 0 0 156 [(0, .ref (dm_am E)), (3, .int x3), (4, .int x4)] []) (M : dm_M) (x3 : Int32) (x4 : Int32) (hf : gM_person_L156_F k156 M x3 x4 = some (r, M')) : dh_W C A (dm_P E A M) (dm_Q E A (some (.int r)) M') 0 0 0 0 156 [(0, .ref (dm_am E)), (3, .int x3), (4, .int x4)] [] := by
  unfold gM_person_L156_F at hf
  refine r_iload hC dX2_person_156 (j := 2) rfl ?_
  refine r_bipush hC dX2_person_158 kb_12 ?_
  refine r_icmp_ge hC dX2_person_160 (tgt := 199) (by decide) (fun c25 => ?_) (fun c25 => ?_)
  · have hf := dh_if hf c25
    refine r_iload_n hC dX2_person_199 rfl (j := 1) rfl ?_
    exact m_iret hC dX2_person_200 rfl hf
  · have hf := dh_el hf c25
    refine r_aload_n hC dX2_person_163 rfl (j := 0) rfl ?_
    refine m_getA hC hK fa_24 dX2_person_164 ?_
    refine r_bipush hC dX2_person_167 kb_12 ?_
    refine r_iload_n hC dX2_person_169 rfl (j := 1) rfl ?_
    refine r_imul hC dX2_person_170 ?_
    refine r_iload hC dX2_person_171 (j := 2) rfl ?_
    refine r_iadd hC dX2_person_173 ?_
    refine r_sipush hC dX2_person_174 ks_1000 ?_
    obtain ⟨M26, h26, hf⟩ := dh_bd hf
    refine m_iast hC hK kd_24 h26 dX2_person_177 ?_
    refine r_aload_n hC dX2_person_178 rfl (j := 0) rfl ?_
    refine m_getA hC hK fa_24 dX2_person_179 ?_
    refine r_bipush hC dX2_person_182 kb_12 ?_
    refine r_iload hC dX2_person_184 (j := 2) rfl ?_
    refine r_imul hC dX2_person_186 ?_
    refine r_iload_n hC dX2_person_187 rfl (j := 1) rfl ?_
    refine r_iadd hC dX2_person_188 ?_
    refine r_sipush hC dX2_person_189 ks_1000 ?_
    obtain ⟨M27, h27, hf⟩ := dh_bd hf
    refine m_iast hC hK kd_24 h27 dX2_person_192 ?_
    refine r_iinc (lv' := [(4, .int (x4 + 1)), (0, .ref (dm_am E)), (3, .int x3)]) hC dX2_person_193 (j := 2) rfl (congrArg _ ki_1) (Nat.le_of_ble_eq_true rfl) rfl ?_
    refine r_goto hC dX2_person_196 (tgt := 156) (by decide) ?_
    exact r_sub [1, 2, 0] rfl (hk156 M27 x3 (x4 + 1) hf)
def gM_person_L156 : Nat → dm_M → Int32 → Int32 → Option (Int32 × dm_M)
  | 0 => fun _ _ _ => none
  | n + 1 => gM_person_L156_F (gM_person_L156 n)
theorem wM_person_L156 {C : dh_C} {A : Nat → Prop} {E : dm_E} (hC : dh_ok C cX2_person 5 RX2 (some .int)) (hK : dm_Kn E (dh_s C)) (hR : dh_R C = { frames := 1, cells := 0, slots := 0, locals := 22 }) {r : Int32} {M' : dm_M} : ∀ (n : Nat) (M : dm_M) (x3 : Int32) (x4 : Int32) (_ : gM_person_L156 n M x3 x4 = some (r, M')), dh_W C A (dm_P E A M) (dm_Q E A (some (.int r)) M') 0 0 0 0 156 [(0, .ref (dm_am E)), (3, .int x3), (4, .int x4)] [] := by
  intro n
  induction n with
  | zero => intro M x3 x4 hf; exact dh_no hf
  | succ n ih => intro M x3 x4 hf; exact wM_person_L156_F hC hK hR (gM_person_L156 n) ih M x3 x4 hf
def gM_person (M : dm_M) (x1 : Int32) (x2 : Int32) : Option (Int32 × dm_M) :=
  (some (dm_set M 0 0 0)).bind fun M1 =>
  (dm_rd M1 8 0).bind fun v2 =>
  if v2 = 12 then (
    some ((-1), M1))
  else
  (gM_in M1 x1 0 1000000).bind fun p4 =>
  if p4 = 0 then (
    some ((-1), M1))
  else
  (gM_in M1 x2 0 9).bind fun p6 =>
  if p6 = 0 then (
    some ((-1), M1))
  else
  (dm_rd M1 8 0).bind fun v8 =>
  (dm_rd M1 8 0).bind fun v9 =>
  (dm_wr M1 8 0 (v9 + 1)).bind fun M10 =>
  (dm_wr M10 9 v8 x1).bind fun M11 =>
  (dm_wr M11 10 v8 x2).bind fun M12 =>
  (dm_wr M12 11 v8 (vp_nar .boolean 0)).bind fun M13 =>
  (dm_wr M13 12 v8 (-1)).bind fun M14 =>
  (dm_wr M14 13 v8 (-1)).bind fun M15 =>
  (dm_wr M15 14 v8 0).bind fun M16 =>
  (dm_wr M16 15 v8 (vp_nar .boolean 0)).bind fun M17 =>
  (dm_wr M17 16 v8 0).bind fun M18 =>
  (dm_wr M18 17 v8 0).bind fun M19 =>
  (dm_wr M19 18 v8 0).bind fun M20 =>
  (dm_wr M20 19 v8 0).bind fun M21 =>
  (dm_wr M21 20 v8 (vp_nar .boolean 0)).bind fun M22 =>
  (dm_wr M22 21 v8 0).bind fun M23 =>
  (dm_wr M23 22 v8 0).bind fun M24 =>
  gM_person_L156 dh_fu M24 v8 0
theorem wM_person {C : dh_C} {A : Nat → Prop} {E : dm_E} (hC : dh_ok C cX2_person 5 RX2 (some .int)) (hK : dm_Kn E (dh_s C)) (hR : dh_R C = { frames := 1, cells := 0, slots := 0, locals := 22 }) {r : Int32} {M' : dm_M} (M : dm_M) (x1 : Int32) (x2 : Int32) (hf : gM_person M x1 x2 = some (r, M')) : dh_W C A (dm_P E A M) (dm_Q E A (some (.int r)) M') 0 0 0 0 0 [(0, .ref (dm_am E)), (1, .int x1), (2, .int x2)] [] := by
  unfold gM_person at hf
  refine r_aload_n hC dX2_person_0 rfl (j := 0) rfl ?_
  refine r_iconst hC dX2_person_1 ki_0 ?_
  obtain ⟨M1, h1, hf⟩ := dh_bd hf
  refine m_putI hC hK fi_0 dX2_person_2 h1 ?_
  refine r_aload_n hC dX2_person_5 rfl (j := 0) rfl ?_
  refine m_getA hC hK fa_8 dX2_person_6 ?_
  refine r_iconst hC dX2_person_9 ki_0 ?_
  obtain ⟨v2, h2, hf⟩ := dh_bd hf
  refine m_iald hC hK kd_8 h2 dX2_person_10 ?_
  refine r_bipush hC dX2_person_11 kb_12 ?_
  refine r_icmp_eq hC dX2_person_13 (tgt := 36) (by decide) (fun c3 => ?_) (fun c3 => ?_)
  · have hf := dh_if hf c3
    refine r_iconst hC dX2_person_36 ki_m1 ?_
    exact m_iret hC dX2_person_37 rfl hf
  · have hf := dh_el hf c3
    refine r_iload_n hC dX2_person_16 rfl (j := 1) rfl ?_
    refine r_iconst hC dX2_person_17 ki_0 ?_
    refine r_ldc hC q1638 dX2_person_18 ?_
    obtain ⟨p4, h4, hf⟩ := dh_bd hf
    refine m_callS' hC hK hR (cM_in _ E A M1 x1 0 1000000 h4) q1639 q_in (Nat.le_of_ble_eq_true rfl) (Nat.le_of_ble_eq_true rfl) rfl (Nat.le_of_ble_eq_true rfl) dX2_person_20 ?_
    refine r_if_eq hC dX2_person_23 (tgt := 36) (by decide) (fun c5 => ?_) (fun c5 => ?_)
    · have hf := dh_if hf c5
      refine r_iconst hC dX2_person_36 ki_m1 ?_
      exact m_iret hC dX2_person_37 rfl hf
    · have hf := dh_el hf c5
      refine r_iload_n hC dX2_person_26 rfl (j := 2) rfl ?_
      refine r_iconst hC dX2_person_27 ki_0 ?_
      refine r_bipush hC dX2_person_28 kb_9 ?_
      obtain ⟨p6, h6, hf⟩ := dh_bd hf
      refine m_callS' hC hK hR (cM_in _ E A M1 x2 0 9 h6) q1639 q_in (Nat.le_of_ble_eq_true rfl) (Nat.le_of_ble_eq_true rfl) rfl (Nat.le_of_ble_eq_true rfl) dX2_person_30 ?_
      refine r_if_ne hC dX2_person_33 (tgt := 38) (by decide) (fun c7 => ?_) (fun c7 => ?_)
      · have hf := dh_el hf c7
        refine r_aload_n hC dX2_person_38 rfl (j := 0) rfl ?_
        refine m_getA hC hK fa_8 dX2_person_39 ?_
        refine r_iconst hC dX2_person_42 ki_0 ?_
        obtain ⟨v8, h8, hf⟩ := dh_bd hf
        refine m_iald hC hK kd_8 h8 dX2_person_43 ?_
        refine r_istore_n (lv' := [(3, .int v8), (0, .ref (dm_am E)), (1, .int x1), (2, .int x2)]) hC dX2_person_44 rfl (Nat.le_of_ble_eq_true rfl) rfl ?_
        refine r_aload_n hC dX2_person_45 rfl (j := 1) rfl ?_
        refine m_getA hC hK fa_8 dX2_person_46 ?_
        refine r_iconst hC dX2_person_49 ki_0 ?_
        refine r_dup2_11 hC dX2_person_50 rfl rfl ?_
        obtain ⟨v9, h9, hf⟩ := dh_bd hf
        refine m_iald hC hK kd_8 h9 dX2_person_51 ?_
        refine r_iconst hC dX2_person_52 ki_1 ?_
        refine r_iadd hC dX2_person_53 ?_
        obtain ⟨M10, h10, hf⟩ := dh_bd hf
        refine m_iast hC hK kd_8 h10 dX2_person_54 ?_
        refine r_aload_n hC dX2_person_55 rfl (j := 1) rfl ?_
        refine m_getA hC hK fa_9 dX2_person_56 ?_
        refine r_iload_n hC dX2_person_59 rfl (j := 0) rfl ?_
        refine r_iload_n hC dX2_person_60 rfl (j := 2) rfl ?_
        obtain ⟨M11, h11, hf⟩ := dh_bd hf
        refine m_iast hC hK kd_9 h11 dX2_person_61 ?_
        refine r_aload_n hC dX2_person_62 rfl (j := 1) rfl ?_
        refine m_getA hC hK fa_10 dX2_person_63 ?_
        refine r_iload_n hC dX2_person_66 rfl (j := 0) rfl ?_
        refine r_iload_n hC dX2_person_67 rfl (j := 3) rfl ?_
        obtain ⟨M12, h12, hf⟩ := dh_bd hf
        refine m_iast hC hK kd_10 h12 dX2_person_68 ?_
        refine r_aload_n hC dX2_person_69 rfl (j := 1) rfl ?_
        refine m_getA hC hK fa_11 dX2_person_70 ?_
        refine r_iload_n hC dX2_person_73 rfl (j := 0) rfl ?_
        refine r_iconst hC dX2_person_74 ki_0 ?_
        obtain ⟨M13, h13, hf⟩ := dh_bd hf
        refine m_zast hC hK kd_11 h13 dX2_person_75 ?_
        refine r_aload_n hC dX2_person_76 rfl (j := 1) rfl ?_
        refine m_getA hC hK fa_12 dX2_person_77 ?_
        refine r_iload_n hC dX2_person_80 rfl (j := 0) rfl ?_
        refine r_iconst hC dX2_person_81 ki_m1 ?_
        obtain ⟨M14, h14, hf⟩ := dh_bd hf
        refine m_iast hC hK kd_12 h14 dX2_person_82 ?_
        refine r_aload_n hC dX2_person_83 rfl (j := 1) rfl ?_
        refine m_getA hC hK fa_13 dX2_person_84 ?_
        refine r_iload_n hC dX2_person_87 rfl (j := 0) rfl ?_
        refine r_iconst hC dX2_person_88 ki_m1 ?_
        obtain ⟨M15, h15, hf⟩ := dh_bd hf
        refine m_iast hC hK kd_13 h15 dX2_person_89 ?_
        refine r_aload_n hC dX2_person_90 rfl (j := 1) rfl ?_
        refine m_getA hC hK fa_14 dX2_person_91 ?_
        refine r_iload_n hC dX2_person_94 rfl (j := 0) rfl ?_
        refine r_iconst hC dX2_person_95 ki_0 ?_
        obtain ⟨M16, h16, hf⟩ := dh_bd hf
        refine m_iast hC hK kd_14 h16 dX2_person_96 ?_
        refine r_aload_n hC dX2_person_97 rfl (j := 1) rfl ?_
        refine m_getA hC hK fa_15 dX2_person_98 ?_
        refine r_iload_n hC dX2_person_101 rfl (j := 0) rfl ?_
        refine r_iconst hC dX2_person_102 ki_0 ?_
        obtain ⟨M17, h17, hf⟩ := dh_bd hf
        refine m_zast hC hK kd_15 h17 dX2_person_103 ?_
        refine r_aload_n hC dX2_person_104 rfl (j := 1) rfl ?_
        refine m_getA hC hK fa_16 dX2_person_105 ?_
        refine r_iload_n hC dX2_person_108 rfl (j := 0) rfl ?_
        refine r_iconst hC dX2_person_109 ki_0 ?_
        obtain ⟨M18, h18, hf⟩ := dh_bd hf
        refine m_iast hC hK kd_16 h18 dX2_person_110 ?_
        refine r_aload_n hC dX2_person_111 rfl (j := 1) rfl ?_
        refine m_getA hC hK fa_17 dX2_person_112 ?_
        refine r_iload_n hC dX2_person_115 rfl (j := 0) rfl ?_
        refine r_iconst hC dX2_person_116 ki_0 ?_
        obtain ⟨M19, h19, hf⟩ := dh_bd hf
        refine m_iast hC hK kd_17 h19 dX2_person_117 ?_
        refine r_aload_n hC dX2_person_118 rfl (j := 1) rfl ?_
        refine m_getA hC hK fa_18 dX2_person_119 ?_
        refine r_iload_n hC dX2_person_122 rfl (j := 0) rfl ?_
        refine r_iconst hC dX2_person_123 ki_0 ?_
        obtain ⟨M20, h20, hf⟩ := dh_bd hf
        refine m_iast hC hK kd_18 h20 dX2_person_124 ?_
        refine r_aload_n hC dX2_person_125 rfl (j := 1) rfl ?_
        refine m_getA hC hK fa_19 dX2_person_126 ?_
        refine r_iload_n hC dX2_person_129 rfl (j := 0) rfl ?_
        refine r_iconst hC dX2_person_130 ki_0 ?_
        obtain ⟨M21, h21, hf⟩ := dh_bd hf
        refine m_iast hC hK kd_19 h21 dX2_person_131 ?_
        refine r_aload_n hC dX2_person_132 rfl (j := 1) rfl ?_
        refine m_getA hC hK fa_20 dX2_person_133 ?_
        refine r_iload_n hC dX2_person_136 rfl (j := 0) rfl ?_
        refine r_iconst hC dX2_person_137 ki_0 ?_
        obtain ⟨M22, h22, hf⟩ := dh_bd hf
        refine m_zast hC hK kd_20 h22 dX2_person_138 ?_
        refine r_aload_n hC dX2_person_139 rfl (j := 1) rfl ?_
        refine m_getA hC hK fa_21 dX2_person_140 ?_
        refine r_iload_n hC dX2_person_143 rfl (j := 0) rfl ?_
        refine r_iconst hC dX2_person_144 ki_0 ?_
        obtain ⟨M23, h23, hf⟩ := dh_bd hf
        refine m_iast hC hK kd_21 h23 dX2_person_145 ?_
        refine r_aload_n hC dX2_person_146 rfl (j := 1) rfl ?_
        refine m_getA hC hK fa_22 dX2_person_147 ?_
        refine r_iload_n hC dX2_person_150 rfl (j := 0) rfl ?_
        refine r_iconst hC dX2_person_151 ki_0 ?_
        obtain ⟨M24, h24, hf⟩ := dh_bd hf
        refine m_iast hC hK kd_22 h24 dX2_person_152 ?_
        refine r_iconst hC dX2_person_153 ki_0 ?_
        refine r_istore (lv' := [(4, .int 0), (3, .int v8), (0, .ref (dm_am E)), (1, .int x1), (2, .int x2)]) hC dX2_person_154 (Nat.le_of_ble_eq_true rfl) rfl ?_
        exact r_sub [2, 1, 0] rfl (wM_person_L156 hC hK hR dh_fu M24 v8 0 hf)
      · have hf := dh_if hf c7
        refine r_iconst hC dX2_person_36 ki_m1 ?_
        exact m_iret hC dX2_person_37 rfl hf
theorem cM_person (l : Launch) (E : dm_E) (A : Nat → Prop) (M : dm_M) (x1 : Int32) (x2 : Int32) {p : Int32 × dm_M} (h : gM_person M x1 x2 = some p) : dm_Met l yX2_person cX2_person 5 (some .int) 1 22 E A [.ref (dm_am E), .int x1, .int x2] M (some (.int p.1)) p.2 := by
  refine dh_met (by decide) (Nat.le_of_ble_eq_true rfl) (fun _ _ h => ⟨_, h.1⟩) (fun C hl hR hC hnm hK => ?_)
  exact wM_person hC hK hR M x1 x2 h
theorem q_person : dm_calV yX2_person cX2_person 5 (some .int) 2 := ⟨q1635, q1636, q1637, by decide +kernel⟩
/-! ring()I -/
def gM_ring (M : dm_M) : Option (Int32 × dm_M) :=
  (some (dm_set M 0 0 0)).bind fun M1 =>
  (gM_findTheRing M1).bind fun p2 =>
  if p2.1 = 0 then (
    some ((-1), p2.2))
  else
  (dm_rd p2.2 41 0).bind fun v4 =>
  some (v4, p2.2)
theorem wM_ring {C : dh_C} {A : Nat → Prop} {E : dm_E} (hC : dh_ok C cX2_ring 1 RX2 (some .int)) (hK : dm_Kn E (dh_s C)) (hR : dh_R C = { frames := 3, cells := 0, slots := 0, locals := 72 }) {r : Int32} {M' : dm_M} (M : dm_M) (hf : gM_ring M = some (r, M')) : dh_W C A (dm_P E A M) (dm_Q E A (some (.int r)) M') 0 0 0 0 0 [(0, .ref (dm_am E))] [] := by
  unfold gM_ring at hf
  refine r_aload_n hC dX2_ring_0 rfl (j := 0) rfl ?_
  refine r_iconst hC dX2_ring_1 ki_0 ?_
  obtain ⟨M1, h1, hf⟩ := dh_bd hf
  refine m_putI hC hK fi_0 dX2_ring_2 h1 ?_
  refine r_aload_n hC dX2_ring_5 rfl (j := 0) rfl ?_
  obtain ⟨p2, h2, hf⟩ := dh_bd hf
  refine m_callV' hC hK hR (cM_findTheRing _ E A M1 h2) q1700 q_findTheRing (Nat.le_of_ble_eq_true rfl) (Nat.le_of_ble_eq_true rfl) rfl (Nat.le_of_ble_eq_true rfl) dX2_ring_6 ?_
  refine r_if_eq hC dX2_ring_9 (tgt := 21) (by decide) (fun c3 => ?_) (fun c3 => ?_)
  · have hf := dh_if hf c3
    refine r_iconst hC dX2_ring_21 ki_m1 ?_
    exact m_iret hC dX2_ring_22 rfl hf
  · have hf := dh_el hf c3
    refine r_aload_n hC dX2_ring_12 rfl (j := 0) rfl ?_
    refine m_getA hC hK fa_41 dX2_ring_13 ?_
    refine r_iconst hC dX2_ring_16 ki_0 ?_
    obtain ⟨v4, h4, hf⟩ := dh_bd hf
    refine m_iald hC hK kd_41 h4 dX2_ring_17 ?_
    refine r_goto hC dX2_ring_18 (tgt := 22) (by decide) ?_
    exact m_iret hC dX2_ring_22 rfl hf
theorem cM_ring (l : Launch) (E : dm_E) (A : Nat → Prop) (M : dm_M) {p : Int32 × dm_M} (h : gM_ring M = some p) : dm_Met l yX2_ring cX2_ring 1 (some .int) 3 72 E A [.ref (dm_am E)] M (some (.int p.1)) p.2 := by
  refine dh_met (by decide) (Nat.le_of_ble_eq_true rfl) (fun _ _ h => ⟨_, h.1⟩) (fun C hl hR hC hnm hK => ?_)
  exact wM_ring hC hK hR M h
theorem q_ring : dm_calV yX2_ring cX2_ring 1 (some .int) 0 := ⟨q1697, q1698, q1699, by decide +kernel⟩
/-! room(II)Z -/
def gM_room (M : dm_M) (x1 : Int32) (x2 : Int32) : Option (Int32 × dm_M) :=
  (some (dm_set M 0 0 0)).bind fun M1 =>
  (gM_isPerson M1 x1).bind fun p2 =>
  if p2 = 0 then (
    some (0, M1))
  else
  (dm_rd M1 11 x1).bind fun v4 =>
  if v4 = 0 then (
    some (0, M1))
  else
  (gM_in M1 x2 0 3).bind fun p6 =>
  if p6 = 0 then (
    some (0, M1))
  else
  (dm_wr M1 13 x1 x2).bind fun M8 =>
  some (1, M8)
theorem wM_room {C : dh_C} {A : Nat → Prop} {E : dm_E} (hC : dh_ok C cX2_room 3 RX2 (some .boolean)) (hK : dm_Kn E (dh_s C)) (hR : dh_R C = { frames := 2, cells := 0, slots := 0, locals := 43 }) {r : Int32} {M' : dm_M} (M : dm_M) (x1 : Int32) (x2 : Int32) (hf : gM_room M x1 x2 = some (r, M')) : dh_W C A (dm_P E A M) (dm_Q E A (some (.int r)) M') 0 0 0 0 0 [(0, .ref (dm_am E)), (1, .int x1), (2, .int x2)] [] := by
  unfold gM_room at hf
  refine r_aload_n hC dX2_room_0 rfl (j := 0) rfl ?_
  refine r_iconst hC dX2_room_1 ki_0 ?_
  obtain ⟨M1, h1, hf⟩ := dh_bd hf
  refine m_putI hC hK fi_0 dX2_room_2 h1 ?_
  refine r_aload_n hC dX2_room_5 rfl (j := 0) rfl ?_
  refine r_iload_n hC dX2_room_6 rfl (j := 1) rfl ?_
  obtain ⟨p2, h2, hf⟩ := dh_bd hf
  refine m_callV' hC hK hR (cM_isPerson _ E A M1 x1 h2) q1650 q_isPerson (Nat.le_of_ble_eq_true rfl) (Nat.le_of_ble_eq_true rfl) rfl (Nat.le_of_ble_eq_true rfl) dX2_room_7 ?_
  refine r_if_eq hC dX2_room_10 (tgt := 31) (by decide) (fun c3 => ?_) (fun c3 => ?_)
  · have hf := dh_if hf c3
    refine r_iconst hC dX2_room_31 ki_0 ?_
    exact m_zret hC dX2_room_32 rfl rfl hf
  · have hf := dh_el hf c3
    refine r_aload_n hC dX2_room_13 rfl (j := 0) rfl ?_
    refine m_getA hC hK fa_11 dX2_room_14 ?_
    refine r_iload_n hC dX2_room_17 rfl (j := 1) rfl ?_
    obtain ⟨v4, h4, hf⟩ := dh_bd hf
    refine m_zald hC hK kd_11 h4 dX2_room_18 ?_
    refine r_if_eq hC dX2_room_19 (tgt := 31) (by decide) (fun c5 => ?_) (fun c5 => ?_)
    · have hf := dh_if hf c5
      refine r_iconst hC dX2_room_31 ki_0 ?_
      exact m_zret hC dX2_room_32 rfl rfl hf
    · have hf := dh_el hf c5
      refine r_iload_n hC dX2_room_22 rfl (j := 2) rfl ?_
      refine r_iconst hC dX2_room_23 ki_0 ?_
      refine r_iconst hC dX2_room_24 ki_3 ?_
      obtain ⟨p6, h6, hf⟩ := dh_bd hf
      refine m_callS' hC hK hR (cM_in _ E A M1 x2 0 3 h6) q1639 q_in (Nat.le_of_ble_eq_true rfl) (Nat.le_of_ble_eq_true rfl) rfl (Nat.le_of_ble_eq_true rfl) dX2_room_25 ?_
      refine r_if_ne hC dX2_room_28 (tgt := 33) (by decide) (fun c7 => ?_) (fun c7 => ?_)
      · have hf := dh_el hf c7
        refine r_aload_n hC dX2_room_33 rfl (j := 0) rfl ?_
        refine m_getA hC hK fa_13 dX2_room_34 ?_
        refine r_iload_n hC dX2_room_37 rfl (j := 1) rfl ?_
        refine r_iload_n hC dX2_room_38 rfl (j := 2) rfl ?_
        obtain ⟨M8, h8, hf⟩ := dh_bd hf
        refine m_iast hC hK kd_13 h8 dX2_room_39 ?_
        refine r_iconst hC dX2_room_40 ki_1 ?_
        exact m_zret hC dX2_room_41 rfl rfl hf
      · have hf := dh_if hf c7
        refine r_iconst hC dX2_room_31 ki_0 ?_
        exact m_zret hC dX2_room_32 rfl rfl hf
theorem cM_room (l : Launch) (E : dm_E) (A : Nat → Prop) (M : dm_M) (x1 : Int32) (x2 : Int32) {p : Int32 × dm_M} (h : gM_room M x1 x2 = some p) : dm_Met l yX2_room cX2_room 3 (some .boolean) 2 43 E A [.ref (dm_am E), .int x1, .int x2] M (some (.int p.1)) p.2 := by
  refine dh_met (by decide) (Nat.le_of_ble_eq_true rfl) (fun _ _ h => ⟨_, h.1⟩) (fun C hl hR hC hnm hK => ?_)
  exact wM_room hC hK hR M x1 x2 h
theorem q_room : dm_calV yX2_room cX2_room 3 (some .boolean) 2 := ⟨q1865, q1866, q1867, by decide +kernel⟩
/-! row(I)I -/
def gM_row (M : dm_M) (x1 : Int32) : Option (Int32 × dm_M) :=
  (some (dm_set M 0 0 0)).bind fun M1 =>
  (dm_rd M1 41 0).bind fun v2 =>
  (gM_in M1 x1 0 (v2 - 1)).bind fun p3 =>
  if p3 = 0 then (
    some ((-1), M1))
  else
  (dm_rd M1 42 x1).bind fun v5 =>
  some (v5, M1)
theorem wM_row {C : dh_C} {A : Nat → Prop} {E : dm_E} (hC : dh_ok C cX2_row 2 RX2 (some .int)) (hK : dm_Kn E (dh_s C)) (hR : dh_R C = { frames := 1, cells := 0, slots := 0, locals := 22 }) {r : Int32} {M' : dm_M} (M : dm_M) (x1 : Int32) (hf : gM_row M x1 = some (r, M')) : dh_W C A (dm_P E A M) (dm_Q E A (some (.int r)) M') 0 0 0 0 0 [(0, .ref (dm_am E)), (1, .int x1)] [] := by
  unfold gM_row at hf
  refine r_aload_n hC dX2_row_0 rfl (j := 0) rfl ?_
  refine r_iconst hC dX2_row_1 ki_0 ?_
  obtain ⟨M1, h1, hf⟩ := dh_bd hf
  refine m_putI hC hK fi_0 dX2_row_2 h1 ?_
  refine r_iload_n hC dX2_row_5 rfl (j := 1) rfl ?_
  refine r_iconst hC dX2_row_6 ki_0 ?_
  refine r_aload_n hC dX2_row_7 rfl (j := 0) rfl ?_
  refine m_getA hC hK fa_41 dX2_row_8 ?_
  refine r_iconst hC dX2_row_11 ki_0 ?_
  obtain ⟨v2, h2, hf⟩ := dh_bd hf
  refine m_iald hC hK kd_41 h2 dX2_row_12 ?_
  refine r_iconst hC dX2_row_13 ki_1 ?_
  refine r_isub hC dX2_row_14 ?_
  obtain ⟨p3, h3, hf⟩ := dh_bd hf
  refine m_callS' hC hK hR (cM_in _ E A M1 x1 0 (v2 - 1) h3) q1639 q_in (Nat.le_of_ble_eq_true rfl) (Nat.le_of_ble_eq_true rfl) rfl (Nat.le_of_ble_eq_true rfl) dX2_row_15 ?_
  refine r_if_eq hC dX2_row_18 (tgt := 30) (by decide) (fun c4 => ?_) (fun c4 => ?_)
  · have hf := dh_if hf c4
    refine r_iconst hC dX2_row_30 ki_m1 ?_
    exact m_iret hC dX2_row_31 rfl hf
  · have hf := dh_el hf c4
    refine r_aload_n hC dX2_row_21 rfl (j := 0) rfl ?_
    refine m_getA hC hK fa_42 dX2_row_22 ?_
    refine r_iload_n hC dX2_row_25 rfl (j := 1) rfl ?_
    obtain ⟨v5, h5, hf⟩ := dh_bd hf
    refine m_iald hC hK kd_42 h5 dX2_row_26 ?_
    refine r_goto hC dX2_row_27 (tgt := 31) (by decide) ?_
    exact m_iret hC dX2_row_31 rfl hf
theorem cM_row (l : Launch) (E : dm_E) (A : Nat → Prop) (M : dm_M) (x1 : Int32) {p : Int32 × dm_M} (h : gM_row M x1 = some p) : dm_Met l yX2_row cX2_row 2 (some .int) 1 22 E A [.ref (dm_am E), .int x1] M (some (.int p.1)) p.2 := by
  refine dh_met (by decide) (Nat.le_of_ble_eq_true rfl) (fun _ _ h => ⟨_, h.1⟩) (fun C hl hR hC hnm hK => ?_)
  exact wM_row hC hK hR M x1 h
theorem q_row : dm_calV yX2_row cX2_row 2 (some .int) 1 := ⟨q1713, q1714, q1715, by decide +kernel⟩
