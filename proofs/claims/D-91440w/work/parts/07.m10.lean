set_option maxRecDepth 100000
/-! part(I)I -/
def gM_part_L93_F (k93 : (dm_M → Int32 → Int32 → Int32 → Option (Int32 × dm_M))) (M : dm_M) (x1 : Int32) (x2 : Int32) (x3 : Int32) : Option (Int32 × dm_M) :=
  (dm_rd M 25 0).bind fun v4 =>
  if v4 ≤ x3 then (
    some (x1 - x2, M))
  else
  (dm_rd M 27 x3).bind fun v6 =>
  (dm_rd M 9 v6).bind fun v7 =>
  (dm_rd M 75 x3).bind fun v8 =>
  (dm_wr M 9 v6 (v7 + v8)).bind fun M9 =>
  k93 M9 x1 x2 (x3 + 1)
theorem wM_part_L93_F {C : dh_C} {A : Nat → Prop} {E : dm_E} (hC : dh_ok C cX2_part 5 RX2 (some .int)) (hK : dm_Kn E (dh_s C)) (hR : dh_R C = { frames := 1, cells := 0, slots := 0, locals := 27 }) {r : Int32} {M' : dm_M} (k93 : (dm_M → Int32 → Int32 → Int32 → Option (Int32 × dm_M))) (hk93 : ∀ (M : dm_M) (x1 : Int32) (x2 : Int32) (x3 : Int32), k93 M x1 x2 x3 = some (r, M') → dh_W C A (dm_P E A M) (dm_Q E A (some (.int r)) M') 0 0 0 0 93 [(0, .ref (dm_am E)), (1, .int x1), (2, .int x2), (3, .int x3)] []) (M : dm_M) (x1 : Int32) (x2 : Int32) (x3 : Int32) (hf : gM_part_L93_F k93 M x1 x2 x3 = some (r, M')) : dh_W C A (dm_P E A M) (dm_Q E A (some (.int r)) M') 0 0 0 0 93 [(0, .ref (dm_am E)), (1, .int x1), (2, .int x2), (3, .int x3)] [] := by
  unfold gM_part_L93_F at hf
  refine r_iload_n hC dX2_part_93 rfl (j := 3) rfl ?_
  refine r_aload_n hC dX2_part_94 rfl (j := 0) rfl ?_
  refine m_getA hC hK fa_25 dX2_part_95 ?_
  refine r_iconst hC dX2_part_98 ki_0 ?_
  obtain ⟨v4, h4, hf⟩ := dh_bd hf
  refine m_iald hC hK kd_25 h4 dX2_part_99 ?_
  refine r_icmp_ge hC dX2_part_100 (tgt := 129) (by decide) (fun c5 => ?_) (fun c5 => ?_)
  · have hf := dh_if hf c5
    refine r_iload_n hC dX2_part_129 rfl (j := 1) rfl ?_
    refine r_iload_n hC dX2_part_130 rfl (j := 2) rfl ?_
    refine r_isub hC dX2_part_131 ?_
    exact m_iret hC dX2_part_132 rfl hf
  · have hf := dh_el hf c5
    refine r_aload_n hC dX2_part_103 rfl (j := 0) rfl ?_
    refine m_getA hC hK fa_9 dX2_part_104 ?_
    refine r_aload_n hC dX2_part_107 rfl (j := 0) rfl ?_
    refine m_getA hC hK fa_27 dX2_part_108 ?_
    refine r_iload_n hC dX2_part_111 rfl (j := 3) rfl ?_
    obtain ⟨v6, h6, hf⟩ := dh_bd hf
    refine m_iald hC hK kd_27 h6 dX2_part_112 ?_
    refine r_dup2_11 hC dX2_part_113 rfl rfl ?_
    obtain ⟨v7, h7, hf⟩ := dh_bd hf
    refine m_iald hC hK kd_9 h7 dX2_part_114 ?_
    refine r_aload_n hC dX2_part_115 rfl (j := 0) rfl ?_
    refine m_getA hC hK fa_75 dX2_part_116 ?_
    refine r_iload_n hC dX2_part_119 rfl (j := 3) rfl ?_
    obtain ⟨v8, h8, hf⟩ := dh_bd hf
    refine m_iald hC hK kd_75 h8 dX2_part_120 ?_
    refine r_iadd hC dX2_part_121 ?_
    obtain ⟨M9, h9, hf⟩ := dh_bd hf
    refine m_iast hC hK kd_9 h9 dX2_part_122 ?_
    refine r_iinc (lv' := [(3, .int (x3 + 1)), (0, .ref (dm_am E)), (1, .int x1), (2, .int x2)]) hC dX2_part_123 (j := 3) rfl (congrArg _ ki_1) (Nat.le_of_ble_eq_true rfl) rfl ?_
    refine r_goto hC dX2_part_126 (tgt := 93) (by decide) ?_
    exact r_sub [1, 2, 3, 0] rfl (hk93 M9 x1 x2 (x3 + 1) hf)
def gM_part_L93 : Nat → dm_M → Int32 → Int32 → Int32 → Option (Int32 × dm_M)
  | 0 => fun _ _ _ _ => none
  | n + 1 => gM_part_L93_F (gM_part_L93 n)
theorem wM_part_L93 {C : dh_C} {A : Nat → Prop} {E : dm_E} (hC : dh_ok C cX2_part 5 RX2 (some .int)) (hK : dm_Kn E (dh_s C)) (hR : dh_R C = { frames := 1, cells := 0, slots := 0, locals := 27 }) {r : Int32} {M' : dm_M} : ∀ (n : Nat) (M : dm_M) (x1 : Int32) (x2 : Int32) (x3 : Int32) (_ : gM_part_L93 n M x1 x2 x3 = some (r, M')), dh_W C A (dm_P E A M) (dm_Q E A (some (.int r)) M') 0 0 0 0 93 [(0, .ref (dm_am E)), (1, .int x1), (2, .int x2), (3, .int x3)] [] := by
  intro n
  induction n with
  | zero => intro M x1 x2 x3 hf; exact dh_no hf
  | succ n ih => intro M x1 x2 x3 hf; exact wM_part_L93_F hC hK hR (gM_part_L93 n) ih M x1 x2 x3 hf
def gM_part_L43_F (k29 : (dm_M → Int32 → Int32 → Int32 → Option (Int32 × dm_M))) (k43 : (dm_M → Int32 → Int32 → Int32 → Int32 → Option (Int32 × dm_M))) (M : dm_M) (x1 : Int32) (x2 : Int32) (x3 : Int32) (x4 : Int32) : Option (Int32 × dm_M) :=
  (dm_rd M 25 0).bind fun v11 =>
  if v11 ≤ x4 then (
    k29 M x1 x2 (x3 + 1))
  else
  (dm_rd M 29 x4).bind fun v13 =>
  if v13 = x3 then (
    (dm_rd M 75 x4).bind fun v15 =>
    k43 M x1 (x2 - v15) x3 (x4 + 1))
  else
  k43 M x1 (x2 - 0) x3 (x4 + 1)
theorem wM_part_L43_F {C : dh_C} {A : Nat → Prop} {E : dm_E} (hC : dh_ok C cX2_part 5 RX2 (some .int)) (hK : dm_Kn E (dh_s C)) (hR : dh_R C = { frames := 1, cells := 0, slots := 0, locals := 27 }) {r : Int32} {M' : dm_M} (k29 : (dm_M → Int32 → Int32 → Int32 → Option (Int32 × dm_M))) (hk29 : ∀ (M : dm_M) (x1 : Int32) (x2 : Int32) (x3 : Int32), k29 M x1 x2 x3 = some (r, M') → dh_W C A (dm_P E A M) (dm_Q E A (some (.int r)) M') 0 0 0 0 29 [(0, .ref (dm_am E)), (1, .int x1), (2, .int x2), (3, .int x3)] []) (k43 : (dm_M → Int32 → Int32 → Int32 → Int32 → Option (Int32 × dm_M))) (hk43 : ∀ (M : dm_M) (x1 : Int32) (x2 : Int32) (x3 : Int32) (x4 : Int32), k43 M x1 x2 x3 x4 = some (r, M') → dh_W C A (dm_P E A M) (dm_Q E A (some (.int r)) M') 0 0 0 0 43 [(0, .ref (dm_am E)), (1, .int x1), (2, .int x2), (3, .int x3), (4, .int x4)] []) (M : dm_M) (x1 : Int32) (x2 : Int32) (x3 : Int32) (x4 : Int32) (hf : gM_part_L43_F k29 k43 M x1 x2 x3 x4 = some (r, M')) : dh_W C A (dm_P E A M) (dm_Q E A (some (.int r)) M') 0 0 0 0 43 [(0, .ref (dm_am E)), (1, .int x1), (2, .int x2), (3, .int x3), (4, .int x4)] [] := by
  unfold gM_part_L43_F at hf
  refine r_iload hC dX2_part_43 (j := 4) rfl ?_
  refine r_aload_n hC dX2_part_45 rfl (j := 0) rfl ?_
  refine m_getA hC hK fa_25 dX2_part_46 ?_
  refine r_iconst hC dX2_part_49 ki_0 ?_
  obtain ⟨v11, h11, hf⟩ := dh_bd hf
  refine m_iald hC hK kd_25 h11 dX2_part_50 ?_
  refine r_icmp_ge hC dX2_part_51 (tgt := 85) (by decide) (fun c12 => ?_) (fun c12 => ?_)
  · have hf := dh_if hf c12
    refine r_iinc (lv' := [(3, .int (x3 + 1)), (0, .ref (dm_am E)), (1, .int x1), (2, .int x2), (4, .int x4)]) hC dX2_part_85 (j := 3) rfl (congrArg _ ki_1) (Nat.le_of_ble_eq_true rfl) rfl ?_
    refine r_goto hC dX2_part_88 (tgt := 29) (by decide) ?_
    exact r_sub [1, 2, 3, 0] rfl (hk29 M x1 x2 (x3 + 1) hf)
  · have hf := dh_el hf c12
    refine r_iload_n hC dX2_part_54 rfl (j := 2) rfl ?_
    refine r_aload_n hC dX2_part_55 rfl (j := 0) rfl ?_
    refine m_getA hC hK fa_29 dX2_part_56 ?_
    refine r_iload hC dX2_part_59 (j := 4) rfl ?_
    obtain ⟨v13, h13, hf⟩ := dh_bd hf
    refine m_iald hC hK kd_29 h13 dX2_part_61 ?_
    refine r_iload_n hC dX2_part_62 rfl (j := 3) rfl ?_
    refine r_icmp_ne hC dX2_part_63 (tgt := 76) (by decide) (fun c14 => ?_) (fun c14 => ?_)
    · have hf := dh_el hf c14
      refine r_iconst hC dX2_part_76 ki_0 ?_
      refine r_isub hC dX2_part_77 ?_
      refine r_istore_n (lv' := [(2, .int (x2 - 0)), (0, .ref (dm_am E)), (1, .int x1), (3, .int x3), (4, .int x4)]) hC dX2_part_78 rfl (Nat.le_of_ble_eq_true rfl) rfl ?_
      refine r_iinc (lv' := [(4, .int (x4 + 1)), (2, .int (x2 - 0)), (0, .ref (dm_am E)), (1, .int x1), (3, .int x3)]) hC dX2_part_79 (j := 4) rfl (congrArg _ ki_1) (Nat.le_of_ble_eq_true rfl) rfl ?_
      refine r_goto hC dX2_part_82 (tgt := 43) (by decide) ?_
      exact r_sub [2, 3, 1, 4, 0] rfl (hk43 M x1 (x2 - 0) x3 (x4 + 1) hf)
    · have hf := dh_if hf c14
      refine r_aload_n hC dX2_part_66 rfl (j := 0) rfl ?_
      refine m_getA hC hK fa_75 dX2_part_67 ?_
      refine r_iload hC dX2_part_70 (j := 4) rfl ?_
      obtain ⟨v15, h15, hf⟩ := dh_bd hf
      refine m_iald hC hK kd_75 h15 dX2_part_72 ?_
      refine r_goto hC dX2_part_73 (tgt := 77) (by decide) ?_
      refine r_isub hC dX2_part_77 ?_
      refine r_istore_n (lv' := [(2, .int (x2 - v15)), (0, .ref (dm_am E)), (1, .int x1), (3, .int x3), (4, .int x4)]) hC dX2_part_78 rfl (Nat.le_of_ble_eq_true rfl) rfl ?_
      refine r_iinc (lv' := [(4, .int (x4 + 1)), (2, .int (x2 - v15)), (0, .ref (dm_am E)), (1, .int x1), (3, .int x3)]) hC dX2_part_79 (j := 4) rfl (congrArg _ ki_1) (Nat.le_of_ble_eq_true rfl) rfl ?_
      refine r_goto hC dX2_part_82 (tgt := 43) (by decide) ?_
      exact r_sub [2, 3, 1, 4, 0] rfl (hk43 M x1 (x2 - v15) x3 (x4 + 1) hf)
def gM_part_L43 (k29 : (dm_M → Int32 → Int32 → Int32 → Option (Int32 × dm_M))) : Nat → dm_M → Int32 → Int32 → Int32 → Int32 → Option (Int32 × dm_M)
  | 0 => fun _ _ _ _ _ => none
  | n + 1 => gM_part_L43_F k29 (gM_part_L43 k29 n)
theorem wM_part_L43 {C : dh_C} {A : Nat → Prop} {E : dm_E} (hC : dh_ok C cX2_part 5 RX2 (some .int)) (hK : dm_Kn E (dh_s C)) (hR : dh_R C = { frames := 1, cells := 0, slots := 0, locals := 27 }) {r : Int32} {M' : dm_M} (k29 : (dm_M → Int32 → Int32 → Int32 → Option (Int32 × dm_M))) (hk29 : ∀ (M : dm_M) (x1 : Int32) (x2 : Int32) (x3 : Int32), k29 M x1 x2 x3 = some (r, M') → dh_W C A (dm_P E A M) (dm_Q E A (some (.int r)) M') 0 0 0 0 29 [(0, .ref (dm_am E)), (1, .int x1), (2, .int x2), (3, .int x3)] []) : ∀ (n : Nat) (M : dm_M) (x1 : Int32) (x2 : Int32) (x3 : Int32) (x4 : Int32) (_ : gM_part_L43 k29 n M x1 x2 x3 x4 = some (r, M')), dh_W C A (dm_P E A M) (dm_Q E A (some (.int r)) M') 0 0 0 0 43 [(0, .ref (dm_am E)), (1, .int x1), (2, .int x2), (3, .int x3), (4, .int x4)] [] := by
  intro n
  induction n with
  | zero => intro M x1 x2 x3 x4 hf; exact dh_no hf
  | succ n ih => intro M x1 x2 x3 x4 hf; exact wM_part_L43_F hC hK hR k29 hk29 (gM_part_L43 k29 n) ih M x1 x2 x3 x4 hf
def gM_part_L29_F (k29 : (dm_M → Int32 → Int32 → Int32 → Option (Int32 × dm_M))) (M : dm_M) (x1 : Int32) (x2 : Int32) (x3 : Int32) : Option (Int32 × dm_M) :=
  if 4 ≤ x3 then (
    gM_part_L93 dh_fu M x1 x2 0)
  else
  (gM_partRank M x3 x2).bind fun p10 =>
  gM_part_L43 k29 dh_fu p10 x1 x2 x3 0
theorem wM_part_L29_F {C : dh_C} {A : Nat → Prop} {E : dm_E} (hC : dh_ok C cX2_part 5 RX2 (some .int)) (hK : dm_Kn E (dh_s C)) (hR : dh_R C = { frames := 1, cells := 0, slots := 0, locals := 27 }) {r : Int32} {M' : dm_M} (k29 : (dm_M → Int32 → Int32 → Int32 → Option (Int32 × dm_M))) (hk29 : ∀ (M : dm_M) (x1 : Int32) (x2 : Int32) (x3 : Int32), k29 M x1 x2 x3 = some (r, M') → dh_W C A (dm_P E A M) (dm_Q E A (some (.int r)) M') 0 0 0 0 29 [(0, .ref (dm_am E)), (1, .int x1), (2, .int x2), (3, .int x3)] []) (M : dm_M) (x1 : Int32) (x2 : Int32) (x3 : Int32) (hf : gM_part_L29_F k29 M x1 x2 x3 = some (r, M')) : dh_W C A (dm_P E A M) (dm_Q E A (some (.int r)) M') 0 0 0 0 29 [(0, .ref (dm_am E)), (1, .int x1), (2, .int x2), (3, .int x3)] [] := by
  unfold gM_part_L29_F at hf
  refine r_iload_n hC dX2_part_29 rfl (j := 3) rfl ?_
  refine r_iconst hC dX2_part_30 ki_4 ?_
  refine r_icmp_ge hC dX2_part_31 (tgt := 91) (by decide) (fun c3 => ?_) (fun c3 => ?_)
  · have hf := dh_if hf c3
    refine r_iconst hC dX2_part_91 ki_0 ?_
    refine r_istore_n (lv' := [(3, .int 0), (0, .ref (dm_am E)), (1, .int x1), (2, .int x2)]) hC dX2_part_92 rfl (Nat.le_of_ble_eq_true rfl) rfl ?_
    exact r_sub [1, 2, 3, 0] rfl (wM_part_L93 hC hK hR dh_fu M x1 x2 0 hf)
  · have hf := dh_el hf c3
    refine r_aload_n hC dX2_part_34 rfl (j := 0) rfl ?_
    refine r_iload_n hC dX2_part_35 rfl (j := 3) rfl ?_
    refine r_iload_n hC dX2_part_36 rfl (j := 2) rfl ?_
    obtain ⟨p10, h10, hf⟩ := dh_bd hf
    refine m_callV' hC hK hR (cM_partRank _ E A M x3 x2 h10) q1950 q_partRank (Nat.le_of_ble_eq_true rfl) (Nat.le_of_ble_eq_true rfl) rfl (Nat.le_of_ble_eq_true rfl) dX2_part_37 ?_
    refine r_iconst hC dX2_part_40 ki_0 ?_
    refine r_istore (lv' := [(4, .int 0), (0, .ref (dm_am E)), (1, .int x1), (2, .int x2), (3, .int x3)]) hC dX2_part_41 (Nat.le_of_ble_eq_true rfl) rfl ?_
    exact r_sub [1, 2, 3, 4, 0] rfl (wM_part_L43 hC hK hR k29 hk29 dh_fu p10 x1 x2 x3 0 hf)
def gM_part_L29 : Nat → dm_M → Int32 → Int32 → Int32 → Option (Int32 × dm_M)
  | 0 => fun _ _ _ _ => none
  | n + 1 => gM_part_L29_F (gM_part_L29 n)
theorem wM_part_L29 {C : dh_C} {A : Nat → Prop} {E : dm_E} (hC : dh_ok C cX2_part 5 RX2 (some .int)) (hK : dm_Kn E (dh_s C)) (hR : dh_R C = { frames := 1, cells := 0, slots := 0, locals := 27 }) {r : Int32} {M' : dm_M} : ∀ (n : Nat) (M : dm_M) (x1 : Int32) (x2 : Int32) (x3 : Int32) (_ : gM_part_L29 n M x1 x2 x3 = some (r, M')), dh_W C A (dm_P E A M) (dm_Q E A (some (.int r)) M') 0 0 0 0 29 [(0, .ref (dm_am E)), (1, .int x1), (2, .int x2), (3, .int x3)] [] := by
  intro n
  induction n with
  | zero => intro M x1 x2 x3 hf; exact dh_no hf
  | succ n ih => intro M x1 x2 x3 hf; exact wM_part_L29_F hC hK hR (gM_part_L29 n) ih M x1 x2 x3 hf
def gM_part_L4_F (k4 : (dm_M → Int32 → Int32 → Int32 → Option (Int32 × dm_M))) (M : dm_M) (x1 : Int32) (x2 : Int32) (x3 : Int32) : Option (Int32 × dm_M) :=
  (dm_rd M 25 0).bind fun v1 =>
  if v1 ≤ x3 then (
    gM_part_L29 dh_fu M x1 x2 0)
  else
  (dm_wr M 75 x3 0).bind fun M16 =>
  k4 M16 x1 x2 (x3 + 1)
theorem wM_part_L4_F {C : dh_C} {A : Nat → Prop} {E : dm_E} (hC : dh_ok C cX2_part 5 RX2 (some .int)) (hK : dm_Kn E (dh_s C)) (hR : dh_R C = { frames := 1, cells := 0, slots := 0, locals := 27 }) {r : Int32} {M' : dm_M} (k4 : (dm_M → Int32 → Int32 → Int32 → Option (Int32 × dm_M))) (hk4 : ∀ (M : dm_M) (x1 : Int32) (x2 : Int32) (x3 : Int32), k4 M x1 x2 x3 = some (r, M') → dh_W C A (dm_P E A M) (dm_Q E A (some (.int r)) M') 0 0 0 0 4 [(0, .ref (dm_am E)), (1, .int x1), (2, .int x2), (3, .int x3)] []) (M : dm_M) (x1 : Int32) (x2 : Int32) (x3 : Int32) (hf : gM_part_L4_F k4 M x1 x2 x3 = some (r, M')) : dh_W C A (dm_P E A M) (dm_Q E A (some (.int r)) M') 0 0 0 0 4 [(0, .ref (dm_am E)), (1, .int x1), (2, .int x2), (3, .int x3)] [] := by
  unfold gM_part_L4_F at hf
  refine r_iload_n hC dX2_part_4 rfl (j := 3) rfl ?_
  refine r_aload_n hC dX2_part_5 rfl (j := 0) rfl ?_
  refine m_getA hC hK fa_25 dX2_part_6 ?_
  refine r_iconst hC dX2_part_9 ki_0 ?_
  obtain ⟨v1, h1, hf⟩ := dh_bd hf
  refine m_iald hC hK kd_25 h1 dX2_part_10 ?_
  refine r_icmp_ge hC dX2_part_11 (tgt := 27) (by decide) (fun c2 => ?_) (fun c2 => ?_)
  · have hf := dh_if hf c2
    refine r_iconst hC dX2_part_27 ki_0 ?_
    refine r_istore_n (lv' := [(3, .int 0), (0, .ref (dm_am E)), (1, .int x1), (2, .int x2)]) hC dX2_part_28 rfl (Nat.le_of_ble_eq_true rfl) rfl ?_
    exact r_sub [1, 2, 3, 0] rfl (wM_part_L29 hC hK hR dh_fu M x1 x2 0 hf)
  · have hf := dh_el hf c2
    refine r_aload_n hC dX2_part_14 rfl (j := 0) rfl ?_
    refine m_getA hC hK fa_75 dX2_part_15 ?_
    refine r_iload_n hC dX2_part_18 rfl (j := 3) rfl ?_
    refine r_iconst hC dX2_part_19 ki_0 ?_
    obtain ⟨M16, h16, hf⟩ := dh_bd hf
    refine m_iast hC hK kd_75 h16 dX2_part_20 ?_
    refine r_iinc (lv' := [(3, .int (x3 + 1)), (0, .ref (dm_am E)), (1, .int x1), (2, .int x2)]) hC dX2_part_21 (j := 3) rfl (congrArg _ ki_1) (Nat.le_of_ble_eq_true rfl) rfl ?_
    refine r_goto hC dX2_part_24 (tgt := 4) (by decide) ?_
    exact r_sub [1, 2, 3, 0] rfl (hk4 M16 x1 x2 (x3 + 1) hf)
def gM_part_L4 : Nat → dm_M → Int32 → Int32 → Int32 → Option (Int32 × dm_M)
  | 0 => fun _ _ _ _ => none
  | n + 1 => gM_part_L4_F (gM_part_L4 n)
theorem wM_part_L4 {C : dh_C} {A : Nat → Prop} {E : dm_E} (hC : dh_ok C cX2_part 5 RX2 (some .int)) (hK : dm_Kn E (dh_s C)) (hR : dh_R C = { frames := 1, cells := 0, slots := 0, locals := 27 }) {r : Int32} {M' : dm_M} : ∀ (n : Nat) (M : dm_M) (x1 : Int32) (x2 : Int32) (x3 : Int32) (_ : gM_part_L4 n M x1 x2 x3 = some (r, M')), dh_W C A (dm_P E A M) (dm_Q E A (some (.int r)) M') 0 0 0 0 4 [(0, .ref (dm_am E)), (1, .int x1), (2, .int x2), (3, .int x3)] [] := by
  intro n
  induction n with
  | zero => intro M x1 x2 x3 hf; exact dh_no hf
  | succ n ih => intro M x1 x2 x3 hf; exact wM_part_L4_F hC hK hR (gM_part_L4 n) ih M x1 x2 x3 hf
def gM_part (M : dm_M) (x1 : Int32) : Option (Int32 × dm_M) :=
  gM_part_L4 dh_fu M x1 x1 0
theorem wM_part {C : dh_C} {A : Nat → Prop} {E : dm_E} (hC : dh_ok C cX2_part 5 RX2 (some .int)) (hK : dm_Kn E (dh_s C)) (hR : dh_R C = { frames := 1, cells := 0, slots := 0, locals := 27 }) {r : Int32} {M' : dm_M} (M : dm_M) (x1 : Int32) (hf : gM_part M x1 = some (r, M')) : dh_W C A (dm_P E A M) (dm_Q E A (some (.int r)) M') 0 0 0 0 0 [(0, .ref (dm_am E)), (1, .int x1)] [] := by
  unfold gM_part at hf
  refine r_iload_n hC dX2_part_0 rfl (j := 1) rfl ?_
  refine r_istore_n (lv' := [(2, .int x1), (0, .ref (dm_am E)), (1, .int x1)]) hC dX2_part_1 rfl (Nat.le_of_ble_eq_true rfl) rfl ?_
  refine r_iconst hC dX2_part_2 ki_0 ?_
  refine r_istore_n (lv' := [(3, .int 0), (2, .int x1), (0, .ref (dm_am E)), (1, .int x1)]) hC dX2_part_3 rfl (Nat.le_of_ble_eq_true rfl) rfl ?_
  exact r_sub [2, 3, 1, 0] rfl (wM_part_L4 hC hK hR dh_fu M x1 x1 0 hf)
theorem cM_part (l : Launch) (E : dm_E) (A : Nat → Prop) (M : dm_M) (x1 : Int32) {p : Int32 × dm_M} (h : gM_part M x1 = some p) : dm_Met l yX2_part cX2_part 5 (some .int) 1 27 E A [.ref (dm_am E), .int x1] M (some (.int p.1)) p.2 := by
  refine dh_met (by decide) (Nat.le_of_ble_eq_true rfl) (fun _ _ h => ⟨_, h.1⟩) (fun C hl hR hC hnm hK => ?_)
  exact wM_part hC hK hR M x1 h
theorem q_part : dm_calV yX2_part cX2_part 5 (some .int) 1 := ⟨q1948, qs75, q1949, by decide +kernel⟩
/-! found(II)I -/
def gM_found_L104_F (k104 : (dm_M → Int32 → Int32 → Int32 → Int32 → Option (Int32 × dm_M))) (M : dm_M) (x1 : Int32) (x2 : Int32) (x3 : Int32) (x4 : Int32) : Option (Int32 × dm_M) :=
  (dm_rd M 25 0).bind fun v17 =>
  if v17 ≤ x4 then (
    (dm_rd M 9 x1).bind fun v19 =>
    (dm_wr M 9 x1 (v19 + (x2 - x3))).bind fun M20 =>
    some (x3, M20))
  else
  (dm_rd M 39 x4).bind fun v21 =>
  (dm_rd M 75 x4).bind fun v22 =>
  (dm_wr M 39 x4 (v21 - v22)).bind fun M23 =>
  k104 M23 x1 x2 x3 (x4 + 1)
theorem wM_found_L104_F {C : dh_C} {A : Nat → Prop} {E : dm_E} (hC : dh_ok C cX2_found 5 RX2 (some .int)) (hK : dm_Kn E (dh_s C)) (hR : dh_R C = { frames := 4, cells := 0, slots := 0, locals := 86 }) {r : Int32} {M' : dm_M} (k104 : (dm_M → Int32 → Int32 → Int32 → Int32 → Option (Int32 × dm_M))) (hk104 : ∀ (M : dm_M) (x1 : Int32) (x2 : Int32) (x3 : Int32) (x4 : Int32), k104 M x1 x2 x3 x4 = some (r, M') → dh_W C A (dm_P E A M) (dm_Q E A (some (.int r)) M') 0 0 0 0 104 [(0, .ref (dm_am E)), (1, .int x1), (2, .int x2), (3, .int x3), (4, .int x4)] []) (M : dm_M) (x1 : Int32) (x2 : Int32) (x3 : Int32) (x4 : Int32) (hf : gM_found_L104_F k104 M x1 x2 x3 x4 = some (r, M')) : dh_W C A (dm_P E A M) (dm_Q E A (some (.int r)) M') 0 0 0 0 104 [(0, .ref (dm_am E)), (1, .int x1), (2, .int x2), (3, .int x3), (4, .int x4)] [] := by
  unfold gM_found_L104_F at hf
  refine r_iload hC dX2_found_104 (j := 4) rfl ?_
  refine r_aload_n hC dX2_found_106 rfl (j := 0) rfl ?_
  refine m_getA hC hK fa_25 dX2_found_107 ?_
  refine r_iconst hC dX2_found_110 ki_0 ?_
  obtain ⟨v17, h17, hf⟩ := dh_bd hf
  refine m_iald hC hK kd_25 h17 dX2_found_111 ?_
  refine r_icmp_ge hC dX2_found_112 (tgt := 138) (by decide) (fun c18 => ?_) (fun c18 => ?_)
  · have hf := dh_if hf c18
    refine r_aload_n hC dX2_found_138 rfl (j := 0) rfl ?_
    refine m_getA hC hK fa_9 dX2_found_139 ?_
    refine r_iload_n hC dX2_found_142 rfl (j := 1) rfl ?_
    refine r_dup2_11 hC dX2_found_143 rfl rfl ?_
    obtain ⟨v19, h19, hf⟩ := dh_bd hf
    refine m_iald hC hK kd_9 h19 dX2_found_144 ?_
    refine r_iload_n hC dX2_found_145 rfl (j := 2) rfl ?_
    refine r_iload_n hC dX2_found_146 rfl (j := 3) rfl ?_
    refine r_isub hC dX2_found_147 ?_
    refine r_iadd hC dX2_found_148 ?_
    obtain ⟨M20, h20, hf⟩ := dh_bd hf
    refine m_iast hC hK kd_9 h20 dX2_found_149 ?_
    refine r_iload_n hC dX2_found_150 rfl (j := 3) rfl ?_
    exact m_iret hC dX2_found_151 rfl hf
  · have hf := dh_el hf c18
    refine r_aload_n hC dX2_found_115 rfl (j := 0) rfl ?_
    refine m_getA hC hK fa_39 dX2_found_116 ?_
    refine r_iload hC dX2_found_119 (j := 4) rfl ?_
    refine r_dup2_11 hC dX2_found_121 rfl rfl ?_
    obtain ⟨v21, h21, hf⟩ := dh_bd hf
    refine m_iald hC hK kd_39 h21 dX2_found_122 ?_
    refine r_aload_n hC dX2_found_123 rfl (j := 0) rfl ?_
    refine m_getA hC hK fa_75 dX2_found_124 ?_
    refine r_iload hC dX2_found_127 (j := 4) rfl ?_
    obtain ⟨v22, h22, hf⟩ := dh_bd hf
    refine m_iald hC hK kd_75 h22 dX2_found_129 ?_
    refine r_isub hC dX2_found_130 ?_
    obtain ⟨M23, h23, hf⟩ := dh_bd hf
    refine m_iast hC hK kd_39 h23 dX2_found_131 ?_
    refine r_iinc (lv' := [(4, .int (x4 + 1)), (0, .ref (dm_am E)), (1, .int x1), (2, .int x2), (3, .int x3)]) hC dX2_found_132 (j := 4) rfl (congrArg _ ki_1) (Nat.le_of_ble_eq_true rfl) rfl ?_
    refine r_goto hC dX2_found_135 (tgt := 104) (by decide) ?_
    exact r_sub [1, 2, 3, 4, 0] rfl (hk104 M23 x1 x2 x3 (x4 + 1) hf)
def gM_found_L104 : Nat → dm_M → Int32 → Int32 → Int32 → Int32 → Option (Int32 × dm_M)
  | 0 => fun _ _ _ _ _ => none
  | n + 1 => gM_found_L104_F (gM_found_L104 n)
theorem wM_found_L104 {C : dh_C} {A : Nat → Prop} {E : dm_E} (hC : dh_ok C cX2_found 5 RX2 (some .int)) (hK : dm_Kn E (dh_s C)) (hR : dh_R C = { frames := 4, cells := 0, slots := 0, locals := 86 }) {r : Int32} {M' : dm_M} : ∀ (n : Nat) (M : dm_M) (x1 : Int32) (x2 : Int32) (x3 : Int32) (x4 : Int32) (_ : gM_found_L104 n M x1 x2 x3 x4 = some (r, M')), dh_W C A (dm_P E A M) (dm_Q E A (some (.int r)) M') 0 0 0 0 104 [(0, .ref (dm_am E)), (1, .int x1), (2, .int x2), (3, .int x3), (4, .int x4)] [] := by
  intro n
  induction n with
  | zero => intro M x1 x2 x3 x4 hf; exact dh_no hf
  | succ n ih => intro M x1 x2 x3 x4 hf; exact wM_found_L104_F hC hK hR (gM_found_L104 n) ih M x1 x2 x3 x4 hf
def gM_found_L49_F (k49 : (dm_M → Int32 → Int32 → Int32 → Option (Int32 × dm_M))) (M : dm_M) (x1 : Int32) (x2 : Int32) (x4 : Int32) : Option (Int32 × dm_M) :=
  (dm_rd M 25 0).bind fun v14 =>
  if v14 ≤ x4 then (
    (gM_part M x2).bind fun p16 =>
    gM_found_L104 dh_fu p16.2 x1 x2 p16.1 0)
  else
  (dm_rd M 26 x4).bind fun v24 =>
  if v24 = x1 then (
    (dm_rd M 39 x4).bind fun v27 =>
    (dm_wr M 74 x4 v27).bind fun M28 =>
    k49 M28 x1 x2 (x4 + 1))
  else
  (dm_wr M 74 x4 0).bind fun M26 =>
  k49 M26 x1 x2 (x4 + 1)
theorem wM_found_L49_F {C : dh_C} {A : Nat → Prop} {E : dm_E} (hC : dh_ok C cX2_found 5 RX2 (some .int)) (hK : dm_Kn E (dh_s C)) (hR : dh_R C = { frames := 4, cells := 0, slots := 0, locals := 86 }) {r : Int32} {M' : dm_M} (k49 : (dm_M → Int32 → Int32 → Int32 → Option (Int32 × dm_M))) (hk49 : ∀ (M : dm_M) (x1 : Int32) (x2 : Int32) (x4 : Int32), k49 M x1 x2 x4 = some (r, M') → dh_W C A (dm_P E A M) (dm_Q E A (some (.int r)) M') 0 0 0 0 49 [(0, .ref (dm_am E)), (1, .int x1), (2, .int x2), (4, .int x4)] []) (M : dm_M) (x1 : Int32) (x2 : Int32) (x4 : Int32) (hf : gM_found_L49_F k49 M x1 x2 x4 = some (r, M')) : dh_W C A (dm_P E A M) (dm_Q E A (some (.int r)) M') 0 0 0 0 49 [(0, .ref (dm_am E)), (1, .int x1), (2, .int x2), (4, .int x4)] [] := by
  unfold gM_found_L49_F at hf
  refine r_iload hC dX2_found_49 (j := 3) rfl ?_
  refine r_aload_n hC dX2_found_51 rfl (j := 0) rfl ?_
  refine m_getA hC hK fa_25 dX2_found_52 ?_
  refine r_iconst hC dX2_found_55 ki_0 ?_
  obtain ⟨v14, h14, hf⟩ := dh_bd hf
  refine m_iald hC hK kd_25 h14 dX2_found_56 ?_
  refine r_icmp_ge hC dX2_found_57 (tgt := 95) (by decide) (fun c15 => ?_) (fun c15 => ?_)
  · have hf := dh_if hf c15
    refine r_aload_n hC dX2_found_95 rfl (j := 0) rfl ?_
    refine r_iload_n hC dX2_found_96 rfl (j := 2) rfl ?_
    obtain ⟨p16, h16, hf⟩ := dh_bd hf
    refine m_callV' hC hK hR (cM_part _ E A M x2 h16) q1946 q_part (Nat.le_of_ble_eq_true rfl) (Nat.le_of_ble_eq_true rfl) rfl (Nat.le_of_ble_eq_true rfl) dX2_found_97 ?_
    refine r_istore_n (lv' := [(3, .int p16.1), (0, .ref (dm_am E)), (1, .int x1), (2, .int x2), (4, .int x4)]) hC dX2_found_100 rfl (Nat.le_of_ble_eq_true rfl) rfl ?_
    refine r_iconst hC dX2_found_101 ki_0 ?_
    refine r_istore (lv' := [(4, .int 0), (3, .int p16.1), (0, .ref (dm_am E)), (1, .int x1), (2, .int x2)]) hC dX2_found_102 (Nat.le_of_ble_eq_true rfl) rfl ?_
    exact r_sub [2, 3, 4, 1, 0] rfl (wM_found_L104 hC hK hR dh_fu p16.2 x1 x2 p16.1 0 hf)
  · have hf := dh_el hf c15
    refine r_aload_n hC dX2_found_60 rfl (j := 0) rfl ?_
    refine m_getA hC hK fa_74 dX2_found_61 ?_
    refine r_iload hC dX2_found_64 (j := 3) rfl ?_
    refine r_aload_n hC dX2_found_66 rfl (j := 0) rfl ?_
    refine m_getA hC hK fa_26 dX2_found_67 ?_
    refine r_iload hC dX2_found_70 (j := 3) rfl ?_
    obtain ⟨v24, h24, hf⟩ := dh_bd hf
    refine m_iald hC hK kd_26 h24 dX2_found_72 ?_
    refine r_iload_n hC dX2_found_73 rfl (j := 1) rfl ?_
    refine r_icmp_ne hC dX2_found_74 (tgt := 87) (by decide) (fun c25 => ?_) (fun c25 => ?_)
    · have hf := dh_el hf c25
      refine r_iconst hC dX2_found_87 ki_0 ?_
      obtain ⟨M26, h26, hf⟩ := dh_bd hf
      refine m_iast hC hK kd_74 h26 dX2_found_88 ?_
      refine r_iinc (lv' := [(4, .int (x4 + 1)), (0, .ref (dm_am E)), (1, .int x1), (2, .int x2)]) hC dX2_found_89 (j := 3) rfl (congrArg _ ki_1) (Nat.le_of_ble_eq_true rfl) rfl ?_
      refine r_goto hC dX2_found_92 (tgt := 49) (by decide) ?_
      exact r_sub [1, 2, 3, 0] rfl (hk49 M26 x1 x2 (x4 + 1) hf)
    · have hf := dh_if hf c25
      refine r_aload_n hC dX2_found_77 rfl (j := 0) rfl ?_
      refine m_getA hC hK fa_39 dX2_found_78 ?_
      refine r_iload hC dX2_found_81 (j := 3) rfl ?_
      obtain ⟨v27, h27, hf⟩ := dh_bd hf
      refine m_iald hC hK kd_39 h27 dX2_found_83 ?_
      refine r_goto hC dX2_found_84 (tgt := 88) (by decide) ?_
      obtain ⟨M28, h28, hf⟩ := dh_bd hf
      refine m_iast hC hK kd_74 h28 dX2_found_88 ?_
      refine r_iinc (lv' := [(4, .int (x4 + 1)), (0, .ref (dm_am E)), (1, .int x1), (2, .int x2)]) hC dX2_found_89 (j := 3) rfl (congrArg _ ki_1) (Nat.le_of_ble_eq_true rfl) rfl ?_
      refine r_goto hC dX2_found_92 (tgt := 49) (by decide) ?_
      exact r_sub [1, 2, 3, 0] rfl (hk49 M28 x1 x2 (x4 + 1) hf)
def gM_found_L49 : Nat → dm_M → Int32 → Int32 → Int32 → Option (Int32 × dm_M)
  | 0 => fun _ _ _ _ => none
  | n + 1 => gM_found_L49_F (gM_found_L49 n)
theorem wM_found_L49 {C : dh_C} {A : Nat → Prop} {E : dm_E} (hC : dh_ok C cX2_found 5 RX2 (some .int)) (hK : dm_Kn E (dh_s C)) (hR : dh_R C = { frames := 4, cells := 0, slots := 0, locals := 86 }) {r : Int32} {M' : dm_M} : ∀ (n : Nat) (M : dm_M) (x1 : Int32) (x2 : Int32) (x4 : Int32) (_ : gM_found_L49 n M x1 x2 x4 = some (r, M')), dh_W C A (dm_P E A M) (dm_Q E A (some (.int r)) M') 0 0 0 0 49 [(0, .ref (dm_am E)), (1, .int x1), (2, .int x2), (4, .int x4)] [] := by
  intro n
  induction n with
  | zero => intro M x1 x2 x4 hf; exact dh_no hf
  | succ n ih => intro M x1 x2 x4 hf; exact wM_found_L49_F hC hK hR (gM_found_L49 n) ih M x1 x2 x4 hf
def gM_found (M : dm_M) (x1 : Int32) (x2 : Int32) : Option (Int32 × dm_M) :=
  (some (dm_set M 0 0 0)).bind fun M1 =>
  (gM_isPerson M1 x1).bind fun p2 =>
  if p2 = 0 then (
    some ((-1), M1))
  else
  (gM_in M1 x2 1 1000000).bind fun p4 =>
  if p4 = 0 then (
    some ((-1), M1))
  else
  (dm_rd M1 20 x1).bind fun v6 =>
  if v6 = 0 then (
    (dm_rd M1 9 x1).bind fun v8 =>
    (dm_wr M1 9 x1 (v8 + (x2 - 0))).bind fun M9 =>
    some (0, M9))
  else
  (gM_tellsNow M1 x1 8).bind fun p10 =>
  if ¬ (p10.1 = 0) then (
    gM_found_L49 dh_fu p10.2 x1 x2 0)
  else
  (dm_rd p10.2 9 x1).bind fun v12 =>
  (dm_wr p10.2 9 x1 (v12 + (x2 - 0))).bind fun M13 =>
  some (0, M13)
theorem wM_found {C : dh_C} {A : Nat → Prop} {E : dm_E} (hC : dh_ok C cX2_found 5 RX2 (some .int)) (hK : dm_Kn E (dh_s C)) (hR : dh_R C = { frames := 4, cells := 0, slots := 0, locals := 86 }) {r : Int32} {M' : dm_M} (M : dm_M) (x1 : Int32) (x2 : Int32) (hf : gM_found M x1 x2 = some (r, M')) : dh_W C A (dm_P E A M) (dm_Q E A (some (.int r)) M') 0 0 0 0 0 [(0, .ref (dm_am E)), (1, .int x1), (2, .int x2)] [] := by
  unfold gM_found at hf
  refine r_aload_n hC dX2_found_0 rfl (j := 0) rfl ?_
  refine r_iconst hC dX2_found_1 ki_0 ?_
  obtain ⟨M1, h1, hf⟩ := dh_bd hf
  refine m_putI hC hK fi_0 dX2_found_2 h1 ?_
  refine r_aload_n hC dX2_found_5 rfl (j := 0) rfl ?_
  refine r_iload_n hC dX2_found_6 rfl (j := 1) rfl ?_
  obtain ⟨p2, h2, hf⟩ := dh_bd hf
  refine m_callV' hC hK hR (cM_isPerson _ E A M1 x1 h2) q1650 q_isPerson (Nat.le_of_ble_eq_true rfl) (Nat.le_of_ble_eq_true rfl) rfl (Nat.le_of_ble_eq_true rfl) dX2_found_7 ?_
  refine r_if_eq hC dX2_found_10 (tgt := 23) (by decide) (fun c3 => ?_) (fun c3 => ?_)
  · have hf := dh_if hf c3
    refine r_iconst hC dX2_found_23 ki_m1 ?_
    exact m_iret hC dX2_found_24 rfl hf
  · have hf := dh_el hf c3
    refine r_iload_n hC dX2_found_13 rfl (j := 2) rfl ?_
    refine r_iconst hC dX2_found_14 ki_1 ?_
    refine r_ldc hC q1638 dX2_found_15 ?_
    obtain ⟨p4, h4, hf⟩ := dh_bd hf
    refine m_callS' hC hK hR (cM_in _ E A M1 x2 1 1000000 h4) q1639 q_in (Nat.le_of_ble_eq_true rfl) (Nat.le_of_ble_eq_true rfl) rfl (Nat.le_of_ble_eq_true rfl) dX2_found_17 ?_
    refine r_if_ne hC dX2_found_20 (tgt := 25) (by decide) (fun c5 => ?_) (fun c5 => ?_)
    · have hf := dh_el hf c5
      refine r_iconst hC dX2_found_25 ki_0 ?_
      refine r_istore_n (lv' := [(3, .int 0), (0, .ref (dm_am E)), (1, .int x1), (2, .int x2)]) hC dX2_found_26 rfl (Nat.le_of_ble_eq_true rfl) rfl ?_
      refine r_aload_n hC dX2_found_27 rfl (j := 1) rfl ?_
      refine m_getA hC hK fa_20 dX2_found_28 ?_
      refine r_iload_n hC dX2_found_31 rfl (j := 2) rfl ?_
      obtain ⟨v6, h6, hf⟩ := dh_bd hf
      refine m_zald hC hK kd_20 h6 dX2_found_32 ?_
      refine r_if_eq hC dX2_found_33 (tgt := 138) (by decide) (fun c7 => ?_) (fun c7 => ?_)
      · have hf := dh_if hf c7
        refine r_aload_n hC dX2_found_138 rfl (j := 1) rfl ?_
        refine m_getA hC hK fa_9 dX2_found_139 ?_
        refine r_iload_n hC dX2_found_142 rfl (j := 2) rfl ?_
        refine r_dup2_11 hC dX2_found_143 rfl rfl ?_
        obtain ⟨v8, h8, hf⟩ := dh_bd hf
        refine m_iald hC hK kd_9 h8 dX2_found_144 ?_
        refine r_iload_n hC dX2_found_145 rfl (j := 3) rfl ?_
        refine r_iload_n hC dX2_found_146 rfl (j := 0) rfl ?_
        refine r_isub hC dX2_found_147 ?_
        refine r_iadd hC dX2_found_148 ?_
        obtain ⟨M9, h9, hf⟩ := dh_bd hf
        refine m_iast hC hK kd_9 h9 dX2_found_149 ?_
        refine r_iload_n hC dX2_found_150 rfl (j := 0) rfl ?_
        exact m_iret hC dX2_found_151 rfl hf
      · have hf := dh_el hf c7
        refine r_aload_n hC dX2_found_36 rfl (j := 1) rfl ?_
        refine r_iload_n hC dX2_found_37 rfl (j := 2) rfl ?_
        refine r_bipush hC dX2_found_38 kb_8 ?_
        obtain ⟨p10, h10, hf⟩ := dh_bd hf
        refine m_callV' hC hK hR (cM_tellsNow _ E A M1 x1 8 h10) q1848 q_tellsNow (Nat.le_of_ble_eq_true rfl) (Nat.le_of_ble_eq_true rfl) rfl (Nat.le_of_ble_eq_true rfl) dX2_found_40 ?_
        refine r_if_eq hC dX2_found_43 (tgt := 138) (by decide) (fun c11 => ?_) (fun c11 => ?_)
        · have hf := dh_el hf (fun q => q c11)
          refine r_aload_n hC dX2_found_138 rfl (j := 1) rfl ?_
          refine m_getA hC hK fa_9 dX2_found_139 ?_
          refine r_iload_n hC dX2_found_142 rfl (j := 2) rfl ?_
          refine r_dup2_11 hC dX2_found_143 rfl rfl ?_
          obtain ⟨v12, h12, hf⟩ := dh_bd hf
          refine m_iald hC hK kd_9 h12 dX2_found_144 ?_
          refine r_iload_n hC dX2_found_145 rfl (j := 3) rfl ?_
          refine r_iload_n hC dX2_found_146 rfl (j := 0) rfl ?_
          refine r_isub hC dX2_found_147 ?_
          refine r_iadd hC dX2_found_148 ?_
          obtain ⟨M13, h13, hf⟩ := dh_bd hf
          refine m_iast hC hK kd_9 h13 dX2_found_149 ?_
          refine r_iload_n hC dX2_found_150 rfl (j := 0) rfl ?_
          exact m_iret hC dX2_found_151 rfl hf
        · have hf := dh_if hf c11
          refine r_iconst hC dX2_found_46 ki_0 ?_
          refine r_istore (lv' := [(4, .int 0), (3, .int 0), (0, .ref (dm_am E)), (1, .int x1), (2, .int x2)]) hC dX2_found_47 (Nat.le_of_ble_eq_true rfl) rfl ?_
          exact r_sub [2, 3, 4, 0] rfl (wM_found_L49 hC hK hR dh_fu p10.2 x1 x2 0 hf)
    · have hf := dh_if hf c5
      refine r_iconst hC dX2_found_23 ki_m1 ?_
      exact m_iret hC dX2_found_24 rfl hf
theorem cM_found (l : Launch) (E : dm_E) (A : Nat → Prop) (M : dm_M) (x1 : Int32) (x2 : Int32) {p : Int32 × dm_M} (h : gM_found M x1 x2 = some p) : dm_Met l yX2_found cX2_found 5 (some .int) 4 86 E A [.ref (dm_am E), .int x1, .int x2] M (some (.int p.1)) p.2 := by
  refine dh_met (by decide) (Nat.le_of_ble_eq_true rfl) (fun _ _ h => ⟨_, h.1⟩) (fun C hl hR hC hnm hK => ?_)
  exact wM_found hC hK hR M x1 x2 h
theorem q_found : dm_calV yX2_found cX2_found 5 (some .int) 2 := ⟨q1956, q1957, q1958, by decide +kernel⟩
/-! lacks(III)I -/
def gM_lacks_L30_F (k21 : (Int32 → Int32 → Int32 → Int64 → Int32 → Option Int32)) (k30 : (Int32 → Int32 → Int32 → Int64 → Int32 → Int32 → Option Int32)) (M : dm_M) (x2 : Int32) (x3 : Int32) (x4 : Int32) (x5 : Int64) (x7 : Int32) (x8 : Int32) : Option Int32 :=
  (dm_rd M 25 0).bind fun v7 =>
  if v7 ≤ x8 then (
    k21 x2 x3 x4 x5 (x7 + 1))
  else
  if ((x2 >>> (x7 &&& 31)) &&& 1) = 0 then (
    k21 x2 x3 x4 x5 (x7 + 1))
  else
  (dm_rd M 26 x8).bind fun v10 =>
  (dm_rd M 77 x7).bind fun v11 =>
  if v10 = v11 then (
    (dm_rd M 27 x8).bind fun v13 =>
    if v13 = x4 then (
      (gM_dueOf M x8).bind fun p15 =>
      k30 x2 x3 x4 (x5 + (Int32.toInt64 p15)) x7 (x8 + 1))
    else
    k30 x2 x3 x4 (x5 + 0) x7 (x8 + 1))
  else
  k30 x2 x3 x4 (x5 + 0) x7 (x8 + 1)
theorem wM_lacks_L30_F {C : dh_C} {A : Nat → Prop} {E : dm_E} (hC : dh_ok C cX2_lacks 9 RX2 (some .int)) (hK : dm_Kn E (dh_s C)) (hR : dh_R C = { frames := 3, cells := 0, slots := 0, locals := 65 }) {r : Int32} (M : dm_M) (k21 : (Int32 → Int32 → Int32 → Int64 → Int32 → Option Int32)) (hk21 : ∀ (x2 : Int32) (x3 : Int32) (x4 : Int32) (x5 : Int64) (x7 : Int32), k21 x2 x3 x4 x5 x7 = some r → dh_W C A (dm_P E A M) (dm_Q E A (some (.int r)) M) 0 0 0 0 21 [(0, .ref (dm_am E)), (2, .int x2), (3, .int x3), (4, .int x4), (5, .long x5), (7, .int x7)] []) (k30 : (Int32 → Int32 → Int32 → Int64 → Int32 → Int32 → Option Int32)) (hk30 : ∀ (x2 : Int32) (x3 : Int32) (x4 : Int32) (x5 : Int64) (x7 : Int32) (x8 : Int32), k30 x2 x3 x4 x5 x7 x8 = some r → dh_W C A (dm_P E A M) (dm_Q E A (some (.int r)) M) 0 0 0 0 30 [(0, .ref (dm_am E)), (2, .int x2), (3, .int x3), (4, .int x4), (5, .long x5), (7, .int x7), (8, .int x8)] []) (x2 : Int32) (x3 : Int32) (x4 : Int32) (x5 : Int64) (x7 : Int32) (x8 : Int32) (hf : gM_lacks_L30_F k21 k30 M x2 x3 x4 x5 x7 x8 = some r) : dh_W C A (dm_P E A M) (dm_Q E A (some (.int r)) M) 0 0 0 0 30 [(0, .ref (dm_am E)), (2, .int x2), (3, .int x3), (4, .int x4), (5, .long x5), (7, .int x7), (8, .int x8)] [] := by
  unfold gM_lacks_L30_F at hf
  refine r_iload hC dX2_lacks_30 (j := 6) rfl ?_
  refine r_aload_n hC dX2_lacks_32 rfl (j := 0) rfl ?_
  refine m_getA hC hK fa_25 dX2_lacks_33 ?_
  refine r_iconst hC dX2_lacks_36 ki_0 ?_
  obtain ⟨v7, h7, hf⟩ := dh_bd hf
  refine m_iald hC hK kd_25 h7 dX2_lacks_37 ?_
  refine r_icmp_ge hC dX2_lacks_38 (tgt := 101) (by decide) (fun c8 => ?_) (fun c8 => ?_)
  · have hf := dh_if hf c8
    refine r_iinc (lv' := [(7, .int (x7 + 1)), (0, .ref (dm_am E)), (2, .int x2), (3, .int x3), (4, .int x4), (5, .long x5), (8, .int x8)]) hC dX2_lacks_101 (j := 5) rfl (congrArg _ ki_1) (Nat.le_of_ble_eq_true rfl) rfl ?_
    refine r_goto hC dX2_lacks_104 (tgt := 21) (by decide) ?_
    exact r_sub [1, 2, 3, 4, 5, 0] rfl (hk21 x2 x3 x4 x5 (x7 + 1) hf)
  · have hf := dh_el hf c8
    refine r_iload_n hC dX2_lacks_41 rfl (j := 1) rfl ?_
    refine r_iload hC dX2_lacks_42 (j := 5) rfl ?_
    refine r_ishr hC dX2_lacks_44 ?_
    refine r_iconst hC dX2_lacks_45 ki_1 ?_
    refine r_iand hC dX2_lacks_46 ?_
    refine r_if_eq hC dX2_lacks_47 (tgt := 101) (by decide) (fun c9 => ?_) (fun c9 => ?_)
    · have hf := dh_if hf c9
      refine r_iinc (lv' := [(7, .int (x7 + 1)), (0, .ref (dm_am E)), (2, .int x2), (3, .int x3), (4, .int x4), (5, .long x5), (8, .int x8)]) hC dX2_lacks_101 (j := 5) rfl (congrArg _ ki_1) (Nat.le_of_ble_eq_true rfl) rfl ?_
      refine r_goto hC dX2_lacks_104 (tgt := 21) (by decide) ?_
      exact r_sub [1, 2, 3, 4, 5, 0] rfl (hk21 x2 x3 x4 x5 (x7 + 1) hf)
    · have hf := dh_el hf c9
      refine r_lload hC dX2_lacks_50 (j := 4) rfl ?_
      refine r_aload_n hC dX2_lacks_52 rfl (j := 0) rfl ?_
      refine m_getA hC hK fa_26 dX2_lacks_53 ?_
      refine r_iload hC dX2_lacks_56 (j := 6) rfl ?_
      obtain ⟨v10, h10, hf⟩ := dh_bd hf
      refine m_iald hC hK kd_26 h10 dX2_lacks_58 ?_
      refine r_aload_n hC dX2_lacks_59 rfl (j := 0) rfl ?_
      refine m_getA hC hK fa_77 dX2_lacks_60 ?_
      refine r_iload hC dX2_lacks_63 (j := 5) rfl ?_
      obtain ⟨v11, h11, hf⟩ := dh_bd hf
      refine m_iald hC hK kd_77 h11 dX2_lacks_65 ?_
      refine r_icmp_ne hC dX2_lacks_66 (tgt := 91) (by decide) (fun c12 => ?_) (fun c12 => ?_)
      · have hf := dh_el hf c12
        refine r_lconst hC dX2_lacks_91 kl_0 ?_
        refine r_ladd hC dX2_lacks_92 ?_
        refine r_lstore (lv' := [(5, .long (x5 + 0)), (0, .ref (dm_am E)), (2, .int x2), (3, .int x3), (4, .int x4), (7, .int x7), (8, .int x8)]) hC dX2_lacks_93 (Nat.le_of_ble_eq_true rfl) rfl ?_
        refine r_iinc (lv' := [(8, .int (x8 + 1)), (5, .long (x5 + 0)), (0, .ref (dm_am E)), (2, .int x2), (3, .int x3), (4, .int x4), (7, .int x7)]) hC dX2_lacks_95 (j := 6) rfl (congrArg _ ki_1) (Nat.le_of_ble_eq_true rfl) rfl ?_
        refine r_goto hC dX2_lacks_98 (tgt := 30) (by decide) ?_
        exact r_sub [2, 3, 4, 5, 1, 6, 0] rfl (hk30 x2 x3 x4 (x5 + 0) x7 (x8 + 1) hf)
      · have hf := dh_if hf c12
        refine r_aload_n hC dX2_lacks_69 rfl (j := 0) rfl ?_
        refine m_getA hC hK fa_27 dX2_lacks_70 ?_
        refine r_iload hC dX2_lacks_73 (j := 6) rfl ?_
        obtain ⟨v13, h13, hf⟩ := dh_bd hf
        refine m_iald hC hK kd_27 h13 dX2_lacks_75 ?_
        refine r_iload hC dX2_lacks_76 (j := 3) rfl ?_
        refine r_icmp_ne hC dX2_lacks_78 (tgt := 91) (by decide) (fun c14 => ?_) (fun c14 => ?_)
        · have hf := dh_el hf c14
          refine r_lconst hC dX2_lacks_91 kl_0 ?_
          refine r_ladd hC dX2_lacks_92 ?_
          refine r_lstore (lv' := [(5, .long (x5 + 0)), (0, .ref (dm_am E)), (2, .int x2), (3, .int x3), (4, .int x4), (7, .int x7), (8, .int x8)]) hC dX2_lacks_93 (Nat.le_of_ble_eq_true rfl) rfl ?_
          refine r_iinc (lv' := [(8, .int (x8 + 1)), (5, .long (x5 + 0)), (0, .ref (dm_am E)), (2, .int x2), (3, .int x3), (4, .int x4), (7, .int x7)]) hC dX2_lacks_95 (j := 6) rfl (congrArg _ ki_1) (Nat.le_of_ble_eq_true rfl) rfl ?_
          refine r_goto hC dX2_lacks_98 (tgt := 30) (by decide) ?_
          exact r_sub [2, 3, 4, 5, 1, 6, 0] rfl (hk30 x2 x3 x4 (x5 + 0) x7 (x8 + 1) hf)
        · have hf := dh_if hf c14
          refine r_aload_n hC dX2_lacks_81 rfl (j := 0) rfl ?_
          refine r_iload hC dX2_lacks_82 (j := 6) rfl ?_
          obtain ⟨p15, h15, hf⟩ := dh_bd hf
          refine m_callV' hC hK hR (cM_dueOf _ E A M x8 h15) q1667 q_dueOf (Nat.le_of_ble_eq_true rfl) (Nat.le_of_ble_eq_true rfl) rfl (Nat.le_of_ble_eq_true rfl) dX2_lacks_84 ?_
          refine r_i2l hC dX2_lacks_87 ?_
          refine r_goto hC dX2_lacks_88 (tgt := 92) (by decide) ?_
          refine r_ladd hC dX2_lacks_92 ?_
          refine r_lstore (lv' := [(5, .long (x5 + (Int32.toInt64 p15))), (0, .ref (dm_am E)), (2, .int x2), (3, .int x3), (4, .int x4), (7, .int x7), (8, .int x8)]) hC dX2_lacks_93 (Nat.le_of_ble_eq_true rfl) rfl ?_
          refine r_iinc (lv' := [(8, .int (x8 + 1)), (5, .long (x5 + (Int32.toInt64 p15))), (0, .ref (dm_am E)), (2, .int x2), (3, .int x3), (4, .int x4), (7, .int x7)]) hC dX2_lacks_95 (j := 6) rfl (congrArg _ ki_1) (Nat.le_of_ble_eq_true rfl) rfl ?_
          refine r_goto hC dX2_lacks_98 (tgt := 30) (by decide) ?_
          exact r_sub [2, 3, 4, 5, 1, 6, 0] rfl (hk30 x2 x3 x4 (x5 + (Int32.toInt64 p15)) x7 (x8 + 1) hf)
def gM_lacks_L30 (k21 : (Int32 → Int32 → Int32 → Int64 → Int32 → Option Int32)) (M : dm_M) : Nat → Int32 → Int32 → Int32 → Int64 → Int32 → Int32 → Option Int32
  | 0 => fun _ _ _ _ _ _ => none
  | n + 1 => gM_lacks_L30_F k21 (gM_lacks_L30 k21 M n) M
theorem wM_lacks_L30 {C : dh_C} {A : Nat → Prop} {E : dm_E} (hC : dh_ok C cX2_lacks 9 RX2 (some .int)) (hK : dm_Kn E (dh_s C)) (hR : dh_R C = { frames := 3, cells := 0, slots := 0, locals := 65 }) {r : Int32} (M : dm_M) (k21 : (Int32 → Int32 → Int32 → Int64 → Int32 → Option Int32)) (hk21 : ∀ (x2 : Int32) (x3 : Int32) (x4 : Int32) (x5 : Int64) (x7 : Int32), k21 x2 x3 x4 x5 x7 = some r → dh_W C A (dm_P E A M) (dm_Q E A (some (.int r)) M) 0 0 0 0 21 [(0, .ref (dm_am E)), (2, .int x2), (3, .int x3), (4, .int x4), (5, .long x5), (7, .int x7)] []) : ∀ (n : Nat) (x2 : Int32) (x3 : Int32) (x4 : Int32) (x5 : Int64) (x7 : Int32) (x8 : Int32) (_ : gM_lacks_L30 k21 M n x2 x3 x4 x5 x7 x8 = some r), dh_W C A (dm_P E A M) (dm_Q E A (some (.int r)) M) 0 0 0 0 30 [(0, .ref (dm_am E)), (2, .int x2), (3, .int x3), (4, .int x4), (5, .long x5), (7, .int x7), (8, .int x8)] [] := by
  intro n
  induction n with
  | zero => intro x2 x3 x4 x5 x7 x8 hf; exact dh_no hf
  | succ n ih => intro x2 x3 x4 x5 x7 x8 hf; exact wM_lacks_L30_F hC hK hR M k21 hk21 (gM_lacks_L30 k21 M n) ih x2 x3 x4 x5 x7 x8 hf
def gM_lacks_L21_F (k21 : (Int32 → Int32 → Int32 → Int64 → Int32 → Option Int32)) (M : dm_M) (x2 : Int32) (x3 : Int32) (x4 : Int32) (x5 : Int64) (x7 : Int32) : Option Int32 :=
  if ¬ (x3 ≤ x7) then (
    gM_lacks_L30 k21 M dh_fu x2 x3 x4 x5 x7 0)
  else
  (gM_dueFrom M x4).bind fun p4 =>
  (dm_rd M 14 x4).bind fun v5 =>
  if (lg_cmp ((Int32.toInt64 p4) + (Int32.toInt64 v5)) x5) ≤ 0 then (
    some 0)
  else
  some (Int64.toInt32 (((Int32.toInt64 p4) + (Int32.toInt64 v5)) - x5))
theorem wM_lacks_L21_F {C : dh_C} {A : Nat → Prop} {E : dm_E} (hC : dh_ok C cX2_lacks 9 RX2 (some .int)) (hK : dm_Kn E (dh_s C)) (hR : dh_R C = { frames := 3, cells := 0, slots := 0, locals := 65 }) {r : Int32} (M : dm_M) (k21 : (Int32 → Int32 → Int32 → Int64 → Int32 → Option Int32)) (hk21 : ∀ (x2 : Int32) (x3 : Int32) (x4 : Int32) (x5 : Int64) (x7 : Int32), k21 x2 x3 x4 x5 x7 = some r → dh_W C A (dm_P E A M) (dm_Q E A (some (.int r)) M) 0 0 0 0 21 [(0, .ref (dm_am E)), (2, .int x2), (3, .int x3), (4, .int x4), (5, .long x5), (7, .int x7)] []) (x2 : Int32) (x3 : Int32) (x4 : Int32) (x5 : Int64) (x7 : Int32) (hf : gM_lacks_L21_F k21 M x2 x3 x4 x5 x7 = some r) : dh_W C A (dm_P E A M) (dm_Q E A (some (.int r)) M) 0 0 0 0 21 [(0, .ref (dm_am E)), (2, .int x2), (3, .int x3), (4, .int x4), (5, .long x5), (7, .int x7)] [] := by
  unfold gM_lacks_L21_F at hf
  refine r_iload hC dX2_lacks_21 (j := 5) rfl ?_
  refine r_iload_n hC dX2_lacks_23 rfl (j := 2) rfl ?_
  refine r_icmp_ge hC dX2_lacks_24 (tgt := 107) (by decide) (fun c3 => ?_) (fun c3 => ?_)
  · have hf := dh_el hf (fun q => q c3)
    refine r_aload_n hC dX2_lacks_107 rfl (j := 0) rfl ?_
    refine r_iload hC dX2_lacks_108 (j := 3) rfl ?_
    obtain ⟨p4, h4, hf⟩ := dh_bd hf
    refine m_callV' hC hK hR (cM_dueFrom _ E A M x4 h4) q1896 q_dueFrom (Nat.le_of_ble_eq_true rfl) (Nat.le_of_ble_eq_true rfl) rfl (Nat.le_of_ble_eq_true rfl) dX2_lacks_110 ?_
    refine r_i2l hC dX2_lacks_113 ?_
    refine r_aload_n hC dX2_lacks_114 rfl (j := 0) rfl ?_
    refine m_getA hC hK fa_14 dX2_lacks_115 ?_
    refine r_iload hC dX2_lacks_118 (j := 3) rfl ?_
    obtain ⟨v5, h5, hf⟩ := dh_bd hf
    refine m_iald hC hK kd_14 h5 dX2_lacks_120 ?_
    refine r_i2l hC dX2_lacks_121 ?_
    refine r_ladd hC dX2_lacks_122 ?_
    refine r_lstore (lv' := [(7, .long ((Int32.toInt64 p4) + (Int32.toInt64 v5))), (0, .ref (dm_am E)), (2, .int x2), (3, .int x3), (4, .int x4), (5, .long x5)]) hC dX2_lacks_123 (Nat.le_of_ble_eq_true rfl) rfl ?_
    refine r_lload hC dX2_lacks_125 (j := 0) rfl ?_
    refine r_lload hC dX2_lacks_127 (j := 5) rfl ?_
    refine r_lcmp hC dX2_lacks_129 ?_
    refine r_if_le hC dX2_lacks_130 (tgt := 142) (by decide) (fun c6 => ?_) (fun c6 => ?_)
    · have hf := dh_if hf c6
      refine r_iconst hC dX2_lacks_142 ki_0 ?_
      exact m_iret1 hC dX2_lacks_143 rfl hf
    · have hf := dh_el hf c6
      refine r_lload hC dX2_lacks_133 (j := 0) rfl ?_
      refine r_lload hC dX2_lacks_135 (j := 5) rfl ?_
      refine r_lsub hC dX2_lacks_137 ?_
      refine r_l2i hC dX2_lacks_138 ?_
      refine r_goto hC dX2_lacks_139 (tgt := 143) (by decide) ?_
      exact m_iret1 hC dX2_lacks_143 rfl hf
  · have hf := dh_if hf c3
    refine r_iconst hC dX2_lacks_27 ki_0 ?_
    refine r_istore (lv' := [(8, .int 0), (0, .ref (dm_am E)), (2, .int x2), (3, .int x3), (4, .int x4), (5, .long x5), (7, .int x7)]) hC dX2_lacks_28 (Nat.le_of_ble_eq_true rfl) rfl ?_
    exact r_sub [1, 2, 3, 4, 5, 6, 0] rfl (wM_lacks_L30 hC hK hR M k21 hk21 dh_fu x2 x3 x4 x5 x7 0 hf)
def gM_lacks_L21 (M : dm_M) : Nat → Int32 → Int32 → Int32 → Int64 → Int32 → Option Int32
  | 0 => fun _ _ _ _ _ => none
  | n + 1 => gM_lacks_L21_F (gM_lacks_L21 M n) M
theorem wM_lacks_L21 {C : dh_C} {A : Nat → Prop} {E : dm_E} (hC : dh_ok C cX2_lacks 9 RX2 (some .int)) (hK : dm_Kn E (dh_s C)) (hR : dh_R C = { frames := 3, cells := 0, slots := 0, locals := 65 }) {r : Int32} (M : dm_M) : ∀ (n : Nat) (x2 : Int32) (x3 : Int32) (x4 : Int32) (x5 : Int64) (x7 : Int32) (_ : gM_lacks_L21 M n x2 x3 x4 x5 x7 = some r), dh_W C A (dm_P E A M) (dm_Q E A (some (.int r)) M) 0 0 0 0 21 [(0, .ref (dm_am E)), (2, .int x2), (3, .int x3), (4, .int x4), (5, .long x5), (7, .int x7)] [] := by
  intro n
  induction n with
  | zero => intro x2 x3 x4 x5 x7 hf; exact dh_no hf
  | succ n ih => intro x2 x3 x4 x5 x7 hf; exact wM_lacks_L21_F hC hK hR M (gM_lacks_L21 M n) ih x2 x3 x4 x5 x7 hf
def gM_lacks (M : dm_M) (x1 : Int32) (x2 : Int32) (x3 : Int32) : Option Int32 :=
  (dm_rd M 77 x1).bind fun v1 =>
  (dm_rd M 9 v1).bind fun v2 =>
  gM_lacks_L21 M dh_fu x2 x3 v1 (Int32.toInt64 v2) 0
theorem wM_lacks {C : dh_C} {A : Nat → Prop} {E : dm_E} (hC : dh_ok C cX2_lacks 9 RX2 (some .int)) (hK : dm_Kn E (dh_s C)) (hR : dh_R C = { frames := 3, cells := 0, slots := 0, locals := 65 }) {r : Int32} (M : dm_M) (x1 : Int32) (x2 : Int32) (x3 : Int32) (hf : gM_lacks M x1 x2 x3 = some r) : dh_W C A (dm_P E A M) (dm_Q E A (some (.int r)) M) 0 0 0 0 0 [(0, .ref (dm_am E)), (1, .int x1), (2, .int x2), (3, .int x3)] [] := by
  unfold gM_lacks at hf
  refine r_aload_n hC dX2_lacks_0 rfl (j := 0) rfl ?_
  refine m_getA hC hK fa_77 dX2_lacks_1 ?_
  refine r_iload_n hC dX2_lacks_4 rfl (j := 1) rfl ?_
  obtain ⟨v1, h1, hf⟩ := dh_bd hf
  refine m_iald hC hK kd_77 h1 dX2_lacks_5 ?_
  refine r_istore (lv' := [(4, .int v1), (0, .ref (dm_am E)), (1, .int x1), (2, .int x2), (3, .int x3)]) hC dX2_lacks_6 (Nat.le_of_ble_eq_true rfl) rfl ?_
  refine r_aload_n hC dX2_lacks_8 rfl (j := 1) rfl ?_
  refine m_getA hC hK fa_9 dX2_lacks_9 ?_
  refine r_iload hC dX2_lacks_12 (j := 0) rfl ?_
  obtain ⟨v2, h2, hf⟩ := dh_bd hf
  refine m_iald hC hK kd_9 h2 dX2_lacks_14 ?_
  refine r_i2l hC dX2_lacks_15 ?_
  refine r_lstore (lv' := [(5, .long (Int32.toInt64 v2)), (4, .int v1), (0, .ref (dm_am E)), (1, .int x1), (2, .int x2), (3, .int x3)]) hC dX2_lacks_16 (Nat.le_of_ble_eq_true rfl) rfl ?_
  refine r_iconst hC dX2_lacks_18 ki_0 ?_
  refine r_istore (lv' := [(7, .int 0), (5, .long (Int32.toInt64 v2)), (4, .int v1), (0, .ref (dm_am E)), (1, .int x1), (2, .int x2), (3, .int x3)]) hC dX2_lacks_19 (Nat.le_of_ble_eq_true rfl) rfl ?_
  exact r_sub [3, 5, 6, 2, 1, 0] rfl (wM_lacks_L21 hC hK hR M dh_fu x2 x3 v1 (Int32.toInt64 v2) 0 hf)
theorem cM_lacks (l : Launch) (E : dm_E) (A : Nat → Prop) (M : dm_M) (x1 : Int32) (x2 : Int32) (x3 : Int32) {r : Int32} (h : gM_lacks M x1 x2 x3 = some r) : dm_Met l yX2_lacks cX2_lacks 9 (some .int) 3 65 E A [.ref (dm_am E), .int x1, .int x2, .int x3] M (some (.int r)) M := by
  refine dh_met (by decide) (Nat.le_of_ble_eq_true rfl) (fun _ _ h => ⟨_, h.1⟩) (fun C hl hR hC hnm hK => ?_)
  exact wM_lacks hC hK hR M x1 x2 x3 h
theorem q_lacks : dm_calV yX2_lacks cX2_lacks 9 (some .int) 3 := ⟨q1971, qs77, q1972, by decide +kernel⟩
