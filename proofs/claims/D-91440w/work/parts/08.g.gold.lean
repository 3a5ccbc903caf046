set_option maxRecDepth 100000
theorem dj_ad_old {E : dj_E} {j : Nat} (h : j < 100) : dj_ad E j = dj_old E j := if_pos h
theorem dj_v_old {E : dj_E} {j : Nat} (h0 : j ≠ 0) (h : j < 100) : dj_v E j = .ref (dj_old E j) := by rw [dj_v_pos h0, dj_ad_old h]
/-! what is known of the constants -/
theorem dk_T {E : dj_E} {U : State} (h : dj_Kn E U) : va_En "DebtorsHouse$Topic" "LDebtorsHouse$Topic;" dj_nT dj_fT (fun i => dj_old E (1 + i)) (dj_A E) U U.heap := h.2.2.2.2.1.1
theorem dk_A {E : dj_E} {U : State} (h : dj_Kn E U) : va_En "DebtorsHouse$About" "LDebtorsHouse$About;" dj_nA dj_fA (fun i => dj_old E (11 + i)) (dj_A E) U U.heap := h.2.2.2.2.1.2.1
theorem dk_S {E : dj_E} {U : State} (h : dj_Kn E U) : va_En "DebtorsHouse$Stands" "LDebtorsHouse$Stands;" dj_nS dj_fS (fun i => dj_old E (21 + i)) (dj_A E) U U.heap := h.2.2.2.2.1.2.2.1
theorem dk_K {E : dj_E} {U : State} (h : dj_Kn E U) : va_En "DebtorsHouse$Token" "LDebtorsHouse$Token;" dj_nK dj_fK (fun i => dj_old E (26 + i)) (dj_A E) U U.heap := h.2.2.2.2.1.2.2.2.1
theorem dk_tT {E : dj_E} {U : State} (h : dj_Kn E U) : va_T (.object "DebtorsHouse$Topic") (dj_old E 31) 9 (fun i => .ref (dj_old E (1 + i))) (dj_A E) U U.heap := h.2.2.2.2.1.2.2.2.2.1
theorem dk_tA {E : dj_E} {U : State} (h : dj_Kn E U) : va_T (.object "DebtorsHouse$About") (dj_old E 32) 8 (fun i => .ref (dj_old E (11 + i))) (dj_A E) U U.heap := h.2.2.2.2.1.2.2.2.2.2.1
theorem dk_zT {E : dj_E} {U : State} (h : dj_Kn E U) : va_Z "DebtorsHouse" "TOPICS" "[LDebtorsHouse$Topic;" (.ref (dj_old E 31)) (dj_A E) U U.heap := h.2.2.2.2.1.2.2.2.2.2.2.1
theorem dk_zA {E : dj_E} {U : State} (h : dj_Kn E U) : va_Z "DebtorsHouse" "ASKED" "[LDebtorsHouse$About;" (.ref (dj_old E 32)) (dj_A E) U U.heap := h.2.2.2.2.1.2.2.2.2.2.2.2.1
theorem dk_zC {E : dj_E} {U : State} (h : dj_Kn E U) : va_Z "java/lang/String" "COMPACT_STRINGS" "Z" (.int 1) (dj_A E) U U.heap := h.2.2.2.2.1.2.2.2.2.2.2.2.2.1
theorem dk_wT {E : dj_E} {U : State} (h : dj_Kn E U) : va_Ef 9 "DebtorsHouse$Topic" "word" "Ljava/lang/String;" (fun i => .ref (dj_old E (40 + i))) (fun i => dj_old E (1 + i)) (dj_A E) U U.heap := h.2.2.2.2.1.2.2.2.2.2.2.2.2.2.1
theorem dk_wA {E : dj_E} {U : State} (h : dj_Kn E U) : va_Ef 8 "DebtorsHouse$About" "word" "Ljava/lang/String;" (fun i => .ref (dj_old E (49 + i))) (fun i => dj_old E (11 + i)) (dj_A E) U U.heap := h.2.2.2.2.1.2.2.2.2.2.2.2.2.2.2.1
theorem dk_s {E : dj_E} {U : State} (h : dj_Kn E U) : vk_S 23 dj_sl dj_sb (fun i => dj_old E (40 + i)) (fun i => dj_old E (70 + i)) (dj_A E) U U.heap := h.2.2.2.2.1.2.2.2.2.2.2.2.2.2.2.2
theorem dj_cmp {E : dj_E} {U : State} (h : dj_Kn E U) {a b : Nat} (hc : dg_cmp a b = some ()) : dj_o E a = dj_o E b ↔ a = b := by
  constructor
  · intro e
    by_cases ha : a = 0
    · by_cases hb : b = 0
      · rw [ha, hb]
      · unfold dj_o at e
        rw [if_pos ha, if_neg hb] at e
        cases e
    · by_cases hb : b = 0
      · unfold dj_o at e
        rw [if_neg ha, if_pos hb] at e
        cases e
      · unfold dj_o at e
        rw [if_neg ha, if_neg hb] at e
        have e := Option.some.inj e
        rcases (dg_if hc).1 with c | c | c | c | c | c | c | c
        · exact c
        · exact absurd c ha
        · exact absurd c hb
        · exact dj_ad_inj c.1 c.2 e
        · have h1 := dg_bs (E := E) c.1
          obtain ⟨cell, _, _, _, hA⟩ := ((dk_s h).1 (b - 40) (by omega)).1
          rw [e, dj_ad_old (by omega)] at h1
          exact absurd (show dj_A E (dj_old E (40 + (b - 40))) by rw [show 40 + (b - 40) = b by omega]; exact h1) hA
        · rw [dj_ad_old (by omega), dj_ad_old (by omega)] at e
          have := (dk_T h).2 (a - 1) (b - 1) (show _ < 9 by omega) (show _ < 9 by omega) (by show dj_old E (1 + (a - 1)) = dj_old E (1 + (b - 1)); rw [show 1 + (a - 1) = a by omega, show 1 + (b - 1) = b by omega]; exact e)
          omega
        · rw [dj_ad_old (by omega), dj_ad_old (by omega)] at e
          have := (dk_S h).2 (a - 21) (b - 21) (show _ < 4 by omega) (show _ < 4 by omega) (by show dj_old E (21 + (a - 21)) = dj_old E (21 + (b - 21)); rw [show 21 + (a - 21) = a by omega, show 21 + (b - 21) = b by omega]; exact e)
          omega
        · rw [dj_ad_old (by omega), dj_ad_old (by omega)] at e
          have := (dk_K h).2 (a - 26) (b - 26) (show _ < 5 by omega) (show _ < 5 by omega) (by show dj_old E (26 + (a - 26)) = dj_old E (26 + (b - 26)); rw [show 26 + (a - 26) = a by omega, show 26 + (b - 26) = b by omega]; exact e)
          omega
  · intro e
    rw [e]
section
variable {T : dg_T} {l : Launch} {E : dj_E} {Mo : Option dm_M} {G' : dg_G} {x : Nat ⊕ Option Value} {G G1 : dg_G} {pc : Nat} {lv : List (Nat × Value)} {st : List Value}
/-- two ways on, with what is known at hand -/
theorem dg_kb {c : Prop} {pc1 pc2 : Nat} {st1 : List Value} (h : ∀ (C : dh_C) (Q : Outcome → Heap → Prop) (mc ms k n : Nat), dh_ok C (dt_c T) (dt_L T) (dt_o T) (dt_r T) → dj_Kn E (dh_s C) → (c → dh_W C (dj_A E) (dj_P E Mo G) Q mc ms k n pc1 lv st) → (¬ c → dh_W C (dj_A E) (dj_P E Mo G) Q mc ms k n pc2 lv st) → dh_W C (dj_A E) (dj_P E Mo G) Q mc ms k n pc lv st1) (kt : c → dgW T l E Mo G' x G pc1 lv st) (kf : ¬ c → dgW T l E Mo G' x G pc2 lv st) : dgW T l E Mo G' x G pc lv st1 := by
  by_cases hc : c
  · exact ⟨(kt hc).1, fun C n0 s0 a b d => h C _ _ _ _ _ a.1 a.2.1 (fun z => (kt z).2 C n0 s0 a b d) (fun z => absurd hc z)⟩
  · exact ⟨(kf hc).1, fun C n0 s0 a b d => h C _ _ _ _ _ a.1 a.2.1 (fun z => absurd z hc) (fun z => (kf z).2 C n0 s0 a b d)⟩
theorem g_acmp_eq {a b : Nat} {off : Int} {tgt : Nat} {u : Unit} (hc : dg_cmp a b = some u) (hd : decode (dt_c T) pc = .ok (.if_acmp .eq off, 3)) (ht : (pc : Int) + off = (tgt : Int)) (kt : a = b → dgW T l E Mo G' x G tgt lv st) (kf : ¬ a = b → dgW T l E Mo G' x G (pc + 3) lv st) : dgW T l E Mo G' x G pc lv (dj_v E b :: dj_v E a :: st) :=
  dg_kb (fun C Q mc ms k n hC hK kt kf H locs ls hP hS hl => lv_acmp_eq hC.1 hC.2.1 hd ht (fun h => kt ((dj_cmp hK hc).mp h) H locs ls hP hS hl) (fun h => kf (fun z => h ((dj_cmp hK hc).mpr z)) H locs ls hP hS hl)) kt kf
theorem g_acmp_ne {a b : Nat} {off : Int} {tgt : Nat} {u : Unit} (hc : dg_cmp a b = some u) (hd : decode (dt_c T) pc = .ok (.if_acmp .ne off, 3)) (ht : (pc : Int) + off = (tgt : Int)) (kt : ¬ a = b → dgW T l E Mo G' x G tgt lv st) (kf : a = b → dgW T l E Mo G' x G (pc + 3) lv st) : dgW T l E Mo G' x G pc lv (dj_v E b :: dj_v E a :: st) :=
  dg_kb (fun C Q mc ms k n hC hK kf kt H locs ls hP hS hl => lv_acmp_ne hC.1 hC.2.1 hd ht (fun h => kt (fun z => h ((dj_cmp hK hc).mpr z)) H locs ls hP hS hl) (fun h => kf ((dj_cmp hK hc).mp h) H locs ls hP hS hl)) kf kt
/-! statics -/
theorem g_gets {index j : Nat} {Cn n d : String} (h0 : j ≠ 0) (h1 : j < 100) (hZ : ∀ U, dj_Kn E U → va_Z Cn n d (.ref (dj_old E j)) (dj_A E) U U.heap) (hw : Cond.fieldLink (dt_o T) index Cn n d ∈ lw_all) (hd : decode (dt_c T) pc = .ok (.getstatic index, 3)) (kk : dgW T l E Mo G' x G (pc + 3) lv (dj_v E j :: st)) : dgW T l E Mo G' x G pc lv st := by
  refine dg_k (fun C Q mc ms k n hC hK kk H locs ls hP hS hl => ?_) kk
  rw [dj_v_old h0 h1] at kk
  exact va_gets hC.1 hC.2.1 (hZ _ hK) hS hC.2.2.2.1 (hC.2.2.2.2.1 _ hw) (fun _ h => h) hd (kk H locs ls hP hS hl)
theorem g_getsN {index j : Nat} {Cn n d : String} (h0 : j ≠ 0) (h1 : j < 100) (hZ : ∀ U, dj_Kn E U → va_Z Cn n d (.ref (dj_old E j)) (dj_A E) U U.heap) (hw : Cond.fieldLinkNest (dt_o T) index Cn n d "DebtorsHouse" ∈ dj_nw) (hd : decode (dt_c T) pc = .ok (.getstatic index, 3)) (kk : dgW T l E Mo G' x G (pc + 3) lv (dj_v E j :: st)) : dgW T l E Mo G' x G pc lv st := by
  refine dg_k (fun C Q mc ms k n hC hK kk H locs ls hP hS hl => ?_) kk
  rw [dj_v_old h0 h1] at kk
  exact va_getsN hC.1 hC.2.1 (hZ _ hK) hS hC.2.2.2.1 (va_Nw.use rfl (hK.2.1 _ hw)) (fun _ h => h) hd (kk H locs ls hP hS hl)
theorem g_getsC {index : Nat} (hw : Cond.fieldLink (dt_o T) index "java/lang/String" "COMPACT_STRINGS" "Z" ∈ lw_all) (hd : decode (dt_c T) pc = .ok (.getstatic index, 3)) (kk : dgW T l E Mo G' x G (pc + 3) lv (.int 1 :: st)) : dgW T l E Mo G' x G pc lv st :=
  dg_k (fun C Q mc ms k n hC hK kk H locs ls hP hS hl => va_gets hC.1 hC.2.1 (dk_zC hK) hS hC.2.2.2.1 (hC.2.2.2.2.1 _ hw) (fun _ h => h) hd (kk H locs ls hP hS hl)) kk
/-! fields of the constants, and their rows -/
theorem dj_WX {C : dh_C} {Q : State → Prop} {H : Heap} {locs : List Loc} {k n index a : Nat} {ls : Array Slot} {o nm d : String} {v : Value} {cc : ByteArray} {nL : Nat} {own : String} {rt : Option FieldType} (hC : dh_ok C cc nL own rt) (hK : dj_Kn E (dh_s C)) (hO : va_OF o nm d v a (dj_A E) (dh_s C) (dh_s C).heap) (hS : va_S (dj_A E) (dh_s C).heap H locs) (hw : Cond.fieldLinkNest own index o nm d "DebtorsHouse" ∈ dj_nw) (hd : decode cc pc = .ok (.getfield index, 3)) (kk : dh_X C H locs k n Q (F0 (dh_m C) (pc + 3) ls (v :: st))) : dh_X C H locs k n Q (F0 (dh_m C) pc ls (.ref a :: st)) := by
  obtain ⟨cf, kf, fi, f, cell, h1, h2, h3, h4, h5, h6⟩ := hO.kept hS.2.1
  exact va_Wgetf hC.1 hC.2.1 hC.2.2.2.1 (va_Nw.use rfl (hK.2.1 _ hw)) h1 h2 h3 h4 (v := v) h5 rfl rfl hd kk
theorem g_wordT {index j v : Nat} {u : Unit} (hj : do_isT j = some u) (h : do_word j = some v) (hw : Cond.fieldLinkNest (dt_o T) index "DebtorsHouse$Topic" "word" "Ljava/lang/String;" "DebtorsHouse" ∈ dj_nw) (hd : decode (dt_c T) pc = .ok (.getfield index, 3)) (kk : dgW T l E Mo G' x G (pc + 3) lv (dj_v E v :: st)) : dgW T l E Mo G' x G pc lv (dj_v E j :: st) := by
  obtain ⟨c, _⟩ := dg_if hj
  unfold do_word at h
  rw [if_pos c] at h
  cases h
  refine dg_k (fun C Q mc ms k n hC hK kk H locs ls hP hS hl => ?_) kk
  rw [dj_v_old (by omega) (by omega)] at kk ⊢
  have := dk_wT hK (j - 1) (by omega)
  dsimp only at this
  rw [show 40 + (j - 1) = 39 + j by omega, show 1 + (j - 1) = j by omega] at this
  exact dj_WX hC hK this hS hw hd (kk H locs ls hP hS hl)
theorem g_wordA {index j v : Nat} {u : Unit} (hj : do_isA j = some u) (h : do_word j = some v) (hw : Cond.fieldLinkNest (dt_o T) index "DebtorsHouse$About" "word" "Ljava/lang/String;" "DebtorsHouse" ∈ dj_nw) (hd : decode (dt_c T) pc = .ok (.getfield index, 3)) (kk : dgW T l E Mo G' x G (pc + 3) lv (dj_v E v :: st)) : dgW T l E Mo G' x G pc lv (dj_v E j :: st) := by
  obtain ⟨c, _⟩ := dg_if hj
  unfold do_word at h
  rw [if_neg (by omega), if_pos c] at h
  cases h
  refine dg_k (fun C Q mc ms k n hC hK kk H locs ls hP hS hl => ?_) kk
  rw [dj_v_old (by omega) (by omega)] at kk ⊢
  have := dk_wA hK (j - 11) (by omega)
  dsimp only at this
  rw [show 49 + (j - 11) = 38 + j by omega, show 11 + (j - 11) = j by omega] at this
  exact dj_WX hC hK this hS hw hd (kk H locs ls hP hS hl)
theorem g_without {index j : Nat} {v : Int32} (h : do_without j = some v) (hw : Cond.fieldLinkNest (dt_o T) index "DebtorsHouse$Topic" "without" "I" "DebtorsHouse" ∈ dj_nw) (hd : decode (dt_c T) pc = .ok (.getfield index, 3)) (kk : dgW T l E Mo G' x G (pc + 3) lv (.int v :: st)) : dgW T l E Mo G' x G pc lv (dj_v E j :: st) := by
  obtain ⟨c, rfl⟩ := dg_if h
  refine dg_k (fun C Q mc ms k n hC hK kk H locs ls hP hS hl => ?_) kk
  rw [dj_v_old (by omega) (by omega)]
  have := ((dk_T hK).1 (j - 1) (show _ < 9 by omega)).2.2 ("DebtorsHouse$Topic", "without", "I", [1, 0, 0, 0, 50, 75, 1, 0, 1]) (by simp)
  dsimp only at this
  rw [show 1 + (j - 1) = j by omega] at this
  exact dj_WX hC hK this hS hw hd (kk H locs ls hP hS hl)
theorem g_ord {index j : Nat} {v : Int32} (h : do_ord j = some v) (ho : dt_o T = "java/lang/Enum") (hi : index = 7) (hd : decode (dt_c T) pc = .ok (.getfield index, 3)) (kk : dgW T l E Mo G' x G (pc + 3) lv (.int v :: st)) : dgW T l E Mo G' x G pc lv (dj_v E j :: st) := by
  subst hi
  refine dg_k (fun C Q mc ms k n hC hK kk H locs ls hP hS hl => ?_) kk
  have hlk : (Cond.fieldLink (dt_o T) 7 "java/lang/Enum" "ordinal" "I").before (dh_a C) (dh_s C) = true := by rw [ho]; exact hC.2.2.2.2.1 _ q2034
  unfold do_ord at h
  by_cases c1 : 11 ≤ j ∧ j ≤ 18
  · rw [if_pos c1] at h
    cases h
    rw [dj_v_old (by omega) (by omega)]
    have := va_getE (i := j - 11) hC.1 hC.2.1 (dk_A hK) (show _ < 8 by omega) hS hC.2.2.2.1 (q := ("java/lang/Enum", "ordinal", "I", [0, 1, 2, 3, 4, 5, 6, 7])) (by simp) hlk (fun _ h => h) hd (rest := st) (Q := dh_E C (dj_A E) Q mc ms) (cells := k) (slots := n) (l := dh_l C) (R := dh_R C) (below := dh_b C) (e := dh_e C) (meth := dh_t C) (ls := ls) (by
      have := kk H locs ls hP hS hl
      have e : ([0, 1, 2, 3, 4, 5, 6, 7] : List Int32).getD (j - 11) 0 = Int32.ofNat (j - 11) := by
        have : ∀ i : Fin 8, ([0, 1, 2, 3, 4, 5, 6, 7] : List Int32).getD i.val 0 = Int32.ofNat i.val := by decide
        exact this ⟨j - 11, by omega⟩
      rw [← e] at this
      exact this)
    rw [show 11 + (j - 11) = j by omega] at this
    exact this
  · rw [if_neg c1] at h
    obtain ⟨c2, rfl⟩ := dg_if h
    rw [dj_v_old (by omega) (by omega)]
    have := va_getE (i := j - 21) hC.1 hC.2.1 (dk_S hK) (show _ < 4 by omega) hS hC.2.2.2.1 (q := ("java/lang/Enum", "ordinal", "I", [0, 1, 2, 3])) (by simp) hlk (fun _ h => h) hd (rest := st) (Q := dh_E C (dj_A E) Q mc ms) (cells := k) (slots := n) (l := dh_l C) (R := dh_R C) (below := dh_b C) (e := dh_e C) (meth := dh_t C) (ls := ls) (by
      have := kk H locs ls hP hS hl
      have e : ([0, 1, 2, 3] : List Int32).getD (j - 21) 0 = Int32.ofNat (j - 21) := by
        have : ∀ i : Fin 4, ([0, 1, 2, 3] : List Int32).getD i.val 0 = Int32.ofNat i.val := by decide
        exact this ⟨j - 21, by omega⟩
      rw [← e] at this
      exact this)
    rw [show 21 + (j - 21) = j by omega] at this
    exact this
theorem g_lenT {j : Nat} {v : Int32} (h : do_len j = some v) (hd : decode (dt_c T) pc = .ok (.arraylength, 1)) (kk : dgW T l E Mo G' x G (pc + 1) lv (.int v :: st)) : dgW T l E Mo G' x G pc lv (dj_v E j :: st) := by
  unfold do_len at h
  refine dg_k (fun C Q mc ms k n hC hK kk H locs ls hP hS hl => ?_) kk
  by_cases c1 : j = 31
  · rw [if_pos c1] at h
    cases h
    subst c1
    rw [dj_v_old (by omega) (by omega)]
    exact va_tlen hC.1 hC.2.1 (dk_tT hK) hS rfl hd (kk H locs ls hP hS hl)
  · rw [if_neg c1] at h
    obtain ⟨rfl, rfl⟩ := dg_if h
    rw [dj_v_old (by omega) (by omega)]
    exact va_tlen hC.1 hC.2.1 (dk_tA hK) hS rfl hd (kk H locs ls hP hS hl)
theorem g_ldT {j v : Nat} {i : Int32} (h : do_ld j i = some v) (hd : decode (dt_c T) pc = .ok (.aaload, 1)) (kk : dgW T l E Mo G' x G (pc + 1) lv (dj_v E v :: st)) : dgW T l E Mo G' x G pc lv (.int i :: dj_v E j :: st) := by
  unfold do_ld at h
  refine dg_k (fun C Q mc ms k n hC hK kk H locs ls hP hS hl => ?_) kk
  by_cases c1 : j = 31
  · rw [if_pos c1] at h
    obtain ⟨h1, rfl⟩ := dm_in h
    have hlt : i.toNatClampNeg < 9 := Nat.not_le.mp fun q => h1 (Or.inr q)
    subst c1
    rw [dj_v_old (j := 31) (by omega) (by omega)]
    exact vb_tq hC.1 hC.2.1 (dk_tT hK) hS h1 (dj_v_old (by omega) (by omega)).symm hd (kk H locs ls hP hS hl)
  · rw [if_neg c1] at h
    obtain ⟨rfl, h⟩ := dg_if2 h
    obtain ⟨h1, rfl⟩ := dm_in h
    have hlt : i.toNatClampNeg < 8 := Nat.not_le.mp fun q => h1 (Or.inr q)
    rw [dj_v_old (j := 32) (by omega) (by omega)]
    exact vb_tq hC.1 hC.2.1 (dk_tA hK) hS h1 (dj_v_old (by omega) (by omega)).symm hd (kk H locs ls hP hS hl)
end
