set_option maxRecDepth 100000
/-! fields -/
theorem in_T7 : ∀ w ∈ u_ws RX7 dj_T7 2, w ∈ lw_all := fun w hw => by
  obtain ⟨k, hk, rfl⟩ := List.mem_map.mp hw
  have hk : k < 2 := List.mem_range.mp hk
  exact in_X7 _ (List.mem_map.mpr ⟨6 + k, List.mem_range.mpr (by omega), rfl⟩)
/-- what is known of a field through a link: own's pool index leads to field k of the kind ci -/
def dg_F (own : String) (index ci k : Nat) (fin : Bool) (ty : FieldType) : Prop := ∃ (ref C : String) (T : u_T) (ty0 : Nat → FieldType), dj_cl[ci]? = some (C, T, dg_N ci) ∧ (∀ w ∈ u_ws C T (dg_N ci), w ∈ lw_all) ∧ k < dg_N ci
  ∧ (Cond.fieldLink own index ref (T k).2.1 (T k).2.2.1 ∈ lw_all ∨ (fin = false ∧ Cond.fieldLinkNest own index ref (T k).2.1 (T k).2.2.1 "DebtorsHouse" ∈ dj_nw)) ∧ ((T k).1 = ref ∨ Cond.sameField ref (T k).1 (T k).2.1 (T k).2.2.1 ∈ lw_all)
  ∧ (fin = false → (T k).2.2.2 = false) ∧ (fin = true → (T k).2.2.2 = true ∧ (T k).1 = own) ∧ parseFieldDescriptor (T k).2.2.1 = some ty ∧ (∀ j, j < dg_N ci → parseFieldDescriptor (T j).2.2.1 = some (ty0 j)) ∧ (∀ a, a < dg_N ci → ∀ b, b < dg_N ci → a ≠ b → (T a).2.1 ≠ (T b).2.1)
/-- reading alone -/
def dg_R (own : String) (index ci k : Nat) : Prop := ∃ (ref C : String) (T : u_T), dj_cl[ci]? = some (C, T, dg_N ci) ∧ (∀ w ∈ u_ws C T (dg_N ci), w ∈ lw_all) ∧ k < dg_N ci
  ∧ (Cond.fieldLink own index ref (T k).2.1 (T k).2.2.1 ∈ lw_all ∨ Cond.fieldLinkNest own index ref (T k).2.1 (T k).2.2.1 "DebtorsHouse" ∈ dj_nw) ∧ ((T k).1 = ref ∨ Cond.sameField ref (T k).1 (T k).2.1 (T k).2.2.1 ∈ lw_all)
theorem dg_lt13 {ci : Nat} {x : vw_C} (h : dj_cl[ci]? = some x) : ci < 13 := (List.getElem?_eq_some_iff.mp h).1
theorem dg_cellO {E : dj_E} {G : dg_G} {ci j : Nat} (hk : dg_K G j = ci + 1) (hci : ci < 13) : dg_cell E G j = some (.inr (ci, (List.range (dg_N ci)).map (dg_fv E G ci j))) := by
  unfold dg_cell
  rw [if_neg (by omega), if_pos (by omega), hk]
  rfl
theorem dg_at {E : dj_E} {Mo : Option dm_M} {G : dg_G} {H : Heap} (hP : dj_P E Mo G H) {ci j : Nat} (hk : dg_K G j = ci + 1) (hci : ci < 13) : va_at (dj_D E) dj_cl (dj_ad E j, .inr (ci, (List.range (dg_N ci)).map (dg_fv E G ci j))) H := hP.1 j _ (dg_cellO hk hci)
theorem dg_100 {E : dj_E} {Mo : Option dm_M} {G : dg_G} {H : Heap} (hP : dj_P E Mo G H) {j : Nat} (hk : dg_K G j ≠ 0) : 100 ≤ j := (hP.2.2.2.1 j hk).1
theorem dg_vref {E : dj_E} {Mo : Option dm_M} {G : dg_G} {H : Heap} (hP : dj_P E Mo G H) {j : Nat} (hk : dg_K G j ≠ 0) : dj_v E j = .ref (dj_ad E j) := dj_v_pos (by have := dg_100 hP hk; omega)
theorem dg_fld (E : dj_E) (G : dg_G) {ci j k : Nat} (h : k < dg_N ci) : ((List.range (dg_N ci)).map (dg_fv E G ci j))[k]? = some (dg_fv E G ci j k) := by
  rw [List.getElem?_map, List.getElem?_range h]; rfl
theorem dg_bs {E : dj_E} {j : Nat} (h : 100 ≤ j) : dj_bs E ≤ dj_ad E j := by rw [dj_ad_new h]; omega
/-- a field is written: the cell of that object -/
theorem dg_setI (E : dj_E) (G : dg_G) {ci k j : Nat} (v : Int32) (hk : k < dg_N ci) (hkd : dg_kd ci k = 0) : (List.range (dg_N ci)).map (dg_fv E (dg_sFI G (100 * ci + k) j v) ci j) = ((List.range (dg_N ci)).map (dg_fv E G ci j)).set k (.int v) := by
  apply List.ext_getElem?
  intro i
  rw [List.getElem?_set]
  by_cases hi : k = i
  · subst hi
    rw [if_pos rfl, dg_fld _ _ hk]
    unfold dg_fv
    simp [hkd, dg_sFI, dg_up, hk, dg_FI]
  · rw [if_neg hi]
    by_cases hl : i < dg_N ci
    · rw [dg_fld _ _ hl, dg_fld _ _ hl]
      unfold dg_fv
      have : ¬ 100 * ci + i = 100 * ci + k := by omega
      have hi2 : ¬ i = k := fun q => hi q.symm
      simp [dg_sFI, dg_up, hi2, dg_FI, dg_FR]
    · simp [hl]
theorem dg_setR (E : dj_E) (G : dg_G) {ci k j : Nat} (v : Nat) (hk : k < dg_N ci) (hkd : dg_kd ci k = 1) : (List.range (dg_N ci)).map (dg_fv E (dg_sFR G (100 * ci + k) j v) ci j) = ((List.range (dg_N ci)).map (dg_fv E G ci j)).set k (dj_v E v) := by
  apply List.ext_getElem?
  intro i
  rw [List.getElem?_set]
  by_cases hi : k = i
  · subst hi
    rw [if_pos rfl, dg_fld _ _ hk]
    unfold dg_fv
    simp [hkd, dg_sFR, dg_up, hk, dg_FR]
  · rw [if_neg hi]
    by_cases hl : i < dg_N ci
    · rw [dg_fld _ _ hl, dg_fld _ _ hl]
      unfold dg_fv
      have : ¬ 100 * ci + i = 100 * ci + k := by omega
      have hi2 : ¬ i = k := fun q => hi q.symm
      simp [dg_sFR, dg_up, hi2, dg_FI, dg_FR]
    · simp [hl]
/-- what a cell's picture rests on -/
theorem dg_cell_eq (E : dj_E) {G G1 : dg_G} {i : Nat} (h1 : dg_K G1 i = dg_K G i) (h2 : dg_L G1 i = dg_L G i) (h3 : ∀ f, dg_FI G1 f i = dg_FI G f i) (h4 : ∀ f, dg_FR G1 f i = dg_FR G f i) (h5 : dg_AI G1 i = dg_AI G i) (h6 : dg_AL G1 i = dg_AL G i) (h7 : dg_AR G1 i = dg_AR G i) : dg_cell E G1 i = dg_cell E G i := by
  have hf : ∀ ci, dg_fv E G1 ci i = dg_fv E G ci i := fun ci => funext fun k => by
    unfold dg_fv
    rw [h3, h4]
  unfold dg_cell
  simp only [hf, h1, h2, h5, h6, h7]
theorem dg_up_ne {α : Type} (F : Nat → Nat → α) {a b : Nat} (v : α) {x y : Nat} (h : x ≠ a ∨ y ≠ b) : dg_up F a b v x y = F x y := by
  unfold dg_up
  rw [if_neg (by omega)]
theorem dg_cell_FI (E : dj_E) (G : dg_G) {f j i : Nat} (v : Int32) (h : i ≠ j) : dg_cell E (dg_sFI G f j v) i = dg_cell E G i := dg_cell_eq E rfl rfl (fun _ => dg_up_ne _ _ (Or.inr h)) (fun _ => rfl) rfl rfl rfl
theorem dg_cell_FR (E : dj_E) (G : dg_G) {f j i : Nat} (v : Nat) (h : i ≠ j) : dg_cell E (dg_sFR G f j v) i = dg_cell E G i := dg_cell_eq E rfl rfl (fun _ => rfl) (fun _ => dg_up_ne _ _ (Or.inr h)) rfl rfl rfl
theorem dg_putI {E : dj_E} {Mo : Option dm_M} {G : dg_G} {H H' : Heap} (hP : dj_P E Mo G H) {ci k j : Nat} {v : Int32} (hK : dg_K G j = ci + 1) (hci : ci < 13) (hk : k < dg_N ci) (hkd : dg_kd ci k = 0) (hz : H'.size = H.size) (ho : ∀ q, q ≠ dj_ad E j → H'[q]? = H[q]?)
    (h : va_at (dj_D E) dj_cl (dj_ad E j, .inr (ci, ((List.range (dg_N ci)).map (dg_fv E G ci j)).set k (.int v))) H') : dj_P E Mo (dg_sFI G (100 * ci + k) j v) H' := by
  refine dj_put hP (by omega) hz ho rfl rfl (fun i hi => dg_cell_FI E G v hi) (by omega) (fun e he => ?_)
  have hK' : dg_K (dg_sFI G (100 * ci + k) j v) j = ci + 1 := hK
  rw [dg_cellO hK' hci] at he
  cases he
  show va_at _ _ (_, .inr (ci, _)) _
  rw [dg_setI E G v hk hkd]
  exact h
theorem dg_putR {E : dj_E} {Mo : Option dm_M} {G : dg_G} {H H' : Heap} (hP : dj_P E Mo G H) {ci k j : Nat} {v : Nat} (hK : dg_K G j = ci + 1) (hci : ci < 13) (hk : k < dg_N ci) (hkd : dg_kd ci k = 1) (hz : H'.size = H.size) (ho : ∀ q, q ≠ dj_ad E j → H'[q]? = H[q]?)
    (h : va_at (dj_D E) dj_cl (dj_ad E j, .inr (ci, ((List.range (dg_N ci)).map (dg_fv E G ci j)).set k (dj_v E v))) H') : dj_P E Mo (dg_sFR G (100 * ci + k) j v) H' := by
  refine dj_put hP (by omega) hz ho rfl rfl (fun i hi => dg_cell_FR E G v hi) (by omega) (fun e he => ?_)
  have hK' : dg_K (dg_sFR G (100 * ci + k) j v) j = ci + 1 := hK
  rw [dg_cellO hK' hci] at he
  cases he
  show va_at _ _ (_, .inr (ci, _)) _
  rw [dg_setR E G v hk hkd]
  exact h
theorem dg_lenfs (E : dj_E) (G : dg_G) (ci j : Nat) : ((List.range (dg_N ci)).map (dg_fv E G ci j)).length = dg_N ci := by simp
theorem dg_sameF {args : Array Value} {s : State} {ref o nm d : String} (hts : ∀ w ∈ lw_all, w.before args s = true) (h : o = ref ∨ Cond.sameField ref o nm d ∈ lw_all) : ∀ x, s.fieldFound? o nm d = some x → s.fieldFound? ref nm d = some x := by
  intro x hx
  rcases h with h | h
  · rw [← h]; exact hx
  · exact u_same (hts _ h) x hx
section
variable {T : dg_T} {l : Launch} {E : dj_E} {Mo : Option dm_M} {G' : dg_G} {x : Nat ⊕ Option Value} {G G1 : dg_G} {pc : Nat} {lv : List (Nat × Value)} {st : List Value}
/-- a row that leaves the memory as it is, with what is known at hand -/
theorem dg_k {pc1 : Nat} {lv1 : List (Nat × Value)} {st1 : List Value} (h : ∀ (C : dh_C) (Q : Outcome → Heap → Prop) (mc ms k n : Nat), dh_ok C (dt_c T) (dt_L T) (dt_o T) (dt_r T) → dj_Kn E (dh_s C) → dh_W C (dj_A E) (dj_P E Mo G) Q mc ms k n pc1 lv1 st1 → dh_W C (dj_A E) (dj_P E Mo G) Q mc ms k n pc lv st) (kk : dgW T l E Mo G' x G pc1 lv1 st1) : dgW T l E Mo G' x G pc lv st :=
  ⟨kk.1, fun C n0 s0 h1 h2 h3 => h C _ _ _ _ _ h1.1 h1.2.1 (kk.2 C n0 s0 h1 h2 h3)⟩
/-- a row that writes -/
theorem dg_w {pc1 : Nat} {lv1 : List (Nat × Value)} {st1 : List Value} (hn : dg_n G1 = dg_n G) (hs : dg_sl G1 = dg_sl G) (h : ∀ (C : dh_C) (Q : Outcome → Heap → Prop) (mc ms k n : Nat), dh_ok C (dt_c T) (dt_L T) (dt_o T) (dt_r T) → dj_Kn E (dh_s C) → (dh_t C).name = dt_n T → dh_W C (dj_A E) (dj_P E Mo G1) Q mc ms k n pc1 lv1 st1 → dh_W C (dj_A E) (dj_P E Mo G) Q mc ms k n pc lv st) (kk : dgW T l E Mo G' x G1 pc1 lv1 st1) : dgW T l E Mo G' x G pc lv st := by
  obtain ⟨k1, k2⟩ := kk
  unfold dg_mono at k1
  rw [hn, hs] at k1
  rw [hn, hs] at k2
  exact ⟨k1, fun C n0 s0 h1 h2 h3 => h C _ _ _ _ _ h1.1 h1.2.1 h1.2.2.2.1 (k2 C n0 s0 h1 h2 h3)⟩
/-- reading a field -/
theorem g_get {index ci f j : Nat} {v : Value} (hF : dg_R (dt_o T) index ci f) (hj : dg_K G j = ci + 1) (hv : dg_fv E G ci j f = v) (hd : decode (dt_c T) pc = .ok (.getfield index, 3)) (kk : dgW T l E Mo G' x G (pc + 3) lv (v :: st)) : dgW T l E Mo G' x G pc lv (dj_v E j :: st) := by
  refine dg_k (fun C Q mc ms k n hC hK kk H locs ls hP hS hl => ?_) kk
  obtain ⟨ref, Cn, Tt, h1, h2, h3, h4, h5⟩ := hF
  rw [dg_vref hP (by omega)]
  have hone := dj_one (dg_at hP hj (dg_lt13 h1))
  have hfv : ((List.range (dg_N ci)).map (dg_fv E G ci j))[f]? = some v := by rw [dg_fld _ _ h3, hv]
  rcases h4 with h4 | h4
  · exact va_get hC.1 hC.2.1 hC.2.2.2.2.1 h2 hC.2.2.2.1 hK.1 hone 0 rfl h1 f h3 (hC.2.2.2.2.1 _ h4) (dg_sameF hC.2.2.2.2.1 h5) hfv hd (kk H locs ls hP hS hl)
  · exact va_getN hC.1 hC.2.1 hC.2.2.2.2.1 h2 hC.2.2.2.1 hK.1 hone 0 rfl h1 f h3 (va_Nw.use rfl (hK.2.1 _ h4)) (dg_sameF hC.2.2.2.2.1 h5) hfv hd (kk H locs ls hP hS hl)
theorem g_getI {index ci f j : Nat} {v : Int32} (hF : dg_R (dt_o T) index ci f) (hkd : dg_kd ci f = 0) (h : dg_gI G ci f j = some v) (hd : decode (dt_c T) pc = .ok (.getfield index, 3)) (kk : dgW T l E Mo G' x G (pc + 3) lv (.int v :: st)) : dgW T l E Mo G' x G pc lv (dj_v E j :: st) := by
  obtain ⟨h1, rfl⟩ := dg_if h
  exact g_get hF h1 (by unfold dg_fv; rw [if_pos hkd]) hd kk
theorem g_getR {index ci f j : Nat} {v : Nat} (hF : dg_R (dt_o T) index ci f) (hkd : dg_kd ci f = 1) (h : dg_gR G ci f j = some v) (hd : decode (dt_c T) pc = .ok (.getfield index, 3)) (kk : dgW T l E Mo G' x G (pc + 3) lv (dj_v E v :: st)) : dgW T l E Mo G' x G pc lv (dj_v E j :: st) := by
  obtain ⟨h1, rfl⟩ := dg_if h
  exact g_get hF h1 (by unfold dg_fv; rw [if_neg (by omega), if_pos hkd]) hd kk
/-- writing a field -/
theorem g_put {index ci f j : Nat} {fin : Bool} {ty : FieldType} {v : Value} (hn : dg_n G1 = dg_n G) (hs : dg_sl G1 = dg_sl G) (hF : dg_F (dt_o T) index ci f fin ty) (hin : fin = true → dt_n T = "<init>") (hj : dg_K G j = ci + 1) (hn2 : narrow ty v = v) (hfit : fits ty v = true) (hd : decode (dt_c T) pc = .ok (.putfield index, 3))
    (hG : ∀ H H', dj_P E Mo G H → H'.size = H.size → (∀ q, q ≠ dj_ad E j → H'[q]? = H[q]?) → f < dg_N ci → ci < 13 → va_at (dj_D E) dj_cl (dj_ad E j, .inr (ci, ((List.range (dg_N ci)).map (dg_fv E G ci j)).set f v)) H' → dj_P E Mo G1 H')
    (kk : dgW T l E Mo G' x G1 (pc + 3) lv st) : dgW T l E Mo G' x G pc lv (v :: dj_v E j :: st) := by
  refine dg_w hn hs (fun C Q mc ms k n hC hK hnm kk H locs ls hP hS hl => ?_) kk
  obtain ⟨ref, Cn, Tt, ty0, h1, h2, h3, h4, h5, h6, h7, h8, h9, h10⟩ := hF
  rw [dg_vref hP (by omega)]
  have h13 := dg_lt13 h1
  have hat := dg_at hP hj h13
  have h100 : 100 ≤ j := dg_100 hP (by omega)
  have hlen : f < ((List.range (dg_N ci)).map (dg_fv E G ci j)).length := by rw [dg_lenfs]; exact h3
  have fin' : ∀ (H1 : Heap) (sl : Nat), va_at (dj_D E) dj_cl (dj_ad E j, .inr (ci, ((List.range (dg_N ci)).map (dg_fv E G ci j)).set f v)) H1 → H1.size = H.size → (∀ q, q ≠ dj_ad E j → H1[q]? = H[q]?) → dh_X C H1 (locs ++ [⟨dj_ad E j, sl⟩]) k n (dh_E C (dj_A E) Q mc ms) (F0 (dh_m C) (pc + 3) ls st) :=
    fun H1 sl e1 e2 e3 => kk H1 _ ls (hG H H1 hP e2 e3 h3 h13 e1) (hS.put e2 e3 (dg_bs h100)) hl
  cases fin with
  | false =>
    rcases h4 with h4 | h4
    · exact dj_Wput hC.1 hC.2.1 hC.2.2.2.2.1 h2 ty0 h9 h10 hC.2.2.2.1 hK.1 hat h1 f h3 (hC.2.2.2.2.1 _ h4) (dg_sameF hC.2.2.2.2.1 h5) (h6 rfl) h8 hn2 hfit hlen hd fin'
    · exact dj_WputN hC.1 hC.2.1 hC.2.2.2.2.1 h2 ty0 h9 h10 hC.2.2.2.1 hK.1 hat h1 f h3 (va_Nw.use rfl (hK.2.1 _ h4.2)) (dg_sameF hC.2.2.2.2.1 h5) (h6 rfl) h8 hn2 hfit hlen hd fin'
  | true =>
    rcases h4 with h4 | h4
    · exact dj_WputF hC.1 hC.2.1 hC.2.2.2.2.1 h2 ty0 h9 h10 hC.2.2.2.1 hK.1 hat h1 f h3 (hC.2.2.2.2.1 _ h4) (dg_sameF hC.2.2.2.2.1 h5) (h7 rfl).1 (hnm.trans (hin rfl)) (h7 rfl).2 h8 hn2 hfit hlen hd fin'
    · exact absurd h4.1 (by decide)
theorem g_putI {index ci f j : Nat} {fin : Bool} {v : Int32} (hF : dg_F (dt_o T) index ci f fin .int) (hin : fin = true → dt_n T = "<init>") (hkd : dg_kd ci f = 0) (h : dg_pI G ci f j v = some G1) (hd : decode (dt_c T) pc = .ok (.putfield index, 3)) (kk : dgW T l E Mo G' x G1 (pc + 3) lv st) : dgW T l E Mo G' x G pc lv (.int v :: dj_v E j :: st) := by
  obtain ⟨h1, rfl⟩ := dg_if h
  exact g_put (G1 := dg_sFI G (100 * ci + f) j v) rfl rfl hF hin h1 rfl rfl hd (fun H H' hP hz ho h3 h13 e => dg_putI hP h1 h13 h3 hkd hz ho e) kk
theorem g_putZ {index ci f j : Nat} {fin : Bool} {v : Int32} (hF : dg_F (dt_o T) index ci f fin .boolean) (hin : fin = true → dt_n T = "<init>") (hkd : dg_kd ci f = 0) (h : dg_pZ G ci f j v = some G1) (hd : decode (dt_c T) pc = .ok (.putfield index, 3)) (kk : dgW T l E Mo G' x G1 (pc + 3) lv st) : dgW T l E Mo G' x G pc lv (.int v :: dj_v E j :: st) := by
  obtain ⟨h0, h⟩ := dg_if2 h
  obtain ⟨h1, rfl⟩ := dg_if h
  exact g_put (G1 := dg_sFI G (100 * ci + f) j v) rfl rfl hF hin h1 (by rcases h0 with rfl | rfl <;> rfl) (by rcases h0 with rfl | rfl <;> rfl) hd (fun H H' hP hz ho h3 h13 e => dg_putI hP h1 h13 h3 hkd hz ho e) kk
theorem g_putB {index ci f j : Nat} {fin : Bool} {v : Int32} (hF : dg_F (dt_o T) index ci f fin .byte) (hin : fin = true → dt_n T = "<init>") (hkd : dg_kd ci f = 0) (h : dg_pB G ci f j v = some G1) (hd : decode (dt_c T) pc = .ok (.putfield index, 3)) (kk : dgW T l E Mo G' x G1 (pc + 3) lv st) : dgW T l E Mo G' x G pc lv (.int v :: dj_v E j :: st) := by
  obtain ⟨h0, h⟩ := dg_if2 h
  obtain ⟨h1, rfl⟩ := dg_if h
  exact g_put (G1 := dg_sFI G (100 * ci + f) j v) rfl rfl hF hin h1 (by show Value.int _ = _; rw [h0]) (by rw [← h0]; exact pk_fb v) hd (fun H H' hP hz ho h3 h13 e => dg_putI hP h1 h13 h3 hkd hz ho e) kk
theorem g_putC {index ci f j : Nat} {fin : Bool} {v : Int32} (hF : dg_F (dt_o T) index ci f fin .char) (hin : fin = true → dt_n T = "<init>") (hkd : dg_kd ci f = 0) (h : dg_pC G ci f j v = some G1) (hd : decode (dt_c T) pc = .ok (.putfield index, 3)) (kk : dgW T l E Mo G' x G1 (pc + 3) lv st) : dgW T l E Mo G' x G pc lv (.int v :: dj_v E j :: st) := by
  obtain ⟨h0, h⟩ := dg_if2 h
  obtain ⟨h1, rfl⟩ := dg_if h
  exact g_put (G1 := dg_sFI G (100 * ci + f) j v) rfl rfl hF hin h1 (by have := pk_nc v; rw [h0] at this; exact this) (by have := pk_fc v; rw [h0] at this; exact this) hd (fun H H' hP hz ho h3 h13 e => dg_putI hP h1 h13 h3 hkd hz ho e) kk
theorem dg_nref {ty : FieldType} (hty : (∃ z, ty = .object z) ∨ ∃ z, ty = .array z) (E : dj_E) (r : Nat) : narrow ty (dj_v E r) = dj_v E r ∧ fits ty (dj_v E r) = true := by
  rcases hty with ⟨z, rfl⟩ | ⟨z, rfl⟩ <;> rcases dj_v_or E r with h | ⟨a, h⟩ <;> rw [h] <;> exact ⟨rfl, rfl⟩
theorem g_putR {index ci f j v : Nat} {fin : Bool} {ty : FieldType} (hF : dg_F (dt_o T) index ci f fin ty) (hty : (∃ z, ty = .object z) ∨ ∃ z, ty = .array z) (hin : fin = true → dt_n T = "<init>") (hkd : dg_kd ci f = 1) (h : dg_pR G ci f j v = some G1) (hd : decode (dt_c T) pc = .ok (.putfield index, 3)) (kk : dgW T l E Mo G' x G1 (pc + 3) lv st) : dgW T l E Mo G' x G pc lv (dj_v E v :: dj_v E j :: st) := by
  obtain ⟨h1, rfl⟩ := dg_if h
  exact g_put (G1 := dg_sFR G (100 * ci + f) j v) rfl rfl hF hin h1 (dg_nref hty E v).1 (dg_nref hty E v).2 hd (fun H H' hP hz ho h3 h13 e => dg_putR hP h1 h13 h3 hkd hz ho e) kk
end
