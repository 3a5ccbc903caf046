set_option maxRecDepth 100000
/-! new cells -/
theorem dj_push {E : dj_E} {Mo : Option dm_M} {G G' : dg_G} {H H' : Heap} (hP : dj_P E Mo G H) (hn : dg_n G' = dg_n G + 1) (hK : ∀ i, i ≠ dg_n G → dg_K G' i = dg_K G i) (hc : ∀ i, i ≠ dg_n G → dg_cell E G' i = dg_cell E G i) (hz : H'.size = H.size + 1) (ho : ∀ q, q < H.size → H'[q]? = H[q]?)
    (hj : ∀ e, dg_cell E G' (dg_n G) = some e → va_at (dj_D E) dj_cl (dj_ad E (dg_n G), e) H') (hr : dg_K G' (dg_n G) = 20 → H'[dj_ad E (dg_n G)]? = some (dj_raw E)) : dj_P E Mo G' H' := by
  obtain ⟨p1, p2, p3, p4, p5, p6⟩ := hP
  have lt : ∀ i, dg_K G i ≠ 0 → dj_ad E i < H.size := fun i hi => by
    have := p4 i hi
    rw [dj_ad_new this.1, p2]
    omega
  have n0 : dg_K G (dg_n G) = 0 := by
    by_cases h : dg_K G (dg_n G) = 0
    · exact h
    · have := (p4 _ h).2
      omega
  refine ⟨fun i e he => ?_, by rw [hz, hn, p2]; omega, by omega, fun i hi => ?_, fun M hM => ?_, fun i hi => ?_⟩
  · by_cases hij : i = dg_n G
    · subst hij
      exact hj e he
    · have hk := dg_cell_K he
      rw [hK i hij] at hk
      rw [hc i hij] at he
      exact (p1 i e he).kept (ho _ (lt i hk))
  · by_cases hij : i = dg_n G
    · omega
    · rw [hK i hij] at hi
      have := p4 i hi
      omega
  · obtain ⟨q1, q2, q3, q4⟩ := p5 M hM
    refine ⟨fun i hi => (q1 i hi).kept (ho _ ?_), fun i hi => ?_, q3, by omega⟩
    · show dj_am E + i < H.size
      unfold dj_am
      rw [p2]
      omega
    · rw [hK _ (by omega)]
      exact q2 i hi
  · by_cases hij : i = dg_n G
    · subst hij
      exact hr hi
    · rw [hK i hij] at hi
      rw [ho _ (lt i (by omega))]
      exact p6 i hi
theorem dj_hs {E : dj_E} {Mo : Option dm_M} {G : dg_G} {H : Heap} (hP : dj_P E Mo G H) : H.size = dj_ad E (dg_n G) := by rw [dj_ad_new hP.2.2.1]; exact hP.2.1
theorem dj_Sp {E : dj_E} {H H1 H0 : Heap} {locs : List Loc} (hS : va_S (dj_A E) H0 H locs) (hz : H.size ≤ H1.size) (ho : ∀ q, q < H.size → H1[q]? = H[q]?) : va_S (dj_A E) H0 H1 locs :=
  ⟨Nat.le_trans hS.1 hz, fun q h1 h2 => (ho q (Nat.lt_of_lt_of_le h1 hS.1)).trans (hS.2.1 q h1 h2), hS.2.2⟩
/-- an object may be made: own's pool index leads to the kind ci -/
def dg_dv (ci j : Nat) : Value := if dg_kd ci j = 0 then .int 0 else if dg_kd ci j = 1 then .null else .long 0
def dg_I (own : String) (index ci : Nat) : Prop := ∃ (C : String) (Tt : u_T) (ty : Nat → FieldType), dj_cl[ci]? = some (C, Tt, dg_N ci) ∧ (∀ w ∈ u_ws C Tt (dg_N ci), w ∈ lw_all) ∧ (∀ k, k < dg_N ci → parseFieldDescriptor (Tt k).2.2.1 = some (ty k)) ∧ Cond.classLink own index C ∈ lw_all ∧ Cond.instantiable C (dg_N ci) ∈ lw_all ∧ Cond.initialized C ∈ lw_all ∧ ∀ j, j < dg_N ci → defaultValue (ty j) = dg_dv ci j
section
variable {T : dg_T} {l : Launch} {E : dj_E} {Mo : Option dm_M} {G' : dg_G} {x : Nat ⊕ Option Value} {G G1 : dg_G} {pc : Nat} {lv : List (Nat × Value)} {st : List Value}
/-- a row that makes cells -/
theorem dg_m {a b pc1 : Nat} {lv1 : List (Nat × Value)} {st1 : List Value} (hn : dg_n G1 = dg_n G + a) (hs : dg_sl G1 = dg_sl G + b) (h : ∀ (C : dh_C) (Q : Outcome → Heap → Prop) (mc ms k n : Nat), dh_ok C (dt_c T) (dt_L T) (dt_o T) (dt_r T) → dj_Kn E (dh_s C) → k + a ≤ (dh_R C).cells → n + b ≤ (dh_R C).slots → (dh_R C).frames = dt_F T → (dh_R C).locals = dt_W T → dh_W C (dj_A E) (dj_P E Mo G1) Q mc ms (k + a) (n + b) pc1 lv1 st1 → dh_W C (dj_A E) (dj_P E Mo G) Q mc ms k n pc lv st) (kk : dgW T l E Mo G' x G1 pc1 lv1 st1) : dgW T l E Mo G' x G pc lv st := by
  obtain ⟨k1, k2⟩ := kk
  obtain ⟨m1, m2⟩ := k1
  refine ⟨⟨by omega, by omega⟩, fun C n0 s0 h1 h2 h3 => ?_⟩
  have hR := h1.2.2.1
  refine h C _ _ _ _ _ h1.1 h1.2.1 (by rw [hR]; show _ ≤ dg_n G' - n0; omega) (by rw [hR]; show _ ≤ dg_sl G' - s0; omega) (by rw [hR]) (by rw [hR]) ?_
  have := k2 C n0 s0 h1 (by omega) (by omega)
  exact r_widen (by omega) (by omega) this
theorem g_new {index ci : Nat} (hI : dg_I (dt_o T) index ci) (hd : decode (dt_c T) pc = .ok (.new index, 3)) (kk : dgW T l E Mo G' x (dg_nw G ci) (pc + 3) lv (dj_v E (dg_n G) :: st)) : dgW T l E Mo G' x G pc lv st := by
  refine dg_m (a := 1) (b := dg_N ci) rfl rfl (fun C Q mc ms k n hC hK hk hn _ _ kk H locs ls hP hS hl => ?_) kk
  obtain ⟨Cn, Tt, ty, e1, e2, e3, e4, e5, e6, e7⟩ := hI
  have h13 := dg_lt13 e1
  have hKn := hK.1.1 ci _ e1
  have h100 := hP.2.2.1
  have hts := hC.2.2.2.2.1
  refine W.newcK hC.1 hC.2.1 hC.2.2.2.1 (hts _ e4) (hts _ e5) (hts _ e6) rfl hd hk hn hKn.2.1 (dj_hs hP) (fun H1 kC hkC c1 z1 o1 => ?_)
  rw [← dj_hs hP] at z1 o1
  have hv : (.ref (dj_ad E (dg_n G)) : Value) = dj_v E (dg_n G) := (dj_v_pos (by omega)).symm
  show dh_X C H1 locs (k + 1) (n + dg_N ci) _ (F0 (dh_m C) (pc + 3) ls (.ref (dj_ad E (dg_n G)) :: st))
  rw [hv]
  refine kk H1 locs ls (dj_push hP rfl (fun i hi => if_neg hi) (fun i hi => dg_cell_eq E (if_neg hi) rfl (fun _ => if_neg hi) (fun _ => if_neg hi) rfl rfl rfl) z1 o1 (fun e he => ?_) (fun h => ?_)) (dj_Sp hS (by omega) o1) hl
  · have hKn' : dg_K (dg_nw G ci) (dg_n G) = ci + 1 := if_pos rfl
    rw [dg_cellO hKn' h13] at he
    cases he
    refine ⟨_, e1, (u_born ty hts e2 hKn hkC c1 e3).to (fun j hj => ?_)⟩
    rw [e7 j hj]
    show _ = (List.map _ _).getD j Value.null
    rw [List.getD_eq_getElem?_getD, dg_fld _ _ hj]
    unfold dg_dv dg_fv
    have f1 : dg_FI (dg_nw G ci) (100 * ci + j) (dg_n G) = 0 := if_pos rfl
    have f2 : dg_FR (dg_nw G ci) (100 * ci + j) (dg_n G) = 0 := if_pos rfl
    rw [f1, f2]
    rfl
  · have hKn' : dg_K (dg_nw G ci) (dg_n G) = ci + 1 := if_pos rfl
    omega
/-- a Fault is made, not begun -/
theorem g_newF {index : Nat} (hc : Cond.classLink (dt_o T) index RX7 ∈ lw_all) (hd : decode (dt_c T) pc = .ok (.new index, 3)) (kk : dgW T l E Mo G' x (dg_nwF G) (pc + 3) lv (dj_v E (dg_n G) :: st)) : dgW T l E Mo G' x G pc lv st := by
  refine dg_m (a := 1) (b := 8) rfl rfl (fun C Q mc ms k n hC hK hk hn _ _ kk H locs ls hP hS hl => ?_) kk
  have hKn := hK.1.1 7 _ rfl
  have h100 := hP.2.2.1
  have hts := hC.2.2.2.2.1
  obtain ⟨kX, hkX, hft⟩ := hK.2.2.2.2.2.2.2.1
  refine W.newcK hC.1 hC.2.1 hC.2.2.2.1 (hts _ hc) (hts _ q907) (hts _ q108) rfl hd hk hn hKn.2.1 (dj_hs hP) (fun H1 kC hkC c1 z1 o1 => ?_)
  rw [← dj_hs hP] at z1 o1
  have hv : (.ref (dj_ad E (dg_n G)) : Value) = dj_v E (dg_n G) := (dj_v_pos (by omega)).symm
  show dh_X C H1 locs (k + 1) (n + 8) _ (F0 (dh_m C) (pc + 3) ls (.ref (dj_ad E (dg_n G)) :: st))
  rw [hv]
  have hkk : kC = kX := Option.some.inj (hkC.symm.trans hkX)
  refine kk H1 locs ls (dj_push hP rfl (fun i hi => if_neg hi) (fun i hi => dg_cell_eq E (if_neg hi) rfl (fun _ => if_neg hi) (fun _ => if_neg hi) rfl rfl rfl) z1 o1 (fun e he => ?_) (fun h => ?_)) (dj_Sp hS (by omega) o1) hl
  · have hKn' : dg_K (dg_nwF G) (dg_n G) = 20 := if_pos rfl
    unfold dg_cell at he
    rw [if_pos (Or.inr hKn')] at he
    cases he
  · rw [c1]
    unfold dj_raw blank
    rw [← hft.1, hkk]
/-! rows -/
theorem dg_nar {m : Int32} {κ : Nat} (h : dg_new G κ m = some G1) : ¬ m < 0 ∧ m.toNatClampNeg ≤ 65536 ∧ G1 = dg_na G κ m.toNatClampNeg := by
  unfold dg_new at h
  by_cases hc : m < 0 ∨ 65536 < m.toNatClampNeg
  · rw [if_pos hc] at h; cases h
  · rw [if_neg hc] at h
    cases h
    exact ⟨fun q => hc (Or.inl q), Nat.not_lt.mp (fun q => hc (Or.inr q)), rfl⟩
theorem dg_na_cell (E : dj_E) (κ m : Nat) {i : Nat} (hi : i ≠ dg_n G) : dg_cell E (dg_na G κ m) i = dg_cell E G i :=
  dg_cell_eq E (if_neg hi) (if_neg hi) (fun _ => rfl) (fun _ => rfl) (funext fun _ => if_neg hi) (funext fun _ => if_neg hi) (funext fun _ => if_neg hi)
theorem dg_na_P {κ m : Nat} {H H1 : Heap} (hP : dj_P E Mo G H) (hκ : κ ≠ 20) (z1 : H1.size = H.size + 1) (o1 : ∀ q, q < H.size → H1[q]? = H[q]?) (hj : ∀ e, dg_cell E (dg_na G κ m) (dg_n G) = some e → va_at (dj_D E) dj_cl (dj_ad E (dg_n G), e) H1) : dj_P E Mo (dg_na G κ m) H1 :=
  dj_push hP rfl (fun i hi => if_neg hi) (fun i hi => dg_na_cell E κ m hi) z1 o1 hj (fun h => by
    have h : (if dg_n G = dg_n G then κ else dg_K G (dg_n G)) = 20 := h
    rw [if_pos rfl] at h
    exact absurd h hκ)
theorem g_newa {m : Int32} (t : Nat) {atype : ArrayType} {ty : FieldType} (ht : t < 3) (hat : newarray.typeOf atype = ty) (hty : (dj_ty E)[t]? = some (dj_dA E t, ty)) (hRA : ∀ (U : State) (c : ClassId), va_RA U c ty → U.vm.findClass ("[" ++ ty.toString) = some c) (hdef : defaultValue ty = .int 0) (hcb : componentBytes ty ≤ 8) (hw : Cond.arrayClass ty ∈ lw_all) (h : dg_new G (50 + t) m = some G1) (hd : decode (dt_c T) pc = .ok (.newarray atype, 2)) (kk : dgW T l E Mo G' x G1 (pc + 2) lv (dj_v E (dg_n G) :: st)) : dgW T l E Mo G' x G pc lv (.int m :: st) := by
  obtain ⟨h1, h2, rfl⟩ := dg_nar h
  subst hat
  refine dg_m (a := 1) (b := m.toNatClampNeg) rfl rfl (fun C Q mc ms k n hC hK hk hn _ _ kk H locs ls hP hS hl => ?_) kk
  have h100 := hP.2.2.1
  refine va_newaK hC.1 hC.2.1 (hC.2.2.2.2.1 _ hw) rfl hd rfl h1 rfl (Nat.le_trans (Nat.mul_le_mul h2 hcb) (by decide)) hk hn (dj_hs hP) (fun H1 cA e1 z1 o1 hAr hNm => ?_)
  rw [← dj_hs hP] at z1 o1
  have hcA : cA = dj_dA E t := Option.some.inj (hNm.symm.trans (hRA _ _ (hK.1.2 t _ hty).2))
  have hv : (.ref (dj_ad E (dg_n G)) : Value) = dj_v E (dg_n G) := (dj_v_pos (by omega)).symm
  show dh_X C H1 locs (k + 1) (n + m.toNatClampNeg) _ (F0 (dh_m C) (pc + 2) ls (.ref (dj_ad E (dg_n G)) :: st))
  rw [hv]
  refine kk H1 locs ls (dg_na_P hP (by omega) z1 o1 (fun e he => ?_)) (dj_Sp hS (by omega) o1) hl
  have k1 : dg_K (dg_na G (50 + t) m.toNatClampNeg) (dg_n G) = 50 + t := if_pos rfl
  have k2 : dg_L (dg_na G (50 + t) m.toNatClampNeg) (dg_n G) = m.toNatClampNeg := if_pos rfl
  have k3 : dg_AI (dg_na G (50 + t) m.toNatClampNeg) (dg_n G) = fun _ => 0 := funext fun _ => if_pos rfl
  unfold dg_cell at he
  rw [k1, k2, k3, if_neg (by omega), if_neg (by omega), if_pos (by omega)] at he
  cases he
  show H1[_]? = some (vp_cell _ _)
  rw [e1, hcA, vp_cell_i, hdef, show 50 + t - 50 = t by omega]
theorem g_newL {m : Int32} (hw : Cond.arrayClass .long ∈ lw_all) (h : dg_new G 53 m = some G1) (hd : decode (dt_c T) pc = .ok (.newarray .long, 2)) (kk : dgW T l E Mo G' x G1 (pc + 2) lv (dj_v E (dg_n G) :: st)) : dgW T l E Mo G' x G pc lv (.int m :: st) := by
  obtain ⟨h1, h2, rfl⟩ := dg_nar h
  refine dg_m (a := 1) (b := m.toNatClampNeg) rfl rfl (fun C Q mc ms k n hC hK hk hn _ _ kk H locs ls hP hS hl => ?_) kk
  have h100 := hP.2.2.1
  refine va_newaK (atype := .long) hC.1 hC.2.1 (hC.2.2.2.2.1 _ hw) rfl hd rfl h1 rfl (Nat.le_trans (Nat.mul_le_mul h2 (show componentBytes (newarray.typeOf .long) ≤ 8 by decide)) (by decide)) hk hn (dj_hs hP) (fun H1 cA e1 z1 o1 hAr hNm => ?_)
  rw [← dj_hs hP] at z1 o1
  have hcA : cA = dj_dA E 3 := Option.some.inj (hNm.symm.trans (hK.1.2 3 _ rfl).2)
  have hv : (.ref (dj_ad E (dg_n G)) : Value) = dj_v E (dg_n G) := (dj_v_pos (by omega)).symm
  show dh_X C H1 locs (k + 1) (n + m.toNatClampNeg) _ (F0 (dh_m C) (pc + 2) ls (.ref (dj_ad E (dg_n G)) :: st))
  rw [hv]
  refine kk H1 locs ls (dg_na_P hP (by omega) z1 o1 (fun e he => ?_)) (dj_Sp hS (by omega) o1) hl
  have k1 : dg_K (dg_na G 53 m.toNatClampNeg) (dg_n G) = 53 := if_pos rfl
  have k2 : dg_L (dg_na G 53 m.toNatClampNeg) (dg_n G) = m.toNatClampNeg := if_pos rfl
  have k3 : dg_AL (dg_na G 53 m.toNatClampNeg) (dg_n G) = fun _ => 0 := funext fun _ => if_pos rfl
  unfold dg_cell at he
  rw [k1, k2, k3, if_neg (by omega), if_neg (by omega), if_neg (by omega), if_pos rfl] at he
  cases he
  show H1[_]? = some (vp_cell _ _)
  rw [e1, hcA, vp_cell_l]
  rfl
/-- an array of references -/
theorem g_newq {m : Int32} {index : Nat} (t : Nat) {Cn : String} (ht : t = 4 ∨ t = 5) (hty : (dj_ty E)[t]? = some (dj_dA E t, .object Cn)) (hc : Cond.classLink (dt_o T) index Cn ∈ lw_all) (hAO : ∀ s, dj_Kn E s → va_AO Cn s) (h : dg_new G (50 + t) m = some G1) (hd : decode (dt_c T) pc = .ok (.anewarray index, 3)) (kk : dgW T l E Mo G' x G1 (pc + 3) lv (dj_v E (dg_n G) :: st)) : dgW T l E Mo G' x G pc lv (.int m :: st) := by
  obtain ⟨h1, h2, rfl⟩ := dg_nar h
  refine dg_m (a := 1) (b := m.toNatClampNeg) rfl rfl (fun C Q mc ms k n hC hK hk hn _ _ kk H locs ls hP hS hl => ?_) kk
  have h100 := hP.2.2.1
  refine W.anew hC.1 hC.2.1 hC.2.2.2.1 (hC.2.2.2.2.1 _ hc) (va_AO.use (hAO _ hK)) rfl hd rfl h1 (by omega) hk hn (fun cA kA comp f1 f2 f3 f4 => ?_)
  obtain ⟨kA', comp', g1, g2, g3, g4⟩ := (hK.1.2 t _ hty).2
  have hcA : cA = dj_dA E t := Option.some.inj (f1.symm.trans g4)
  have hv : (.ref H.size : Value) = dj_v E (dg_n G) := by rw [dj_hs hP]; exact (dj_v_pos (by omega)).symm
  generalize hH1 : H.push { cls := cA, slots := Array.replicate m.toNatClampNeg .null, vm := .none } = H1
  have z1 : H1.size = H.size + 1 := by rw [← hH1, Array.size_push]
  have e1 : H1[H.size]? = some { cls := cA, slots := Array.replicate m.toNatClampNeg .null, vm := .none } := by rw [← hH1, Array.getElem?_push_size]
  have o1 : ∀ q : Nat, q < H.size → H1[q]? = H[q]? := fun q hq => by rw [← hH1, Array.getElem?_push, if_neg (Nat.ne_of_lt hq)]
  show dh_X C H1 locs (k + 1) (n + m.toNatClampNeg) _ (F0 (dh_m C) (pc + 3) ls (.ref H.size :: st))
  rw [hv]
  refine kk H1 locs ls (dg_na_P hP (by omega) z1 o1 (fun e he => ?_)) (dj_Sp hS (by omega) o1) hl
  have k1 : dg_K (dg_na G (50 + t) m.toNatClampNeg) (dg_n G) = 50 + t := if_pos rfl
  have k2 : dg_L (dg_na G (50 + t) m.toNatClampNeg) (dg_n G) = m.toNatClampNeg := if_pos rfl
  have k3 : dg_AR (dg_na G (50 + t) m.toNatClampNeg) (dg_n G) = fun _ => 0 := funext fun _ => if_pos rfl
  unfold dg_cell at he
  rw [k1, k2, k3, if_neg (by omega), if_neg (by omega), if_neg (by omega), if_neg (by omega)] at he
  cases he
  show H1[_]? = some (vp_cell _ _)
  rw [← dj_hs hP, e1, hcA, vp_cell_q, show 50 + t - 50 = t by omega]
  exact congrArg some (arrV_new _ _ .null)
end
