set_option maxRecDepth 100000
section
variable {T : dg_T} {l : Launch} {E : dj_E} {Mo : Option dm_M} {G' : dg_G} {x : Nat ⊕ Option Value} {G G1 : dg_G} {pc : Nat} {lv : List (Nat × Value)} {st : List Value}
/-! texts -/
theorem dg_recvS {C : dh_C} {H : Heap} {locs : List Loc} {j : Nat} {u : Unit} (hK : dj_Kn E (dh_s C)) (hP : dj_P E Mo G H) (hS : va_S (dj_A E) (dh_s C).heap H locs) (h : dg_isS G j = some u) : dj_v E j = .ref (dj_ad E j) ∧ ∃ cell : Cell, H[dj_ad E j]? = some cell ∧ cell.vm.isStatics = false ∧ (dh_s C).vm.findClass "java/lang/String" = some cell.cls := by
  obtain ⟨h, _⟩ := dg_if h
  by_cases c : 40 ≤ j ∧ j < 63
  · refine ⟨dj_v_pos (by omega), ?_⟩
    rw [dj_ad_old (by omega)]
    have := vk_recv (dk_s hK) (i := j - 40) (by omega) hS
    rw [show 40 + (j - 40) = j by omega] at this
    exact this
  · have hk : dg_K G j = 12 + 1 := by omega
    exact ⟨dg_vref hP (by omega), va_recv hK.1 (dj_one (dg_at hP hk (by omega))) (ci := 12) (q0 := 0) rfl rfl⟩
theorem g_getSv {index j v : Nat} (h : dg_gSv G j = some v) (hF : dg_R (dt_o T) index 12 0) (hw : Cond.fieldLink (dt_o T) index "java/lang/String" "value" "[B" ∈ lw_all) (hd : decode (dt_c T) pc = .ok (.getfield index, 3)) (kk : dgW T l E Mo G' x G (pc + 3) lv (dj_v E v :: st)) : dgW T l E Mo G' x G pc lv (dj_v E j :: st) := by
  unfold dg_gSv at h
  by_cases c : 40 ≤ j ∧ j < 63
  · rw [if_pos c] at h
    cases h
    refine dg_k (fun C Q mc ms k n hC hK kk H locs ls hP hS hl => ?_) kk
    rw [dj_v_old (by omega) (by omega)] at kk ⊢
    have := ((dk_s hK).1 (j - 40) (by omega)).2.2.1
    dsimp only at this
    rw [show 40 + (j - 40) = j by omega, show 70 + (j - 40) = j + 30 by omega] at this
    exact vk_getf hC.1 hC.2.1 this hS hC.2.2.2.1 (hC.2.2.2.2.1 _ hw) (fun _ h => h) hd (kk H locs ls hP hS hl)
  · rw [if_neg c] at h
    exact g_getR hF (by decide) h hd kk
theorem g_getSc {index j : Nat} {v : Int32} (h : dg_gSc G j = some v) (hF : dg_R (dt_o T) index 12 1) (hw : Cond.fieldLink (dt_o T) index "java/lang/String" "coder" "B" ∈ lw_all) (hd : decode (dt_c T) pc = .ok (.getfield index, 3)) (kk : dgW T l E Mo G' x G (pc + 3) lv (.int v :: st)) : dgW T l E Mo G' x G pc lv (dj_v E j :: st) := by
  unfold dg_gSc at h
  by_cases c : 40 ≤ j ∧ j < 63
  · rw [if_pos c] at h
    cases h
    refine dg_k (fun C Q mc ms k n hC hK kk H locs ls hP hS hl => ?_) kk
    rw [dj_v_old (by omega) (by omega)]
    have := ((dk_s hK).1 (j - 40) (by omega)).2.1
    dsimp only at this
    rw [show 40 + (j - 40) = j by omega] at this
    exact vk_getf hC.1 hC.2.1 this hS hC.2.2.2.1 (hC.2.2.2.2.1 _ hw) (fun _ h => h) hd (kk H locs ls hP hS hl)
  · rw [if_neg c] at h
    exact g_getI hF (by decide) h hd kk
theorem g_bald {j : Nat} {i v : Int32} (h : dg_ldB G j i = some v) (hd : decode (dt_c T) pc = .ok (.baload, 1)) (kk : dgW T l E Mo G' x G (pc + 1) lv (.int v :: st)) : dgW T l E Mo G' x G pc lv (.int i :: dj_v E j :: st) := by
  unfold dg_ldB at h
  refine dg_k (fun C Q mc ms k n hC hK kk H locs ls hP hS hl => ?_) kk
  by_cases c : 70 ≤ j ∧ j < 93
  · rw [if_pos c] at h
    obtain ⟨h1, rfl⟩ := dm_in h
    rw [dj_v_old (by omega) (by omega)]
    have := ((dk_s hK).1 (j - 70) (by omega)).2.2.2
    dsimp only at this
    rw [show 70 + (j - 70) = j by omega] at this
    exact va_tb hC.1 hC.2.1 this hS h1 rfl hd (kk H locs ls hP hS hl)
  · rw [if_neg c] at h
    obtain ⟨h1, h2, rfl⟩ := dg_in2 h
    rw [dg_vref hP (by omega)]
    exact va_bald hC.1 hC.2.1 hK.1 (dj_one (hP.1 j _ (dg_cellI (t := 1) h1 (by omega)))) 0 1 rfl rfl h2 hd (kk H locs ls hP hS hl)
theorem g_lenB {j : Nat} {v : Int32} (h : dg_lnB G j = some v) (hd : decode (dt_c T) pc = .ok (.arraylength, 1)) (kk : dgW T l E Mo G' x G (pc + 1) lv (.int v :: st)) : dgW T l E Mo G' x G pc lv (dj_v E j :: st) := by
  unfold dg_lnB at h
  refine dg_k (fun C Q mc ms k n hC hK kk H locs ls hP hS hl => ?_) kk
  by_cases c : 70 ≤ j ∧ j < 93
  · rw [if_pos c] at h
    cases h
    rw [dj_v_old (by omega) (by omega)]
    have := ((dk_s hK).1 (j - 70) (by omega)).2.2.2
    dsimp only at this
    rw [show 70 + (j - 70) = j by omega] at this
    exact va_tlen hC.1 hC.2.1 this hS rfl hd (kk H locs ls hP hS hl)
  · rw [if_neg c] at h
    obtain ⟨h1, rfl⟩ := dg_if h
    rw [dg_vref hP (by omega)]
    exact va_alen hC.1 hC.2.1 hK.1 (dj_one (hP.1 j _ (dg_cellI (t := 1) h1 (by omega)))) 0 1 rfl rfl rfl hd (kk H locs ls hP hS hl)
theorem g_ldcS {index i : Nat} {tx : String} (ho : dt_o T = "DebtorsHouse$Reader") (hm : (index, tx, i) ∈ dj_ld) (h0 : i ≠ 0) (h1 : i < 100) (hd : decode (dt_c T) pc = .ok (.ldc index, 2)) (kk : dgW T l E Mo G' x G (pc + 2) lv (dj_v E i :: st)) : dgW T l E Mo G' x G pc lv st := by
  refine dg_k (fun C Q mc ms k n hC hK kk H locs ls hP hS hl => ?_) kk
  rw [dj_v_old h0 h1] at kk
  have hR := hK.2.2.2.1 _ hm
  rw [← ho] at hR
  exact va_ldcS hC.1 hC.2.1 hC.2.2.2.1 hR hd (kk H locs ls hP hS hl)
theorem g_ldcM {index : Nat} (hw : Cond.classLink (dt_o T) index "[Ljava/lang/Object;" ∈ lw_all) (hd : decode (dt_c T) pc = .ok (.ldc index, 2)) (kk : dgW T l E Mo G' x G (pc + 2) lv (dj_v E 33 :: st)) : dgW T l E Mo G' x G pc lv st := by
  refine dg_k (fun C Q mc ms k n hC hK kk H locs ls hP hS hl => ?_) kk
  rw [dj_v_old (by omega) (by omega)] at kk
  exact va_ldcM hC.1 hC.2.1 hC.2.2.2.1 (hC.2.2.2.2.1 _ hw) hK.2.2.2.2.2.2.2.2.1 hd (kk H locs ls hP hS hl)
/-- the class of an array of objects is asked -/
theorem g_getC {index j : Nat} {u : Unit} (h : dg_is G 53 j = some u) (hw : Cond.methodLink (dt_o T) index ⟨"java/lang/Object", "getClass", "()Ljava/lang/Class;"⟩ ∈ lw_all) (hF : 1 ≤ dt_F T) (hL : (st.map fun v => v.category).sum + 14 ≤ dt_W T) (hd : decode (dt_c T) pc = .ok (.invokevirtual index, 3)) (kk : dgW T l E Mo G' x G (pc + 3) lv (dj_v E 33 :: st)) : dgW T l E Mo G' x G pc lv (dj_v E j :: st) := by
  obtain ⟨h1, _⟩ := dg_if h
  refine dg_m (a := 0) (b := 0) (G1 := G) rfl rfl (fun C Q mc ms k n hC hK _ _ hfr hlo kk H locs ls hP hS hl => ?_) kk
  rw [dg_vref hP (j := j) (by omega)]
  rw [dj_v_old (by omega) (by omega)] at kk
  have hts := hC.2.2.2.2.1
  have hcell : H[dj_ad E j]? = some (vp_cell (dj_dA E 4) _) := hP.1 j _ (dg_cellR (t := 4) h1 (by omega))
  obtain ⟨kA, comp, r1, r2, r3, r4⟩ := (hK.1.2 4 _ rfl).2
  exact va_getC hC.1 hC.2.1 hl.1.symm hC.2.2.2.1 (hts _ hw) (va_Dc.use hK.2.2.2.2.2.2.2.2.2.1) (C := "[Ljava/lang/Object;") (hts _ q2025) (hts _ q362) (hts _ q381) hK.2.2.2.2.2.2.2.2.1 ⟨_, hcell, rfl, r4⟩ (by rw [hfr]; exact hF) (by rw [hlo]; exact hL) hd (kk H locs ls hP hS hl)
/-! casts -/
theorem g_castO {index ci j : Nat} {Cn : String} {Tt : u_T} {N : Nat} {u : Unit} (hc : dj_cl[ci]? = some (Cn, Tt, N)) (h : dg_cast G ci j = some u) (hw : Cond.classLink (dt_o T) index Cn ∈ lw_all) (hd : decode (dt_c T) pc = .ok (.checkcast index, 3)) (kk : dgW T l E Mo G' x G (pc + 3) lv (dj_v E j :: st)) : dgW T l E Mo G' x G pc lv (dj_v E j :: st) := by
  obtain ⟨h1, _⟩ := dg_if h
  refine dg_k (fun C Q mc ms k n hC hK kk H locs ls hP hS hl => ?_) kk
  by_cases h0 : j = 0
  · subst h0
    exact lv_castN hC.1 hC.2.1 hd (kk H locs ls hP hS hl)
  · have hk : dg_K G j = ci + 1 := by omega
    rw [dg_vref hP (by omega)] at kk ⊢
    exact va_castS hC.1 hC.2.1 hC.2.2.2.1 (hC.2.2.2.2.1 _ hw) (hK.1.1 ci _ hc).2 (va_recv hK.1 (dj_one (dg_at hP hk (dg_lt13 hc))) (ci := ci) (q0 := 0) hc rfl) hd (kk H locs ls hP hS hl)
theorem g_castS {index j : Nat} {u : Unit} (h : dg_isS G j = some u) (hw : Cond.classLink (dt_o T) index "java/lang/String" ∈ lw_all) (hd : decode (dt_c T) pc = .ok (.checkcast index, 3)) (kk : dgW T l E Mo G' x G (pc + 3) lv (dj_v E j :: st)) : dgW T l E Mo G' x G pc lv (dj_v E j :: st) := by
  refine dg_k (fun C Q mc ms k n hC hK kk H locs ls hP hS hl => ?_) kk
  obtain ⟨e, hr⟩ := dg_recvS (C := C) hK hP hS h
  rw [e] at kk ⊢
  exact va_castE hC.1 hC.2.1 hC.2.2.2.1 (hC.2.2.2.2.1 _ hw) hr hd (kk H locs ls hP hS hl)
theorem g_instS {index j : Nat} {u : Unit} (h : dg_isS G j = some u) (hw : Cond.classLink (dt_o T) index "java/lang/String" ∈ lw_all) (hd : decode (dt_c T) pc = .ok (.instanceof index, 3)) (kk : dgW T l E Mo G' x G (pc + 3) lv (.int 1 :: st)) : dgW T l E Mo G' x G pc lv (dj_v E j :: st) := by
  refine dg_k (fun C Q mc ms k n hC hK kk H locs ls hP hS hl => ?_) kk
  obtain ⟨e, hr⟩ := dg_recvS (C := C) hK hP hS h
  rw [e]
  exact va_instE hC.1 hC.2.1 hC.2.2.2.1 (hC.2.2.2.2.1 _ hw) hr hd (kk H locs ls hP hS hl)
theorem g_castB {index j : Nat} {u : Unit} (h : dg_is G 50 j = some u) (hw : Cond.classLink (dt_o T) index "[B" ∈ lw_all) (hd : decode (dt_c T) pc = .ok (.checkcast index, 3)) (kk : dgW T l E Mo G' x G (pc + 3) lv (dj_v E j :: st)) : dgW T l E Mo G' x G pc lv (dj_v E j :: st) := by
  obtain ⟨h1, _⟩ := dg_if h
  refine dg_k (fun C Q mc ms k n hC hK kk H locs ls hP hS hl => ?_) kk
  rw [dg_vref hP (by omega)] at kk ⊢
  exact va_castA hC.1 hC.2.1 hC.2.2.2.1 (hC.2.2.2.2.1 _ hw) (dj_one (hP.1 j _ (dg_cellI (t := 1) h1 (by omega)))) 0 rfl (hK.1.2 1 _ rfl).2 hd (kk H locs ls hP hS hl)
/-! ends -/
theorem dg_end (h : ∀ (C : dh_C) (mc ms : Nat), dh_ok C (dt_c T) (dt_L T) (dt_o T) (dt_r T) → dh_W C (dj_A E) (dj_P E Mo G) (dg_Q E Mo x G) mc ms mc ms pc lv st) : dgW T l E Mo G x G pc lv st :=
  ⟨dg_mono.rf G, fun C n0 s0 h1 h2 h3 => h C _ _ h1.1⟩
theorem g_iret {v r : Int32} (hd : decode (dt_c T) pc = .ok (.ireturn, 1)) (hr : dt_r T = some .int) (hf : some (v, G) = some (r, G1)) : dgW T l E Mo G1 (.inr (some (.int r))) G pc lv [.int v] := by
  cases hf
  exact dg_end (fun C mc ms hC => r_iret hC hd hr (Nat.le_refl _) (Nat.le_refl _) (fun H h => ⟨rfl, h⟩))
theorem g_iret1 {v r : Int32} (hd : decode (dt_c T) pc = .ok (.ireturn, 1)) (hr : dt_r T = some .int) (hf : some v = some r) : dgW T l E Mo G (.inr (some (.int r))) G pc lv [.int v] := g_iret hd hr (by cases hf; rfl)
theorem g_zret {v r : Int32} {ty : FieldType} (hd : decode (dt_c T) pc = .ok (.ireturn, 1)) (hr : dt_r T = some ty) (hz : narrow ty (.int v) = .int v) (hf : some (v, G) = some (r, G1)) : dgW T l E Mo G1 (.inr (some (.int r))) G pc lv [.int v] := by
  cases hf
  exact dg_end (fun C mc ms hC => r_zret hC hd hr hz (Nat.le_refl _) (Nat.le_refl _) (fun H h => ⟨rfl, h⟩))
theorem g_zret1 {v r : Int32} {ty : FieldType} (hd : decode (dt_c T) pc = .ok (.ireturn, 1)) (hr : dt_r T = some ty) (hz : narrow ty (.int v) = .int v) (hf : some v = some r) : dgW T l E Mo G (.inr (some (.int r))) G pc lv [.int v] := g_zret hd hr hz (by cases hf; rfl)
theorem g_lret {v r : Int64} (hd : decode (dt_c T) pc = .ok (.lreturn, 1)) (hr : dt_r T = some .long) (hf : some (v, G) = some (r, G1)) : dgW T l E Mo G1 (.inr (some (.long r))) G pc lv [.long v] := by
  cases hf
  exact dg_end (fun C mc ms hC => r_lret hC hd hr (Nat.le_refl _) (Nat.le_refl _) (fun H h => ⟨rfl, h⟩))
theorem g_lret1 {v r : Int64} (hd : decode (dt_c T) pc = .ok (.lreturn, 1)) (hr : dt_r T = some .long) (hf : some v = some r) : dgW T l E Mo G (.inr (some (.long r))) G pc lv [.long v] := g_lret hd hr (by cases hf; rfl)
theorem g_vret (hd : decode (dt_c T) pc = .ok (.return_, 1)) (hr : dt_r T = none) (hf : some G = some G1) : dgW T l E Mo G1 (.inr none) G pc lv [] := by
  cases hf
  exact dg_end (fun C mc ms hC => r_vret hC hd hr (Nat.le_refl _) (Nat.le_refl _) (fun H h => ⟨rfl, h⟩))
theorem g_aret {v r : Nat} {ty : FieldType} (hd : decode (dt_c T) pc = .ok (.areturn, 1)) (hr : dt_r T = some ty) (hrt : (∃ z, ty = .object z) ∨ ∃ z, ty = .array z) (hf : some (v, G) = some (r, G1)) : dgW T l E Mo G1 (.inr (some (dj_v E r))) G pc lv [dj_v E v] := by
  cases hf
  exact dg_end (fun C mc ms hC => r_aret hC hd hr hrt (dj_v_or E v) (Nat.le_refl _) (Nat.le_refl _) (fun H h => ⟨rfl, h⟩))
theorem g_aret1 {v r : Nat} {ty : FieldType} (hd : decode (dt_c T) pc = .ok (.areturn, 1)) (hr : dt_r T = some ty) (hrt : (∃ z, ty = .object z) ∨ ∃ z, ty = .array z) (hf : some v = some r) : dgW T l E Mo G (.inr (some (dj_v E r))) G pc lv [dj_v E v] := g_aret hd hr hrt (by cases hf; rfl)
/-- Object's start -/
theorem g_obj {index j : Nat} {u : Unit} (h : dg_pos j = some u) (hw : Cond.methodLink (dt_o T) index Lib.objectInit ∈ lw_all) (hF : 1 ≤ dt_F T) (hL : (st.map fun v => v.category).sum + 12 ≤ dt_W T) (hd : decode (dt_c T) pc = .ok (.invokespecial index, 3)) (kk : dgW T l E Mo G' x G (pc + 3) lv st) : dgW T l E Mo G' x G pc lv (dj_v E j :: st) := by
  obtain ⟨h0, _⟩ := dg_if h
  refine dg_m (a := 0) (b := 0) (G1 := G) rfl rfl (fun C Q mc ms k n hC hK _ _ hfr hlo kk H locs ls hP hS hl => ?_) kk
  rw [dj_v_pos h0]
  have hts := hC.2.2.2.2.1
  exact W.objInit hC.1 hC.2.1 hC.2.2.2.1 (hts _ hw) (hts _ q120) (hts _ q121) rfl hl.1 rfl hd (by rw [hfr]; exact hF) (by show 2 * 0 + _ + 12 ≤ _; rw [hlo]; omega) (kk H locs ls hP hS hl)
end
