set_option maxRecDepth 100000
/-! the throwing kind's start, no traces asked -/
theorem dj_Zs.lays {n d : String} {A : Nat → Prop} {U : State} {args : Array Value} (h : dj_Zs n d A U U.heap) : (Cond.laysStatic "java/lang/Throwable" n d).before args U = true := by
  obtain ⟨c, k, i, fd, a, cell, v, h1, h2, h3, h4, h5, h6, h7, h8, h9, h10, h11, h12⟩ := h
  simp [Cond.before, Cond.holds, Cond.value, h1, h2, h3, h4, h5, h6, h7, h8, h9]
theorem dj_thr {C : dh_C} {E : dj_E} (hts : ∀ w ∈ lw_all, w.before (dh_a C) (dh_s C) = true) (hK : dj_Kn E (dh_s C)) : ∀ c ∈ Bundle.throwableAtoms, c.before (dh_a C) (dh_s C) = true := by
  obtain ⟨b1, b2, b3, b4⟩ := hK.2.2.2.2.2.2.2.2.2.2.2.2.2.1
  intro c hc
  simp only [Bundle.throwableAtoms, List.mem_cons, List.not_mem_nil, or_false] at hc
  rcases hc with h | h | h | h | h | h | h | h | h | h | h | h | h | h | h | h | h | h | h | h | h | h | h | h
  · rw [h]; exact hts _ q106
  · rw [h]; exact hts _ q926
  · rw [h]; exact hts _ q935
  · rw [h]; exact hts _ q937
  · rw [h]; exact hts _ q940
  · rw [h]; exact hts _ q942
  · rw [h]; exact hts _ q927
  · rw [h]; exact hts _ q928
  · rw [h]; exact hts _ q120
  · rw [h]; exact hts _ q121
  · rw [h]; exact hts _ q929
  · rw [h]; exact hts _ q934
  · rw [h]; exact hts _ q938
  · rw [h]; exact hts _ q955
  · rw [h]; exact hts _ q916
  · rw [h]; exact hts _ q956
  · rw [h]; exact hts _ q918
  · rw [h]; exact hts _ q957
  · rw [h]; exact hts _ q920
  · rw [h]; exact hts _ q930
  · rw [h]; exact b2.lays
  · rw [h]; exact hts _ q932
  · rw [h]; exact b3.lays
  · rw [h]; exact hts _ q922
/-- a Fault's cell is begun -/
theorem dj_begP {E : dj_E} {Mo : Option dm_M} {G G1 : dg_G} {H H' : Heap} {j : Nat} (hP : dj_P E Mo G H) (h : dg_beg G j = some G1) (hz : H'.size = H.size) (ho : ∀ q, q ≠ dj_ad E j → H'[q]? = H[q]?)
    (hj : ∀ e, dg_cell E G1 j = some e → va_at (dj_D E) dj_cl (dj_ad E j, e) H') : dj_P E Mo G1 H' := by
  obtain ⟨hk20, rfl⟩ := dg_if h
  obtain ⟨p1, p2, p3, p4, p5, p6⟩ := hP
  have h100 := (p4 j (by omega)).1
  have hlt := (p4 j (by omega)).2
  refine ⟨fun i e he => ?_, by rw [hz]; exact p2, p3, fun i hi => ?_, fun M hM => ?_, fun i hi => ?_⟩
  · by_cases hij : i = j
    · subst hij
      exact hj e he
    · have e1 : dg_cell E (dg_n G, dg_sl G, (fun x => if x = j then 8 else dg_K G x), dg_L G, (fun f x => if x = j then 0 else dg_FI G f x), dg_FR G, dg_AI G, dg_AL G, dg_AR G) i = dg_cell E G i := dg_cell_eq E (if_neg hij) rfl (fun _ => if_neg hij) (fun _ => rfl) rfl rfl rfl
      rw [e1] at he
      exact (p1 i e he).kept (ho _ (fun q => hij (dj_ad_inj (p4 i (dg_cell_K he)).1 h100 q)))
  · by_cases hij : i = j
    · subst hij
      exact ⟨h100, hlt⟩
    · have hi : (if i = j then 8 else dg_K G i) ≠ 0 := hi
      rw [if_neg hij] at hi
      exact p4 i hi
  · obtain ⟨q1, q2, q3, q4⟩ := p5 M hM
    have hne : ∀ i, i < 70 → dj_m0 E + i ≠ j := fun i hi q => by
      have := q2 i hi
      rw [q] at this
      omega
    refine ⟨fun i hi => (q1 i hi).kept (ho _ (fun q => hne i hi ?_)), fun i hi => ?_, q3, q4⟩
    · have q : dj_am E + i = dj_ad E j := q
      rw [dj_ad_new h100] at q
      unfold dj_am at q
      omega
    · show (if dj_m0 E + i = j then 8 else dg_K G (dj_m0 E + i)) = 0
      rw [if_neg (hne i hi)]
      exact q2 i hi
  · by_cases hij : i = j
    · have hi : (if i = j then 8 else dg_K G i) = 20 := hi
      rw [if_pos hij] at hi
      omega
    · have hi : (if i = j then 8 else dg_K G i) = 20 := hi
      rw [if_neg hij] at hi
      rw [ho _ (fun q => hij (dj_ad_inj (p4 i (by omega)).1 h100 q))]
      exact p6 i hi
theorem dj_refV {o : Option Value} {v : Value} (h : o = some v) (hv : v = .null ∨ ∃ r, v = .ref r) : ∃ u : RefV, o = some u.v := by
  rcases hv with rfl | ⟨r, rfl⟩
  · exact ⟨⟨.null, rfl⟩, h⟩
  · exact ⟨⟨.ref r, rfl⟩, h⟩
section
variable {T : dg_T} {l : Launch} {E : dj_E} {Mo : Option dm_M} {G' : dg_G} {x : Nat ⊕ Option Value} {G G1 : dg_G} {pc : Nat} {lv : List (Nat × Value)} {st : List Value}
theorem g_exc {index j : Nat} (hfl : dj_fl l) (ho : dt_o T = "DebtorsHouse$Fault") (h : dg_beg G j = some G1) (hw : Cond.methodLink (dt_o T) index ⟨"java/lang/Exception", "<init>", "()V"⟩ ∈ lw_all) (hF : 4 ≤ dt_F T) (hL : 80 ≤ dt_W T) (hd : decode (dt_c T) pc = .ok (.invokespecial index, 3)) (kk : dgW T l E Mo G' x G1 (pc + 3) lv []) : dgW T l E Mo G' x G pc lv [dj_v E j] := by
  obtain ⟨hk20, hG1⟩ := dg_if h
  have en : dg_n G1 = dg_n G := by rw [hG1]
  have es : dg_sl G1 = dg_sl G := by rw [hG1]
  refine ⟨⟨by have := kk.1.1; omega, by have := kk.1.2; omega⟩, fun C n0 s0 hB b1 b2 H locs ls hP hS hl W hT X => ?_⟩
  have hk0 := kk.2 C n0 s0 hB (by omega) (by omega)
  obtain ⟨hC, hK, hR, -, hl', -⟩ := hB
  have hts := hC.2.2.2.2.1
  have hP6 := hP.2.2.2.2.2 j hk20
  have h100 := (hP.2.2.2.1 j (by omega)).1
  rw [dj_v_pos (by omega)]
  have howns : (dh_e C).platform.frameOwnsMonitors = true := by rw [X.admits.platform]
  have hfin : (dh_e C).platform.finalization = false := by rw [X.admits.platform]
  have hpl : (dh_e C).platform.magicAccessors = ({} : Platform).magicAccessors := by rw [X.admits.platform]
  obtain ⟨kX, hkX, hft, -⟩ := hK.2.2.2.2.2.2.2.1
  have hKn := hK.1.1 7 _ rfl
  obtain ⟨hfc, kX', hkX', hord⟩ := hKn.2
  cases Option.some.inj (hkX.symm.trans hkX')
  have hraw : dj_raw E = freshCell ((dj_D E).1 7) kX := by unfold dj_raw; rw [← hft]
  rw [hraw] at hP6
  obtain ⟨b1', b2', b3', b4'⟩ := hK.2.2.2.2.2.2.2.2.2.2.2.2.2.1
  obtain ⟨Tc, Z, L, LZ, Y⟩ := ThrowableC.of_atoms (args := dh_a C) howns hfin hpl (dj_thr hts hK)
  obtain ⟨P1, L1, hP1m, hP1s⟩ := PassC.of_atoms (args := dh_a C) (s := dh_s C) hpl (X := "java/lang/Exception") (Y := Bundle.tN) (index := 1) (bytes := cJ16_init) (by decide) (by decide) dJ16_init_0 dJ16_init_1 dJ16_init_4 (fun c hc => by
    simp only [Bundle.passAtoms, List.mem_cons, List.not_mem_nil, or_false] at hc
    rcases hc with h | h | h | h | h
    · rw [h]; exact hts _ q947
    · rw [h]; exact hts _ q948
    · rw [h]; exact hts _ q949
    · rw [h]; exact hts _ q927
    · rw [h]; exact va_Nw.use rfl b1')
  have hsel0 : selectMethod (dh_e C).platform (dh_s C).vm ((dj_D E).1 7) Tc.fill0 = .method Tc.fill0 := by
    obtain ⟨c2, r2, m2, q1, q2, q3, q4, -⟩ := Cond.selects_spec (hts _ q913)
    cases Option.some.inj (q1.symm.trans hfc)
    cases Option.some.inj (q2.symm.trans (State.methodFound?_of_named Y.fill0 (by decide)))
    cases Option.some.inj (q3.symm.trans Y.fill0)
    rw [Launch.admits_selectMethod X.admits]; exact q4
  have hselF : selectMethod (dh_e C).platform (dh_s C).vm ((dj_D E).1 7) Tc.fill = .method Tc.fill := by
    obtain ⟨c2, r2, m2, q1, q2, q3, q4, -⟩ := Cond.selects_spec (hts _ q914)
    cases Option.some.inj (q1.symm.trans hfc)
    cases Option.some.inj (q2.symm.trans (State.methodFound?_of_named Y.fill (by decide)))
    cases Option.some.inj (q3.symm.trans Y.fill)
    rw [Launch.admits_selectMethod X.admits]; exact q4
  obtain ⟨c1, k1, i1, f1, a1, cS, v1, z1, z2, z3, z4, z5, z6, z7, z8, z9, z10, z11, z12⟩ := b2'
  obtain ⟨rfl, rfl, rfl, rfl⟩ : c1 = Tc.cT ∧ k1 = Tc.kT ∧ i1 = Tc.i13 ∧ f1 = Tc.fUnassigned := by
    have := Option.some.inj (z2.symm.trans Y.unassigned)
    simpa using this
  obtain rfl : a1 = Tc.aS := Option.some.inj (z4.symm.trans L.statics)
  obtain ⟨u0, hu0⟩ := dj_refV z10 z11
  obtain ⟨c2, k2, i2, f2, a2, cS2, v2, y1, y2, y3, y4, y5, y6, y7, y8, y9, y10, y11, y12⟩ := b3'
  obtain ⟨rfl, rfl, rfl, rfl⟩ : c2 = Tc.cT ∧ k2 = Tc.kT ∧ i2 = Tc.i20 ∧ f2 = Tc.fSentinel := by
    have := Option.some.inj (y2.symm.trans Y.sentinel)
    simpa using this
  obtain rfl : a2 = Tc.aS := Option.some.inj (y4.symm.trans L.statics)
  obtain rfl : cS2 = cS := Option.some.inj (y5.symm.trans z5)
  obtain ⟨sen, hsen⟩ := dj_refV y10 y11
  obtain ⟨ci198, i198, fB, hk198, hg198, ha198, hsB, -, hnB, htB, hffB⟩ := Cond.ownField (t := .object "java/lang/Object") Y.found L.cls (by decide +kernel) (hts _ q925) (hts _ q924) (dh_e C).platform hpl
  have hcellS : W.heap[Tc.aS]? = some cS2 := by rw [hT, hS.2.1 _ (Array.getElem?_eq_some_iff.mp z5).1 z12]; exact z5
  have hknownS : cS2.vm ≠ .unknown := by
    intro hu
    rw [hu] at z6
    cases z6
  have hneS : Tc.aS ≠ dj_ad E j := fun q => z12 (by rw [q]; exact dg_bs h100)
  obtain ⟨tyC, dC, hdC, hdnC⟩ := Cond.laysAt hfc hkX Y.cause (hts _ q915)
  obtain ⟨tyS, dS, hdS, hdnS⟩ := Cond.laysAt hfc hkX Y.stack (hts _ q917)
  obtain ⟨tyP, dP, hdP, hdnP⟩ := Cond.laysAt hfc hkX Y.supp (hts _ q919)
  obtain ⟨tyB, dB, hdB, hdnB⟩ := Cond.laysAt hfc hkX hffB (hts _ q923)
  have bC := Cond.laysApart hdB hdC hdnB hdnC (by rw [hnB, Y.causeName]; decide)
  have bS := Cond.laysApart hdB hdS hdnB hdnS (by rw [hnB, Y.stackName]; decide)
  have bP := Cond.laysApart hdB hdP hdnB hdnP (by rw [hnB, Y.suppName]; decide)
  have hskip : SkipFacts Tc (dh_e C).platform (dh_s C) (fun u => u) u0 ((preparedCellV Tc.toThrowableT (freshCell ((dj_D E).1 7) kX) (dj_ad E j) u0 sen).withEntry W.cur) :=
    ⟨{ ci198 := ci198, i198 := i198, fBack := fB }, ⟨hk198, hg198, ha198, hsB⟩, by
      have := fresh_default (c := (dj_D E).1 7) tyB
      rw [htB] at this
      simpa [preparedCellV, Cell.setSlot, Cell.withEntry, Array.getElem?_setIfInBounds, bC, bS, bP, bC.symm, bS.symm, bP.symm, defaultValue] using this, fun _ _ => rfl⟩
  have hown : (dh_s C).vm.findClass "DebtorsHouse$Fault" = some (dh_m C).cls := by have := hC.2.2.2.1; rw [ho] at this; exact this
  rw [ho] at hw
  obtain ⟨tm, methC, cdC, kC, vm₁, hnC, -, -, -, -, -, -, -, hW₁, st1⟩ := Steps.initCold (tb := (dh_p C).tables) (e := dh_e C) (below := dh_b C) (s := dh_s C) (U := W) X.here hC.1 X.warmed hpl hown (t := Bundle.init0 "java/lang/Exception") rfl rfl (by decide)
    (hts _ hw) (hts _ q947) (bytes := cJ16_init) (maxL := 1) (hts _ q948)
    (f := F0 (dh_m C) pc ls [.ref (dj_ad E j)]) rfl (a := dj_ad E j) (rest := []) rfl (by rw [hC.2.1]; exact hd)
  cases Option.some.inj (hnC.symm.trans hP1m)
  have X₁ := X.noted hW₁
  obtain ⟨vm₂, X₂, st2⟩ := X₁.ctorPlainOffV hC.1 (g := F0 (dh_m C) pc ls []) rfl hl.1 Tc L Z LZ [P1]
    (fun P hP => by rcases List.mem_cons.mp hP with rfl | hP; exact L1; cases hP) ⟨Option.some.inj (hP1s.symm.trans Y.init0), trivial⟩ (u0 := u0) (sen := sen) (self := dj_ad E j) (cell := freshCell ((dj_D E).1 7) kX) (cellS := cS2)
    (by show W.heap[_]? = _; rw [hT]; exact hP6) (fun _ => by simp) (by simp) rfl rfl hsel0 hselF hcellS hneS hknownS hu0 hsen
    (Takes.of_laid hkX hord tyC (by rw [Y.causeType]; rfl)) (Takes.of_laid hkX hord tyS (by rw [Y.stackType]; exact fits_refV_array _ u0)) (Takes.of_laid hkX hord tyP (by rw [Y.suppType]; exact fits_refV_object _ sen)) Y.objLocals hskip (hfl _ (by rw [← hl']; exact X.admits)) [] (by rw [hC.2.1]; exact hd)
    (by rw [hR]; show 1 + 2 < dt_F T; omega) (by rw [hR]; show 2 * 0 + 0 + (13 * 1 + 41) ≤ dt_W T; omega)
  have hlt : dj_ad E j < W.heap.size := by rw [hT]; exact (Array.getElem?_eq_some_iff.mp hP6).1
  generalize hcell' : (preparedCellV Tc.toThrowableT (freshCell ((dj_D E).1 7) kX) (dj_ad E j) u0 sen).setSlot Tc.fStack.slot u0.v = cell' at X₂ st2
  have hbase : t_OB (dj_ad E j) ((dj_D E).1 7) 2 ((dj_D E).2 7) H (fun k => defaultValue (tyX7 (6 + k))) := u_born (kC := kX) (fun k => tyX7 (6 + k)) hts in_T7 hKn hkX hP6 dj_ty7_ok
  obtain ⟨cB, hB1, hB2, hB3, hB4⟩ := hbase
  obtain rfl : cB = freshCell ((dj_D E).1 7) kX := Option.some.inj (hB1.symm.trans hP6)
  have hslot : ∀ k, k < 2 → cell'.slots[(dj_D E).2 7 k]? = some (.int 0) := by
    intro k hk
    obtain ⟨cf, kf, fi, fd, hi, he⟩ := hKn.1 k hk
    have hnm : fd.name = (dj_T7 k).2.1 := (State.fieldFound?_type hi (dj_ty7_ok k hk)).1
    have l1 := u_lays hts in_T7 hk
    have aC : fd.slot ≠ Tc.fCause.slot := u_apart l1 (Or.inl (hts _ q915)) hi Y.cause (by rw [hnm, Y.causeName]; exact nmX7 (6 + k) (by omega) 0 (by omega) (by omega))
    have aS : fd.slot ≠ Tc.fStack.slot := u_apart l1 (Or.inl (hts _ q917)) hi Y.stack (by rw [hnm, Y.stackName]; exact nmX7 (6 + k) (by omega) 1 (by omega) (by omega))
    have aP : fd.slot ≠ Tc.fSupp.slot := u_apart l1 (Or.inl (hts _ q919)) hi Y.supp (by rw [hnm, Y.suppName]; exact nmX7 (6 + k) (by omega) 2 (by omega) (by omega))
    have hb := hB4 k hk
    have hty : tyX7 (6 + k) = .int := by
      rcases (show k = 0 ∨ k = 1 by omega) with rfl | rfl <;> rfl
    dsimp only at hb
    rw [hty] at hb
    have hb : (freshCell ((dj_D E).1 7) kX).slots[(dj_D E).2 7 k]? = some (Value.int 0) := hb
    rw [← he] at hb ⊢
    rw [← hcell', ← hb]
    simp [preparedCellV, Cell.setSlot, Array.getElem?_setIfInBounds, aC, aS, aP, aC.symm, aS.symm, aP.symm]
  generalize hT2 : ((W.setVm vm₁).setVm vm₂).setCell (dj_ad E j) cell' = T2 at X₂ st2
  have hH1 : T2.heap[dj_ad E j]? = some cell' := by rw [← hT2]; exact heapAt_setCell_self _ hlt
  have hHz : T2.heap.size = H.size := by rw [← hT2, size_setCell]; show W.heap.size = _; rw [hT]
  have hHo : ∀ q, q ≠ dj_ad E j → T2.heap[q]? = H[q]? := fun q hq => by rw [← hT2, heapAt_setCell_ne _ (Ne.symm hq)]; show W.heap[q]? = _; rw [hT]
  have hvm' : cell'.vm = .none ∧ cell'.cls = (dj_D E).1 7 := by rw [← hcell']; exact ⟨rfl, rfl⟩
  have hP1 : dj_P E Mo G1 T2.heap := by
    refine dj_begP hP h hHz hHo (fun e he => ?_)
    have hk8 : dg_K G1 j = 7 + 1 := by rw [hG1]; exact if_pos rfl
    rw [dg_cellO hk8 (by decide)] at he
    cases he
    refine ⟨_, rfl, cell', hH1, hvm'.2, hvm'.1, fun k hk => ?_⟩
    rw [hslot k hk]
    show _ = some ((List.map _ _).getD k Value.null)
    rw [List.getD_eq_getElem?_getD, dg_fld _ _ (ci := 7) (show k < dg_N 7 from hk)]
    show some (Value.int 0) = some (Value.int (dg_FI G1 (100 * 7 + k) j))
    rw [hG1]
    exact congrArg (fun z => some (Value.int z)) (if_pos rfl).symm
  have hSz : va_S (dj_A E) (dh_s C).heap T2.heap (locs ++ [⟨dj_ad E j, Tc.fCause.slot⟩, ⟨dj_ad E j, Tc.fStack.slot⟩, ⟨dj_ad E j, Tc.fSupp.slot⟩, ⟨dj_ad E j, Tc.fStack.slot⟩]) := by
    refine ⟨by rw [hHz]; exact hS.1, fun q h1 h2 => ?_, fun q hq => ?_⟩
    · rw [hHo q (fun e => h2 (by rw [e]; exact dg_bs h100))]
      exact hS.2.1 q h1 h2
    · rcases List.mem_append.mp hq with h | h
      · exact hS.2.2 q h
      · simp only [List.mem_cons, List.not_mem_nil, or_false] at h
        rcases h with rfl | rfl | rfl | rfl <;> exact dg_bs h100
  rw [en, es] at hk0
  obtain ⟨t2, a1', b1''⟩ := hk0 T2.heap _ ls hP1 hSz hl T2 rfl X₂
  exact ⟨t2, st1 _ (fun acts => by
    have := st2 t2 a1'
    rw [doInvoke_state] at this ⊢
    exact this), b1''⟩
end
