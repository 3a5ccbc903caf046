set_option maxRecDepth 100000
/-! contracts of methods that may throw -/
def dg_MetT (l : Launch) (y : MethodName) (bytes : ByteArray) (maxL : Nat) (ret : Option FieldType) (fr lo : Nat) (E : dj_E) (Mo : Option dm_M) (av : List Value) (G : dg_G) (x : Nat ⊕ Option Value) (G' : dg_G) : Prop :=
  dg_mono G G' ∧ MetFree l y (headSpec (ws_ y bytes maxL ret) ({ frames := fr, cells := dg_n G' - dg_n G, slots := dg_sl G' - dg_sl G, locals := lo } : Room)) (fun v U => v = av.toArray ∧ dj_P E Mo G U.heap ∧ dj_Kn E U) (fun _ _ _ _ _ => True)
    (fun _ st o t => ((o = dg_out E x ∧ dj_P E Mo G' t.heap) ∧ va_F (dj_A E) st t) ∧ ∃ L, (st.WarmedH t.vm ∧ st.sameButNew ({ t with vm := st.vm } : State) L (dg_n G' - dg_n G) (dg_sl G' - dg_sl G)) ∧ ∀ q ∈ L, dj_A E q.base)
theorem dg_metT {l : Launch} {y : MethodName} {cc : ByteArray} {nL : Nat} {rt : Option FieldType} {fr lo : Nat} {E : dj_E} {Mo : Option dm_M} {av : List Value} {lv : List (Nat × Value)} {G G' : dg_G} {x : Nat ⊕ Option Value} (hy : plainFor y = true) (hn : (lg_sl av).length ≤ nL) (hlv : lv_args 0 av = lv)
    (body : dgW (cc, nL, y.cls, rt, fr, lo, y.name, []) l E Mo G' x G 0 lv []) : dg_MetT l y cc nL rt fr lo E Mo av G x G' := by
  subst hlv
  refine ⟨body.1, MetFree.of_bodySF (code := cc) (maxLocals := nL) (ret := rt) hy ?_ ?_⟩
  · intro args s m h hn
    obtain ⟨meth, c, h1, h2, h3, h4, h5, h6, -, -⟩ := Cond.code_spec hn (atoms_spec (ws := ws_ y cc nL rt) h _ List.mem_cons_self)
    exact ⟨meth, c, h1, h2, h3, h4, h5, h6⟩
  · intro p e s m args below meth c s₁ B hml hv _
    obtain ⟨rfl, hP, hK⟩ := hv
    have hts0 := atoms_spec (ws := ws_ y cc nL rt) B.pre
    have hts : ∀ w ∈ lw_all, w.before _ s = true := fun w h => hts0 w (List.mem_cons_of_mem _ h)
    have hl := lv_entry av (n := nL) hn
    have hnh := B.noHandlers (hts0 _ List.mem_cons_self)
    have hex : c.exceptionTable.toList.map (fun x => (x.startPc, x.endPc, x.handlerPc, x.catchType)) = [] := by
      have : c.exceptionTable = #[] := Array.isEmpty_iff.mp hnh
      rw [this]; rfl
    have hw := body.2 (p, l, e, { frames := fr, cells := dg_n G' - dg_n G, slots := dg_sl G' - dg_sl G, locals := lo }, s, m, av.toArray, below, meth, c) (dg_n G) (dg_sl G) ⟨⟨B.exec, B.bytes, hml, findClass_of_methodNamed B.named, hts, B.returns, B.notSynchronized⟩, hK, rfl, (name_of_methodNamed B.named B.method).1, rfl, hex⟩ (Nat.le_refl _) (Nat.le_refl _)
    rw [Nat.sub_self, Nat.sub_self] at hw
    have hh0 : s₁.heap = s.heap := by rw [B.state]; rfl
    rw [lg_entry_eq]
    obtain ⟨t, a1, o, b1, b2, b3, L, b4, b5⟩ := hw s.heap [] _ hP va_S.rf (by rw [show (dh_c (p, l, e, { frames := fr, cells := dg_n G' - dg_n G, slots := dg_sl G' - dg_sl G, locals := lo }, s, m, av.toArray, below, meth, c)).maxLocals = nL from hml]; exact hl) s₁ hh0 (Stand.of_body B)
    exact ⟨t, o, a1, b1, b2, b3, L, b4, b5⟩
/-- one that returned -/
theorem dg_MetT.ret {l : Launch} {y : MethodName} {bytes : ByteArray} {maxL : Nat} {ret : Option FieldType} {fr lo : Nat} {E : dj_E} {Mo : Option dm_M} {av : List Value} {G G' : dg_G} {rv : Option Value} (h : dg_MetT l y bytes maxL ret fr lo E Mo av G (.inr rv) G') : dg_Met l y bytes maxL ret fr lo E Mo av G rv G' := by
  refine ⟨h.1, ?_⟩
  unfold dh_Met Met
  intro p e ha hc hk s m args below hf happ hP hK
  obtain ⟨n, o, h1, h2, h3, h4, L, h5, h6⟩ := h.2 p e ha hc hk s m args below hf happ hP hK
  exact ⟨n, o, h1, h2, h3, h4, L, ⟨⟨rv, h4.1.1⟩, h5⟩, h6⟩
/-- one that threw -/
theorem dg_MetT.thr {l : Launch} {y : MethodName} {bytes : ByteArray} {maxL : Nat} {ret : Option FieldType} {fr lo : Nat} {E : dj_E} {Mo : Option dm_M} {av : List Value} {G G' : dg_G} {i : Nat} (h : dg_MetT l y bytes maxL ret fr lo E Mo av G (.inl i) G') :
    MetFree l y (headSpec (ws_ y bytes maxL ret) ({ frames := fr, cells := dg_n G' - dg_n G, slots := dg_sl G' - dg_sl G, locals := lo } : Room)) (fun v U => v = av.toArray ∧ dj_P E Mo G U.heap ∧ dj_Kn E U) (fun _ _ _ _ _ => True)
      (fun _ st o t => (o = .threw (dj_ad E i) ∧ (dj_P E Mo G' t.heap ∧ va_F (dj_A E) st t)) ∧ ∃ L, (st.WarmedH t.vm ∧ st.sameButNew ({ t with vm := st.vm } : State) L (dg_n G' - dg_n G) (dg_sl G' - dg_sl G)) ∧ ∀ q ∈ L, dj_A E q.base) := by
  intro p e ha hc hk s m args below hf happ hP hK
  obtain ⟨n, o, h1, h2, h3, h4, L, h5, h6⟩ := h.2 p e ha hc hk s m args below hf happ hP hK
  exact ⟨n, o, h1, h2, h3, ⟨h4.1.1, h4.1.2, h4.2⟩, L, h5, h6⟩
/-- a method with a handler: act -/
def dg_MetW (l : Launch) (y : MethodName) (bytes : ByteArray) (maxL : Nat) (ret : Option FieldType) (fr lo : Nat) (E : dj_E) (Mo : Option dm_M) (av : List Value) (G : dg_G) (rv : Option Value) (G' : dg_G) : Prop :=
  dg_mono G G' ∧ dh_Met l y (wsW_ y bytes maxL ret dj_hh) fr lo (dg_n G' - dg_n G) (dg_sl G' - dg_sl G) (dj_A E) (dj_Kn E) av (dj_P E Mo G) (fun o H => o = .returned rv ∧ dj_P E Mo G' H)
def dg_cW (y : MethodName) (bytes : ByteArray) (maxL : Nat) (ret : Option FieldType) (n : Nat) : Prop := Cond.instanceMethod y ∈ lw_all ∧ Cond.selects y.cls y y ∈ lw_all ∧ Cond.initialized y.cls ∈ lw_all ∧ Cond.codeWith y bytes maxL ret dj_hh ∈ lw_all ∧ dg_nm y n
theorem dg_metW {l : Launch} {y : MethodName} {cc : ByteArray} {nL : Nat} {rt : Option FieldType} {fr lo : Nat} {E : dj_E} {Mo : Option dm_M} {av : List Value} {lv : List (Nat × Value)} {G G' : dg_G} {rv : Option Value} (hy : plainFor y = true) (hn : (lg_sl av).length ≤ nL) (hlv : lv_args 0 av = lv)
    (body : dgW (cc, nL, y.cls, rt, fr, lo, y.name, dj_hh) l E Mo G' (.inr rv) G 0 lv []) : dg_MetW l y cc nL rt fr lo E Mo av G rv G' := by
  subst hlv
  refine ⟨body.1, ?_⟩
  unfold dh_Met Met
  refine MetFree.of_bodySF (code := cc) (maxLocals := nL) (ret := rt) hy ?_ ?_
  · intro args s m h hn
    obtain ⟨m9, meth, c, hn9, h1, h2, h3, h4, -, h5, h6, -⟩ := Cond.codeWith_spec (atoms_spec (ws := wsW_ y cc nL rt dj_hh) h _ List.mem_cons_self)
    cases hn.symm.trans hn9
    exact ⟨meth, c, h1, h2, h3, h4, h5, h6⟩
  · intro p e s m args below meth c s₁ B hml hv _
    obtain ⟨rfl, hP, hK⟩ := hv
    have hts0 := atoms_spec (ws := wsW_ y cc nL rt dj_hh) B.pre
    have hts : ∀ w ∈ lw_all, w.before _ s = true := fun w h => hts0 w (List.mem_cons_of_mem _ h)
    have hl := lv_entry av (n := nL) hn
    have hex : c.exceptionTable.toList.map (fun x => (x.startPc, x.endPc, x.handlerPc, x.catchType)) = dj_hh := by
      obtain ⟨m9, meth9, c9, hn9, h1, h2, -, -, h5, -⟩ := Cond.codeWith_spec (hts0 _ List.mem_cons_self)
      cases B.named.symm.trans hn9
      cases B.method.symm.trans h1
      cases (Stand.of_body B).code.symm.trans h2
      exact h5
    have hw := body.2 (p, l, e, { frames := fr, cells := dg_n G' - dg_n G, slots := dg_sl G' - dg_sl G, locals := lo }, s, m, av.toArray, below, meth, c) (dg_n G) (dg_sl G) ⟨⟨B.exec, B.bytes, hml, findClass_of_methodNamed B.named, hts, B.returns, B.notSynchronized⟩, hK, rfl, (name_of_methodNamed B.named B.method).1, rfl, hex⟩ (Nat.le_refl _) (Nat.le_refl _)
    rw [Nat.sub_self, Nat.sub_self] at hw
    have hh0 : s₁.heap = s.heap := by rw [B.state]; rfl
    rw [lg_entry_eq]
    obtain ⟨t, a1, o, b1, b2, b3, L, b4, b5⟩ := hw s.heap [] _ hP va_S.rf (by rw [show (dh_c (p, l, e, { frames := fr, cells := dg_n G' - dg_n G, slots := dg_sl G' - dg_sl G, locals := lo }, s, m, av.toArray, below, meth, c)).maxLocals = nL from hml]; exact hl) s₁ hh0 (Stand.of_body B)
    exact ⟨t, o, a1, b1, b2, b3, L, ⟨⟨rv, b3.1.1⟩, b4⟩, b5⟩
/-! throwing -/
theorem dh_out {C : dh_C} (h : (dh_c C).exceptionTable.toList.map (fun x => (x.startPc, x.endPc, x.handlerPc, x.catchType)) = []) (pc : Nat) : ∀ x ∈ (dh_c C).exceptionTable.toList, covers x pc = false := by
  rw [List.map_eq_nil_iff] at h
  rw [h]
  intro x hx
  cases hx
section
variable {p : Program} {l : Launch} {e : Env} {R : Room} {s : State} {m : MethodId} {args : Array Value} {below : List Frame} {meth : Method} {c : Code} {T : State} {locs : List Loc} {cells slots : Nat}
/-- a call that ends by throwing: the note lies over the caller's frame -/
theorem dh_thrV (X : Stand p l e R s m args below meth c T locs cells slots) (hexec : p.tables.exec = Jvm.exec) {own C : String} {index : Nat} {y : MethodName} {bytes : ByteArray} {maxL : Nat} {ret : Option FieldType} {ws : List Cond} {rm : Room} {mc ms n : Nat} {Pc : Array Value → State → Prop} {Qc : Array Value → State → State → Prop} {x0 : Addr} {free : Addr → Prop}
    (hown : s.vm.findClass own = some m.cls) (cw : CallW R s args own C index y bytes maxL ret ws rm mc ms n)
    (hM : MetFree l y (headSpec ws rm) Pc (fun _ _ _ _ _ => True) (fun a st o t => (o = .threw x0 ∧ Qc a st t) ∧ ∃ L, (st.WarmedH t.vm ∧ st.sameButNew ({ t with vm := st.vm } : State) L mc ms) ∧ ∀ q ∈ L, free q.base)) (hbl : FrameBlind Pc)
    {b : Addr} {cellB : Cell} (hcell : T.heap[b]? = some cellB) (hobj : cellB.vm.isStatics = false) (hcls : s.vm.findClass C = some cellB.cls)
    {g : JFrame} (hg : g.method = m) (hsize : g.locals.size = c.maxLocals) {argsL rest : List Value} (hlen : argsL.length = n)
    (hstack : g.stack = argsL.reverse ++ .ref b :: rest) (hW : 2 * g.monitorRoom + (rest.map fun v => v.category).sum ≤ 8) (hdg : decode c.code g.pc = .ok (.invokevirtual index, 3))
    (hf : cells + mc ≤ R.cells ∧ slots + ms ≤ R.slots) (hpre : ∀ vm₁, s.WarmedH vm₁ → Pc (Value.ref b :: argsL).toArray (T.setVm vm₁)) :
    ∃ (st₀ t T' : State) (L : List Loc), st₀.heap = T.heap ∧ Stand p l e R s m args below meth c T' (locs ++ L) (cells + mc) (slots + ms) ∧ (∀ q ∈ L, free q.base) ∧ T'.heap = t.heap ∧ T'.vm = t.vm ∧ Qc (Value.ref b :: argsL).toArray st₀ t ∧
      ∀ target, Steps p.tables e below ((T'.setTop { g with stack := rest }).pushFrame (.throwing x0)) target → Steps p.tables e below (T.setTop g) target := by
  obtain ⟨⟨hrc, hrs, hfr, hlo, hws, hcw, hcode, hini, hy, hlen', hlink⟩, hinst, hsel⟩ := cw
  obtain ⟨mk, methM, hnamed, hmethM, hstM, habM⟩ := Cond.instanceMethod_spec hinst
  obtain ⟨methM', cM, hmethM', -, -, -, -, -, -, hsigM⟩ := Cond.code_spec hnamed hcode
  cases hmethM.symm.trans hmethM'
  obtain ⟨c2, r2, m2, q1, q2, q3, q4, kP, hkP, hkPi⟩ := Cond.selects_spec hsel
  cases hcls.symm.trans q1
  cases (State.methodFound?_of_named hnamed hy).symm.trans q2
  cases hnamed.symm.trans q3
  have hselP : selectMethod e.platform s.vm cellB.cls mk = .method mk := by rw [Launch.admits_selectMethod X.admits]; exact q4
  obtain ⟨vm₁, X₁, hstep₁⟩ := X.invokevirtual hexec hown hlink hnamed hmethM hstM hkP hkPi hy (a := b) (cell := cellB) hcell
    (fun z h => by rw [h] at hobj; cases hobj) hselP hmethM habM hkP hkPi (g := g) hg (argsL := argsL) (rest := rest) (hlen.trans (hlen' _ hsigM)) hstack hdg
  have hn := X₁.named hnamed
  have h1 : ∀ w ∈ ws, w.before (Value.ref b :: argsL).toArray (T.setVm vm₁) = true := fun w hw => hws w hw _ _ X₁.warmed
  have h3 : (Cond.initialized y.cls).before (Value.ref b :: argsL).toArray (T.setVm vm₁) = true := word_at X₁.warmed (Or.inl (by first | rfl | simp [Cond.onTables, Cond.keeps, Cond.steady])) hini
  obtain ⟨methY, cY, hmY, hcY, -, hlY, -, -, -, -⟩ := Cond.code_spec hn (h1 _ hcw)
  obtain ⟨kY, hkY, -⟩ := className_of_methodNamed hn
  have hinitY : kY.init = .initialized := Cond.initialized_spec (findClass_of_methodNamed hn) hkY h3
  subst hg
  have h : At (T.setVm vm₁) g.method c below := X₁.here
  have happ : (headSpec ws rm).appliesLoose y e.platform ((T.setVm vm₁).calling { g with stack := rest } mk (Value.ref b :: argsL).toArray) = true :=
    Spec.appliesLoose_calling (g := { g with stack := rest }) h hdg hn hkY hinitY
      (X₁.room_calling (g := { g with stack := rest }) (R' := rm) hsize hmY hcY hfr (by rw [hlY]; show 2 * g.monitorRoom + (rest.map fun v => v.category).sum + _ + _ ≤ _; omega) (by rw [hrc]; exact hf.1) (by rw [hrs]; exact hf.2)) (atoms_intro h1)
  obtain ⟨mid, hmid⟩ := h.above
  have hfr2 : ((T.setVm vm₁).setTop { g with stack := rest }).frames = (.java { g with stack := rest } :: mid) ++ below := by rw [State.frames_setTop' _ h.top, hmid]; rfl
  obtain ⟨o, s₂, hsteps, -, hend, ⟨rfl, hq⟩, L, ⟨hW2, hsame⟩, hL⟩ := Steps.callFree hM p X.admits X.cas X.clock (acts := []) hfr2 happ (hbl _ _ _ _ (hpre vm₁ X₁.warmed)) trivial
  rw [State.frames_setTop' _ h.top, X₁.tail] at hend
  obtain ⟨T', X', hW', hsame', ht⟩ := X₁.outOfThrown (g := { g with stack := rest }) rfl hend hW2 hsame
  refine ⟨(T.setVm vm₁).calling { g with stack := rest } mk (Value.ref b :: argsL).toArray, s₂, T', L, rfl, X', hL, ?_, ?_, hq, fun target hh => hstep₁ _ fun acts => by rw [doInvoke_state]; exact (ht ▸ hsteps).trans hh⟩
  · rw [ht, Stand.throwing_heap]
  · rw [ht, Stand.throwing_vm]
end
section
variable {T : dg_T} {l : Launch} {E : dj_E} {Mo : Option dm_M} {G' : dg_G} {x : Nat ⊕ Option Value} {G G1 : dg_G} {pc : Nat} {lv : List (Nat × Value)} {st : List Value}
theorem g_athrow {α : Type} {f : α → Option Value} {j : Nat} {u : Unit} {r : Nat ⊕ α} (hh : dt_h T = []) (h : dg_is G 7 j = some u) (hd : decode (dt_c T) pc = .ok (.athrow, 1)) (hf : some (.inl j, G) = some (r, G')) : dgW T l E Mo G' (dg_o f r) G pc lv [dj_v E j] := by
  obtain ⟨h1, _⟩ := dg_if h
  cases hf
  refine ⟨dg_mono.rf _, fun C n0 s0 hB b1 b2 H locs ls hP hS hl T' hT X => ?_⟩
  obtain ⟨hC, hK, hR, -, hl', hx⟩ := hB
  rw [hh] at hx
  rw [dg_vref hP (j := j) (by omega)]
  obtain ⟨a1, a2, a3, a4, a5⟩ := X.athrowLeaves hC.1 (g := F0 (dh_m C) pc ls [.ref (dj_ad E j)]) rfl rfl rfl (dh_out hx pc) rfl (by rw [hC.2.1]; exact hd) hC.2.2.2.2.2.2
  exact ⟨_, a1, .threw (dj_ad E j), a2, a3, ⟨⟨rfl, by show dj_P E Mo G' T'.heap; rw [hT]; exact hP⟩, hS.F hT⟩, locs, ⟨a4, a5⟩, hS.2.2⟩
theorem g_callVT {α : Type} {f : α → Option Value} {p1 : Nat ⊕ α} {Cn : String} {y : MethodName} {bytes : ByteArray} {maxL index fr lo j : Nat} {ret : Option FieldType} {As st0 : List Value} (hh : dt_h T = []) (hr : dg_rc E Mo G Cn j) (hM : dg_MetT l y bytes maxL ret fr lo E Mo (dj_v E j :: As) G (dg_o f p1) G1) (h1 : Cond.methodLink (dt_o T) index y ∈ lw_all) (h2 : dg_cV Cn y bytes maxL ret As.length) (hfr : fr + 1 ≤ dt_F T) (hlo : 8 + (maxL + 11) + lo ≤ dt_W T) (hst : As.reverse ++ dj_v E j :: st = st0) (hw : (st.map fun v => v.category).sum ≤ 8)
    (hd : decode (dt_c T) pc = .ok (.invokevirtual index, 3)) (kt : ∀ j, p1 = .inl j → x = .inl j ∧ G' = G1) (kr : ∀ v, p1 = .inr v → dgW T l E Mo G' x G1 (pc + 3) lv ((f v).toList ++ st)) : dgW T l E Mo G' x G pc lv st0 := by
  cases p1 with
  | inr v => exact g_callV hr hM.ret h1 h2 hfr hlo hst hw hd (kr v rfl)
  | inl i =>
    obtain ⟨rfl, rfl⟩ := kt i rfl
    subst hst
    refine ⟨hM.1, fun C n0 s0 hB b1 b2 H locs ls hP hS hl T' hT X => ?_⟩
    obtain ⟨m1, m2⟩ := hM.1
    obtain ⟨hC, hK, hR, -, hl', hx⟩ := hB
    rw [hh] at hx
    obtain ⟨e, cellB, hc1, hc2, hc3⟩ := hr C H locs hK hP hS
    have hMM := hM.thr
    rw [← hl'] at hMM
    rw [e] at hMM ⊢
    have hsel : (Cond.selects Cn y y).before (dh_a C) (dh_s C) = true := by
      rcases h2.2.1 with h | h
      · exact hC.2.2.2.2.1 _ h
      · rw [h]; exact va_Nw.use rfl hK.2.2.2.2.2.2.2.2.2.2.2.2.2.2
    obtain ⟨st₀, t, T2, L, e0, X', hL, e1, e2, ⟨hp, hz, hk⟩, stp⟩ := dh_thrV X hC.1 (C := Cn) (index := index) (bytes := bytes) (maxL := maxL) (ret := ret) (ws := ws_ y bytes maxL ret) (rm := ({ frames := fr, cells := dg_n G' - dg_n G, slots := dg_sl G' - dg_sl G, locals := lo } : Room)) (mc := dg_n G' - dg_n G) (ms := dg_sl G' - dg_sl G) (n := As.length) (x0 := dj_ad E i) (Qc := fun _ st t => dj_P E Mo G' t.heap ∧ va_F (dj_A E) st t) hC.2.2.2.1
      ⟨callB_of As.length hC.2.2.2.2.1 (lw_meth h2.2.2.2.1) rfl rfl rfl (hC.2.2.2.2.1 _ h2.2.2.1) (hC.2.2.2.2.1 _ h1) h2.2.2.2.2 ⟨by rw [hR]; exact hfr, by rw [hR]; exact hlo⟩, hC.2.2.2.2.1 _ h2.1, hsel⟩
      hMM (dh_blind (dj_Kn_same E)) (by rw [hT]; exact hc1) hc2 hc3 (g := F0 (dh_m C) pc ls (As.reverse ++ .ref (dj_ad E j) :: st)) rfl hl.1 (argsL := As) (rest := st) rfl rfl
      (lv_room (m := dh_m C) (pc := pc) (ls := ls) (rest := st) hw) (by rw [hC.2.1]; exact hd) ⟨by rw [hR]; show _ ≤ dg_n G' - n0; omega, by rw [hR]; show _ ≤ dg_sl G' - s0; omega⟩
      (fun vm₁ hW => dg_pre hK hP hS (T'.setVm vm₁) hT hW)
    rw [e0, hT] at hz hk
    obtain ⟨a1, a2, a3, a4, a5⟩ := X'.leaveThrown (dj_ad E i) (g := F0 (dh_m C) pc ls st) rfl rfl rfl (dh_out hx pc) hC.2.2.2.2.2.2
    refine ⟨_, stp _ a1, .threw (dj_ad E i), a2, a3, ⟨⟨rfl, by show dj_P E Mo G' T2.heap; rw [e1]; exact hp⟩, ?_⟩, locs ++ L, ⟨a4, ?_⟩, ?_⟩
    · refine ⟨Nat.le_trans hS.1 (by show _ ≤ T2.heap.size; rw [e1]; exact hz), fun q h1 h2 => ?_⟩
      show T2.heap[q]? = _
      rw [e1, hk q (Nat.lt_of_lt_of_le h1 hS.1) h2]
      exact hS.2.1 q h1 h2
    · rw [show dg_n G' - n0 = dg_n G - n0 + (dg_n G' - dg_n G) by omega, show dg_sl G' - s0 = dg_sl G - s0 + (dg_sl G' - dg_sl G) by omega]
      exact a5
    · intro q hq
      rcases List.mem_append.mp hq with h | h
      · exact hS.2.2 q h
      · exact hL q h
end
