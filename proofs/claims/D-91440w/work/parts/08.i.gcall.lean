set_option maxRecDepth 100000
/-! contracts and calls -/
def dg_Met (l : Launch) (y : MethodName) (bytes : ByteArray) (maxL : Nat) (ret : Option FieldType) (fr lo : Nat) (E : dj_E) (Mo : Option dm_M) (av : List Value) (G : dg_G) (rv : Option Value) (G' : dg_G) : Prop :=
  dg_mono G G' ∧ dh_Met l y (ws_ y bytes maxL ret) fr lo (dg_n G' - dg_n G) (dg_sl G' - dg_sl G) (dj_A E) (dj_Kn E) av (dj_P E Mo G) (fun o H => o = .returned rv ∧ dj_P E Mo G' H)
def dg_nm (y : MethodName) (n : Nat) : Prop := y.cls ≠ "java/lang/invoke/MethodHandle" ∧ y.cls ≠ "java/lang/invoke/VarHandle" ∧ (parseMethodDescriptor y.desc).map (fun d => d.parameters.length) = some n
/-- what a call asks of the callee's words: through an object of the kind Cn; static; a start -/
def dg_cV (Cn : String) (y : MethodName) (bytes : ByteArray) (maxL : Nat) (ret : Option FieldType) (n : Nat) : Prop := Cond.instanceMethod y ∈ lw_all ∧ (Cond.selects Cn y y ∈ lw_all ∨ Cond.selects Cn y y = dj_sE) ∧ Cond.initialized y.cls ∈ lw_all ∧ Cond.code y bytes maxL ret ∈ lw_all ∧ dg_nm y n
def dg_cU (y : MethodName) (bytes : ByteArray) (maxL : Nat) (ret : Option FieldType) (n : Nat) : Prop := Cond.instanceMethod y ∈ lw_all ∧ Cond.initialized y.cls ∈ lw_all ∧ Cond.code y bytes maxL ret ∈ lw_all ∧ dg_nm y n
def dg_cS (y : MethodName) (bytes : ByteArray) (maxL : Nat) (ret : Option FieldType) (n : Nat) : Prop := Cond.static y ∈ lw_all ∧ Cond.initialized y.cls ∈ lw_all ∧ Cond.code y bytes maxL ret ∈ lw_all ∧ dg_nm y n
def dg_cI (y : MethodName) (bytes : ByteArray) (maxL n : Nat) : Prop := Cond.instanceMethod y ∈ lw_all ∧ Cond.initialized y.cls ∈ lw_all ∧ Cond.code y bytes maxL none ∈ lw_all ∧ y.name = "<init>" ∧ dg_nm y n
theorem lv_args_ref (E : dj_E) (i r : Nat) (vs : List Value) : lv_args i (dj_v E r :: vs) = (i, dj_v E r) :: lv_args (i + 1) vs := by
  show (i, dj_v E r) :: lv_args (if (dj_v E r).category = 2 then i + 2 else i + 1) vs = _
  rw [dj_cat, if_neg (by decide)]
theorem lg_sl_ref (E : dj_E) (r : Nat) (vs : List Value) : (lg_sl (dj_v E r :: vs)).length = (lg_sl vs).length + 1 := by
  unfold lg_sl
  simp [dj_cat]
theorem lg_sl_int (v : Int32) (vs : List Value) : (lg_sl (.int v :: vs)).length = (lg_sl vs).length + 1 := by
  unfold lg_sl
  simp [Value.category]
theorem lg_sl_long (v : Int64) (vs : List Value) : (lg_sl (.long v :: vs)).length = (lg_sl vs).length + 2 := by
  unfold lg_sl
  simp [Value.category]
theorem lg_sl_nil : (lg_sl []).length = 0 := rfl
theorem lv_args_int (i : Nat) (v : Int32) (vs : List Value) : lv_args i (.int v :: vs) = (i, .int v) :: lv_args (i + 1) vs := rfl
theorem lv_args_long (i : Nat) (v : Int64) (vs : List Value) : lv_args i (.long v :: vs) = (i, .long v) :: lv_args (i + 2) vs := rfl
theorem lv_args_nil (i : Nat) : lv_args i [] = [] := rfl
/-- the entry, for a name that no row of the natives stands for -/
theorem dh_ofW {l : Launch} {y : MethodName} {ws ws' : List Cond} {rm : Room} {Pc : Array Value → State → Prop} {Qc : Array Value → State → Outcome → State → Prop} {mc ms : Nat} {free : Addr → Prop} {cc : ByteArray} {maxL : Nat} {ret : Option FieldType}
    (hy : plainFor y = true) (hw : ws = Cond.code y cc maxL ret :: ws')
    (body : ∀ p e s m args below meth c s₁, BodyLoose p l y (headSpec ws rm) cc maxL ret e s m args below meth c s₁ → c.maxLocals = maxL → Pc args s →
      W p l e (headSpec ws rm).room s m args below meth c s.heap [] 0 0 (MQ below Qc args s mc ms free) (entryFrame m args maxL)) : Met l y ws rm Pc Qc mc ms free := by
  refine MetFree.of_bodySF (code := cc) (maxLocals := maxL) (ret := ret) hy ?_ ?_
  · intro args s m h hn
    obtain ⟨meth, c, h1, h2, h3, h4, h5, h6, -, -⟩ := Cond.code_spec hn (atoms_spec (ws := ws) h _ (by rw [hw]; exact List.mem_cons_self))
    exact ⟨meth, c, h1, h2, h3, h4, h5, h6⟩
  · intro p e s m args below meth c s₁ B hml hP _
    have hh0 : s₁.heap = s.heap := by rw [B.state]; rfl
    obtain ⟨t, a1, o, b1, b2, b3⟩ := body p e s m args below meth c s₁ B hml hP s₁ hh0 (Stand.of_body B)
    exact ⟨t, o, a1, b1, b2, ⟨b3.1, b3.2⟩⟩
/-- a contract out of a walk -/
theorem dg_met {l : Launch} {y : MethodName} {cc : ByteArray} {nL : Nat} {rt : Option FieldType} {fr lo : Nat} {E : dj_E} {Mo : Option dm_M} {av : List Value} {lv : List (Nat × Value)} {G G' : dg_G} {rv : Option Value} (hy : plainFor y = true) (hn : (lg_sl av).length ≤ nL) (hlv : lv_args 0 av = lv)
    (body : dgW (cc, nL, y.cls, rt, fr, lo, y.name, []) l E Mo G' (.inr rv) G 0 lv []) : dg_Met l y cc nL rt fr lo E Mo av G rv G' := by
  subst hlv
  refine ⟨body.1, ?_⟩
  refine dh_ofW (cc := cc) (maxL := nL) (ret := rt) hy rfl ?_
  intro p e s m args below meth c s₁ B hml hv
  obtain ⟨rfl, hP, hK⟩ := hv
  have hts0 := atoms_spec (ws := ws_ y cc nL rt) B.pre
  have hts : ∀ w ∈ lw_all, w.before _ s = true := fun w h => hts0 w (List.mem_cons_of_mem _ h)
  have hl := lv_entry av (n := nL) hn
  have hnh := B.noHandlers (hts0 _ List.mem_cons_self)
  have hex : c.exceptionTable.toList.map (fun x => (x.startPc, x.endPc, x.handlerPc, x.catchType)) = [] := by
    have : c.exceptionTable = #[] := Array.isEmpty_iff.mp hnh
    rw [this]; rfl
  have hw := body.2 (p, l, e, { frames := fr, cells := dg_n G' - dg_n G, slots := dg_sl G' - dg_sl G, locals := lo }, s, m, av.toArray, below, meth, c) (dg_n G) (dg_sl G) ⟨⟨B.exec, B.bytes, hml, findClass_of_methodNamed B.named, hts, B.returns, B.notSynchronized⟩, hK, rfl, (name_of_methodNamed B.named B.method).1, rfl, hex⟩ (Nat.le_refl _) (Nat.le_refl _)
  rw [Nat.sub_self, Nat.sub_self] at hw
  rw [lg_entry_eq]
  refine dh_wk (fun t h => ?_) (hw s.heap [] _ hP va_S.rf (by rw [show (dh_c (p, l, e, { frames := fr, cells := dg_n G' - dg_n G, slots := dg_sl G' - dg_sl G, locals := lo }, s, m, av.toArray, below, meth, c)).maxLocals = nL from hml]; exact hl))
  obtain ⟨o, h1, h2, h3, L, h4, h5⟩ := h
  exact ⟨o, h1, h2, h3, L, ⟨⟨rv, h3.1.1⟩, h4⟩, h5⟩
section
variable {T : dg_T} {l : Launch} {E : dj_E} {Mo : Option dm_M} {G' : dg_G} {x : Nat ⊕ Option Value} {G G1 : dg_G} {pc : Nat} {lv : List (Nat × Value)} {st : List Value}
theorem g_back {rv : Option Value} {st0 : List Value} (hm : dg_mono G G1)
    (hrun : ∀ (C : dh_C) (n0 s0 : Nat), dg_ok T l E G' C n0 s0 → dg_n G - n0 + (dg_n G1 - dg_n G) ≤ (dh_R C).cells ∧ dg_sl G - s0 + (dg_sl G1 - dg_sl G) ≤ (dh_R C).slots → ∀ (H : Heap) (locs : List Loc) (ls : Array Slot), dj_P E Mo G H → va_S (dj_A E) (dh_s C).heap H locs → lv_has ls (dh_c C).maxLocals lv →
      va_Run (dh_p C) (dh_l C) (dh_e C) (dh_R C) (dh_s C) (dh_m C) (dh_a C) (dh_b C) (dh_t C) (dh_c C) H locs (dg_n G - n0) (dg_sl G - s0) (dg_n G1 - dg_n G) (dg_sl G1 - dg_sl G) (F0 (dh_m C) pc ls st0) st (fun s0 o t => (o = .returned rv ∧ dj_P E Mo G1 t.heap) ∧ va_F (dj_A E) s0 t) (dj_A E))
    (kk : dgW T l E Mo G' x G1 (pc + 3) lv (rv.toList ++ st)) : dgW T l E Mo G' x G pc lv st0 := by
  refine ⟨hm.tr kk.1, fun C n0 s0 h1 h2 h3 => ?_⟩
  obtain ⟨m1, m2⟩ := hm
  obtain ⟨k1, k2⟩ := kk.1
  have hk := kk.2 C n0 s0 h1 (by omega) (by omega)
  have hR := h1.2.2.1
  exact dh_back (hrun C n0 s0 h1 ⟨by rw [hR]; show _ ≤ dg_n G' - n0; omega, by rw [hR]; show _ ≤ dg_sl G' - s0; omega⟩) (r_widen (by omega) (by omega) hk)
/-- the callee's start, as the calls ask for it -/
theorem dg_pre {C : dh_C} {H : Heap} {locs : List Loc} {As : List Value} (hK : dj_Kn E (dh_s C)) (hP : dj_P E Mo G H) (hS : va_S (dj_A E) (dh_s C).heap H locs) (U : State) (hU : U.heap = H) (hW : (dh_s C).WarmedH U.vm) : As.toArray = As.toArray ∧ dj_P E Mo G U.heap ∧ dj_Kn E U :=
  ⟨rfl, by rw [hU]; exact hP, dj_Kn_mov hK hW (fun a h1 h2 => by rw [hU]; exact hS.2.1 a h1 h2)⟩
/-- a receiver -/
def dg_rc (E : dj_E) (Mo : Option dm_M) (G : dg_G) (Cn : String) (j : Nat) : Prop := ∀ (C : dh_C) (H : Heap) (locs : List Loc), dj_Kn E (dh_s C) → dj_P E Mo G H → va_S (dj_A E) (dh_s C).heap H locs → dj_v E j = .ref (dj_ad E j) ∧ ∃ cell : Cell, H[dj_ad E j]? = some cell ∧ cell.vm.isStatics = false ∧ (dh_s C).vm.findClass Cn = some cell.cls
theorem rc_O {ci j : Nat} {Cn : String} {Tt : u_T} {N : Nat} {u : Unit} (hc : dj_cl[ci]? = some (Cn, Tt, N)) (h : dg_is G ci j = some u) : dg_rc E Mo G Cn j := fun C H locs hK hP hS => by
  obtain ⟨h1, _⟩ := dg_if h
  exact ⟨dg_vref hP (by omega), va_recv hK.1 (dj_one (dg_at hP h1 (dg_lt13 hc))) (ci := ci) (q0 := 0) hc rfl⟩
theorem rc_S {j : Nat} {u : Unit} (h : dg_isS G j = some u) : dg_rc E Mo G "java/lang/String" j := fun C H locs hK hP hS => dg_recvS (C := C) hK hP hS h
theorem rc_T {j : Nat} {u : Unit} (h : do_isT j = some u) : dg_rc E Mo G "DebtorsHouse$Topic" j := fun C H locs hK hP hS => by
  obtain ⟨h1, _⟩ := dg_if h
  have := va_recvE (dk_T hK) (i := j - 1) (show _ < 9 by omega) hS
  rw [show 1 + (j - 1) = j by omega] at this
  exact ⟨dj_v_pos (by omega), by rw [dj_ad_old (by omega)]; exact this⟩
theorem rc_A {j : Nat} {u : Unit} (h : do_isA j = some u) : dg_rc E Mo G "DebtorsHouse$About" j := fun C H locs hK hP hS => by
  obtain ⟨h1, _⟩ := dg_if h
  have := va_recvE (dk_A hK) (i := j - 11) (show _ < 8 by omega) hS
  rw [show 11 + (j - 11) = j by omega] at this
  exact ⟨dj_v_pos (by omega), by rw [dj_ad_old (by omega)]; exact this⟩
theorem rc_St {j : Nat} {u : Unit} (h : do_isS j = some u) : dg_rc E Mo G "DebtorsHouse$Stands" j := fun C H locs hK hP hS => by
  obtain ⟨h1, _⟩ := dg_if h
  have := va_recvE (dk_S hK) (i := j - 21) (show _ < 4 by omega) hS
  rw [show 21 + (j - 21) = j by omega] at this
  exact ⟨dj_v_pos (by omega), by rw [dj_ad_old (by omega)]; exact this⟩
theorem g_callV {Cn : String} {y : MethodName} {bytes : ByteArray} {maxL index fr lo j : Nat} {ret : Option FieldType} {As st0 : List Value} {rv : Option Value} (hr : dg_rc E Mo G Cn j) (hM : dg_Met l y bytes maxL ret fr lo E Mo (dj_v E j :: As) G rv G1) (h1 : Cond.methodLink (dt_o T) index y ∈ lw_all) (h2 : dg_cV Cn y bytes maxL ret As.length) (hfr : fr + 1 ≤ dt_F T) (hlo : 8 + (maxL + 11) + lo ≤ dt_W T) (hst : As.reverse ++ dj_v E j :: st = st0) (hw : (st.map fun v => v.category).sum ≤ 8)
    (hd : decode (dt_c T) pc = .ok (.invokevirtual index, 3)) (kk : dgW T l E Mo G' x G1 (pc + 3) lv (rv.toList ++ st)) : dgW T l E Mo G' x G pc lv st0 := by
  subst hst
  refine g_back hM.1 (fun C n0 s0 hB hrm H locs ls hP hS hl => ?_) kk
  obtain ⟨hC, hK, hR, -, hl', -⟩ := hB
  obtain ⟨e, hrc⟩ := hr C H locs hK hP hS
  have hMM := hM.2
  unfold dh_Met at hMM
  rw [← hl'] at hMM
  rw [e] at hMM ⊢
  have hsel : (Cond.selects Cn y y).before (dh_a C) (dh_s C) = true := by
    rcases h2.2.1 with h | h
    · exact hC.2.2.2.2.1 _ h
    · rw [h]; exact va_Nw.use rfl hK.2.2.2.2.2.2.2.2.2.2.2.2.2.2
  exact va_runV (nL := dt_L T) (As := As) (rest := st) (C := Cn) (bytes := bytes) (maxL := maxL) (ret := ret) (n := As.length) ⟨hC.1, hC.2.1, hC.2.2.1, hC.2.2.2.1, hC.2.2.2.2.1⟩ hMM
    ⟨callB_of _ hC.2.2.2.2.1 (lw_meth h2.2.2.2.1) rfl rfl rfl (hC.2.2.2.2.1 _ h2.2.2.1) (hC.2.2.2.2.1 _ h1) h2.2.2.2.2 ⟨by rw [hR]; exact hfr, by rw [hR]; exact hlo⟩, hC.2.2.2.2.1 _ h2.1, hsel⟩
    ⟨dh_blind (dj_Kn_same E), hrc, fun U hU hW => dg_pre hK hP hS U hU hW⟩ rfl rfl (hl.1.trans hC.2.2.1) rfl (lv_room (m := dh_m C) (pc := pc) (ls := ls) (rest := st) hw) hd hrm
theorem g_callS {y : MethodName} {bytes : ByteArray} {maxL index fr lo : Nat} {ret : Option FieldType} {As st0 : List Value} {rv : Option Value} (hM : dg_Met l y bytes maxL ret fr lo E Mo As G rv G1) (h1 : Cond.methodLink (dt_o T) index y ∈ lw_all) (h2 : dg_cS y bytes maxL ret As.length) (hfr : fr + 1 ≤ dt_F T) (hlo : 8 + (maxL + 11) + lo ≤ dt_W T) (hst : As.reverse ++ st = st0) (hw : (st.map fun v => v.category).sum ≤ 8)
    (hd : decode (dt_c T) pc = .ok (.invokestatic index, 3)) (kk : dgW T l E Mo G' x G1 (pc + 3) lv (rv.toList ++ st)) : dgW T l E Mo G' x G pc lv st0 := by
  subst hst
  refine g_back hM.1 (fun C n0 s0 hB hrm H locs ls hP hS hl => ?_) kk
  obtain ⟨hC, hK, hR, -, hl', -⟩ := hB
  have hMM := hM.2
  unfold dh_Met at hMM
  rw [← hl'] at hMM
  exact va_runS (nL := dt_L T) (As := As) (rest := st) (bytes := bytes) (maxL := maxL) (ret := ret) (n := As.length) ⟨hC.1, hC.2.1, hC.2.2.1, hC.2.2.2.1, hC.2.2.2.2.1⟩ hMM
    ⟨callB_of _ hC.2.2.2.2.1 (lw_meth h2.2.2.1) rfl rfl rfl (hC.2.2.2.2.1 _ h2.2.1) (hC.2.2.2.2.1 _ h1) h2.2.2.2 ⟨by rw [hR]; exact hfr, by rw [hR]; exact hlo⟩, hC.2.2.2.2.1 _ h2.1⟩
    ⟨dh_blind (dj_Kn_same E), fun U hU hW => dg_pre hK hP hS U hU hW⟩ rfl rfl (hl.1.trans hC.2.2.1) rfl (lv_room (m := dh_m C) (pc := pc) (ls := ls) (rest := st) hw) hd hrm
theorem g_callI {y : MethodName} {bytes : ByteArray} {maxL index fr lo j : Nat} {As st0 : List Value} {u : Unit} (hj : dg_pos j = some u) (hM : dg_Met l y bytes maxL none fr lo E Mo (dj_v E j :: As) G none G1) (h1 : Cond.methodLink (dt_o T) index y ∈ lw_all) (h2 : dg_cI y bytes maxL As.length) (hfr : fr + 1 ≤ dt_F T) (hlo : 8 + (maxL + 11) + lo ≤ dt_W T) (hst : As.reverse ++ dj_v E j :: st = st0) (hw : (st.map fun v => v.category).sum ≤ 8)
    (hd : decode (dt_c T) pc = .ok (.invokespecial index, 3)) (kk : dgW T l E Mo G' x G1 (pc + 3) lv st) : dgW T l E Mo G' x G pc lv st0 := by
  subst hst
  refine g_back (rv := none) hM.1 (fun C n0 s0 hB hrm H locs ls hP hS hl => ?_) kk
  obtain ⟨hC, hK, hR, -, hl', -⟩ := hB
  have e := dj_v_pos (E := E) (dg_if hj).1
  have hMM := hM.2
  unfold dh_Met at hMM
  rw [← hl'] at hMM
  rw [e] at hMM ⊢
  exact va_runI (nL := dt_L T) (As := As) (rest := st) (bytes := bytes) (maxL := maxL) (n := As.length) ⟨hC.1, hC.2.1, hC.2.2.1, hC.2.2.2.1, hC.2.2.2.2.1⟩ hMM
    ⟨callB_of _ hC.2.2.2.2.1 (lw_meth h2.2.2.1) rfl rfl rfl (hC.2.2.2.2.1 _ h2.2.1) (hC.2.2.2.2.1 _ h1) h2.2.2.2.2 ⟨by rw [hR]; exact hfr, by rw [hR]; exact hlo⟩, h2.2.2.2.1, hC.2.2.2.2.1 _ h2.1⟩
    ⟨dh_blind (dj_Kn_same E), fun U hU hW => dg_pre hK hP hS U hU hW⟩ rfl rfl (hl.1.trans hC.2.2.1) rfl (lv_room (m := dh_m C) (pc := pc) (ls := ls) (rest := st) hw) hd hrm
/-- Line's own start, a nest mate's -/
theorem g_callIN {y : MethodName} {bytes : ByteArray} {maxL index fr lo j : Nat} {As st0 : List Value} {u : Unit} (hj : dg_pos j = some u) (hM : dg_Met l y bytes maxL none fr lo E Mo (dj_v E j :: As) G none G1) (h1 : Cond.methodLinkNest (dt_o T) index y "DebtorsHouse" = dj_yL) (h2 : dg_cI y bytes maxL As.length) (hfr : fr + 1 ≤ dt_F T) (hlo : 8 + (maxL + 11) + lo ≤ dt_W T) (hst : As.reverse ++ dj_v E j :: st = st0) (hw : (st.map fun v => v.category).sum ≤ 8)
    (hd : decode (dt_c T) pc = .ok (.invokespecial index, 3)) (kk : dgW T l E Mo G' x G1 (pc + 3) lv st) : dgW T l E Mo G' x G pc lv st0 := by
  subst hst
  refine g_back (rv := none) hM.1 (fun C n0 s0 hB hrm H locs ls hP hS hl => ?_) kk
  obtain ⟨hC, hK, hR, -, hl', -⟩ := hB
  have e := dj_v_pos (E := E) (dg_if hj).1
  have hMM := hM.2
  unfold dh_Met at hMM
  rw [← hl'] at hMM
  rw [e] at hMM ⊢
  have hN := hK.2.2.2.2.2.2.2.2.2.2.2.2.1
  rw [← h1] at hN
  exact va_runIN (nL := dt_L T) (As := As) (rest := st) (bytes := bytes) (maxL := maxL) (n := As.length) (host := "DebtorsHouse") ⟨hC.1, hC.2.1, hC.2.2.1, hC.2.2.2.1, hC.2.2.2.2.1⟩ hMM
    ⟨va_cnB _ hC.2.2.2.2.1 (lw_meth h2.2.2.1) rfl rfl rfl hN (hC.2.2.2.2.1 _ h2.2.1) h2.2.2.2.2 ⟨by rw [hR]; exact hfr, by rw [hR]; exact hlo⟩, h2.2.2.2.1, hC.2.2.2.2.1 _ h2.1⟩
    ⟨dh_blind (dj_Kn_same E), fun U hU hW => dg_pre hK hP hS U hU hW⟩ rfl rfl (hl.1.trans hC.2.2.1) rfl (lv_room (m := dh_m C) (pc := pc) (ls := ls) (rest := st) hw) hd hrm
/-- super's method: of StringBuilder -/
theorem g_callSU {y : MethodName} {bytes : ByteArray} {maxL index fr lo j : Nat} {ret : Option FieldType} {As st0 : List Value} {rv : Option Value} {u : Unit} (hj : dg_is G 11 j = some u) (hM : dg_Met l y bytes maxL ret fr lo E Mo (dj_v E j :: As) G rv G1) (h1 : Cond.methodLink (dt_o T) index y ∈ lw_all) (h3 : Cond.sameMethod y.cls y.cls y.name y.desc ∈ lw_all) (h4 : Cond.superclass (dt_o T) y.cls ∈ lw_all) (h5 : y.name ≠ "<init>") (h2 : dg_cU y bytes maxL ret As.length) (hfr : fr + 1 ≤ dt_F T) (hlo : 8 + (maxL + 11) + lo ≤ dt_W T) (hst : As.reverse ++ dj_v E j :: st = st0) (hw : (st.map fun v => v.category).sum ≤ 8)
    (hd : decode (dt_c T) pc = .ok (.invokespecial index, 3)) (kk : dgW T l E Mo G' x G1 (pc + 3) lv (rv.toList ++ st)) : dgW T l E Mo G' x G pc lv st0 := by
  subst hst
  refine g_back hM.1 (fun C n0 s0 hB hrm H locs ls hP hS hl => ?_) kk
  obtain ⟨hC, hK, hR, -, hl', -⟩ := hB
  obtain ⟨e, hrc⟩ := rc_O (E := E) (Mo := Mo) (Cn := "java/lang/StringBuilder") (ci := 11) rfl hj C H locs hK hP hS
  have hMM := hM.2
  unfold dh_Met at hMM
  rw [← hl'] at hMM
  rw [e] at hMM ⊢
  have hts := hC.2.2.2.2.1
  exact va_runSU (nL := dt_L T) (As := As) (rest := st) (C := "java/lang/StringBuilder") (bytes := bytes) (maxL := maxL) (ret := ret) (n := As.length) (hK.1.1 11 _ rfl).2 ⟨hC.1, hC.2.1, hC.2.2.1, hC.2.2.2.1, hts⟩ hMM
    (va_cwSU _ hts (lw_app (fun w hw => by
      simp only [List.mem_cons, List.not_mem_nil, or_false] at hw
      rcases hw with e | e | e | e | e
      · rw [e]; exact h1
      · rw [e]; exact h3
      · rw [e]; exact h4
      · rw [e]; exact h2.1
      · rw [e]; exact h2.2.1) (lw_meth h2.2.2.1)) rfl rfl rfl ⟨h5, h2.2.2.2.2.2⟩ ⟨by rw [hR]; exact hfr, by rw [hR]; exact hlo⟩)
    ⟨dh_blind (dj_Kn_same E), hrc, fun U hU hW => dg_pre hK hP hS U hU hW⟩ rfl rfl (hl.1.trans hC.2.2.1) rfl (lv_room (m := dh_m C) (pc := pc) (ls := ls) (rest := st) hw) hd hrm
/-- an inherited method: ordinal -/
theorem g_callU {Cn owner : String} {z y : MethodName} {bytes : ByteArray} {maxL index fr lo j : Nat} {ret : Option FieldType} {As st0 : List Value} {rv : Option Value} (hr : dg_rc E Mo G Cn j) (hM : dg_Met l y bytes maxL ret fr lo E Mo (dj_v E j :: As) G rv G1) (h1 : Cond.methodLink (dt_o T) index z ∈ lw_all) (h3 : Cond.sameMethod z.cls owner z.name z.desc ∈ lw_all) (h4 : Cond.selects Cn z y ∈ lw_all) (h5 : Cond.instanceMethod y ∈ lw_all) (h6 : Cond.initialized y.cls ∈ lw_all) (h7 : Cond.code y bytes maxL ret ∈ lw_all) (h8 : y = ⟨owner, z.name, z.desc⟩) (h9 : owner ≠ "java/lang/invoke/MethodHandle" ∧ owner ≠ "java/lang/invoke/VarHandle" ∧ (parseMethodDescriptor z.desc).map (fun d => d.parameters.length) = some As.length) (hfr : fr + 1 ≤ dt_F T) (hlo : 8 + (maxL + 11) + lo ≤ dt_W T) (hst : As.reverse ++ dj_v E j :: st = st0) (hw : (st.map fun v => v.category).sum ≤ 8)
    (hd : decode (dt_c T) pc = .ok (.invokevirtual index, 3)) (kk : dgW T l E Mo G' x G1 (pc + 3) lv (rv.toList ++ st)) : dgW T l E Mo G' x G pc lv st0 := by
  subst hst
  refine g_back hM.1 (fun C n0 s0 hB hrm H locs ls hP hS hl => ?_) kk
  obtain ⟨hC, hK, hR, -, hl', -⟩ := hB
  obtain ⟨e, hrc⟩ := hr C H locs hK hP hS
  have hMM := hM.2
  unfold dh_Met at hMM
  rw [← hl'] at hMM
  rw [e] at hMM ⊢
  have hts := hC.2.2.2.2.1
  exact va_runU (nL := dt_L T) (As := As) (rest := st) (C := Cn) (owner := owner) (x := z) (bytes := bytes) (maxL := maxL) (ret := ret) (n := As.length) ⟨hC.1, hC.2.1, hC.2.2.1, hC.2.2.2.1, hts⟩ hMM
    (va_cwU _ hts (lw_app (fun w hw => by
      simp only [List.mem_cons, List.not_mem_nil, or_false] at hw
      rcases hw with e | e | e | e | e
      · rw [e]; exact h1
      · rw [e]; exact h3
      · rw [e]; exact h4
      · rw [e]; exact h5
      · rw [e]; exact h6) (lw_meth h7)) rfl rfl rfl h8 h9 ⟨by rw [hR]; exact hfr, by rw [hR]; exact hlo⟩)
    ⟨dh_blind (dj_Kn_same E), hrc, fun U hU hW => dg_pre hK hP hS U hU hW⟩ rfl rfl (hl.1.trans hC.2.2.1) rfl (lv_room (m := dh_m C) (pc := pc) (ls := ls) (rest := st) hw) hd hrm
/-- an overridden one: length of AbstractStringBuilder -/
theorem g_callO {Cn owner : String} {z y : MethodName} {bytes : ByteArray} {maxL index fr lo j : Nat} {ret : Option FieldType} {As st0 : List Value} {rv : Option Value} {b0 : ByteArray} {m0 : Nat} {r0 : Option FieldType} (hr : dg_rc E Mo G Cn j) (hM : dg_Met l y bytes maxL ret fr lo E Mo (dj_v E j :: As) G rv G1) (h1 : Cond.methodLink (dt_o T) index z ∈ lw_all) (h3 : Cond.sameMethod z.cls owner z.name z.desc ∈ lw_all) (h10 : Cond.instanceMethod ⟨owner, z.name, z.desc⟩ ∈ lw_all) (h4 : Cond.selects Cn z y ∈ lw_all) (h5 : Cond.instanceMethod y ∈ lw_all) (h6 : Cond.initialized y.cls ∈ lw_all) (h7 : Cond.code y bytes maxL ret ∈ lw_all) (h8 : Cond.code ⟨owner, z.name, z.desc⟩ b0 m0 r0 ∈ lw_all) (h9 : owner ≠ "java/lang/invoke/MethodHandle" ∧ owner ≠ "java/lang/invoke/VarHandle" ∧ (parseMethodDescriptor z.desc).map (fun d => d.parameters.length) = some As.length) (hfr : fr + 1 ≤ dt_F T) (hlo : 8 + (maxL + 11) + lo ≤ dt_W T) (hst : As.reverse ++ dj_v E j :: st = st0) (hw : (st.map fun v => v.category).sum ≤ 8)
    (hd : decode (dt_c T) pc = .ok (.invokevirtual index, 3)) (kk : dgW T l E Mo G' x G1 (pc + 3) lv (rv.toList ++ st)) : dgW T l E Mo G' x G pc lv st0 := by
  subst hst
  refine g_back hM.1 (fun C n0 s0 hB hrm H locs ls hP hS hl => ?_) kk
  obtain ⟨hC, hK, hR, -, hl', -⟩ := hB
  obtain ⟨e, hrc⟩ := hr C H locs hK hP hS
  have hMM := hM.2
  unfold dh_Met at hMM
  rw [← hl'] at hMM
  rw [e] at hMM ⊢
  have hts := hC.2.2.2.2.1
  exact va_runU (nL := dt_L T) (As := As) (rest := st) (C := Cn) (owner := owner) (x := z) (bytes := bytes) (maxL := maxL) (ret := ret) (n := As.length) ⟨hC.1, hC.2.1, hC.2.2.1, hC.2.2.2.1, hts⟩ hMM
    (va_cwO _ hts (lw_app (fun w hw => by
      simp only [List.mem_cons, List.not_mem_nil, or_false] at hw
      rcases hw with e | e | e | e | e | e
      · rw [e]; exact h1
      · rw [e]; exact h3
      · rw [e]; exact h10
      · rw [e]; exact h4
      · rw [e]; exact h5
      · rw [e]; exact h6) (lw_meth h7)) rfl rfl rfl h8 h9 ⟨by rw [hR]; exact hfr, by rw [hR]; exact hlo⟩)
    ⟨dh_blind (dj_Kn_same E), hrc, fun U hU hW => dg_pre hK hP hS U hU hW⟩ rfl rfl (hl.1.trans hC.2.2.1) rfl (lv_room (m := dh_m C) (pc := pc) (ls := ls) (rest := st) hw) hd hrm
/-- toArray through Collection -/
theorem dh_back5 {C : dh_C} {A : Nat → Prop} {P : Heap → Prop} {Q : Outcome → Heap → Prop} {mc ms k n mc1 ms1 : Nat} {rv : Option Value} {P1 : Heap → Prop} {st0 : List Value} (hrun : ∀ (H : Heap) (locs : List Loc) (ls : Array Slot), P H → va_S A (dh_s C).heap H locs → lv_has ls (dh_c C).maxLocals lv →
      va_Run5 (dh_p C) (dh_l C) (dh_e C) (dh_R C) (dh_s C) (dh_m C) (dh_a C) (dh_b C) (dh_t C) (dh_c C) H locs k n mc1 ms1 (F0 (dh_m C) pc ls st0) st (fun s0 o t => (o = .returned rv ∧ P1 t.heap) ∧ va_F A s0 t) A)
    (kk : dh_W C A P1 Q mc ms (k + mc1) (n + ms1) (pc + 5) lv (rv.toList ++ st)) : dh_W C A P Q mc ms k n pc lv st0 := by
  intro H locs ls hP hS hl T hT X
  obtain ⟨v, st₀, t, T', L, h0, X', hL, e1, e2, ⟨⟨hv, hp⟩, hz, hk⟩, st⟩ := hrun H locs ls hP hS hl T hT X
  cases hv
  rw [h0] at hz hk
  obtain ⟨t2, a1, b1⟩ := kk T'.heap (locs ++ L) ls (by rw [e1]; exact hp)
    ⟨Nat.le_trans hS.1 (by rw [e1]; exact hz), fun q h1 h2 => by rw [e1, hk q (Nat.lt_of_lt_of_le h1 hS.1) h2]; exact hS.2.1 q h1 h2, fun q hq => by
      rcases List.mem_append.mp hq with h | h
      · exact hS.2.2 q h
      · exact hL q h⟩ hl T' rfl X'
  exact ⟨t2, st t2 a1, b1⟩
theorem g_callF {bytes : ByteArray} {maxL index count fr lo j : Nat} {ret : Option FieldType} {st0 : List Value} {rv : Option Value} {u : Unit} (hj : dg_is G 10 j = some u) (hM : dg_Met l dj_yT bytes maxL ret fr lo E Mo [dj_v E j] G rv G1) (h1 : Cond.methodLink (dt_o T) index dj_xT ∈ lw_all) (h4 : Cond.selects "java/util/ArrayList" dj_xT dj_yT ∈ lw_all) (h5 : Cond.instanceMethod dj_yT ∈ lw_all) (h6 : Cond.initialized "java/util/ArrayList" ∈ lw_all) (h7 : Cond.code dj_yT bytes maxL ret ∈ lw_all) (hfr : fr + 1 ≤ dt_F T) (hlo : 8 + (maxL + 11) + lo ≤ dt_W T) (hst : dj_v E j :: st = st0) (hw : (st.map fun v => v.category).sum ≤ 8)
    (hd : decode (dt_c T) pc = .ok (.invokeinterface index count, 5)) (kk : dgW T l E Mo G' x G1 (pc + 5) lv (rv.toList ++ st)) : dgW T l E Mo G' x G pc lv st0 := by
  subst hst
  refine ⟨hM.1.tr kk.1, fun C n0 s0 hB b1 b2 => ?_⟩
  obtain ⟨m1, m2⟩ := hM.1
  obtain ⟨k1, k2⟩ := kk.1
  have hk := kk.2 C n0 s0 hB (by omega) (by omega)
  refine dh_back5 (mc1 := dg_n G1 - dg_n G) (ms1 := dg_sl G1 - dg_sl G) (P1 := dj_P E Mo G1) (rv := rv) (fun H locs ls hP hS hl => ?_) (r_widen (by omega) (by omega) hk)
  obtain ⟨hC, hK, hR, -, hl', -⟩ := hB
  obtain ⟨e, hrc⟩ := rc_O (E := E) (Mo := Mo) (Cn := "java/util/ArrayList") (ci := 10) rfl hj C H locs hK hP hS
  have hMM := hM.2
  unfold dh_Met at hMM
  rw [← hl'] at hMM
  rw [e] at hMM ⊢
  have hts := hC.2.2.2.2.1
  exact va_runF (nL := dt_L T) (As := []) (rest := st) (C := "java/util/ArrayList") (x := dj_xT) (bytes := bytes) (maxL := maxL) (ret := ret) (n := 0) (hK.1.1 10 _ rfl).2 ⟨hC.1, hC.2.1, hC.2.2.1, hC.2.2.2.1, hts⟩ hMM
    (va_cwF _ hts (lw_app (fun w hw => by
      simp only [List.mem_cons, List.not_mem_nil, or_false] at hw
      rcases hw with e | e | e | e
      · rw [e]; exact h1
      · rw [e]; exact h4
      · rw [e]; exact h5
      · rw [e]; exact h6) (lw_meth h7)) rfl rfl rfl hK.2.2.2.2.2.2.2.2.2.2.1 ⟨by decide, by decide, by decide +kernel⟩ ⟨by rw [hR]; exact hfr, by rw [hR]; exact hlo⟩)
    ⟨dh_blind (dj_Kn_same E), hrc, fun U hU hW => dg_pre hK hP hS U hU hW⟩ rfl rfl (hl.1.trans hC.2.2.1) rfl (lv_room (m := dh_m C) (pc := pc) (ls := ls) (rest := st) hw) hd ⟨by rw [hR]; show _ ≤ dg_n G' - n0; omega, by rw [hR]; show _ ≤ dg_sl G' - s0; omega⟩
end
