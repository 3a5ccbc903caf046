set_option maxRecDepth 100000
/-! catching: the handler's kind may be met for the first time -/
theorem dh_go {e : Env} {s : State} {f : JFrame} {a : Addr} {Q : Handler → Pre} {E : CtlPost} {d : Bool} {acts : List Action} {x : ExceptionTableEntry} {t : List ExceptionTableEntry} {c : ClassId} {cell : Cell} {vm₁ : Vm} (hx : covers x f.pc = true) (h0 : x.catchType ≠ 0)
    (hg : (Jvm.resolveClass f.method.cls x.catchType).Gives e.toSetting s.vm (.ok c) vm₁) (hsz : vm₁.classes.size ≤ s.vm.classes.size) (hcell : s.heap[a]? = some cell) (hobj : ∀ k, cell.vm ≠ .statics k) (hk : ∃ k, vm₁.classes[cell.cls]? = some k) (hc : ∃ k, vm₁.classes[c]? = some k) (hfit : vm₁.assignable cell.cls c = true) :
    wp (findHandler.go f a (x :: t)) Q E e d acts s ↔ Q (.found x.handlerPc) d acts (s.setVm vm₁) := by
  simp only [covers] at hx
  obtain ⟨ha, ht⟩ := hg.op (op := VmOp.resolveClass f.method.cls x.catchType) rfl
  simp [findHandler.go, hx, h0, ha, ht, hsz, hcell, hobj, hk, hc, hfit, VmOp.dirties, VmOp.acts]
theorem dh_step {e : Env} {s : State} {a : Addr} {f : JFrame} {r : List Frame} {pc : Nat} {vm₁ : Vm} (hfind : ∀ (Q : Handler → Pre) (E : CtlPost) (d : Bool) (acts : List Action), wp (findHandler f a) Q E e d acts s ↔ Q (.found pc) d acts (s.setVm vm₁)) :
    (stepThrowing e s a (.java f :: r)).Is ((s.setVm vm₁).setFrames (.java { f with pc := pc, stack := [.ref a] } :: r)) [] := by
  simp only [stepThrowing, searchFrame, vmDo]
  generalize hr : Sem.go _ e false [] s = res
  obtain ⟨as, rfl, ha⟩ := Sem.eq_ok_of hr (a := Handler.found pc) (s' := s.setVm vm₁) (acts' := []) (by simp [hfind _ _ _ _])
  exact ⟨rfl, ha⟩
theorem dh_caught {tb : Tables} {e : Env} {s target : State} {g : JFrame} {c : Code} {below : List Frame} {a : Addr} {pc : Nat} {vm₁ : Vm} (h : At s g.method c below)
    (hfind : ∀ (Q : Handler → Pre) (E : CtlPost) (d : Bool) (acts : List Action), wp (findHandler g a) Q E e d acts ((s.setTop g).pushFrame (.throwing a)) ↔ Q (.found pc) d acts (((s.setTop g).pushFrame (.throwing a)).setVm vm₁))
    (hrest : Steps tb e below ((s.setVm vm₁).setTop { g with pc := pc, stack := [.ref a] }) target) :
    Steps tb e below ((s.setTop g).pushFrame (.throwing a)) target := by
  obtain ⟨hgo, hw⟩ := h.throwing a
  refine Steps.head hgo hw ?_
  rw [stepThread_throwing (frames_entered h.top _), (dh_step (s := (s.setTop g).pushFrame (.throwing a)) hfind).1]
  obtain ⟨g₀, hg⟩ := Option.isSome_iff_exists.mp h.top
  obtain ⟨r, hr⟩ := State.topJava?_eq_some.mp hg
  have hr' : (s.setVm vm₁).frames = .java g₀ :: r := hr
  rw [State.setTop_of_frames _ hr'] at hrest
  have e1 : (((s.setTop g).pushFrame (.throwing a)).setVm vm₁).setFrames (.java { g with pc := pc, stack := [.ref a] } :: s.frames.tail) = (s.setVm vm₁).setFrames (.java { g with pc := pc, stack := [.ref a] } :: r) := by
    have : ((s.setTop g).pushFrame (.throwing a)).setVm vm₁ = ((s.setVm vm₁).setTop g).pushFrame (.throwing a) := rfl
    rw [this, State.pushFrame, State.setFrames_setFrames, State.setTop_of_frames _ hr', State.setFrames_setFrames, hr]
    rfl
  rw [e1]
  exact hrest
theorem dh_one {l : List ExceptionTableEntry} {a b c d : Nat} (h : l.map (fun x => (x.startPc, x.endPc, x.handlerPc, x.catchType)) = [(a, b, c, d)]) : ∃ x, l = [x] ∧ x.startPc = a ∧ x.endPc = b ∧ x.handlerPc = c ∧ x.catchType = d := by
  match l, h with
  | [], h => cases h
  | [x], h =>
    simp only [List.map_cons, List.map_nil, List.cons.injEq, Prod.mk.injEq, and_true] at h
    exact ⟨x, rfl, h.1, h.2.1, h.2.2.1, h.2.2.2⟩
  | _ :: _ :: _, h => simp at h
section
variable {T : dg_T} {l : Launch} {E : dj_E} {Mo : Option dm_M} {G' : dg_G} {x : Nat ⊕ Option Value} {G G1 : dg_G} {pc : Nat} {lv : List (Nat × Value)} {st : List Value}
theorem g_callVC {α : Type} {f : α → Option Value} {p1 : Nat ⊕ α} {Cn : String} {y : MethodName} {bytes : ByteArray} {maxL index fr lo j : Nat} {ret : Option FieldType} {As st0 : List Value} (ho : dt_o T = "DebtorsHouse") (hh : dt_h T = dj_hh) (hpc : 56 ≤ pc ∧ pc < 112) (hr : dg_rc E Mo G Cn j) (hM : dg_MetT l y bytes maxL ret fr lo E Mo (dj_v E j :: As) G (dg_o f p1) G1) (h1 : Cond.methodLink (dt_o T) index y ∈ lw_all) (h2 : dg_cV Cn y bytes maxL ret As.length) (hfr : fr + 1 ≤ dt_F T) (hlo : 8 + (maxL + 11) + lo ≤ dt_W T) (hst : As.reverse ++ dj_v E j :: st = st0) (hw : (st.map fun v => v.category).sum ≤ 8)
    (hd : decode (dt_c T) pc = .ok (.invokevirtual index, 3)) (kt : ∀ j, p1 = .inl j → (∃ u, dg_is G1 7 j = some u) ∧ dgW T l E Mo G' x G1 113 lv [dj_v E j]) (kr : ∀ v, p1 = .inr v → dgW T l E Mo G' x G1 (pc + 3) lv ((f v).toList ++ st)) : dgW T l E Mo G' x G pc lv st0 := by
  cases p1 with
  | inr v => exact g_callV hr hM.ret h1 h2 hfr hlo hst hw hd (kr v rfl)
  | inl i =>
    obtain ⟨⟨u, hu⟩, kk⟩ := kt i rfl
    obtain ⟨hu, _⟩ := dg_if hu
    subst hst
    refine ⟨hM.1.tr kk.1, fun C n0 s0 hB b1 b2 H locs ls hP hS hl T' hT X => ?_⟩
    obtain ⟨m1, m2⟩ := hM.1
    obtain ⟨k1, k2⟩ := kk.1
    have hk0 := kk.2 C n0 s0 hB (by omega) (by omega)
    obtain ⟨hC, hK, hR, -, hl', hx⟩ := hB
    rw [hh] at hx
    obtain ⟨ex, hx1, hx2, hx3, hx4, hx5⟩ := dh_one hx
    obtain ⟨e, cellB, hc1, hc2, hc3⟩ := hr C H locs hK hP hS
    have hMM := hM.thr
    rw [← hl'] at hMM
    rw [e] at hMM ⊢
    have hsel : (Cond.selects Cn y y).before (dh_a C) (dh_s C) = true := by
      rcases h2.2.1 with h | h
      · exact hC.2.2.2.2.1 _ h
      · rw [h]; exact va_Nw.use rfl hK.2.2.2.2.2.2.2.2.2.2.2.2.2.2
    obtain ⟨st₀, t, T2, L, e0, X', hL, e1, e2, ⟨hp, hz, hk⟩, stp⟩ := dh_thrV X hC.1 (C := Cn) (index := index) (bytes := bytes) (maxL := maxL) (ret := ret) (ws := ws_ y bytes maxL ret) (rm := ({ frames := fr, cells := dg_n G1 - dg_n G, slots := dg_sl G1 - dg_sl G, locals := lo } : Room)) (mc := dg_n G1 - dg_n G) (ms := dg_sl G1 - dg_sl G) (n := As.length) (x0 := dj_ad E i) (Qc := fun _ st t => dj_P E Mo G1 t.heap ∧ va_F (dj_A E) st t) hC.2.2.2.1
      ⟨callB_of As.length hC.2.2.2.2.1 (lw_meth h2.2.2.2.1) rfl rfl rfl (hC.2.2.2.2.1 _ h2.2.2.1) (hC.2.2.2.2.1 _ h1) h2.2.2.2.2 ⟨by rw [hR]; exact hfr, by rw [hR]; exact hlo⟩, hC.2.2.2.2.1 _ h2.1, hsel⟩
      hMM (dh_blind (dj_Kn_same E)) (by rw [hT]; exact hc1) hc2 hc3 (g := F0 (dh_m C) pc ls (As.reverse ++ .ref (dj_ad E j) :: st)) rfl hl.1 (argsL := As) (rest := st) rfl rfl
      (lv_room (m := dh_m C) (pc := pc) (ls := ls) (rest := st) hw) (by rw [hC.2.1]; exact hd) ⟨by rw [hR]; show _ ≤ dg_n G' - n0; omega, by rw [hR]; show _ ≤ dg_sl G' - s0; omega⟩
      (fun vm₁ hW => dg_pre hK hP hS (T'.setVm vm₁) hT hW)
    rw [e0, hT] at hz hk
    -- the handler's kind
    have hown : (dh_s C).vm.findClass "DebtorsHouse" = some (dh_m C).cls := by have := hC.2.2.2.1; rw [ho] at this; exact this
    have hpl : (dh_e C).platform.magicAccessors = ({} : Platform).magicAccessors := by rw [X'.admits.platform]
    obtain ⟨cF, hfF, hcl⟩ := Cond.classLink_spec hown (hC.2.2.2.2.1 _ q590) (dh_e C).platform hpl
    obtain ⟨hg₁, hwarm₁, -⟩ := State.classEntry (e := dh_e C) X'.warmed hcl
    generalize hvm : T2.vm.noted (dh_m C).cls 241 (.cls cF) = vm₁ at hg₁ hwarm₁
    have hal : (dh_s C).vm.Alike vm₁ := hwarm₁.alike
    obtain ⟨cellF, hc4, hc5, hc6⟩ := va_recv (H := T2.heap) hK.1 (dj_one (by rw [e1]; exact dg_at hp (ci := 7) hu (by decide))) (ci := 7) (q0 := 0) rfl rfl
    have hcc : cellF.cls = cF := Option.some.inj (hc6.symm.trans hfF)
    obtain ⟨kF, hkF, -⟩ := Vm.findClass_spec hfF
    obtain ⟨kF1, hkF1, -⟩ := hal.2.2 _ _ hkF
    have X2 := X'.noted hwarm₁
    have stp2 : ∀ target, Steps (dh_p C).tables (dh_e C) (dh_b C) ((T2.setVm vm₁).setTop (F0 (dh_m C) 113 ls [.ref (dj_ad E i)])) target → Steps (dh_p C).tables (dh_e C) (dh_b C) ((T2.setTop (F0 (dh_m C) pc ls st)).pushFrame (.throwing (dj_ad E i))) target := fun target hh => by
      refine dh_caught (g := F0 (dh_m C) pc ls st) (pc := 113) (vm₁ := vm₁) X'.here (fun Q E0 d acts => ?_) hh
      rw [W.findHandler_eq (s := (T2.setTop (F0 (dh_m C) pc ls st)).pushFrame (.throwing (dj_ad E i))) (meth := dh_t C) (code := dh_c C) (by rw [Stand.throwing_vm]; exact X'.method') X'.code, hx1, ← hx4]
      refine dh_go (c := cF) (cell := cellF) (by simp [covers, hx2, hx3]; omega) (by rw [hx5]; decide) (by rw [hx5, Stand.throwing_vm]; exact hg₁) (by rw [Stand.throwing_vm, ← hvm, Vm.size_noted]; exact Nat.le_refl _) (by rw [Stand.throwing_heap]; exact hc4) (fun z h => by rw [h] at hc5; cases hc5) ⟨kF1, by rw [hcc]; exact hkF1⟩ ⟨kF1, hkF1⟩ ?_
      rw [hcc]
      show vm₁.assignableAux (255 + 1) cF cF = true
      rw [Vm.assignableAux, Bool.or_eq_true, beq_iff_eq]
      exact Or.inl rfl
    have hz2 : H.size ≤ T2.heap.size := by rw [e1]; exact hz
    rw [show dg_n G1 - n0 = dg_n G - n0 + (dg_n G1 - dg_n G) by omega, show dg_sl G1 - s0 = dg_sl G - s0 + (dg_sl G1 - dg_sl G) by omega, dg_vref hp (j := i) (by omega)] at hk0
    obtain ⟨t2, a1, b1⟩ := hk0 T2.heap (locs ++ L) ls (by rw [e1]; exact hp)
      ⟨Nat.le_trans hS.1 hz2, fun q h1 h2 => by rw [e1, hk q (Nat.lt_of_lt_of_le h1 hS.1) h2]; exact hS.2.1 q h1 h2, fun q hq => by
        rcases List.mem_append.mp hq with h | h
        · exact hS.2.2 q h
        · exact hL q h⟩ hl (T2.setVm vm₁) rfl X2
    exact ⟨t2, stp t2 (stp2 t2 a1), b1⟩
end
