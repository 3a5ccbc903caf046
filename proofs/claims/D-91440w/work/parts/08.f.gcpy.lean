set_option maxRecDepth 100000
theorem dj_nfw {a w : Nat} (h : a + 18 ≤ w) : a + (nativeFrameWords "java/lang/System" "arraycopy" 5 + 11) ≤ w := by
  have e : nativeFrameWords "java/lang/System" "arraycopy" 5 = 7 := by decide +kernel
  rw [e]
  exact h
theorem dj_nn {z : Int32} (hz : ¬ z < 0) : z.toInt = (z.toNatClampNeg : Int) := by
  have hz0 : (0 : Int) ≤ z.toInt := by
    have := Int32.not_lt.mp hz
    simpa using Int32.le_iff_toInt_le.mp this
  show z.toInt = ((z.toInt.toNat : Nat) : Int)
  omega
section
variable {T : dg_T} {l : Launch} {E : dj_E} {Mo : Option dm_M} {G' : dg_G} {x : Nat ⊕ Option Value} {G G1 : dg_G} {pc : Nat} {lv : List (Nat × Value)} {st : List Value}
/-- the heap behind a copy, and the way there -/
theorem dj_Wcopy {p : Program} {l : Launch} {e : Env} {R : Room} {s : State} {m : MethodId} {args : Array Value} {below : List Frame} {meth : Method} {c : Code} {H : Heap} {locs : List Loc} {cells slots : Nat} {Q : State → Prop} {cc : ByteArray} {pc : Nat} {ls : Array Slot} {rest : List Value}
    (hexec : p.tables.exec = Jvm.exec) (hb : c.code = cc) (hml : c.maxLocals = ls.size) {own : String} {index : Nat} (hown : s.vm.findClass own = some m.cls) (hlink : (Cond.methodLink own index arraycopyName).before args s = true) (hnat : (Cond.native arraycopyName).before args s = true) (hstat : (Cond.static arraycopyName).before args s = true) (hini : (Cond.initialized "java/lang/System").before args s = true)
    {a0 a : Nat} {cs cd : Cell} {ks kd : Class} {sComp dComp : ClassId} {sType dType : FieldType} {sp dp n : Int32} (hs : H[a0]? = some cs) (hd : H[a]? = some cd) (hsv : cs.vm = .none) (hdv : cd.vm = .none) (hks : s.vm.classes[cs.cls]? = some ks) (hkd : s.vm.classes[cd.cls]? = some kd) (hsk : ks.kind = .array sComp sType) (hdk : kd.kind = .array dComp dType)
    (hty : ((refKind sType != refKind dType) || (!refKind sType && sType != dType)) = false) (h1 : ¬ sp < 0) (h2 : ¬ dp < 0) (h3 : ¬ n < 0) (h4 : sp.toNatClampNeg + n.toNatClampNeg ≤ cs.slots.size) (h5 : dp.toNatClampNeg + n.toNatClampNeg ≤ cd.slots.size)
    (hvals : ∀ (T : State) (vm' : Vm), T.heap = H → s.vm.Alike vm' → ∀ i, i < n.toNatClampNeg → fits dType (cs.slots.getD (sp.toNatClampNeg + i) .null) = true ∧ (T.setVm vm').takes dComp (cs.slots.getD (sp.toNatClampNeg + i) .null))
    (hframes : 1 ≤ R.frames) (hlocals : (rest.map fun v => v.category).sum + (nativeFrameWords "java/lang/System" "arraycopy" 5 + 11) ≤ R.locals) (hdg : decode cc pc = .ok (.invokestatic index, 3))
    (kk : ∀ (H1 : Heap) (L : List Loc), H1[a]? = some (copied cs cd sp dp n) → H1.size = H.size → (∀ q, q ≠ a → H1[q]? = H[q]?) → (∀ q ∈ L, q.base = a) → W p l e R s m args below meth c H1 (locs ++ L) cells slots Q (F0 m (pc + 3) ls rest)) : W p l e R s m args below meth c H locs cells slots Q (F0 m pc ls (.int n :: .int dp :: .ref a :: .int sp :: .ref a0 :: rest)) := by
  intro T hT X
  obtain ⟨vm', X', step⟩ := X.arraycopy hexec hown hlink hnat hstat hini (src := a0) (dst := a) (cs := cs) (cd := cd) (srcPos := sp) (destPos := dp) (n := n) (by rw [hT]; exact hs) (by rw [hT]; exact hd)
    (fun _ h => by rw [hsv] at h; cases h) (fun _ h => by rw [hdv] at h; cases h) (fun h => by rw [hsv] at h; cases h) (fun h => by rw [hdv] at h; cases h) hks hkd hsk hdk hty h1 h2 h3
    (by rw [dj_nn h1, dj_nn h3]; omega) (by rw [dj_nn h2, dj_nn h3]; omega) (fun vm₁ hal i hi => hvals T vm₁ hT hal i hi)
    (g := F0 m pc ls (.int n :: .int dp :: .ref a :: .int sp :: .ref a0 :: rest)) rfl (by rw [hml]) (rest := rest) rfl (by rw [hb]; exact hdg) hframes (by show 2 * 0 + _ + _ ≤ _; omega)
  have hl : a < H.size := (Array.getElem?_eq_some_iff.mp hd).1
  have hheap : ((T.setVm vm').setCell a (copied cs cd sp dp n)).heap = H.setIfInBounds a (copied cs cd sp dp n) := by rw [← hT]; rfl
  obtain ⟨t, a1, b1⟩ := kk (H.setIfInBounds a (copied cs cd sp dp n)) _ (by simp [Array.getElem?_setIfInBounds, hl]) (by simp) (fun q hq => by simp [Array.getElem?_setIfInBounds, Ne.symm hq]) (fun q hq => by
      obtain ⟨z, -, hz⟩ := List.mem_map.mp hq
      rw [← hz]) _ hheap X'
  exact ⟨t, step t a1, b1⟩
theorem dj_Sl {H0 H H1 : Heap} {locs L : List Loc} {a : Nat} (hS : va_S (dj_A E) H0 H locs) (hz : H1.size = H.size) (ho : ∀ q, q ≠ a → H1[q]? = H[q]?) (ha : dj_bs E ≤ a) (hL : ∀ q ∈ L, q.base = a) : va_S (dj_A E) H0 H1 (locs ++ L) :=
  ⟨by rw [hz]; exact hS.1, fun q h1 h2 => by rw [ho q (fun z => h2 (by rw [z]; exact ha))]; exact hS.2.1 q h1 h2, fun q hq => by
    rcases List.mem_append.mp hq with h | h
    · exact hS.2.2 q h
    · show dj_bs E ≤ q.base
      rw [hL q h]
      exact ha⟩
theorem dg_cell_rI (E : dj_E) (G : dg_G) {a i : Nat} (f : Nat → Int32) (h : i ≠ a) : dg_cell E (dg_rI G a f) i = dg_cell E G i := dg_cell_eq E rfl rfl (fun _ => rfl) (fun _ => rfl) (if_neg h) rfl rfl
theorem dg_cell_rR (E : dj_E) (G : dg_G) {a i : Nat} (f : Nat → Nat) (h : i ≠ a) : dg_cell E (dg_rR G a f) i = dg_cell E G i := dg_cell_eq E rfl rfl (fun _ => rfl) (fun _ => rfl) rfl rfl (if_neg h)
theorem dg_rIP {H H' : Heap} {t a : Nat} {f : Nat → Int32} (hP : dj_P E Mo G H) (h1 : dg_K G a = 50 + t) (ht : t < 3) (hz : H'.size = H.size) (ho : ∀ q, q ≠ dj_ad E a → H'[q]? = H[q]?) (h : va_at (dj_D E) dj_cl (dj_ad E a, .inl (dj_dA E t, dg_L G a, .inl f)) H') : dj_P E Mo (dg_rI G a f) H' := by
  refine dj_put hP (by omega) hz ho rfl rfl (fun i hi => dg_cell_rI E G f hi) (by omega) (fun e he => ?_)
  have hK' : dg_K (dg_rI G a f) a = 50 + t := h1
  have hA : dg_AI (dg_rI G a f) a = f := if_pos rfl
  rw [dg_cellI hK' ht, hA] at he
  cases he
  exact h
theorem dg_8 {v : Int32} (h : v.toInt8.toInt32 = v) : fits .byte (.int v) = true := by rw [← h]; exact pk_fb v
theorem g_copyI {index a0 a : Nat} {sp dp n : Int32} (t : Nat) {ty : FieldType} (ht : t = 0 ∨ t = 1) (hty : (dj_ty E)[t]? = some (dj_dA E t, ty)) (hpr : refKind ty = false) (hfit : ∀ v : Int32, (t = 0 ∨ v.toInt8.toInt32 = v) → fits ty (.int v) = true) (hw : Cond.methodLink (dt_o T) index arraycopyName ∈ lw_all) (h : dg_cpI G (50 + t) a0 sp a dp n = some G1) (hF : 1 ≤ dt_F T) (hL : (st.map fun v => v.category).sum + 18 ≤ dt_W T) (hd : decode (dt_c T) pc = .ok (.invokestatic index, 3)) (kk : dgW T l E Mo G' x G1 (pc + 3) lv st) : dgW T l E Mo G' x G pc lv (.int n :: .int dp :: dj_v E a :: .int sp :: dj_v E a0 :: st) := by
  obtain ⟨⟨k0, k1, h1, h2, h3, h4, h5, h6⟩, rfl⟩ := dg_if h
  refine dg_m (a := 0) (b := 0) (G1 := dg_rI G a (va_cpy (dg_AI G a0) (dg_AI G a) sp.toNatClampNeg dp.toNatClampNeg n.toNatClampNeg)) rfl rfl (fun C Q mc ms k n' hC hK _ _ hfr hlo kk H locs ls hP hS hl => ?_) kk
  have h100 := dg_100 hP (j := a) (by omega)
  rw [dg_vref hP (j := a) (by omega), dg_vref hP (j := a0) (by omega)]
  have c0 : H[dj_ad E a0]? = some (vp_cell (dj_dA E t) (dg_L G a0, .inl (dg_AI G a0))) := hP.1 a0 _ (dg_cellI k0 (by omega))
  have c1 : H[dj_ad E a]? = some (vp_cell (dj_dA E t) (dg_L G a, .inl (dg_AI G a))) := hP.1 a _ (dg_cellI k1 (by omega))
  obtain ⟨-, kq, hkq, cm, hkk⟩ := (hK.1.2 t _ hty).1 0 (fun _ => .null)
  have hts := hC.2.2.2.2.1
  refine dj_Wcopy hC.1 hC.2.1 (hl.1.symm) hC.2.2.2.1 (hts _ hw) (hts _ q392) (hts _ q391) (hts _ q91) c0 c1 rfl rfl hkq hkq hkk hkk (by simp [hpr]) h1 h2 h3 (by rw [vp_cell_i, arrV_size]; exact h4) (by rw [vp_cell_i, arrV_size]; exact h5) (fun T1 vm1 _ _ i hi => ?_) (by omega) (by rw [hlo]; exact dj_nfw hL) hd (fun H1 L e1 z1 o1 hL1 => ?_)
  · have e : (vp_cell (dj_dA E t) (dg_L G a0, .inl (dg_AI G a0))).slots.getD (sp.toNatClampNeg + i) .null = .int (dg_AI G a0 (sp.toNatClampNeg + i)) := by
      rw [vp_cell_i, Array.getD_eq_getD_getElem?, arrV_read _ _ (by omega)]
      rfl
    rw [e]
    refine ⟨hfit _ ?_, trivial⟩
    rcases h6 with h6 | h6
    · exact Or.inl (by omega)
    · exact Or.inr (eq_of_beq (List.all_eq_true.mp h6 i (List.mem_range.mpr hi)))
  · refine kk H1 _ ls (dg_rIP hP k1 (by omega) z1 o1 ?_) (dj_Sl hS z1 o1 (dg_bs h100) hL1) hl
    show H1[_]? = some (vp_cell _ _)
    rw [e1]
    exact congrArg some (va_copied (fun z => .int z) (dj_dA E t) (dj_dA E t) (dg_AI G a0) (dg_AI G a) h4)
theorem g_copyR {index a0 a : Nat} {sp dp n : Int32} (hw : Cond.methodLink (dt_o T) index arraycopyName ∈ lw_all) (h : dg_cpR G a0 sp a dp n = some G1) (hF : 1 ≤ dt_F T) (hL : (st.map fun v => v.category).sum + 18 ≤ dt_W T) (hd : decode (dt_c T) pc = .ok (.invokestatic index, 3)) (kk : dgW T l E Mo G' x G1 (pc + 3) lv st) : dgW T l E Mo G' x G pc lv (.int n :: .int dp :: dj_v E a :: .int sp :: dj_v E a0 :: st) := by
  obtain ⟨⟨k0, k1, h1, h2, h3, h4, h5, h6⟩, rfl⟩ := dg_if h
  refine dg_m (a := 0) (b := 0) (G1 := dg_rR G a (va_cpy (dg_AR G a0) (dg_AR G a) sp.toNatClampNeg dp.toNatClampNeg n.toNatClampNeg)) rfl rfl (fun C Q mc ms k n' hC hK _ _ hfr hlo kk H locs ls hP hS hl => ?_) kk
  have h100 := dg_100 hP (j := a) (by omega)
  rw [dg_vref hP (j := a) (by omega), dg_vref hP (j := a0) (by omega)]
  have c0 : H[dj_ad E a0]? = some (vp_cell (dj_dA E 4) (dg_L G a0, .inr (.inr (.inr (.inr (fun i => dj_o E (dg_AR G a0 i))))))) := hP.1 a0 _ (dg_cellR (t := 4) k0 (by omega))
  have c1 : H[dj_ad E a]? = some (vp_cell (dj_dA E 4) (dg_L G a, .inr (.inr (.inr (.inr (fun i => dj_o E (dg_AR G a i))))))) := hP.1 a _ (dg_cellR (t := 4) k1 (by omega))
  obtain ⟨-, kq, hkq, cm, hkk⟩ := (hK.1.2 4 _ rfl).1 0 (fun _ => .null)
  have hts := hC.2.2.2.2.1
  refine dj_Wcopy hC.1 hC.2.1 (hl.1.symm) hC.2.2.2.1 (hts _ hw) (hts _ q392) (hts _ q391) (hts _ q91) c0 c1 rfl rfl hkq hkq hkk hkk rfl h1 h2 h3 (by rw [vp_cell_q, arrV_size]; exact h4) (by rw [vp_cell_q, arrV_size]; exact h5) (fun T1 vm1 hT1 hal i hi => ?_) (by omega) (by rw [hlo]; exact dj_nfw hL) hd (fun H1 L e1 z1 o1 hL1 => ?_)
  · have e : (vp_cell (dj_dA E 4) (dg_L G a0, .inr (.inr (.inr (.inr (fun i => dj_o E (dg_AR G a0 i))))))).slots.getD (sp.toNatClampNeg + i) .null = dj_v E (dg_AR G a0 (sp.toNatClampNeg + i)) := by
      rw [vp_cell_q, Array.getD_eq_getD_getElem?, arrV_read _ _ (by omega)]
      rfl
    rw [e]
    have hm := dg_mayb_iff.mp (List.all_eq_true.mp h6 i (List.mem_range.mpr hi))
    by_cases hv0 : dg_AR G a0 (sp.toNatClampNeg + i) = 0
    · rw [hv0]
      exact ⟨rfl, trivial⟩
    · obtain ⟨hv, cellV, g1, g2, ⟨kC, hkC⟩, hasg⟩ := dg_mayO (C := C) hK hP hm hv0 (Or.inl rfl)
      rw [hv]
      obtain ⟨kA, comp, r1, r2, r3, -⟩ := (hK.1.2 4 _ rfl).2
      cases hkq.symm.trans r1
      cases hkk.symm.trans r2
      obtain ⟨kE, hkE, -⟩ := Vm.findClass_spec r3
      obtain ⟨kC', hkC', -⟩ := hal.2.2 _ _ hkC
      obtain ⟨kE', hkE', -⟩ := hal.2.2 _ _ hkE
      refine ⟨rfl, cellV, (show T1.heap[_]? = some cellV by rw [hT1]; exact g1), (fun q h => by rw [h] at g2; cases g2), ⟨kC', hkC'⟩, ⟨kE', hkE'⟩, ?_⟩
      show vm1.assignable _ _ = true
      rw [hal.assignable]
      exact hasg _ r3
  · refine kk H1 _ ls (dj_put hP (by omega) z1 o1 rfl rfl (fun i hi => dg_cell_rR E G _ hi) (by omega) (fun e he => ?_)) (dj_Sl hS z1 o1 (dg_bs h100) hL1) hl
    have hK' : dg_K (dg_rR G a (va_cpy (dg_AR G a0) (dg_AR G a) sp.toNatClampNeg dp.toNatClampNeg n.toNatClampNeg)) a = 50 + 4 := k1
    have hA : dg_AR (dg_rR G a (va_cpy (dg_AR G a0) (dg_AR G a) sp.toNatClampNeg dp.toNatClampNeg n.toNatClampNeg)) a = va_cpy (dg_AR G a0) (dg_AR G a) sp.toNatClampNeg dp.toNatClampNeg n.toNatClampNeg := if_pos rfl
    rw [dg_cellR hK' (by omega), hA] at he
    cases he
    show H1[_]? = some (vp_cell _ _)
    rw [e1]
    refine congrArg some ((va_copied (fun z => dj_v E z) (dj_dA E 4) (dj_dA E 4) (dg_AR G a0) (dg_AR G a) h4).trans ?_)
    rfl
theorem g_clone {index a : Nat} (hw : Cond.methodLink (dt_o T) index ⟨"[B", "clone", "()Ljava/lang/Object;"⟩ ∈ lw_all) (h : dg_cln G a = some G1) (hF : 1 ≤ dt_F T) (hL : (st.map fun v => v.category).sum + 14 ≤ dt_W T) (hd : decode (dt_c T) pc = .ok (.invokevirtual index, 3)) (kk : dgW T l E Mo G' x G1 (pc + 3) lv (dj_v E (dg_n G) :: st)) : dgW T l E Mo G' x G pc lv (dj_v E a :: st) := by
  obtain ⟨⟨k0, h6⟩, rfl⟩ := dg_if h
  refine dg_m (a := 1) (b := dg_L G a) (G1 := dg_rI (dg_na G 51 (dg_L G a)) (dg_n G) (dg_AI G a)) rfl rfl (fun C Q mc ms k n hC hK hk hn hfr hlo kk H locs ls hP hS hl => ?_) kk
  have h100 := hP.2.2.1
  rw [dg_vref hP (j := a) (by omega)]
  have c0 : H[dj_ad E a]? = some (vp_cell (dj_dA E 1) (dg_L G a, .inl (dg_AI G a))) := hP.1 a _ (dg_cellI (t := 1) k0 (by omega))
  have hts := hC.2.2.2.2.1
  have hnm : (dh_s C).vm.findClass "[B" = some (dj_dA E 1) := (hK.1.2 1 _ rfl).2
  obtain ⟨c1, t1, f1, f2, f3⟩ := Cond.castable_spec (va_Nw.use (A := dh_a C) rfl hK.2.2.2.2.2.2.2.2.2.2.2.1)
  cases hnm.symm.trans f1
  intro T1 hT1 X
  obtain ⟨-, kA, hkA, comp, hkind⟩ := State.isArrayOf_alike X.warmed.alike ((hK.1.2 1 _ rfl).1 0 (fun _ => .null))
  obtain ⟨-, kS, hkS, compS, hkindS⟩ := (hK.1.2 1 _ rfl).1 0 (fun _ => .null)
  have hsz : (vp_cell (dj_dA E 1) (dg_L G a, .inl (dg_AI G a))).slots.size = dg_L G a := arrV_size _ _ _
  obtain ⟨vm', X', st'⟩ := X.cloneArray hC.1 hC.2.2.2.1 (hts _ hw) (hts _ q676) (hts _ q677) (hts _ q678) (hts _ q679) (a := dj_ad E a) (cell := vp_cell (dj_dA E 1) (dg_L G a, .inl (dg_AI G a))) (by rw [hT1]; exact c0) (fun k h => by cases h) (fun h => by cases h) hnm f2 f3
    (fun i v hv => by
      have hk' : T1.vm.classes[dj_dA E 1]? = some kA := hkA
      have hlt : i < dg_L G a := by
        have := (Array.getElem?_eq_some_iff.mp hv).1
        rw [hsz] at this
        exact this
      have hv' : v = .int (dg_AI G a i) := by
        rw [vp_cell_i, arrV_read _ _ hlt] at hv
        exact (Option.some.inj hv).symm
      subst hv'
      have hf := dg_8 (eq_of_beq (List.all_eq_true.mp h6 i (List.mem_range.mpr hlt)))
      show T1.fitsSlot (dj_dA E 1) .none i _ = true
      simpa [State.fitsSlot, State.slotType?, hk', hkind] using hf)
    (g := F0 (dh_m C) pc ls (.ref (dj_ad E a) :: st)) rfl hl.1 rfl (by rw [hC.2.1]; exact hd) (by rw [hfr]; exact hF) (by show 2 * 0 + _ + 14 ≤ _; rw [hlo]; omega) hk (by rw [hsz]; exact hn) (hloader := Vm.clonesLoader_of_array hkS hkindS)
  have hcellE : ({ cls := (vp_cell (dj_dA E 1) (dg_L G a, .inl (dg_AI G a))).cls, slots := (vp_cell (dj_dA E 1) (dg_L G a, .inl (dg_AI G a))).slots } : Cell) = vp_cell (dj_dA E 1) (dg_L G a, .inl (dg_AI G a)) := rfl
  rw [hcellE, hsz] at X'
  generalize hH1 : H.push (vp_cell (dj_dA E 1) (dg_L G a, .inl (dg_AI G a))) = H1
  have z1 : H1.size = H.size + 1 := by rw [← hH1, Array.size_push]
  have e1 : H1[H.size]? = some (vp_cell (dj_dA E 1) (dg_L G a, .inl (dg_AI G a))) := by rw [← hH1, Array.getElem?_push_size]
  have o1 : ∀ q : Nat, q < H.size → H1[q]? = H[q]? := fun q hq => by rw [← hH1, Array.getElem?_push, if_neg (Nat.ne_of_lt hq)]
  have hP1 : dj_P E Mo (dg_rI (dg_na G 51 (dg_L G a)) (dg_n G) (dg_AI G a)) H1 := by
    refine dj_push hP rfl (fun i hi => if_neg hi) (fun i hi => (dg_cell_rI E _ _ hi).trans (dg_na_cell E _ _ hi)) z1 o1 (fun e he => ?_) (fun h => ?_)
    · have q1 : dg_K (dg_rI (dg_na G 51 (dg_L G a)) (dg_n G) (dg_AI G a)) (dg_n G) = 50 + 1 := if_pos rfl
      have q2 : dg_L (dg_rI (dg_na G 51 (dg_L G a)) (dg_n G) (dg_AI G a)) (dg_n G) = dg_L G a := if_pos rfl
      have q3 : dg_AI (dg_rI (dg_na G 51 (dg_L G a)) (dg_n G) (dg_AI G a)) (dg_n G) = dg_AI G a := if_pos rfl
      rw [dg_cellI q1 (by omega), q2, q3] at he
      cases he
      show H1[_]? = some (vp_cell _ _)
      rw [← dj_hs hP]
      exact e1
    · have q1 : dg_K (dg_rI (dg_na G 51 (dg_L G a)) (dg_n G) (dg_AI G a)) (dg_n G) = 51 := if_pos rfl
      omega
  have hv : (.ref T1.heap.size : Value) = dj_v E (dg_n G) := by rw [hT1, dj_hs hP]; exact (dj_v_pos (by omega)).symm
  obtain ⟨t, b1, b2⟩ := kk H1 locs ls hP1 (dj_Sp hS (by omega) o1) hl ((T1.setVm vm').pushCell (vp_cell (dj_dA E 1) (dg_L G a, .inl (dg_AI G a)))) (by rw [← hH1, ← hT1]; rfl) X'
  refine ⟨t, st' t ?_, b2⟩
  rw [hcellE, hv]
  exact b1
end
