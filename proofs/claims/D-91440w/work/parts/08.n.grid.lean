set_option maxRecDepth 100000
/-! a grid of 12 rows of 12 numbers -/
def dw_row (cI : ClassId) : Cell := arrV cI 12 (fun _ => .int 0)
def dw_top (cO : ClassId) (h i : Nat) : Cell := arrV cO 12 (fun j => if j < i then .ref (h + 1 + j) else .null)
theorem dw_top_next (cO : ClassId) (h i : Nat) : (dw_top cO h i).setSlot i (.ref (h + 1 + i)) = dw_top cO h (i + 1) := by
  unfold dw_top
  rw [arrV_store]
  congr 1
  funext j
  unfold updV
  by_cases e : j = i
  · subst e
    rw [if_pos rfl, if_pos (Nat.lt_succ_self j)]
  · rw [if_neg e]
    show (if j < i then Value.ref (h + 1 + j) else Value.null) = _
    by_cases hj : j < i
    · rw [if_pos hj, if_pos (by omega)]
    · rw [if_neg hj, if_neg (by omega)]
/-- after i rows -/
def dw_S (s : State) (cO cI : ClassId) : Nat → State
  | 0 => s.pushCell (dw_top cO s.heap.size 0)
  | i + 1 => ((dw_S s cO cI i).pushCell (dw_row cI)).setCell s.heap.size (dw_top cO s.heap.size (i + 1))
theorem dw_at (s : State) (cO cI : ClassId) (i : Nat) : (dw_S s cO cI i).heap.size = s.heap.size + 1 + i ∧ (dw_S s cO cI i).heap[s.heap.size]? = some (dw_top cO s.heap.size i) ∧ (dw_S s cO cI i).vm = s.vm ∧ (dw_S s cO cI i).slotsUsed = s.slotsUsed + 12 + 12 * i
    ∧ (∀ q, q < s.heap.size → (dw_S s cO cI i).heap[q]? = s.heap[q]?) ∧ ∀ j, j < i → (dw_S s cO cI i).heap[s.heap.size + 1 + j]? = some (dw_row cI) := by
  induction i with
  | zero =>
    refine ⟨by simp [dw_S, State.pushCell], by simp [dw_S, State.pushCell], rfl, ?_, fun q hq => ?_, fun j hj => absurd hj (Nat.not_lt_zero _)⟩
    · show s.slotsUsed + (dw_top cO s.heap.size 0).slots.size = _
      unfold dw_top
      rw [arrV_size]
    · exact State.heap_pushCell_of_lt _ _ hq
  | succ i ih =>
    obtain ⟨h1, h2, h3, h4, h5, h6⟩ := ih
    have e0 : (dw_S s cO cI (i + 1)).heap = (((dw_S s cO cI i).pushCell (dw_row cI)).setCell s.heap.size (dw_top cO s.heap.size (i + 1))).heap := rfl
    have z0 : ((dw_S s cO cI i).pushCell (dw_row cI)).heap.size = s.heap.size + 1 + i + 1 := by
      show ((dw_S s cO cI i).heap.push (dw_row cI)).size = _
      rw [Array.size_push, h1]
    have zlt : s.heap.size < ((dw_S s cO cI i).pushCell (dw_row cI)).heap.size := by rw [z0]; omega
    refine ⟨by rw [e0, size_setCell, z0]; omega, by rw [e0]; exact heapAt_setCell_self _ zlt, h3, ?_, fun q hq => ?_, fun j hj => ?_⟩
    · show (dw_S s cO cI i).slotsUsed + (dw_row cI).slots.size = _
      unfold dw_row
      rw [arrV_size, h4]
      omega
    · have hn : s.heap.size ≠ q := by omega
      have hl : q < (dw_S s cO cI i).heap.size := by rw [h1]; omega
      rw [e0, heapAt_setCell_ne _ hn, State.heap_pushCell_of_lt _ _ hl]
      exact h5 q hq
    · have hn : s.heap.size ≠ s.heap.size + 1 + j := by omega
      rw [e0, heapAt_setCell_ne _ hn]
      by_cases hji : j < i
      · have hl : s.heap.size + 1 + j < (dw_S s cO cI i).heap.size := by rw [h1]; omega
        rw [State.heap_pushCell_of_lt _ _ hl]
        exact h6 j hji
      · rw [show s.heap.size + 1 + j = (dw_S s cO cI i).heap.size by rw [h1]; omega]
        exact State.heap_pushCell_size _ _
theorem dw_setTop (s : State) (f : JFrame) (cO cI : ClassId) (i : Nat) : dw_S (s.setTop f) cO cI i = (dw_S s cO cI i).setTop f := by
  induction i with
  | zero => rfl
  | succ i ih => simp only [dw_S, ih, State.heap_setTop, State.pushCell_setTop, State.setCell_setTop]
section
variable {E0 : CtlPost} {e : Env} {d : Bool} {acts : List Action} {s : State}
theorem dw_new {c comp : ClassId} {k : Class} {ty : FieldType} {init : Value} (hk : s.vm.classes[c]? = some k) (hkind : k.kind = .array comp ty) (hl : ¬ 12 > e.platform.arrayLengthLimit) (hb : ¬ 12 * componentBytes ty > e.platform.maxHeapBytes) (hfit : fits ty init = true) (hdef : init.isDefault = true) {Q : Addr → Pre}
    (h1 : s.heap.size < e.platform.maxCells) (h2 : s.slotsUsed + 12 ≤ e.platform.maxSlots) (hq : Q s.heap.size d acts (s.pushCell (arrV c 12 (fun _ => init)))) : wp (Jvm.newArray c 12 init) Q E0 e d acts s := by
  rw [← arrV_new] at hq
  have hfits : ∀ i v, (Array.replicate 12 init)[i]? = some v → s.fitsSlot c .none i v = true := by
    intro i v hv
    rw [Array.getElem?_replicate] at hv
    by_cases hi : i < 12
    · rw [if_pos hi] at hv
      cases hv
      simp [State.fitsSlot, State.slotType?, hk, hkind, hfit]
    · rw [if_neg hi] at hv
      cases hv
  have hact : allocActs (Array.replicate 12 init) s.heap.size acts = acts := by
    unfold allocActs
    rw [if_pos (by rw [Array.all_replicate]; simp [hdef])]
  simp only [Jvm.newArray, Jvm.arrayFits, wp_bind', W.ask, W.ite, hl, if_false, wp_pure', W.theClass, hk, hkind, hb, W.alloc, W.stop, Option.some.injEq, exists_eq_left', Array.size_replicate, hact]
  rw [if_neg (by omega)]
  exact ⟨h1, h2, hfits, hq⟩
theorem dw_n12 : Int32.toNatClampNeg 12 = 12 := by decide
theorem dw_make1 {c comp : ClassId} {k : Class} (hk : s.vm.classes[c]? = some k) (hkind : k.kind = .array comp .int) (hl : ¬ 12 > e.platform.arrayLengthLimit) (hb : ¬ 12 * componentBytes .int > e.platform.maxHeapBytes) {Q : Addr → Pre}
    (h1 : s.heap.size < e.platform.maxCells) (h2 : s.slotsUsed + 12 ≤ e.platform.maxSlots) (hq : Q s.heap.size d acts (s.pushCell (dw_row c))) : wp (multianewarray.make c [12]) Q E0 e d acts s := by
  have h0 : ¬ (12 : Int32) < 0 := by decide
  rw [multianewarray.make]
  simp only [wp_bind', W.ite, h0, if_false, wp_pure', W.theClass, hk, hkind, Option.some.injEq, exists_eq_left', dw_n12]
  exact dw_new hk hkind hl hb rfl rfl h1 h2 hq
theorem dw_make {c comp cc : ClassId} {k kc : Class} (hk : s.vm.classes[c]? = some k) (hkind : k.kind = .array comp (.array .int)) (hkc : s.vm.classes[comp]? = some kc) (hkindc : kc.kind = .array cc .int) (hl : ¬ 12 > e.platform.arrayLengthLimit) (hb : ¬ 12 * 4 > e.platform.maxHeapBytes)
    (hc : s.heap.size + 13 ≤ e.platform.maxCells) (hs : s.slotsUsed + 156 ≤ e.platform.maxSlots) {Q : Addr → Pre} (hq : ∀ d' acts', Q s.heap.size d' acts' (dw_S s c comp 12)) : wp (multianewarray.make c [12, 12]) Q E0 e d acts s := by
  have h0 : ¬ (12 : Int32) < 0 := by decide
  have hfind : ([(12 : Int32)].find? (· < 0)) = none := by decide
  rw [multianewarray.make]
  simp only [wp_bind', W.ite, h0, if_false, wp_pure', W.theClass, hk, hkind, Option.some.injEq, exists_eq_left', dw_n12]
  refine dw_new hk hkind hl hb rfl rfl (by omega) (by omega) ?_
  simp only [hfind]
  rw [ite_self, wp_bind', Std.Legacy.Range.forIn_eq_forIn_range']
  show wp (forIn (List.range' 0 12 1) PUnit.unit _) _ E0 e d acts _
  have start : s.pushCell (arrV c 12 (fun _ => Value.null)) = dw_S s c comp 0 := by
    show _ = s.pushCell (dw_top c s.heap.size 0)
    unfold dw_top
    congr 2
  rw [start]
  refine wp_forIn_inv (fun rest s' => ∃ i, i ≤ 12 ∧ rest = List.range' i (12 - i) ∧ s' = dw_S s c comp i) _ _ ⟨0, Nat.zero_le _, rfl, rfl⟩ ?_ ?_
  · rintro x rest s' d' acts' Q' ⟨i, hi, hl', rfl⟩ hnext
    have hlt : i < 12 := by
      rcases Nat.lt_or_ge i 12 with h | h
      · exact h
      · rw [show 12 - i = 0 by omega] at hl'
        cases hl'
    obtain ⟨rfl, hrest⟩ : x = i ∧ rest = List.range' (i + 1) (12 - (i + 1)) := by
      rw [show 12 - i = (12 - (i + 1)) + 1 by omega, List.range'_succ] at hl'
      exact ⟨(List.cons.inj hl').1, (List.cons.inj hl').2⟩
    obtain ⟨f1, f2, f3, f4, f5, f6⟩ := dw_at s c comp x
    simp only [wp_bind']
    refine dw_make1 (by rw [f3]; exact hkc) hkindc hl hb (by rw [f1]; omega) (by rw [f4]; omega) ?_
    simp only [wp_bind', W.writeLoc, wp_pure']
    have hlo : s.heap.size < (dw_S s c comp x).heap.size := by rw [f1]; omega
    refine ⟨dw_top c s.heap.size x, by rw [State.heap_pushCell_of_lt _ _ hlo]; exact f2, by unfold dw_top arrV; simp, by unfold dw_top; rw [arrV_size]; exact hlt, ?_, hnext _ _ _ ⟨x + 1, hlt, hrest, ?_⟩⟩
    · show State.fitsSlot _ c .none x _ = true
      have hkk : (dw_S s c comp x).vm.classes[c]? = some k := by rw [f3]; exact hk
      simp [State.fitsSlot, State.slotType?, hkk, hkind, fits]
    · rw [f1, dw_top_next]
      rfl
  · rintro s' d' acts' ⟨i, hi, hl', rfl⟩
    have hi12 : i = 12 := by
      rcases Nat.lt_or_ge i 12 with h | h
      · rw [show 12 - i = (12 - (i + 1)) + 1 by omega, List.range'_succ] at hl'
        cases hl'
      · omega
    subst hi12
    simp only [wp_pure']
    exact hq _ _
end
section
variable {p : Program} {l : Launch} {e : Env} {R : Room} {s : State} {m : MethodId} {args : Array Value} {below : List Frame} {meth : Method} {c : Code} {T : State} {locs : List Loc} {cells slots : Nat}
theorem dw_stand (X : Stand p l e R s m args below meth c T locs cells slots) (cO cI : ClassId) (i : Nat) : Stand p l e R s m args below meth c (dw_S T cO cI i) (locs ++ (List.range i).map fun j => ⟨T.heap.size, j⟩) (cells + 1 + i) (slots + 12 + 12 * i) := by
  induction i with
  | zero =>
    have h := X.pushed (dw_top cO T.heap.size 0)
    rw [show (dw_top cO T.heap.size 0).slots.size = 12 from by unfold dw_top; rw [arrV_size]] at h
    rw [List.range_zero, List.map_nil, List.append_nil]
    exact h
  | succ i ih =>
    obtain ⟨f1, f2, -⟩ := dw_at T cO cI i
    have hlo : T.heap.size < (dw_S T cO cI i).heap.size := by rw [f1]; omega
    have hc : ((dw_S T cO cI i).pushCell (dw_row cI)).heap[T.heap.size]? = some (dw_top cO T.heap.size i) := by rw [State.heap_pushCell_of_lt _ _ hlo]; exact f2
    have h := (ih.pushed (dw_row cI)).stored hc i (.ref (T.heap.size + 1 + i))
    rw [show (dw_row cI).slots.size = 12 from by unfold dw_row; rw [arrV_size], dw_top_next] at h
    rw [List.range_succ, List.map_append, ← List.append_assoc, show slots + 12 + 12 * (i + 1) = slots + 12 + 12 * i + 12 by omega]
    exact h
end
/-- the world with a grid more -/
theorem dg_grid_P {E : dj_E} {Mo : Option dm_M} {G : dg_G} {H H' : Heap} (hP : dj_P E Mo G H) (hz : H'.size = H.size + 13) (ho : ∀ q, q < H.size → H'[q]? = H[q]?) (ht : H'[H.size]? = some (dw_top (dj_dA E 6) H.size 12)) (hr : ∀ j, j < 12 → H'[H.size + 1 + j]? = some (dw_row (dj_dA E 0))) : dj_P E Mo (dg_grid G) H' := by
  have hs := dj_hs hP
  obtain ⟨p1, p2, p3, p4, p5, p6⟩ := hP
  have n0 : ∀ i, dg_n G ≤ i → dg_K G i = 0 := fun i hi => by
    by_cases h : dg_K G i = 0
    · exact h
    · have := (p4 _ h).2
      omega
  have lt : ∀ i, dg_K G i ≠ 0 → dj_ad E i < H.size := fun i hi => by
    have := p4 i hi
    rw [dj_ad_new this.1, p2]
    omega
  have kk : ∀ i, ¬ (dg_n G ≤ i ∧ i < dg_n G + 13) → dg_K (dg_grid G) i = dg_K G i := fun i hi => by
    show (if i = dg_n G then 56 else if dg_n G < i ∧ i < dg_n G + 13 then 50 else dg_K G i) = _
    rw [if_neg (by omega), if_neg (by omega)]
  have cc : ∀ i, ¬ (dg_n G ≤ i ∧ i < dg_n G + 13) → dg_cell E (dg_grid G) i = dg_cell E G i := fun i hi =>
    dg_cell_eq E (kk i hi) (if_neg hi) (fun _ => rfl) (fun _ => rfl) (funext fun _ => if_neg hi) (funext fun _ => if_neg (by omega)) (funext fun _ => if_neg (by omega))
  refine ⟨fun i e he => ?_, by show H'.size = dj_bs E + (dg_n G + 13 - 100); omega, by show 100 ≤ dg_n G + 13; omega, fun i hi => ?_, fun M hM => ?_, fun i hi => ?_⟩
  · by_cases hi : dg_n G ≤ i ∧ i < dg_n G + 13
    · by_cases h0 : i = dg_n G
      · subst h0
        have k1 : dg_K (dg_grid G) (dg_n G) = 56 := if_pos rfl
        have k2 : dg_L (dg_grid G) (dg_n G) = 12 := if_pos (by omega)
        have k3 : dg_AR (dg_grid G) (dg_n G) = fun i => if i < 12 then dg_n G + 1 + i else 0 := funext fun _ => if_pos rfl
        unfold dg_cell at he
        rw [k1, k2, k3, if_neg (by omega), if_neg (by omega), if_neg (by omega), if_neg (by omega)] at he
        cases he
        show H'[dj_ad E (dg_n G)]? = some (vp_cell _ _)
        rw [← hs, ht, vp_cell_q]
        unfold dw_top arrV
        congr 2
        apply Array.ext (by simp)
        intro j h1 h2
        have hj : j < 12 := by simpa using h1
        simp only [Array.getElem_ofFn]
        rw [if_pos hj, if_pos hj]
        unfold dj_o
        rw [if_neg (by omega)]
        show Value.ref _ = Value.ref _
        have e2 : H.size + 1 + j = dj_ad E (dg_n G + 1 + j) := by
          rw [dj_ad_new (by omega), hs, dj_ad_new p3]
          omega
        rw [e2]
      · have k1 : dg_K (dg_grid G) i = 50 := by
          show (if i = dg_n G then 56 else if dg_n G < i ∧ i < dg_n G + 13 then 50 else dg_K G i) = _
          rw [if_neg h0, if_pos (by omega)]
        have k2 : dg_L (dg_grid G) i = 12 := if_pos hi
        have k3 : dg_AI (dg_grid G) i = fun _ => 0 := funext fun _ => if_pos hi
        unfold dg_cell at he
        rw [k1, k2, k3, if_neg (by omega), if_neg (by omega), if_pos (by omega)] at he
        cases he
        show H'[dj_ad E i]? = some (vp_cell _ _)
        have := hr (i - dg_n G - 1) (by omega)
        rw [show H.size + 1 + (i - dg_n G - 1) = dj_ad E i by rw [hs, dj_ad_new p3, dj_ad_new (by omega)]; omega] at this
        rw [this, vp_cell_i]
        rfl
    · have hk := dg_cell_K he
      rw [kk i hi] at hk
      rw [cc i hi] at he
      exact (p1 i e he).kept (ho _ (lt i hk))
  · show 100 ≤ i ∧ i < dg_n G + 13
    by_cases h : dg_n G ≤ i ∧ i < dg_n G + 13
    · omega
    · rw [kk i h] at hi
      have := p4 i hi
      omega
  · obtain ⟨q1, q2, q3, q4⟩ := p5 M hM
    refine ⟨fun i hi => (q1 i hi).kept (ho _ ?_), fun i hi => ?_, q3, by show _ ≤ dg_n G + 13; omega⟩
    · show dj_am E + i < H.size
      unfold dj_am
      rw [p2]
      omega
    · rw [kk _ (by omega)]
      exact q2 i hi
  · by_cases h : dg_n G ≤ i ∧ i < dg_n G + 13
    · exfalso
      have hi : (if i = dg_n G then 56 else if dg_n G < i ∧ i < dg_n G + 13 then 50 else dg_K G i) = 20 := hi
      by_cases h0 : i = dg_n G
      · rw [if_pos h0] at hi; omega
      · rw [if_neg h0, if_pos (by omega)] at hi; omega
    · rw [kk i h] at hi
      rw [ho _ (lt i (by omega))]
      exact p6 i hi
section
variable {T : dg_T} {l : Launch} {E : dj_E} {Mo : Option dm_M} {G' : dg_G} {x : Nat ⊕ Option Value} {G G1 : dg_G} {pc : Nat} {lv : List (Nat × Value)} {st : List Value}
theorem g_grid {index : Nat} (hw : Cond.classLink (dt_o T) index "[[I" ∈ lw_all) (hd : decode (dt_c T) pc = .ok (.multianewarray index 2, 4)) (kk : dgW T l E Mo G' x (dg_grid G) (pc + 4) lv (dj_v E (dg_n G) :: st)) : dgW T l E Mo G' x G pc lv (.int 12 :: .int 12 :: st) := by
  refine dg_m (a := 13) (b := 156) (G1 := dg_grid G) rfl rfl (fun C Q mc ms k n hC hK hk hn _ _ kk H locs ls hP hS hl Wt hT X => ?_) kk
  have h100 := hP.2.2.1
  have hts := hC.2.2.2.2.1
  have hpl : (dh_e C).platform.magicAccessors = ({} : Platform).magicAccessors := by rw [X.admits.platform]
  obtain ⟨-, -, -, kA, hkA, hkindA⟩ := hK.2.2.2.2.2.2.2.1
  have hA6 : (dh_s C).vm.findClass "[[I" = some (dj_dA E 6) := (hK.1.2 6 _ rfl).2
  obtain ⟨comp', kC, cc, hcomp', hkC, hkindC⟩ := Cond.arrayClass_spec (hts _ q215)
  have hA0 : (dh_s C).vm.findClass "[I" = some (dj_dA E 0) := (hK.1.2 0 _ rfl).2
  obtain rfl : comp' = dj_dA E 0 := Option.some.inj (hcomp'.symm.trans hA0)
  obtain ⟨c0, hfc0, hcl⟩ := Cond.classLink_spec hC.2.2.2.1 (hts _ hw) (dh_e C).platform hpl
  cases Option.some.inj (hA6.symm.trans hfc0)
  obtain ⟨hg₁, hwarm₁, hready₁⟩ := State.classEntry (e := dh_e C) X.warmed hcl
  generalize Wt.vm.noted (dh_m C).cls index (.cls (dj_dA E 6)) = vm₁ at hg₁ hwarm₁ hready₁
  have hal : (dh_s C).vm.Alike vm₁ := hwarm₁.alike
  obtain ⟨kA₁, hkA₁, heA⟩ := hal.2.2 _ _ hkA
  obtain ⟨kC₁, hkC₁, heC⟩ := hal.2.2 _ _ hkC
  have hkindA₁ : kA₁.kind = .array (dj_dA E 0) (.array .int) := by rw [heA]; exact hkindA
  have hkindC₁ : kC₁.kind = .array cc .int := by rw [heC]; exact hkindC
  have X₁ := X.noted hwarm₁
  obtain ⟨hr1, hr2⟩ := X.roomAbove hk hn
  have XF := dw_stand X₁ (dj_dA E 6) (dj_dA E 0) 12
  obtain ⟨f1, f2, f3, f4, f5, f6⟩ := dw_at (Wt.setVm vm₁) (dj_dA E 6) (dj_dA E 0) 12
  have eh : (Wt.setVm vm₁).heap = H := hT
  have es : (Wt.setVm vm₁).slotsUsed = Wt.slotsUsed := rfl
  rw [eh] at f1 f2 f5 f6
  have hv : dj_v E (dg_n G) = .ref H.size := by rw [dj_hs hP]; exact dj_v_pos (by omega)
  rw [hv] at kk
  have hz1 : (dw_S (Wt.setVm vm₁) (dj_dA E 6) (dj_dA E 0) 12).heap.size = H.size + 13 := by rw [f1]
  obtain ⟨t2, a1, b1⟩ := kk (dw_S (Wt.setVm vm₁) (dj_dA E 6) (dj_dA E 0) 12).heap (locs ++ (List.range 12).map fun j => ⟨(Wt.setVm vm₁).heap.size, j⟩) ls (dg_grid_P hP hz1 f5 f2 f6)
    ⟨by rw [hz1]; exact Nat.le_trans hS.1 (Nat.le_add_right _ _), fun q h1 h2 => by rw [f5 q (Nat.lt_of_lt_of_le h1 hS.1)]; exact hS.2.1 q h1 h2, fun q hq => by
      rcases List.mem_append.mp hq with h | h
      · exact hS.2.2 q h
      · obtain ⟨j, -, rfl⟩ := List.mem_map.mp h
        show dj_bs E ≤ (Wt.setVm vm₁).heap.size
        rw [eh, hP.2.1]
        exact Nat.le_add_right _ _⟩ hl _ rfl XF
  refine ⟨t2, ?_, b1⟩
  have hl1 : ¬ 12 > (dh_e C).platform.arrayLengthLimit := by rw [Launch.admits_arrayLengthLimit X.admits]; omega
  have hh1 : ¬ 12 * 4 > (dh_e C).platform.maxHeapBytes := by rw [Launch.admits_maxHeapBytes X.admits]; omega
  have hstk : (F0 (dh_m C) pc ls (.int 12 :: .int 12 :: st)).stack = .int 12 :: .int 12 :: st := rfl
  have hdd : decode (dh_c C).code pc = .ok (.multianewarray index 2, 4) := by rw [hC.2.1]; exact hd
  have hexec := hC.1
  generalize hgf : F0 (dh_m C) pc ls (.int 12 :: .int 12 :: st) = g at hstk
  have hgm : g.method = dh_m C := by rw [← hgf]
  have hgp : g.pc = pc := by rw [← hgf]
  have hdg : decode (dh_c C).code g.pc = .ok (.multianewarray index 2, 4) := by rw [hgp]; exact hdd
  rw [← hgm] at hg₁
  have hX : At Wt g.method (dh_c C) (dh_b C) := by rw [hgm]; exact X.here
  jvm_step hX [hexec, hdg]
  simp only [multianewarray.sem, wp_bind', W.resolveClassAt_links (State.method?_setTop g X.here.top) hg₁]
  rw [W.popN, if_neg (by decide)]
  refine ⟨g, State.topJava?_setTop' (s := Wt.setVm vm₁) g X.here.top, [.int 12, .int 12], st, rfl, hstk, ?_⟩
  simp only [List.mapM_cons, List.mapM_nil, wp_bind', wp_pure']
  refine dw_make (k := kA₁) (kc := kC₁) (comp := dj_dA E 0) (cc := cc) hkA₁ hkindA₁ hkC₁ hkindC₁ hl1 hh1 (by show Wt.heap.size + 13 ≤ _; omega) (by show Wt.slotsUsed + 156 ≤ _; omega) (fun d' acts' => ?_)
  have eS : ((Wt.setTop g).setVm vm₁).setTop { g with stack := st } = (Wt.setVm vm₁).setTop { g with stack := st } := by
    show ((Wt.setVm vm₁).setTop g).setTop _ = _
    rw [State.setTop_setTop]
  rw [eS, dw_setTop]
  simp only [wp_bind', W.mark, W.pushRef, State.topJava?_setTop' _ XF.here.top, Option.some.injEq, exists_eq_left', State.setTop_setTop, State.heap_setTop]
  intro acts
  simp [jvm, XF.here.top]
  rw [← hgf, hT]
  exact a1
end
