/-! Walks with the heap hidden: dh_W says that from pc, with these locals and this stack, over every heap of the kind P, the method ends as Q says -/
abbrev dh_C : Type := Program × Launch × Env × Room × State × MethodId × Array Value × List Frame × Method × Code
abbrev dh_p (C : dh_C) : Program := C.1
abbrev dh_l (C : dh_C) : Launch := C.2.1
abbrev dh_e (C : dh_C) : Env := C.2.2.1
abbrev dh_R (C : dh_C) : Room := C.2.2.2.1
abbrev dh_s (C : dh_C) : State := C.2.2.2.2.1
abbrev dh_m (C : dh_C) : MethodId := C.2.2.2.2.2.1
abbrev dh_a (C : dh_C) : Array Value := C.2.2.2.2.2.2.1
abbrev dh_b (C : dh_C) : List Frame := C.2.2.2.2.2.2.2.1
abbrev dh_t (C : dh_C) : Method := C.2.2.2.2.2.2.2.2.1
abbrev dh_c (C : dh_C) : Code := C.2.2.2.2.2.2.2.2.2
def dh_X (C : dh_C) (H : Heap) (locs : List Loc) (k n : Nat) (Q : State → Prop) (g : JFrame) : Prop :=
  W (dh_p C) (dh_l C) (dh_e C) (dh_R C) (dh_s C) (dh_m C) (dh_a C) (dh_b C) (dh_t C) (dh_c C) H locs k n Q g
/-- the end: returned or threw, as Q says; what was made and written -/
def dh_E (C : dh_C) (A : Nat → Prop) (Q : Outcome → Heap → Prop) (mc ms : Nat) : State → Prop := fun t =>
  ∃ o, t.status = .running ∧ Ended t (dh_b C) o ∧ (Q o t.heap ∧ va_F A (dh_s C) t) ∧ ∃ L, ((dh_s C).WarmedH t.vm ∧ (dh_s C).sameButNew ({ t with vm := (dh_s C).vm } : State) L mc ms) ∧ ∀ q ∈ L, A q.base
def dh_W (C : dh_C) (A : Nat → Prop) (P : Heap → Prop) (Q : Outcome → Heap → Prop) (mc ms k n pc : Nat) (lv : List (Nat × Value)) (st : List Value) : Prop :=
  ∀ (H : Heap) (locs : List Loc) (ls : Array Slot), P H → va_S A (dh_s C).heap H locs → lv_has ls (dh_c C).maxLocals lv → dh_X C H locs k n (dh_E C A Q mc ms) (F0 (dh_m C) pc ls st)
/-- what stays: the machine, the code cc with nL locals, of the kind own, its answer rt, the words -/
def dh_ok (C : dh_C) (cc : ByteArray) (nL : Nat) (own : String) (rt : Option FieldType) : Prop :=
  (dh_p C).tables.exec = Jvm.exec ∧ (dh_c C).code = cc ∧ (dh_c C).maxLocals = nL ∧ (dh_s C).vm.findClass own = some (dh_m C).cls ∧ (∀ w ∈ lw_all, w.before (dh_a C) (dh_s C) = true) ∧ (dh_t C).sig.returnType = rt ∧ (dh_t C).locks = false
theorem dh_wk {p : Program} {l : Launch} {e : Env} {R : Room} {s : State} {m : MethodId} {args : Array Value} {below : List Frame} {meth : Method} {c : Code} {H : Heap} {locs : List Loc} {cells slots : Nat} {Q Q' : State → Prop} {g : JFrame} (h : ∀ t, Q t → Q' t) (k : W p l e R s m args below meth c H locs cells slots Q g) : W p l e R s m args below meth c H locs cells slots Q' g := fun T hT X => by
  obtain ⟨t, a, b⟩ := k T hT X
  exact ⟨t, a, h t b⟩
theorem dh_MQE {C : dh_C} {A : Nat → Prop} {Q : Outcome → Heap → Prop} {mc ms : Nat} (t : State) (h : MQ (dh_b C) (fun _ st o t => Q o t.heap ∧ va_F A st t) (dh_a C) (dh_s C) mc ms A t) : dh_E C A Q mc ms t := by
  obtain ⟨o, h1, h2, h3, L, h4, h5⟩ := h
  exact ⟨o, h1, h2, h3, L, h4.2, h5⟩
theorem dh_if {α : Type} {c : Prop} [Decidable c] {a b x : α} (h : (if c then a else b) = x) (hc : c) : a = x := by rw [if_pos hc] at h; exact h
theorem dh_el {α : Type} {c : Prop} [Decidable c] {a b x : α} (h : (if c then a else b) = x) (hc : ¬ c) : b = x := by rw [if_neg hc] at h; exact h
theorem dh_bd {α β : Type} {x : Option α} {f : α → Option β} {y : β} (h : x.bind f = some y) : ∃ z, x = some z ∧ f z = some y := by
  cases x with
  | none => cases h
  | some z => exact ⟨z, rfl, h⟩
theorem dh_no {α : Type} {y : α} {P : Prop} (h : (none : Option α) = some y) : P := by cases h
section
variable {C : dh_C} {A : Nat → Prop} {P : Heap → Prop} {Q : Outcome → Heap → Prop} {mc ms k n pc nL : Nat} {lv : List (Nat × Value)} {st : List Value} {cc : ByteArray} {own : String} {rt : Option FieldType}
theorem r_iconst (hC : dh_ok C cc nL own rt) {z : Int} {v : Int32} (hd : decode cc pc = .ok (.iconst z, 1)) (hv : Int32.ofInt z = v)
    (kk : dh_W C A P Q mc ms k n (pc + 1) lv (.int v :: st)) : dh_W C A P Q mc ms k n pc lv (st) := fun H locs ls hP hS hl => lv_iconst hC.1 hC.2.1 hd hv (kk H locs ls hP hS hl)
theorem r_bipush (hC : dh_ok C cc nL own rt) {z : Int} {v : Int32} (hd : decode cc pc = .ok (.bipush z, 2)) (hv : (Int8.ofInt z).toInt32 = v)
    (kk : dh_W C A P Q mc ms k n (pc + 2) lv (.int v :: st)) : dh_W C A P Q mc ms k n pc lv (st) := fun H locs ls hP hS hl => lv_bipush hC.1 hC.2.1 hd hv (kk H locs ls hP hS hl)
theorem r_sipush (hC : dh_ok C cc nL own rt) {z : Int} {v : Int32} (hd : decode cc pc = .ok (.sipush z, 3)) (hv : (Int16.ofInt z).toInt32 = v)
    (kk : dh_W C A P Q mc ms k n (pc + 3) lv (.int v :: st)) : dh_W C A P Q mc ms k n pc lv (st) := fun H locs ls hP hS hl => lv_sipush hC.1 hC.2.1 hd hv (kk H locs ls hP hS hl)
theorem r_lconst (hC : dh_ok C cc nL own rt) {z : Fin 2} {v : Int64} (hd : decode cc pc = .ok (.lconst z, 1)) (hv : Int64.ofNat (z : Nat) = v)
    (kk : dh_W C A P Q mc ms k n (pc + 1) lv (.long v :: st)) : dh_W C A P Q mc ms k n pc lv (st) := fun H locs ls hP hS hl => lv_lconst hC.1 hC.2.1 hd hv (kk H locs ls hP hS hl)
theorem r_iload_n (hC : dh_ok C cc nL own rt) {f : Fin 4} {i j : Nat} {x : Int32} (hd : decode cc pc = .ok (.iload_n f, 1)) (hi : (f : Nat) = i) (hj : lv[j]? = some (i, .int x))
    (kk : dh_W C A P Q mc ms k n (pc + 1) lv (.int x :: st)) : dh_W C A P Q mc ms k n pc lv (st) := fun H locs ls hP hS hl => lv_iload_n hC.1 hC.2.1 hd hi (lv_at hl j hj) (kk H locs ls hP hS hl)
theorem r_iload (hC : dh_ok C cc nL own rt) {i j : Nat} {x : Int32} (hd : decode cc pc = .ok (.iload i, 2)) (hj : lv[j]? = some (i, .int x))
    (kk : dh_W C A P Q mc ms k n (pc + 2) lv (.int x :: st)) : dh_W C A P Q mc ms k n pc lv (st) := fun H locs ls hP hS hl => lv_iload hC.1 hC.2.1 hd (lv_at hl j hj) (kk H locs ls hP hS hl)
theorem r_lload_n (hC : dh_ok C cc nL own rt) {f : Fin 4} {i j : Nat} {x : Int64} (hd : decode cc pc = .ok (.lload_n f, 1)) (hi : (f : Nat) = i) (hj : lv[j]? = some (i, .long x))
    (kk : dh_W C A P Q mc ms k n (pc + 1) lv (.long x :: st)) : dh_W C A P Q mc ms k n pc lv (st) := fun H locs ls hP hS hl => lv_lload_n hC.1 hC.2.1 hd hi (lv_at hl j hj) (kk H locs ls hP hS hl)
theorem r_lload (hC : dh_ok C cc nL own rt) {i j : Nat} {x : Int64} (hd : decode cc pc = .ok (.lload i, 2)) (hj : lv[j]? = some (i, .long x))
    (kk : dh_W C A P Q mc ms k n (pc + 2) lv (.long x :: st)) : dh_W C A P Q mc ms k n pc lv (st) := fun H locs ls hP hS hl => lv_lload hC.1 hC.2.1 hd (lv_at hl j hj) (kk H locs ls hP hS hl)
theorem r_aload_n (hC : dh_ok C cc nL own rt) {f : Fin 4} {i j : Nat} {x : Nat} (hd : decode cc pc = .ok (.aload_n f, 1)) (hi : (f : Nat) = i) (hj : lv[j]? = some (i, .ref x))
    (kk : dh_W C A P Q mc ms k n (pc + 1) lv (.ref x :: st)) : dh_W C A P Q mc ms k n pc lv (st) := fun H locs ls hP hS hl => lv_aload_n hC.1 hC.2.1 hd hi (lv_at hl j hj) (kk H locs ls hP hS hl)
theorem r_aload (hC : dh_ok C cc nL own rt) {i j : Nat} {x : Nat} (hd : decode cc pc = .ok (.aload i, 2)) (hj : lv[j]? = some (i, .ref x))
    (kk : dh_W C A P Q mc ms k n (pc + 2) lv (.ref x :: st)) : dh_W C A P Q mc ms k n pc lv (st) := fun H locs ls hP hS hl => lv_aload hC.1 hC.2.1 hd (lv_at hl j hj) (kk H locs ls hP hS hl)
theorem r_istore_n (hC : dh_ok C cc nL own rt) {f : Fin 4} {i : Nat} {x : Int32} {lv' : List (Nat × Value)} (hd : decode cc pc = .ok (.istore_n f, 1)) (hi : (f : Nat) = i) (hn : i < nL) (hl' : (i, Value.int x) :: lv.filter (fun q => !(q.1 == i) && !(q.1 + 1 == i && q.2.category == 2)) = lv')
    (kk : dh_W C A P Q mc ms k n (pc + 1) lv' st) : dh_W C A P Q mc ms k n pc lv (.int x :: st) := fun H locs ls hP hS hl => lv_istore_n hC.1 hC.2.1 hd hi hl (by rw [hC.2.2.1]; exact hn) hl' (fun ls' h' => kk H locs ls' hP hS h')
theorem r_istore (hC : dh_ok C cc nL own rt) {i : Nat} {x : Int32} {lv' : List (Nat × Value)} (hd : decode cc pc = .ok (.istore i, 2)) (hn : i < nL) (hl' : (i, Value.int x) :: lv.filter (fun q => !(q.1 == i) && !(q.1 + 1 == i && q.2.category == 2)) = lv')
    (kk : dh_W C A P Q mc ms k n (pc + 2) lv' st) : dh_W C A P Q mc ms k n pc lv (.int x :: st) := fun H locs ls hP hS hl => lv_istore hC.1 hC.2.1 hd hl (by rw [hC.2.2.1]; exact hn) hl' (fun ls' h' => kk H locs ls' hP hS h')
theorem r_astore_n (hC : dh_ok C cc nL own rt) {f : Fin 4} {i : Nat} {x : Nat} {lv' : List (Nat × Value)} (hd : decode cc pc = .ok (.astore_n f, 1)) (hi : (f : Nat) = i) (hn : i < nL) (hl' : (i, Value.ref x) :: lv.filter (fun q => !(q.1 == i) && !(q.1 + 1 == i && q.2.category == 2)) = lv')
    (kk : dh_W C A P Q mc ms k n (pc + 1) lv' st) : dh_W C A P Q mc ms k n pc lv (.ref x :: st) := fun H locs ls hP hS hl => lv_astore_n hC.1 hC.2.1 hd hi hl (by rw [hC.2.2.1]; exact hn) hl' (fun ls' h' => kk H locs ls' hP hS h')
theorem r_astore (hC : dh_ok C cc nL own rt) {i : Nat} {x : Nat} {lv' : List (Nat × Value)} (hd : decode cc pc = .ok (.astore i, 2)) (hn : i < nL) (hl' : (i, Value.ref x) :: lv.filter (fun q => !(q.1 == i) && !(q.1 + 1 == i && q.2.category == 2)) = lv')
    (kk : dh_W C A P Q mc ms k n (pc + 2) lv' st) : dh_W C A P Q mc ms k n pc lv (.ref x :: st) := fun H locs ls hP hS hl => lv_astore hC.1 hC.2.1 hd hl (by rw [hC.2.2.1]; exact hn) hl' (fun ls' h' => kk H locs ls' hP hS h')
theorem r_lstore_n (hC : dh_ok C cc nL own rt) {f : Fin 4} {i : Nat} {x : Int64} {lv' : List (Nat × Value)} (hd : decode cc pc = .ok (.lstore_n f, 1)) (hi : (f : Nat) = i) (hn : i + 1 < nL) (hl' : (i, Value.long x) :: lv.filter (fun q => !(q.1 == i) && (!(q.1 == i + 1) && !(q.1 + 1 == i && q.2.category == 2))) = lv')
    (kk : dh_W C A P Q mc ms k n (pc + 1) lv' st) : dh_W C A P Q mc ms k n pc lv (.long x :: st) := fun H locs ls hP hS hl => lv_lstore_n hC.1 hC.2.1 hd hi hl (by rw [hC.2.2.1]; exact hn) hl' (fun ls' h' => kk H locs ls' hP hS h')
theorem r_lstore (hC : dh_ok C cc nL own rt) {i : Nat} {x : Int64} {lv' : List (Nat × Value)} (hd : decode cc pc = .ok (.lstore i, 2)) (hn : i + 1 < nL) (hl' : (i, Value.long x) :: lv.filter (fun q => !(q.1 == i) && (!(q.1 == i + 1) && !(q.1 + 1 == i && q.2.category == 2))) = lv')
    (kk : dh_W C A P Q mc ms k n (pc + 2) lv' st) : dh_W C A P Q mc ms k n pc lv (.long x :: st) := fun H locs ls hP hS hl => lv_lstore hC.1 hC.2.1 hd hl (by rw [hC.2.2.1]; exact hn) hl' (fun ls' h' => kk H locs ls' hP hS h')
theorem r_iinc (hC : dh_ok C cc nL own rt) {i j : Nat} {z : Int} {x v : Int32} {lv' : List (Nat × Value)} (hd : decode cc pc = .ok (.iinc i z, 3)) (hj : lv[j]? = some (i, .int x)) (hv : x + Int32.ofInt z = v) (hn : i < nL) (hl' : (i, Value.int v) :: lv.filter (fun q => !(q.1 == i) && !(q.1 + 1 == i && q.2.category == 2)) = lv')
    (kk : dh_W C A P Q mc ms k n (pc + 3) lv' st) : dh_W C A P Q mc ms k n pc lv st := fun H locs ls hP hS hl => lv_iinc hC.1 hC.2.1 hd hl hj hv (by rw [hC.2.2.1]; exact hn) hl' (fun ls' h' => kk H locs ls' hP hS h')
theorem r_iadd (hC : dh_ok C cc nL own rt) {x y : Int32} (hd : decode cc pc = .ok (.iadd, 1))
    (kk : dh_W C A P Q mc ms k n (pc + 1) lv (.int (x + y) :: st)) : dh_W C A P Q mc ms k n pc lv (.int y :: .int x :: st) := fun H locs ls hP hS hl => lv_iadd hC.1 hC.2.1 hd (kk H locs ls hP hS hl)
theorem r_isub (hC : dh_ok C cc nL own rt) {x y : Int32} (hd : decode cc pc = .ok (.isub, 1))
    (kk : dh_W C A P Q mc ms k n (pc + 1) lv (.int (x - y) :: st)) : dh_W C A P Q mc ms k n pc lv (.int y :: .int x :: st) := fun H locs ls hP hS hl => lv_isub hC.1 hC.2.1 hd (kk H locs ls hP hS hl)
theorem r_imul (hC : dh_ok C cc nL own rt) {x y : Int32} (hd : decode cc pc = .ok (.imul, 1))
    (kk : dh_W C A P Q mc ms k n (pc + 1) lv (.int (x * y) :: st)) : dh_W C A P Q mc ms k n pc lv (.int y :: .int x :: st) := fun H locs ls hP hS hl => lv_imul hC.1 hC.2.1 hd (kk H locs ls hP hS hl)
theorem r_iand (hC : dh_ok C cc nL own rt) {x y : Int32} (hd : decode cc pc = .ok (.iand, 1))
    (kk : dh_W C A P Q mc ms k n (pc + 1) lv (.int (x &&& y) :: st)) : dh_W C A P Q mc ms k n pc lv (.int y :: .int x :: st) := fun H locs ls hP hS hl => lv_iand hC.1 hC.2.1 hd (kk H locs ls hP hS hl)
theorem r_ior (hC : dh_ok C cc nL own rt) {x y : Int32} (hd : decode cc pc = .ok (.ior, 1))
    (kk : dh_W C A P Q mc ms k n (pc + 1) lv (.int (x ||| y) :: st)) : dh_W C A P Q mc ms k n pc lv (.int y :: .int x :: st) := fun H locs ls hP hS hl => lv_ior hC.1 hC.2.1 hd (kk H locs ls hP hS hl)
theorem r_ixor (hC : dh_ok C cc nL own rt) {x y : Int32} (hd : decode cc pc = .ok (.ixor, 1))
    (kk : dh_W C A P Q mc ms k n (pc + 1) lv (.int (x ^^^ y) :: st)) : dh_W C A P Q mc ms k n pc lv (.int y :: .int x :: st) := fun H locs ls hP hS hl => lv_ixor hC.1 hC.2.1 hd (kk H locs ls hP hS hl)
theorem r_ishl (hC : dh_ok C cc nL own rt) {x y : Int32} (hd : decode cc pc = .ok (.ishl, 1))
    (kk : dh_W C A P Q mc ms k n (pc + 1) lv (.int (x <<< (y &&& 31)) :: st)) : dh_W C A P Q mc ms k n pc lv (.int y :: .int x :: st) := fun H locs ls hP hS hl => lv_ishl hC.1 hC.2.1 hd (kk H locs ls hP hS hl)
theorem r_ishr (hC : dh_ok C cc nL own rt) {x y : Int32} (hd : decode cc pc = .ok (.ishr, 1))
    (kk : dh_W C A P Q mc ms k n (pc + 1) lv (.int (x >>> (y &&& 31)) :: st)) : dh_W C A P Q mc ms k n pc lv (.int y :: .int x :: st) := fun H locs ls hP hS hl => lv_ishr hC.1 hC.2.1 hd (kk H locs ls hP hS hl)
theorem r_idiv (hC : dh_ok C cc nL own rt) {x y : Int32} (hd : decode cc pc = .ok (.idiv, 1)) (hne : ¬ y = 0)
    (kk : dh_W C A P Q mc ms k n (pc + 1) lv (.int (x / y) :: st)) : dh_W C A P Q mc ms k n pc lv (.int y :: .int x :: st) := fun H locs ls hP hS hl => lv_idiv hC.1 hC.2.1 hd hne (kk H locs ls hP hS hl)
theorem r_irem (hC : dh_ok C cc nL own rt) {x y : Int32} (hd : decode cc pc = .ok (.irem, 1)) (hne : ¬ y = 0)
    (kk : dh_W C A P Q mc ms k n (pc + 1) lv (.int (x - x / y * y) :: st)) : dh_W C A P Q mc ms k n pc lv (.int y :: .int x :: st) := fun H locs ls hP hS hl => lv_irem hC.1 hC.2.1 hd hne (kk H locs ls hP hS hl)
theorem r_ineg (hC : dh_ok C cc nL own rt) {x : Int32} (hd : decode cc pc = .ok (.ineg, 1))
    (kk : dh_W C A P Q mc ms k n (pc + 1) lv (.int (-x) :: st)) : dh_W C A P Q mc ms k n pc lv (.int x :: st) := fun H locs ls hP hS hl => lv_ineg hC.1 hC.2.1 hd (kk H locs ls hP hS hl)
theorem r_ladd (hC : dh_ok C cc nL own rt) {x y : Int64} (hd : decode cc pc = .ok (.ladd, 1))
    (kk : dh_W C A P Q mc ms k n (pc + 1) lv (.long (x + y) :: st)) : dh_W C A P Q mc ms k n pc lv (.long y :: .long x :: st) := fun H locs ls hP hS hl => lv_ladd hC.1 hC.2.1 hd (kk H locs ls hP hS hl)
theorem r_lsub (hC : dh_ok C cc nL own rt) {x y : Int64} (hd : decode cc pc = .ok (.lsub, 1))
    (kk : dh_W C A P Q mc ms k n (pc + 1) lv (.long (x - y) :: st)) : dh_W C A P Q mc ms k n pc lv (.long y :: .long x :: st) := fun H locs ls hP hS hl => lv_lsub hC.1 hC.2.1 hd (kk H locs ls hP hS hl)
theorem r_lmul (hC : dh_ok C cc nL own rt) {x y : Int64} (hd : decode cc pc = .ok (.lmul, 1))
    (kk : dh_W C A P Q mc ms k n (pc + 1) lv (.long (x * y) :: st)) : dh_W C A P Q mc ms k n pc lv (.long y :: .long x :: st) := fun H locs ls hP hS hl => lv_lmul hC.1 hC.2.1 hd (kk H locs ls hP hS hl)
theorem r_land (hC : dh_ok C cc nL own rt) {x y : Int64} (hd : decode cc pc = .ok (.land, 1))
    (kk : dh_W C A P Q mc ms k n (pc + 1) lv (.long (x &&& y) :: st)) : dh_W C A P Q mc ms k n pc lv (.long y :: .long x :: st) := fun H locs ls hP hS hl => lv_land hC.1 hC.2.1 hd (kk H locs ls hP hS hl)
theorem r_lor (hC : dh_ok C cc nL own rt) {x y : Int64} (hd : decode cc pc = .ok (.lor, 1))
    (kk : dh_W C A P Q mc ms k n (pc + 1) lv (.long (x ||| y) :: st)) : dh_W C A P Q mc ms k n pc lv (.long y :: .long x :: st) := fun H locs ls hP hS hl => lv_lor hC.1 hC.2.1 hd (kk H locs ls hP hS hl)
theorem r_lxor (hC : dh_ok C cc nL own rt) {x y : Int64} (hd : decode cc pc = .ok (.lxor, 1))
    (kk : dh_W C A P Q mc ms k n (pc + 1) lv (.long (x ^^^ y) :: st)) : dh_W C A P Q mc ms k n pc lv (.long y :: .long x :: st) := fun H locs ls hP hS hl => lv_lxor hC.1 hC.2.1 hd (kk H locs ls hP hS hl)
theorem r_ldiv (hC : dh_ok C cc nL own rt) {x y : Int64} (hd : decode cc pc = .ok (.ldiv, 1)) (hne : ¬ y = 0)
    (kk : dh_W C A P Q mc ms k n (pc + 1) lv (.long (x / y) :: st)) : dh_W C A P Q mc ms k n pc lv (.long y :: .long x :: st) := fun H locs ls hP hS hl => lv_ldiv hC.1 hC.2.1 hd hne (kk H locs ls hP hS hl)
theorem r_lrem (hC : dh_ok C cc nL own rt) {x y : Int64} (hd : decode cc pc = .ok (.lrem, 1)) (hne : ¬ y = 0)
    (kk : dh_W C A P Q mc ms k n (pc + 1) lv (.long (x - x / y * y) :: st)) : dh_W C A P Q mc ms k n pc lv (.long y :: .long x :: st) := fun H locs ls hP hS hl => lv_lrem hC.1 hC.2.1 hd hne (kk H locs ls hP hS hl)
theorem r_i2l (hC : dh_ok C cc nL own rt) {x : Int32} (hd : decode cc pc = .ok (.i2l, 1))
    (kk : dh_W C A P Q mc ms k n (pc + 1) lv (.long x.toInt64 :: st)) : dh_W C A P Q mc ms k n pc lv (.int x :: st) := fun H locs ls hP hS hl => lv_i2l hC.1 hC.2.1 hd rfl (kk H locs ls hP hS hl)
theorem r_l2i (hC : dh_ok C cc nL own rt) {x : Int64} (hd : decode cc pc = .ok (.l2i, 1))
    (kk : dh_W C A P Q mc ms k n (pc + 1) lv (.int x.toInt32 :: st)) : dh_W C A P Q mc ms k n pc lv (.long x :: st) := fun H locs ls hP hS hl => lv_l2i hC.1 hC.2.1 hd rfl (kk H locs ls hP hS hl)
theorem r_i2b (hC : dh_ok C cc nL own rt) {x : Int32} (hd : decode cc pc = .ok (.i2b, 1))
    (kk : dh_W C A P Q mc ms k n (pc + 1) lv (.int x.toInt8.toInt32 :: st)) : dh_W C A P Q mc ms k n pc lv (.int x :: st) := fun H locs ls hP hS hl => lv_i2b hC.1 hC.2.1 hd rfl (kk H locs ls hP hS hl)
theorem r_i2c (hC : dh_ok C cc nL own rt) {x : Int32} (hd : decode cc pc = .ok (.i2c, 1))
    (kk : dh_W C A P Q mc ms k n (pc + 1) lv (.int (x.toUInt32 % 65536).toInt32 :: st)) : dh_W C A P Q mc ms k n pc lv (.int x :: st) := fun H locs ls hP hS hl => lv_i2c hC.1 hC.2.1 hd rfl (kk H locs ls hP hS hl)
theorem r_iushr (hC : dh_ok C cc nL own rt) {x y : Int32} (hd : decode cc pc = .ok (.iushr, 1))
    (kk : dh_W C A P Q mc ms k n (pc + 1) lv (.int (x.toUInt32 >>> (y.toUInt32 &&& Int32.toUInt32 31)).toInt32 :: st)) : dh_W C A P Q mc ms k n pc lv (.int y :: .int x :: st) := fun H locs ls hP hS hl => lv_iushr hC.1 hC.2.1 hd rfl (kk H locs ls hP hS hl)
theorem r_lshl (hC : dh_ok C cc nL own rt) {x : Int64} {y : Int32} (hd : decode cc pc = .ok (.lshl, 1))
    (kk : dh_W C A P Q mc ms k n (pc + 1) lv (.long (x <<< (y.toInt64 &&& 63)) :: st)) : dh_W C A P Q mc ms k n pc lv (.int y :: .long x :: st) := fun H locs ls hP hS hl => lv_lshl hC.1 hC.2.1 hd rfl (kk H locs ls hP hS hl)
theorem r_lshr (hC : dh_ok C cc nL own rt) {x : Int64} {y : Int32} (hd : decode cc pc = .ok (.lshr, 1))
    (kk : dh_W C A P Q mc ms k n (pc + 1) lv (.long (x >>> (y.toInt64 &&& 63)) :: st)) : dh_W C A P Q mc ms k n pc lv (.int y :: .long x :: st) := fun H locs ls hP hS hl => lv_lshr hC.1 hC.2.1 hd rfl (kk H locs ls hP hS hl)
theorem r_lcmp (hC : dh_ok C cc nL own rt) {x y : Int64} (hd : decode cc pc = .ok (.lcmp, 1))
    (kk : dh_W C A P Q mc ms k n (pc + 1) lv (.int (lg_cmp x y) :: st)) : dh_W C A P Q mc ms k n pc lv (.long y :: .long x :: st) := fun H locs ls hP hS hl => W.lcmp hC.1 hC.2.1 hd (kk H locs ls hP hS hl)
theorem r_dup (hC : dh_ok C cc nL own rt) {va : Value} (hd : decode cc pc = .ok (.dup, 1)) (h1 : va.category = 1)
    (kk : dh_W C A P Q mc ms k n (pc + 1) lv (va :: va :: st)) : dh_W C A P Q mc ms k n pc lv (va :: st) := fun H locs ls hP hS hl => lv_dup hC.1 hC.2.1 hd h1 (kk H locs ls hP hS hl)
theorem r_pop (hC : dh_ok C cc nL own rt) {va : Value} (hd : decode cc pc = .ok (.pop, 1)) (h1 : va.category = 1)
    (kk : dh_W C A P Q mc ms k n (pc + 1) lv (st)) : dh_W C A P Q mc ms k n pc lv (va :: st) := fun H locs ls hP hS hl => lv_pop hC.1 hC.2.1 hd h1 (kk H locs ls hP hS hl)
theorem r_dup_x1 (hC : dh_ok C cc nL own rt) {va vb : Value} (hd : decode cc pc = .ok (.dup_x1, 1)) (h1 : va.category = 1) (h2 : vb.category = 1)
    (kk : dh_W C A P Q mc ms k n (pc + 1) lv (va :: vb :: va :: st)) : dh_W C A P Q mc ms k n pc lv (va :: vb :: st) := fun H locs ls hP hS hl => lv_dup_x1 hC.1 hC.2.1 hd h1 h2 (kk H locs ls hP hS hl)
theorem r_dup_x2 (hC : dh_ok C cc nL own rt) {va vb vc : Value} (hd : decode cc pc = .ok (.dup_x2, 1)) (h1 : va.category = 1) (h2 : vb.category = 1) (h3 : vc.category = 1)
    (kk : dh_W C A P Q mc ms k n (pc + 1) lv (va :: vb :: vc :: va :: st)) : dh_W C A P Q mc ms k n pc lv (va :: vb :: vc :: st) := fun H locs ls hP hS hl => lv_dup_x2 hC.1 hC.2.1 hd h1 h2 h3 (kk H locs ls hP hS hl)
theorem r_dup2_11 (hC : dh_ok C cc nL own rt) {va vb : Value} (hd : decode cc pc = .ok (.dup2, 1)) (h1 : va.category = 1) (h2 : vb.category = 1)
    (kk : dh_W C A P Q mc ms k n (pc + 1) lv (va :: vb :: va :: vb :: st)) : dh_W C A P Q mc ms k n pc lv (va :: vb :: st) := fun H locs ls hP hS hl => lv_dup2_11 hC.1 hC.2.1 hd h1 h2 (kk H locs ls hP hS hl)
theorem r_dup2_2 (hC : dh_ok C cc nL own rt) {va : Value} (hd : decode cc pc = .ok (.dup2, 1)) (h1 : va.category = 2)
    (kk : dh_W C A P Q mc ms k n (pc + 1) lv (va :: va :: st)) : dh_W C A P Q mc ms k n pc lv (va :: st) := fun H locs ls hP hS hl => lv_dup2_2 hC.1 hC.2.1 hd h1 (kk H locs ls hP hS hl)
theorem r_if_eq (hC : dh_ok C cc nL own rt) {x : Int32} {off : Int} {tgt : Nat} (hd : decode cc pc = .ok (.ifCond .eq off, 3)) (ht : (pc : Int) + off = (tgt : Int))
    (kt : x = 0 → dh_W C A P Q mc ms k n tgt lv st) (kf : ¬ x = 0 → dh_W C A P Q mc ms k n (pc + 3) lv st) : dh_W C A P Q mc ms k n pc lv (.int x :: st) := fun H locs ls hP hS hl => lv_if_eq hC.1 hC.2.1 hd ht (fun h => kt h H locs ls hP hS hl) (fun h => kf h H locs ls hP hS hl)
theorem r_icmp_eq (hC : dh_ok C cc nL own rt) {x y : Int32} {off : Int} {tgt : Nat} (hd : decode cc pc = .ok (.if_icmp .eq off, 3)) (ht : (pc : Int) + off = (tgt : Int))
    (kt : x = y → dh_W C A P Q mc ms k n tgt lv st) (kf : ¬ x = y → dh_W C A P Q mc ms k n (pc + 3) lv st) : dh_W C A P Q mc ms k n pc lv (.int y :: .int x :: st) := fun H locs ls hP hS hl => lv_icmp_eq hC.1 hC.2.1 hd ht (fun h => kt h H locs ls hP hS hl) (fun h => kf h H locs ls hP hS hl)
theorem r_if_ne (hC : dh_ok C cc nL own rt) {x : Int32} {off : Int} {tgt : Nat} (hd : decode cc pc = .ok (.ifCond .ne off, 3)) (ht : (pc : Int) + off = (tgt : Int))
    (kt : ¬ x = 0 → dh_W C A P Q mc ms k n tgt lv st) (kf : x = 0 → dh_W C A P Q mc ms k n (pc + 3) lv st) : dh_W C A P Q mc ms k n pc lv (.int x :: st) := fun H locs ls hP hS hl => lv_if_ne hC.1 hC.2.1 hd ht (fun h => kt h H locs ls hP hS hl) (fun h => kf h H locs ls hP hS hl)
theorem r_icmp_ne (hC : dh_ok C cc nL own rt) {x y : Int32} {off : Int} {tgt : Nat} (hd : decode cc pc = .ok (.if_icmp .ne off, 3)) (ht : (pc : Int) + off = (tgt : Int))
    (kt : ¬ x = y → dh_W C A P Q mc ms k n tgt lv st) (kf : x = y → dh_W C A P Q mc ms k n (pc + 3) lv st) : dh_W C A P Q mc ms k n pc lv (.int y :: .int x :: st) := fun H locs ls hP hS hl => lv_icmp_ne hC.1 hC.2.1 hd ht (fun h => kt h H locs ls hP hS hl) (fun h => kf h H locs ls hP hS hl)
theorem r_if_lt (hC : dh_ok C cc nL own rt) {x : Int32} {off : Int} {tgt : Nat} (hd : decode cc pc = .ok (.ifCond .lt off, 3)) (ht : (pc : Int) + off = (tgt : Int))
    (kt : x < 0 → dh_W C A P Q mc ms k n tgt lv st) (kf : ¬ x < 0 → dh_W C A P Q mc ms k n (pc + 3) lv st) : dh_W C A P Q mc ms k n pc lv (.int x :: st) := fun H locs ls hP hS hl => lv_if_lt hC.1 hC.2.1 hd ht (fun h => kt h H locs ls hP hS hl) (fun h => kf h H locs ls hP hS hl)
theorem r_icmp_lt (hC : dh_ok C cc nL own rt) {x y : Int32} {off : Int} {tgt : Nat} (hd : decode cc pc = .ok (.if_icmp .lt off, 3)) (ht : (pc : Int) + off = (tgt : Int))
    (kt : x < y → dh_W C A P Q mc ms k n tgt lv st) (kf : ¬ x < y → dh_W C A P Q mc ms k n (pc + 3) lv st) : dh_W C A P Q mc ms k n pc lv (.int y :: .int x :: st) := fun H locs ls hP hS hl => lv_icmp_lt hC.1 hC.2.1 hd ht (fun h => kt h H locs ls hP hS hl) (fun h => kf h H locs ls hP hS hl)
theorem r_if_ge (hC : dh_ok C cc nL own rt) {x : Int32} {off : Int} {tgt : Nat} (hd : decode cc pc = .ok (.ifCond .ge off, 3)) (ht : (pc : Int) + off = (tgt : Int))
    (kt : 0 ≤ x → dh_W C A P Q mc ms k n tgt lv st) (kf : ¬ 0 ≤ x → dh_W C A P Q mc ms k n (pc + 3) lv st) : dh_W C A P Q mc ms k n pc lv (.int x :: st) := fun H locs ls hP hS hl => lv_if_ge hC.1 hC.2.1 hd ht (fun h => kt h H locs ls hP hS hl) (fun h => kf h H locs ls hP hS hl)
theorem r_icmp_ge (hC : dh_ok C cc nL own rt) {x y : Int32} {off : Int} {tgt : Nat} (hd : decode cc pc = .ok (.if_icmp .ge off, 3)) (ht : (pc : Int) + off = (tgt : Int))
    (kt : y ≤ x → dh_W C A P Q mc ms k n tgt lv st) (kf : ¬ y ≤ x → dh_W C A P Q mc ms k n (pc + 3) lv st) : dh_W C A P Q mc ms k n pc lv (.int y :: .int x :: st) := fun H locs ls hP hS hl => lv_icmp_ge hC.1 hC.2.1 hd ht (fun h => kt h H locs ls hP hS hl) (fun h => kf h H locs ls hP hS hl)
theorem r_if_gt (hC : dh_ok C cc nL own rt) {x : Int32} {off : Int} {tgt : Nat} (hd : decode cc pc = .ok (.ifCond .gt off, 3)) (ht : (pc : Int) + off = (tgt : Int))
    (kt : 0 < x → dh_W C A P Q mc ms k n tgt lv st) (kf : ¬ 0 < x → dh_W C A P Q mc ms k n (pc + 3) lv st) : dh_W C A P Q mc ms k n pc lv (.int x :: st) := fun H locs ls hP hS hl => lv_if_gt hC.1 hC.2.1 hd ht (fun h => kt h H locs ls hP hS hl) (fun h => kf h H locs ls hP hS hl)
theorem r_icmp_gt (hC : dh_ok C cc nL own rt) {x y : Int32} {off : Int} {tgt : Nat} (hd : decode cc pc = .ok (.if_icmp .gt off, 3)) (ht : (pc : Int) + off = (tgt : Int))
    (kt : y < x → dh_W C A P Q mc ms k n tgt lv st) (kf : ¬ y < x → dh_W C A P Q mc ms k n (pc + 3) lv st) : dh_W C A P Q mc ms k n pc lv (.int y :: .int x :: st) := fun H locs ls hP hS hl => lv_icmp_gt hC.1 hC.2.1 hd ht (fun h => kt h H locs ls hP hS hl) (fun h => kf h H locs ls hP hS hl)
theorem r_if_le (hC : dh_ok C cc nL own rt) {x : Int32} {off : Int} {tgt : Nat} (hd : decode cc pc = .ok (.ifCond .le off, 3)) (ht : (pc : Int) + off = (tgt : Int))
    (kt : x ≤ 0 → dh_W C A P Q mc ms k n tgt lv st) (kf : ¬ x ≤ 0 → dh_W C A P Q mc ms k n (pc + 3) lv st) : dh_W C A P Q mc ms k n pc lv (.int x :: st) := fun H locs ls hP hS hl => lv_if_le hC.1 hC.2.1 hd ht (fun h => kt h H locs ls hP hS hl) (fun h => kf h H locs ls hP hS hl)
theorem r_icmp_le (hC : dh_ok C cc nL own rt) {x y : Int32} {off : Int} {tgt : Nat} (hd : decode cc pc = .ok (.if_icmp .le off, 3)) (ht : (pc : Int) + off = (tgt : Int))
    (kt : x ≤ y → dh_W C A P Q mc ms k n tgt lv st) (kf : ¬ x ≤ y → dh_W C A P Q mc ms k n (pc + 3) lv st) : dh_W C A P Q mc ms k n pc lv (.int y :: .int x :: st) := fun H locs ls hP hS hl => lv_icmp_le hC.1 hC.2.1 hd ht (fun h => kt h H locs ls hP hS hl) (fun h => kf h H locs ls hP hS hl)
theorem r_goto (hC : dh_ok C cc nL own rt) {off : Int} {tgt : Nat} (hd : decode cc pc = .ok (.goto off, 3)) (ht : (pc : Int) + off = (tgt : Int)) (kk : dh_W C A P Q mc ms k n tgt lv st) : dh_W C A P Q mc ms k n pc lv st := fun H locs ls hP hS hl => lv_goto hC.1 hC.2.1 hd ht (kk H locs ls hP hS hl)
theorem r_sub {lv' : List (Nat × Value)} (ks : List Nat) (h : lv_pick lv ks = lv') (kk : dh_W C A P Q mc ms k n pc lv' st) : dh_W C A P Q mc ms k n pc lv st := fun H locs ls hP hS hl => kk H locs ls hP hS (lv_sub hl ks h)
theorem r_ldc (hC : dh_ok C cc nL own rt) {index : Nat} {v : Int32} (hw : (Jvm.Cond.constant own index v) ∈ lw_all) (hd : decode cc pc = .ok (.ldc index, 2)) (kk : dh_W C A P Q mc ms k n (pc + 2) lv (.int v :: st)) : dh_W C A P Q mc ms k n pc lv st := fun H locs ls hP hS hl => lv_ldc hC.1 hC.2.1 hC.2.2.2.1 (hC.2.2.2.2.1 _ hw) hd (kk H locs ls hP hS hl)
theorem r_ldc2 (hC : dh_ok C cc nL own rt) {index : Nat} {v : Int64} (hw : (Jvm.Cond.constantLong own index v) ∈ lw_all) (hd : decode cc pc = .ok (.ldc2_w index, 3)) (kk : dh_W C A P Q mc ms k n (pc + 3) lv (.long v :: st)) : dh_W C A P Q mc ms k n pc lv st := fun H locs ls hP hS hl => lv_ldc2 hC.1 hC.2.1 hC.2.2.2.1 (hC.2.2.2.2.1 _ hw) hd (kk H locs ls hP hS hl)
theorem r_lookup (hC : dh_ok C cc nL own rt) {dflt : Int} {ps : Array (Int × Int)} {len : Nat} {x : Int32} {off : Int} {tgt : Nat} (hd : decode cc pc = .ok (.lookupswitch dflt ps, len)) (hp : (ps.toList.zip (ps.toList.drop 1)).all (fun (a, next) => a.1 < next.1) = true) (ho : Op.lookupswitch.offset ps.toList dflt x.toInt = off) (ht : (pc : Int) + off = (tgt : Int))
    (kk : dh_W C A P Q mc ms k n tgt lv st) : dh_W C A P Q mc ms k n pc lv (.int x :: st) := fun H locs ls hP hS hl => lv_lookup hC.1 hC.2.1 hd hp ho ht (kk H locs ls hP hS hl)
theorem r_tableOut (hC : dh_ok C cc nL own rt) {dflt lo hi : Int} {offs : Array Int} {len : Nat} {x : Int32} {tgt : Nat} (hd : decode cc pc = .ok (.tableswitch dflt lo hi offs, len)) (h : x.toInt < lo ∨ hi < x.toInt) (ht : (pc : Int) + dflt = (tgt : Int))
    (kk : dh_W C A P Q mc ms k n tgt lv st) : dh_W C A P Q mc ms k n pc lv (.int x :: st) := fun H locs ls hP hS hl => lv_tableOut hC.1 hC.2.1 hd h ht (kk H locs ls hP hS hl)
theorem r_tableIn (hC : dh_ok C cc nL own rt) {dflt lo hi : Int} {offs : Array Int} {len : Nat} {x : Int32} {off : Int} {tgt : Nat} (hd : decode cc pc = .ok (.tableswitch dflt lo hi offs, len)) (h1 : ¬ x.toInt < lo) (h2 : ¬ hi < x.toInt) (ho : offs[(x.toInt - lo).toNat]? = some off) (ht : (pc : Int) + off = (tgt : Int))
    (kk : dh_W C A P Q mc ms k n tgt lv st) : dh_W C A P Q mc ms k n pc lv (.int x :: st) := fun H locs ls hP hS hl => lv_tableIn hC.1 hC.2.1 hd h1 h2 ho ht (kk H locs ls hP hS hl)
theorem r_widen {k' n' : Nat} (h1 : k ≤ k') (h2 : n ≤ n') (kk : dh_W C A P Q mc ms k' n' pc lv st) : dh_W C A P Q mc ms k n pc lv st := fun H locs ls hP hS hl => W.widen h1 h2 (kk H locs ls hP hS hl)
theorem r_iret (hC : dh_ok C cc nL own rt) {v : Int32} (hd : decode cc pc = .ok (.ireturn, 1)) (hr : rt = some .int) (hk : k ≤ mc) (hn : n ≤ ms) (hq : ∀ H, P H → Q (.returned (some (.int v))) H) : dh_W C A P Q mc ms k n pc lv [.int v] := fun H locs ls hP hS hl =>
  W.widen hk hn (dh_wk dh_MQE (W.iret hC.1 hC.2.1 (hC.2.2.2.2.2.1.trans hr) (fun t ht hW => ⟨by rw [ht]; exact hq H hP, hS.F ht⟩) hS.2.2 hd hC.2.2.2.2.2.2))
theorem r_zret (hC : dh_ok C cc nL own rt) {v : Int32} {ty : FieldType} (hd : decode cc pc = .ok (.ireturn, 1)) (hr : rt = some ty) (hz : narrow ty (.int v) = .int v) (hk : k ≤ mc) (hn : n ≤ ms) (hq : ∀ H, P H → Q (.returned (some (.int v))) H) : dh_W C A P Q mc ms k n pc lv [.int v] := fun H locs ls hP hS hl =>
  W.widen hk hn (dh_wk dh_MQE (W.zret hC.1 hC.2.1 (hC.2.2.2.2.2.1.trans hr) hz (fun t ht hW => ⟨by rw [ht]; exact hq H hP, hS.F ht⟩) hS.2.2 hd hC.2.2.2.2.2.2))
theorem r_lret (hC : dh_ok C cc nL own rt) {v : Int64} (hd : decode cc pc = .ok (.lreturn, 1)) (hr : rt = some .long) (hk : k ≤ mc) (hn : n ≤ ms) (hq : ∀ H, P H → Q (.returned (some (.long v))) H) : dh_W C A P Q mc ms k n pc lv [.long v] := fun H locs ls hP hS hl =>
  W.widen hk hn (dh_wk dh_MQE (W.lret hC.1 hC.2.1 (hC.2.2.2.2.2.1.trans hr) (fun t ht hW => ⟨by rw [ht]; exact hq H hP, hS.F ht⟩) hS.2.2 hd hC.2.2.2.2.2.2))
theorem r_vret (hC : dh_ok C cc nL own rt) (hd : decode cc pc = .ok (.return_, 1)) (hr : rt = none) (hk : k ≤ mc) (hn : n ≤ ms) (hq : ∀ H, P H → Q (.returned none) H) : dh_W C A P Q mc ms k n pc lv [] := fun H locs ls hP hS hl =>
  W.widen hk hn (dh_wk dh_MQE (W.vret hC.1 hC.2.1 (hC.2.2.2.2.2.1.trans hr) (fun t ht hW => ⟨by rw [ht]; exact hq H hP, hS.F ht⟩) hS.2.2 hd hC.2.2.2.2.2.2))
theorem r_aret (hC : dh_ok C cc nL own rt) {v : Value} {ty : FieldType} (hd : decode cc pc = .ok (.areturn, 1)) (hr : rt = some ty) (hrt : (∃ z, ty = .object z) ∨ ∃ z, ty = .array z) (hv : v = .null ∨ ∃ a, v = .ref a) (hk : k ≤ mc) (hn : n ≤ ms) (hq : ∀ H, P H → Q (.returned (some v)) H) : dh_W C A P Q mc ms k n pc lv [v] := fun H locs ls hP hS hl =>
  W.widen hk hn (dh_wk dh_MQE (W.aret hC.1 hC.2.1 (hC.2.2.2.2.2.1.trans hr) hrt hv (fun t ht hW => ⟨by rw [ht]; exact hq H hP, hS.F ht⟩) hS.2.2 hd hC.2.2.2.2.2.2))
/-- behind a call -/
theorem dh_back {mc1 ms1 : Nat} {rv : Option Value} {P1 : Heap → Prop} {st0 : List Value} (hrun : ∀ (H : Heap) (locs : List Loc) (ls : Array Slot), P H → va_S A (dh_s C).heap H locs → lv_has ls (dh_c C).maxLocals lv →
      va_Run (dh_p C) (dh_l C) (dh_e C) (dh_R C) (dh_s C) (dh_m C) (dh_a C) (dh_b C) (dh_t C) (dh_c C) H locs k n mc1 ms1 (F0 (dh_m C) pc ls st0) st (fun s0 o t => (o = .returned rv ∧ P1 t.heap) ∧ va_F A s0 t) A)
    (kk : dh_W C A P1 Q mc ms (k + mc1) (n + ms1) (pc + 3) lv (rv.toList ++ st)) : dh_W C A P Q mc ms k n pc lv st0 := by
  intro H locs ls hP hS hl T hT X
  obtain ⟨v, st₀, t, T', L, h0, X', hL, e1, e2, ⟨⟨hv, hp⟩, hz, hk⟩, st⟩ := hrun H locs ls hP hS hl T hT X
  cases hv
  rw [h0] at hz hk
  obtain ⟨t2, a1, b1⟩ := kk T'.heap (locs ++ L) ls (by rw [e1]; exact hp)
    ⟨Nat.le_trans hS.1 (by rw [e1]; exact hz), fun q h1 h2 => by rw [e1, hk q (Nat.lt_of_lt_of_le h1 hS.1) h2]; exact hS.2.1 q h1 h2, fun q hq => by
      rcases List.mem_append.mp hq with h | h
      · exact hS.2.2 q h
      · exact hL q h⟩ hl T' rfl X'
  exact ⟨t2, st t2 a1, b1⟩
end
/-- a contract: from the heaps of the kind P the method y, called with av, ends as Q says -/
def dh_Met (l : Launch) (y : MethodName) (ws : List Cond) (fr lo mc ms : Nat) (A : Nat → Prop) (Kn : State → Prop) (av : List Value) (P : Heap → Prop) (Q : Outcome → Heap → Prop) : Prop :=
  Met l y ws ({ frames := fr, cells := mc, slots := ms, locals := lo }) (fun v U => v = av.toArray ∧ P U.heap ∧ Kn U) (fun _ st o t => Q o t.heap ∧ va_F A st t) mc ms A
def dh_Mov (Kn : State → Prop) : Prop := ∀ u U : State, u.vm = U.vm → u.heap = U.heap → Kn u → Kn U
theorem dh_blind {av : List Value} {P : Heap → Prop} {Kn : State → Prop} (hK : dh_Mov Kn) : FrameBlind (fun v U => v = av.toArray ∧ P U.heap ∧ Kn U) := fun a U g mk h => ⟨h.1, h.2.1, hK U (U.calling g mk a) rfl rfl h.2.2⟩
/-- a contract out of a walk -/
theorem dh_met {l : Launch} {y : MethodName} {cc : ByteArray} {nL : Nat} {rt : Option FieldType} {fr lo mc ms : Nat} {A : Nat → Prop} {Kn : State → Prop} {av : List Value} {P : Heap → Prop} {Q : Outcome → Heap → Prop} (hy : plainName y.cls = true) (hn : (lg_sl av).length ≤ nL) (hq : ∀ o H, Q o H → ∃ v, o = .returned v)
    (body : ∀ C : dh_C, dh_l C = l → dh_R C = { frames := fr, cells := mc, slots := ms, locals := lo } → dh_ok C cc nL y.cls rt → (dh_t C).name = y.name → Kn (dh_s C) → dh_W C A P Q mc ms 0 0 0 (lv_args 0 av) []) : dh_Met l y (ws_ y cc nL rt) fr lo mc ms A Kn av P Q := by
  refine Met.ofW (cc := cc) (maxL := nL) (ret := rt) hy rfl ?_
  intro p e s m args below meth c s₁ B hml hv
  obtain ⟨rfl, hP, hK⟩ := hv
  have hts := atoms_spec (ws := ws_ y cc nL rt) B.pre
  have hts : ∀ w ∈ lw_all, w.before _ s = true := fun w h => hts w (List.mem_cons_of_mem _ h)
  have hl := lv_entry av (n := nL) hn
  have hw := body (p, l, e, { frames := fr, cells := mc, slots := ms, locals := lo }, s, m, av.toArray, below, meth, c) rfl rfl ⟨B.exec, B.bytes, hml, findClass_of_methodNamed B.named, hts, B.returns, B.notSynchronized⟩ (name_of_methodNamed B.named B.method).1 hK
  rw [lg_entry_eq]
  refine dh_wk (fun t h => ?_) (hw s.heap [] _ hP va_S.rf (by rw [show (dh_c (p, l, e, { frames := fr, cells := mc, slots := ms, locals := lo }, s, m, av.toArray, below, meth, c)).maxLocals = nL from hml]; exact hl))
  obtain ⟨o, h1, h2, h3, L, h4, h5⟩ := h
  exact ⟨o, h1, h2, h3, L, ⟨hq o _ h3.1, h4⟩, h5⟩
