set_option maxRecDepth 100000
/-- the links of nest mates' fields -/
def dj_nw : List Cond := [.fieldLinkNest "DebtorsHouse" 211 "DebtorsHouse$State" "tape" "[B" "DebtorsHouse",
  .fieldLinkNest "DebtorsHouse" 208 "DebtorsHouse$State" "taped" "I" "DebtorsHouse",
  .fieldLinkNest "DebtorsHouse" 215 "DebtorsHouse$State" "faultKind" "I" "DebtorsHouse",
  .fieldLinkNest "DebtorsHouse" 218 "DebtorsHouse$State" "faultPlace" "I" "DebtorsHouse",
  .fieldLinkNest "DebtorsHouse" 88 "DebtorsHouse$State" "day" "I" "DebtorsHouse",
  .fieldLinkNest "DebtorsHouse" 294 "DebtorsHouse$State" "hour" "I" "DebtorsHouse",
  .fieldLinkNest "DebtorsHouse" 340 "DebtorsHouse$State" "fees" "I" "DebtorsHouse",
  .fieldLinkNest "DebtorsHouse" 190 "DebtorsHouse$State" "many" "I" "DebtorsHouse",
  .fieldLinkNest "DebtorsHouse" 51 "DebtorsHouse$State" "persons" "Ljava/util/ArrayList;" "DebtorsHouse",
  .fieldLinkNest "DebtorsHouse" 63 "DebtorsHouse$State" "debts" "Ljava/util/ArrayList;" "DebtorsHouse",
  .fieldLinkNest "DebtorsHouse" 221 "DebtorsHouse$State" "acts" "Ljava/util/ArrayList;" "DebtorsHouse",
  .fieldLinkNest "DebtorsHouse" 374 "DebtorsHouse$State" "least" "[[I" "DebtorsHouse",
  .fieldLinkNest "DebtorsHouse" 197 "DebtorsHouse$State" "ring" "[I" "DebtorsHouse",
  .fieldLinkNest "DebtorsHouse" 256 "DebtorsHouse$Person" "number" "I" "DebtorsHouse",
  .fieldLinkNest "DebtorsHouse" 282 "DebtorsHouse$Person" "children" "I" "DebtorsHouse",
  .fieldLinkNest "DebtorsHouse" 134 "DebtorsHouse$Person" "coins" "I" "DebtorsHouse",
  .fieldLinkNest "DebtorsHouse" 278 "DebtorsHouse$Person" "since" "I" "DebtorsHouse",
  .fieldLinkNest "DebtorsHouse" 288 "DebtorsHouse$Person" "room" "I" "DebtorsHouse",
  .fieldLinkNest "DebtorsHouse" 329 "DebtorsHouse$Person" "fees" "I" "DebtorsHouse",
  .fieldLinkNest "DebtorsHouse" 347 "DebtorsHouse$Person" "late" "I" "DebtorsHouse",
  .fieldLinkNest "DebtorsHouse" 350 "DebtorsHouse$Person" "turns" "I" "DebtorsHouse",
  .fieldLinkNest "DebtorsHouse" 356 "DebtorsHouse$Person" "escaped" "I" "DebtorsHouse",
  .fieldLinkNest "DebtorsHouse" 122 "DebtorsHouse$Person" "detained" "I" "DebtorsHouse",
  .fieldLinkNest "DebtorsHouse" 434 "DebtorsHouse$Person" "rows" "I" "DebtorsHouse",
  .fieldLinkNest "DebtorsHouse" 371 "DebtorsHouse$Person" "least" "I" "DebtorsHouse",
  .fieldLinkNest "DebtorsHouse" 337 "DebtorsHouse$Person" "out" "Z" "DebtorsHouse",
  .fieldLinkNest "DebtorsHouse" 368 "DebtorsHouse$Person" "surrendered" "Z" "DebtorsHouse",
  .fieldLinkNest "DebtorsHouse" 128 "DebtorsHouse$Debt" "debtor" "I" "DebtorsHouse",
  .fieldLinkNest "DebtorsHouse" 144 "DebtorsHouse$Debt" "sum" "I" "DebtorsHouse",
  .fieldLinkNest "DebtorsHouse" 147 "DebtorsHouse$Debt" "rank" "I" "DebtorsHouse",
  .fieldLinkNest "DebtorsHouse" 150 "DebtorsHouse$Debt" "rate" "I" "DebtorsHouse",
  .fieldLinkNest "DebtorsHouse" 153 "DebtorsHouse$Debt" "since" "I" "DebtorsHouse",
  .fieldLinkNest "DebtorsHouse" 156 "DebtorsHouse$Debt" "told" "I" "DebtorsHouse",
  .fieldLinkNest "DebtorsHouse" 131 "DebtorsHouse$Debt" "creditor" "I" "DebtorsHouse",
  .fieldLinkNest "DebtorsHouse" 168 "DebtorsHouse$Debt" "principal" "I" "DebtorsHouse",
  .fieldLinkNest "DebtorsHouse" 114 "DebtorsHouse$Debt" "costs" "I" "DebtorsHouse",
  .fieldLinkNest "DebtorsHouse" 178 "DebtorsHouse$Debt" "lack" "I" "DebtorsHouse",
  .fieldLinkNest "DebtorsHouse" 181 "DebtorsHouse$Debt" "ended" "I" "DebtorsHouse",
  .fieldLinkNest "DebtorsHouse" 174 "DebtorsHouse$Debt" "bought" "Z" "DebtorsHouse",
  .fieldLinkNest "DebtorsHouse" 159 "DebtorsHouse$Debt" "stands" "LDebtorsHouse$Stands;" "DebtorsHouse",
  .fieldLinkNest "DebtorsHouse" 243 "DebtorsHouse$Fault" "kind" "I" "DebtorsHouse",
  .fieldLinkNest "DebtorsHouse" 246 "DebtorsHouse$Fault" "place" "I" "DebtorsHouse",
  .fieldLinkNest "DebtorsHouse$Act" 32 "DebtorsHouse$Line" "topic" "LDebtorsHouse$Topic;" "DebtorsHouse",
  .fieldLinkNest "DebtorsHouse$Reader" 145 "DebtorsHouse$Line" "topic" "LDebtorsHouse$Topic;" "DebtorsHouse",
  .fieldLinkNest "DebtorsHouse$Reader" 150 "DebtorsHouse$Line" "tests" "Ljava/util/ArrayList;" "DebtorsHouse",
  .fieldLinkNest "DebtorsHouse$Act" 40 "DebtorsHouse$Line" "number" "I" "DebtorsHouse",
  .fieldLinkNest "DebtorsHouse$Reader" 172 "DebtorsHouse$Line" "number" "I" "DebtorsHouse",
  .fieldLinkNest "DebtorsHouse$Reader" 121 "DebtorsHouse" "TOPICS" "[LDebtorsHouse$Topic;" "DebtorsHouse",
  .fieldLinkNest "DebtorsHouse$Reader" 180 "DebtorsHouse" "ASKED" "[LDebtorsHouse$About;" "DebtorsHouse",
  .fieldLinkNest "DebtorsHouse" 249 "DebtorsHouse$Act" "from" "I" "DebtorsHouse",
  .fieldLinkNest "DebtorsHouse" 252 "DebtorsHouse$Act" "told" "I" "DebtorsHouse",
  .fieldLinkNest "DebtorsHouse$Reader" 125 "DebtorsHouse$Topic" "word" "Ljava/lang/String;" "DebtorsHouse",
  .fieldLinkNest "DebtorsHouse$Reader" 184 "DebtorsHouse$About" "word" "Ljava/lang/String;" "DebtorsHouse",
  .fieldLinkNest "DebtorsHouse" 300 "DebtorsHouse$Topic" "without" "I" "DebtorsHouse",
  .fieldLinkNest "DebtorsHouse$Act" 43 "DebtorsHouse$Topic" "without" "I" "DebtorsHouse"]
theorem dj_nw_tbl : ∀ w ∈ dj_nw, w ∈ lw_tbl := by
  unfold dj_nw
  simp only [List.mem_cons, List.not_mem_nil, or_false, forall_eq_or_imp, forall_eq]
  exact ⟨q163, q165, q167, q169, q171, q173, q175, q177, q179, q181, q183, q185, q187, q271, q273, q275, q277, q279, q281, q283, q285, q287, q289, q291, q294, q296, q298, q417, q419, q421, q423, q425, q427, q429, q431, q434, q437, q439, q441, q443, q951, q953, q978, q979, q981, q982, q983, q995, q1019, q1070, q1072, q2035, q2036, q2037, q2038⟩
theorem dj_nw_F : ∀ w ∈ dj_nw, ∃ a i b n d h, w = .fieldLinkNest a i b n d h := by
  unfold dj_nw
  simp only [List.mem_cons, List.not_mem_nil, or_false, forall_eq_or_imp, forall_eq]
  exact ⟨⟨_, _, _, _, _, _, rfl⟩, ⟨_, _, _, _, _, _, rfl⟩, ⟨_, _, _, _, _, _, rfl⟩, ⟨_, _, _, _, _, _, rfl⟩, ⟨_, _, _, _, _, _, rfl⟩, ⟨_, _, _, _, _, _, rfl⟩, ⟨_, _, _, _, _, _, rfl⟩, ⟨_, _, _, _, _, _, rfl⟩, ⟨_, _, _, _, _, _, rfl⟩, ⟨_, _, _, _, _, _, rfl⟩, ⟨_, _, _, _, _, _, rfl⟩, ⟨_, _, _, _, _, _, rfl⟩, ⟨_, _, _, _, _, _, rfl⟩, ⟨_, _, _, _, _, _, rfl⟩, ⟨_, _, _, _, _, _, rfl⟩, ⟨_, _, _, _, _, _, rfl⟩, ⟨_, _, _, _, _, _, rfl⟩, ⟨_, _, _, _, _, _, rfl⟩, ⟨_, _, _, _, _, _, rfl⟩, ⟨_, _, _, _, _, _, rfl⟩, ⟨_, _, _, _, _, _, rfl⟩, ⟨_, _, _, _, _, _, rfl⟩, ⟨_, _, _, _, _, _, rfl⟩, ⟨_, _, _, _, _, _, rfl⟩, ⟨_, _, _, _, _, _, rfl⟩, ⟨_, _, _, _, _, _, rfl⟩, ⟨_, _, _, _, _, _, rfl⟩, ⟨_, _, _, _, _, _, rfl⟩, ⟨_, _, _, _, _, _, rfl⟩, ⟨_, _, _, _, _, _, rfl⟩, ⟨_, _, _, _, _, _, rfl⟩, ⟨_, _, _, _, _, _, rfl⟩, ⟨_, _, _, _, _, _, rfl⟩, ⟨_, _, _, _, _, _, rfl⟩, ⟨_, _, _, _, _, _, rfl⟩, ⟨_, _, _, _, _, _, rfl⟩, ⟨_, _, _, _, _, _, rfl⟩, ⟨_, _, _, _, _, _, rfl⟩, ⟨_, _, _, _, _, _, rfl⟩, ⟨_, _, _, _, _, _, rfl⟩, ⟨_, _, _, _, _, _, rfl⟩, ⟨_, _, _, _, _, _, rfl⟩, ⟨_, _, _, _, _, _, rfl⟩, ⟨_, _, _, _, _, _, rfl⟩, ⟨_, _, _, _, _, _, rfl⟩, ⟨_, _, _, _, _, _, rfl⟩, ⟨_, _, _, _, _, _, rfl⟩, ⟨_, _, _, _, _, _, rfl⟩, ⟨_, _, _, _, _, _, rfl⟩, ⟨_, _, _, _, _, _, rfl⟩, ⟨_, _, _, _, _, _, rfl⟩, ⟨_, _, _, _, _, _, rfl⟩, ⟨_, _, _, _, _, _, rfl⟩, ⟨_, _, _, _, _, _, rfl⟩, ⟨_, _, _, _, _, _, rfl⟩⟩
def dj_cw : List (String × String) := [("DebtorsHouse$Person", "java/lang/Object"), ("DebtorsHouse$Debt", "java/lang/Object"), ("DebtorsHouse$Act", "java/lang/Object"), ("DebtorsHouse$Line", "java/lang/Object"), ("DebtorsHouse$Test", "java/lang/Object")]
theorem dj_cw_tbl : ∀ w ∈ dj_cw, Cond.castable w.1 w.2 ∈ lw_tbl := by
  unfold dj_cw
  simp only [List.mem_cons, List.not_mem_nil, or_false, forall_eq_or_imp, forall_eq]
  exact ⟨q2011, q2012, q2014, q2020, q2022⟩
abbrev dj_nT : List String := ["HELD", "ENTRY", "DAILY", "WALK", "NUMBER", "WORTH", "BUYER", "KEEP", "OPENS"]
abbrev dj_nA : List String := ["SUM", "DEBTS", "RANK", "DAYS", "CHILDREN", "ROOM", "HOUR", "COINS"]
abbrev dj_nS : List String := ["LIVE", "PAID", "FORGIVEN", "RELEASED"]
abbrev dj_nK : List String := ["WORD", "NUMBER", "SIGN", "END", "BAD"]
abbrev dj_fT : List (String × String × String × List Int32) := [("java/lang/Enum", "ordinal", "I", [0, 1, 2, 3, 4, 5, 6, 7, 8]), ("DebtorsHouse$Topic", "without", "I", [1, 0, 0, 0, 50, 75, 1, 0, 1])]
abbrev dj_fA : List (String × String × String × List Int32) := [("java/lang/Enum", "ordinal", "I", [0, 1, 2, 3, 4, 5, 6, 7])]
abbrev dj_fS : List (String × String × String × List Int32) := [("java/lang/Enum", "ordinal", "I", [0, 1, 2, 3])]
abbrev dj_fK : List (String × String × String × List Int32) := [("java/lang/Enum", "ordinal", "I", [0, 1, 2, 3, 4])]
abbrev dj_sl : List Nat := [4, 5, 5, 4, 6, 5, 5, 4, 5, 3, 5, 4, 4, 8, 4, 4, 5, 5, 2, 3, 3, 2, 3]
abbrev dj_sb : List (List Int32) := [[104, 101, 108, 100], [101, 110, 116, 114, 121], [100, 97, 105, 108, 121], [119, 97, 108, 107], [110, 117, 109, 98, 101, 114], [119, 111, 114, 116, 104], [98, 117, 121, 101, 114], [107, 101, 101, 112], [111, 112, 101, 110, 115], [115, 117, 109], [100, 101, 98, 116, 115], [114, 97, 110, 107], [100, 97, 121, 115], [99, 104, 105, 108, 100, 114, 101, 110], [114, 111, 111, 109], [104, 111, 117, 114], [99, 111, 105, 110, 115], [58, 59, 60, 62, 61], [105, 102], [97, 110, 100], [121, 101, 115], [110, 111], [110, 111, 116]]
/-- what was there before: the constants, their fields, the texts -/
def dj_Old (E : dj_E) (A : Nat → Prop) (U : State) (H : Heap) : Prop :=
  va_En "DebtorsHouse$Topic" "LDebtorsHouse$Topic;" dj_nT dj_fT (fun i => dj_old E (1 + i)) A U H
  ∧ va_En "DebtorsHouse$About" "LDebtorsHouse$About;" dj_nA dj_fA (fun i => dj_old E (11 + i)) A U H
  ∧ va_En "DebtorsHouse$Stands" "LDebtorsHouse$Stands;" dj_nS dj_fS (fun i => dj_old E (21 + i)) A U H
  ∧ va_En "DebtorsHouse$Token" "LDebtorsHouse$Token;" dj_nK dj_fK (fun i => dj_old E (26 + i)) A U H
  ∧ va_T (.object "DebtorsHouse$Topic") (dj_old E 31) 9 (fun i => .ref (dj_old E (1 + i))) A U H
  ∧ va_T (.object "DebtorsHouse$About") (dj_old E 32) 8 (fun i => .ref (dj_old E (11 + i))) A U H
  ∧ va_Z "DebtorsHouse" "TOPICS" "[LDebtorsHouse$Topic;" (.ref (dj_old E 31)) A U H
  ∧ va_Z "DebtorsHouse" "ASKED" "[LDebtorsHouse$About;" (.ref (dj_old E 32)) A U H
  ∧ va_Z "java/lang/String" "COMPACT_STRINGS" "Z" (.int 1) A U H
  ∧ va_Ef 9 "DebtorsHouse$Topic" "word" "Ljava/lang/String;" (fun i => .ref (dj_old E (40 + i))) (fun i => dj_old E (1 + i)) A U H
  ∧ va_Ef 8 "DebtorsHouse$About" "word" "Ljava/lang/String;" (fun i => .ref (dj_old E (49 + i))) (fun i => dj_old E (11 + i)) A U H
  ∧ vk_S 23 dj_sl dj_sb (fun i => dj_old E (40 + i)) (fun i => dj_old E (70 + i)) A U H
theorem dj_Old.mov {E : dj_E} {A : Nat → Prop} {s U : State} {H H1 : Heap} (h : dj_Old E A s H) (hvm : s.vm.Alike U.vm) (hq : ∀ a : Nat, a < H.size → ¬ A a → H1[a]? = H[a]?) : dj_Old E A U H1 := by
  obtain ⟨a1, a2, a3, a4, a5, a6, a7, a8, a9, a10, a11, a12⟩ := h
  exact ⟨(va_En.moved hvm a1).kept hq, (va_En.moved hvm a2).kept hq, (va_En.moved hvm a3).kept hq, (va_En.moved hvm a4).kept hq, (va_T.moved hvm a5).kept hq, (va_T.moved hvm a6).kept hq, (va_Z.moved hvm a7).kept hq, (va_Z.moved hvm a8).kept hq, (va_Z.moved hvm a9).kept hq, (va_Ef.moved hvm a10).kept hq, (va_Ef.moved hvm a11).kept hq, (vk_S.moved hvm a12).kept hq⟩

abbrev dj_ld : List (Nat × String × Nat) := [(88, ":;<>=", 57), (148, "if", 58), (160, "and", 59), (165, "yes", 60), (167, "no", 61), (178, "not", 62)]
/-- Throwable's two statics -/
def dj_Zs (n d : String) (A : Nat → Prop) (U : State) (H : Heap) : Prop := ∃ (c : ClassId) (k : Class) (i : Nat) (fd : Field) (a : Nat) (cell : Cell) (v : Value), U.vm.findClass "java/lang/Throwable" = some c ∧ U.fieldFound? "java/lang/Throwable" n d = some (c, k, i, fd) ∧ fd.isStatic = true ∧ k.statics = some a ∧ H[a]? = some cell ∧ cell.vm.isStatics = true ∧ cell.cls = c ∧ fd.slot < cell.slots.size ∧ k.staticTypes[fd.slot]? = some fd.type ∧ cell.slots[fd.slot]? = some v ∧ (v = .null ∨ ∃ r, v = .ref r) ∧ ¬ A a
theorem dj_Zs.mov {n d : String} {A : Nat → Prop} {u U : State} {H H1 : Heap} (h : dj_Zs n d A u H) (hvm : u.vm.Alike U.vm) (hq : ∀ a : Nat, a < H.size → ¬ A a → H1[a]? = H[a]?) : dj_Zs n d A U H1 := by
  obtain ⟨c, k, i, fd, a, cell, v, h1, h2, h3, h4, h5, h6, h7, h8, h9, h10, h11, h12⟩ := h
  obtain ⟨k', hi', he⟩ := State.fieldFound?_setVm hvm h2
  exact ⟨c, k', i, fd, a, cell, v, by rw [hvm.findClass]; exact h1, hi', h3, by rw [he]; exact h4, by rw [hq a (Array.getElem?_eq_some_iff.mp h5).1 h12]; exact h5, h6, h7, h8, by rw [he]; exact h9, h10, h11, h12⟩
abbrev dj_xT : MethodName := ⟨"java/util/Collection", "toArray", "()[Ljava/lang/Object;"⟩
abbrev dj_yT : MethodName := ⟨"java/util/ArrayList", "toArray", "()[Ljava/lang/Object;"⟩
abbrev dj_yE : MethodName := ⟨"java/lang/Throwable", "<init>", "()V"⟩
abbrev dj_yC : MethodName := ⟨"java/lang/AbstractStringBuilder", "ensureCapacityInternal", "(I)V"⟩
abbrev dj_sE : Cond := .selects "java/lang/StringBuilder" dj_yC dj_yC
abbrev dj_yL : Cond := .methodLinkNest "DebtorsHouse$Reader" 140 ⟨"DebtorsHouse$Line", "<init>", "()V"⟩ "DebtorsHouse"
def dj_Ff (E : dj_E) (U : State) : Prop := ∃ kX : Class, U.vm.classes[(dj_D E).1 7]? = some kX ∧ kX.instanceTypes = dj_ft E ∧ ∃ kA : Class, U.vm.classes[dj_dA E 6]? = some kA ∧ kA.kind = .array (dj_dA E 0) (.array .int)
/-- of faults: the kind's fields' sorts, the throwing kind's start and statics, the catch -/
def dj_Ex (E : dj_E) (A : Nat → Prop) (U : State) (H : Heap) : Prop := va_Nw (.declares dj_yE) U ∧ dj_Zs "UNASSIGNED_STACK" "[Ljava/lang/StackTraceElement;" A U H ∧ dj_Zs "SUPPRESSED_SENTINEL" "Ljava/util/List;" A U H ∧ va_Nw (.castable "DebtorsHouse$Fault" "DebtorsHouse$Fault") U
/-- all that is known and stays -/
def dj_Kn (E : dj_E) (U : State) : Prop := dj_K E U ∧ (∀ w ∈ dj_nw, va_Nw w U) ∧ (∀ w ∈ dj_cw, va_Nw (.castable w.1 w.2) U) ∧ (∀ w ∈ dj_ld, vk_R "DebtorsHouse$Reader" w.1 w.2.1 (dj_old E w.2.2) U) ∧ dj_Old E (dj_A E) U U.heap ∧ va_AO "java/lang/Object" U ∧ va_AO "DebtorsHouse$State" U
  ∧ dj_Ff E U ∧ va_Mi "[Ljava/lang/Object;" (dj_old E 33) U ∧ va_Dc U ∧ va_Fw "java/util/ArrayList" dj_xT dj_yT U ∧ va_Nw (.castable "[B" "java/lang/Cloneable") U ∧ va_Nw dj_yL U ∧ dj_Ex E (dj_A E) U U.heap ∧ va_Nw dj_sE U
theorem dj_Ff.mov {E : dj_E} {u U : State} (h : dj_Ff E u) (hvm : u.vm.Alike U.vm) : dj_Ff E U := by
  obtain ⟨kX, h1, h2, kA, h3, h4⟩ := h
  obtain ⟨k', hk', he⟩ := hvm.2.2 _ _ h1
  obtain ⟨k2, hk2, he2⟩ := hvm.2.2 _ _ h3
  exact ⟨k', hk', by rw [he]; exact h2, k2, hk2, by rw [he2]; exact h4⟩
theorem dj_Kn_mov {E : dj_E} {s U : State} (h : dj_Kn E s) (hW : s.WarmedH U.vm) (hq : ∀ a : Nat, a < s.heap.size → ¬ dj_A E a → U.heap[a]? = s.heap[a]?) : dj_Kn E U := by
  obtain ⟨a1, a2, a3, a4, a5, a6, a7, a8, a9, a10, a11, a12, a13, ⟨b1, b2, b3, b4⟩, c1⟩ := h
  refine ⟨va_K.moved hW.alike a1, fun w hw => ?_, fun w hw => va_Nw.warmC hW (a3 w hw), fun w hw => (a4 w hw).warm hW, a5.mov hW.alike hq, va_AO.moved hW.alike a6, va_AO.moved hW.alike a7, a8.mov hW.alike, va_Mi.moved hW.alike a9, va_Dc.moved hW.alike a10, va_Fw.moved ⟨by decide, by decide⟩ hW.alike a11, va_Nw.warmC hW a12, va_Nw.warmM hW a13, ⟨va_Nw.warmD hW b1, b2.mov hW.alike hq, b3.mov hW.alike hq, va_Nw.warmC hW b4⟩, word_at hW (Or.inl rfl) c1⟩
  obtain ⟨a, i, b, n, d, h, rfl⟩ := dj_nw_F w hw
  exact va_Nw.warmF hW (a2 _ hw)
theorem dj_Kn_same (E : dj_E) : dh_Mov (dj_Kn E) := by
  intro u U hv hh h
  obtain ⟨a1, a2, a3, a4, a5, a6, a7, a8, a9, a10, a11, a12, a13, ⟨b1, b2, b3, b4⟩, c1⟩ := h
  have al : u.vm.Alike U.vm := by rw [hv]; exact Vm.Alike.refl U.vm
  have hq : ∀ a : Nat, a < u.heap.size → ¬ dj_A E a → U.heap[a]? = u.heap[a]? := fun a _ _ => by rw [hh]
  refine ⟨va_K.moved al a1, fun w hw => ?_, fun w hw => va_Nw.same rfl hv (a3 w hw), fun w hw => (a4 w hw).same hv.symm, a5.mov al hq, va_AO.moved al a6, va_AO.moved al a7, a8.mov al, va_Mi.moved al a9, va_Dc.moved al a10, va_Fw.moved ⟨by decide, by decide⟩ al a11, va_Nw.same rfl hv a12, va_Nw.same rfl hv a13, ⟨va_Nw.same rfl hv b1, b2.mov al hq, b3.mov al hq, va_Nw.same rfl hv b4⟩, va_Nw.same rfl hv c1⟩
  obtain ⟨a, i, b, n, d, h, rfl⟩ := dj_nw_F w hw
  exact va_Nw.same rfl hv (a2 _ hw)

