set_option maxRecDepth 100000
/-! operations of the memory by names -/
def dg_is (G : dg_G) (ci j : Nat) : Option Unit := if dg_K G j = ci + 1 then some () else none
def dg_gI (G : dg_G) (ci k j : Nat) : Option Int32 := if dg_K G j = ci + 1 then some (dg_FI G (100 * ci + k) j) else none
def dg_gR (G : dg_G) (ci k j : Nat) : Option Nat := if dg_K G j = ci + 1 then some (dg_FR G (100 * ci + k) j) else none
def dg_pI (G : dg_G) (ci k j : Nat) (v : Int32) : Option dg_G := if dg_K G j = ci + 1 then some (dg_sFI G (100 * ci + k) j v) else none
def dg_pZ (G : dg_G) (ci k j : Nat) (v : Int32) : Option dg_G := if v = 0 ∨ v = 1 then dg_pI G ci k j v else none
def dg_pB (G : dg_G) (ci k j : Nat) (v : Int32) : Option dg_G := if v.toInt8.toInt32 = v then dg_pI G ci k j v else none
def dg_pC (G : dg_G) (ci k j : Nat) (v : Int32) : Option dg_G := if (v.toUInt32 % 65536).toInt32 = v then dg_pI G ci k j v else none
def dg_pR (G : dg_G) (ci k j : Nat) (v : Nat) : Option dg_G := if dg_K G j = ci + 1 then some (dg_sFR G (100 * ci + k) j v) else none
def dg_ld (G : dg_G) (κ j : Nat) (i : Int32) : Option Int32 := if dg_K G j = κ then (if i < 0 ∨ dg_L G j ≤ i.toNatClampNeg then none else some (dg_AI G j i.toNatClampNeg)) else none
def dg_ldL (G : dg_G) (j : Nat) (i : Int32) : Option Int64 := if dg_K G j = 53 then (if i < 0 ∨ dg_L G j ≤ i.toNatClampNeg then none else some (dg_AL G j i.toNatClampNeg)) else none
def dg_ldR (G : dg_G) (κ j : Nat) (i : Int32) : Option Nat := if dg_K G j = κ then (if i < 0 ∨ dg_L G j ≤ i.toNatClampNeg then none else some (dg_AR G j i.toNatClampNeg)) else none
def dg_st (G : dg_G) (κ j : Nat) (i v : Int32) : Option dg_G := if dg_K G j = κ then (if i < 0 ∨ dg_L G j ≤ i.toNatClampNeg then none else some (dg_sAI G j i.toNatClampNeg v)) else none
def dg_stL (G : dg_G) (j : Nat) (i : Int32) (v : Int64) : Option dg_G := if dg_K G j = 53 then (if i < 0 ∨ dg_L G j ≤ i.toNatClampNeg then none else some (dg_sAL G j i.toNatClampNeg v)) else none
/-- may stand in an array of the kind κ: null, or an object -/
def dg_may (G : dg_G) (κ v : Nat) : Prop := v = 0 ∨ (κ = 54 ∧ (dg_K G v = 4 ∨ dg_K G v = 5 ∨ dg_K G v = 6 ∨ dg_K G v = 9 ∨ dg_K G v = 10)) ∨ (κ = 55 ∧ dg_K G v = 3)
theorem dg_may_dec (G : dg_G) (κ v : Nat) : (dg_may G κ v) = (v = 0 ∨ (κ = 54 ∧ (dg_K G v = 4 ∨ dg_K G v = 5 ∨ dg_K G v = 6 ∨ dg_K G v = 9 ∨ dg_K G v = 10)) ∨ (κ = 55 ∧ dg_K G v = 3)) := rfl
def dg_mayb (G : dg_G) (κ v : Nat) : Bool := decide (v = 0 ∨ (κ = 54 ∧ (dg_K G v = 4 ∨ dg_K G v = 5 ∨ dg_K G v = 6 ∨ dg_K G v = 9 ∨ dg_K G v = 10)) ∨ (κ = 55 ∧ dg_K G v = 3))
theorem dg_mayb_iff {G : dg_G} {κ v : Nat} : dg_mayb G κ v = true ↔ dg_may G κ v := by unfold dg_mayb dg_may; exact decide_eq_true_iff
def dg_stR (G : dg_G) (κ j : Nat) (i : Int32) (v : Nat) : Option dg_G := if dg_K G j = κ ∧ dg_mayb G κ v = true then (if i < 0 ∨ dg_L G j ≤ i.toNatClampNeg then none else some (dg_sAR G j i.toNatClampNeg v)) else none
def dg_ln (G : dg_G) (j : Nat) : Option Int32 := if 50 ≤ dg_K G j ∧ dg_K G j ≤ 56 then some (Int32.ofNat (dg_L G j)) else none
def dg_nw (G : dg_G) (ci : Nat) : dg_G := (dg_n G + 1, dg_sl G + dg_N ci, fun x => if x = dg_n G then ci + 1 else dg_K G x, dg_L G, fun f x => if x = dg_n G then 0 else dg_FI G f x, fun f x => if x = dg_n G then 0 else dg_FR G f x, dg_AI G, dg_AL G, dg_AR G)
/-- a Fault not begun -/
def dg_nwF (G : dg_G) : dg_G := (dg_n G + 1, dg_sl G + 8, fun x => if x = dg_n G then 20 else dg_K G x, dg_L G, fun f x => if x = dg_n G then 0 else dg_FI G f x, fun f x => if x = dg_n G then 0 else dg_FR G f x, dg_AI G, dg_AL G, dg_AR G)
/-- it is begun -/
def dg_beg (G : dg_G) (j : Nat) : Option dg_G := if dg_K G j = 20 then some (dg_n G, dg_sl G, fun x => if x = j then 8 else dg_K G x, dg_L G, fun f x => if x = j then 0 else dg_FI G f x, dg_FR G, dg_AI G, dg_AL G, dg_AR G) else none
def dg_na (G : dg_G) (κ m : Nat) : dg_G := (dg_n G + 1, dg_sl G + m, fun x => if x = dg_n G then κ else dg_K G x, fun x => if x = dg_n G then m else dg_L G x, dg_FI G, dg_FR G, fun x i => if x = dg_n G then 0 else dg_AI G x i, fun x i => if x = dg_n G then 0 else dg_AL G x i, fun x i => if x = dg_n G then 0 else dg_AR G x i)
def dg_new (G : dg_G) (κ : Nat) (m : Int32) : Option dg_G := if m < 0 ∨ 65536 < m.toNatClampNeg then none else some (dg_na G κ m.toNatClampNeg)
/-- rows written whole -/
def dg_rI (G : dg_G) (a : Nat) (f : Nat → Int32) : dg_G := (dg_n G, dg_sl G, dg_K G, dg_L G, dg_FI G, dg_FR G, fun x => if x = a then f else dg_AI G x, dg_AL G, dg_AR G)
def dg_rR (G : dg_G) (a : Nat) (f : Nat → Nat) : dg_G := (dg_n G, dg_sl G, dg_K G, dg_L G, dg_FI G, dg_FR G, dg_AI G, dg_AL G, fun x => if x = a then f else dg_AR G x)
def dg_in (sp n : Int32) (m : Nat) : Prop := ¬ sp < 0 ∧ ¬ n < 0 ∧ sp.toNatClampNeg + n.toNatClampNeg ≤ m
def dg_cpI (G : dg_G) (κ a0 : Nat) (sp : Int32) (a : Nat) (dp n : Int32) : Option dg_G :=
  if dg_K G a0 = κ ∧ dg_K G a = κ ∧ ¬ sp < 0 ∧ ¬ dp < 0 ∧ ¬ n < 0 ∧ sp.toNatClampNeg + n.toNatClampNeg ≤ dg_L G a0 ∧ dp.toNatClampNeg + n.toNatClampNeg ≤ dg_L G a ∧ (κ = 50 ∨ (List.range n.toNatClampNeg).all (fun i => (dg_AI G a0 (sp.toNatClampNeg + i)).toInt8.toInt32 == dg_AI G a0 (sp.toNatClampNeg + i)) = true)
  then some (dg_rI G a (va_cpy (dg_AI G a0) (dg_AI G a) sp.toNatClampNeg dp.toNatClampNeg n.toNatClampNeg)) else none
def dg_cpR (G : dg_G) (a0 : Nat) (sp : Int32) (a : Nat) (dp n : Int32) : Option dg_G :=
  if dg_K G a0 = 54 ∧ dg_K G a = 54 ∧ ¬ sp < 0 ∧ ¬ dp < 0 ∧ ¬ n < 0 ∧ sp.toNatClampNeg + n.toNatClampNeg ≤ dg_L G a0 ∧ dp.toNatClampNeg + n.toNatClampNeg ≤ dg_L G a ∧ (List.range n.toNatClampNeg).all (fun i => dg_mayb G 54 (dg_AR G a0 (sp.toNatClampNeg + i))) = true
  then some (dg_rR G a (va_cpy (dg_AR G a0) (dg_AR G a) sp.toNatClampNeg dp.toNatClampNeg n.toNatClampNeg)) else none
/-- a copy of a row of bytes -/
def dg_cln (G : dg_G) (a : Nat) : Option dg_G :=
  if dg_K G a = 51 ∧ (List.range (dg_L G a)).all (fun i => (dg_AI G a i).toInt8.toInt32 == dg_AI G a i) = true then some (dg_rI (dg_na G 51 (dg_L G a)) (dg_n G) (dg_AI G a)) else none
/-- a grid of 12 rows of 12 numbers -/
def dg_grid (G : dg_G) : dg_G := (dg_n G + 13, dg_sl G + 156, fun x => if x = dg_n G then 56 else if dg_n G < x ∧ x < dg_n G + 13 then 50 else dg_K G x, fun x => if dg_n G ≤ x ∧ x < dg_n G + 13 then 12 else dg_L G x, dg_FI G, dg_FR G, fun x i => if dg_n G ≤ x ∧ x < dg_n G + 13 then 0 else dg_AI G x i, fun x i => if x = dg_n G then 0 else dg_AL G x i, fun x i => if x = dg_n G then (if i < 12 then dg_n G + 1 + i else 0) else dg_AR G x i)
/-! what was there before: constants and texts -/
def do_word (j : Nat) : Option Nat := if 1 ≤ j ∧ j ≤ 9 then some (39 + j) else if 11 ≤ j ∧ j ≤ 18 then some (38 + j) else none
def do_without (j : Nat) : Option Int32 := if 1 ≤ j ∧ j ≤ 9 then some (([1, 0, 0, 0, 50, 75, 1, 0, 1] : List Int32).getD (j - 1) 0) else none
def do_ord (j : Nat) : Option Int32 := if 11 ≤ j ∧ j ≤ 18 then some (Int32.ofNat (j - 11)) else if 21 ≤ j ∧ j ≤ 24 then some (Int32.ofNat (j - 21)) else none
def do_isT (j : Nat) : Option Unit := if 1 ≤ j ∧ j ≤ 9 then some () else none
def do_isA (j : Nat) : Option Unit := if 11 ≤ j ∧ j ≤ 18 then some () else none
def do_isS (j : Nat) : Option Unit := if 21 ≤ j ∧ j ≤ 24 then some () else none
def do_len (j : Nat) : Option Int32 := if j = 31 then some 9 else if j = 32 then some 8 else none
def do_ld (j : Nat) (i : Int32) : Option Nat := if j = 31 then (if i < 0 ∨ 9 ≤ i.toNatClampNeg then none else some (1 + i.toNatClampNeg)) else if j = 32 then (if i < 0 ∨ 8 ≤ i.toNatClampNeg then none else some (11 + i.toNatClampNeg)) else none
/-- may be compared: the outcome is known -/
def dg_cmp (a b : Nat) : Option Unit := if a = b ∨ a = 0 ∨ b = 0 ∨ (100 ≤ a ∧ 100 ≤ b) ∨ (100 ≤ a ∧ 40 ≤ b ∧ b < 63) ∨ (1 ≤ a ∧ a ≤ 9 ∧ 1 ≤ b ∧ b ≤ 9) ∨ (21 ≤ a ∧ a ≤ 24 ∧ 21 ≤ b ∧ b ≤ 24) ∨ (26 ≤ a ∧ a ≤ 30 ∧ 26 ≤ b ∧ b ≤ 30) then some () else none
def dg_pos (j : Nat) : Option Unit := if j ≠ 0 then some () else none
/-! texts: made ones, and those that were there -/
def dg_isS (G : dg_G) (j : Nat) : Option Unit := if (40 ≤ j ∧ j < 63) ∨ dg_K G j = 13 then some () else none
def dg_gSv (G : dg_G) (j : Nat) : Option Nat := if 40 ≤ j ∧ j < 63 then some (j + 30) else dg_gR G 12 0 j
def dg_gSc (G : dg_G) (j : Nat) : Option Int32 := if 40 ≤ j ∧ j < 63 then some 0 else dg_gI G 12 1 j
def dg_ldB (G : dg_G) (j : Nat) (i : Int32) : Option Int32 := if 70 ≤ j ∧ j < 93 then (if i < 0 ∨ dj_sl.getD (j - 70) 0 ≤ i.toNatClampNeg then none else some ((dj_sb.getD (j - 70) []).getD i.toNatClampNeg 0)) else dg_ld G 51 j i
def dg_lnB (G : dg_G) (j : Nat) : Option Int32 := if 70 ≤ j ∧ j < 93 then some (Int32.ofNat (dj_sl.getD (j - 70) 0)) else if dg_K G j = 51 then some (Int32.ofNat (dg_L G j)) else none
def dg_cast (G : dg_G) (ci j : Nat) : Option Unit := if j = 0 ∨ dg_K G j = ci + 1 then some () else none
theorem dg_if {α : Type} {c : Prop} [Decidable c] {a v : α} (h : (if c then some a else none) = some v) : c ∧ v = a := by
  by_cases hc : c
  · rw [if_pos hc] at h; cases h; exact ⟨hc, rfl⟩
  · rw [if_neg hc] at h; cases h
theorem dg_if2 {α : Type} {c : Prop} [Decidable c] {x : Option α} {v : α} (h : (if c then x else none) = some v) : c ∧ x = some v := by
  by_cases hc : c
  · rw [if_pos hc] at h; exact ⟨hc, h⟩
  · rw [if_neg hc] at h; cases h
theorem dj_cat (E : dj_E) (r : Nat) : (dj_v E r).category = 1 := by
  by_cases h : r = 0
  · subst h; rfl
  · rw [dj_v_pos h]; rfl
theorem dj_v_or (E : dj_E) (r : Nat) : dj_v E r = .null ∨ ∃ a, dj_v E r = .ref a := by
  by_cases h : r = 0
  · subst h; exact Or.inl rfl
  · rw [dj_v_pos h]; exact Or.inr ⟨_, rfl⟩
theorem dj_cat8 {st : List Value} (h : st.length ≤ 4) : (st.map fun v => v.category).sum ≤ 8 := by
  have : ∀ l : List Value, (l.map fun v => v.category).sum ≤ 2 * l.length := by
    intro l
    induction l with
    | nil => simp
    | cons a t ih =>
      simp only [List.map_cons, List.sum_cons, List.length_cons]
      have := lv_cat a
      omega
  have := this st
  omega
/-! the judgement -/
abbrev dg_T : Type := ByteArray × Nat × String × Option FieldType × Nat × Nat × String × List (Nat × Nat × Nat × Nat)
abbrev dt_c (T : dg_T) : ByteArray := T.1
abbrev dt_L (T : dg_T) : Nat := T.2.1
abbrev dt_o (T : dg_T) : String := T.2.2.1
abbrev dt_r (T : dg_T) : Option FieldType := T.2.2.2.1
abbrev dt_F (T : dg_T) : Nat := T.2.2.2.2.1
abbrev dt_W (T : dg_T) : Nat := T.2.2.2.2.2.1
abbrev dt_n (T : dg_T) : String := T.2.2.2.2.2.2.1
abbrev dt_h (T : dg_T) : List (Nat × Nat × Nat × Nat) := T.2.2.2.2.2.2.2
def dg_out (E : dj_E) (x : Nat ⊕ Option Value) : Outcome := match x with
  | .inl j => .threw (dj_ad E j)
  | .inr v => .returned v
def dg_Q (E : dj_E) (Mo : Option dm_M) (x : Nat ⊕ Option Value) (G' : dg_G) : Outcome → Heap → Prop := fun o H => o = dg_out E x ∧ dj_P E Mo G' H
def dg_ok (T : dg_T) (l : Launch) (E : dj_E) (G' : dg_G) (C : dh_C) (n0 s0 : Nat) : Prop :=
  dh_ok C (dt_c T) (dt_L T) (dt_o T) (dt_r T) ∧ dj_Kn E (dh_s C) ∧ dh_R C = { frames := dt_F T, cells := dg_n G' - n0, slots := dg_sl G' - s0, locals := dt_W T } ∧ (dh_t C).name = dt_n T ∧ dh_l C = l ∧ (dh_c C).exceptionTable.toList.map (fun x => (x.startPc, x.endPc, x.handlerPc, x.catchType)) = dt_h T
def dg_mono (G G' : dg_G) : Prop := dg_n G ≤ dg_n G' ∧ dg_sl G ≤ dg_sl G'
theorem dg_mono.rf (G : dg_G) : dg_mono G G := ⟨Nat.le_refl _, Nat.le_refl _⟩
theorem dg_mono.tr {G G1 G2 : dg_G} (h : dg_mono G G1) (h' : dg_mono G1 G2) : dg_mono G G2 := ⟨Nat.le_trans h.1 h'.1, Nat.le_trans h.2 h'.2⟩
def dgW (T : dg_T) (l : Launch) (E : dj_E) (Mo : Option dm_M) (G' : dg_G) (x : Nat ⊕ Option Value) (G : dg_G) (pc : Nat) (lv : List (Nat × Value)) (st : List Value) : Prop :=
  dg_mono G G' ∧ ∀ (C : dh_C) (n0 s0 : Nat), dg_ok T l E G' C n0 s0 → n0 ≤ dg_n G → s0 ≤ dg_sl G → dh_W C (dj_A E) (dj_P E Mo G) (dg_Q E Mo x G') (dg_n G' - n0) (dg_sl G' - s0) (dg_n G - n0) (dg_sl G - s0) pc lv st
section
variable {T : dg_T} {l : Launch} {E : dj_E} {Mo : Option dm_M} {G' : dg_G} {x : Nat ⊕ Option Value} {G : dg_G} {pc pc1 pc2 : Nat} {lv lv1 : List (Nat × Value)} {st st1 : List Value}
theorem dg_l (h : ∀ (C : dh_C) (P : Heap → Prop) (Q : Outcome → Heap → Prop) (mc ms k n : Nat), dh_ok C (dt_c T) (dt_L T) (dt_o T) (dt_r T) → dh_W C (dj_A E) P Q mc ms k n pc1 lv1 st1 → dh_W C (dj_A E) P Q mc ms k n pc lv st) (kk : dgW T l E Mo G' x G pc1 lv1 st1) : dgW T l E Mo G' x G pc lv st :=
  ⟨kk.1, fun C n0 s0 h1 h2 h3 => h C _ _ _ _ _ _ h1.1 (kk.2 C n0 s0 h1 h2 h3)⟩
theorem dg_b {c : Prop} (h : ∀ (C : dh_C) (P : Heap → Prop) (Q : Outcome → Heap → Prop) (mc ms k n : Nat), dh_ok C (dt_c T) (dt_L T) (dt_o T) (dt_r T) → (c → dh_W C (dj_A E) P Q mc ms k n pc1 lv st) → (¬ c → dh_W C (dj_A E) P Q mc ms k n pc2 lv st) → dh_W C (dj_A E) P Q mc ms k n pc lv st1) (kt : c → dgW T l E Mo G' x G pc1 lv st) (kf : ¬ c → dgW T l E Mo G' x G pc2 lv st) : dgW T l E Mo G' x G pc lv st1 := by
  by_cases hc : c
  · exact ⟨(kt hc).1, fun C n0 s0 a b d => h C _ _ _ _ _ _ a.1 (fun z => (kt z).2 C n0 s0 a b d) (fun z => absurd hc z)⟩
  · exact ⟨(kf hc).1, fun C n0 s0 a b d => h C _ _ _ _ _ _ a.1 (fun z => absurd z hc) (fun z => (kf z).2 C n0 s0 a b d)⟩
theorem dg_bn {c : Prop} (h : ∀ (C : dh_C) (P : Heap → Prop) (Q : Outcome → Heap → Prop) (mc ms k n : Nat), dh_ok C (dt_c T) (dt_L T) (dt_o T) (dt_r T) → (¬ c → dh_W C (dj_A E) P Q mc ms k n pc1 lv st) → (c → dh_W C (dj_A E) P Q mc ms k n pc2 lv st) → dh_W C (dj_A E) P Q mc ms k n pc lv st1) (kt : ¬ c → dgW T l E Mo G' x G pc1 lv st) (kf : c → dgW T l E Mo G' x G pc2 lv st) : dgW T l E Mo G' x G pc lv st1 := by
  by_cases hc : c
  · exact ⟨(kf hc).1, fun C n0 s0 a b d => h C _ _ _ _ _ _ a.1 (fun z => absurd hc z) (fun z => (kf z).2 C n0 s0 a b d)⟩
  · exact ⟨(kt hc).1, fun C n0 s0 a b d => h C _ _ _ _ _ _ a.1 (fun z => (kt z).2 C n0 s0 a b d) (fun z => absurd z hc)⟩
theorem g_sub (ks : List Nat) (h : lv_pick lv ks = lv1) (kk : dgW T l E Mo G' x G pc lv1 st) : dgW T l E Mo G' x G pc lv st := dg_l (fun C P Q mc ms k n hC => r_sub ks h) kk
/-! references on the stack and in the locals -/
theorem g_aload_n {f : Fin 4} {i j r : Nat} (hd : decode (dt_c T) pc = .ok (.aload_n f, 1)) (hi : (f : Nat) = i) (hj : lv[j]? = some (i, dj_v E r)) (kk : dgW T l E Mo G' x G (pc + 1) lv (dj_v E r :: st)) : dgW T l E Mo G' x G pc lv st := by
  refine dg_l (fun C P Q mc ms k n hC kk H locs ls hP hS hl => ?_) kk
  by_cases h : r = 0
  · subst h
    exact lv_aload_nN hC.1 hC.2.1 hd hi (lv_at hl j hj) (kk H locs ls hP hS hl)
  · rw [dj_v_pos h] at hj kk
    exact lv_aload_n hC.1 hC.2.1 hd hi (lv_at hl j hj) (kk H locs ls hP hS hl)
theorem g_aload {i j r : Nat} (hd : decode (dt_c T) pc = .ok (.aload i, 2)) (hj : lv[j]? = some (i, dj_v E r)) (kk : dgW T l E Mo G' x G (pc + 2) lv (dj_v E r :: st)) : dgW T l E Mo G' x G pc lv st := by
  refine dg_l (fun C P Q mc ms k n hC kk H locs ls hP hS hl => ?_) kk
  by_cases h : r = 0
  · subst h
    exact lv_aloadN hC.1 hC.2.1 hd (lv_at hl j hj) (kk H locs ls hP hS hl)
  · rw [dj_v_pos h] at hj kk
    exact lv_aload hC.1 hC.2.1 hd (lv_at hl j hj) (kk H locs ls hP hS hl)
theorem g_astore_n {f : Fin 4} {i r : Nat} (hd : decode (dt_c T) pc = .ok (.astore_n f, 1)) (hi : (f : Nat) = i) (hn : i < dt_L T) (hl' : (i, dj_v E r) :: lv.filter (fun q => !(q.1 == i) && !(q.1 + 1 == i && q.2.category == 2)) = lv1) (kk : dgW T l E Mo G' x G (pc + 1) lv1 st) : dgW T l E Mo G' x G pc lv (dj_v E r :: st) := by
  refine dg_l (fun C P Q mc ms k n hC kk H locs ls hP hS hl => ?_) kk
  by_cases h : r = 0
  · subst h
    exact lv_astore_nN hC.1 hC.2.1 hd hi hl (by rw [hC.2.2.1]; exact hn) hl' (fun ls' h' => kk H locs ls' hP hS h')
  · rw [dj_v_pos h] at hl' ⊢
    exact lv_astore_n hC.1 hC.2.1 hd hi hl (by rw [hC.2.2.1]; exact hn) hl' (fun ls' h' => kk H locs ls' hP hS h')
theorem g_astore {i r : Nat} (hd : decode (dt_c T) pc = .ok (.astore i, 2)) (hn : i < dt_L T) (hl' : (i, dj_v E r) :: lv.filter (fun q => !(q.1 == i) && !(q.1 + 1 == i && q.2.category == 2)) = lv1) (kk : dgW T l E Mo G' x G (pc + 2) lv1 st) : dgW T l E Mo G' x G pc lv (dj_v E r :: st) := by
  refine dg_l (fun C P Q mc ms k n hC kk H locs ls hP hS hl => ?_) kk
  by_cases h : r = 0
  · subst h
    exact lv_astoreN hC.1 hC.2.1 hd hl (by rw [hC.2.2.1]; exact hn) hl' (fun ls' h' => kk H locs ls' hP hS h')
  · rw [dj_v_pos h] at hl' ⊢
    exact lv_astore hC.1 hC.2.1 hd hl (by rw [hC.2.2.1]; exact hn) hl' (fun ls' h' => kk H locs ls' hP hS h')
theorem g_null (hd : decode (dt_c T) pc = .ok (.aconst_null, 1)) (kk : dgW T l E Mo G' x G (pc + 1) lv (dj_v E 0 :: st)) : dgW T l E Mo G' x G pc lv st :=
  dg_l (fun C P Q mc ms k n hC kk H locs ls hP hS hl => lv_null hC.1 hC.2.1 hd (kk H locs ls hP hS hl)) kk
theorem g_ifnull {r : Nat} {off : Int} {tgt : Nat} (hd : decode (dt_c T) pc = .ok (.ifnull off, 3)) (ht : (pc : Int) + off = (tgt : Int)) (kt : r = 0 → dgW T l E Mo G' x G tgt lv st) (kf : ¬ r = 0 → dgW T l E Mo G' x G (pc + 3) lv st) : dgW T l E Mo G' x G pc lv (dj_v E r :: st) := by
  refine dg_b (fun C P Q mc ms k n hC kt kf H locs ls hP hS hl => ?_) kt kf
  by_cases h : r = 0
  · have := kt h H locs ls hP hS hl
    subst h
    exact lv_ifnullN hC.1 hC.2.1 hd ht this
  · rw [dj_v_pos h]
    exact lv_ifnull hC.1 hC.2.1 hd (kf h H locs ls hP hS hl)
theorem g_ifnonnull {r : Nat} {off : Int} {tgt : Nat} (hd : decode (dt_c T) pc = .ok (.ifnonnull off, 3)) (ht : (pc : Int) + off = (tgt : Int)) (kt : ¬ r = 0 → dgW T l E Mo G' x G tgt lv st) (kf : r = 0 → dgW T l E Mo G' x G (pc + 3) lv st) : dgW T l E Mo G' x G pc lv (dj_v E r :: st) := by
  refine dg_bn (fun C P Q mc ms k n hC kt kf H locs ls hP hS hl => ?_) kt kf
  by_cases h : r = 0
  · have := kf h H locs ls hP hS hl
    subst h
    exact lv_ifnonnullN hC.1 hC.2.1 hd this
  · rw [dj_v_pos h]
    exact lv_ifnonnull hC.1 hC.2.1 hd ht (kt h H locs ls hP hS hl)
theorem g_dup {r : Nat} (hd : decode (dt_c T) pc = .ok (.dup, 1)) (kk : dgW T l E Mo G' x G (pc + 1) lv (dj_v E r :: dj_v E r :: st)) : dgW T l E Mo G' x G pc lv (dj_v E r :: st) := dg_l (fun C P Q mc ms k n hC => r_dup hC hd (dj_cat E r)) kk
theorem g_pop {r : Nat} (hd : decode (dt_c T) pc = .ok (.pop, 1)) (kk : dgW T l E Mo G' x G (pc + 1) lv st) : dgW T l E Mo G' x G pc lv (dj_v E r :: st) := dg_l (fun C P Q mc ms k n hC => r_pop hC hd (dj_cat E r)) kk
end
