set_option maxRecDepth 100000
/-! The world: cells by names. Name 0: null; below 100: what was there before; from 100 on: the cells in the order they were made -/
/-- of a Fault its own two fields alone are told -/
def dj_T7 : u_T := fun k => TX7 (6 + k)
abbrev dj_cl : List vw_C := [(RX2, TX2, 80), (RX0, TX0, 10), (RX1, TX1, 13), (RX3, TX3, 15), (RX4, TX4, 16), (RX5, TX5, 3), (RX6, TX6, 9), (RX7, dj_T7, 2), (RX8, TX8, 3), (RX9, TX9, 4), (RJ2, TJ2, 3), (RJ10, TJ10, 4), (RJ11, TJ11, 4)]
abbrev dj_E : Type := va_G × (Nat → ClassId) × Nat × (Nat → Nat) × Nat × Array FieldType
abbrev dj_D (E : dj_E) : va_G := E.1
abbrev dj_dA (E : dj_E) : Nat → ClassId := E.2.1
abbrev dj_bs (E : dj_E) : Nat := E.2.2.1
abbrev dj_old (E : dj_E) : Nat → Nat := E.2.2.2.1
abbrev dj_m0 (E : dj_E) : Nat := E.2.2.2.2.1
abbrev dj_ft (E : dj_E) : Array FieldType := E.2.2.2.2.2
abbrev dj_ty (E : dj_E) : List (ClassId × FieldType) := [(dj_dA E 0, .int), (dj_dA E 1, .byte), (dj_dA E 2, .boolean), (dj_dA E 3, .long), (dj_dA E 4, .object "java/lang/Object"), (dj_dA E 5, .object "DebtorsHouse$State"), (dj_dA E 6, .array .int)]
def dj_ad (E : dj_E) (j : Nat) : Nat := if j < 100 then dj_old E j else dj_bs E + (j - 100)
def dj_o (E : dj_E) (r : Nat) : Option Nat := if r = 0 then none else some (dj_ad E r)
def dj_v (E : dj_E) (r : Nat) : Value := va_rf (dj_o E r)
def dj_A (E : dj_E) : Nat → Prop := fun q => dj_bs E ≤ q
theorem dj_v_pos {E : dj_E} {r : Nat} (h : r ≠ 0) : dj_v E r = .ref (dj_ad E r) := by simp [dj_v, dj_o, h, va_rf]
theorem dj_v_0 (E : dj_E) : dj_v E 0 = .null := rfl
theorem dj_ad_new {E : dj_E} {j : Nat} (h : 100 ≤ j) : dj_ad E j = dj_bs E + (j - 100) := if_neg (by omega)
theorem dj_ad_inj {E : dj_E} {i j : Nat} (hi : 100 ≤ i) (hj : 100 ≤ j) (h : dj_ad E i = dj_ad E j) : i = j := by
  rw [dj_ad_new hi, dj_ad_new hj] at h
  omega
/-- the memory: next name, slots used, kinds, lengths, int fields, reference fields, int rows, long rows, reference rows -/
abbrev dg_G : Type := Nat × Nat × (Nat → Nat) × (Nat → Nat) × (Nat → Nat → Int32) × (Nat → Nat → Nat) × (Nat → Nat → Int32) × (Nat → Nat → Int64) × (Nat → Nat → Nat)
abbrev dg_n (G : dg_G) : Nat := G.1
abbrev dg_sl (G : dg_G) : Nat := G.2.1
abbrev dg_K (G : dg_G) : Nat → Nat := G.2.2.1
abbrev dg_L (G : dg_G) : Nat → Nat := G.2.2.2.1
abbrev dg_FI (G : dg_G) : Nat → Nat → Int32 := G.2.2.2.2.1
abbrev dg_FR (G : dg_G) : Nat → Nat → Nat := G.2.2.2.2.2.1
abbrev dg_AI (G : dg_G) : Nat → Nat → Int32 := G.2.2.2.2.2.2.1
abbrev dg_AL (G : dg_G) : Nat → Nat → Int64 := G.2.2.2.2.2.2.2.1
abbrev dg_AR (G : dg_G) : Nat → Nat → Nat := G.2.2.2.2.2.2.2.2
def dg_up {α : Type} (F : Nat → Nat → α) (a b : Nat) (v : α) : Nat → Nat → α := fun x y => if x = a ∧ y = b then v else F x y
def dg_sFI (G : dg_G) (f j : Nat) (v : Int32) : dg_G := (dg_n G, dg_sl G, dg_K G, dg_L G, dg_up (dg_FI G) f j v, dg_FR G, dg_AI G, dg_AL G, dg_AR G)
def dg_sFR (G : dg_G) (f j : Nat) (v : Nat) : dg_G := (dg_n G, dg_sl G, dg_K G, dg_L G, dg_FI G, dg_up (dg_FR G) f j v, dg_AI G, dg_AL G, dg_AR G)
def dg_sAI (G : dg_G) (j i : Nat) (v : Int32) : dg_G := (dg_n G, dg_sl G, dg_K G, dg_L G, dg_FI G, dg_FR G, dg_up (dg_AI G) j i v, dg_AL G, dg_AR G)
def dg_sAL (G : dg_G) (j i : Nat) (v : Int64) : dg_G := (dg_n G, dg_sl G, dg_K G, dg_L G, dg_FI G, dg_FR G, dg_AI G, dg_up (dg_AL G) j i v, dg_AR G)
def dg_sAR (G : dg_G) (j i : Nat) (v : Nat) : dg_G := (dg_n G, dg_sl G, dg_K G, dg_L G, dg_FI G, dg_FR G, dg_AI G, dg_AL G, dg_up (dg_AR G) j i v)
def dg_N (ci : Nat) : Nat := match ci with
  | 0 => 80 | 1 => 10 | 2 => 13 | 3 => 15 | 4 => 16 | 5 => 3 | 6 => 9 | 7 => 2 | 8 => 3 | 9 => 4 | 10 => 3 | 11 => 4 | _ => 4
/-- a field's kind: 0 a number, 1 a reference, 2 a long -/
def dm_kd (k : Nat) : Nat := if k = 0 then 4 else if k = 1 then 1 else if k = 59 then 5 else if 54 ≤ k ∧ k ≤ 63 then 4 else if k = 76 then 3 else if k = 11 ∨ k = 15 ∨ k = 20 ∨ k = 38 ∨ k = 72 ∨ k = 79 then 2 else if k < 80 then 0 else 9
def dg_kd (ci k : Nat) : Nat := match ci with
  | 0 => if dm_kd k = 4 then 0 else if dm_kd k = 5 then 2 else 1
  | 1 => 1
  | 2 => if k = 0 ∨ 8 ≤ k then 1 else 0
  | 3 => 0
  | 4 => if k = 15 then 1 else 0
  | 5 => if k = 2 then 1 else 0
  | 6 => if k = 0 ∨ 5 ≤ k then 1 else 0
  | 7 => 0
  | 8 => if k < 2 then 1 else 0
  | 9 => if k = 1 then 1 else 0
  | 10 => if k = 1 then 1 else 0
  | _ => if k = 0 then 1 else 0
def dg_fv (E : dj_E) (G : dg_G) (ci j k : Nat) : Value := if dg_kd ci k = 0 then .int (dg_FI G (100 * ci + k) j) else if dg_kd ci k = 1 then dj_v E (dg_FR G (100 * ci + k) j) else .long 0
def dg_cell (E : dj_E) (G : dg_G) (j : Nat) : Option va_E :=
  if dg_K G j = 0 ∨ dg_K G j = 20 then none
  else if dg_K G j < 50 then some (.inr (dg_K G j - 1, (List.range (dg_N (dg_K G j - 1))).map (dg_fv E G (dg_K G j - 1) j)))
  else if dg_K G j < 53 then some (.inl (dj_dA E (dg_K G j - 50), dg_L G j, .inl (dg_AI G j)))
  else if dg_K G j = 53 then some (.inl (dj_dA E 3, dg_L G j, .inr (.inl (dg_AL G j))))
  else some (.inl (dj_dA E (dg_K G j - 50), dg_L G j, .inr (.inr (.inr (.inr (fun i => dj_o E (dg_AR G j i)))))))
/-! the model's own memory -/
abbrev dm_M : Type := (Nat → Nat → Int32) × (Nat → Nat → Int64)
def dm_len (k : Nat) : Nat :=
  if k = 1 then 2400 else if k ≤ 8 then 4 else if k ≤ 22 then 48 else if k = 23 then 4 else if k = 24 then 576 else if k = 25 then 4 else if k ≤ 40 then 160 else if k = 41 then 4 else if k = 42 then 48 else if k = 43 then 4 else if k ≤ 46 then 16 else if k ≤ 49 then 320 else if k ≤ 52 then 1280 else if k = 53 then 12 else if k ≤ 66 then 21 else if k ≤ 69 then 80 else if k = 70 then 8 else if k ≤ 72 then 40 else if k = 73 then 10 else if k ≤ 76 then 40 else if k = 77 then 8 else if k = 78 then 256 else 3
def dm_ad (k : Nat) : Nat := if k ≤ 53 then k else k - 10
def dm_of (j : Nat) : Nat := if j ≤ 53 then j else j + 10
def dj_am (E : dj_E) : Nat := dj_bs E + (dj_m0 E - 100)
def dm_fv (am : Nat) (M : dm_M) (k : Nat) : Value := if dm_kd k = 4 then .int (M.1 k 0) else if dm_kd k = 5 then .long (M.2 k 0) else .ref (am + dm_ad k)
def dm_row (dA : Nat → ClassId) (M : dm_M) (k : Nat) : va_E := if dm_kd k = 3 then .inl (dA 3, dm_len k, .inr (.inl (M.2 k))) else .inl (dA (dm_kd k), dm_len k, .inl (M.1 k))
def dm_obj (am : Nat) (M : dm_M) : va_E := .inr (0, (List.range 80).map (dm_fv am M))
def dm_cell (E : dj_E) (M : dm_M) (j : Nat) : va_E := if j = 0 then dm_obj (dj_am E) M else dm_row (dj_dA E) M (dm_of j)
def dm_H (E : dj_E) (M : dm_M) (H : Heap) : Prop := ∀ i, i < 70 → va_at (dj_D E) dj_cl (dj_am E + i, dm_cell E M i) H
def dj_mo (E : dj_E) (Mo : Option dm_M) (G : dg_G) (H : Heap) : Prop := ∀ M, Mo = some M → dm_H E M H ∧ (∀ i, i < 70 → dg_K G (dj_m0 E + i) = 0) ∧ 100 ≤ dj_m0 E ∧ dj_m0 E + 70 ≤ dg_n G
/-- a Fault that is made and not begun: kind 20 -/
def dj_raw (E : dj_E) : Cell := { cls := (dj_D E).1 7, slots := (dj_ft E).map defaultValue, vm := .none }
def dj_P (E : dj_E) (Mo : Option dm_M) (G : dg_G) (H : Heap) : Prop :=
  (∀ j e, dg_cell E G j = some e → va_at (dj_D E) dj_cl (dj_ad E j, e) H) ∧ H.size = dj_bs E + (dg_n G - 100) ∧ 100 ≤ dg_n G ∧ (∀ j, dg_K G j ≠ 0 → 100 ≤ j ∧ j < dg_n G) ∧ dj_mo E Mo G H ∧ (∀ j, dg_K G j = 20 → H[dj_ad E j]? = some (dj_raw E))
theorem dg_cell_K {E : dj_E} {G : dg_G} {j : Nat} {e : va_E} (h : dg_cell E G j = some e) : dg_K G j ≠ 0 := by
  intro q
  unfold dg_cell at h
  rw [if_pos (Or.inl q)] at h
  cases h
/-- one cell is written: the others stay -/
theorem dj_put {E : dj_E} {Mo : Option dm_M} {G G' : dg_G} {H H' : Heap} (hP : dj_P E Mo G H) {j : Nat} (hj : dg_K G j ≠ 0) (hz : H'.size = H.size) (ho : ∀ q, q ≠ dj_ad E j → H'[q]? = H[q]?) (hn : dg_n G' = dg_n G) (hK : dg_K G' = dg_K G) (hc : ∀ i, i ≠ j → dg_cell E G' i = dg_cell E G i)
    (hr : dg_K G j ≠ 20) (hj' : ∀ e, dg_cell E G' j = some e → va_at (dj_D E) dj_cl (dj_ad E j, e) H') : dj_P E Mo G' H' := by
  obtain ⟨p1, p2, p3, p4, p5, p6⟩ := hP
  have h100 := (p4 j hj).1
  refine ⟨fun i e he => ?_, by rw [hz, hn]; exact p2, by rw [hn]; exact p3, by rw [hK, hn]; exact p4, fun M hM => ?_, fun i hi => ?_⟩
  · by_cases hij : i = j
    · subst hij
      exact hj' e he
    · have hk := dg_cell_K he
      rw [hK] at hk
      rw [hc i hij] at he
      exact (p1 i e he).kept (ho _ (fun q => hij (dj_ad_inj (p4 i hk).1 h100 q)))
  · obtain ⟨q1, q2, q3, q4⟩ := p5 M hM
    refine ⟨fun i hi => (q1 i hi).kept (ho _ (fun q => ?_)), by rw [hK]; exact q2, q3, by rw [hn]; exact q4⟩
    have e : dj_am E + i = dj_ad E (dj_m0 E + i) := by
      rw [dj_ad_new (by omega)]
      unfold dj_am
      omega
    have q : dj_am E + i = dj_ad E j := q
    rw [e] at q
    have := dj_ad_inj (by omega) h100 q
    exact hj (this ▸ q2 i hi)
  · rw [hK] at hi
    rw [ho _ (fun q => hr ((dj_ad_inj (p4 i (by omega)).1 h100 q) ▸ hi))]
    exact p6 i hi
/-- one cell of the model is written: the others stay -/
theorem dj_putM {E : dj_E} {M M' : dm_M} {G : dg_G} {H H' : Heap} (hP : dj_P E (some M) G H) {j : Nat} (hj : j < 70) (hz : H'.size = H.size) (ho : ∀ q, q ≠ dj_am E + j → H'[q]? = H[q]?) (hc : ∀ i, i < 70 → i ≠ j → dm_cell E M' i = dm_cell E M i)
    (hj' : va_at (dj_D E) dj_cl (dj_am E + j, dm_cell E M' j) H') : dj_P E (some M') G H' := by
  obtain ⟨p1, p2, p3, p4, p5, p6⟩ := hP
  obtain ⟨q1, q2, q3, q4⟩ := p5 M rfl
  refine ⟨fun i e he => ?_, by rw [hz]; exact p2, p3, p4, fun M1 hM => ?_, fun i hi => ?_⟩
  · have hk := dg_cell_K he
    refine (p1 i e he).kept (ho _ (fun q => ?_))
    have e2 : dj_am E + j = dj_ad E (dj_m0 E + j) := by
      rw [dj_ad_new (by omega)]
      unfold dj_am
      omega
    have q : dj_ad E i = dj_am E + j := q
    rw [e2] at q
    have := dj_ad_inj (p4 i hk).1 (by omega) q
    exact hk (this ▸ q2 j hj)
  · cases hM
    refine ⟨fun i hi => ?_, q2, q3, q4⟩
    by_cases hij : i = j
    · subst hij
      exact hj'
    · rw [hc i hi hij]
      exact (q1 i hi).kept (ho _ (fun q => hij (by have q : dj_am E + i = dj_am E + j := q; omega)))
  · have hk : dg_K G i ≠ 0 := by omega
    rw [ho _ (fun q => ?_)]
    · exact p6 i hi
    · have e2 : dj_am E + j = dj_ad E (dj_m0 E + j) := by
        rw [dj_ad_new (by omega)]
        unfold dj_am
        omega
      rw [e2] at q
      have := dj_ad_inj (p4 i hk).1 (by omega) q
      exact hk (this ▸ q2 j hj)
theorem dj_one {D : va_G} {cl : List vw_C} {a : Nat} {e : va_E} {H : Heap} (h : va_at D cl (a, e) H) : va_P D cl [(a, e)] H := by
  intro k q hq
  have hz : k < 1 := (List.getElem?_eq_some_iff.mp hq).1
  rw [show k = 0 by omega] at hq
  cases hq
  exact h
/-- what the tables say of the classes and the rows' kinds -/
def dj_K (E : dj_E) (U : State) : Prop := va_K (dj_D E) dj_cl (dj_ty E) U
