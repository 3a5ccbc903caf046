/-! The model's memory: rows of its instructions -/
abbrev dm_E : Type := dj_E × dg_G
abbrev dm_am (E : dm_E) : Nat := dj_am E.1
def dm_P (E : dm_E) (A : Nat → Prop) (M : dm_M) (H : Heap) : Prop := A = dj_A E.1 ∧ dj_P E.1 (some M) E.2 H
def dm_Kn (E : dm_E) (U : State) : Prop := dj_K E.1 U
theorem dm_mov (E : dm_E) : dh_Mov (dm_Kn E) := fun u U h _ hK => va_K.moved (by rw [h]; exact Vm.Alike.refl U.vm) hK
def dm_set (M : dm_M) (k j : Nat) (v : Int32) : dm_M := (fun a b => if a = k ∧ b = j then v else M.1 a b, M.2)
def dm_setL (M : dm_M) (k j : Nat) (v : Int64) : dm_M := (M.1, fun a b => if a = k ∧ b = j then v else M.2 a b)
def dm_rd (M : dm_M) (k : Nat) (i : Int32) : Option Int32 := if i < 0 ∨ dm_len k ≤ i.toNatClampNeg then none else some (M.1 k i.toNatClampNeg)
def dm_rdL (M : dm_M) (k : Nat) (i : Int32) : Option Int64 := if i < 0 ∨ dm_len k ≤ i.toNatClampNeg then none else some (M.2 k i.toNatClampNeg)
def dm_wr (M : dm_M) (k : Nat) (i v : Int32) : Option dm_M := if i < 0 ∨ dm_len k ≤ i.toNatClampNeg then none else some (dm_set M k i.toNatClampNeg v)
def dm_wrL (M : dm_M) (k : Nat) (i : Int32) (v : Int64) : Option dm_M := if i < 0 ∨ dm_len k ≤ i.toNatClampNeg then none else some (dm_setL M k i.toNatClampNeg v)
theorem dm_kd_ad {k : Nat} (h : dm_kd k ≤ 3) : dm_ad k < 70 ∧ 0 < dm_ad k ∧ dm_of (dm_ad k) = k := by
  unfold dm_kd at h
  unfold dm_ad dm_of
  repeat' split at h
  all_goals first | omega | (split <;> (refine ⟨by omega, by omega, ?_⟩; first | rfl | omega | (split <;> omega)))
theorem dm_of_kd {j : Nat} (h : j < 70) (h0 : ¬ j = 0) : dm_kd (dm_of j) ≤ 3 ∧ dm_ad (dm_of j) = j := by
  have : ∀ j : Fin 70, ¬ j.val = 0 → dm_kd (dm_of j.val) ≤ 3 ∧ dm_ad (dm_of j.val) = j.val := by decide +kernel
  exact this ⟨j, h⟩ h0
theorem dm_cell_row (E : dj_E) (M : dm_M) {k : Nat} (h : dm_kd k ≤ 3) : dm_cell E M (dm_ad k) = dm_row (dj_dA E) M k := by
  obtain ⟨_, h2, h3⟩ := dm_kd_ad h
  unfold dm_cell
  rw [if_neg (by omega), h3]
theorem dm_fld (M : dm_M) (am : Nat) {k : Nat} (h : k < 80) : ((List.range 80).map (dm_fv am M))[k]? = some (dm_fv am M k) := by
  rw [List.getElem?_map, List.getElem?_range h]; rfl
theorem dm_in {i : Int32} {n : Nat} {α : Type} {a v : α} (h : (if i < 0 ∨ n ≤ i.toNatClampNeg then none else some a) = some v) : vp_in i n ∧ v = a := by
  by_cases c : i < 0 ∨ n ≤ i.toNatClampNeg
  · rw [if_pos c] at h; cases h
  · rw [if_neg c] at h; cases h; exact ⟨c, rfl⟩
theorem dm_mH {E : dm_E} {A : Nat → Prop} {M : dm_M} {H : Heap} (hP : dm_P E A M H) : dm_H E.1 M H := (hP.2.2.2.2.2.1 M rfl).1
theorem dm_obj0 {E : dm_E} {A : Nat → Prop} {M : dm_M} {H : Heap} (hP : dm_P E A M H) : va_P (dj_D E.1) dj_cl [(dm_am E, .inr (0, (List.range 80).map (dm_fv (dm_am E) M)))] H := dj_one (dm_mH hP 0 (by omega))
theorem dm_rowi {E : dm_E} {A : Nat → Prop} {M : dm_M} {H : Heap} (hP : dm_P E A M H) {k r : Nat} (h : dm_kd k = r) (hr : r ≤ 2) : va_P (dj_D E.1) dj_cl [(dm_am E + dm_ad k, .inl (dj_dA E.1 r, dm_len k, .inl (M.1 k)))] H := by
  have h3 : dm_kd k ≤ 3 := by omega
  have := dm_mH hP _ (dm_kd_ad h3).1
  rw [dm_cell_row _ _ h3] at this
  unfold dm_row at this
  rw [if_neg (by omega), h] at this
  exact dj_one this
theorem dm_rowl {E : dm_E} {A : Nat → Prop} {M : dm_M} {H : Heap} (hP : dm_P E A M H) {k : Nat} (h : dm_kd k = 3) : va_P (dj_D E.1) dj_cl [(dm_am E + dm_ad k, .inl (dj_dA E.1 3, dm_len k, .inr (.inl (M.2 k))))] H := by
  have h3 : dm_kd k ≤ 3 := by omega
  have := dm_mH hP _ (dm_kd_ad h3).1
  rw [dm_cell_row _ _ h3] at this
  unfold dm_row at this
  rw [if_pos h] at this
  exact dj_one this
theorem dm_obj_same (am : Nat) (M M' : dm_M) (h1 : ∀ a, dm_kd a = 4 → M'.1 a 0 = M.1 a 0) (h2 : ∀ a, dm_kd a = 5 → M'.2 a 0 = M.2 a 0) : dm_obj am M' = dm_obj am M := by
  unfold dm_obj
  congr 2
  apply List.map_congr_left
  intro a _
  unfold dm_fv
  by_cases ha : dm_kd a = 4
  · rw [if_pos ha, if_pos ha, h1 a ha]
  · rw [if_neg ha, if_neg ha]
    by_cases hb : dm_kd a = 5
    · rw [if_pos hb, if_pos hb, h2 a hb]
    · rw [if_neg hb, if_neg hb]
theorem dm_row_same (dA : Nat → ClassId) (M M' : dm_M) {k : Nat} (h1 : M'.1 k = M.1 k) (h2 : M'.2 k = M.2 k) : dm_row dA M' k = dm_row dA M k := by
  unfold dm_row
  rw [h1, h2]
theorem dm_set_ne (M : dm_M) {k j : Nat} {v : Int32} {a : Nat} (h : a ≠ k) : (dm_set M k j v).1 a = M.1 a := by
  funext b
  simp [dm_set, h]
theorem dm_setL_ne (M : dm_M) {k j : Nat} {v : Int64} {a : Nat} (h : a ≠ k) : (dm_setL M k j v).2 a = M.2 a := by
  funext b
  simp [dm_setL, h]
/-- a row of the model is written -/
theorem dm_putRow {E : dm_E} {A : Nat → Prop} {M M' : dm_M} {H H' : Heap} (hP : dm_P E A M H) {k : Nat} (hk : dm_kd k ≤ 3) (h1 : ∀ a, a ≠ k → M'.1 a = M.1 a) (h2 : ∀ a, a ≠ k → M'.2 a = M.2 a) (hz : H'.size = H.size) (ho : ∀ q, q ≠ dm_am E + dm_ad k → H'[q]? = H[q]?)
    (hj' : va_at (dj_D E.1) dj_cl (dm_am E + dm_ad k, dm_row (dj_dA E.1) M' k) H') : dm_P E A M' H' := by
  obtain ⟨ha, hb, hc⟩ := dm_kd_ad hk
  refine ⟨hP.1, dj_putM hP.2 ha hz ho (fun i hi hne => ?_) (by rw [dm_cell_row _ _ hk]; exact hj')⟩
  unfold dm_cell
  by_cases h0 : i = 0
  · rw [if_pos h0, if_pos h0]
    exact dm_obj_same _ _ _ (fun a q => by rw [h1 a (fun e => by subst e; omega)]) (fun a q => by rw [h2 a (fun e => by subst e; omega)])
  · rw [if_neg h0, if_neg h0]
    have hne2 : dm_of i ≠ k := fun q => by
      have := (dm_of_kd hi h0).2
      rw [q] at this
      exact hne this.symm
    exact dm_row_same _ _ _ (h1 _ hne2) (h2 _ hne2)
/-- a number of the model's object is written -/
theorem dm_putObj {E : dm_E} {A : Nat → Prop} {M M' : dm_M} {H H' : Heap} (hP : dm_P E A M H) {k : Nat} (hk : 4 ≤ dm_kd k) (h1 : ∀ a, a ≠ k → M'.1 a = M.1 a) (h2 : ∀ a, a ≠ k → M'.2 a = M.2 a) (hz : H'.size = H.size) (ho : ∀ q, q ≠ dm_am E → H'[q]? = H[q]?)
    (hj' : va_at (dj_D E.1) dj_cl (dm_am E, dm_obj (dm_am E) M') H') : dm_P E A M' H' := by
  refine ⟨hP.1, dj_putM hP.2 (j := 0) (by omega) hz ho (fun i hi hne => ?_) hj'⟩
  unfold dm_cell
  rw [if_neg hne, if_neg hne]
  have hne2 : dm_of i ≠ k := fun q => by
    have := (dm_of_kd hi hne).1
    rw [q] at this
    omega
  exact dm_row_same _ _ _ (h1 _ hne2) (h2 _ hne2)
theorem dm_S {A : Nat → Prop} {E : dj_E} {H0 H H1 : Heap} {locs : List Loc} {a k : Nat} (hA : A = dj_A E) (h : va_S A H0 H locs) (z : H1.size = H.size) (oq : ∀ q : Nat, q ≠ a → H1[q]? = H[q]?) (ha : dj_bs E ≤ a) : va_S A H0 H1 (locs ++ [⟨a, k⟩]) := h.put z oq (by rw [hA]; exact ha)
theorem dm_le (E : dm_E) (j : Nat) : dj_bs E.1 ≤ dm_am E + j := by unfold dm_am dj_am; omega
section
variable {C : dh_C} {A : Nat → Prop} {E : dm_E} {M M1 : dm_M} {Q : Outcome → Heap → Prop} {mc ms k n pc nL : Nat} {lv : List (Nat × Value)} {st : List Value} {cc : ByteArray} {own : String} {rt : Option FieldType}
theorem m_geta (hC : dh_ok C cc nL own rt) (hK : dm_Kn E (dh_s C)) (f : Nat) {index : Nat} (hf : f < 80) (hkd : dm_kd f ≤ 3) (hw : Cond.fieldLink own index RX2 (TX2 f).2.1 (TX2 f).2.2.1 ∈ lw_all) (hsm : (TX2 f).1 = RX2) (hd : decode cc pc = .ok (.getfield index, 3))
    (kk : dh_W C A (dm_P E A M) Q mc ms k n (pc + 3) lv (.ref (dm_am E + dm_ad f) :: st)) : dh_W C A (dm_P E A M) Q mc ms k n pc lv (.ref (dm_am E) :: st) := fun H locs ls hP hS hl =>
  va_get hC.1 hC.2.1 hC.2.2.2.2.1 in_X2 hC.2.2.2.1 hK (dm_obj0 hP) 0 rfl rfl f hf (hC.2.2.2.2.1 _ hw) (fun x hx => by rw [hsm] at hx; exact hx) (v := .ref (dm_am E + dm_ad f)) (by rw [dm_fld _ _ hf]; unfold dm_fv; rw [if_neg (by omega), if_neg (by omega)]) hd (kk H locs ls hP hS hl)
theorem m_geti (hC : dh_ok C cc nL own rt) (hK : dm_Kn E (dh_s C)) (f : Nat) {index : Nat} (hf : f < 80) (hkd : dm_kd f = 4) (hw : Cond.fieldLink own index RX2 (TX2 f).2.1 (TX2 f).2.2.1 ∈ lw_all) (hsm : (TX2 f).1 = RX2) (hd : decode cc pc = .ok (.getfield index, 3))
    (kk : dh_W C A (dm_P E A M) Q mc ms k n (pc + 3) lv (.int (M.1 f 0) :: st)) : dh_W C A (dm_P E A M) Q mc ms k n pc lv (.ref (dm_am E) :: st) := fun H locs ls hP hS hl =>
  va_get hC.1 hC.2.1 hC.2.2.2.2.1 in_X2 hC.2.2.2.1 hK (dm_obj0 hP) 0 rfl rfl f hf (hC.2.2.2.2.1 _ hw) (fun x hx => by rw [hsm] at hx; exact hx) (v := .int (M.1 f 0)) (by rw [dm_fld _ _ hf]; unfold dm_fv; rw [if_pos hkd]) hd (kk H locs ls hP hS hl)
theorem m_getl (hC : dh_ok C cc nL own rt) (hK : dm_Kn E (dh_s C)) (f : Nat) {index : Nat} (hf : f < 80) (hkd : dm_kd f = 5) (hw : Cond.fieldLink own index RX2 (TX2 f).2.1 (TX2 f).2.2.1 ∈ lw_all) (hsm : (TX2 f).1 = RX2) (hd : decode cc pc = .ok (.getfield index, 3))
    (kk : dh_W C A (dm_P E A M) Q mc ms k n (pc + 3) lv (.long (M.2 f 0) :: st)) : dh_W C A (dm_P E A M) Q mc ms k n pc lv (.ref (dm_am E) :: st) := fun H locs ls hP hS hl =>
  va_get hC.1 hC.2.1 hC.2.2.2.2.1 in_X2 hC.2.2.2.1 hK (dm_obj0 hP) 0 rfl rfl f hf (hC.2.2.2.2.1 _ hw) (fun x hx => by rw [hsm] at hx; exact hx) (v := .long (M.2 f 0)) (by rw [dm_fld _ _ hf]; unfold dm_fv; rw [if_neg (by omega), if_pos hkd]) hd (kk H locs ls hP hS hl)
theorem m_puti (hC : dh_ok C cc nL own rt) (hK : dm_Kn E (dh_s C)) (f : Nat) {index : Nat} {v : Int32} (hf : f < 80) (hkd : dm_kd f = 4) (hw : Cond.fieldLink own index RX2 (TX2 f).2.1 (TX2 f).2.2.1 ∈ lw_all) (hsm : (TX2 f).1 = RX2) (hfin : (TX2 f).2.2.2 = false) (hty : parseFieldDescriptor (TX2 f).2.2.1 = some .int) (hd : decode cc pc = .ok (.putfield index, 3))
    (kk : dh_W C A (dm_P E A (dm_set M f 0 v)) Q mc ms k n (pc + 3) lv st) : dh_W C A (dm_P E A M) Q mc ms k n pc lv (.int v :: .ref (dm_am E) :: st) := fun H locs ls hP hS hl => by
  refine dj_Wput hC.1 hC.2.1 hC.2.2.2.2.1 in_X2 tyX2 tyX2_ok nmX2 hC.2.2.2.1 hK (dm_mH hP 0 (by omega)) rfl f hf (hC.2.2.2.2.1 _ hw) (fun x hx => by rw [hsm] at hx; exact hx) hfin hty rfl rfl (by simpa using hf) hd (fun H1 sl h1 h2 h3 => ?_)
  refine kk H1 _ ls (dm_putObj hP (k := f) (by omega) (fun a q => dm_set_ne M q) (fun a q => rfl) h2 h3 ?_) (dm_S hP.1 hS h2 h3 (dm_le E 0)) hl
  have e : dm_obj (dm_am E) (dm_set M f 0 v) = .inr (0, ((List.range 80).map (dm_fv (dm_am E) M)).set f (.int v)) := by
    unfold dm_obj
    congr 2
    apply List.ext_getElem?
    intro i
    rw [List.getElem?_set]
    by_cases hi : f = i
    · subst hi
      rw [if_pos rfl, dm_fld _ _ hf]
      unfold dm_fv
      simp [hkd, dm_set, hf]
    · rw [if_neg hi]
      by_cases hl : i < 80
      · rw [dm_fld _ _ hl, dm_fld _ _ hl]
        unfold dm_fv
        simp [dm_set, Ne.symm hi]
      · simp [hl]
  rw [e]
  exact h1
theorem m_putl (hC : dh_ok C cc nL own rt) (hK : dm_Kn E (dh_s C)) (f : Nat) {index : Nat} {v : Int64} (hf : f < 80) (hkd : dm_kd f = 5) (hw : Cond.fieldLink own index RX2 (TX2 f).2.1 (TX2 f).2.2.1 ∈ lw_all) (hsm : (TX2 f).1 = RX2) (hfin : (TX2 f).2.2.2 = false) (hty : parseFieldDescriptor (TX2 f).2.2.1 = some .long) (hd : decode cc pc = .ok (.putfield index, 3))
    (kk : dh_W C A (dm_P E A (dm_setL M f 0 v)) Q mc ms k n (pc + 3) lv st) : dh_W C A (dm_P E A M) Q mc ms k n pc lv (.long v :: .ref (dm_am E) :: st) := fun H locs ls hP hS hl => by
  refine dj_Wput hC.1 hC.2.1 hC.2.2.2.2.1 in_X2 tyX2 tyX2_ok nmX2 hC.2.2.2.1 hK (dm_mH hP 0 (by omega)) rfl f hf (hC.2.2.2.2.1 _ hw) (fun x hx => by rw [hsm] at hx; exact hx) hfin hty rfl rfl (by simpa using hf) hd (fun H1 sl h1 h2 h3 => ?_)
  refine kk H1 _ ls (dm_putObj hP (k := f) (by omega) (fun a q => rfl) (fun a q => dm_setL_ne M q) h2 h3 ?_) (dm_S hP.1 hS h2 h3 (dm_le E 0)) hl
  have e : dm_obj (dm_am E) (dm_setL M f 0 v) = .inr (0, ((List.range 80).map (dm_fv (dm_am E) M)).set f (.long v)) := by
    unfold dm_obj
    congr 2
    apply List.ext_getElem?
    intro i
    rw [List.getElem?_set]
    by_cases hi : f = i
    · subst hi
      rw [if_pos rfl, dm_fld _ _ hf]
      unfold dm_fv
      simp [hkd, dm_setL, hf]
    · rw [if_neg hi]
      by_cases hl : i < 80
      · rw [dm_fld _ _ hl, dm_fld _ _ hl]
        unfold dm_fv
        simp [dm_setL, Ne.symm hi]
      · simp [hl]
  rw [e]
  exact h1
theorem m_iald (hC : dh_ok C cc nL own rt) (hK : dm_Kn E (dh_s C)) {f : Nat} {i v : Int32} (hkd : dm_kd f = 0) (h : dm_rd M f i = some v) (hd : decode cc pc = .ok (.iaload, 1))
    (kk : dh_W C A (dm_P E A M) Q mc ms k n (pc + 1) lv (.int v :: st)) : dh_W C A (dm_P E A M) Q mc ms k n pc lv (.int i :: .ref (dm_am E + dm_ad f) :: st) := fun H locs ls hP hS hl => by
  obtain ⟨h1, rfl⟩ := dm_in h
  exact va_iald hC.1 hC.2.1 hK (dm_rowi hP hkd (by omega)) 0 0 rfl rfl h1 hd (kk H locs ls hP hS hl)
theorem m_bald (hC : dh_ok C cc nL own rt) (hK : dm_Kn E (dh_s C)) {f : Nat} {i v : Int32} (hkd : dm_kd f = 1) (h : dm_rd M f i = some v) (hd : decode cc pc = .ok (.baload, 1))
    (kk : dh_W C A (dm_P E A M) Q mc ms k n (pc + 1) lv (.int v :: st)) : dh_W C A (dm_P E A M) Q mc ms k n pc lv (.int i :: .ref (dm_am E + dm_ad f) :: st) := fun H locs ls hP hS hl => by
  obtain ⟨h1, rfl⟩ := dm_in h
  exact va_bald hC.1 hC.2.1 hK (dm_rowi hP hkd (by omega)) 0 1 rfl rfl h1 hd (kk H locs ls hP hS hl)
theorem m_zald (hC : dh_ok C cc nL own rt) (hK : dm_Kn E (dh_s C)) {f : Nat} {i v : Int32} (hkd : dm_kd f = 2) (h : dm_rd M f i = some v) (hd : decode cc pc = .ok (.baload, 1))
    (kk : dh_W C A (dm_P E A M) Q mc ms k n (pc + 1) lv (.int v :: st)) : dh_W C A (dm_P E A M) Q mc ms k n pc lv (.int i :: .ref (dm_am E + dm_ad f) :: st) := fun H locs ls hP hS hl => by
  obtain ⟨h1, rfl⟩ := dm_in h
  exact va_zald hC.1 hC.2.1 hK (dm_rowi hP hkd (by omega)) 0 2 rfl rfl h1 hd (kk H locs ls hP hS hl)
theorem m_lald (hC : dh_ok C cc nL own rt) (hK : dm_Kn E (dh_s C)) {f : Nat} {i : Int32} {v : Int64} (hkd : dm_kd f = 3) (h : dm_rdL M f i = some v) (hd : decode cc pc = .ok (.laload, 1))
    (kk : dh_W C A (dm_P E A M) Q mc ms k n (pc + 1) lv (.long v :: st)) : dh_W C A (dm_P E A M) Q mc ms k n pc lv (.int i :: .ref (dm_am E + dm_ad f) :: st) := fun H locs ls hP hS hl => by
  obtain ⟨h1, rfl⟩ := dm_in h
  exact va_lald hC.1 hC.2.1 hK (dm_rowl hP hkd) 0 3 rfl rfl h1 hd (kk H locs ls hP hS hl)
theorem m_iast (hC : dh_ok C cc nL own rt) (hK : dm_Kn E (dh_s C)) {f : Nat} {i v : Int32} (hkd : dm_kd f = 0) (h : dm_wr M f i v = some M1) (hd : decode cc pc = .ok (.iastore, 1))
    (kk : dh_W C A (dm_P E A M1) Q mc ms k n (pc + 1) lv st) : dh_W C A (dm_P E A M) Q mc ms k n pc lv (.int v :: .int i :: .ref (dm_am E + dm_ad f) :: st) := fun H locs ls hP hS hl => by
  obtain ⟨h1, rfl⟩ := dm_in h
  refine dj_Wiast hC.1 hC.2.1 hK 0 (dm_rowi hP hkd (by omega) 0 _ rfl) rfl h1 hd (fun H1 sl q1 q2 q3 => ?_)
  refine kk H1 _ ls (dm_putRow hP (k := f) (by omega) (fun a q => dm_set_ne M q) (fun a q => rfl) q2 q3 ?_) (dm_S hP.1 hS q2 q3 (dm_le E _)) hl
  have e : dm_row (dj_dA E.1) (dm_set M f i.toNatClampNeg (v)) f = .inl (dj_dA E.1 0, dm_len f, .inl (upd (M.1 f) i.toNatClampNeg (v))) := by
    unfold dm_row
    rw [if_neg (by omega), hkd]
    have : (dm_set M f i.toNatClampNeg (v)).1 f = upd (M.1 f) i.toNatClampNeg (v) := by
      funext b
      simp [dm_set, upd]
    rw [this]
  rw [e]
  exact q1
theorem m_bast (hC : dh_ok C cc nL own rt) (hK : dm_Kn E (dh_s C)) {f : Nat} {i v : Int32} (hkd : dm_kd f = 1) (h : dm_wr M f i (vp_nar .byte v) = some M1) (hd : decode cc pc = .ok (.bastore, 1))
    (kk : dh_W C A (dm_P E A M1) Q mc ms k n (pc + 1) lv st) : dh_W C A (dm_P E A M) Q mc ms k n pc lv (.int v :: .int i :: .ref (dm_am E + dm_ad f) :: st) := fun H locs ls hP hS hl => by
  obtain ⟨h1, rfl⟩ := dm_in h
  refine dj_Wbast hC.1 hC.2.1 hK 1 (dm_rowi hP hkd (by omega) 0 _ rfl) rfl h1 hd (fun H1 sl q1 q2 q3 => ?_)
  refine kk H1 _ ls (dm_putRow hP (k := f) (by omega) (fun a q => dm_set_ne M q) (fun a q => rfl) q2 q3 ?_) (dm_S hP.1 hS q2 q3 (dm_le E _)) hl
  have e : dm_row (dj_dA E.1) (dm_set M f i.toNatClampNeg (vp_nar .byte v)) f = .inl (dj_dA E.1 1, dm_len f, .inl (upd (M.1 f) i.toNatClampNeg (vp_nar .byte v))) := by
    unfold dm_row
    rw [if_neg (by omega), hkd]
    have : (dm_set M f i.toNatClampNeg (vp_nar .byte v)).1 f = upd (M.1 f) i.toNatClampNeg (vp_nar .byte v) := by
      funext b
      simp [dm_set, upd]
    rw [this]
  rw [e]
  exact q1
theorem m_zast (hC : dh_ok C cc nL own rt) (hK : dm_Kn E (dh_s C)) {f : Nat} {i v : Int32} (hkd : dm_kd f = 2) (h : dm_wr M f i (vp_nar .boolean v) = some M1) (hd : decode cc pc = .ok (.bastore, 1))
    (kk : dh_W C A (dm_P E A M1) Q mc ms k n (pc + 1) lv st) : dh_W C A (dm_P E A M) Q mc ms k n pc lv (.int v :: .int i :: .ref (dm_am E + dm_ad f) :: st) := fun H locs ls hP hS hl => by
  obtain ⟨h1, rfl⟩ := dm_in h
  refine dj_Wzast hC.1 hC.2.1 hK 2 (dm_rowi hP hkd (by omega) 0 _ rfl) rfl h1 hd (fun H1 sl q1 q2 q3 => ?_)
  refine kk H1 _ ls (dm_putRow hP (k := f) (by omega) (fun a q => dm_set_ne M q) (fun a q => rfl) q2 q3 ?_) (dm_S hP.1 hS q2 q3 (dm_le E _)) hl
  have e : dm_row (dj_dA E.1) (dm_set M f i.toNatClampNeg (vp_nar .boolean v)) f = .inl (dj_dA E.1 2, dm_len f, .inl (upd (M.1 f) i.toNatClampNeg (vp_nar .boolean v))) := by
    unfold dm_row
    rw [if_neg (by omega), hkd]
    have : (dm_set M f i.toNatClampNeg (vp_nar .boolean v)).1 f = upd (M.1 f) i.toNatClampNeg (vp_nar .boolean v) := by
      funext b
      simp [dm_set, upd]
    rw [this]
  rw [e]
  exact q1
theorem m_last (hC : dh_ok C cc nL own rt) (hK : dm_Kn E (dh_s C)) {f : Nat} {i : Int32} {v : Int64} (hkd : dm_kd f = 3) (h : dm_wrL M f i v = some M1) (hd : decode cc pc = .ok (.lastore, 1))
    (kk : dh_W C A (dm_P E A M1) Q mc ms k n (pc + 1) lv st) : dh_W C A (dm_P E A M) Q mc ms k n pc lv (.long v :: .int i :: .ref (dm_am E + dm_ad f) :: st) := fun H locs ls hP hS hl => by
  obtain ⟨h1, rfl⟩ := dm_in h
  refine dj_Wlast hC.1 hC.2.1 hK 3 (dm_rowl hP hkd 0 _ rfl) rfl h1 hd (fun H1 sl q1 q2 q3 => ?_)
  refine kk H1 _ ls (dm_putRow hP (k := f) (by omega) (fun a q => rfl) (fun a q => dm_setL_ne M q) q2 q3 ?_) (dm_S hP.1 hS q2 q3 (dm_le E _)) hl
  have e : dm_row (dj_dA E.1) (dm_setL M f i.toNatClampNeg v) f = .inl (dj_dA E.1 3, dm_len f, .inr (.inl (vp_updL (M.2 f) i.toNatClampNeg v))) := by
    unfold dm_row
    rw [if_pos hkd]
    have : (dm_setL M f i.toNatClampNeg v).2 f = vp_updL (M.2 f) i.toNatClampNeg v := by
      funext b
      simp [dm_setL, vp_updL]
    rw [this]
  rw [e]
  exact q1
/-- the model's own contracts -/
def dm_Met (l : Launch) (y : MethodName) (cc : ByteArray) (nL : Nat) (rt : Option FieldType) (fr lo : Nat) (E : dm_E) (A : Nat → Prop) (av : List Value) (M : dm_M) (rv : Option Value) (M' : dm_M) : Prop :=
  dh_Met l y (ws_ y cc nL rt) fr lo 0 0 A (dm_Kn E) av (dm_P E A M) (fun o H => o = .returned rv ∧ dm_P E A M' H)
theorem m_callV (hC : dh_ok C cc nL own rt) (hK : dm_Kn E (dh_s C)) {F L mcl msl : Nat} (hR : dh_R C = { frames := F, cells := mcl, slots := msl, locals := L }) {y : MethodName} {bytes : ByteArray} {maxL index fr lo : Nat} {ret : Option FieldType} {As st0 : List Value} {rv : Option Value}
    (hM : dm_Met (dh_l C) y bytes maxL ret fr lo E A (.ref (dm_am E) :: As) M rv M1) (h1 : Cond.methodLink own index y ∈ lw_all) (h2 : Cond.instanceMethod y ∈ lw_all) (h3 : Cond.selects RX2 y y ∈ lw_all) (h4 : Cond.initialized RX2 ∈ lw_all) (h5 : Cond.code y bytes maxL ret ∈ lw_all)
    (hy : y.cls = RX2 ∧ y.cls ≠ "java/lang/invoke/MethodHandle" ∧ y.cls ≠ "java/lang/invoke/VarHandle" ∧ (parseMethodDescriptor y.desc).map (fun d => d.parameters.length) = some As.length) (hfr : fr + 1 ≤ F) (hlo : 8 + (maxL + 11) + lo ≤ L) (hk : k ≤ mcl) (hn : n ≤ msl) (hst : As.reverse ++ .ref (dm_am E) :: st = st0) (hw : (st.map fun v => v.category).sum ≤ 8)
    (hd : decode cc pc = .ok (.invokevirtual index, 3)) (kk : dh_W C A (dm_P E A M1) Q mc ms k n (pc + 3) lv (rv.toList ++ st)) : dh_W C A (dm_P E A M) Q mc ms k n pc lv st0 := by
  subst hst
  refine dh_back (mc1 := 0) (ms1 := 0) (rv := rv) (P1 := dm_P E A M1) (fun H locs ls hP hS hl => ?_) kk
  have hM : Met (dh_l C) y (ws_ y bytes maxL ret) ({ frames := fr, cells := 0, slots := 0, locals := lo }) (fun v U => v = (.ref (dm_am E) :: As).toArray ∧ dm_P E A M U.heap ∧ dm_Kn E U) (fun _ st o t => (o = .returned rv ∧ dm_P E A M1 t.heap) ∧ va_F A st t) 0 0 A := hM
  exact va_runV (nL := nL) (As := As) (rest := st) (C := RX2) (bytes := bytes) (maxL := maxL) (ret := ret) (n := As.length) ⟨hC.1, hC.2.1, hC.2.2.1, hC.2.2.2.1, hC.2.2.2.2.1⟩ hM
    (cwV _ hC.2.2.2.2.1 (lw_V h1 h2 h3 h4 h5) rfl rfl rfl hy ⟨by rw [hR]; exact hfr, by rw [hR]; exact hlo⟩)
    ⟨dh_blind (dm_mov E), va_recv hK (dm_obj0 hP) (ci := 0) (q0 := 0) rfl rfl, fun U hU hW => ⟨rfl, by rw [hU]; exact hP, va_K.moved hW.alike hK⟩⟩ rfl rfl (hl.1.trans hC.2.2.1) rfl (lv_room (m := dh_m C) (pc := pc) (ls := ls) (rest := st) hw) hd ⟨by rw [hR]; exact hk, by rw [hR]; exact hn⟩
theorem m_callS (hC : dh_ok C cc nL own rt) (hK : dm_Kn E (dh_s C)) {F L mcl msl : Nat} (hR : dh_R C = { frames := F, cells := mcl, slots := msl, locals := L }) {y : MethodName} {bytes : ByteArray} {maxL index fr lo : Nat} {ret : Option FieldType} {As st0 : List Value} {rv : Option Value}
    (hM : dm_Met (dh_l C) y bytes maxL ret fr lo E A As M rv M1) (h1 : Cond.methodLink own index y ∈ lw_all) (h2 : Cond.static y ∈ lw_all) (h4 : Cond.initialized y.cls ∈ lw_all) (h5 : Cond.code y bytes maxL ret ∈ lw_all)
    (hy : y.cls ≠ "java/lang/invoke/MethodHandle" ∧ y.cls ≠ "java/lang/invoke/VarHandle" ∧ (parseMethodDescriptor y.desc).map (fun d => d.parameters.length) = some As.length) (hfr : fr + 1 ≤ F) (hlo : 8 + (maxL + 11) + lo ≤ L) (hk : k ≤ mcl) (hn : n ≤ msl) (hst : As.reverse ++ st = st0) (hw : (st.map fun v => v.category).sum ≤ 8)
    (hd : decode cc pc = .ok (.invokestatic index, 3)) (kk : dh_W C A (dm_P E A M1) Q mc ms k n (pc + 3) lv (rv.toList ++ st)) : dh_W C A (dm_P E A M) Q mc ms k n pc lv st0 := by
  subst hst
  refine dh_back (mc1 := 0) (ms1 := 0) (rv := rv) (P1 := dm_P E A M1) (fun H locs ls hP hS hl => ?_) kk
  have hM : Met (dh_l C) y (ws_ y bytes maxL ret) ({ frames := fr, cells := 0, slots := 0, locals := lo }) (fun v U => v = (As).toArray ∧ dm_P E A M U.heap ∧ dm_Kn E U) (fun _ st o t => (o = .returned rv ∧ dm_P E A M1 t.heap) ∧ va_F A st t) 0 0 A := hM
  exact va_runS (nL := nL) (As := As) (rest := st) (bytes := bytes) (maxL := maxL) (ret := ret) (n := As.length) ⟨hC.1, hC.2.1, hC.2.2.1, hC.2.2.2.1, hC.2.2.2.2.1⟩ hM
    (va_cwS _ hC.2.2.2.2.1 (lw_S h1 h2 h4 h5) rfl rfl rfl hy ⟨by rw [hR]; exact hfr, by rw [hR]; exact hlo⟩)
    ⟨dh_blind (dm_mov E), fun U hU hW => ⟨rfl, by rw [hU]; exact hP, va_K.moved hW.alike hK⟩⟩ rfl rfl (hl.1.trans hC.2.2.1) rfl (lv_room (m := dh_m C) (pc := pc) (ls := ls) (rest := st) hw) hd ⟨by rw [hR]; exact hk, by rw [hR]; exact hn⟩
end
