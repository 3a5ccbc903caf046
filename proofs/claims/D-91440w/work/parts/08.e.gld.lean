set_option maxRecDepth 100000
/-! rows read and written -/
theorem dg_in2 {i : Int32} {n : Nat} {α : Type} {c : Prop} [Decidable c] {a v : α} (h : (if c then (if i < 0 ∨ n ≤ i.toNatClampNeg then none else some a) else none) = some v) : c ∧ vp_in i n ∧ v = a := by
  obtain ⟨h1, h2⟩ := dg_if2 h
  obtain ⟨h3, h4⟩ := dm_in h2
  exact ⟨h1, h3, h4⟩
theorem dg_cellI {E : dj_E} {G : dg_G} {t j : Nat} (hk : dg_K G j = 50 + t) (ht : t < 3) : dg_cell E G j = some (.inl (dj_dA E t, dg_L G j, .inl (dg_AI G j))) := by
  unfold dg_cell
  rw [if_neg (by omega), if_neg (by omega), if_pos (by omega), hk, show 50 + t - 50 = t by omega]
theorem dg_cellL {E : dj_E} {G : dg_G} {j : Nat} (hk : dg_K G j = 53) : dg_cell E G j = some (.inl (dj_dA E 3, dg_L G j, .inr (.inl (dg_AL G j)))) := by
  unfold dg_cell
  rw [if_neg (by omega), if_neg (by omega), if_neg (by omega), if_pos hk]
theorem dg_cellR {E : dj_E} {G : dg_G} {t j : Nat} (hk : dg_K G j = 50 + t) (ht : 4 ≤ t) : dg_cell E G j = some (.inl (dj_dA E t, dg_L G j, .inr (.inr (.inr (.inr (fun i => dj_o E (dg_AR G j i))))))) := by
  unfold dg_cell
  rw [if_neg (by omega), if_neg (by omega), if_neg (by omega), if_neg (by omega), hk, show 50 + t - 50 = t by omega]
section
variable {T : dg_T} {l : Launch} {E : dj_E} {Mo : Option dm_M} {G' : dg_G} {x : Nat ⊕ Option Value} {G G1 : dg_G} {pc : Nat} {lv : List (Nat × Value)} {st : List Value}
theorem g_iald {j : Nat} {i v : Int32} (h : dg_ld G 50 j i = some v) (hd : decode (dt_c T) pc = .ok (.iaload, 1)) (kk : dgW T l E Mo G' x G (pc + 1) lv (.int v :: st)) : dgW T l E Mo G' x G pc lv (.int i :: dj_v E j :: st) := by
  obtain ⟨h1, h2, rfl⟩ := dg_in2 h
  refine dg_k (fun C Q mc ms k n hC hK kk H locs ls hP hS hl => ?_) kk
  rw [dg_vref hP (by omega)]
  exact va_iald hC.1 hC.2.1 hK.1 (dj_one (hP.1 j _ (dg_cellI (t := 0) h1 (by omega)))) 0 0 rfl rfl h2 hd (kk H locs ls hP hS hl)
theorem g_zald {j : Nat} {i v : Int32} (h : dg_ld G 52 j i = some v) (hd : decode (dt_c T) pc = .ok (.baload, 1)) (kk : dgW T l E Mo G' x G (pc + 1) lv (.int v :: st)) : dgW T l E Mo G' x G pc lv (.int i :: dj_v E j :: st) := by
  obtain ⟨h1, h2, rfl⟩ := dg_in2 h
  refine dg_k (fun C Q mc ms k n hC hK kk H locs ls hP hS hl => ?_) kk
  rw [dg_vref hP (by omega)]
  exact va_zald hC.1 hC.2.1 hK.1 (dj_one (hP.1 j _ (dg_cellI (t := 2) h1 (by omega)))) 0 2 rfl rfl h2 hd (kk H locs ls hP hS hl)
theorem g_lald {j : Nat} {i : Int32} {v : Int64} (h : dg_ldL G j i = some v) (hd : decode (dt_c T) pc = .ok (.laload, 1)) (kk : dgW T l E Mo G' x G (pc + 1) lv (.long v :: st)) : dgW T l E Mo G' x G pc lv (.int i :: dj_v E j :: st) := by
  obtain ⟨h1, h2, rfl⟩ := dg_in2 h
  refine dg_k (fun C Q mc ms k n hC hK kk H locs ls hP hS hl => ?_) kk
  rw [dg_vref hP (by omega)]
  exact va_lald hC.1 hC.2.1 hK.1 (dj_one (hP.1 j _ (dg_cellL h1))) 0 3 rfl rfl h2 hd (kk H locs ls hP hS hl)
/-- of references: any kind of them -/
theorem g_aald {j v : Nat} {i : Int32} (t : Nat) {ty : FieldType} (ht : t < 7) (h4 : 4 ≤ t) (hty : (dj_ty E)[t]? = some (dj_dA E t, ty)) (hrf : ty.isReference = true) (h : dg_ldR G (50 + t) j i = some v) (hd : decode (dt_c T) pc = .ok (.aaload, 1)) (kk : dgW T l E Mo G' x G (pc + 1) lv (dj_v E v :: st)) : dgW T l E Mo G' x G pc lv (.int i :: dj_v E j :: st) := by
  obtain ⟨h1, h2, rfl⟩ := dg_in2 h
  refine dg_k (fun C Q mc ms k n hC hK kk H locs ls hP hS hl => ?_) kk
  rw [dg_vref hP (by omega)]
  have hc : H[dj_ad E j]? = some (vp_cell (dj_dA E t) (dg_L G j, .inr (.inr (.inr (.inr (fun i => dj_o E (dg_AR G j i))))))) := hP.1 j _ (dg_cellR (t := t) h1 h4)
  have hlt : i.toNatClampNeg < dg_L G j := Nat.not_le.mp fun q => h2 (Or.inr q)
  exact W.aald (v := dj_v E (dg_AR G j i.toNatClampNeg)) (ty := ty) hC.1 hC.2.1 hc ((hK.1.2 t _ hty).1 _ _) hrf (fun q => by cases q) (by rw [vp_cell_q]; rw [arrV_size]; exact h2) (by rw [vp_cell_q, arrV_read _ _ hlt]; rfl) rfl rfl hd (kk H locs ls hP hS hl)
theorem g_len {j : Nat} {v : Int32} (h : dg_ln G j = some v) (hd : decode (dt_c T) pc = .ok (.arraylength, 1)) (kk : dgW T l E Mo G' x G (pc + 1) lv (.int v :: st)) : dgW T l E Mo G' x G pc lv (dj_v E j :: st) := by
  obtain ⟨⟨h1, h2⟩, rfl⟩ := dg_if h
  refine dg_k (fun C Q mc ms k n hC hK kk H locs ls hP hS hl => ?_) kk
  rw [dg_vref hP (by omega)]
  obtain ⟨t, ht⟩ : ∃ t, dg_K G j = 50 + t := ⟨dg_K G j - 50, by omega⟩
  by_cases c1 : t < 3
  · have hone := dj_one (hP.1 j _ (dg_cellI (t := t) ht c1))
    have hty : ∃ ty, (dj_ty E)[t]? = some (dj_dA E t, ty) := by
      rcases (by omega : t = 0 ∨ t = 1 ∨ t = 2) with rfl | rfl | rfl <;> exact ⟨_, rfl⟩
    obtain ⟨ty, hty⟩ := hty
    exact va_alen hC.1 hC.2.1 hK.1 hone 0 t rfl hty rfl hd (kk H locs ls hP hS hl)
  · by_cases c2 : t = 3
    · subst c2
      exact va_alen hC.1 hC.2.1 hK.1 (dj_one (hP.1 j _ (dg_cellL ht))) 0 3 rfl rfl rfl hd (kk H locs ls hP hS hl)
    · have hone := dj_one (hP.1 j _ (dg_cellR (t := t) ht (by omega)))
      have hty : ∃ ty, (dj_ty E)[t]? = some (dj_dA E t, ty) := by
        rcases (by omega : t = 4 ∨ t = 5 ∨ t = 6) with rfl | rfl | rfl <;> exact ⟨_, rfl⟩
      obtain ⟨ty, hty⟩ := hty
      exact va_alen hC.1 hC.2.1 hK.1 hone 0 t rfl hty rfl hd (kk H locs ls hP hS hl)
/-! stores -/
theorem dg_cell_AI (E : dj_E) (G : dg_G) {j a i : Nat} (v : Int32) (h : i ≠ j) : dg_cell E (dg_sAI G j a v) i = dg_cell E G i := dg_cell_eq E rfl rfl (fun _ => rfl) (fun _ => rfl) (funext fun _ => dg_up_ne _ _ (Or.inl h)) rfl rfl
theorem dg_cell_AL (E : dj_E) (G : dg_G) {j a i : Nat} (v : Int64) (h : i ≠ j) : dg_cell E (dg_sAL G j a v) i = dg_cell E G i := dg_cell_eq E rfl rfl (fun _ => rfl) (fun _ => rfl) rfl (funext fun _ => dg_up_ne _ _ (Or.inl h)) rfl
theorem dg_cell_AR (E : dj_E) (G : dg_G) {j a i : Nat} (v : Nat) (h : i ≠ j) : dg_cell E (dg_sAR G j a v) i = dg_cell E G i := dg_cell_eq E rfl rfl (fun _ => rfl) (fun _ => rfl) rfl rfl (funext fun _ => dg_up_ne _ _ (Or.inl h))
theorem dg_upI (G : dg_G) (j a : Nat) (v : Int32) : dg_AI (dg_sAI G j a v) j = upd (dg_AI G j) a v := by
  funext q
  show dg_up _ _ _ _ _ _ = _
  unfold dg_up upd
  by_cases hq : q = a
  · rw [if_pos ⟨rfl, hq⟩, if_pos hq]
  · rw [if_neg (fun z => hq z.2), if_neg hq]
theorem dg_putA {H H' : Heap} {t j a : Nat} {v : Int32} (hP : dj_P E Mo G H) (h1 : dg_K G j = 50 + t) (ht : t < 3) (hz : H'.size = H.size) (ho : ∀ q, q ≠ dj_ad E j → H'[q]? = H[q]?) (h : va_at (dj_D E) dj_cl (dj_ad E j, .inl (dj_dA E t, dg_L G j, .inl (upd (dg_AI G j) a v))) H') : dj_P E Mo (dg_sAI G j a v) H' := by
  refine dj_put hP (by omega) hz ho rfl rfl (fun i hi => dg_cell_AI E G v hi) (by omega) (fun e he => ?_)
  have hK' : dg_K (dg_sAI G j a v) j = 50 + t := h1
  rw [dg_cellI hK' ht, dg_upI] at he
  cases he
  exact h
theorem g_iast {j : Nat} {i v : Int32} (h : dg_st G 50 j i v = some G1) (hd : decode (dt_c T) pc = .ok (.iastore, 1)) (kk : dgW T l E Mo G' x G1 (pc + 1) lv st) : dgW T l E Mo G' x G pc lv (.int v :: .int i :: dj_v E j :: st) := by
  obtain ⟨h1, h2, rfl⟩ := dg_in2 h
  refine dg_w (G1 := dg_sAI G j i.toNatClampNeg v) rfl rfl (fun C Q mc ms k n hC hK _ kk H locs ls hP hS hl => ?_) kk
  have h100 := dg_100 hP (j := j) (by omega)
  rw [dg_vref hP (by omega)]
  exact dj_Wiast hC.1 hC.2.1 hK.1 0 (hP.1 j _ (dg_cellI (t := 0) h1 (by omega))) rfl h2 hd (fun H1 sl q1 q2 q3 => kk H1 _ ls (dg_putA hP (t := 0) h1 (by omega) q2 q3 q1) (hS.put q2 q3 (dg_bs h100)) hl)
theorem g_bast {j : Nat} {i v : Int32} (h : dg_st G 51 j i (vp_nar .byte v) = some G1) (hd : decode (dt_c T) pc = .ok (.bastore, 1)) (kk : dgW T l E Mo G' x G1 (pc + 1) lv st) : dgW T l E Mo G' x G pc lv (.int v :: .int i :: dj_v E j :: st) := by
  obtain ⟨h1, h2, rfl⟩ := dg_in2 h
  refine dg_w (G1 := dg_sAI G j i.toNatClampNeg (vp_nar .byte v)) rfl rfl (fun C Q mc ms k n hC hK _ kk H locs ls hP hS hl => ?_) kk
  have h100 := dg_100 hP (j := j) (by omega)
  rw [dg_vref hP (by omega)]
  exact dj_Wbast hC.1 hC.2.1 hK.1 1 (hP.1 j _ (dg_cellI (t := 1) h1 (by omega))) rfl h2 hd (fun H1 sl q1 q2 q3 => kk H1 _ ls (dg_putA hP (t := 1) h1 (by omega) q2 q3 q1) (hS.put q2 q3 (dg_bs h100)) hl)
theorem g_zast {j : Nat} {i v : Int32} (h : dg_st G 52 j i (vp_nar .boolean v) = some G1) (hd : decode (dt_c T) pc = .ok (.bastore, 1)) (kk : dgW T l E Mo G' x G1 (pc + 1) lv st) : dgW T l E Mo G' x G pc lv (.int v :: .int i :: dj_v E j :: st) := by
  obtain ⟨h1, h2, rfl⟩ := dg_in2 h
  refine dg_w (G1 := dg_sAI G j i.toNatClampNeg (vp_nar .boolean v)) rfl rfl (fun C Q mc ms k n hC hK _ kk H locs ls hP hS hl => ?_) kk
  have h100 := dg_100 hP (j := j) (by omega)
  rw [dg_vref hP (by omega)]
  exact dj_Wzast hC.1 hC.2.1 hK.1 2 (hP.1 j _ (dg_cellI (t := 2) h1 (by omega))) rfl h2 hd (fun H1 sl q1 q2 q3 => kk H1 _ ls (dg_putA hP (t := 2) h1 (by omega) q2 q3 q1) (hS.put q2 q3 (dg_bs h100)) hl)
theorem g_last {j : Nat} {i : Int32} {v : Int64} (h : dg_stL G j i v = some G1) (hd : decode (dt_c T) pc = .ok (.lastore, 1)) (kk : dgW T l E Mo G' x G1 (pc + 1) lv st) : dgW T l E Mo G' x G pc lv (.long v :: .int i :: dj_v E j :: st) := by
  obtain ⟨h1, h2, rfl⟩ := dg_in2 h
  refine dg_w (G1 := dg_sAL G j i.toNatClampNeg v) rfl rfl (fun C Q mc ms k n hC hK _ kk H locs ls hP hS hl => ?_) kk
  have h100 := dg_100 hP (j := j) (by omega)
  rw [dg_vref hP (by omega)]
  refine dj_Wlast hC.1 hC.2.1 hK.1 3 (hP.1 j _ (dg_cellL h1)) rfl h2 hd (fun H1 sl q1 q2 q3 => kk H1 _ ls ?_ (hS.put q2 q3 (dg_bs h100)) hl)
  refine dj_put hP (by omega) q2 q3 rfl rfl (fun i' hi => dg_cell_AL E G v hi) (by omega) (fun e he => ?_)
  have hK' : dg_K (dg_sAL G j i.toNatClampNeg v) j = 53 := h1
  have hu : dg_AL (dg_sAL G j i.toNatClampNeg v) j = vp_updL (dg_AL G j) i.toNatClampNeg v := by
    funext q
    show dg_up _ _ _ _ _ _ = _
    unfold dg_up vp_updL
    by_cases hq : q = i.toNatClampNeg
    · rw [if_pos ⟨rfl, hq⟩, if_pos hq]
    · rw [if_neg (fun z => hq z.2), if_neg hq]
  rw [dg_cellL hK', hu] at he
  cases he
  exact q1
/-- the class of an object that may stand in an array -/
theorem dg_mayO {H : Heap} {κ v : Nat} {C : dh_C} (hK : dj_Kn E (dh_s C)) (hP : dj_P E Mo G H) (h : dg_may G κ v) (h0 : v ≠ 0) (hκ : κ = 54 ∨ κ = 55) : dj_v E v = .ref (dj_ad E v) ∧ va_Any (if κ = 54 then "java/lang/Object" else "DebtorsHouse$State") (dh_s C) H (dj_ad E v) := by
  have key : ∀ (ci : Nat) (Cn : String) (Tt : u_T) (N : Nat), dj_cl[ci]? = some (Cn, Tt, N) → dg_K G v = ci + 1 → ∀ En : String, (∀ comp c0 : ClassId, (dh_s C).vm.findClass En = some comp → (dh_s C).vm.findClass Cn = some c0 → (dh_s C).vm.assignable c0 comp = true) → dj_v E v = .ref (dj_ad E v) ∧ va_Any En (dh_s C) H (dj_ad E v) := by
    intro ci Cn Tt N hci hk En ha
    exact ⟨dg_vref hP (by omega), va_rAny hK.1 (dj_one (dg_at hP hk (dg_lt13 hci))) (q0 := 0) rfl hci ha⟩
  have cst : ∀ Cn : String, (Cn, "java/lang/Object") ∈ dj_cw → ∀ comp c0 : ClassId, (dh_s C).vm.findClass "java/lang/Object" = some comp → (dh_s C).vm.findClass Cn = some c0 → (dh_s C).vm.assignable c0 comp = true := by
    intro Cn hm comp c0 h1 h2
    obtain ⟨c3, t3, w1, w2, w3⟩ := Cond.castable_spec (va_Nw.use (A := #[]) rfl (hK.2.2.1 _ hm))
    cases h2.symm.trans w1
    cases h1.symm.trans w2
    exact w3
  rcases h with h | ⟨rfl, h⟩ | ⟨rfl, h⟩
  · exact absurd h h0
  · rw [if_pos rfl]
    rcases h with h | h | h | h | h
    · exact key 3 _ _ _ rfl h _ (cst _ (by decide))
    · exact key 4 _ _ _ rfl h _ (cst _ (by decide))
    · exact key 5 _ _ _ rfl h _ (cst _ (by decide))
    · exact key 8 _ _ _ rfl h _ (cst _ (by decide))
    · exact key 9 _ _ _ rfl h _ (cst _ (by decide))
  · rw [if_neg (by decide)]
    refine key 2 _ _ _ rfl h _ (fun comp c0 h1 h2 => ?_)
    cases h1.symm.trans h2
    exact va_assign (hK.1.1 2 _ rfl).2 |> fun z => by
      have := (hK.1.1 2 _ rfl).2.1
      cases this.symm.trans h1
      exact z
theorem g_aast {j v : Nat} {i : Int32} (t : Nat) (ht : t = 4 ∨ t = 5) (h : dg_stR G (50 + t) j i v = some G1) (hd : decode (dt_c T) pc = .ok (.aastore, 1)) (kk : dgW T l E Mo G' x G1 (pc + 1) lv st) : dgW T l E Mo G' x G pc lv (dj_v E v :: .int i :: dj_v E j :: st) := by
  obtain ⟨⟨h1, hm⟩, h2, rfl⟩ := dg_in2 h
  have hm := dg_mayb_iff.mp hm
  refine dg_w (G1 := dg_sAR G j i.toNatClampNeg v) rfl rfl (fun C Q mc ms k n hC hK _ kk H locs ls hP hS hl => ?_) kk
  have h100 := dg_100 hP (j := j) (by omega)
  have hlt : i.toNatClampNeg < dg_L G j := Nat.not_le.mp fun q => h2 (Or.inr q)
  have h0 : ¬ i < 0 := fun q => h2 (Or.inl q)
  rw [dg_vref hP (j := j) (by omega)]
  have hc : H[dj_ad E j]? = some (vp_cell (dj_dA E t) (dg_L G j, .inr (.inr (.inr (.inr (fun i => dj_o E (dg_AR G j i))))))) := hP.1 j _ (dg_cellR (t := t) h1 (by omega))
  have fin : ∀ (H1 : Heap), H1[dj_ad E j]? = some ((arrV (dj_dA E t) (dg_L G j) (fun i => dj_v E (dg_AR G j i))).setSlot i.toNatClampNeg (dj_v E v)) → H1.size = H.size → (∀ q, q ≠ dj_ad E j → H1[q]? = H[q]?) → dj_P E Mo (dg_sAR G j i.toNatClampNeg v) H1 := by
    intro H1 e1 z1 o1
    refine dj_put hP (by omega) z1 o1 rfl rfl (fun i' hi => dg_cell_AR E G v hi) (by omega) (fun e he => ?_)
    have hK' : dg_K (dg_sAR G j i.toNatClampNeg v) j = 50 + t := h1
    rw [dg_cellR hK' (by omega)] at he
    cases he
    show H1[_]? = some (vp_cell _ _)
    rw [e1, vp_cell_q, arrV_store]
    congr 2
    funext q
    show updV _ _ _ q = dj_v E (dg_up _ _ _ _ _ _)
    unfold updV dg_up
    by_cases hq : q = i.toNatClampNeg
    · rw [if_pos hq, if_pos ⟨rfl, hq⟩]
    · rw [if_neg hq, if_neg (fun z => hq z.2)]
  have tys : ∃ Cn, (dj_ty E)[t]? = some (dj_dA E t, .object Cn) ∧ Cn = (if 50 + t = 54 then "java/lang/Object" else "DebtorsHouse$State") := by
    rcases ht with rfl | rfl
    · exact ⟨_, rfl, rfl⟩
    · exact ⟨_, rfl, rfl⟩
  obtain ⟨Cn, hty, hCn⟩ := tys
  by_cases hv0 : v = 0
  · subst hv0
    exact va_WaastN (C := Cn) hC.1 hC.2.1 hc ((hK.1.2 t _ hty).1 _ _) (fun q => by cases q) (by rw [vp_cell_q, arrV_size]; exact h2) rfl rfl hd (fun H1 e1 z1 o1 => kk H1 _ ls (fin H1 e1 z1 o1) (hS.put z1 o1 (dg_bs h100)) hl)
  · obtain ⟨hv, cellV, g1, g2, ⟨kC, hkC⟩, hasg⟩ := dg_mayO (C := C) hK hP hm hv0 (by omega)
    obtain ⟨kA, comp, k1, k2, k3, -⟩ := (hK.1.2 t _ hty).2
    obtain ⟨kE, hkE, -⟩ := Vm.findClass_spec k3
    rw [hv] at fin ⊢
    exact W.aast hC.1 hC.2.1 hc (fun q h => by cases h) (fun h => by cases h) k1 k2 rfl hkE ⟨h0, by rw [vp_cell_q, arrV_size]; exact hlt⟩ g1 (fun q h => by rw [h] at g2; cases g2) hkC (hasg comp (by rw [← hCn]; exact k3)) rfl rfl hd (fun H1 e1 z1 o1 => kk H1 _ ls (fin H1 e1 z1 o1) (hS.put z1 o1 (dg_bs h100)) hl)
end
