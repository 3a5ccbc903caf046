set_option maxRecDepth 100000
section
variable {M : dm_M} {nP nD nA : Nat} {S : ds_S} {A : ds_A} {F : Nat → Int32}
theorem x70 {k : Nat} (hk : k < 8) {x : Int32} (hx : x = Int32.ofNat k) {v : Int32} (hv : M.1 70 k = v) : dm_rd (dM M nP nD S) 70 x = some v := by
  subst hx
  rw [x_rd (show k < dm_len 70 by show _ < 8; omega) (by decide), xv_f (Or.inr (by decide)), hv]
theorem y70 {k : Nat} (hk : k < 8) {x v : Int32} (hx : x = Int32.ofNat k) {M' : dm_M} (hv : dm_set M 70 k v = M') : dm_wr (dM M nP nD S) 70 x v = some (dM M' nP nD S) := by
  subst hx
  rw [x_wr (show k < dm_len 70 by show _ < 8; omega) (by decide), y_f (Or.inr (by decide)), hv]
theorem dm_3_r0 (M : dm_M) (t : Int32 × Int32 × Int32) : (dm_3 M t).1 70 0 = t.1 := by simp [dm_3, dm_set]
theorem dm_3_r1 (M : dm_M) (t : Int32 × Int32 × Int32) : (dm_3 M t).1 70 1 = t.2.1 := by simp [dm_3, dm_set]
theorem dm_3_r2 (M : dm_M) (t : Int32 × Int32 × Int32) : (dm_3 M t).1 70 2 = t.2.2 := by simp [dm_3, dm_set]
theorem em_lk1 (hM : ds_lim nP nD) {i d n : Nat} (t : Int32 × Int32 × Int32) (hi : i < nP) (hd : d < nD) : gM_lookAt_L24 (n + 1) (dM (dm_3 M t) nP nD S) (Int32.ofNat i) (Int32.ofNat d) = gM_lookAt_L24 n (dM (dm_3 M (if ds_d S 15 d = 0 ∧ ds_d S 1 d = Int32.ofNat i then (t.1 + sp_due S d, t.2.1 + 1, ds_min t.2.2 (ds_d S 3 d)) else t)) nP nD S) (Int32.ofNat i) (Int32.ofNat (d + 1)) := by
  have hn := hM.2
  show gM_lookAt_L24_F _ _ _ _ = _
  unfold gM_lookAt_L24_F
  rw [x_nd hM]
  simp only [ds_bd]
  rw [if_neg ((not_congr (i3_le (by omega) (by omega))).mpr (by omega)), x_d hM (k := 33) (by decide) hd, x_d hM (k := 26) (by decide) hd, em_due hM hd]
  simp only [ds_bd, dt_33, dt_26, i3_succ]
  by_cases e : ds_d S 15 d = 0
  · by_cases e2 : ds_d S 1 d = Int32.ofNat i
    · rw [if_pos e, if_pos e2, if_pos ⟨e, e2⟩, x70 (k := 0) (x := 0) (by decide) rfl (dm_3_r0 M t)]
      simp only [ds_bd]
      rw [y70 (k := 0) (x := 0) (by decide) rfl (dm_3_0 M t _)]
      simp only [ds_bd]
      rw [x70 (k := 1) (x := 1) (by decide) rfl (dm_3_r1 M _)]
      simp only [ds_bd]
      rw [y70 (k := 1) (x := 1) (by decide) rfl (dm_3_1 M _ _)]
      simp only [ds_bd]
      rw [x_d hM (k := 29) (by decide) hd, x70 (k := 2) (x := 2) (by decide) rfl (dm_3_r2 M _)]
      simp only [ds_bd, dt_29]
      have em := ds_min_le (ds_d S 3 d) t.2.2
      rw [ds_min_comm] at em
      by_cases c : t.2.2 ≤ ds_d S 3 d
      · rw [if_pos c] at em
        rw [if_pos c, y70 (k := 2) (x := 2) (by decide) rfl (dm_3_2 M _ _)]
        simp only [ds_bd]
        rw [← em]
      · rw [if_neg c] at em
        rw [if_neg c, y70 (k := 2) (x := 2) (by decide) rfl (dm_3_2 M _ _)]
        simp only [ds_bd]
        rw [← em]
    · rw [if_pos e, if_neg e2, if_neg (fun q => e2 q.2)]
  · rw [if_neg e, if_neg (fun q => e q.1)]
/-- not held: in the first room -/
def ds_Rm (nP : Nat) (S : ds_S) : Prop := ∀ i, i < nP → ds_p S 3 i = -1 → ds_p S 4 i = 0
theorem em_lk2 (hM : ds_lim nP nD) (hR : ds_Rm nP S) {i n : Nat} (t : Int32 × Int32 × Int32) (hi : i < nP) : gM_lookAt_L24 (n + 1) (dM (dm_3 M t) nP nD S) (Int32.ofNat i) (Int32.ofNat nD) = some (dM (dm_set (dm_set (dm_set (dm_set (dm_set (dm_3 M t) 70 3 (sp_F S nD i 3)) 70 4 (sp_F S nD i 4)) 70 5 (sp_F S nD i 5)) 70 6 (sp_F S nD i 6)) 70 7 (sp_F S nD i 7)) nP nD S) := by
  have hn := hM.2
  have hp := hM.1
  have f4 : sp_F S nD i 4 = ds_p S 1 i := rfl
  have f5 : sp_F S nD i 5 = ds_p S 4 i := rfl
  have f6 : sp_F S nD i 6 = ds_s S 5 := rfl
  have f7 : sp_F S nD i 7 = ds_p S 2 i := rfl
  show gM_lookAt_L24_F _ _ _ _ = _
  unfold gM_lookAt_L24_F
  rw [x_nd hM]
  simp only [ds_bd]
  rw [if_pos ((i3_le (by omega) (by omega)).mpr (Nat.le_refl _)), x_held hM hi, x_s hM (k := 5) (by decide), x_p hM (k := 12) (by decide) hi]
  simp only [ds_bd, sc_5, pt_12]
  have b187 : ∀ (M : dm_M) (v : Int32), gM_lookAt_b187 (dM M nP nD S) (Int32.ofNat i) v 5 = some (dM (dm_set (dm_set (dm_set M 70 5 v) 70 6 (ds_s S 5)) 70 7 (ds_p S 2 i)) nP nD S) := by
    intro M v
    unfold gM_lookAt_b187
    rw [y70 (k := 5) (x := 5) (by decide) rfl rfl]
    simp only [ds_bd]
    rw [x_s hM (k := 6) (by decide)]
    simp only [ds_bd]
    rw [y70 (k := 6) (x := 6) (by decide) rfl rfl]
    simp only [ds_bd]
    rw [x_p hM (k := 9) (by decide) hi]
    simp only [ds_bd]
    rw [y70 (k := 7) (x := 7) (by decide) rfl rfl]
    simp only [sc_6, pt_9, ds_bd]
  have b150 : ∀ (M : dm_M) (v : Int32), gM_lookAt_b150 (dM M nP nD S) (Int32.ofNat i) v 3 = some (dM (dm_set (dm_set (dm_set (dm_set (dm_set M 70 3 v) 70 4 (ds_p S 1 i)) 70 5 (ds_p S 4 i)) 70 6 (ds_s S 5)) 70 7 (ds_p S 2 i)) nP nD S) := by
    intro M v
    unfold gM_lookAt_b150
    rw [y70 (k := 3) (x := 3) (by decide) rfl rfl]
    simp only [ds_bd]
    rw [x_p hM (k := 10) (by decide) hi]
    simp only [ds_bd]
    rw [y70 (k := 4) (x := 4) (by decide) rfl rfl]
    simp only [ds_bd]
    rw [x_held hM hi, x_room hM hi]
    simp only [ds_bd, pt_10, b187]
    by_cases e : ds_p S 3 i = -1
    · rw [if_pos (if_pos e), hR i hi e]
    · rw [if_neg (by rw [if_neg e]; exact i3_10), if_neg e]
  rw [f4, f5, f6, f7, b150, b150]
  by_cases e : ds_p S 3 i = -1
  · rw [if_pos (if_pos e), show sp_F S nD i 3 = 0 from if_pos e]
  · rw [if_neg (by rw [if_neg e]; exact i3_10), show sp_F S nD i 3 = ds_s S 4 - ds_p S 3 i from if_neg e]
end
