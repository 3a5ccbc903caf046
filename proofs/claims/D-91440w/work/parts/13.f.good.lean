set_option maxRecDepth 100000
/-! calls: good, walk -/
def sp_goodC (A : ds_A) (nA : Nat) (x1 x2 : Int32) : Int32 := if ds_in x1 0 9999 = 0 then -1 else if ds_in x2 0 9999 = 0 then -1 else sp_good A nA x1 x2
def sp_walk (A : ds_A) (nP nA nD : Nat) (S : ds_S) (x1 x2 : Int32) : Int32 × ds_S :=
  if ds_in x1 0 (Int32.ofNat nP - 1) = 0 then (0, S) else
  let i := x1.toNatClampNeg
  if ds_p S 3 i = -1 then (0, S) else if ds_p S 13 i = x2 then (0, S) else if x2 = 0 then (1, ds_upp S 13 i x2) else
  if sp_now A nA nD S i 3 = 0 then (0, S) else (1, ds_upp S 13 i x2)
section
variable {G : dg_G} {M : dm_M} {nP nD nA : Nat} {S : ds_S} {A : ds_A}
theorem e_goodC (hW : ds_W G nP nD nA) (hA : ds_WA G nA A) (x1 x2 : Int32) : gG_X0_good (dG G nP nD S) 100 x1 x2 = some (sp_goodC A nA x1 x2) := by
  unfold sp_goodC
  rcases ds_in_01 x1 0 9999 with h | h
  · rw [if_pos h]
    exact e_good0 hW (Or.inl h)
  · rw [if_neg (by rw [h]; exact i3_10)]
    rcases ds_in_01 x2 0 9999 with h2 | h2
    · rw [if_pos h2]
      exact e_good0 hW (Or.inr h2)
    · rw [if_neg (by rw [h2]; exact i3_10)]
      exact e_good hW hA h h2
theorem em_isDay (x : Int32) : gM_isDay M x = some (ds_in x 0 9999) := by
  unfold gM_isDay
  simp only [em_in, ds_bd, ds_bo_in]
theorem em_goodC (hA : dm_WA M nA A) (h4 : nA ≤ 4) (x1 x2 : Int32) : gM_good (dM M nP nD S) x1 x2 = some (sp_goodC A nA x1 x2, dM (dm_set M 0 0 0) nP nD S) := by
  have hN : dm_WA (dM (dm_set M 0 0 0) nP nD S) nA A := by
    rw [← em_code]
    have := dm_WA_dM (nP := nP) (nD := nD) (S := S) hA
    exact this
  have e := em_goodOn hN h4 x1 x2
  unfold gM_good sp_goodC
  rw [em_code]
  refine ds_bind rfl (ds_bind (em_isDay x1) ?_)
  rcases ds_in_01 x1 0 9999 with h | h
  · rw [if_pos h, if_pos h]
  · rw [if_neg (by rw [h]; exact i3_10)]
    refine ds_bind (em_isDay x2) ?_
    rw [if_neg (c := ds_in x1 0 9999 = 0) (by rw [h]; exact i3_10)]
    rcases ds_in_01 x2 0 9999 with h2 | h2
    · rw [if_pos h2, if_pos h2]
    · rw [if_neg (by rw [h2]; exact i3_10), if_neg (c := ds_in x2 0 9999 = 0) (by rw [h2]; exact i3_10)]
      exact ds_bind e rfl
end
