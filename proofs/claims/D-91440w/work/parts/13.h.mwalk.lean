set_option maxRecDepth 100000
section
variable {M : dm_M} {nP nD nA : Nat} {S : ds_S} {A : ds_A}
theorem dm_WA_code (h : dm_WA M nA A) : dm_WA (dm_set M 0 0 0) nA A := by
  have e : ∀ a b, a ≠ 0 → (dm_set M 0 0 0).1 a b = M.1 a b := fun a b ha => if_neg (fun q => ha q.1)
  unfold dm_WA
  simp only [e 43 _ (by decide), e 44 _ (by decide), e 45 _ (by decide), e 46 _ (by decide), e 47 _ (by decide), e 48 _ (by decide), e 49 _ (by decide), e 50 _ (by decide), e 51 _ (by decide), e 52 _ (by decide)]
  exact h
theorem vp_bx {x : Int32} (h : x = 0 ∨ x = 1) : vp_nar .boolean x = x := by
  rcases h with rfl | rfl
  · exact vp_b0
  · exact vp_b1
theorem em_walk (hM : ds_lim nP nD) (hA : dm_WA M nA A) (hB : ds_bA A nA) (hR : ds_Rm nP S) (x1 x2 : Int32) (hx : x2 = 0 ∨ x2 = 1) : ∃ M', gM_walk (dM M nP nD S) x1 x2 = some ((sp_walk A nP nA nD S x1 x2).1, dM M' nP nD (sp_walk A nP nA nD S x1 x2).2) ∧ (M' = dm_set M 0 0 0 ∨ ∃ F, M' = dm_seen (dm_set M 0 0 0) F) := by
  have hn := hM.1
  unfold gM_walk sp_walk
  dsimp only
  rw [em_code]
  rcases ds_in_c x1 (n := nP) (by omega) with h | ⟨h, i, hi, rfl⟩
  · refine ⟨dm_set M 0 0 0, ds_bind rfl (ds_bind (em_isPerson hM x1) ?_), Or.inl rfl⟩
    rw [if_pos h, if_pos h]
  · rw [if_neg (c := ds_in (Int32.ofNat i) 0 (Int32.ofNat nP - 1) = 0) (by rw [h]; exact i3_10), i3_nat (show i < 2147483648 by omega)]
    have k0 : ∀ {M' : dm_M} {r : Int32 × ds_S}, ((dm_rd (dM (dm_set M 0 0 0) nP nD S) 11 (Int32.ofNat i)).bind fun v4 => if v4 = 0 then some ((0 : Int32), dM (dm_set M 0 0 0) nP nD S) else (dm_rd (dM (dm_set M 0 0 0) nP nD S) 15 (Int32.ofNat i)).bind fun v6 => if v6 = x2 then some (0, dM (dm_set M 0 0 0) nP nD S) else if x2 = 0 then (dm_wr (dM (dm_set M 0 0 0) nP nD S) 15 (Int32.ofNat i) (vp_nar .boolean x2)).bind fun M9 => some (1, M9) else (gM_tellsNow (dM (dm_set M 0 0 0) nP nD S) (Int32.ofNat i) 3).bind fun p10 => if p10.1 = 0 then some (0, p10.2) else (dm_wr p10.2 15 (Int32.ofNat i) (vp_nar .boolean x2)).bind fun M12 => some (1, M12)) = some (r.1, dM M' nP nD r.2) → ((some (dM (dm_set M 0 0 0) nP nD S)).bind fun M1 => (gM_isPerson M1 (Int32.ofNat i)).bind fun p2 => if p2 = 0 then some ((0 : Int32), M1) else (dm_rd M1 11 (Int32.ofNat i)).bind fun v4 => if v4 = 0 then some (0, M1) else (dm_rd M1 15 (Int32.ofNat i)).bind fun v6 => if v6 = x2 then some (0, M1) else if x2 = 0 then (dm_wr M1 15 (Int32.ofNat i) (vp_nar .boolean x2)).bind fun M9 => some (1, M9) else (gM_tellsNow M1 (Int32.ofNat i) 3).bind fun p10 => if p10.1 = 0 then some (0, p10.2) else (dm_wr p10.2 15 (Int32.ofNat i) (vp_nar .boolean x2)).bind fun M12 => some (1, M12)) = some (r.1, dM M' nP nD r.2) := fun q => ds_bind rfl (ds_bind (em_isPerson hM _) (by rw [if_neg (by rw [h]; exact i3_10)]; exact q))
    by_cases e : ds_p S 3 i = -1
    · refine ⟨dm_set M 0 0 0, k0 (ds_bind (x_held hM hi) ?_), Or.inl rfl⟩
      rw [if_pos e, if_pos rfl, if_pos e]
    · by_cases c1 : ds_p S 13 i = x2
      · refine ⟨dm_set M 0 0 0, k0 (ds_bind (x_held hM hi) ?_), Or.inl rfl⟩
        rw [if_neg e, if_neg i3_10]
        refine ds_bind (x_p hM (k := 15) (by decide) hi) ?_
        rw [pt_15]
        rw [if_pos c1, if_neg e, if_pos c1]
      · by_cases c2 : x2 = 0
        · refine ⟨dm_set M 0 0 0, k0 (ds_bind (x_held hM hi) ?_), Or.inl rfl⟩
          rw [if_neg e, if_neg i3_10]
          refine ds_bind (x_p hM (k := 15) (by decide) hi) ?_
          rw [pt_15]
          rw [if_neg c1, if_pos c2, vp_bx hx, if_neg e, if_neg c1, if_pos c2]
          exact ds_bind (y_p hM (k := 15) (by decide) (by decide) hi) rfl
        · have et := em_now (M := dm_set M 0 0 0) hM (dm_WA_code hA) hB hR (i := i) (t := 3) hi (by decide)
          refine ⟨dm_seen (dm_set M 0 0 0) (sp_F S nD i), k0 (ds_bind (x_held hM hi) ?_), Or.inr ⟨_, rfl⟩⟩
          rw [if_neg e, if_neg i3_10]
          refine ds_bind (x_p hM (k := 15) (by decide) hi) ?_
          rw [pt_15]
          rw [if_neg c1, if_neg c2, vp_bx hx, if_neg e, if_neg c1, if_neg c2]
          refine ds_bind et ?_
          by_cases c3 : sp_now A nA nD S i 3 = 0
          · rw [if_pos c3, if_pos c3]
          · rw [if_neg c3, if_neg c3]
            exact ds_bind (y_p hM (k := 15) (by decide) (by decide) hi) rfl
end
