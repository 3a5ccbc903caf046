set_option maxRecDepth 100000
section
variable {M : dm_M} {nP nD nA : Nat} {S : ds_S} {A : ds_A}
theorem em_tellsC (hM : ds_lim nP nD) (hA : dm_WA M nA A) (hB : ds_bA A nA) (hR : ds_Rm nP S) (x1 x2 x3 : Int32) : ∃ M', gM_tells (dM M nP nD S) x1 x2 x3 = some (sp_tellsC A nP nA nD S x1 x2 x3, dM M' nP nD S) ∧ (M' = dm_set M 0 0 0 ∨ ∃ F, M' = dm_seen (dm_set M 0 0 0) F) := by
  have hn := hM.1
  have h4 := hB.1
  have hA0 := dm_WA_code hA
  have e43 : dm_rd (dM (dm_set M 0 0 0) nP nD S) 43 0 = some (Int32.ofNat nA) := by
    rw [← (dm_WA_dM (nP := nP) (nD := nD) (S := S) hA0).1]
    exact x_rd (i := 0) (k := 43) (by decide) (by decide)
  unfold gM_tells sp_tellsC
  rw [em_code]
  rcases ds_in_c x1 (n := nP) (by omega) with h | ⟨h, i, hi, rfl⟩
  · refine ⟨dm_set M 0 0 0, ds_bind rfl (ds_bind (em_isPerson hM x1) ?_), Or.inl rfl⟩
    rw [if_pos h, if_pos h]
  · rcases ds_in_01 x2 0 8 with h2 | h2
    · refine ⟨dm_set M 0 0 0, ds_bind rfl (ds_bind (em_isPerson hM _) ?_), Or.inl rfl⟩
      rw [if_neg (by rw [h]; exact i3_10)]
      refine ds_bind (em_in _ _ _ _) ?_
      rw [if_pos h2, if_neg (c := ds_in (Int32.ofNat i) 0 (Int32.ofNat nP - 1) = 0) (by rw [h]; exact i3_10), if_pos h2]
    · obtain ⟨t, ht, rfl⟩ := ds_in_8 x2 h2
      rcases ds_in_01 x3 (-1) (Int32.ofNat nA - 1) with h3 | h3
      · refine ⟨dm_set M 0 0 0, ds_bind rfl (ds_bind (em_isPerson hM _) ?_), Or.inl rfl⟩
        rw [if_neg (by rw [h]; exact i3_10)]
        refine ds_bind (em_in _ _ _ _) ?_
        rw [if_neg (by rw [h2]; exact i3_10)]
        refine ds_bind e43 (ds_bind (em_in _ _ _ _) ?_)
        rw [if_pos h3, if_neg (c := ds_in (Int32.ofNat i) 0 (Int32.ofNat nP - 1) = 0) (by rw [h]; exact i3_10), if_neg (c := ds_in (Int32.ofNat t) 0 8 = 0) (by rw [h2]; exact i3_10), if_pos h3]
      · have hx := ds_in_m1 x3 (n := nA) (by omega) h3
        have hN : dm_WA (dM (dm_seen (dm_set M 0 0 0) (sp_F S nD i)) nP nD S) nA A := dm_WA_dM (dm_WA_seen hA0)
        have hF : ∀ x, x < 8 → (dM (dm_seen (dm_set M 0 0 0) (sp_F S nD i)) nP nD S).1 70 x = sp_F S nD i x := fun x hx => dm_seen_r _ _ hx
        have e1 : dm_rd (dM (dm_seen (dm_set M 0 0 0) (sp_F S nD i)) nP nD S) 5 0 = some (ds_s S 4) := x_s hM (k := 5) (by decide)
        refine ⟨dm_seen (dm_set M 0 0 0) (sp_F S nD i), ds_bind rfl (ds_bind (em_isPerson hM _) ?_), Or.inr ⟨_, rfl⟩⟩
        rw [if_neg (by rw [h]; exact i3_10)]
        refine ds_bind (em_in _ _ _ _) ?_
        rw [if_neg (by rw [h2]; exact i3_10)]
        refine ds_bind e43 (ds_bind (em_in _ _ _ _) ?_)
        rw [if_neg (by rw [h3]; exact i3_10), if_neg (c := ds_in (Int32.ofNat i) 0 (Int32.ofNat nP - 1) = 0) (by rw [h]; exact i3_10), if_neg (c := ds_in (Int32.ofNat t) 0 8 = 0) (by rw [h2]; exact i3_10), if_neg (c := ds_in x3 (-1) (Int32.ofNat nA - 1) = 0) (by rw [h3]; exact i3_10), i3_nat (show i < 2147483648 by omega), i3_nat (show t < 2147483648 by omega)]
        refine ds_bind (em_lookAt hM hR hi) ?_
        by_cases c : x3 = -1
        · rw [if_pos c, if_pos c]
          exact ds_bind e1 (ds_bind e1 (ds_bind (em_goodOn hN h4 _ _) (ds_bind (em_tellsBy hN hB hF ht (sp_good_nn A nA _ _)) rfl)))
        · rw [if_neg c, if_neg c]
          exact ds_bind (em_tellsBy hN hB hF ht hx) rfl
end
