set_option maxRecDepth 100000
/-- alike but for scratch -/
def ds_eq (S T : ds_S) : Prop := ds_s S = ds_s T ∧ ds_p S = ds_p T ∧ ds_d S = ds_d T ∧ ds_l S = ds_l T ∧ ds_t S = ds_t T ∧ ds_r S = ds_r T
theorem ds_eq.rf (S : ds_S) : ds_eq S S := ⟨rfl, rfl, rfl, rfl, rfl, rfl⟩
theorem ds_eq_setF (S : ds_S) (F : Nat → Int32) : ds_eq (ds_setF S F) S := ⟨ds_setF_s S F, ds_setF_p S F, ds_setF_d S F, ds_setF_l S F, ds_setF_t S F, ds_setF_r S F⟩
theorem ds_eq.upp {S T : ds_S} (h : ds_eq S T) (k i : Nat) (v : Int32) : ds_eq (ds_upp S k i v) (ds_upp T k i v) := by
  obtain ⟨h1, h2, h3, h4, h5, h6⟩ := h
  exact ⟨h1, by show dg_up (ds_p S) k i v = dg_up (ds_p T) k i v; rw [h2], h3, h4, h5, h6⟩
theorem ds_eq.us {S T : ds_S} (h : ds_eq S T) (k : Nat) (v : Int32) : ds_eq (ds_us S k v) (ds_us T k v) := by
  obtain ⟨h1, h2, h3, h4, h5, h6⟩ := h
  exact ⟨by show ds_up1 (ds_s S) k v = ds_up1 (ds_s T) k v; rw [h1], h2, h3, h4, h5, h6⟩
theorem ds_eq.ud {S T : ds_S} (h : ds_eq S T) (k i : Nat) (v : Int32) : ds_eq (ds_ud S k i v) (ds_ud T k i v) := by
  obtain ⟨h1, h2, h3, h4, h5, h6⟩ := h
  exact ⟨h1, h2, by show dg_up (ds_d S) k i v = dg_up (ds_d T) k i v; rw [h3], h4, h5, h6⟩
theorem ds_eq.tr {S T U : ds_S} (h : ds_eq S T) (h' : ds_eq T U) : ds_eq S U := ⟨h.1.trans h'.1, h.2.1.trans h'.2.1, h.2.2.1.trans h'.2.2.1, h.2.2.2.1.trans h'.2.2.2.1, h.2.2.2.2.1.trans h'.2.2.2.2.1, h.2.2.2.2.2.trans h'.2.2.2.2.2⟩
theorem dM_eq {M : dm_M} {nP nD : Nat} {S T : ds_S} (h : ds_eq S T) : dM M nP nD S = dM M nP nD T := by
  obtain ⟨h1, h2, h3, h4, h5, h6⟩ := h
  have hr : ds_rows S nP = ds_rows T nP := by unfold ds_rows; rw [h2]
  unfold dM
  rw [h1, h2, h3, h4, h5, h6, hr]
section
variable {G : dg_G} {M : dm_M} {nP nD nA : Nat} {S : ds_S} {A : ds_A}
theorem e_walk (hW : ds_W G nP nD nA) (hA : ds_WA G nA A) (hO : ds_Ok nP nD S) (hd : ds_in (ds_s S 4) 0 9999 = 1) (x1 x2 : Int32) (hx : x2 = 0 ∨ x2 = 1) : ∃ S', gG_X0_walk (dG G nP nD S) 100 x1 x2 = some ((sp_walk A nP nA nD S x1 x2).1, dG G nP nD S') ∧ ds_eq S' (sp_walk A nP nA nD S x1 x2).2 := by
  have hn := hW.1.1
  unfold gG_X0_walk sp_walk
  simp only [ds_bd, v_h0 hW, v_h1 hW, v_h2 hW, v_h3 hW, v_h4 hW, v_h5 hW, v_h6 hW, v_h7 hW, v_h8 hW, v_h9 hW, v_s0 hW, v_s8 hW, v_s9 hW, v_s10 hW, v_s11 hW, v_s12 hW, v_i100 hW, v_i101 hW, v_i103 hW, v_i105 hW, v_i107 hW, v_n3 hW, v_n5 hW, v_n7 hW, e_in, e_isHeld hW]
  rcases ds_in_c x1 (n := nP) (by omega) with h | ⟨h, i, hi, rfl⟩
  · refine ⟨S, ?_, ?_⟩
    · simp only [h, if_true]
    · simp only [h, if_true]; exact ds_eq.rf S
  · simp only [h, i3_10, if_false, i3_nat (show i < 2147483648 by omega)]
    by_cases e : ds_p S 3 i = -1
    · refine ⟨S, ?_, ?_⟩
      · simp only [e, if_true]
      · simp only [e, if_true]; exact ds_eq.rf S
    · simp only [e, if_false, i3_10, ds_bd, v_h0 hW, v_h1 hW, v_h2 hW, v_h3 hW, v_h4 hW, v_h5 hW, v_h6 hW, v_h7 hW, v_h8 hW, v_h9 hW, v_s0 hW, v_s8 hW, v_s9 hW, v_s10 hW, v_s11 hW, v_s12 hW, v_i100 hW, v_i101 hW, v_i103 hW, v_i105 hW, v_i107 hW, v_n3 hW, v_n5 hW, v_n7 hW, e_in, v_at hW hi, v_p hW (k := 1) (by decide) (by decide) hi, v_p hW (k := 2) (by decide) (by decide) hi, v_p hW (k := 3) (by decide) (by decide) hi, v_p hW (k := 4) (by decide) (by decide) hi, v_p hW (k := 5) (by decide) (by decide) hi, v_p hW (k := 6) (by decide) (by decide) hi, v_p hW (k := 7) (by decide) (by decide) hi, v_p hW (k := 8) (by decide) (by decide) hi, v_p hW (k := 9) (by decide) (by decide) hi, v_p hW (k := 10) (by decide) (by decide) hi, v_p hW (k := 11) (by decide) (by decide) hi, v_p hW (k := 12) (by decide) (by decide) hi, v_p hW (k := 13) (by decide) (by decide) hi, v_p hW (k := 14) (by decide) (by decide) hi]
      by_cases c1 : ds_p S 13 i = x2
      · refine ⟨S, ?_, ?_⟩
        · simp only [c1, if_true]
        · simp only [c1, if_true]; exact ds_eq.rf S
      · simp only [c1, if_false]
        by_cases c2 : x2 = 0
        · refine ⟨ds_upp S 13 i x2, ?_, ?_⟩
          · rw [if_pos c2, if_pos c2, w_pZ hW (k := 13) hx (by decide) (by decide) hi]
            rfl
          · rw [if_pos c2]; exact ds_eq.rf _
        · have et := e_tells3 (S := S) hW hA hO hd (i := i) (t := 3) (r := 4) hi (by decide) rfl
          by_cases c3 : sp_now A nA nD S i 3 = 0
          · refine ⟨ds_setF S (sp_F S nD i), ?_, ?_⟩
            · rw [if_neg c2, if_neg c2, if_pos c3]
              refine ds_bind et ?_
              rw [if_pos c3]
            · rw [if_neg c2, if_pos c3]; exact ds_eq_setF S _
          · refine ⟨ds_upp (ds_setF S (sp_F S nD i)) 13 i x2, ?_, ?_⟩
            · rw [if_neg c2, if_neg c2, if_neg c3]
              refine ds_bind et ?_
              rw [if_neg c3]
              exact ds_bind (v_i100 hW) (ds_bind (v_at hW hi) (ds_bind (w_pZ hW (k := 13) hx (by decide) (by decide) hi) rfl))
            · rw [if_neg c2, if_neg c3]; exact (ds_eq_setF S _).upp _ _ _
end
