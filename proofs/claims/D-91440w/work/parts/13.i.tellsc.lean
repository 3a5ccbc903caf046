set_option maxRecDepth 100000
def sp_tellsC (A : ds_A) (nP nA nD : Nat) (S : ds_S) (x1 x2 x3 : Int32) : Int32 :=
  if ds_in x1 0 (Int32.ofNat nP - 1) = 0 then -1 else if ds_in x2 0 8 = 0 then -1 else if ds_in x3 (-1) (Int32.ofNat nA - 1) = 0 then -1 else
  sp_tellsB A (sp_F S nD x1.toNatClampNeg) x2.toNatClampNeg (if x3 = -1 then sp_good A nA (ds_s S 4) (ds_s S 4) else x3)
theorem ds_in_m1 (x : Int32) {n : Nat} (hn : n < 2147483648) (h : ds_in x (-1) (Int32.ofNat n - 1) = 1) : ds_nn n x := by
  obtain ⟨h0, h1⟩ := ds_in_1 h
  by_cases e : x = -1
  · exact Or.inl e
  · have h2 : ¬ x < 0 := by
      intro q
      rw [Int32.lt_iff_toInt_lt] at h0 q
      have e1 : (-1 : Int32).toInt = -1 := by decide
      have e0 : (0 : Int32).toInt = 0 := by decide
      rw [e1] at h0
      rw [e0] at q
      exact e (Int32.toInt_inj.mp (by rw [e1]; omega))
    have : ds_in x 0 (Int32.ofNat n - 1) = 1 := by
      unfold ds_in
      rw [if_neg h2, if_neg h1]
    rcases ds_in_c x hn with q | ⟨-, i, hi, rfl⟩
    · rw [this] at q; exact absurd q i3_10
    · exact Or.inr ⟨i, hi, rfl⟩
theorem ds_in_8 (x : Int32) (h : ds_in x 0 8 = 1) : ∃ t, t < 9 ∧ x = Int32.ofNat t := by
  have : ds_in x 0 (Int32.ofNat 9 - 1) = 1 := h
  rcases ds_in_c x (n := 9) (by decide) with q | ⟨-, i, hi, rfl⟩
  · rw [this] at q; exact absurd q i3_10
  · exact ⟨i, hi, rfl⟩
section
variable {G : dg_G} {M : dm_M} {nP nD nA : Nat} {S : ds_S} {A : ds_A}
theorem e_tellsC (hW : ds_W G nP nD nA) (hA : ds_WA G nA A) (hO : ds_Ok nP nD S) (hd : ds_in (ds_s S 4) 0 9999 = 1) (x1 x2 x3 : Int32) : ∃ S', gG_X0_tells (dG G nP nD S) 100 x1 x2 x3 = some (sp_tellsC A nP nA nD S x1 x2 x3, dG G nP nD S') ∧ ds_eq S' S := by
  have hn := hW.1.1
  have hn4 := hW.1.2.2
  unfold gG_X0_tells sp_tellsC
  simp only [ds_bd, v_h0 hW, v_h1 hW, v_h2 hW, v_h3 hW, v_h4 hW, v_h5 hW, v_h6 hW, v_h7 hW, v_h8 hW, v_h9 hW, v_s0 hW, v_s8 hW, v_s9 hW, v_s10 hW, v_s11 hW, v_s12 hW, v_i100 hW, v_i101 hW, v_i103 hW, v_i105 hW, v_i107 hW, v_n3 hW, v_n5 hW, v_n7 hW, e_in, e_isPerson hW, show do_len 31 = some 9 from rfl, show (9 : Int32) - 1 = 8 by decide]
  rcases ds_in_c x1 (n := nP) (by omega) with h | ⟨h, i, hi, rfl⟩
  · exact ⟨S, by simp only [h, if_true], ds_eq.rf S⟩
  · simp only [h, i3_10, if_false, i3_nat (show i < 2147483648 by omega)]
    rcases ds_in_01 x2 0 8 with h2 | h2
    · exact ⟨S, by simp only [h2, if_true], ds_eq.rf S⟩
    · obtain ⟨t, ht, rfl⟩ := ds_in_8 x2 h2
      simp only [h2, i3_10, if_false, i3_nat (show t < 2147483648 by omega)]
      rcases ds_in_01 x3 (-1) (Int32.ofNat nA - 1) with h3 | h3
      · exact ⟨S, by simp only [h3, if_true], ds_eq.rf S⟩
      · have hx := ds_in_m1 x3 (n := nA) (by omega) h3
        simp only [h3, i3_10, if_false]
        have ld : do_ld 31 (Int32.ofNat t) = some (1 + t) := by
          unfold do_ld
          rw [if_pos rfl, if_neg (v_in ht (by decide)), i3_nat (by omega)]
        refine ⟨ds_setF S (sp_F S nD i), ?_, ds_eq_setF S _⟩
        refine ds_bind (v_at hW hi) (ds_bind (e_asks hW hO hi) (ds_bind ld ?_))
        have e1 := e_good (S := ds_setF S (sp_F S nD i)) hW hA hd hd
        have e2 := e_tells2 (S := ds_setF S (sp_F S nD i)) (F := sp_F S nD i) hW hA ht (sp_good_nn A nA (ds_s S 4) (ds_s S 4)) (fun x hx => ds_setF_a S _ hx)
        have e3 := e_tells2 (S := ds_setF S (sp_F S nD i)) (F := sp_F S nD i) (x := x3) hW hA ht hx (fun x hx => ds_setF_a S _ hx)
        by_cases c : x3 = -1
        · simp only [c, if_true, ds_bd, v_h0 hW, v_h1 hW, v_h2 hW, v_h3 hW, v_h4 hW, v_h5 hW, v_h6 hW, v_h7 hW, v_h8 hW, v_h9 hW, v_s0 hW, v_s8 hW, v_s9 hW, v_s10 hW, v_s11 hW, v_s12 hW, v_i100 hW, v_i101 hW, v_i103 hW, v_i105 hW, v_i107 hW, v_n3 hW, v_n5 hW, v_n7 hW, e_in, v_s hW (k := 1) (by decide) (by decide), v_s hW (k := 2) (by decide) (by decide), v_s hW (k := 3) (by decide) (by decide), v_s hW (k := 4) (by decide) (by decide), v_s hW (k := 5) (by decide) (by decide), v_s hW (k := 6) (by decide) (by decide), v_s hW (k := 7) (by decide) (by decide), ds_setF_s, e1, e2]
        · simp only [c, if_false, ds_bd, v_h0 hW, v_h1 hW, v_h2 hW, v_h3 hW, v_h4 hW, v_h5 hW, v_h6 hW, v_h7 hW, v_h8 hW, v_h9 hW, v_s0 hW, v_s8 hW, v_s9 hW, v_s10 hW, v_s11 hW, v_s12 hW, v_i100 hW, v_i101 hW, v_i103 hW, v_i105 hW, v_i107 hW, v_n3 hW, v_n5 hW, v_n7 hW, e_in, e3]
end
