set_option maxRecDepth 100000
section
variable {G : dg_G} {nP nD nA : Nat} {S : ds_S}
/-! arrays -/
theorem dG_AI {j i : Nat} : dg_AI (dG G nP nD S) j i = if j = 102 then ds_t S i else if 110 ≤ j ∧ j ≤ 121 then ds_l S (j - 110) i else if j = 122 then ds_r S i else if 124 ≤ j ∧ j ≤ 131 then ds_a S j i else dg_AI G j i := rfl
theorem v_in {L i : Nat} (hi : i < L) (hL : L < 2147483648) : ¬ (Int32.ofNat i < 0 ∨ L ≤ (Int32.ofNat i).toNatClampNeg) := by
  intro h
  rcases h with h | h
  · exact i3_nn (by omega) h
  · rw [i3_nat (by omega)] at h
    omega
theorem v_ld {κ j i L : Nat} (hK : dg_K G j = κ) (hL : dg_L G j = L) (hi : i < L) (h2 : L < 2147483648) : dg_ld (dG G nP nD S) κ j (Int32.ofNat i) = some (dg_AI (dG G nP nD S) j i) := by
  unfold dg_ld
  refine (if_pos hK).trans ?_
  rw [show dg_L (dG G nP nD S) j = L from hL, if_neg (v_in hi h2), i3_nat (by omega)]
theorem v_lda {κ j i L : Nat} (hj : 124 ≤ j ∧ j ≤ 131) (hK : dg_K G j = κ) (hL : dg_L G j = L) (hi : i < L) (h2 : L < 2147483648) : dg_ld (dG G nP nD S) κ j (Int32.ofNat i) = some (ds_a S j i) := by
  rw [v_ld hK hL hi h2, dG_AI, if_neg (by omega), if_neg (by omega), if_neg (by omega), if_pos hj]
theorem w_sta {κ j i L : Nat} {v : Int32} (hj : 124 ≤ j ∧ j ≤ 131) (hK : dg_K G j = κ) (hL : dg_L G j = L) (hi : i < L) (h2 : L < 2147483648) : dg_st (dG G nP nD S) κ j (Int32.ofNat i) v = some (dG G nP nD (ds_ua S j i v)) := by
  unfold dg_st
  refine (if_pos hK).trans ?_
  rw [show dg_L (dG G nP nD S) j = L from hL, if_neg (v_in hi h2), i3_nat (by omega)]
  refine congrArg some ?_
  have hA : dg_up (dg_AI (dG G nP nD S)) j i v = dg_AI (dG G nP nD (ds_ua S j i v)) := by
    funext a b
    unfold dg_up
    rw [dG_AI, dG_AI]
    show (if a = j ∧ b = i then v else if a = 102 then ds_t S b else if 110 ≤ a ∧ a ≤ 121 then ds_l S (a - 110) b else if a = 122 then ds_r S b else if 124 ≤ a ∧ a ≤ 131 then ds_a S a b else dg_AI G a b) = (if a = 102 then ds_t S b else if 110 ≤ a ∧ a ≤ 121 then ds_l S (a - 110) b else if a = 122 then ds_r S b else if 124 ≤ a ∧ a ≤ 131 then (if a = j ∧ b = i then v else ds_a S a b) else dg_AI G a b)
    by_cases h : 124 ≤ a ∧ a ≤ 131
    · rw [if_neg (c := a = 102) (by omega), if_neg (c := 110 ≤ a ∧ a ≤ 121) (by omega), if_neg (c := a = 122) (by omega), if_pos h, if_neg (c := a = 102) (by omega), if_neg (c := 110 ≤ a ∧ a ≤ 121) (by omega), if_neg (c := a = 122) (by omega), if_pos h]
    · rw [if_neg (c := a = j ∧ b = i) (by omega), if_neg h, if_neg h]
  unfold dg_sAI
  rw [hA]
  rfl
theorem v_ldb {j i L : Nat} (hj : 124 ≤ j ∧ j ≤ 131) (hK : dg_K G j = 53) (hL : dg_L G j = L) (hi : i < L) (h2 : L < 2147483648) : dg_ldL (dG G nP nD S) j (Int32.ofNat i) = some (ds_b S j i) := by
  unfold dg_ldL
  refine (if_pos hK).trans ?_
  rw [show dg_L (dG G nP nD S) j = L from hL, if_neg (v_in hi h2), i3_nat (by omega)]
  refine congrArg some ?_
  exact if_pos hj
theorem w_stb {j i L : Nat} {v : Int64} (hj : 124 ≤ j ∧ j ≤ 131) (hK : dg_K G j = 53) (hL : dg_L G j = L) (hi : i < L) (h2 : L < 2147483648) : dg_stL (dG G nP nD S) j (Int32.ofNat i) v = some (dG G nP nD (ds_ub S j i v)) := by
  unfold dg_stL
  refine (if_pos hK).trans ?_
  rw [show dg_L (dG G nP nD S) j = L from hL, if_neg (v_in hi h2), i3_nat (by omega)]
  refine congrArg some ?_
  have hA : dg_up (dg_AL (dG G nP nD S)) j i v = dg_AL (dG G nP nD (ds_ub S j i v)) := by
    funext a b
    show (if a = j ∧ b = i then v else if 124 ≤ a ∧ a ≤ 131 then ds_b S a b else dg_AL G a b) = (if 124 ≤ a ∧ a ≤ 131 then (if a = j ∧ b = i then v else ds_b S a b) else dg_AL G a b)
    by_cases h : 124 ≤ a ∧ a ≤ 131
    · rw [if_pos h, if_pos h]
    · rw [if_neg h, if_neg h, if_neg (by omega)]
  unfold dg_sAL
  rw [hA]
  rfl
/-! the tape -/
theorem v_ldt (hW : ds_W G nP nD nA) {i : Nat} (hi : i < 600) : dg_ldB (dG G nP nD S) 102 (Int32.ofNat i) = some (ds_t S i) := by
  unfold dg_ldB
  rw [if_neg (by omega), v_ld hW.2.2.2.2.1.1 hW.2.2.2.2.1.2.1 hi (by omega), dG_AI, if_pos rfl]
theorem w_stt (hW : ds_W G nP nD nA) {i : Nat} {v : Int32} (hi : i < 600) : dg_st (dG G nP nD S) 51 102 (Int32.ofNat i) v = some (dG G nP nD (ds_ut S i v)) := by
  unfold dg_st
  refine (if_pos hW.2.2.2.2.1.1).trans ?_
  rw [show dg_L (dG G nP nD S) 102 = 600 from hW.2.2.2.2.1.2.1, if_neg (v_in hi (by omega)), i3_nat (by omega)]
  refine congrArg some ?_
  have hA : dg_up (dg_AI (dG G nP nD S)) 102 i v = dg_AI (dG G nP nD (ds_ut S i v)) := by
    funext a b
    unfold dg_up
    rw [dG_AI, dG_AI]
    show (if a = 102 ∧ b = i then v else if a = 102 then ds_t S b else _) = (if a = 102 then (if b = i then v else ds_t S b) else _)
    by_cases h : a = 102
    · rw [if_pos h, if_pos h]
      by_cases h2 : b = i
      · rw [if_pos ⟨h, h2⟩, if_pos h2]
      · rw [if_neg (fun q => h2 q.2), if_neg h2]
    · rw [if_neg h, if_neg h, if_neg (fun q => h q.1)]
      rfl
  unfold dg_sAI
  rw [hA]
  rfl
/-! the ring's row -/
theorem v_ldr (hW : ds_W G nP nD nA) {i : Nat} (hi : i < 12) : dg_ld (dG G nP nD S) 50 122 (Int32.ofNat i) = some (ds_r S i) := by
  have h := hW.2.2.2.2.1.2.2.2.2.2.2.2.2.2.2.2.2.2.2.2.2
  rw [v_ld h.1 h.2 hi (by omega), dG_AI, if_neg (by omega), if_neg (by omega), if_pos rfl]
theorem w_str (hW : ds_W G nP nD nA) {i : Nat} {v : Int32} (hi : i < 12) : dg_st (dG G nP nD S) 50 122 (Int32.ofNat i) v = some (dG G nP nD (ds_ur S i v)) := by
  have h := hW.2.2.2.2.1.2.2.2.2.2.2.2.2.2.2.2.2.2.2.2.2
  unfold dg_st
  refine (if_pos h.1).trans ?_
  rw [show dg_L (dG G nP nD S) 122 = 12 from h.2, if_neg (v_in hi (by omega)), i3_nat (by omega)]
  refine congrArg some ?_
  have hA : dg_up (dg_AI (dG G nP nD S)) 122 i v = dg_AI (dG G nP nD (ds_ur S i v)) := by
    funext a b
    unfold dg_up
    rw [dG_AI, dG_AI]
    show (if a = 122 ∧ b = i then v else if a = 102 then ds_t S b else if 110 ≤ a ∧ a ≤ 121 then ds_l S (a - 110) b else if a = 122 then ds_r S b else _) = (if a = 102 then ds_t S b else if 110 ≤ a ∧ a ≤ 121 then ds_l S (a - 110) b else if a = 122 then (if b = i then v else ds_r S b) else _)
    by_cases h : a = 122
    · rw [if_neg (c := a = 102) (by omega), if_neg (c := 110 ≤ a ∧ a ≤ 121) (by omega), if_pos h, if_neg (c := a = 102) (by omega), if_neg (c := 110 ≤ a ∧ a ≤ 121) (by omega), if_pos h]
      by_cases h2 : b = i
      · rw [if_pos ⟨h, h2⟩, if_pos h2]
      · rw [if_neg (fun q => h2 q.2), if_neg h2]
    · rw [if_neg h, if_neg h, if_neg (c := a = 122 ∧ b = i) (fun q => h q.1)]
      rfl
  unfold dg_sAI
  rw [hA]
  rfl
/-! of a creditor and a debtor -/
theorem v_row (hW : ds_W G nP nD nA) {c : Nat} (hc : c < 12) : dg_ldR (dG G nP nD S) 56 109 (Int32.ofNat c) = some (110 + c) := by
  have h := hW.2.2.2.2.1.2.2.2.2.2.2.2.2.2.2.2.2.2.2
  unfold dg_ldR
  refine (if_pos h.1).trans ?_
  rw [show dg_L (dG G nP nD S) 109 = 12 from h.2.1, if_neg (v_in hc (by omega)), i3_nat (by omega)]
  exact congrArg some (hW.2.2.2.2.2.1 c hc).1
theorem v_ldl (hW : ds_W G nP nD nA) {c i : Nat} (hc : c < 12) (hi : i < 12) : dg_ld (dG G nP nD S) 50 (110 + c) (Int32.ofNat i) = some (ds_l S c i) := by
  have h := hW.2.2.2.2.2.1 c hc
  rw [v_ld h.2.1 h.2.2 hi (by omega), dG_AI, if_neg (by omega), if_pos (by omega), show 110 + c - 110 = c by omega]
theorem w_stl (hW : ds_W G nP nD nA) {c i : Nat} {v : Int32} (hc : c < 12) (hi : i < 12) : dg_st (dG G nP nD S) 50 (110 + c) (Int32.ofNat i) v = some (dG G nP nD (ds_ul S c i v)) := by
  have h := hW.2.2.2.2.2.1 c hc
  unfold dg_st
  refine (if_pos h.2.1).trans ?_
  rw [show dg_L (dG G nP nD S) (110 + c) = 12 from h.2.2, if_neg (v_in hi (by omega)), i3_nat (by omega)]
  refine congrArg some ?_
  have hA : dg_up (dg_AI (dG G nP nD S)) (110 + c) i v = dg_AI (dG G nP nD (ds_ul S c i v)) := by
    funext a b
    unfold dg_up
    rw [dG_AI, dG_AI]
    show (if a = 110 + c ∧ b = i then v else if a = 102 then ds_t S b else if 110 ≤ a ∧ a ≤ 121 then ds_l S (a - 110) b else _) = (if a = 102 then ds_t S b else if 110 ≤ a ∧ a ≤ 121 then (if a - 110 = c ∧ b = i then v else ds_l S (a - 110) b) else _)
    by_cases h : 110 ≤ a ∧ a ≤ 121
    · rw [if_neg (c := a = 102) (by omega), if_pos h, if_neg (c := a = 102) (by omega), if_pos h]
      by_cases h2 : a = 110 + c ∧ b = i
      · rw [if_pos h2, if_pos ⟨by omega, h2.2⟩]
      · rw [if_neg h2, if_neg (fun q => h2 ⟨by omega, q.2⟩)]
    · rw [if_neg h, if_neg h, if_neg (c := a = 110 + c ∧ b = i) (by omega)]
      rfl
  unfold dg_sAI
  rw [hA]
  rfl
/-! whole rows filled -/
theorem v_ln {j L κ : Nat} (hK : dg_K G j = κ) (hκ : 50 ≤ κ ∧ κ ≤ 56) (hL : dg_L G j = L) : dg_ln (dG G nP nD S) j = some (Int32.ofNat L) := by
  unfold dg_ln
  subst hK
  subst hL
  exact if_pos hκ
def ds_fa (S : ds_S) (j L : Nat) (v : Int32) : ds_S := (ds_s S, ds_p S, ds_d S, ds_l S, ds_t S, ds_r S, fun a b => if a = j ∧ b < L then v else ds_a S a b, ds_b S)
def ds_fb (S : ds_S) (j L : Nat) (v : Int64) : ds_S := (ds_s S, ds_p S, ds_d S, ds_l S, ds_t S, ds_r S, ds_a S, fun a b => if a = j ∧ b < L then v else ds_b S a b)
theorem ds_fa_eq (S : ds_S) (j L : Nat) (v : Int32) : ds_fold (fun i S => ds_ua S j i v) S L = ds_fa S j L v := by
  induction L with
  | zero =>
    have : (fun a b => if a = j ∧ b < 0 then v else ds_a S a b) = ds_a S := by
      funext a b
      exact if_neg (fun q => absurd q.2 (Nat.not_lt_zero _))
    unfold ds_fa
    rw [this]
    rfl
  | succ L ih =>
    show ds_ua (ds_fold _ S L) j L v = _
    rw [ih]
    have : dg_up (ds_a (ds_fa S j L v)) j L v = fun a b => if a = j ∧ b < L + 1 then v else ds_a S a b := by
      funext a b
      show (if a = j ∧ b = L then v else if a = j ∧ b < L then v else ds_a S a b) = _
      by_cases h1 : a = j ∧ b = L
      · rw [if_pos h1, if_pos ⟨h1.1, by omega⟩]
      · rw [if_neg h1]
        by_cases h2 : a = j ∧ b < L
        · rw [if_pos h2, if_pos ⟨h2.1, by omega⟩]
        · rw [if_neg h2, if_neg (fun q => by omega)]
    unfold ds_ua
    rw [this]
    rfl
theorem ds_fb_eq (S : ds_S) (j L : Nat) (v : Int64) : ds_fold (fun i S => ds_ub S j i v) S L = ds_fb S j L v := by
  induction L with
  | zero =>
    have : (fun a b => if a = j ∧ b < 0 then v else ds_b S a b) = ds_b S := by
      funext a b
      exact if_neg (fun q => absurd q.2 (Nat.not_lt_zero _))
    unfold ds_fb
    rw [this]
    rfl
  | succ L ih =>
    show ds_ub (ds_fold _ S L) j L v = _
    rw [ih]
    have : dg_up (ds_b (ds_fb S j L v)) j L v = fun a b => if a = j ∧ b < L + 1 then v else ds_b S a b := by
      funext a b
      show (if a = j ∧ b = L then v else if a = j ∧ b < L then v else ds_b S a b) = _
      by_cases h1 : a = j ∧ b = L
      · rw [if_pos h1, if_pos ⟨h1.1, by omega⟩]
      · rw [if_neg h1]
        by_cases h2 : a = j ∧ b < L
        · rw [if_pos h2, if_pos ⟨h2.1, by omega⟩]
        · rw [if_neg h2, if_neg (fun q => by omega)]
    unfold ds_ub
    rw [this]
    rfl
theorem v_fill {j L : Nat} {v : Int32} (hj : 124 ≤ j ∧ j ≤ 131) (hK : dg_K G j = 50) (hL : dg_L G j = L) (h2 : L < 1000000) : gG_J3_fill (dG G nP nD S) j v = some (dG G nP nD (ds_fa S j L v)) := by
  unfold gG_J3_fill
  rw [v_ln hK (by decide) hL]
  simp only [ds_bd]
  have := ds_loopT (L := fun n i (S : ds_S) => gG_J3_fill_L5 n (dG G nP nD S) j v (Int32.ofNat i) (Int32.ofNat L)) (N := L) (f := fun i S => ds_ua S j i v) (fin := fun S => some (dG G nP nD S)) (fun n i S hi => by
    show gG_J3_fill_L5_F (gG_J3_fill_L5 n) _ _ _ _ _ = _
    unfold gG_J3_fill_L5_F
    rw [if_neg ((not_congr (i3_le (by omega) (by omega))).mpr (by omega)), w_sta hj hK hL hi (by omega)]
    simp only [ds_bd]
    rw [i3_succ]) (fun n S => by
    show gG_J3_fill_L5_F (gG_J3_fill_L5 n) _ _ _ _ _ = _
    unfold gG_J3_fill_L5_F
    rw [if_pos ((i3_le (by omega) (by omega)).mpr (Nat.le_refl _))]) (a := S) (ds_fu h2)
  rw [ds_fa_eq] at this
  exact this
theorem v_fillL {j L : Nat} {v : Int64} (hj : 124 ≤ j ∧ j ≤ 131) (hK : dg_K G j = 53) (hL : dg_L G j = L) (h2 : L < 1000000) : gG_J3_fill_2 (dG G nP nD S) j v = some (dG G nP nD (ds_fb S j L v)) := by
  unfold gG_J3_fill_2
  rw [v_ln hK (by decide) hL]
  simp only [ds_bd]
  have := ds_loopT (L := fun n i (S : ds_S) => gG_J3_fill_2_L6 n (dG G nP nD S) j v (Int32.ofNat i) (Int32.ofNat L)) (N := L) (f := fun i S => ds_ub S j i v) (fin := fun S => some (dG G nP nD S)) (fun n i S hi => by
    show gG_J3_fill_2_L6_F (gG_J3_fill_2_L6 n) _ _ _ _ _ = _
    unfold gG_J3_fill_2_L6_F
    rw [if_neg ((not_congr (i3_le (by omega) (by omega))).mpr (by omega)), w_stb hj hK hL hi (by omega)]
    simp only [ds_bd]
    rw [i3_succ]) (fun n S => by
    show gG_J3_fill_2_L6_F (gG_J3_fill_2_L6 n) _ _ _ _ _ = _
    unfold gG_J3_fill_2_L6_F
    rw [if_pos ((i3_le (by omega) (by omega)).mpr (Nat.le_refl _))]) (a := S) (ds_fu h2)
  rw [ds_fb_eq] at this
  exact this
theorem v_fillZ {j L : Nat} {v : Int32} (hj : 124 ≤ j ∧ j ≤ 131) (hK : dg_K G j = 52) (hL : dg_L G j = L) (h2 : L < 1000000) : gG_J3_fill_3 (dG G nP nD S) j v = some (dG G nP nD (ds_fa S j L (vp_nar .boolean v))) := by
  unfold gG_J3_fill_3
  rw [v_ln hK (by decide) hL]
  simp only [ds_bd]
  have := ds_loopT (L := fun n i (S : ds_S) => gG_J3_fill_3_L5 n (dG G nP nD S) j v (Int32.ofNat i) (Int32.ofNat L)) (N := L) (f := fun i S => ds_ua S j i (vp_nar .boolean v)) (fin := fun S => some (dG G nP nD S)) (fun n i S hi => by
    show gG_J3_fill_3_L5_F (gG_J3_fill_3_L5 n) _ _ _ _ _ = _
    unfold gG_J3_fill_3_L5_F
    rw [if_neg ((not_congr (i3_le (by omega) (by omega))).mpr (by omega)), w_sta hj hK hL hi (by omega)]
    simp only [ds_bd]
    rw [i3_succ]) (fun n S => by
    show gG_J3_fill_3_L5_F (gG_J3_fill_3_L5 n) _ _ _ _ _ = _
    unfold gG_J3_fill_3_L5_F
    rw [if_pos ((i3_le (by omega) (by omega)).mpr (Nat.le_refl _))]) (a := S) (ds_fu h2)
  rw [ds_fa_eq] at this
  exact this
end
