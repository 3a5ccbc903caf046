set_option maxRecDepth 100000
def sp_tri (S : ds_S) (nD i : Nat) : Int32 × Int32 × Int32 := ds_fold (fun d a => if ds_d S 15 d = 0 ∧ ds_d S 1 d = Int32.ofNat i then (a.1 + sp_due S d, a.2.1 + 1, ds_min a.2.2 (ds_d S 3 d)) else a) (0, 0, 9) nD
def sp_F (S : ds_S) (nD i k : Nat) : Int32 := match k with
  | 0 => (sp_tri S nD i).1
  | 1 => (sp_tri S nD i).2.1
  | 2 => (sp_tri S nD i).2.2
  | 3 => if ds_p S 3 i = -1 then 0 else ds_s S 4 - ds_p S 3 i
  | 4 => ds_p S 1 i
  | 5 => ds_p S 4 i
  | 6 => ds_s S 5
  | _ => ds_p S 2 i
def ds_setF (S : ds_S) (F : Nat → Int32) : ds_S := ds_fold (fun i S => ds_ua S 124 i (F i)) S 8
theorem ds_setF_s (S : ds_S) (F : Nat → Int32) : ds_s (ds_setF S F) = ds_s S := ds_fold_inv (fun T => ds_s T = ds_s S) rfl (fun _ x h => (sx_s_ua x _ _ _).trans h) 8
theorem ds_setF_p (S : ds_S) (F : Nat → Int32) : ds_p (ds_setF S F) = ds_p S := ds_fold_inv (fun T => ds_p T = ds_p S) rfl (fun _ x h => (sx_p_ua x _ _ _).trans h) 8
theorem ds_setF_d (S : ds_S) (F : Nat → Int32) : ds_d (ds_setF S F) = ds_d S := ds_fold_inv (fun T => ds_d T = ds_d S) rfl (fun _ x h => (sx_d_ua x _ _ _).trans h) 8
theorem ds_setF_l (S : ds_S) (F : Nat → Int32) : ds_l (ds_setF S F) = ds_l S := ds_fold_inv (fun T => ds_l T = ds_l S) rfl (fun _ x h => (sx_l_ua x _ _ _).trans h) 8
theorem ds_setF_t (S : ds_S) (F : Nat → Int32) : ds_t (ds_setF S F) = ds_t S := ds_fold_inv (fun T => ds_t T = ds_t S) rfl (fun _ x h => (sx_t_ua x _ _ _).trans h) 8
theorem ds_setF_r (S : ds_S) (F : Nat → Int32) : ds_r (ds_setF S F) = ds_r S := ds_fold_inv (fun T => ds_r T = ds_r S) rfl (fun _ x h => (sx_r_ua x _ _ _).trans h) 8
theorem ds_setF_b (S : ds_S) (F : Nat → Int32) : ds_b (ds_setF S F) = ds_b S := ds_fold_inv (fun T => ds_b T = ds_b S) rfl (fun _ x h => (sx_b_ua x _ _ _).trans h) 8
theorem ds_setF_a (S : ds_S) (F : Nat → Int32) {x : Nat} (hx : x < 8) : ds_a (ds_setF S F) 124 x = F x := by
  have key : ∀ n, x < n → ds_a (ds_fold (fun i S => ds_ua S 124 i (F i)) S n) 124 x = F x := by
    intro n
    induction n with
    | zero => intro h; exact absurd h (Nat.not_lt_zero _)
    | succ n ih =>
      intro h
      show ds_a (ds_ua (ds_fold (fun i S => ds_ua S 124 i (F i)) S n) 124 n (F n)) 124 x = F x
      rw [sx_a_ua]
      by_cases e : x = n
      · rw [if_pos ⟨rfl, e⟩, e]
      · rw [if_neg (fun q => e q.2)]
        exact ih (by omega)
  exact key 8 hx
theorem ds_setF_eq (S : ds_S) (F : Nat → Int32) : ds_setF S F = ds_ua (ds_ua (ds_ua (ds_ua (ds_ua (ds_ua (ds_ua (ds_ua S 124 0 (F 0)) 124 1 (F 1)) 124 2 (F 2)) 124 3 (F 3)) 124 4 (F 4)) 124 5 (F 5)) 124 6 (F 6)) 124 7 (F 7) := by
  unfold ds_setF
  simp only [ds_fold]
theorem ds_Ok_setF {nP nD : Nat} {S : ds_S} {F : Nat → Int32} (h : ds_Ok nP nD S) : ds_Ok nP nD (ds_setF S F) := by
  unfold ds_Ok
  rw [ds_setF_d]
  exact h
section
variable {G : dg_G} {nP nD nA : Nat} {S : ds_S} {A : ds_A} {F : Nat → Int32}
theorem e_without {t : Nat} (ht : t < 9) : do_without (1 + t) = some (sp_plain t) := by
  have key : ∀ t, t < 9 → do_without (1 + t) = some (sp_plain t) := by decide
  exact key t ht
theorem e_X5tells (hW : ds_W G nP nD nA) {a n t : Nat} (h : ds_Ac G A a n) (ht : t < 9) (hF : ∀ x, x < 8 → ds_a S 124 x = F x) : gG_X5_tells (dG G nP nD S) n (1 + t) 124 = some (sp_tellsA A F a t) := by
  obtain ⟨h1, h2, h3, h4, h5, h6⟩ := h
  unfold gG_X5_tells sp_tellsA
  refine ds_loopF (L := fun m i => gG_X5_tells_L2 (dG G nP nD S) m n (1 + t) 124 (Int32.ofNat i)) (N := da_nl A a) (fun m j hj => ?_) (fun m => ?_) (da_nl A a) 0 dh_fu (by omega) (Nat.lt_of_le_of_lt h4 (ds_fu (N := 20) (by decide)))
  · show gG_X5_tells_L2_F _ _ _ _ _ _ = _
    unfold gG_X5_tells_L2_F
    have hL := h6 j hj
    obtain ⟨l1, l2, l3, l4, l5, l6, l7⟩ := id hL
    rw [v_gR (ci := 5) (k := 2) (by decide) h1 rfl]
    simp only [ds_bd]
    rw [v_is (ci := 10) h5.1, v_szL h5]
    simp only [ds_bd]
    rw [if_neg ((not_congr (i3_le (by omega) (by omega))).mpr (by omega)), v_getL h5 hj]
    simp only [ds_bd]
    rw [v_cast (ci := 8) l1, v_gR (ci := 8) (k := 0) (by decide) l1 l2]
    simp only [ds_bd]
    rw [show dg_cmp (1 + da_tp A a j) (1 + t) = some () from if_pos (by omega), v_is (ci := 8) l1, e_holds hW hL hF, v_gI5 (ci := 8) (k := 2) (by decide) l1 l4]
    simp only [ds_bd, i3_succ]
    by_cases c1 : da_tp A a j = t
    · rw [if_pos (by rw [c1]), if_pos c1]
      by_cases c2 : sp_holds A F a j = 0
      · rw [if_pos c2, if_pos c2]
      · rw [if_neg c2, if_neg c2]
    · rw [if_neg (by omega), if_neg c1]
  · show gG_X5_tells_L2_F _ _ _ _ _ _ = _
    unfold gG_X5_tells_L2_F
    rw [v_gR (ci := 5) (k := 2) (by decide) h1 rfl]
    simp only [ds_bd]
    rw [v_is (ci := 10) h5.1, v_szL h5]
    simp only [ds_bd]
    rw [if_pos ((i3_le (by omega) (by omega)).mpr (Nat.le_refl _)), e_without ht]
    rfl
theorem v_getA (hW : ds_W G nP nD nA) {a : Nat} (ha : a < nA) : gG_J2_get (dG G nP nD S) 107 (Int32.ofNat a) = some (dg_AR G 108 a) :=
  v_get hW (κ := 4) hW.2.2.2.2.1.2.2.2.2.2.2.2.2.2.2.1 (by decide) hW.2.2.2.2.1.2.2.2.2.2.2.2.2.2.2.2.1 hW.2.2.2.2.2.2.1.2.2 hW.2.2.2.2.1.2.2.2.2.2.2.2.2.2.2.2.2.1 hW.2.2.2.2.1.2.2.2.2.2.2.2.2.2.2.2.2.2.1 hW.1.2.2 (by decide) ha
theorem e_isDay (x : Int32) : gG_X0_isDay (dG G nP nD S) x = some (ds_in x 0 9999) := by
  unfold gG_X0_isDay
  simp only [e_in, ds_bd, ds_bo_in]
theorem e_good (hW : ds_W G nP nD nA) (hA : ds_WA G nA A) {d k : Int32} (hd : ds_in d 0 9999 = 1) (hk : ds_in k 0 9999 = 1) : gG_X0_good (dG G nP nD S) 100 d k = some (sp_good A nA d k) := by
  have hn := hW.1.2.2
  unfold gG_X0_good sp_good
  refine ds_loopT (L := fun n i b => gG_X0_good_L5 (dG G nP nD S) n 100 d k b (Int32.ofNat i)) (N := nA) (fin := fun b => some b) (fun n i b hi => ?_) (fun n b => ?_) (ds_fu (by omega))
  · show gG_X0_good_L5_F _ _ _ _ _ _ _ = _
    unfold gG_X0_good_L5_F
    obtain ⟨h1, h2, h3, -⟩ := hA i hi
    simp only [ds_bd, v_h0 hW, v_h1 hW, v_h2 hW, v_h3 hW, v_h4 hW, v_h5 hW, v_h6 hW, v_h7 hW, v_h8 hW, v_h9 hW, v_s0 hW, v_s8 hW, v_s9 hW, v_s10 hW, v_s11 hW, v_s12 hW, v_i100 hW, v_i101 hW, v_i103 hW, v_i105 hW, v_i107 hW, v_n3 hW, v_n5 hW, v_n7 hW, e_in, e_isDay, hd, hk, i3_10, if_false, v_getA hW hi, v_cast (ci := 5) h1, v_gI5 (ci := 5) (k := 0) (by decide) h1 h2, v_gI5 (ci := 5) (k := 1) (by decide) h1 h3, i3_succ]
    rw [if_neg ((not_congr (i3_le (by omega) (by omega))).mpr (by omega))]
    split
    · rfl
    · split <;> rfl
  · show gG_X0_good_L5_F _ _ _ _ _ _ _ = _
    unfold gG_X0_good_L5_F
    simp only [ds_bd, v_h0 hW, v_h1 hW, v_h2 hW, v_h3 hW, v_h4 hW, v_h5 hW, v_h6 hW, v_h7 hW, v_h8 hW, v_h9 hW, v_s0 hW, v_s8 hW, v_s9 hW, v_s10 hW, v_s11 hW, v_s12 hW, v_i100 hW, v_i101 hW, v_i103 hW, v_i105 hW, v_i107 hW, v_n3 hW, v_n5 hW, v_n7 hW, e_in]
    rw [if_pos ((i3_le (by omega) (by omega)).mpr (Nat.le_refl _))]
theorem e_good0 (hW : ds_W G nP nD nA) {d k : Int32} (h : ds_in d 0 9999 = 0 ∨ ds_in k 0 9999 = 0) : gG_X0_good (dG G nP nD S) 100 d k = some (-1) := by
  unfold gG_X0_good
  obtain ⟨m, hm⟩ : ∃ m, dh_fu = m + 1 := ⟨dh_fu - 1, by have := ds_fu (N := 5) (by decide); omega⟩
  rw [hm]
  show gG_X0_good_L5_F _ _ _ _ _ _ _ = _
  unfold gG_X0_good_L5_F
  simp only [ds_bd, v_h0 hW, v_h1 hW, v_h2 hW, v_h3 hW, v_h4 hW, v_h5 hW, v_h6 hW, v_h7 hW, v_h8 hW, v_h9 hW, v_s0 hW, v_s8 hW, v_s9 hW, v_s10 hW, v_s11 hW, v_s12 hW, v_i100 hW, v_i101 hW, v_i103 hW, v_i105 hW, v_i107 hW, v_n3 hW, v_n5 hW, v_n7 hW, e_in, e_isDay]
  split
  · rfl
  · rcases ds_in_01 d 0 9999 with q | q
    · simp only [q, if_true]
    · rcases h with h | h
      · rw [q] at h; exact absurd h i3_10
      · simp only [q, i3_10, if_false, h, if_true]
theorem e_tells2 (hW : ds_W G nP nD nA) (hA : ds_WA G nA A) {t : Nat} {x : Int32} (ht : t < 9) (hx : ds_nn nA x) (hF : ∀ x, x < 8 → ds_a S 124 x = F x) : gG_X0_tells_2 (dG G nP nD S) 100 (1 + t) x = some (sp_tellsB A F t x) := by
  have hn := hW.1.2.2
  unfold gG_X0_tells_2 sp_tellsB
  rcases hx with rfl | ⟨a, ha, rfl⟩
  · simp only [if_true, e_without ht, ds_bd]
  · have hAc := hA a ha
    simp only [i3_m1 (show a < 2147483648 by omega), if_false, i3_nat (show a < 2147483648 by omega), ds_bd, v_h0 hW, v_h1 hW, v_h2 hW, v_h3 hW, v_h4 hW, v_h5 hW, v_h6 hW, v_h7 hW, v_h8 hW, v_h9 hW, v_s0 hW, v_s8 hW, v_s9 hW, v_s10 hW, v_s11 hW, v_s12 hW, v_i100 hW, v_i101 hW, v_i103 hW, v_i105 hW, v_i107 hW, v_n3 hW, v_n5 hW, v_n7 hW, e_in, v_getA hW ha, v_cast (ci := 5) hAc.1, v_is (ci := 5) hAc.1, e_X5tells hW hAc ht hF]
theorem e_asks2 (hW : ds_W G nP nD nA) {k : Nat} {v : Int32} (hk : k < 8) : gG_X0_asks_2 (dG G nP nD S) 100 (11 + k) v = some (dG G nP nD (ds_ua S 124 k v)) := by
  unfold gG_X0_asks_2
  have e1 : gG_J6_ordinal (dG G nP nD S) (11 + k) = some (Int32.ofNat k) := by
    unfold gG_J6_ordinal do_ord
    rw [if_pos (by omega), show 11 + k - 11 = k by omega]
    rfl
  simp only [ds_bd, v_h0 hW, v_h1 hW, v_h2 hW, v_h3 hW, v_h4 hW, v_h5 hW, v_h6 hW, v_h7 hW, v_h8 hW, v_h9 hW, v_s0 hW, v_s8 hW, v_s9 hW, v_s10 hW, v_s11 hW, v_s12 hW, v_i100 hW, v_i101 hW, v_i103 hW, v_i105 hW, v_i107 hW, v_n3 hW, v_n5 hW, v_n7 hW, e_in, show do_isA (11 + k) = some () from if_pos (by omega), e1, w_sta (j := 124) (by decide) hW.2.2.1.2.2.1 hW.2.2.1.2.2.2.1 hk (by decide)]
theorem e_asks (hW : ds_W G nP nD nA) (hO : ds_Ok nP nD S) {i : Nat} (hi : i < nP) : gG_X0_asks (dG G nP nD S) 100 (dg_AR G 104 i) = some (dG G nP nD (ds_setF S (sp_F S nD i))) := by
  have hn := hW.1.2.1
  unfold gG_X0_asks
  rw [ds_setF_eq]
  refine (ds_loopT (L := fun n d (a : Int32 × Int32 × Int32) => gG_X0_asks_L11 n (dG G nP nD S) 100 (dg_AR G 104 i) a.1 a.2.1 a.2.2 (Int32.ofNat d)) (N := nD) (f := fun d a => if ds_d S 15 d = 0 ∧ ds_d S 1 d = Int32.ofNat i then (a.1 + sp_due S d, a.2.1 + 1, ds_min a.2.2 (ds_d S 3 d)) else a)
    (fin := fun a => some (dG G nP nD (ds_ua (ds_ua (ds_ua (ds_ua (ds_ua (ds_ua (ds_ua (ds_ua S 124 0 a.1) 124 1 a.2.1) 124 2 a.2.2) 124 3 (if ds_p S 3 i = -1 then 0 else ds_s S 4 - ds_p S 3 i)) 124 4 (ds_p S 1 i)) 124 5 (ds_p S 4 i)) 124 6 (ds_s S 5)) 124 7 (ds_p S 2 i)))) (fun n d a hd => ?_) (fun n a => ?_) (a := (0, 0, 9)) (ds_fu (by omega))).trans rfl
  · show gG_X0_asks_L11_F _ _ _ _ _ _ _ _ = _
    unfold gG_X0_asks_L11_F
    simp only [ds_bd, v_h0 hW, v_h1 hW, v_h2 hW, v_h3 hW, v_h4 hW, v_h5 hW, v_h6 hW, v_h7 hW, v_h8 hW, v_h9 hW, v_s0 hW, v_s8 hW, v_s9 hW, v_s10 hW, v_s11 hW, v_s12 hW, v_i100 hW, v_i101 hW, v_i103 hW, v_i105 hW, v_i107 hW, v_n3 hW, v_n5 hW, v_n7 hW, e_in, v_s hW (k := 1) (by decide) (by decide), v_s hW (k := 2) (by decide) (by decide), v_s hW (k := 3) (by decide) (by decide), v_s hW (k := 4) (by decide) (by decide), v_s hW (k := 5) (by decide) (by decide), v_s hW (k := 6) (by decide) (by decide), v_s hW (k := 7) (by decide) (by decide), v_debtAt hW hd, v_id hW hd, e_live hW hO hd, v_d hW (k := 1) (by decide) (by decide) hd, v_d hW (k := 2) (by decide) (by decide) hd, v_d hW (k := 3) (by decide) (by decide) hd, v_d hW (k := 4) (by decide) (by decide) hd, v_d hW (k := 5) (by decide) (by decide) hd, v_d hW (k := 6) (by decide) (by decide) hd, v_d hW (k := 7) (by decide) (by decide) hd, v_d hW (k := 8) (by decide) (by decide) hd, v_d hW (k := 9) (by decide) (by decide) hd, v_d hW (k := 10) (by decide) (by decide) hd, v_d hW (k := 11) (by decide) (by decide) hd, v_d hW (k := 12) (by decide) (by decide) hd, v_d hW (k := 13) (by decide) (by decide) hd, v_d hW (k := 14) (by decide) (by decide) hd, v_p0 hW hi, e_X4due hW hO hd, e_min, i3_succ]
    rw [if_neg ((not_congr (i3_le (by omega) (by omega))).mpr (by omega))]
    by_cases e : ds_d S 15 d = 0
    · by_cases e2 : ds_d S 1 d = Int32.ofNat i
      · simp only [e, e2, if_true, i3_10, if_false, not_true_eq_false, and_self]
      · simp only [e, e2, if_true, i3_10, if_false, not_false_eq_true, and_false]
    · simp only [e, if_false, if_true, false_and]
  · show gG_X0_asks_L11_F _ _ _ _ _ _ _ _ = _
    unfold gG_X0_asks_L11_F gG_X0_asks_b145
    have a0 : ∀ (S : ds_S) (v : Int32), gG_X0_asks_2 (dG G nP nD S) 100 11 v = some (dG G nP nD (ds_ua S 124 0 v)) := fun S v => e_asks2 hW (k := 0) (by decide)
    have a1 : ∀ (S : ds_S) (v : Int32), gG_X0_asks_2 (dG G nP nD S) 100 12 v = some (dG G nP nD (ds_ua S 124 1 v)) := fun S v => e_asks2 hW (k := 1) (by decide)
    have a2 : ∀ (S : ds_S) (v : Int32), gG_X0_asks_2 (dG G nP nD S) 100 13 v = some (dG G nP nD (ds_ua S 124 2 v)) := fun S v => e_asks2 hW (k := 2) (by decide)
    have a3 : ∀ (S : ds_S) (v : Int32), gG_X0_asks_2 (dG G nP nD S) 100 14 v = some (dG G nP nD (ds_ua S 124 3 v)) := fun S v => e_asks2 hW (k := 3) (by decide)
    have a4 : ∀ (S : ds_S) (v : Int32), gG_X0_asks_2 (dG G nP nD S) 100 15 v = some (dG G nP nD (ds_ua S 124 4 v)) := fun S v => e_asks2 hW (k := 4) (by decide)
    have a5 : ∀ (S : ds_S) (v : Int32), gG_X0_asks_2 (dG G nP nD S) 100 16 v = some (dG G nP nD (ds_ua S 124 5 v)) := fun S v => e_asks2 hW (k := 5) (by decide)
    have a6 : ∀ (S : ds_S) (v : Int32), gG_X0_asks_2 (dG G nP nD S) 100 17 v = some (dG G nP nD (ds_ua S 124 6 v)) := fun S v => e_asks2 hW (k := 6) (by decide)
    have a7 : ∀ (S : ds_S) (v : Int32), gG_X0_asks_2 (dG G nP nD S) 100 18 v = some (dG G nP nD (ds_ua S 124 7 v)) := fun S v => e_asks2 hW (k := 7) (by decide)
    simp only [ds_bd, v_h0 hW, v_h1 hW, v_h2 hW, v_h3 hW, v_h4 hW, v_h5 hW, v_h6 hW, v_h7 hW, v_h8 hW, v_h9 hW, v_s0 hW, v_s8 hW, v_s9 hW, v_s10 hW, v_s11 hW, v_s12 hW, v_i100 hW, v_i101 hW, v_i103 hW, v_i105 hW, v_i107 hW, v_n3 hW, v_n5 hW, v_n7 hW, e_in, v_s hW (k := 1) (by decide) (by decide), v_s hW (k := 2) (by decide) (by decide), v_s hW (k := 3) (by decide) (by decide), v_s hW (k := 4) (by decide) (by decide), v_s hW (k := 5) (by decide) (by decide), v_s hW (k := 6) (by decide) (by decide), v_s hW (k := 7) (by decide) (by decide), a0, a1, a2, a3, a4, a5, a6, a7, v_ip hW hi, e_X3held hW hi, v_p hW (k := 1) (by decide) (by decide) hi, v_p hW (k := 2) (by decide) (by decide) hi, v_p hW (k := 3) (by decide) (by decide) hi, v_p hW (k := 4) (by decide) (by decide) hi, v_p hW (k := 5) (by decide) (by decide) hi, v_p hW (k := 6) (by decide) (by decide) hi, v_p hW (k := 7) (by decide) (by decide) hi, v_p hW (k := 8) (by decide) (by decide) hi, v_p hW (k := 9) (by decide) (by decide) hi, v_p hW (k := 10) (by decide) (by decide) hi, v_p hW (k := 11) (by decide) (by decide) hi, v_p hW (k := 12) (by decide) (by decide) hi, v_p hW (k := 13) (by decide) (by decide) hi, v_p hW (k := 14) (by decide) (by decide) hi, sx_s_ua, sx_p_ua]
    rw [if_pos ((i3_le (by omega) (by omega)).mpr (Nat.le_refl _))]
    by_cases e : ds_p S 3 i = -1
    · simp only [e, if_true]
    · simp only [e, if_false, i3_10]
/-- what a topic tells of a person now -/
def sp_now (A : ds_A) (nA nD : Nat) (S : ds_S) (i t : Nat) : Int32 := sp_tellsB A (sp_F S nD i) t (sp_good A nA (ds_s S 4) (ds_s S 4))
theorem e_tells3 (hW : ds_W G nP nD nA) (hA : ds_WA G nA A) (hO : ds_Ok nP nD S) (hd : ds_in (ds_s S 4) 0 9999 = 1) {i t r : Nat} (hi : i < nP) (ht : t < 9) (hr : r = 1 + t) : gG_X0_tells_3 (dG G nP nD S) 100 (dg_AR G 104 i) r = some (sp_now A nA nD S i t, dG G nP nD (ds_setF S (sp_F S nD i))) := by
  subst hr
  unfold gG_X0_tells_3 sp_now
  have e1 := e_good (S := ds_setF S (sp_F S nD i)) hW hA hd hd
  have e2 := e_tells2 (S := ds_setF S (sp_F S nD i)) (F := sp_F S nD i) hW hA ht (sp_good_nn A nA (ds_s S 4) (ds_s S 4)) (fun x hx => ds_setF_a S _ hx)
  simp only [ds_bd, v_h0 hW, v_h1 hW, v_h2 hW, v_h3 hW, v_h4 hW, v_h5 hW, v_h6 hW, v_h7 hW, v_h8 hW, v_h9 hW, v_s0 hW, v_s8 hW, v_s9 hW, v_s10 hW, v_s11 hW, v_s12 hW, v_i100 hW, v_i101 hW, v_i103 hW, v_i105 hW, v_i107 hW, v_n3 hW, v_n5 hW, v_n7 hW, e_in, v_s hW (k := 1) (by decide) (by decide), v_s hW (k := 2) (by decide) (by decide), v_s hW (k := 3) (by decide) (by decide), v_s hW (k := 4) (by decide) (by decide), v_s hW (k := 5) (by decide) (by decide), v_s hW (k := 6) (by decide) (by decide), v_s hW (k := 7) (by decide) (by decide), e_asks hW hO hi, ds_setF_s, e1, e2]
end
