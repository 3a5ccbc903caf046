set_option maxRecDepth 100000
section
variable {M : dm_M} {nP nD nA : Nat} {S : ds_S} {A : ds_A} {F : Nat → Int32}
theorem em_lk0 {x : Int32} : gM_lookAt (dM M nP nD S) x = gM_lookAt_L24 dh_fu (dM (dm_3 M (0, 0, 9)) nP nD S) x (Int32.ofNat 0) := by
  have e0 : dm_wr (dM M nP nD S) 70 0 0 = some (dM (dm_set M 70 0 0) nP nD S) := y70 (k := 0) (by decide) rfl rfl
  have e1 : dm_wr (dM (dm_set M 70 0 0) nP nD S) 70 1 0 = some (dM (dm_set (dm_set M 70 0 0) 70 1 0) nP nD S) := y70 (k := 1) (by decide) rfl rfl
  have e2 : dm_wr (dM (dm_set (dm_set M 70 0 0) 70 1 0) nP nD S) 70 2 9 = some (dM (dm_3 M (0, 0, 9)) nP nD S) := y70 (k := 2) (by decide) rfl rfl
  unfold gM_lookAt
  generalize dh_fu = fu
  rw [e0, ds_bd, e1, ds_bd, e2, ds_bd]
  rfl
theorem em_lk3 (M : dm_M) (nP nD : Nat) (S : ds_S) (F : Nat → Int32) (t : Int32 × Int32 × Int32) (h0 : t.1 = F 0) (h1 : t.2.1 = F 1) (h2 : t.2.2 = F 2) : dM (dm_set (dm_set (dm_set (dm_set (dm_set (dm_3 M t) 70 3 (F 3)) 70 4 (F 4)) 70 5 (F 5)) 70 6 (F 6)) 70 7 (F 7)) nP nD S = dM (dm_seen M F) nP nD S := by
  have : t = (F 0, F 1, F 2) := by rw [← h0, ← h1, ← h2]
  subst this
  exact congrArg (fun M => dM M nP nD S) (dm_seen_eq M F)
theorem em_lk4 (hM : ds_lim nP nD) (hR : ds_Rm nP S) {i : Nat} (hi : i < nP) (fu : Nat) (hfu : nD < fu) : gM_lookAt_L24 fu (dM (dm_3 M (0, 0, 9)) nP nD S) (Int32.ofNat i) (Int32.ofNat 0) = some (dM (dm_set (dm_set (dm_set (dm_set (dm_set (dm_3 M (sp_tri S nD i)) 70 3 (sp_F S nD i 3)) 70 4 (sp_F S nD i 4)) 70 5 (sp_F S nD i 5)) 70 6 (sp_F S nD i 6)) 70 7 (sp_F S nD i 7)) nP nD S) :=
  ds_loopT (L := fun n d (t : Int32 × Int32 × Int32) => gM_lookAt_L24 n (dM (dm_3 M t) nP nD S) (Int32.ofNat i) (Int32.ofNat d)) (N := nD) (f := fun d a => if ds_d S 15 d = 0 ∧ ds_d S 1 d = Int32.ofNat i then (a.1 + sp_due S d, a.2.1 + 1, ds_min a.2.2 (ds_d S 3 d)) else a) (fin := fun t => some (dM (dm_set (dm_set (dm_set (dm_set (dm_set (dm_3 M t) 70 3 (sp_F S nD i 3)) 70 4 (sp_F S nD i 4)) 70 5 (sp_F S nD i 5)) 70 6 (sp_F S nD i 6)) 70 7 (sp_F S nD i 7)) nP nD S)) (fun n d t hd => em_lk1 hM t hi hd) (fun n t => em_lk2 hM hR t hi) (a := (0, 0, 9)) (n := fu) hfu
theorem em_lk5 (N : Nat) (h : N < 1000000) (x : Int32) : ∃ fu, N < fu ∧ gM_lookAt (dM M nP nD S) x = gM_lookAt_L24 fu (dM (dm_3 M (0, 0, 9)) nP nD S) x (Int32.ofNat 0) := ⟨dh_fu, ds_fu h, em_lk0⟩
theorem em_lk6 (S : ds_S) (nD i : Nat) : (sp_tri S nD i).1 = sp_F S nD i 0 ∧ (sp_tri S nD i).2.1 = sp_F S nD i 1 ∧ (sp_tri S nD i).2.2 = sp_F S nD i 2 := ⟨rfl, rfl, rfl⟩
end
