set_option maxRecDepth 100000
section
variable {M : dm_M} {nP nD nA : Nat} {S : ds_S} {A : ds_A} {F : Nat → Int32}
theorem ds_bind {α β : Type} {x : Option α} {a : α} {f : α → Option β} {y : Option β} (h : x = some a) (h2 : f a = y) : x.bind f = y := by
  subst h
  exact h2
theorem dm_seen_r (M : dm_M) (F : Nat → Int32) {x : Nat} (hx : x < 8) : (dM (dm_seen M F) nP nD S).1 70 x = F x := by
  rw [xv_f (Or.inr (by decide))]
  exact if_pos ⟨rfl, hx⟩
theorem em_now (hM : ds_lim nP nD) (hA : dm_WA M nA A) (hB : ds_bA A nA) (hR : ds_Rm nP S) {i t : Nat} (hi : i < nP) (ht : t < 9) : gM_tellsNow (dM M nP nD S) (Int32.ofNat i) (Int32.ofNat t) = some (sp_now A nA nD S i t, dM (dm_seen M (sp_F S nD i)) nP nD S) := by
  have hN : dm_WA (dM (dm_seen M (sp_F S nD i)) nP nD S) nA A := dm_WA_dM (dm_WA_seen hA)
  have hF : ∀ x, x < 8 → (dM (dm_seen M (sp_F S nD i)) nP nD S).1 70 x = sp_F S nD i x := fun x hx => dm_seen_r M (sp_F S nD i) hx
  have e1 : dm_rd (dM (dm_seen M (sp_F S nD i)) nP nD S) 5 0 = some (ds_s S 4) := x_s hM (k := 5) (by decide)
  have e2 := em_goodOn hN hB.1 (ds_s S 4) (ds_s S 4)
  have e3 := em_tellsBy hN hB hF ht (sp_good_nn A nA (ds_s S 4) (ds_s S 4))
  have e4 := em_lookAt (M := M) hM hR hi
  generalize hz : dM (dm_seen M (sp_F S nD i)) nP nD S = N at e1 e2 e3 e4
  unfold gM_tellsNow sp_now
  exact ds_bind e4 (ds_bind e1 (ds_bind e1 (ds_bind e2 (ds_bind e3 rfl))))
end
