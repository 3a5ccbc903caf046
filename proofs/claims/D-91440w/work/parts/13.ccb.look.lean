set_option maxRecDepth 100000
section
variable {M : dm_M} {nP nD nA : Nat} {S : ds_S} {A : ds_A} {F : Nat → Int32}
theorem em_lookAt (hM : ds_lim nP nD) (hR : ds_Rm nP S) {i : Nat} (hi : i < nP) : gM_lookAt (dM M nP nD S) (Int32.ofNat i) = some (dM (dm_seen M (sp_F S nD i)) nP nD S) := by
  have hn := hM.2
  obtain ⟨fu, hfu, e⟩ := em_lk5 (M := M) (nP := nP) (nD := nD) (S := S) nD (by omega) (Int32.ofNat i)
  obtain ⟨h0, h1, h2⟩ := em_lk6 S nD i
  rw [e, em_lk4 hM hR hi fu hfu, em_lk3 M nP nD S (sp_F S nD i) (sp_tri S nD i) h0 h1 h2]
end
