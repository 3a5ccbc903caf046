set_option maxRecDepth 100000
/-! acts: what they hold, and what they tell -/
abbrev ds_A : Type := (Nat → Int32) × (Nat → Int32) × (Nat → Nat) × (Nat → Nat → Nat) × (Nat → Nat → Int32) × (Nat → Nat → Nat) × (Nat → Nat → Nat → Nat) × (Nat → Nat → Nat → Nat) × (Nat → Nat → Nat → Int32) × (Nat → Nat → Nat → Int32)
abbrev da_fr (A : ds_A) : Nat → Int32 := A.1
abbrev da_to (A : ds_A) : Nat → Int32 := A.2.1
abbrev da_nl (A : ds_A) : Nat → Nat := A.2.2.1
abbrev da_tp (A : ds_A) : Nat → Nat → Nat := A.2.2.2.1
abbrev da_nm (A : ds_A) : Nat → Nat → Int32 := A.2.2.2.2.1
abbrev da_nt (A : ds_A) : Nat → Nat → Nat := A.2.2.2.2.2.1
abbrev da_ng (A : ds_A) : Nat → Nat → Nat → Nat := A.2.2.2.2.2.2.1
abbrev da_ab (A : ds_A) : Nat → Nat → Nat → Nat := A.2.2.2.2.2.2.2.1
abbrev da_sg (A : ds_A) : Nat → Nat → Nat → Int32 := A.2.2.2.2.2.2.2.2.1
abbrev da_th (A : ds_A) : Nat → Nat → Nat → Int32 := A.2.2.2.2.2.2.2.2.2
/-- a list object l holds n things in its row -/
def ds_Li (G : dg_G) (l n : Nat) : Prop := dg_K G l = 11 ∧ dg_K G (dg_FR G 1001 l) = 54 ∧ n ≤ dg_L G (dg_FR G 1001 l) ∧ dg_L G (dg_FR G 1001 l) < 100000 ∧ dg_FI G 1002 l = Int32.ofNat n
abbrev ds_el (G : dg_G) (l i : Nat) : Nat := dg_AR G (dg_FR G 1001 l) i
/-- a test -/
def ds_Te (G : dg_G) (A : ds_A) (a j k m : Nat) : Prop := dg_K G m = 10 ∧ dg_FI G 900 m = Int32.ofNat (da_ng A a j k) ∧ da_ng A a j k < 2 ∧ dg_FR G 901 m = 11 + da_ab A a j k ∧ da_ab A a j k < 8 ∧ dg_FI G 902 m = da_sg A a j k ∧ dg_FI G 903 m = da_th A a j k
/-- a line -/
def ds_Ln (G : dg_G) (A : ds_A) (a j n : Nat) : Prop := dg_K G n = 9 ∧ dg_FR G 800 n = 1 + da_tp A a j ∧ da_tp A a j < 9 ∧ dg_FI G 802 n = da_nm A a j ∧ da_nt A a j ≤ 4 ∧ ds_Li G (dg_FR G 801 n) (da_nt A a j) ∧ ∀ k, k < da_nt A a j → ds_Te G A a j k (ds_el G (dg_FR G 801 n) k)
/-- an act -/
def ds_Ac (G : dg_G) (A : ds_A) (a n : Nat) : Prop := dg_K G n = 6 ∧ dg_FI G 500 n = da_fr A a ∧ dg_FI G 501 n = da_to A a ∧ da_nl A a ≤ 20 ∧ ds_Li G (dg_FR G 502 n) (da_nl A a) ∧ ∀ j, j < da_nl A a → ds_Ln G A a j (ds_el G (dg_FR G 502 n) j)
def ds_WA (G : dg_G) (nA : Nat) (A : ds_A) : Prop := ∀ a, a < nA → ds_Ac G A a (dg_AR G 108 a)
/-- the model's -/
def dm_WA (M : dm_M) (nA : Nat) (A : ds_A) : Prop := M.1 43 0 = Int32.ofNat nA ∧ ∀ a, a < nA → M.1 44 a = da_fr A a ∧ M.1 45 a = da_to A a ∧ M.1 46 a = Int32.ofNat (da_nl A a) ∧ ∀ j, j < da_nl A a → M.1 47 (20 * a + j) = Int32.ofNat (da_tp A a j) ∧ M.1 48 (20 * a + j) = Int32.ofNat (da_nt A a j) ∧ M.1 49 (20 * a + j) = da_nm A a j
  ∧ ∀ k, k < da_nt A a j → M.1 50 (4 * (20 * a + j) + k) = Int32.ofNat (da_ab A a j k + 8 * da_ng A a j k) ∧ M.1 51 (4 * (20 * a + j) + k) = da_sg A a j k ∧ M.1 52 (4 * (20 * a + j) + k) = da_th A a j k
/-- the first that is found -/
def ds_find {β : Type} (c : Nat → Option β) (d : β) : Nat → Nat → β
  | 0, _ => d
  | m + 1, i => match c i with
    | some b => b
    | none => ds_find c d m (i + 1)
theorem ds_find_s {β : Type} {c : Nat → Option β} {d b : β} {m i : Nat} (h : c i = some b) : ds_find c d (m + 1) i = b := by
  unfold ds_find
  rw [h]
theorem ds_find_n {β : Type} {c : Nat → Option β} {d : β} {m i : Nat} (h : c i = none) : ds_find c d (m + 1) i = ds_find c d m (i + 1) := by
  rw [ds_find, h]
theorem ds_loopF {β : Type} {L : Nat → Nat → Option β} {N : Nat} {c : Nat → Option β} {d : β} (hs : ∀ n i, i < N → L (n + 1) i = match c i with | some b => some b | none => L n (i + 1)) (he : ∀ n, L (n + 1) N = some d) : ∀ (m i n : Nat), i + m = N → m < n → L n i = some (ds_find c d m i) := by
  intro m
  induction m with
  | zero =>
    intro i n hi hn
    obtain ⟨n, rfl⟩ : ∃ k, n = k + 1 := ⟨n - 1, by omega⟩
    have : i = N := by omega
    subst this
    exact he n
  | succ m ih =>
    intro i n hi hn
    obtain ⟨n, rfl⟩ : ∃ k, n = k + 1 := ⟨n - 1, by omega⟩
    rw [hs n i (by omega)]
    show _ = some (match c i with | some b => b | none => ds_find c d m (i + 1))
    cases hc : c i with
    | some b => rfl
    | none => exact ih (i + 1) n (by omega) (by omega)
/-- one test, of facts -/
def sp_tv (A : ds_A) (F : Nat → Int32) (a j k : Nat) : Int32 :=
  if da_sg A a j k = 60 then (if da_th A a j k ≤ F (da_ab A a j k) then 0 else 1) else if da_sg A a j k = 62 then (if F (da_ab A a j k) ≤ da_th A a j k then 0 else 1) else if F (da_ab A a j k) = da_th A a j k then 1 else 0
def sp_testI (A : ds_A) (F : Nat → Int32) (a j k : Nat) : Int32 := if sp_tv A F a j k = Int32.ofNat (da_ng A a j k) then 0 else 1
def sp_holds (A : ds_A) (F : Nat → Int32) (a j : Nat) : Int32 := ds_find (fun k => if sp_testI A F a j k = 0 then some 0 else none) 1 (da_nt A a j) 0
def sp_plain (t : Nat) : Int32 := if t = 4 then 50 else if t = 5 then 75 else if t = 0 then 1 else if t = 6 then 1 else if t = 8 then 1 else 0
def sp_tellsA (A : ds_A) (F : Nat → Int32) (a t : Nat) : Int32 := ds_find (fun j => if da_tp A a j = t then (if sp_holds A F a j = 0 then none else some (da_nm A a j)) else none) (sp_plain t) (da_nl A a) 0
def sp_tellsB (A : ds_A) (F : Nat → Int32) (t : Nat) (x : Int32) : Int32 := if x = -1 then sp_plain t else sp_tellsA A F x.toNatClampNeg t
def sp_good (A : ds_A) (nA : Nat) (d k : Int32) : Int32 := ds_fold (fun a b => if d < da_fr A a then b else if k < da_to A a then b else Int32.ofNat a) (-1) nA
theorem sp_good_nn (A : ds_A) (nA : Nat) (d k : Int32) : ds_nn nA (sp_good A nA d k) := ds_fold_invN (ds_nn nA) nA (Or.inl rfl) (fun i x hi hx => by
  show ds_nn nA (if d < da_fr A i then x else if k < da_to A i then x else Int32.ofNat i)
  split
  · exact hx
  · split
    · exact hx
    · exact Or.inr ⟨i, hi, rfl⟩)
section
variable {G : dg_G} {nP nD nA : Nat} {S : ds_S} {A : ds_A} {F : Nat → Int32}
theorem v_gI5 {ci k j : Nat} {v : Int32} (hc : 5 ≤ ci) (hK : dg_K G j = ci + 1) (h1 : dg_FI G (100 * ci + k) j = v) : dg_gI (dG G nP nD S) ci k j = some v := by
  unfold dg_gI
  refine (if_pos hK).trans (congrArg some ?_)
  show (if j = 101 ∧ 201 ≤ 100 * ci + k ∧ 100 * ci + k ≤ 207 then _ else if 301 ≤ 100 * ci + k ∧ 100 * ci + k ≤ 314 ∧ ds_ix G 104 nP j < nP then _ else if 401 ≤ 100 * ci + k ∧ 100 * ci + k ≤ 414 ∧ ds_ix G 106 nD j < nD then _ else dg_FI G (100 * ci + k) j) = v
  rw [if_neg (by omega), if_neg (by omega), if_neg (by omega), h1]
theorem v_szL {l n : Nat} (h : ds_Li G l n) : gG_J2_size (dG G nP nD S) l = some (Int32.ofNat n) := by
  unfold gG_J2_size
  rw [v_gI5 (ci := 10) (k := 2) (by decide) h.1 h.2.2.2.2]
  rfl
theorem v_getL {l n i : Nat} (h : ds_Li G l n) (hi : i < n) : gG_J2_get (dG G nP nD S) l (Int32.ofNat i) = some (ds_el G l i) := by
  obtain ⟨h1, h2, h3, h4, h5⟩ := h
  unfold gG_J2_get gG_J7_checkIndex gG_J8_checkIndex gG_J2_elementData
  rw [v_gI5 (ci := 10) (k := 2) (by decide) h1 h5, v_is (ci := 10) h1, v_gR (ci := 10) (k := 1) (by decide) h1 rfl]
  simp only [ds_bd]
  rw [if_neg (i3_nn (by omega)), if_pos ((i3_lt (by omega) (by omega)).mpr hi)]
  simp only [ds_bd]
  have e : dg_ldR (dG G nP nD S) 54 (dg_FR G 1001 l) (Int32.ofNat i) = some (ds_el G l i) := by
    unfold dg_ldR
    refine (if_pos h2).trans ?_
    rw [show dg_L (dG G nP nD S) (dg_FR G 1001 l) = dg_L G (dg_FR G 1001 l) from rfl, if_neg (v_in (show i < dg_L G (dg_FR G 1001 l) by omega) (by omega)), i3_nat (by omega)]
    rfl
  rw [show 100 * 10 + 1 = 1001 from rfl, e]
  rfl
/-- a test holds or not -/
theorem e_test (hW : ds_W G nP nD nA) {a j k m : Nat} (h : ds_Te G A a j k m) (hF : ∀ x, x < 8 → ds_a S 124 x = F x) : gG_X9_holds (dG G nP nD S) m 124 = some (sp_testI A F a j k) := by
  obtain ⟨h1, h2, h3, h4, h5, h6, h7⟩ := h
  have hK := hW.2.2.1.2.2.1
  have hL := hW.2.2.1.2.2.2.1
  unfold gG_X9_holds
  rw [v_gR (ci := 9) (k := 1) (by decide) h1 h4]
  simp only [ds_bd]
  rw [show do_isA (11 + da_ab A a j k) = some () from if_pos (by omega)]
  simp only [ds_bd]
  have e1 : gG_J6_ordinal (dG G nP nD S) (11 + da_ab A a j k) = some (Int32.ofNat (da_ab A a j k)) := by
    unfold gG_J6_ordinal do_ord
    rw [if_pos (by omega), show 11 + da_ab A a j k - 11 = da_ab A a j k by omega]
    rfl
  rw [e1]
  simp only [ds_bd]
  rw [v_lda (by decide) hK hL h5 (by decide), hF _ h5]
  simp only [ds_bd]
  rw [v_gI5 (ci := 9) (k := 2) (by decide) h1 h6, v_gI5 (ci := 9) (k := 3) (by decide) h1 h7]
  simp only [ds_bd]
  have eb : ∀ y : Int32, gG_X9_holds_b73 (dG G nP nD S) m y = some (if y = Int32.ofNat (da_ng A a j k) then 0 else 1) := by
    intro y
    unfold gG_X9_holds_b73
    rw [v_gI5 (ci := 9) (k := 0) (by decide) h1 h2]
    simp only [ds_bd, ds_sif]
  simp only [eb]
  unfold sp_testI sp_tv
  by_cases s1 : da_sg A a j k = 60
  · simp only [s1, if_true]
    split <;> rfl
  · simp only [s1, if_false]
    by_cases s2 : da_sg A a j k = 62
    · simp only [s2, if_true]
      split <;> rfl
    · simp only [s2, if_false]
      split <;> rfl
theorem sp_testI_01 (A : ds_A) (F : Nat → Int32) (a j k : Nat) : sp_testI A F a j k = 0 ∨ sp_testI A F a j k = 1 := by
  unfold sp_testI
  split
  · exact Or.inl rfl
  · exact Or.inr rfl
theorem e_holds (hW : ds_W G nP nD nA) {a j n : Nat} (h : ds_Ln G A a j n) (hF : ∀ x, x < 8 → ds_a S 124 x = F x) : gG_X8_holds (dG G nP nD S) n 124 = some (sp_holds A F a j) := by
  obtain ⟨h1, h2, h3, h4, h5, h6, h7⟩ := h
  unfold gG_X8_holds sp_holds
  have l0 : ∀ n' i, gG_X8_holds_L4 (dG G nP nD S) (n' + 1) n 124 0 i = some 0 := by
    intro n' i
    show gG_X8_holds_L4_F _ _ _ _ _ _ = _
    unfold gG_X8_holds_L4_F
    rw [v_gR (ci := 8) (k := 1) (by decide) h1 rfl]
    simp only [ds_bd]
    rw [v_is (ci := 10) h6.1, v_szL h6]
    simp only [ds_bd, show dh_bo 0 = some () from rfl, if_true]
    split <;> rfl
  have key : ∀ m i n', i + m = da_nt A a j → m + 1 < n' → gG_X8_holds_L4 (dG G nP nD S) n' n 124 1 (Int32.ofNat i) = some (ds_find (fun k => if sp_testI A F a j k = 0 then some 0 else none) 1 m i) := by
    intro m
    induction m with
    | zero =>
      intro i n' hi hn'
      obtain ⟨n', rfl⟩ : ∃ k, n' = k + 1 := ⟨n' - 1, by omega⟩
      show gG_X8_holds_L4_F _ _ _ _ _ _ = _
      unfold gG_X8_holds_L4_F
      rw [v_gR (ci := 8) (k := 1) (by decide) h1 rfl]
      simp only [ds_bd]
      rw [v_is (ci := 10) h6.1, v_szL h6]
      simp only [ds_bd]
      rw [if_pos ((i3_le (by omega) (by omega)).mpr (by omega))]
      rfl
    | succ m ih =>
      intro i n' hi hn'
      obtain ⟨n', rfl⟩ : ∃ k, n' = k + 1 := ⟨n' - 1, by omega⟩
      show gG_X8_holds_L4_F _ _ _ _ _ _ = _
      unfold gG_X8_holds_L4_F
      have hT := h7 i (by omega)
      rw [v_gR (ci := 8) (k := 1) (by decide) h1 rfl]
      simp only [ds_bd]
      rw [v_is (ci := 10) h6.1, v_szL h6]
      simp only [ds_bd]
      rw [if_neg ((not_congr (i3_le (by omega) (by omega))).mpr (by omega)), if_neg i3_10, v_getL h6 (show i < da_nt A a j by omega)]
      simp only [ds_bd]
      rw [v_cast (ci := 9) hT.1, v_is (ci := 9) hT.1, e_test hW hT hF]
      simp only [ds_bd, i3_succ]
      rcases sp_testI_01 A F a j i with e | e
      · rw [ds_find_s (if_pos e), e]
        obtain ⟨n', rfl⟩ : ∃ k, n' = k + 1 := ⟨n' - 1, by omega⟩
        exact l0 n' _
      · rw [ds_find_n (if_neg (by rw [e]; exact i3_10)), e]
        exact ih (i + 1) n' (by omega) (by omega)
  have h0 := key (da_nt A a j) 0 dh_fu (by omega) (Nat.lt_of_le_of_lt (show da_nt A a j + 1 ≤ 5 by omega) (ds_fu (N := 5) (by decide)))
  exact h0
end
