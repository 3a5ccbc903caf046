set_option maxRecDepth 100000
/-! the model's memory with the state laid into it -/
def dM_pt (k : Nat) : Nat := match k with
  | 9 => 2 | 10 => 1 | 12 => 3 | 14 => 5 | 15 => 13 | 16 => 6 | 17 => 7 | 18 => 8 | 19 => 9 | 20 => 14 | 21 => 11 | 22 => 12 | _ => 0
def dM_dt (k : Nat) : Nat := match k with
  | 26 => 1 | 27 => 7 | 28 => 2 | 29 => 3 | 30 => 4 | 31 => 5 | 32 => 6 | 33 => 15 | 34 => 8 | 35 => 9 | 36 => 11 | 37 => 10 | 38 => 14 | 39 => 12 | 40 => 13 | _ => 0
def dM_sc (k : Nat) : Nat := match k with
  | 2 => 1 | 3 => 2 | 4 => 3 | 5 => 4 | 6 => 5 | 7 => 6 | 41 => 7 | _ => 0
def ds_rows (S : ds_S) (n : Nat) : Int32 := ds_fold (fun i a => a + ds_p S 10 i) 0 n
def dM (M : dm_M) (nP nD : Nat) (S : ds_S) : dm_M := (fun k i =>
  if dM_sc k ≠ 0 ∧ i = 0 then ds_s S (dM_sc k)
  else if dM_pt k ≠ 0 ∧ i < nP then ds_p S (dM_pt k) i
  else if dM_dt k ≠ 0 ∧ i < nD then ds_d S (dM_dt k) i
  else if k = 11 ∧ i < nP then (if ds_p S 3 i = -1 then 0 else 1)
  else if k = 13 ∧ i < nP then (if ds_p S 3 i = -1 then -1 else ds_p S 4 i)
  else if k = 1 ∧ i < 600 then ds_t S i
  else if k = 24 ∧ i < 144 ∧ i / 12 < nP ∧ i % 12 < nP then ds_l S (i / 12) (i % 12)
  else if k = 42 ∧ i < (ds_s S 7).toNatClampNeg ∧ i < 12 then ds_r S i
  else if k = 8 ∧ i = 0 then Int32.ofNat nP
  else if k = 25 ∧ i = 0 then Int32.ofNat nD
  else if k = 23 ∧ i = 0 then ds_rows S nP
  else M.1 k i, M.2)
theorem x_rd {M : dm_M} {k i : Nat} (hi : i < dm_len k) (hl : dm_len k < 2147483648) : dm_rd M k (Int32.ofNat i) = some (M.1 k i) := by
  unfold dm_rd
  rw [if_neg (v_in hi hl), i3_nat (by omega)]
theorem x_wr {M : dm_M} {k i : Nat} {v : Int32} (hi : i < dm_len k) (hl : dm_len k < 2147483648) : dm_wr M k (Int32.ofNat i) v = some (dm_set M k i v) := by
  unfold dm_wr
  rw [if_neg (v_in hi hl), i3_nat (by omega)]
theorem x_rdL {M : dm_M} {k i : Nat} (hi : i < dm_len k) (hl : dm_len k < 2147483648) : dm_rdL M k (Int32.ofNat i) = some (M.2 k i) := by
  unfold dm_rdL
  rw [if_neg (v_in hi hl), i3_nat (by omega)]
theorem x_wrL {M : dm_M} {k i : Nat} {v : Int64} (hi : i < dm_len k) (hl : dm_len k < 2147483648) : dm_wrL M k (Int32.ofNat i) v = some (dm_setL M k i v) := by
  unfold dm_wrL
  rw [if_neg (v_in hi hl), i3_nat (by omega)]
theorem dM_ptb {k : Nat} (h : dM_pt k ≠ 0) : 9 ≤ k ∧ k ≤ 22 ∧ k ≠ 11 ∧ k ≠ 13 := by
  unfold dM_pt at h
  split at h <;> first | omega | exact absurd rfl h
theorem dM_dtb {k : Nat} (h : dM_dt k ≠ 0) : 26 ≤ k ∧ k ≤ 40 := by
  unfold dM_dt at h
  split at h <;> first | omega | exact absurd rfl h
theorem dM_scb {k : Nat} (h : dM_sc k ≠ 0) : (2 ≤ k ∧ k ≤ 7) ∨ k = 41 := by
  unfold dM_sc at h
  split at h <;> first | omega | exact absurd rfl h
theorem dM_dti {k j : Nat} (h : dM_dt k ≠ 0) (e : dM_dt k = dM_dt j) : k = j := by
  have hk := dM_dtb h
  have hj := dM_dtb (k := j) (by rw [← e]; exact h)
  revert e
  have : ∀ a, a < 41 → ∀ b, b < 41 → dM_dt a ≠ 0 → dM_dt a = dM_dt b → a = b := by decide
  exact this k (by omega) j (by omega) h
theorem dM_pti {k j : Nat} (h : dM_pt k ≠ 0) (e : dM_pt k = dM_pt j) : k = j := by
  have hk := dM_ptb h
  have hj := dM_ptb (k := j) (by rw [← e]; exact h)
  revert e
  have : ∀ a, a < 23 → ∀ b, b < 23 → dM_pt a ≠ 0 → dM_pt a = dM_pt b → a = b := by decide
  exact this k (by omega) j (by omega) h
theorem dM_sci {k j : Nat} (h : dM_sc k ≠ 0) (e : dM_sc k = dM_sc j) : k = j := by
  have hk := dM_scb h
  have hj := dM_scb (k := j) (by rw [← e]; exact h)
  revert e
  have : ∀ a, a < 42 → ∀ b, b < 42 → dM_sc a ≠ 0 → dM_sc a = dM_sc b → a = b := by decide
  exact this k (by omega) j (by omega) h
section
variable {M : dm_M} {nP nD : Nat} {S : ds_S}
abbrev ds_lim (nP nD : Nat) : Prop := nP ≤ 12 ∧ nD ≤ 40
/-! reads -/
theorem xv_s {k : Nat} (h : dM_sc k ≠ 0) : (dM M nP nD S).1 k 0 = ds_s S (dM_sc k) := if_pos ⟨h, rfl⟩
theorem xv_p {k i : Nat} (h : dM_pt k ≠ 0) (hi : i < nP) : (dM M nP nD S).1 k i = ds_p S (dM_pt k) i := by
  have := dM_ptb h
  exact (if_neg (fun q => by have := dM_scb q.1; omega)).trans (if_pos ⟨h, hi⟩)
theorem xv_d {k i : Nat} (h : dM_dt k ≠ 0) (hi : i < nD) : (dM M nP nD S).1 k i = ds_d S (dM_dt k) i := by
  have := dM_dtb h
  exact (if_neg (fun q => by have := dM_scb q.1; omega)).trans ((if_neg (fun q => by have := dM_ptb q.1; omega)).trans (if_pos ⟨h, hi⟩))
theorem x_s {k : Nat} (hM : ds_lim nP nD) (h : dM_sc k ≠ 0) : dm_rd (dM M nP nD S) k 0 = some (ds_s S (dM_sc k)) := by
  have hl : 0 < dm_len k ∧ dm_len k < 2147483648 := by
    have := dM_scb h
    have key : ∀ a, a < 42 → 0 < dm_len a ∧ dm_len a < 2147483648 := by decide
    exact key k (by omega)
  rw [← xv_s (M := M) (nP := nP) (nD := nD) h]
  exact x_rd (i := 0) hl.1 hl.2
theorem x_p {k i : Nat} (hM : ds_lim nP nD) (h : dM_pt k ≠ 0) (hi : i < nP) : dm_rd (dM M nP nD S) k (Int32.ofNat i) = some (ds_p S (dM_pt k) i) := by
  have hl : 12 ≤ dm_len k ∧ dm_len k < 2147483648 := by
    have := dM_ptb h
    have key : ∀ a, a < 23 → 9 ≤ a → 12 ≤ dm_len a ∧ dm_len a < 2147483648 := by decide
    exact key k (by omega) (by omega)
  rw [← xv_p (M := M) (nP := nP) (nD := nD) h hi]
  exact x_rd (by have := hM.1; omega) hl.2
theorem x_d {k i : Nat} (hM : ds_lim nP nD) (h : dM_dt k ≠ 0) (hi : i < nD) : dm_rd (dM M nP nD S) k (Int32.ofNat i) = some (ds_d S (dM_dt k) i) := by
  have hl : 40 ≤ dm_len k ∧ dm_len k < 2147483648 := by
    have := dM_dtb h
    have key : ∀ a, a < 41 → 26 ≤ a → 40 ≤ dm_len a ∧ dm_len a < 2147483648 := by decide
    exact key k (by omega) (by omega)
  rw [← xv_d (M := M) (nP := nP) (nD := nD) h hi]
  exact x_rd (by have := hM.2; omega) hl.2
theorem x_np (hM : ds_lim nP nD) : dm_rd (dM M nP nD S) 8 0 = some (Int32.ofNat nP) := x_rd (i := 0) (k := 8) (by decide) (by decide)
theorem x_nd (hM : ds_lim nP nD) : dm_rd (dM M nP nD S) 25 0 = some (Int32.ofNat nD) := x_rd (i := 0) (k := 25) (by decide) (by decide)
theorem x_rows (hM : ds_lim nP nD) : dm_rd (dM M nP nD S) 23 0 = some (ds_rows S nP) := x_rd (i := 0) (k := 23) (by decide) (by decide)
theorem x_held {i : Nat} (hM : ds_lim nP nD) (hi : i < nP) : dm_rd (dM M nP nD S) 11 (Int32.ofNat i) = some (if ds_p S 3 i = -1 then 0 else 1) := by
  rw [x_rd (k := 11) (by have := hM.1; show i < 48; omega) (by decide)]
  simp [dM, dM_sc, dM_pt, dM_dt, hi]
theorem x_room {i : Nat} (hM : ds_lim nP nD) (hi : i < nP) : dm_rd (dM M nP nD S) 13 (Int32.ofNat i) = some (if ds_p S 3 i = -1 then -1 else ds_p S 4 i) := by
  rw [x_rd (k := 13) (by have := hM.1; show i < 48; omega) (by decide)]
  simp [dM, dM_sc, dM_pt, dM_dt, hi]
theorem x_tape {i : Nat} (hi : i < 600) : dm_rd (dM M nP nD S) 1 (Int32.ofNat i) = some (ds_t S i) := by
  rw [x_rd (k := 1) (by show i < 2400; omega) (by decide)]
  simp [dM, dM_sc, dM_pt, dM_dt, hi]
theorem xv_l {c i : Nat} (hM : ds_lim nP nD) (hc : c < nP) (hi : i < nP) : (dM M nP nD S).1 24 (12 * c + i) = ds_l S c i := by
  have h1 : (12 * c + i) / 12 = c := by have := hM.1; omega
  have h2 : (12 * c + i) % 12 = i := by have := hM.1; omega
  have h3 : 12 * c + i < 144 := by have := hM.1; omega
  simp [dM, dM_sc, dM_pt, dM_dt, hi, hc, h1, h2, h3]
theorem i3_mul (a b : Nat) : Int32.ofNat a * Int32.ofNat b = Int32.ofNat (a * b) := (Int32.ofNat_mul a b).symm
theorem i3_add (a b : Nat) : Int32.ofNat a + Int32.ofNat b = Int32.ofNat (a + b) := (Int32.ofNat_add a b).symm
theorem i3_12 (c i : Nat) : 12 * Int32.ofNat c + Int32.ofNat i = Int32.ofNat (12 * c + i) := by
  show Int32.ofNat 12 * Int32.ofNat c + Int32.ofNat i = _
  rw [i3_mul, i3_add]
theorem x_l {c i : Nat} (hM : ds_lim nP nD) (hc : c < nP) (hi : i < nP) : dm_rd (dM M nP nD S) 24 (12 * Int32.ofNat c + Int32.ofNat i) = some (ds_l S c i) := by
  rw [i3_12, x_rd (by have := hM.1; show 12 * c + i < 576; omega) (by decide), xv_l hM hc hi]
/-! writes -/
theorem dM_ext {M1 M2 : dm_M} (h1 : ∀ k i, M1.1 k i = M2.1 k i) (h2 : M1.2 = M2.2) : M1 = M2 := Prod.ext (funext fun k => funext fun i => h1 k i) h2
theorem y_d {k i : Nat} {v : Int32} (hM : ds_lim nP nD) (h : dM_dt k ≠ 0) (hi : i < nD) : dm_wr (dM M nP nD S) k (Int32.ofNat i) v = some (dM M nP nD (ds_ud S (dM_dt k) i v)) := by
  have hb := dM_dtb h
  have hl : 40 ≤ dm_len k ∧ dm_len k < 2147483648 := by
    have key : ∀ a, a < 41 → 26 ≤ a → 40 ≤ dm_len a ∧ dm_len a < 2147483648 := by decide
    exact key k (by omega) (by omega)
  rw [x_wr (by have := hM.2; omega) hl.2]
  refine congrArg some (dM_ext (fun a b => ?_) rfl)
  show (if a = k ∧ b = i then v else (dM M nP nD S).1 a b) = (dM M nP nD (ds_ud S (dM_dt k) i v)).1 a b
  by_cases ha : dM_dt a ≠ 0 ∧ b < nD
  · rw [xv_d ha.1 ha.2, xv_d ha.1 ha.2]
    show _ = if dM_dt a = dM_dt k ∧ b = i then v else ds_d S (dM_dt a) b
    by_cases h2 : a = k ∧ b = i
    · rw [if_pos h2, if_pos ⟨by rw [h2.1], h2.2⟩]
    · rw [if_neg h2, if_neg (fun q => h2 ⟨dM_dti ha.1 q.1, q.2⟩)]
  · rw [if_neg (fun q => ha ⟨by rw [q.1]; exact h, by rw [q.2]; exact hi⟩)]
    unfold dM
    dsimp only
    rw [if_neg ha, if_neg ha]
    rfl
theorem y_p {k i : Nat} {v : Int32} (hM : ds_lim nP nD) (h : dM_pt k ≠ 0) (h12 : k ≠ 12) (hi : i < nP) : dm_wr (dM M nP nD S) k (Int32.ofNat i) v = some (dM M nP nD (ds_upp S (dM_pt k) i v)) := by
  have hb := dM_ptb h
  have hl : 12 ≤ dm_len k ∧ dm_len k < 2147483648 := by
    have key : ∀ a, a < 23 → 9 ≤ a → 12 ≤ dm_len a ∧ dm_len a < 2147483648 := by decide
    exact key k (by omega) (by omega)
  rw [x_wr (by have := hM.1; omega) hl.2]
  have hne : dM_pt k ≠ 3 ∧ dM_pt k ≠ 4 ∧ dM_pt k ≠ 10 := by
    have key : ∀ a, a < 23 → a ≠ 12 → dM_pt a ≠ 3 ∧ dM_pt a ≠ 4 ∧ dM_pt a ≠ 10 := by decide
    exact key k (by omega) h12
  have q3 : ∀ b, ds_p (ds_upp S (dM_pt k) i v) 3 b = ds_p S 3 b := fun b => if_neg (fun q => hne.1 q.1.symm)
  have q4 : ∀ b, ds_p (ds_upp S (dM_pt k) i v) 4 b = ds_p S 4 b := fun b => if_neg (fun q => hne.2.1 q.1.symm)
  have q10 : ds_rows (ds_upp S (dM_pt k) i v) nP = ds_rows S nP := ds_fold_congr (fun b _ x => by
    show x + (if 10 = dM_pt k ∧ b = i then v else ds_p S 10 b) = _
    rw [if_neg (fun q => hne.2.2 q.1.symm)])
  refine congrArg some (dM_ext (fun a b => ?_) rfl)
  show (if a = k ∧ b = i then v else (dM M nP nD S).1 a b) = (dM M nP nD (ds_upp S (dM_pt k) i v)).1 a b
  by_cases ha : dM_pt a ≠ 0 ∧ b < nP
  · rw [xv_p ha.1 ha.2, xv_p ha.1 ha.2]
    show _ = if dM_pt a = dM_pt k ∧ b = i then v else ds_p S (dM_pt a) b
    by_cases h2 : a = k ∧ b = i
    · rw [if_pos h2, if_pos ⟨by rw [h2.1], h2.2⟩]
    · rw [if_neg h2, if_neg (fun q => h2 ⟨dM_pti ha.1 q.1, q.2⟩)]
  · rw [if_neg (fun q => ha ⟨by rw [q.1]; exact h, by rw [q.2]; exact hi⟩)]
    unfold dM
    dsimp only
    rw [if_neg ha, if_neg ha, q3, q4, q10]
    rfl
theorem y_s {k : Nat} {v : Int32} (hM : ds_lim nP nD) (h : dM_sc k ≠ 0) (h41 : k ≠ 41) : dm_wr (dM M nP nD S) k 0 v = some (dM M nP nD (ds_us S (dM_sc k) v)) := by
  have hb := dM_scb h
  have hl : 0 < dm_len k ∧ dm_len k < 2147483648 := by
    have key : ∀ a, a < 42 → 0 < dm_len a ∧ dm_len a < 2147483648 := by decide
    exact key k (by omega)
  have hne : dM_sc k ≠ 7 := by
    have key : ∀ a, a < 8 → dM_sc a ≠ 7 := by decide
    exact key k (by omega)
  have q7 : ds_s (ds_us S (dM_sc k) v) 7 = ds_s S 7 := if_neg (fun q => hne q.symm)
  refine (x_wr (i := 0) hl.1 hl.2).trans ?_
  refine congrArg some (dM_ext (fun a b => ?_) rfl)
  show (if a = k ∧ b = 0 then v else (dM M nP nD S).1 a b) = (dM M nP nD (ds_us S (dM_sc k) v)).1 a b
  by_cases ha : dM_sc a ≠ 0 ∧ b = 0
  · rw [ha.2, xv_s ha.1, xv_s ha.1]
    show _ = if dM_sc a = dM_sc k then v else ds_s S (dM_sc a)
    by_cases h2 : a = k
    · rw [if_pos ⟨h2, rfl⟩, if_pos (by rw [h2])]
    · rw [if_neg (fun q => h2 q.1), if_neg (fun q => h2 (dM_sci ha.1 q))]
  · rw [if_neg (fun q => ha ⟨by rw [q.1]; exact h, q.2⟩)]
    unfold dM
    dsimp only
    rw [if_neg ha, if_neg ha, q7]
    rfl
theorem y_tape {i : Nat} {v : Int32} (hi : i < 600) : dm_wr (dM M nP nD S) 1 (Int32.ofNat i) v = some (dM M nP nD (ds_ut S i v)) := by
  rw [x_wr (by show i < 2400; omega) (by decide)]
  refine congrArg some (dM_ext (fun a b => ?_) rfl)
  show (if a = 1 ∧ b = i then v else (dM M nP nD S).1 a b) = (dM M nP nD (ds_ut S i v)).1 a b
  unfold dM
  dsimp only
  by_cases ha : a = 1
  · subst ha
    by_cases hb : b = i
    · subst hb
      have e1 : ds_t (ds_ut S b v) b = v := if_pos rfl
      simp [dM_sc, dM_pt, dM_dt, hi, e1]
    · have e1 : ds_t (ds_ut S i v) b = ds_t S b := if_neg hb
      simp [dM_sc, dM_pt, dM_dt, hb, e1]
  · rw [if_neg (fun q => ha q.1)]
    simp only [ha, false_and, if_false]
    rfl
theorem y_l {c i : Nat} {v : Int32} (hM : ds_lim nP nD) (hc : c < nP) (hi : i < nP) : dm_wr (dM M nP nD S) 24 (12 * Int32.ofNat c + Int32.ofNat i) v = some (dM M nP nD (ds_ul S c i v)) := by
  have h1 : (12 * c + i) / 12 = c := by have := hM.1; omega
  have h2 : (12 * c + i) % 12 = i := by have := hM.1; omega
  rw [i3_12, x_wr (by have := hM.1; show 12 * c + i < 576; omega) (by decide)]
  refine congrArg some (dM_ext (fun a b => ?_) rfl)
  show (if a = 24 ∧ b = 12 * c + i then v else (dM M nP nD S).1 a b) = (dM M nP nD (ds_ul S c i v)).1 a b
  unfold dM
  dsimp only
  by_cases ha : a = 24
  · subst ha
    by_cases hb : b = 12 * c + i
    · subst hb
      have h3 : 12 * c + i < 144 := by have := hM.1; omega
      have e1 : ds_l (ds_ul S c i v) c i = v := if_pos ⟨rfl, rfl⟩
      simp [dM_sc, dM_pt, dM_dt, h1, h2, hc, hi, h3, e1]
    · have : ¬ (b / 12 = c ∧ b % 12 = i) := by omega
      have e1 : ds_l (ds_ul S c i v) (b / 12) (b % 12) = ds_l S (b / 12) (b % 12) := if_neg this
      simp [dM_sc, dM_pt, dM_dt, hb, e1]
  · rw [if_neg (fun q => ha q.1)]
    simp only [ha, false_and, if_false]
    rfl
/-- scratch -/
theorem y_f {k i : Nat} {v : Int32} (hk : k = 0 ∨ 43 ≤ k) : dm_set (dM M nP nD S) k i v = dM (dm_set M k i v) nP nD S := by
  refine dM_ext (fun a b => ?_) rfl
  show (if a = k ∧ b = i then v else (dM M nP nD S).1 a b) = (dM (dm_set M k i v) nP nD S).1 a b
  by_cases h : a = k ∧ b = i
  · rw [if_pos h]
    obtain ⟨rfl, rfl⟩ := h
    have n1 : ¬ (dM_sc a ≠ 0) := fun q => by have := dM_scb q; omega
    have n2 : ¬ (dM_pt a ≠ 0) := fun q => by have := dM_ptb q; omega
    have n3 : ¬ (dM_dt a ≠ 0) := fun q => by have := dM_dtb q; omega
    unfold dM
    dsimp only
    rw [if_neg (fun q => n1 q.1), if_neg (fun q => n2 q.1), if_neg (fun q => n3 q.1), if_neg (fun q => by omega), if_neg (fun q => by omega), if_neg (fun q => by omega), if_neg (fun q => by omega), if_neg (fun q => by omega), if_neg (fun q => by omega), if_neg (fun q => by omega), if_neg (fun q => by omega)]
    exact (if_pos ⟨rfl, rfl⟩).symm
  · rw [if_neg h]
    unfold dM
    dsimp only
    rw [show (dm_set M k i v).1 a b = M.1 a b from if_neg h]
theorem y_fL {k i : Nat} {v : Int64} : dm_setL (dM M nP nD S) k i v = dM (dm_setL M k i v) nP nD S := rfl
theorem xv_f {k i : Nat} (hk : k = 0 ∨ 43 ≤ k) : (dM M nP nD S).1 k i = M.1 k i := by
  have n1 : ¬ (dM_sc k ≠ 0) := fun q => by have := dM_scb q; omega
  have n2 : ¬ (dM_pt k ≠ 0) := fun q => by have := dM_ptb q; omega
  have n3 : ¬ (dM_dt k ≠ 0) := fun q => by have := dM_dtb q; omega
  unfold dM
  dsimp only
  rw [if_neg (fun q => n1 q.1), if_neg (fun q => n2 q.1), if_neg (fun q => n3 q.1), if_neg (fun q => by omega), if_neg (fun q => by omega), if_neg (fun q => by omega), if_neg (fun q => by omega), if_neg (fun q => by omega), if_neg (fun q => by omega), if_neg (fun q => by omega), if_neg (fun q => by omega)]
end
