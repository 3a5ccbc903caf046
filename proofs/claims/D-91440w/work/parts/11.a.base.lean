set_option maxRecDepth 100000
/-! The pure part: small laws of numbers, loops -/
theorem i3_int {n : Nat} (h : n < 2147483648) : (Int32.ofNat n).toInt = n := Int32.toInt_ofNat_small h
theorem i3_nat {n : Nat} (h : n < 2147483648) : (Int32.ofNat n).toNatClampNeg = n := by
  show (Int32.ofNat n).toInt.toNat = n
  rw [i3_int h]
  rfl
theorem i3_nn {n : Nat} (h : n < 2147483648) : ¬ Int32.ofNat n < 0 := by
  rw [Int32.lt_iff_toInt_lt, i3_int h]
  show ¬ (n : Int) < 0
  omega
theorem i3_lt {m n : Nat} (hm : m < 2147483648) (hn : n < 2147483648) : Int32.ofNat m < Int32.ofNat n ↔ m < n := by
  rw [Int32.lt_iff_toInt_lt, i3_int hm, i3_int hn]
  omega
theorem i3_le {m n : Nat} (hm : m < 2147483648) (hn : n < 2147483648) : Int32.ofNat m ≤ Int32.ofNat n ↔ m ≤ n := by
  rw [Int32.le_iff_toInt_le, i3_int hm, i3_int hn]
  omega
theorem i3_eq {m n : Nat} (hm : m < 2147483648) (hn : n < 2147483648) : Int32.ofNat m = Int32.ofNat n ↔ m = n := by
  constructor
  · intro h
    have := i3_int hm
    rw [h, i3_int hn] at this
    omega
  · intro h; rw [h]
theorem i3_succ (n : Nat) : Int32.ofNat n + 1 = Int32.ofNat (n + 1) := by
  rw [Int32.ofNat_add]; rfl
theorem i3_pred (n : Nat) : Int32.ofNat (n + 1) - 1 = Int32.ofNat n := by
  rw [← i3_succ]
  exact Int32.add_sub_cancel _ _
theorem i3_of {x : Int32} (h : ¬ x < 0) : ∃ n, n < 2147483648 ∧ x = Int32.ofNat n := by
  have h1 : ¬ x.toInt < 0 := fun q => h (Int32.lt_iff_toInt_lt.mpr q)
  have h2 := Int32.toInt_lt x
  refine ⟨x.toInt.toNat, by omega, ?_⟩
  apply Int32.toInt_inj.mp
  rw [i3_int (by omega)]
  omega
/-- a value between 0 and n - 1 -/
theorem i3_in {x : Int32} {n : Nat} (hn : n < 2147483648) (h0 : ¬ x < 0) (h1 : ¬ Int32.ofNat n - 1 < x) (hp : 0 < n) : ∃ i, i < n ∧ x = Int32.ofNat i := by
  obtain ⟨m, hm, rfl⟩ := i3_of h0
  obtain ⟨k, rfl⟩ : ∃ k, n = k + 1 := ⟨n - 1, by omega⟩
  rw [i3_pred] at h1
  refine ⟨m, ?_, rfl⟩
  have := (not_congr (i3_lt (m := k) (n := m) (by omega) hm)).mp h1
  omega
theorem i3_out {x : Int32} {n i : Nat} (hn : n < 2147483648) (h : x = Int32.ofNat i) (hi : i < n) : ¬ x < 0 ∧ ¬ Int32.ofNat n - 1 < x := by
  subst h
  obtain ⟨k, rfl⟩ : ∃ k, n = k + 1 := ⟨n - 1, by omega⟩
  rw [i3_pred]
  exact ⟨i3_nn (by omega), (not_congr (i3_lt (by omega) (by omega))).mpr (by omega)⟩
/-- folds -/
def ds_fold {α : Type} (f : Nat → α → α) (a : α) : Nat → α
  | 0 => a
  | n + 1 => f n (ds_fold f a n)
theorem ds_fold_congr {α : Type} {f g : Nat → α → α} {a : α} {n : Nat} (h : ∀ i, i < n → ∀ x, f i x = g i x) : ds_fold f a n = ds_fold g a n := by
  induction n with
  | zero => rfl
  | succ n ih =>
    show f n (ds_fold f a n) = g n (ds_fold g a n)
    rw [ih (fun i hi => h i (by omega)), h n (by omega)]
/-- a counting loop: L at i with a goes to i + 1 with f i a -/
theorem ds_loop {α β : Type} {L : Nat → Nat → α → Option β} {N : Nat} {f : Nat → α → α} {fin : α → Option β} (I : Nat → α → Prop) (hs : ∀ n i a, i < N → I i a → L (n + 1) i a = L n (i + 1) (f i a) ∧ I (i + 1) (f i a)) (he : ∀ n a, I N a → L (n + 1) N a = fin a) :
    ∀ (m i : Nat) (a : α) (n : Nat), i + m = N → m < n → I i a → L n i a = fin (ds_fold (fun j => f (i + j)) a m) := by
  intro m
  induction m with
  | zero =>
    intro i a n hi hn hI
    obtain ⟨n, rfl⟩ : ∃ k, n = k + 1 := ⟨n - 1, by omega⟩
    have : i = N := by omega
    subst this
    exact he n a hI
  | succ m ih =>
    intro i a n hi hn hI
    obtain ⟨n, rfl⟩ : ∃ k, n = k + 1 := ⟨n - 1, by omega⟩
    obtain ⟨e, h1⟩ := hs n i a (by omega) hI
    rw [e, ih (i + 1) (f i a) n (by omega) (by omega) h1]
    congr 1
    have key : ∀ k, ds_fold (fun j => f (i + 1 + j)) (f i a) k = ds_fold (fun j => f (i + j)) a (k + 1) := by
      intro k
      induction k with
      | zero => rfl
      | succ k ihk =>
        show f (i + 1 + k) (ds_fold _ _ k) = f (i + (k + 1)) (ds_fold _ _ (k + 1))
        rw [ihk, show i + 1 + k = i + (k + 1) by omega]
    exact key m
/-- from 0 on -/
theorem ds_loop0 {α β : Type} {L : Nat → Nat → α → Option β} {N : Nat} {f : Nat → α → α} {fin : α → Option β} (I : Nat → α → Prop) (hs : ∀ n i a, i < N → I i a → L (n + 1) i a = L n (i + 1) (f i a) ∧ I (i + 1) (f i a)) (he : ∀ n a, I N a → L (n + 1) N a = fin a) {a : α} {n : Nat} (hn : N < n) (hI : I 0 a) : L n 0 a = fin (ds_fold f a N) := by
  rw [ds_loop I hs he N 0 a n (by omega) hn hI]
  congr 2
  funext j
  rw [Nat.zero_add]
/-- no invariant wanted -/
theorem ds_loopT {α β : Type} {L : Nat → Nat → α → Option β} {N : Nat} {f : Nat → α → α} {fin : α → Option β} (hs : ∀ n i a, i < N → L (n + 1) i a = L n (i + 1) (f i a)) (he : ∀ n a, L (n + 1) N a = fin a) {a : α} {n : Nat} (hn : N < n) : L n 0 a = fin (ds_fold f a N) :=
  ds_loop0 (fun _ _ => True) (fun n i a hi _ => ⟨hs n i a hi, trivial⟩) (fun n a _ => he n a) hn trivial
theorem ds_fu {N : Nat} (h : N < 1000000) : N < dh_fu := Nat.lt_of_lt_of_le h (by unfold dh_fu; decide)
theorem ds_bd {α β : Type} (a : α) (f : α → Option β) : (some a).bind f = f a := rfl
/-! the spec's state -/
abbrev ds_S : Type := (Nat → Int32) × (Nat → Nat → Int32) × (Nat → Nat → Int32) × (Nat → Nat → Int32) × (Nat → Int32) × (Nat → Int32) × (Nat → Nat → Int32) × (Nat → Nat → Int64)
abbrev ds_s (S : ds_S) : Nat → Int32 := S.1
abbrev ds_p (S : ds_S) : Nat → Nat → Int32 := S.2.1
abbrev ds_d (S : ds_S) : Nat → Nat → Int32 := S.2.2.1
abbrev ds_l (S : ds_S) : Nat → Nat → Int32 := S.2.2.2.1
abbrev ds_t (S : ds_S) : Nat → Int32 := S.2.2.2.2.1
abbrev ds_r (S : ds_S) : Nat → Int32 := S.2.2.2.2.2.1
abbrev ds_a (S : ds_S) : Nat → Nat → Int32 := S.2.2.2.2.2.2.1
abbrev ds_b (S : ds_S) : Nat → Nat → Int64 := S.2.2.2.2.2.2.2
def ds_up1 {α : Type} (F : Nat → α) (a : Nat) (v : α) : Nat → α := fun x => if x = a then v else F x
def ds_us (S : ds_S) (k : Nat) (v : Int32) : ds_S := (ds_up1 (ds_s S) k v, ds_p S, ds_d S, ds_l S, ds_t S, ds_r S, ds_a S, ds_b S)
def ds_upp (S : ds_S) (k i : Nat) (v : Int32) : ds_S := (ds_s S, dg_up (ds_p S) k i v, ds_d S, ds_l S, ds_t S, ds_r S, ds_a S, ds_b S)
def ds_ud (S : ds_S) (k i : Nat) (v : Int32) : ds_S := (ds_s S, ds_p S, dg_up (ds_d S) k i v, ds_l S, ds_t S, ds_r S, ds_a S, ds_b S)
def ds_ul (S : ds_S) (c i : Nat) (v : Int32) : ds_S := (ds_s S, ds_p S, ds_d S, dg_up (ds_l S) c i v, ds_t S, ds_r S, ds_a S, ds_b S)
def ds_ut (S : ds_S) (i : Nat) (v : Int32) : ds_S := (ds_s S, ds_p S, ds_d S, ds_l S, ds_up1 (ds_t S) i v, ds_r S, ds_a S, ds_b S)
def ds_ur (S : ds_S) (i : Nat) (v : Int32) : ds_S := (ds_s S, ds_p S, ds_d S, ds_l S, ds_t S, ds_up1 (ds_r S) i v, ds_a S, ds_b S)
def ds_ua (S : ds_S) (j i : Nat) (v : Int32) : ds_S := (ds_s S, ds_p S, ds_d S, ds_l S, ds_t S, ds_r S, dg_up (ds_a S) j i v, ds_b S)
def ds_ub (S : ds_S) (j i : Nat) (v : Int64) : ds_S := (ds_s S, ds_p S, ds_d S, ds_l S, ds_t S, ds_r S, ds_a S, dg_up (ds_b S) j i v)
/-- the place of a name in a row -/
def ds_ix (G : dg_G) (a n j : Nat) : Nat := ((List.range n).find? (fun i => dg_AR G a i == j)).getD n
theorem ds_ix_lt {G : dg_G} {a n j : Nat} (h : ds_ix G a n j < n) : dg_AR G a (ds_ix G a n j) = j := by
  unfold ds_ix at h ⊢
  cases hf : (List.range n).find? (fun i => dg_AR G a i == j) with
  | none => rw [hf] at h; exact absurd h (Nat.lt_irrefl n)
  | some i =>
    have := List.find?_some hf
    exact beq_iff_eq.mp this
theorem ds_ix_at {G : dg_G} {a n i : Nat} (hinj : ∀ x y, x < n → y < n → dg_AR G a x = dg_AR G a y → x = y) (hi : i < n) : ds_ix G a n (dg_AR G a i) = i := by
  have hlt : ds_ix G a n (dg_AR G a i) < n := by
    unfold ds_ix
    cases hf : (List.range n).find? (fun x => dg_AR G a x == dg_AR G a i) with
    | none =>
      have := List.find?_eq_none.mp hf i (List.mem_range.mpr hi)
      simp at this
    | some x => exact List.mem_range.mp (List.mem_of_find?_eq_some hf)
  exact hinj _ _ hlt hi (ds_ix_lt hlt)
theorem ds_ix_ne {G : dg_G} {a n i j : Nat} (hinj : ∀ x y, x < n → y < n → dg_AR G a x = dg_AR G a y → x = y) (hi : i < n) : ds_ix G a n j = i ↔ j = dg_AR G a i := by
  constructor
  · intro h
    rw [← ds_ix_lt (G := G) (a := a) (n := n) (j := j) (by rw [h]; exact hi), h]
  · intro h
    rw [h, ds_ix_at hinj hi]
/-- the house's memory with the state laid into it -/
def dG (G : dg_G) (nP nD : Nat) (S : ds_S) : dg_G := (dg_n G, dg_sl G, dg_K G, dg_L G,
  fun f j => if j = 101 ∧ 201 ≤ f ∧ f ≤ 207 then ds_s S (f - 200) else if 301 ≤ f ∧ f ≤ 314 ∧ ds_ix G 104 nP j < nP then ds_p S (f - 300) (ds_ix G 104 nP j) else if 401 ≤ f ∧ f ≤ 414 ∧ ds_ix G 106 nD j < nD then ds_d S (f - 400) (ds_ix G 106 nD j) else dg_FI G f j,
  fun f j => if f = 415 ∧ ds_ix G 106 nD j < nD then 21 + (ds_d S 15 (ds_ix G 106 nD j)).toNatClampNeg else dg_FR G f j,
  fun j i => if j = 102 then ds_t S i else if 110 ≤ j ∧ j ≤ 121 then ds_l S (j - 110) i else if j = 122 then ds_r S i else if 124 ≤ j ∧ j ≤ 131 then ds_a S j i else dg_AI G j i,
  fun j i => if 124 ≤ j ∧ j ≤ 131 then ds_b S j i else dg_AL G j i, dg_AR G)
/-- the house's shape: 100 the house, 101 what there is -/
def ds_W (G : dg_G) (nP nD nA : Nat) : Prop :=
  (nP ≤ 12 ∧ nD ≤ 40 ∧ nA ≤ 4)
  ∧ (dg_K G 100 = 2 ∧ dg_FR G 100 100 = 101 ∧ dg_FR G 101 100 = 123 ∧ dg_FR G 102 100 = 124 ∧ dg_FR G 103 100 = 125 ∧ dg_FR G 104 100 = 126 ∧ dg_FR G 105 100 = 127 ∧ dg_FR G 106 100 = 128 ∧ dg_FR G 107 100 = 129 ∧ dg_FR G 108 100 = 130 ∧ dg_FR G 109 100 = 131)
  ∧ (dg_K G 123 = 55 ∧ dg_L G 123 = 3 ∧ dg_K G 124 = 50 ∧ dg_L G 124 = 8 ∧ dg_K G 125 = 50 ∧ dg_L G 125 = 12 ∧ dg_K G 126 = 53 ∧ dg_L G 126 = 12 ∧ dg_K G 127 = 52 ∧ dg_L G 127 = 12 ∧ dg_K G 128 = 50 ∧ dg_L G 128 = 40 ∧ dg_K G 129 = 50 ∧ dg_L G 129 = 40 ∧ dg_K G 130 = 53 ∧ dg_L G 130 = 256 ∧ dg_K G 131 = 50 ∧ dg_L G 131 = 8)
  ∧ (dg_K G 101 = 3 ∧ dg_FR G 200 101 = 102 ∧ dg_FR G 208 101 = 103 ∧ dg_FR G 209 101 = 105 ∧ dg_FR G 210 101 = 107 ∧ dg_FR G 211 101 = 109 ∧ dg_FR G 212 101 = 122)
  ∧ (dg_K G 102 = 51 ∧ dg_L G 102 = 600 ∧ dg_K G 103 = 11 ∧ dg_FR G 1001 103 = 104 ∧ dg_K G 104 = 54 ∧ dg_L G 104 = 12 ∧ dg_K G 105 = 11 ∧ dg_FR G 1001 105 = 106 ∧ dg_K G 106 = 54 ∧ dg_L G 106 = 40 ∧ dg_K G 107 = 11 ∧ dg_FR G 1001 107 = 108 ∧ dg_K G 108 = 54 ∧ dg_L G 108 = 4 ∧ dg_K G 109 = 56 ∧ dg_L G 109 = 12 ∧ dg_K G 122 = 50 ∧ dg_L G 122 = 12)
  ∧ (∀ c, c < 12 → dg_AR G 109 c = 110 + c ∧ dg_K G (110 + c) = 50 ∧ dg_L G (110 + c) = 12)
  ∧ (dg_FI G 1002 103 = Int32.ofNat nP ∧ dg_FI G 1002 105 = Int32.ofNat nD ∧ dg_FI G 1002 107 = Int32.ofNat nA)
  ∧ (∀ i, i < nP → dg_K G (dg_AR G 104 i) = 4 ∧ dg_FI G 300 (dg_AR G 104 i) = Int32.ofNat i) ∧ (∀ x y, x < nP → y < nP → dg_AR G 104 x = dg_AR G 104 y → x = y)
  ∧ (∀ i, i < nD → dg_K G (dg_AR G 106 i) = 5) ∧ (∀ x y, x < nD → y < nD → dg_AR G 106 x = dg_AR G 106 y → x = y)
