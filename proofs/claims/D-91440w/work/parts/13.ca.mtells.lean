set_option maxRecDepth 100000
section
variable {N : dm_M} {nA : Nat} {A : ds_A} {F : Nat → Int32}
theorem i3_4 (l k : Nat) : 4 * Int32.ofNat l + Int32.ofNat k = Int32.ofNat (4 * l + k) := by
  show Int32.ofNat 4 * Int32.ofNat l + Int32.ofNat k = _
  rw [i3_mul, i3_add]
theorem i3_4' (l : Nat) : 4 * Int32.ofNat l = Int32.ofNat (4 * l) := by
  show Int32.ofNat 4 * Int32.ofNat l = _
  rw [i3_mul]
theorem i3_20 (l k : Nat) : 20 * Int32.ofNat l + Int32.ofNat k = Int32.ofNat (20 * l + k) := by
  show Int32.ofNat 20 * Int32.ofNat l + Int32.ofNat k = _
  rw [i3_mul, i3_add]
theorem i3_20' (l : Nat) : 20 * Int32.ofNat l = Int32.ofNat (20 * l) := by
  show Int32.ofNat 20 * Int32.ofNat l = _
  rw [i3_mul]
theorem i3_and7 {x y : Nat} (hx : x < 8) (hy : y < 2) : Int32.ofNat (x + 8 * y) &&& 7 = Int32.ofNat x := by
  have key : ∀ x, x < 8 → ∀ y, y < 2 → Int32.ofNat (x + 8 * y) &&& 7 = Int32.ofNat x := by decide
  exact key x hx y hy
theorem em_holds (hN : dm_WA N nA A) (hF : ∀ x, x < 8 → N.1 70 x = F x) {a j : Nat} (ha : a < nA) (hA4 : nA ≤ 4) (hj : j < da_nl A a) (hn : da_nl A a ≤ 20) (ht : da_nt A a j ≤ 4) (hab : ∀ k, k < da_nt A a j → da_ab A a j k < 8 ∧ da_ng A a j k < 2) : gM_holds N (Int32.ofNat (20 * a + j)) = some (sp_holds A F a j) := by
  obtain ⟨h1, h2, h3, h4⟩ := (hN.2 a ha).2.2.2 j hj
  unfold gM_holds sp_holds
  have l48 : dm_rd N 48 (Int32.ofNat (20 * a + j)) = some (Int32.ofNat (da_nt A a j)) := by rw [x_rd (show 20 * a + j < dm_len 48 by show _ < 320; omega) (by decide), h2]
  rw [i3_4']
  refine ds_loopF (L := fun m k => gM_holds_L4 N m (Int32.ofNat (20 * a + j)) (Int32.ofNat (4 * (20 * a + j) + k))) (N := da_nt A a j) (fun m k hk => ?_) (fun m => ?_) (da_nt A a j) 0 dh_fu (by omega) (Nat.lt_of_le_of_lt ht (ds_fu (N := 4) (by decide)))
  · show gM_holds_L4_F _ _ _ _ = _
    obtain ⟨q1, q2, q3⟩ := h4 k hk
    obtain ⟨b1, b2⟩ := hab k hk
    have l50 : dm_rd N 50 (Int32.ofNat (4 * (20 * a + j) + k)) = some (Int32.ofNat (da_ab A a j k + 8 * da_ng A a j k)) := by rw [x_rd (show 4 * (20 * a + j) + k < dm_len 50 by show _ < 1280; omega) (by decide), q1]
    have l51 : dm_rd N 51 (Int32.ofNat (4 * (20 * a + j) + k)) = some (da_sg A a j k) := by rw [x_rd (show 4 * (20 * a + j) + k < dm_len 51 by show _ < 1280; omega) (by decide), q2]
    have l52 : dm_rd N 52 (Int32.ofNat (4 * (20 * a + j) + k)) = some (da_th A a j k) := by rw [x_rd (show 4 * (20 * a + j) + k < dm_len 52 by show _ < 1280; omega) (by decide), q3]
    have l70 : dm_rd N 70 (Int32.ofNat (da_ab A a j k)) = some (F (da_ab A a j k)) := by rw [x_rd (show da_ab A a j k < dm_len 70 by show _ < 8; omega) (by decide), hF _ b1]
    have k7 : (Int32.ofNat (da_ab A a j k + 8 * da_ng A a j k) ≤ 7) ↔ da_ng A a j k = 0 := by
      rw [show (7 : Int32) = Int32.ofNat 7 from rfl, i3_le (by omega) (by omega)]
      omega
    have fin : ∀ y : Int32, (if Int32.ofNat (da_ab A a j k + 8 * da_ng A a j k) ≤ 7 then (if y = 0 then some (0 : Int32) else gM_holds_L4 N m (Int32.ofNat (20 * a + j)) (Int32.ofNat (4 * (20 * a + j) + k + 1))) else (if y = 1 then some 0 else gM_holds_L4 N m (Int32.ofNat (20 * a + j)) (Int32.ofNat (4 * (20 * a + j) + k + 1)))) = (if y = Int32.ofNat (da_ng A a j k) then some 0 else gM_holds_L4 N m (Int32.ofNat (20 * a + j)) (Int32.ofNat (4 * (20 * a + j) + k + 1))) := by
      intro y
      rcases (show da_ng A a j k = 0 ∨ da_ng A a j k = 1 by omega) with e | e
      · rw [if_pos (k7.mpr e), e]; rfl
      · rw [if_neg (fun q => by have := k7.mp q; omega), e]; rfl
    have eb : ∀ y : Int32, gM_holds_b102 (gM_holds_L4 N m) N (Int32.ofNat (20 * a + j)) (Int32.ofNat (4 * (20 * a + j) + k)) y = (if y = Int32.ofNat (da_ng A a j k) then some 0 else gM_holds_L4 N m (Int32.ofNat (20 * a + j)) (Int32.ofNat (4 * (20 * a + j) + k + 1))) := by
      intro y
      rw [← fin y]
      unfold gM_holds_b102 gM_holds_b122
      rw [l50]
      simp only [ds_bd, i3_succ]
    unfold gM_holds_L4_F
    simp only [l48, l50, l51, l52, ds_bd, i3_and7 b1 b2, l70, i3_4, eb]
    rw [if_neg ((not_congr (i3_le (by omega) (by omega))).mpr (by omega))]
    refine Eq.trans (b := if sp_tv A F a j k = Int32.ofNat (da_ng A a j k) then some (0 : Int32) else gM_holds_L4 N m (Int32.ofNat (20 * a + j)) (Int32.ofNat (4 * (20 * a + j) + k + 1))) ?_ (by
      by_cases e : sp_tv A F a j k = Int32.ofNat (da_ng A a j k)
      · have t0 : sp_testI A F a j k = 0 := if_pos e
        rw [if_pos e, if_pos t0]
      · have t1 : ¬ sp_testI A F a j k = 0 := by
          rw [show sp_testI A F a j k = 1 from if_neg e]
          exact i3_10
        rw [if_neg e, if_neg t1]
        rfl)
    unfold sp_tv
    by_cases s1 : da_sg A a j k = 60
    · simp only [s1, if_true]
      split <;> rfl
    · simp only [s1, if_false]
      by_cases s2 : da_sg A a j k = 62
      · simp only [s2, if_true]
        split <;> rfl
      · simp only [s2, if_false]
        split <;> rfl
  · show gM_holds_L4_F _ _ _ _ = _
    unfold gM_holds_L4_F
    simp only [l48, ds_bd, i3_4]
    rw [if_pos ((i3_le (by omega) (by omega)).mpr (Nat.le_refl _))]
theorem em_plain {t : Nat} (ht : t < 9) : gM_plain N (Int32.ofNat t) = some (sp_plain t) := by
  rcases (show t = 0 ∨ t = 1 ∨ t = 2 ∨ t = 3 ∨ t = 4 ∨ t = 5 ∨ t = 6 ∨ t = 7 ∨ t = 8 by omega) with rfl | rfl | rfl | rfl | rfl | rfl | rfl | rfl | rfl <;> rfl
/-- what acts are like: bounds -/
def ds_bA (A : ds_A) (nA : Nat) : Prop := nA ≤ 4 ∧ ∀ a, a < nA → da_nl A a ≤ 20 ∧ ∀ j, j < da_nl A a → da_tp A a j < 9 ∧ da_nt A a j ≤ 4 ∧ ∀ k, k < da_nt A a j → da_ab A a j k < 8 ∧ da_ng A a j k < 2
theorem em_tellsBy (hN : dm_WA N nA A) (hB : ds_bA A nA) (hF : ∀ x, x < 8 → N.1 70 x = F x) {t : Nat} {x : Int32} (ht : t < 9) (hx : ds_nn nA x) : gM_tellsBy N (Int32.ofNat t) x = some (sp_tellsB A F t x) := by
  unfold gM_tellsBy sp_tellsB
  have h4 := hB.1
  rcases hx with rfl | ⟨a, ha, rfl⟩
  · simp only [not_true_eq_false, if_false, if_true, em_plain ht, ds_bd]
  · obtain ⟨hl, hlines⟩ := hB.2 a ha
    simp only [i3_m1 (show a < 2147483648 by omega), not_false_eq_true, if_true, if_false, i3_nat (show a < 2147483648 by omega), i3_20']
    unfold sp_tellsA
    have l46 : dm_rd N 46 (Int32.ofNat a) = some (Int32.ofNat (da_nl A a)) := by rw [x_rd (show a < dm_len 46 by show _ < 16; omega) (by decide), (hN.2 a ha).2.2.1]
    refine ds_loopF (L := fun m j => gM_tellsBy_L10 N m (Int32.ofNat t) (Int32.ofNat a) (Int32.ofNat (20 * a + j))) (N := da_nl A a) (fun m j hj => ?_) (fun m => ?_) (da_nl A a) 0 dh_fu (by omega) (Nat.lt_of_le_of_lt hl (ds_fu (N := 20) (by decide)))
    · show gM_tellsBy_L10_F _ _ _ _ _ = _
      obtain ⟨h1, h2, h3, -⟩ := (hN.2 a ha).2.2.2 j hj
      obtain ⟨b1, b2, b3⟩ := hlines j hj
      have l47 : dm_rd N 47 (Int32.ofNat (20 * a + j)) = some (Int32.ofNat (da_tp A a j)) := by rw [x_rd (show 20 * a + j < dm_len 47 by show _ < 320; omega) (by decide), h1]
      have l49 : dm_rd N 49 (Int32.ofNat (20 * a + j)) = some (da_nm A a j) := by rw [x_rd (show 20 * a + j < dm_len 49 by show _ < 320; omega) (by decide), h3]
      unfold gM_tellsBy_L10_F
      simp only [l46, l47, l49, ds_bd, em_holds hN hF ha h4 hj hl b2 b3, i3_20, i3_succ]
      rw [if_neg ((not_congr (i3_le (by omega) (by omega))).mpr (by omega))]
      by_cases c1 : da_tp A a j = t
      · rw [if_pos (by rw [c1]), if_pos c1]
        by_cases c2 : sp_holds A F a j = 0
        · rw [if_pos c2, if_pos c2]
          rfl
        · rw [if_neg c2, if_neg c2]
      · rw [if_neg (fun q => c1 ((i3_eq (by omega) (by omega)).mp q)), if_neg c1]
        rfl
    · show gM_tellsBy_L10_F _ _ _ _ _ = _
      unfold gM_tellsBy_L10_F
      simp only [l46, ds_bd, i3_20, em_plain ht]
      rw [if_pos ((i3_le (by omega) (by omega)).mpr (Nat.le_refl _))]
theorem em_goodOn (hN : dm_WA N nA A) (h4 : nA ≤ 4) (d k : Int32) : gM_goodOn N d k = some (sp_good A nA d k) := by
  unfold gM_goodOn sp_good
  have l43 : dm_rd N 43 0 = some (Int32.ofNat nA) := by
    rw [← hN.1]
    exact x_rd (i := 0) (k := 43) (by decide) (by decide)
  refine ds_loopT (L := fun n i b => gM_goodOn_L5 N n d k b (Int32.ofNat i)) (N := nA) (fin := fun b => some b) (fun n i b hi => ?_) (fun n b => ?_) (ds_fu (by omega))
  · show gM_goodOn_L5_F _ _ _ _ _ _ = _
    unfold gM_goodOn_L5_F
    obtain ⟨h1, h2, -⟩ := hN.2 i hi
    have l44 : dm_rd N 44 (Int32.ofNat i) = some (da_fr A i) := by rw [x_rd (show i < dm_len 44 by show _ < 16; omega) (by decide), h1]
    have l45 : dm_rd N 45 (Int32.ofNat i) = some (da_to A i) := by rw [x_rd (show i < dm_len 45 by show _ < 16; omega) (by decide), h2]
    simp only [l43, l44, l45, ds_bd, i3_succ]
    rw [if_neg ((not_congr (i3_le (by omega) (by omega))).mpr (by omega))]
    by_cases c1 : k < da_to A i
    · by_cases c2 : d < da_fr A i
      · simp only [c1, c2, if_true]
      · simp only [c1, c2, if_true, if_false]
    · by_cases c2 : d < da_fr A i
      · simp only [c1, c2, if_true, if_false]
      · simp only [c1, c2, if_false]
  · show gM_goodOn_L5_F _ _ _ _ _ _ = _
    unfold gM_goodOn_L5_F
    simp only [l43, ds_bd]
    rw [if_pos ((i3_le (by omega) (by omega)).mpr (Nat.le_refl _))]
end
