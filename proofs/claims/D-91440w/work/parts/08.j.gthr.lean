set_option maxRecDepth 100000
theorem dh_ci (v : Int32) : (Value.int v).category = 1 := rfl
theorem dh_cl (v : Int64) : (Value.long v).category = 2 := rfl
def dh_b8 (v : Int32) : Option Unit := if v.toInt8.toInt32 = v then some () else none
theorem dh_b8_n {v : Int32} {u : Unit} (h : dh_b8 v = some u) : narrow .byte (.int v) = .int v := by
  obtain ⟨h1, _⟩ := dg_if h
  show Value.int v.toInt8.toInt32 = _
  rw [h1]
theorem dj_ty7_ok : ∀ k, k < 2 → parseFieldDescriptor (dj_T7 k).2.2.1 = some (tyX7 (6 + k)) := fun k hk => tyX7_ok (6 + k) (by omega)
theorem dj_nm7 : ∀ a, a < 2 → ∀ b, b < 2 → a ≠ b → (dj_T7 a).2.1 ≠ (dj_T7 b).2.1 := fun a ha b hb h => nmX7 (6 + a) (by omega) (6 + b) (by omega) (by omega)
/-- threw or went on -/
def dh_tm {α β : Type} (x : Nat ⊕ α) (f : Nat → β) (g : α → β) : β := match x with
  | .inl j => f j
  | .inr a => g a
theorem dh_tm_l {α β : Type} {j : Nat} {f : Nat → β} {g : α → β} {y : β} (h : dh_tm (.inl j) f g = y) : f j = y := h
theorem dh_tm_r {α β : Type} {a : α} {f : Nat → β} {g : α → β} {y : β} (h : dh_tm (.inr a) f g = y) : g a = y := h
def dg_o {α : Type} (f : α → Option Value) (p : Nat ⊕ α) : Nat ⊕ Option Value := match p with
  | .inl j => .inl j
  | .inr a => .inr (f a)
abbrev dg_oI : Nat ⊕ Int32 → Nat ⊕ Option Value := dg_o (fun v => some (.int v))
abbrev dg_oR (E : dj_E) : Nat ⊕ Nat → Nat ⊕ Option Value := dg_o (fun v => some (dj_v E v))
abbrev dg_oU : Nat ⊕ Unit → Nat ⊕ Option Value := dg_o (fun _ => none)
theorem dg_thrI {j : Nat} {G G' : dg_G} {r : Nat ⊕ Int32} (h : some (Sum.inl j, G) = some (r, G')) : dg_oI r = .inl j ∧ G' = G := by cases h; exact ⟨rfl, rfl⟩
theorem dg_thrR {E : dj_E} {j : Nat} {G G' : dg_G} {r : Nat ⊕ Nat} (h : some (Sum.inl j, G) = some (r, G')) : dg_oR E r = .inl j ∧ G' = G := by cases h; exact ⟨rfl, rfl⟩
theorem dg_thrU {j : Nat} {G G' : dg_G} {r : Nat ⊕ Unit} (h : some (Sum.inl j, G) = some (r, G')) : dg_oU r = .inl j ∧ G' = G := by cases h; exact ⟨rfl, rfl⟩
def dj_fl (l : Launch) : Prop := ∀ e, l.admits e → e.platform.stackTraces = false
abbrev dj_hh : List (Nat × Nat × Nat × Nat) := [(56, 112, 113, 241)]
section
variable {T : dg_T} {l : Launch} {E : dj_E} {Mo : Option dm_M} {G' : dg_G} {x : Nat ⊕ Option Value} {G G1 : dg_G} {pc : Nat} {lv : List (Nat × Value)} {st : List Value}
theorem g_iretT {v : Int32} {r : Nat ⊕ Int32} (hd : decode (dt_c T) pc = .ok (.ireturn, 1)) (hr : dt_r T = some .int) (hf : some (.inr v, G) = some (r, G1)) : dgW T l E Mo G1 (dg_oI r) G pc lv [.int v] := by
  cases hf; exact g_iret hd hr rfl
theorem g_zretT {v : Int32} {r : Nat ⊕ Int32} {ty : FieldType} (hd : decode (dt_c T) pc = .ok (.ireturn, 1)) (hr : dt_r T = some ty) (hz : narrow ty (.int v) = .int v) (hf : some (.inr v, G) = some (r, G1)) : dgW T l E Mo G1 (dg_oI r) G pc lv [.int v] := by
  cases hf; exact g_zret hd hr hz rfl
theorem g_vretT {r : Nat ⊕ Unit} (hd : decode (dt_c T) pc = .ok (.return_, 1)) (hr : dt_r T = none) (hf : some (.inr (), G) = some (r, G1)) : dgW T l E Mo G1 (dg_oU r) G pc lv [] := by
  cases hf; exact g_vret hd hr rfl
theorem g_aretT {v : Nat} {r : Nat ⊕ Nat} {ty : FieldType} (hd : decode (dt_c T) pc = .ok (.areturn, 1)) (hr : dt_r T = some ty) (hrt : (∃ z, ty = .object z) ∨ ∃ z, ty = .array z) (hf : some (.inr v, G) = some (r, G1)) : dgW T l E Mo G1 (dg_oR E r) G pc lv [dj_v E v] := by
  cases hf; exact g_aret hd hr hrt rfl
end
