def dh_bo (v : Int32) : Option Unit := if v = 0 ∨ v = 1 then some () else none
/-- fuel for loops -/
def dh_fu : Nat := 1000000000000000000000000000000000000000000000000000000000000
theorem dh_nz {α : Type} {c : Prop} [Decidable c] {b : Option α} {R : α} (h : (if c then none else b) = some R) : ¬ c ∧ b = some R := by
  by_cases hc : c
  · rw [if_pos hc] at h; cases h
  · rw [if_neg hc] at h; exact ⟨hc, h⟩
theorem dh_bo_n {v : Int32} {u : Unit} (h : dh_bo v = some u) : narrow .boolean (.int v) = .int v := by
  unfold dh_bo at h
  by_cases c : v = 0 ∨ v = 1
  · rcases c with rfl | rfl <;> rfl
  · rw [if_neg c] at h; cases h
section
variable {C : dh_C} {A : Nat → Prop} {P : Heap → Prop} {Q : Outcome → Heap → Prop} {mc ms k n pc nL : Nat} {lv : List (Nat × Value)} {st : List Value} {cc : ByteArray} {own : String} {rt : Option FieldType}
theorem r_ldcw (hC : dh_ok C cc nL own rt) {index : Nat} {v : Int32} (hw : (Jvm.Cond.constant own index v) ∈ lw_all) (hd : decode cc pc = .ok (.ldc_w index, 3)) (kk : dh_W C A P Q mc ms k n (pc + 3) lv (.int v :: st)) : dh_W C A P Q mc ms k n pc lv st := fun H locs ls hP hS hl => lv_ldcw hC.1 hC.2.1 hC.2.2.2.1 (hC.2.2.2.2.1 _ hw) hd (kk H locs ls hP hS hl)
theorem r_tableAt (hC : dh_ok C cc nL own rt) {dflt lo hi : Int} {offs : Array Int} {len : Nat} {x : Int32} {off : Int} {tgt : Nat} (hd : decode cc pc = .ok (.tableswitch dflt lo hi offs, len)) (a : Int) (hx : x.toInt = a) (h1 : ¬ a < lo) (h2 : ¬ hi < a) (ho : offs[(a - lo).toNat]? = some off) (ht : (pc : Int) + off = (tgt : Int))
    (kk : dh_W C A P Q mc ms k n tgt lv st) : dh_W C A P Q mc ms k n pc lv (.int x :: st) := by
  subst hx
  exact r_tableIn hC hd h1 h2 ho ht kk
end
section
variable {C : dh_C} {A : Nat → Prop} {E : dm_E} {M M1 : dm_M} {mc ms k n pc nL : Nat} {lv : List (Nat × Value)} {st : List Value} {cc : ByteArray} {own : String} {rt : Option FieldType}
def dm_Q (E : dm_E) (A : Nat → Prop) (rv : Option Value) (M : dm_M) : Outcome → Heap → Prop := fun o H => o = .returned rv ∧ dm_P E A M H
theorem m_iret (hC : dh_ok C cc nL own rt) {v r : Int32} (hd : decode cc pc = .ok (.ireturn, 1)) (hr : rt = some .int) (hf : some (v, M) = some (r, M1)) : dh_W C A (dm_P E A M) (dm_Q E A (some (.int r)) M1) 0 0 0 0 pc lv [.int v] := by
  cases hf
  exact r_iret hC hd hr (Nat.le_refl _) (Nat.le_refl _) (fun H h => ⟨rfl, h⟩)
theorem m_iret1 (hC : dh_ok C cc nL own rt) {v r : Int32} (hd : decode cc pc = .ok (.ireturn, 1)) (hr : rt = some .int) (hf : some v = some r) : dh_W C A (dm_P E A M) (dm_Q E A (some (.int r)) M) 0 0 0 0 pc lv [.int v] := by
  cases hf
  exact r_iret hC hd hr (Nat.le_refl _) (Nat.le_refl _) (fun H h => ⟨rfl, h⟩)
theorem m_zret (hC : dh_ok C cc nL own rt) {v r : Int32} (hd : decode cc pc = .ok (.ireturn, 1)) (hr : rt = some .boolean) (hz : narrow .boolean (.int v) = .int v) (hf : some (v, M) = some (r, M1)) : dh_W C A (dm_P E A M) (dm_Q E A (some (.int r)) M1) 0 0 0 0 pc lv [.int v] := by
  cases hf
  exact r_zret hC hd hr hz (Nat.le_refl _) (Nat.le_refl _) (fun H h => ⟨rfl, h⟩)
theorem m_zret1 (hC : dh_ok C cc nL own rt) {v r : Int32} (hd : decode cc pc = .ok (.ireturn, 1)) (hr : rt = some .boolean) (hz : narrow .boolean (.int v) = .int v) (hf : some v = some r) : dh_W C A (dm_P E A M) (dm_Q E A (some (.int r)) M) 0 0 0 0 pc lv [.int v] := by
  cases hf
  exact r_zret hC hd hr hz (Nat.le_refl _) (Nat.le_refl _) (fun H h => ⟨rfl, h⟩)
theorem m_vret (hC : dh_ok C cc nL own rt) (hd : decode cc pc = .ok (.return_, 1)) (hr : rt = none) (hf : some M = some M1) : dh_W C A (dm_P E A M) (dm_Q E A none M1) 0 0 0 0 pc lv [] := by
  cases hf
  exact r_vret hC hd hr (Nat.le_refl _) (Nat.le_refl _) (fun H h => ⟨rfl, h⟩)
end
def dm_fa (f index : Nat) : Prop := f < 80 ∧ dm_kd f ≤ 3 ∧ Cond.fieldLink RX2 index RX2 (TX2 f).2.1 (TX2 f).2.2.1 ∈ lw_all ∧ (TX2 f).1 = RX2
def dm_fs (f index : Nat) (kd : Nat) (ty : FieldType) : Prop := f < 80 ∧ dm_kd f = kd ∧ Cond.fieldLink RX2 index RX2 (TX2 f).2.1 (TX2 f).2.2.1 ∈ lw_all ∧ (TX2 f).1 = RX2 ∧ (TX2 f).2.2.2 = false ∧ parseFieldDescriptor (TX2 f).2.2.1 = some ty
def dm_calV (y : MethodName) (bytes : ByteArray) (maxL : Nat) (ret : Option FieldType) (n : Nat) : Prop := Cond.instanceMethod y ∈ lw_all ∧ Cond.selects RX2 y y ∈ lw_all ∧ Cond.code y bytes maxL ret ∈ lw_all ∧ (y.cls = RX2 ∧ y.cls ≠ "java/lang/invoke/MethodHandle" ∧ y.cls ≠ "java/lang/invoke/VarHandle" ∧ (parseMethodDescriptor y.desc).map (fun d => d.parameters.length) = some n)
def dm_calS (y : MethodName) (bytes : ByteArray) (maxL : Nat) (ret : Option FieldType) (n : Nat) : Prop := Cond.static y ∈ lw_all ∧ Cond.code y bytes maxL ret ∈ lw_all ∧ (y.cls = RX2 ∧ y.cls ≠ "java/lang/invoke/MethodHandle" ∧ y.cls ≠ "java/lang/invoke/VarHandle" ∧ (parseMethodDescriptor y.desc).map (fun d => d.parameters.length) = some n)
section
variable {C : dh_C} {A : Nat → Prop} {E : dm_E} {M M1 : dm_M} {Q : Outcome → Heap → Prop} {mc ms k n pc nL : Nat} {lv : List (Nat × Value)} {st : List Value} {cc : ByteArray} {own : String} {rt : Option FieldType}
theorem m_getA (hC : dh_ok C cc nL RX2 rt) (hK : dm_Kn E (dh_s C)) {f index : Nat} (h : dm_fa f index) (hd : decode cc pc = .ok (.getfield index, 3))
    (kk : dh_W C A (dm_P E A M) Q mc ms k n (pc + 3) lv (.ref (dm_am E + dm_ad f) :: st)) : dh_W C A (dm_P E A M) Q mc ms k n pc lv (.ref (dm_am E) :: st) := m_geta hC hK f h.1 h.2.1 h.2.2.1 h.2.2.2 hd kk
theorem m_getI (hC : dh_ok C cc nL RX2 rt) (hK : dm_Kn E (dh_s C)) {f index : Nat} (h : dm_fs f index 4 .int) (hd : decode cc pc = .ok (.getfield index, 3))
    (kk : dh_W C A (dm_P E A M) Q mc ms k n (pc + 3) lv (.int (M.1 f 0) :: st)) : dh_W C A (dm_P E A M) Q mc ms k n pc lv (.ref (dm_am E) :: st) := m_geti hC hK f h.1 h.2.1 h.2.2.1 h.2.2.2.1 hd kk
theorem m_getL (hC : dh_ok C cc nL RX2 rt) (hK : dm_Kn E (dh_s C)) {f index : Nat} (h : dm_fs f index 5 .long) (hd : decode cc pc = .ok (.getfield index, 3))
    (kk : dh_W C A (dm_P E A M) Q mc ms k n (pc + 3) lv (.long (M.2 f 0) :: st)) : dh_W C A (dm_P E A M) Q mc ms k n pc lv (.ref (dm_am E) :: st) := m_getl hC hK f h.1 h.2.1 h.2.2.1 h.2.2.2.1 hd kk
theorem m_putI (hC : dh_ok C cc nL RX2 rt) (hK : dm_Kn E (dh_s C)) {f index : Nat} {v : Int32} (h : dm_fs f index 4 .int) (hd : decode cc pc = .ok (.putfield index, 3)) (hm : some (dm_set M f 0 v) = some M1)
    (kk : dh_W C A (dm_P E A M1) Q mc ms k n (pc + 3) lv st) : dh_W C A (dm_P E A M) Q mc ms k n pc lv (.int v :: .ref (dm_am E) :: st) := by
  cases hm
  exact m_puti hC hK f h.1 h.2.1 h.2.2.1 h.2.2.2.1 h.2.2.2.2.1 h.2.2.2.2.2 hd kk
theorem m_putL (hC : dh_ok C cc nL RX2 rt) (hK : dm_Kn E (dh_s C)) {f index : Nat} {v : Int64} (h : dm_fs f index 5 .long) (hd : decode cc pc = .ok (.putfield index, 3)) (hm : some (dm_setL M f 0 v) = some M1)
    (kk : dh_W C A (dm_P E A M1) Q mc ms k n (pc + 3) lv st) : dh_W C A (dm_P E A M) Q mc ms k n pc lv (.long v :: .ref (dm_am E) :: st) := by
  cases hm
  exact m_putl hC hK f h.1 h.2.1 h.2.2.1 h.2.2.2.1 h.2.2.2.2.1 h.2.2.2.2.2 hd kk
theorem m_callV' (hC : dh_ok C cc nL own rt) (hK : dm_Kn E (dh_s C)) {F L mcl msl : Nat} (hR : dh_R C = { frames := F, cells := mcl, slots := msl, locals := L }) {y : MethodName} {bytes : ByteArray} {maxL index fr lo : Nat} {ret : Option FieldType} {As st0 : List Value} {rv : Option Value}
    (hM : dm_Met (dh_l C) y bytes maxL ret fr lo E A (.ref (dm_am E) :: As) M rv M1) (h1 : Cond.methodLink own index y ∈ lw_all) (h2 : dm_calV y bytes maxL ret As.length) (hfr : fr + 1 ≤ F) (hlo : 8 + (maxL + 11) + lo ≤ L) (hst : As.reverse ++ .ref (dm_am E) :: st = st0) (hw : (st.map fun v => v.category).sum ≤ 8)
    (hd : decode cc pc = .ok (.invokevirtual index, 3)) (kk : dh_W C A (dm_P E A M1) Q mc ms 0 0 (pc + 3) lv (rv.toList ++ st)) : dh_W C A (dm_P E A M) Q mc ms 0 0 pc lv st0 :=
  m_callV hC hK hR hM h1 h2.1 h2.2.1 q87 h2.2.2.1 h2.2.2.2 hfr hlo (Nat.zero_le _) (Nat.zero_le _) hst hw hd kk
theorem m_callS' (hC : dh_ok C cc nL own rt) (hK : dm_Kn E (dh_s C)) {F L mcl msl : Nat} (hR : dh_R C = { frames := F, cells := mcl, slots := msl, locals := L }) {y : MethodName} {bytes : ByteArray} {maxL index fr lo : Nat} {ret : Option FieldType} {As st0 : List Value} {rv : Option Value}
    (hM : dm_Met (dh_l C) y bytes maxL ret fr lo E A As M rv M1) (h1 : Cond.methodLink own index y ∈ lw_all) (h2 : dm_calS y bytes maxL ret As.length) (hfr : fr + 1 ≤ F) (hlo : 8 + (maxL + 11) + lo ≤ L) (hst : As.reverse ++ st = st0) (hw : (st.map fun v => v.category).sum ≤ 8)
    (hd : decode cc pc = .ok (.invokestatic index, 3)) (kk : dh_W C A (dm_P E A M1) Q mc ms 0 0 (pc + 3) lv (rv.toList ++ st)) : dh_W C A (dm_P E A M) Q mc ms 0 0 pc lv st0 :=
  m_callS hC hK hR hM h1 h2.1 (by rw [h2.2.2.1]; exact q87) h2.2.1 h2.2.2.2 hfr hlo (Nat.zero_le _) (Nat.zero_le _) hst hw hd kk
end
