-- ===== PART A: goes FIRST, ahead of the names: the tables' words, and 'selects' of the private methods out of them =====
/-- a private method of a class that the tables say can be made, by its rows of tables_1 -/
def lw_okq (q : MethodName × Nat) : Prop := (q.1.cls ≠ "java/lang/invoke/MethodHandle" ∧ q.1.cls ≠ "java/lang/invoke/VarHandle") ∧ Cond.instantiable q.1.cls q.2 ∈ tables_1 ∧ Cond.privateMethod q.1 ∈ tables_1 ∧ Cond.instanceMethod q.1 ∈ tables_1
set_option maxRecDepth 100000
theorem lw_t1 {w : Cond} (h : w ∈ tables_1_1) : w ∈ tables_1 := List.mem_append_left _ h
theorem lw_t2 {w : Cond} (h : w ∈ tables_1_2) : w ∈ tables_1 := List.mem_append_right _ (List.mem_append_left _ h)
theorem lw_t3 {w : Cond} (h : w ∈ tables_1_3) : w ∈ tables_1 := List.mem_append_right _ (List.mem_append_right _ (List.mem_append_left _ h))
theorem lw_t4 {w : Cond} (h : w ∈ tables_1_4) : w ∈ tables_1 := List.mem_append_right _ (List.mem_append_right _ (List.mem_append_right _ (List.mem_append_left _ h)))
theorem lw_t5 {w : Cond} (h : w ∈ tables_1_5) : w ∈ tables_1 := List.mem_append_right _ (List.mem_append_right _ (List.mem_append_right _ (List.mem_append_right _ (List.mem_append_left _ h))))
theorem lw_t6 {w : Cond} (h : w ∈ tables_1_6) : w ∈ tables_1 := List.mem_append_right _ (List.mem_append_right _ (List.mem_append_right _ (List.mem_append_right _ (List.mem_append_right _ (List.mem_append_left _ h)))))
theorem lw_t7 {w : Cond} (h : w ∈ tables_1_7) : w ∈ tables_1 := List.mem_append_right _ (List.mem_append_right _ (List.mem_append_right _ (List.mem_append_right _ (List.mem_append_right _ (List.mem_append_right _ (List.mem_append_left _ h))))))
theorem lw_t8 {w : Cond} (h : w ∈ tables_1_8) : w ∈ tables_1 := List.mem_append_right _ (List.mem_append_right _ (List.mem_append_right _ (List.mem_append_right _ (List.mem_append_right _ (List.mem_append_right _ (List.mem_append_right _ (List.mem_append_left _ h)))))))
theorem lw_t9 {w : Cond} (h : w ∈ tables_1_9) : w ∈ tables_1 := List.mem_append_right _ (List.mem_append_right _ (List.mem_append_right _ (List.mem_append_right _ (List.mem_append_right _ (List.mem_append_right _ (List.mem_append_right _ (List.mem_append_right _ h)))))))
theorem lw_p0 : lw_okq (⟨"java/util/ArrayList", "add", "(Ljava/lang/Object;[Ljava/lang/Object;I)V"⟩, 3) := ⟨⟨by decide +kernel, by decide +kernel⟩, lw_t1 (List.mem_of_getElem? (i := 49) rfl), lw_t2 (List.mem_of_getElem? (i := 15) rfl), lw_t2 (List.mem_of_getElem? (i := 16) rfl)⟩
theorem lw_p1 : lw_okq (⟨"java/util/ArrayList", "grow", "()[Ljava/lang/Object;"⟩, 3) := ⟨⟨by decide +kernel, by decide +kernel⟩, lw_t1 (List.mem_of_getElem? (i := 49) rfl), lw_t2 (List.mem_of_getElem? (i := 19) rfl), lw_t2 (List.mem_of_getElem? (i := 20) rfl)⟩
theorem lw_p2 : lw_okq (⟨"java/util/ArrayList", "grow", "(I)[Ljava/lang/Object;"⟩, 3) := ⟨⟨by decide +kernel, by decide +kernel⟩, lw_t1 (List.mem_of_getElem? (i := 49) rfl), lw_t2 (List.mem_of_getElem? (i := 23) rfl), lw_t2 (List.mem_of_getElem? (i := 24) rfl)⟩
theorem lw_p3 : lw_okq (⟨"DebtorsHouse", "areTwo", "(II)Z"⟩, 10) := ⟨⟨by decide +kernel, by decide +kernel⟩, lw_t1 (List.mem_of_getElem? (i := 35) rfl), lw_t2 (List.mem_of_getElem? (i := 79) rfl), lw_t2 (List.mem_of_getElem? (i := 80) rfl)⟩
theorem lw_p4 : lw_okq (⟨"DebtorsHouse", "isPerson", "(I)Z"⟩, 10) := ⟨⟨by decide +kernel, by decide +kernel⟩, lw_t1 (List.mem_of_getElem? (i := 35) rfl), lw_t2 (List.mem_of_getElem? (i := 83) rfl), lw_t2 (List.mem_of_getElem? (i := 84) rfl)⟩
theorem lw_p5 : lw_okq (⟨"DebtorsHouse", "isLive", "(I)Z"⟩, 10) := ⟨⟨by decide +kernel, by decide +kernel⟩, lw_t1 (List.mem_of_getElem? (i := 35) rfl), lw_t2 (List.mem_of_getElem? (i := 162) rfl), lw_t2 (List.mem_of_getElem? (i := 163) rfl)⟩
theorem lw_p6 : lw_okq (⟨"DebtorsHouse", "debtAt", "(I)LDebtorsHouse$Debt;"⟩, 10) := ⟨⟨by decide +kernel, by decide +kernel⟩, lw_t1 (List.mem_of_getElem? (i := 35) rfl), lw_t2 (List.mem_of_getElem? (i := 166) rfl), lw_t2 (List.mem_of_getElem? (i := 167) rfl)⟩
theorem lw_p7 : lw_okq (⟨"DebtorsHouse", "due", "(I)I"⟩, 10) := ⟨⟨by decide +kernel, by decide +kernel⟩, lw_t1 (List.mem_of_getElem? (i := 35) rfl), lw_t2 (List.mem_of_getElem? (i := 188) rfl), lw_t2 (List.mem_of_getElem? (i := 189) rfl)⟩
theorem lw_p8 : lw_okq (⟨"DebtorsHouse", "at", "(I)LDebtorsHouse$Person;"⟩, 10) := ⟨⟨by decide +kernel, by decide +kernel⟩, lw_t1 (List.mem_of_getElem? (i := 35) rfl), lw_t2 (List.mem_of_getElem? (i := 206) rfl), lw_t2 (List.mem_of_getElem? (i := 207) rfl)⟩
theorem lw_p9 : lw_okq (⟨"DebtorsHouse", "looks", "()V"⟩, 10) := ⟨⟨by decide +kernel, by decide +kernel⟩, lw_t1 (List.mem_of_getElem? (i := 35) rfl), lw_t2 (List.mem_of_getElem? (i := 221) rfl), lw_t2 (List.mem_of_getElem? (i := 222) rfl)⟩
theorem lw_p10 : lw_okq (⟨"DebtorsHouse", "creditorsOf", "(I)I"⟩, 10) := ⟨⟨by decide +kernel, by decide +kernel⟩, lw_t1 (List.mem_of_getElem? (i := 35) rfl), lw_t2 (List.mem_of_getElem? (i := 225) rfl), lw_t2 (List.mem_of_getElem? (i := 226) rfl)⟩
theorem lw_p11 : lw_okq (⟨"DebtorsHouse", "distances", "(I)V"⟩, 10) := ⟨⟨by decide +kernel, by decide +kernel⟩, lw_t1 (List.mem_of_getElem? (i := 35) rfl), lw_t3 (List.mem_of_getElem? (i := 4) rfl), lw_t3 (List.mem_of_getElem? (i := 5) rfl)⟩
theorem lw_p12 : lw_okq (⟨"DebtorsHouse$Reader", "step", "()V"⟩, 9) := ⟨⟨by decide +kernel, by decide +kernel⟩, lw_t3 (List.mem_of_getElem? (i := 37) rfl), lw_t3 (List.mem_of_getElem? (i := 45) rfl), lw_t3 (List.mem_of_getElem? (i := 46) rfl)⟩
theorem lw_p13 : lw_okq (⟨"DebtorsHouse$Reader", "at", "(I)I"⟩, 9) := ⟨⟨by decide +kernel, by decide +kernel⟩, lw_t3 (List.mem_of_getElem? (i := 37) rfl), lw_t3 (List.mem_of_getElem? (i := 49) rfl), lw_t3 (List.mem_of_getElem? (i := 50) rfl)⟩
theorem lw_p14 : lw_okq (⟨"DebtorsHouse$Reader", "line", "()V"⟩, 9) := ⟨⟨by decide +kernel, by decide +kernel⟩, lw_t3 (List.mem_of_getElem? (i := 37) rfl), lw_t4 (List.mem_of_getElem? (i := 98) rfl), lw_t4 (List.mem_of_getElem? (i := 99) rfl)⟩
theorem lw_p15 : lw_okq (⟨"DebtorsHouse$Reader", "also", "(II)V"⟩, 9) := ⟨⟨by decide +kernel, by decide +kernel⟩, lw_t3 (List.mem_of_getElem? (i := 37) rfl), lw_t4 (List.mem_of_getElem? (i := 103) rfl), lw_t4 (List.mem_of_getElem? (i := 104) rfl)⟩
def lw_privs_1 : List (MethodName × Nat) := [(⟨"java/util/ArrayList", "add", "(Ljava/lang/Object;[Ljava/lang/Object;I)V"⟩, 3), (⟨"java/util/ArrayList", "grow", "()[Ljava/lang/Object;"⟩, 3), (⟨"java/util/ArrayList", "grow", "(I)[Ljava/lang/Object;"⟩, 3), (⟨"DebtorsHouse", "areTwo", "(II)Z"⟩, 10), (⟨"DebtorsHouse", "isPerson", "(I)Z"⟩, 10), (⟨"DebtorsHouse", "isLive", "(I)Z"⟩, 10), (⟨"DebtorsHouse", "debtAt", "(I)LDebtorsHouse$Debt;"⟩, 10), (⟨"DebtorsHouse", "due", "(I)I"⟩, 10), (⟨"DebtorsHouse", "at", "(I)LDebtorsHouse$Person;"⟩, 10), (⟨"DebtorsHouse", "looks", "()V"⟩, 10), (⟨"DebtorsHouse", "creditorsOf", "(I)I"⟩, 10), (⟨"DebtorsHouse", "distances", "(I)V"⟩, 10), (⟨"DebtorsHouse$Reader", "step", "()V"⟩, 9), (⟨"DebtorsHouse$Reader", "at", "(I)I"⟩, 9), (⟨"DebtorsHouse$Reader", "line", "()V"⟩, 9), (⟨"DebtorsHouse$Reader", "also", "(II)V"⟩, 9)]
theorem lw_r1 : ∀ q ∈ lw_privs_1, lw_okq q := List.forall_mem_cons.mpr ⟨lw_p0, List.forall_mem_cons.mpr ⟨lw_p1, List.forall_mem_cons.mpr ⟨lw_p2, List.forall_mem_cons.mpr ⟨lw_p3, List.forall_mem_cons.mpr ⟨lw_p4, List.forall_mem_cons.mpr ⟨lw_p5, List.forall_mem_cons.mpr ⟨lw_p6, List.forall_mem_cons.mpr ⟨lw_p7, List.forall_mem_cons.mpr ⟨lw_p8, List.forall_mem_cons.mpr ⟨lw_p9, List.forall_mem_cons.mpr ⟨lw_p10, List.forall_mem_cons.mpr ⟨lw_p11, List.forall_mem_cons.mpr ⟨lw_p12, List.forall_mem_cons.mpr ⟨lw_p13, List.forall_mem_cons.mpr ⟨lw_p14, List.forall_mem_cons.mpr ⟨lw_p15, fun _ h => absurd h List.not_mem_nil⟩⟩⟩⟩⟩⟩⟩⟩⟩⟩⟩⟩⟩⟩⟩⟩
theorem lw_p16 : lw_okq (⟨"java/lang/Throwable", "fillInStackTrace", "(I)Ljava/lang/Throwable;"⟩, 6) := ⟨⟨by decide +kernel, by decide +kernel⟩, lw_t4 (List.mem_of_getElem? (i := 141) rfl), lw_t4 (List.mem_of_getElem? (i := 139) rfl), lw_t4 (List.mem_of_getElem? (i := 140) rfl)⟩
theorem lw_p17 : lw_okq (⟨"DebtorsHouse$Reader", "topic", "()LDebtorsHouse$Topic;"⟩, 9) := ⟨⟨by decide +kernel, by decide +kernel⟩, lw_t3 (List.mem_of_getElem? (i := 37) rfl), lw_t4 (List.mem_of_getElem? (i := 192) rfl), lw_t4 (List.mem_of_getElem? (i := 193) rfl)⟩
theorem lw_p18 : lw_okq (⟨"DebtorsHouse$Reader", "takes", "(Ljava/lang/String;)Z"⟩, 9) := ⟨⟨by decide +kernel, by decide +kernel⟩, lw_t3 (List.mem_of_getElem? (i := 37) rfl), lw_t4 (List.mem_of_getElem? (i := 198) rfl), lw_t4 (List.mem_of_getElem? (i := 199) rfl)⟩
theorem lw_p19 : lw_okq (⟨"DebtorsHouse$Reader", "wrong", "()LDebtorsHouse$Fault;"⟩, 9) := ⟨⟨by decide +kernel, by decide +kernel⟩, lw_t3 (List.mem_of_getElem? (i := 37) rfl), lw_t4 (List.mem_of_getElem? (i := 210) rfl), lw_t4 (List.mem_of_getElem? (i := 211) rfl)⟩
theorem lw_p20 : lw_okq (⟨"DebtorsHouse$Reader", "test", "()LDebtorsHouse$Test;"⟩, 9) := ⟨⟨by decide +kernel, by decide +kernel⟩, lw_t3 (List.mem_of_getElem? (i := 37) rfl), lw_t4 (List.mem_of_getElem? (i := 215) rfl), lw_t4 (List.mem_of_getElem? (i := 216) rfl)⟩
theorem lw_p21 : lw_okq (⟨"DebtorsHouse$Reader", "isSign", "(I)Z"⟩, 9) := ⟨⟨by decide +kernel, by decide +kernel⟩, lw_t3 (List.mem_of_getElem? (i := 37) rfl), lw_t4 (List.mem_of_getElem? (i := 221) rfl), lw_t4 (List.mem_of_getElem? (i := 222) rfl)⟩
theorem lw_p22 : lw_okq (⟨"DebtorsHouse$Reader", "number", "()I"⟩, 9) := ⟨⟨by decide +kernel, by decide +kernel⟩, lw_t3 (List.mem_of_getElem? (i := 37) rfl), lw_t4 (List.mem_of_getElem? (i := 227) rfl), lw_t4 (List.mem_of_getElem? (i := 228) rfl)⟩
theorem lw_p23 : lw_okq (⟨"DebtorsHouse$Reader", "must", "(I)V"⟩, 9) := ⟨⟨by decide +kernel, by decide +kernel⟩, lw_t3 (List.mem_of_getElem? (i := 37) rfl), lw_t5 (List.mem_of_getElem? (i := 10) rfl), lw_t5 (List.mem_of_getElem? (i := 11) rfl)⟩
theorem lw_p24 : lw_okq (⟨"DebtorsHouse", "asks", "(LDebtorsHouse$Person;)V"⟩, 10) := ⟨⟨by decide +kernel, by decide +kernel⟩, lw_t1 (List.mem_of_getElem? (i := 35) rfl), lw_t5 (List.mem_of_getElem? (i := 55) rfl), lw_t5 (List.mem_of_getElem? (i := 56) rfl)⟩
theorem lw_p25 : lw_okq (⟨"DebtorsHouse", "asks", "(LDebtorsHouse$About;I)V"⟩, 10) := ⟨⟨by decide +kernel, by decide +kernel⟩, lw_t1 (List.mem_of_getElem? (i := 35) rfl), lw_t5 (List.mem_of_getElem? (i := 61) rfl), lw_t5 (List.mem_of_getElem? (i := 62) rfl)⟩
theorem lw_p26 : lw_okq (⟨"DebtorsHouse", "tells", "(LDebtorsHouse$Topic;I)I"⟩, 10) := ⟨⟨by decide +kernel, by decide +kernel⟩, lw_t1 (List.mem_of_getElem? (i := 35) rfl), lw_t5 (List.mem_of_getElem? (i := 87) rfl), lw_t5 (List.mem_of_getElem? (i := 88) rfl)⟩
theorem lw_p27 : lw_okq (⟨"DebtorsHouse", "tells", "(LDebtorsHouse$Person;LDebtorsHouse$Topic;)I"⟩, 10) := ⟨⟨by decide +kernel, by decide +kernel⟩, lw_t1 (List.mem_of_getElem? (i := 35) rfl), lw_t5 (List.mem_of_getElem? (i := 120) rfl), lw_t5 (List.mem_of_getElem? (i := 121) rfl)⟩
theorem lw_p28 : lw_okq (⟨"DebtorsHouse", "isHeld", "(I)Z"⟩, 10) := ⟨⟨by decide +kernel, by decide +kernel⟩, lw_t1 (List.mem_of_getElem? (i := 35) rfl), lw_t5 (List.mem_of_getElem? (i := 134) rfl), lw_t5 (List.mem_of_getElem? (i := 135) rfl)⟩
theorem lw_p29 : lw_okq (⟨"DebtorsHouse", "owedBy", "(I)I"⟩, 10) := ⟨⟨by decide +kernel, by decide +kernel⟩, lw_t1 (List.mem_of_getElem? (i := 35) rfl), lw_t5 (List.mem_of_getElem? (i := 175) rfl), lw_t5 (List.mem_of_getElem? (i := 176) rfl)⟩
theorem lw_p30 : lw_okq (⟨"DebtorsHouse", "owedTo", "(I)I"⟩, 10) := ⟨⟨by decide +kernel, by decide +kernel⟩, lw_t1 (List.mem_of_getElem? (i := 35) rfl), lw_t5 (List.mem_of_getElem? (i := 179) rfl), lw_t5 (List.mem_of_getElem? (i := 180) rfl)⟩
theorem lw_p31 : lw_okq (⟨"DebtorsHouse", "binds0", "(II)Z"⟩, 10) := ⟨⟨by decide +kernel, by decide +kernel⟩, lw_t1 (List.mem_of_getElem? (i := 35) rfl), lw_t5 (List.mem_of_getElem? (i := 191) rfl), lw_t5 (List.mem_of_getElem? (i := 192) rfl)⟩
def lw_privs_2 : List (MethodName × Nat) := [(⟨"java/lang/Throwable", "fillInStackTrace", "(I)Ljava/lang/Throwable;"⟩, 6), (⟨"DebtorsHouse$Reader", "topic", "()LDebtorsHouse$Topic;"⟩, 9), (⟨"DebtorsHouse$Reader", "takes", "(Ljava/lang/String;)Z"⟩, 9), (⟨"DebtorsHouse$Reader", "wrong", "()LDebtorsHouse$Fault;"⟩, 9), (⟨"DebtorsHouse$Reader", "test", "()LDebtorsHouse$Test;"⟩, 9), (⟨"DebtorsHouse$Reader", "isSign", "(I)Z"⟩, 9), (⟨"DebtorsHouse$Reader", "number", "()I"⟩, 9), (⟨"DebtorsHouse$Reader", "must", "(I)V"⟩, 9), (⟨"DebtorsHouse", "asks", "(LDebtorsHouse$Person;)V"⟩, 10), (⟨"DebtorsHouse", "asks", "(LDebtorsHouse$About;I)V"⟩, 10), (⟨"DebtorsHouse", "tells", "(LDebtorsHouse$Topic;I)I"⟩, 10), (⟨"DebtorsHouse", "tells", "(LDebtorsHouse$Person;LDebtorsHouse$Topic;)I"⟩, 10), (⟨"DebtorsHouse", "isHeld", "(I)Z"⟩, 10), (⟨"DebtorsHouse", "owedBy", "(I)I"⟩, 10), (⟨"DebtorsHouse", "owedTo", "(I)I"⟩, 10), (⟨"DebtorsHouse", "binds0", "(II)Z"⟩, 10)]
theorem lw_r2 : ∀ q ∈ lw_privs_2, lw_okq q := List.forall_mem_cons.mpr ⟨lw_p16, List.forall_mem_cons.mpr ⟨lw_p17, List.forall_mem_cons.mpr ⟨lw_p18, List.forall_mem_cons.mpr ⟨lw_p19, List.forall_mem_cons.mpr ⟨lw_p20, List.forall_mem_cons.mpr ⟨lw_p21, List.forall_mem_cons.mpr ⟨lw_p22, List.forall_mem_cons.mpr ⟨lw_p23, List.forall_mem_cons.mpr ⟨lw_p24, List.forall_mem_cons.mpr ⟨lw_p25, List.forall_mem_cons.mpr ⟨lw_p26, List.forall_mem_cons.mpr ⟨lw_p27, List.forall_mem_cons.mpr ⟨lw_p28, List.forall_mem_cons.mpr ⟨lw_p29, List.forall_mem_cons.mpr ⟨lw_p30, List.forall_mem_cons.mpr ⟨lw_p31, fun _ h => absurd h List.not_mem_nil⟩⟩⟩⟩⟩⟩⟩⟩⟩⟩⟩⟩⟩⟩⟩⟩
theorem lw_p32 : lw_okq (⟨"DebtorsHouse", "binds", "(IIIJZII)Z"⟩, 10) := ⟨⟨by decide +kernel, by decide +kernel⟩, lw_t1 (List.mem_of_getElem? (i := 35) rfl), lw_t5 (List.mem_of_getElem? (i := 199) rfl), lw_t5 (List.mem_of_getElem? (i := 200) rfl)⟩
theorem lw_p33 : lw_okq (⟨"DebtorsHouse", "parts", "(I)I"⟩, 10) := ⟨⟨by decide +kernel, by decide +kernel⟩, lw_t1 (List.mem_of_getElem? (i := 35) rfl), lw_t6 (List.mem_of_getElem? (i := 0) rfl), lw_t6 (List.mem_of_getElem? (i := 1) rfl)⟩
theorem lw_p34 : lw_okq (⟨"DebtorsHouse", "shares", "(IIJ)V"⟩, 10) := ⟨⟨by decide +kernel, by decide +kernel⟩, lw_t1 (List.mem_of_getElem? (i := 35) rfl), lw_t6 (List.mem_of_getElem? (i := 4) rfl), lw_t6 (List.mem_of_getElem? (i := 5) rfl)⟩
theorem lw_p35 : lw_okq (⟨"DebtorsHouse", "rows", "()I"⟩, 10) := ⟨⟨by decide +kernel, by decide +kernel⟩, lw_t1 (List.mem_of_getElem? (i := 35) rfl), lw_t6 (List.mem_of_getElem? (i := 21) rfl), lw_t6 (List.mem_of_getElem? (i := 22) rfl)⟩
theorem lw_p36 : lw_okq (⟨"DebtorsHouse", "lacks", "(II)J"⟩, 10) := ⟨⟨by decide +kernel, by decide +kernel⟩, lw_t1 (List.mem_of_getElem? (i := 35) rfl), lw_t6 (List.mem_of_getElem? (i := 35) rfl), lw_t6 (List.mem_of_getElem? (i := 36) rfl)⟩
theorem lw_p37 : lw_okq (⟨"DebtorsHouse", "dueTo", "(II)I"⟩, 10) := ⟨⟨by decide +kernel, by decide +kernel⟩, lw_t1 (List.mem_of_getElem? (i := 35) rfl), lw_t6 (List.mem_of_getElem? (i := 39) rfl), lw_t6 (List.mem_of_getElem? (i := 40) rfl)⟩
theorem lw_p38 : lw_okq (⟨"DebtorsHouseModel", "areTwo", "(II)Z"⟩, 80) := ⟨⟨by decide +kernel, by decide +kernel⟩, lw_t6 (List.mem_of_getElem? (i := 108) rfl), lw_t7 (List.mem_of_getElem? (i := 127) rfl), lw_t7 (List.mem_of_getElem? (i := 128) rfl)⟩
theorem lw_p39 : lw_okq (⟨"DebtorsHouseModel", "isPerson", "(I)Z"⟩, 80) := ⟨⟨by decide +kernel, by decide +kernel⟩, lw_t6 (List.mem_of_getElem? (i := 108) rfl), lw_t7 (List.mem_of_getElem? (i := 131) rfl), lw_t7 (List.mem_of_getElem? (i := 132) rfl)⟩
theorem lw_p40 : lw_okq (⟨"DebtorsHouseModel", "isLive", "(I)Z"⟩, 80) := ⟨⟨by decide +kernel, by decide +kernel⟩, lw_t6 (List.mem_of_getElem? (i := 108) rfl), lw_t7 (List.mem_of_getElem? (i := 140) rfl), lw_t7 (List.mem_of_getElem? (i := 141) rfl)⟩
theorem lw_p41 : lw_okq (⟨"DebtorsHouseModel", "isDebt", "(I)Z"⟩, 80) := ⟨⟨by decide +kernel, by decide +kernel⟩, lw_t6 (List.mem_of_getElem? (i := 108) rfl), lw_t7 (List.mem_of_getElem? (i := 144) rfl), lw_t7 (List.mem_of_getElem? (i := 145) rfl)⟩
theorem lw_p42 : lw_okq (⟨"DebtorsHouseModel", "dueOf", "(I)I"⟩, 80) := ⟨⟨by decide +kernel, by decide +kernel⟩, lw_t6 (List.mem_of_getElem? (i := 108) rfl), lw_t7 (List.mem_of_getElem? (i := 148) rfl), lw_t7 (List.mem_of_getElem? (i := 149) rfl)⟩
theorem lw_p43 : lw_okq (⟨"DebtorsHouseModel", "interestOf", "(I)I"⟩, 80) := ⟨⟨by decide +kernel, by decide +kernel⟩, lw_t6 (List.mem_of_getElem? (i := 108) rfl), lw_t7 (List.mem_of_getElem? (i := 152) rfl), lw_t7 (List.mem_of_getElem? (i := 153) rfl)⟩
theorem lw_p44 : lw_okq (⟨"DebtorsHouseModel", "takeOff", "(II)V"⟩, 80) := ⟨⟨by decide +kernel, by decide +kernel⟩, lw_t6 (List.mem_of_getElem? (i := 108) rfl), lw_t7 (List.mem_of_getElem? (i := 161) rfl), lw_t7 (List.mem_of_getElem? (i := 162) rfl)⟩
theorem lw_p45 : lw_okq (⟨"DebtorsHouseModel", "ends", "(II)V"⟩, 80) := ⟨⟨by decide +kernel, by decide +kernel⟩, lw_t6 (List.mem_of_getElem? (i := 108) rfl), lw_t7 (List.mem_of_getElem? (i := 165) rfl), lw_t7 (List.mem_of_getElem? (i := 166) rfl)⟩
theorem lw_p46 : lw_okq (⟨"DebtorsHouseModel", "letGo", "()V"⟩, 80) := ⟨⟨by decide +kernel, by decide +kernel⟩, lw_t6 (List.mem_of_getElem? (i := 108) rfl), lw_t7 (List.mem_of_getElem? (i := 169) rfl), lw_t7 (List.mem_of_getElem? (i := 170) rfl)⟩
theorem lw_p47 : lw_okq (⟨"DebtorsHouseModel", "findTheRing", "()Z"⟩, 80) := ⟨⟨by decide +kernel, by decide +kernel⟩, lw_t6 (List.mem_of_getElem? (i := 108) rfl), lw_t7 (List.mem_of_getElem? (i := 181) rfl), lw_t7 (List.mem_of_getElem? (i := 182) rfl)⟩
def lw_privs_3 : List (MethodName × Nat) := [(⟨"DebtorsHouse", "binds", "(IIIJZII)Z"⟩, 10), (⟨"DebtorsHouse", "parts", "(I)I"⟩, 10), (⟨"DebtorsHouse", "shares", "(IIJ)V"⟩, 10), (⟨"DebtorsHouse", "rows", "()I"⟩, 10), (⟨"DebtorsHouse", "lacks", "(II)J"⟩, 10), (⟨"DebtorsHouse", "dueTo", "(II)I"⟩, 10), (⟨"DebtorsHouseModel", "areTwo", "(II)Z"⟩, 80), (⟨"DebtorsHouseModel", "isPerson", "(I)Z"⟩, 80), (⟨"DebtorsHouseModel", "isLive", "(I)Z"⟩, 80), (⟨"DebtorsHouseModel", "isDebt", "(I)Z"⟩, 80), (⟨"DebtorsHouseModel", "dueOf", "(I)I"⟩, 80), (⟨"DebtorsHouseModel", "interestOf", "(I)I"⟩, 80), (⟨"DebtorsHouseModel", "takeOff", "(II)V"⟩, 80), (⟨"DebtorsHouseModel", "ends", "(II)V"⟩, 80), (⟨"DebtorsHouseModel", "letGo", "()V"⟩, 80), (⟨"DebtorsHouseModel", "findTheRing", "()Z"⟩, 80)]
theorem lw_r3 : ∀ q ∈ lw_privs_3, lw_okq q := List.forall_mem_cons.mpr ⟨lw_p32, List.forall_mem_cons.mpr ⟨lw_p33, List.forall_mem_cons.mpr ⟨lw_p34, List.forall_mem_cons.mpr ⟨lw_p35, List.forall_mem_cons.mpr ⟨lw_p36, List.forall_mem_cons.mpr ⟨lw_p37, List.forall_mem_cons.mpr ⟨lw_p38, List.forall_mem_cons.mpr ⟨lw_p39, List.forall_mem_cons.mpr ⟨lw_p40, List.forall_mem_cons.mpr ⟨lw_p41, List.forall_mem_cons.mpr ⟨lw_p42, List.forall_mem_cons.mpr ⟨lw_p43, List.forall_mem_cons.mpr ⟨lw_p44, List.forall_mem_cons.mpr ⟨lw_p45, List.forall_mem_cons.mpr ⟨lw_p46, List.forall_mem_cons.mpr ⟨lw_p47, fun _ h => absurd h List.not_mem_nil⟩⟩⟩⟩⟩⟩⟩⟩⟩⟩⟩⟩⟩⟩⟩⟩
theorem lw_p48 : lw_okq (⟨"DebtorsHouseModel", "findRing", "(II)Z"⟩, 80) := ⟨⟨by decide +kernel, by decide +kernel⟩, lw_t6 (List.mem_of_getElem? (i := 108) rfl), lw_t7 (List.mem_of_getElem? (i := 185) rfl), lw_t7 (List.mem_of_getElem? (i := 186) rfl)⟩
theorem lw_p49 : lw_okq (⟨"DebtorsHouseModel", "goesOn", "(III)Z"⟩, 80) := ⟨⟨by decide +kernel, by decide +kernel⟩, lw_t6 (List.mem_of_getElem? (i := 108) rfl), lw_t7 (List.mem_of_getElem? (i := 189) rfl), lw_t7 (List.mem_of_getElem? (i := 190) rfl)⟩
theorem lw_p50 : lw_okq (⟨"DebtorsHouseModel", "four", "(I)V"⟩, 80) := ⟨⟨by decide +kernel, by decide +kernel⟩, lw_t6 (List.mem_of_getElem? (i := 108) rfl), lw_t7 (List.mem_of_getElem? (i := 205) rfl), lw_t7 (List.mem_of_getElem? (i := 206) rfl)⟩
theorem lw_p51 : lw_okq (⟨"DebtorsHouseModel", "next", "()V"⟩, 80) := ⟨⟨by decide +kernel, by decide +kernel⟩, lw_t6 (List.mem_of_getElem? (i := 108) rfl), lw_t7 (List.mem_of_getElem? (i := 220) rfl), lw_t7 (List.mem_of_getElem? (i := 221) rfl)⟩
theorem lw_p52 : lw_okq (⟨"DebtorsHouseModel", "see", "()I"⟩, 80) := ⟨⟨by decide +kernel, by decide +kernel⟩, lw_t6 (List.mem_of_getElem? (i := 108) rfl), lw_t7 (List.mem_of_getElem? (i := 224) rfl), lw_t7 (List.mem_of_getElem? (i := 225) rfl)⟩
theorem lw_p53 : lw_okq (⟨"DebtorsHouseModel", "oneLine", "()Z"⟩, 80) := ⟨⟨by decide +kernel, by decide +kernel⟩, lw_t6 (List.mem_of_getElem? (i := 108) rfl), lw_t7 (List.mem_of_getElem? (i := 228) rfl), lw_t7 (List.mem_of_getElem? (i := 229) rfl)⟩
theorem lw_p54 : lw_okq (⟨"DebtorsHouseModel", "later", "(II)V"⟩, 80) := ⟨⟨by decide +kernel, by decide +kernel⟩, lw_t6 (List.mem_of_getElem? (i := 108) rfl), lw_t7 (List.mem_of_getElem? (i := 232) rfl), lw_t7 (List.mem_of_getElem? (i := 233) rfl)⟩
theorem lw_p55 : lw_okq (⟨"DebtorsHouseModel", "topicWord", "()I"⟩, 80) := ⟨⟨by decide +kernel, by decide +kernel⟩, lw_t6 (List.mem_of_getElem? (i := 108) rfl), lw_t7 (List.mem_of_getElem? (i := 236) rfl), lw_t7 (List.mem_of_getElem? (i := 237) rfl)⟩
theorem lw_p56 : lw_okq (⟨"DebtorsHouseModel", "isWord", "(J)Z"⟩, 80) := ⟨⟨by decide +kernel, by decide +kernel⟩, lw_t6 (List.mem_of_getElem? (i := 108) rfl), lw_t8 (List.mem_of_getElem? (i := 1) rfl), lw_t8 (List.mem_of_getElem? (i := 2) rfl)⟩
theorem lw_p57 : lw_okq (⟨"DebtorsHouseModel", "wrong", "()Z"⟩, 80) := ⟨⟨by decide +kernel, by decide +kernel⟩, lw_t6 (List.mem_of_getElem? (i := 108) rfl), lw_t8 (List.mem_of_getElem? (i := 13) rfl), lw_t8 (List.mem_of_getElem? (i := 14) rfl)⟩
theorem lw_p58 : lw_okq (⟨"DebtorsHouseModel", "test", "(II)Z"⟩, 80) := ⟨⟨by decide +kernel, by decide +kernel⟩, lw_t6 (List.mem_of_getElem? (i := 108) rfl), lw_t8 (List.mem_of_getElem? (i := 18) rfl), lw_t8 (List.mem_of_getElem? (i := 19) rfl)⟩
theorem lw_p59 : lw_okq (⟨"DebtorsHouseModel", "testWord", "()I"⟩, 80) := ⟨⟨by decide +kernel, by decide +kernel⟩, lw_t6 (List.mem_of_getElem? (i := 108) rfl), lw_t8 (List.mem_of_getElem? (i := 23) rfl), lw_t8 (List.mem_of_getElem? (i := 24) rfl)⟩
theorem lw_p60 : lw_okq (⟨"DebtorsHouseModel", "need", "(I)Z"⟩, 80) := ⟨⟨by decide +kernel, by decide +kernel⟩, lw_t6 (List.mem_of_getElem? (i := 108) rfl), lw_t8 (List.mem_of_getElem? (i := 36) rfl), lw_t8 (List.mem_of_getElem? (i := 37) rfl)⟩
theorem lw_p61 : lw_okq (⟨"DebtorsHouseModel", "isSign", "(I)Z"⟩, 80) := ⟨⟨by decide +kernel, by decide +kernel⟩, lw_t6 (List.mem_of_getElem? (i := 108) rfl), lw_t8 (List.mem_of_getElem? (i := 40) rfl), lw_t8 (List.mem_of_getElem? (i := 41) rfl)⟩
theorem lw_p62 : lw_okq (⟨"DebtorsHouseModel", "goodOn", "(II)I"⟩, 80) := ⟨⟨by decide +kernel, by decide +kernel⟩, lw_t6 (List.mem_of_getElem? (i := 108) rfl), lw_t8 (List.mem_of_getElem? (i := 54) rfl), lw_t8 (List.mem_of_getElem? (i := 55) rfl)⟩
theorem lw_p63 : lw_okq (⟨"DebtorsHouseModel", "lookAt", "(I)V"⟩, 80) := ⟨⟨by decide +kernel, by decide +kernel⟩, lw_t6 (List.mem_of_getElem? (i := 108) rfl), lw_t8 (List.mem_of_getElem? (i := 62) rfl), lw_t8 (List.mem_of_getElem? (i := 63) rfl)⟩
def lw_privs_4 : List (MethodName × Nat) := [(⟨"DebtorsHouseModel", "findRing", "(II)Z"⟩, 80), (⟨"DebtorsHouseModel", "goesOn", "(III)Z"⟩, 80), (⟨"DebtorsHouseModel", "four", "(I)V"⟩, 80), (⟨"DebtorsHouseModel", "next", "()V"⟩, 80), (⟨"DebtorsHouseModel", "see", "()I"⟩, 80), (⟨"DebtorsHouseModel", "oneLine", "()Z"⟩, 80), (⟨"DebtorsHouseModel", "later", "(II)V"⟩, 80), (⟨"DebtorsHouseModel", "topicWord", "()I"⟩, 80), (⟨"DebtorsHouseModel", "isWord", "(J)Z"⟩, 80), (⟨"DebtorsHouseModel", "wrong", "()Z"⟩, 80), (⟨"DebtorsHouseModel", "test", "(II)Z"⟩, 80), (⟨"DebtorsHouseModel", "testWord", "()I"⟩, 80), (⟨"DebtorsHouseModel", "need", "(I)Z"⟩, 80), (⟨"DebtorsHouseModel", "isSign", "(I)Z"⟩, 80), (⟨"DebtorsHouseModel", "goodOn", "(II)I"⟩, 80), (⟨"DebtorsHouseModel", "lookAt", "(I)V"⟩, 80)]
theorem lw_r4 : ∀ q ∈ lw_privs_4, lw_okq q := List.forall_mem_cons.mpr ⟨lw_p48, List.forall_mem_cons.mpr ⟨lw_p49, List.forall_mem_cons.mpr ⟨lw_p50, List.forall_mem_cons.mpr ⟨lw_p51, List.forall_mem_cons.mpr ⟨lw_p52, List.forall_mem_cons.mpr ⟨lw_p53, List.forall_mem_cons.mpr ⟨lw_p54, List.forall_mem_cons.mpr ⟨lw_p55, List.forall_mem_cons.mpr ⟨lw_p56, List.forall_mem_cons.mpr ⟨lw_p57, List.forall_mem_cons.mpr ⟨lw_p58, List.forall_mem_cons.mpr ⟨lw_p59, List.forall_mem_cons.mpr ⟨lw_p60, List.forall_mem_cons.mpr ⟨lw_p61, List.forall_mem_cons.mpr ⟨lw_p62, List.forall_mem_cons.mpr ⟨lw_p63, fun _ h => absurd h List.not_mem_nil⟩⟩⟩⟩⟩⟩⟩⟩⟩⟩⟩⟩⟩⟩⟩⟩
theorem lw_p64 : lw_okq (⟨"DebtorsHouseModel", "tellsBy", "(II)I"⟩, 80) := ⟨⟨by decide +kernel, by decide +kernel⟩, lw_t6 (List.mem_of_getElem? (i := 108) rfl), lw_t8 (List.mem_of_getElem? (i := 66) rfl), lw_t8 (List.mem_of_getElem? (i := 67) rfl)⟩
theorem lw_p65 : lw_okq (⟨"DebtorsHouseModel", "holds", "(I)Z"⟩, 80) := ⟨⟨by decide +kernel, by decide +kernel⟩, lw_t6 (List.mem_of_getElem? (i := 108) rfl), lw_t8 (List.mem_of_getElem? (i := 70) rfl), lw_t8 (List.mem_of_getElem? (i := 71) rfl)⟩
theorem lw_p66 : lw_okq (⟨"DebtorsHouseModel", "owes", "(II)Z"⟩, 80) := ⟨⟨by decide +kernel, by decide +kernel⟩, lw_t6 (List.mem_of_getElem? (i := 108) rfl), lw_t8 (List.mem_of_getElem? (i := 85) rfl), lw_t8 (List.mem_of_getElem? (i := 86) rfl)⟩
theorem lw_p67 : lw_okq (⟨"DebtorsHouseModel", "tellsNow", "(II)I"⟩, 80) := ⟨⟨by decide +kernel, by decide +kernel⟩, lw_t6 (List.mem_of_getElem? (i := 108) rfl), lw_t8 (List.mem_of_getElem? (i := 89) rfl), lw_t8 (List.mem_of_getElem? (i := 90) rfl)⟩
theorem lw_p68 : lw_okq (⟨"DebtorsHouseModel", "goes", "(I)V"⟩, 80) := ⟨⟨by decide +kernel, by decide +kernel⟩, lw_t6 (List.mem_of_getElem? (i := 108) rfl), lw_t8 (List.mem_of_getElem? (i := 101) rfl), lw_t8 (List.mem_of_getElem? (i := 102) rfl)⟩
theorem lw_p69 : lw_okq (⟨"DebtorsHouseModel", "theTurn", "()I"⟩, 80) := ⟨⟨by decide +kernel, by decide +kernel⟩, lw_t6 (List.mem_of_getElem? (i := 108) rfl), lw_t8 (List.mem_of_getElem? (i := 121) rfl), lw_t8 (List.mem_of_getElem? (i := 122) rfl)⟩
theorem lw_p70 : lw_okq (⟨"DebtorsHouseModel", "dueFrom", "(I)I"⟩, 80) := ⟨⟨by decide +kernel, by decide +kernel⟩, lw_t6 (List.mem_of_getElem? (i := 108) rfl), lw_t8 (List.mem_of_getElem? (i := 137) rfl), lw_t8 (List.mem_of_getElem? (i := 138) rfl)⟩
theorem lw_p71 : lw_okq (⟨"DebtorsHouseModel", "dueTo", "(I)I"⟩, 80) := ⟨⟨by decide +kernel, by decide +kernel⟩, lw_t6 (List.mem_of_getElem? (i := 108) rfl), lw_t8 (List.mem_of_getElem? (i := 141) rfl), lw_t8 (List.mem_of_getElem? (i := 142) rfl)⟩
theorem lw_p72 : lw_okq (⟨"DebtorsHouseModel", "bindsNow", "(II)Z"⟩, 80) := ⟨⟨by decide +kernel, by decide +kernel⟩, lw_t6 (List.mem_of_getElem? (i := 108) rfl), lw_t8 (List.mem_of_getElem? (i := 153) rfl), lw_t8 (List.mem_of_getElem? (i := 154) rfl)⟩
theorem lw_p73 : lw_okq (⟨"DebtorsHouseModel", "asItIs", "(I)V"⟩, 80) := ⟨⟨by decide +kernel, by decide +kernel⟩, lw_t6 (List.mem_of_getElem? (i := 108) rfl), lw_t8 (List.mem_of_getElem? (i := 157) rfl), lw_t8 (List.mem_of_getElem? (i := 158) rfl)⟩
theorem lw_p74 : lw_okq (⟨"DebtorsHouseModel", "bindsSo", "(III)Z"⟩, 80) := ⟨⟨by decide +kernel, by decide +kernel⟩, lw_t6 (List.mem_of_getElem? (i := 108) rfl), lw_t8 (List.mem_of_getElem? (i := 161) rfl), lw_t8 (List.mem_of_getElem? (i := 162) rfl)⟩
theorem lw_p75 : lw_okq (⟨"DebtorsHouseModel", "part", "(I)I"⟩, 80) := ⟨⟨by decide +kernel, by decide +kernel⟩, lw_t6 (List.mem_of_getElem? (i := 108) rfl), lw_t8 (List.mem_of_getElem? (i := 187) rfl), lw_t8 (List.mem_of_getElem? (i := 188) rfl)⟩
theorem lw_p76 : lw_okq (⟨"DebtorsHouseModel", "partRank", "(II)V"⟩, 80) := ⟨⟨by decide +kernel, by decide +kernel⟩, lw_t6 (List.mem_of_getElem? (i := 108) rfl), lw_t8 (List.mem_of_getElem? (i := 191) rfl), lw_t8 (List.mem_of_getElem? (i := 192) rfl)⟩
theorem lw_p77 : lw_okq (⟨"DebtorsHouseModel", "lacks", "(III)I"⟩, 80) := ⟨⟨by decide +kernel, by decide +kernel⟩, lw_t6 (List.mem_of_getElem? (i := 108) rfl), lw_t8 (List.mem_of_getElem? (i := 210) rfl), lw_t8 (List.mem_of_getElem? (i := 211) rfl)⟩
theorem lw_p78 : lw_okq (⟨"DebtorsHouseModel", "copy", "(II)V"⟩, 80) := ⟨⟨by decide +kernel, by decide +kernel⟩, lw_t6 (List.mem_of_getElem? (i := 108) rfl), lw_t8 (List.mem_of_getElem? (i := 222) rfl), lw_t8 (List.mem_of_getElem? (i := 223) rfl)⟩
theorem lw_p79 : lw_okq (⟨"DebtorsHouseModel", "copyDebts", "(II)V"⟩, 80) := ⟨⟨by decide +kernel, by decide +kernel⟩, lw_t6 (List.mem_of_getElem? (i := 108) rfl), lw_t8 (List.mem_of_getElem? (i := 232) rfl), lw_t8 (List.mem_of_getElem? (i := 233) rfl)⟩
def lw_privs_5 : List (MethodName × Nat) := [(⟨"DebtorsHouseModel", "tellsBy", "(II)I"⟩, 80), (⟨"DebtorsHouseModel", "holds", "(I)Z"⟩, 80), (⟨"DebtorsHouseModel", "owes", "(II)Z"⟩, 80), (⟨"DebtorsHouseModel", "tellsNow", "(II)I"⟩, 80), (⟨"DebtorsHouseModel", "goes", "(I)V"⟩, 80), (⟨"DebtorsHouseModel", "theTurn", "()I"⟩, 80), (⟨"DebtorsHouseModel", "dueFrom", "(I)I"⟩, 80), (⟨"DebtorsHouseModel", "dueTo", "(I)I"⟩, 80), (⟨"DebtorsHouseModel", "bindsNow", "(II)Z"⟩, 80), (⟨"DebtorsHouseModel", "asItIs", "(I)V"⟩, 80), (⟨"DebtorsHouseModel", "bindsSo", "(III)Z"⟩, 80), (⟨"DebtorsHouseModel", "part", "(I)I"⟩, 80), (⟨"DebtorsHouseModel", "partRank", "(II)V"⟩, 80), (⟨"DebtorsHouseModel", "lacks", "(III)I"⟩, 80), (⟨"DebtorsHouseModel", "copy", "(II)V"⟩, 80), (⟨"DebtorsHouseModel", "copyDebts", "(II)V"⟩, 80)]
theorem lw_r5 : ∀ q ∈ lw_privs_5, lw_okq q := List.forall_mem_cons.mpr ⟨lw_p64, List.forall_mem_cons.mpr ⟨lw_p65, List.forall_mem_cons.mpr ⟨lw_p66, List.forall_mem_cons.mpr ⟨lw_p67, List.forall_mem_cons.mpr ⟨lw_p68, List.forall_mem_cons.mpr ⟨lw_p69, List.forall_mem_cons.mpr ⟨lw_p70, List.forall_mem_cons.mpr ⟨lw_p71, List.forall_mem_cons.mpr ⟨lw_p72, List.forall_mem_cons.mpr ⟨lw_p73, List.forall_mem_cons.mpr ⟨lw_p74, List.forall_mem_cons.mpr ⟨lw_p75, List.forall_mem_cons.mpr ⟨lw_p76, List.forall_mem_cons.mpr ⟨lw_p77, List.forall_mem_cons.mpr ⟨lw_p78, List.forall_mem_cons.mpr ⟨lw_p79, fun _ h => absurd h List.not_mem_nil⟩⟩⟩⟩⟩⟩⟩⟩⟩⟩⟩⟩⟩⟩⟩⟩
def lw_privs : List (MethodName × Nat) := lw_privs_1 ++ (lw_privs_2 ++ (lw_privs_3 ++ (lw_privs_4 ++ (lw_privs_5))))
def lw_tbl : List Cond := k2_sels lw_privs ++ tables_1
theorem lw_privs_ok : ∀ q ∈ lw_privs, lw_okq q := by
  show ∀ q ∈ lw_privs_1 ++ (lw_privs_2 ++ (lw_privs_3 ++ (lw_privs_4 ++ (lw_privs_5)))), lw_okq q
  exact List.forall_mem_append.mpr ⟨lw_r1, List.forall_mem_append.mpr ⟨lw_r2, List.forall_mem_append.mpr ⟨lw_r3, List.forall_mem_append.mpr ⟨lw_r4, lw_r5⟩⟩⟩⟩
-- ===== ONE list of words for every method: the tables' words that hold all through a run =====
def lw_all : List Cond := lw_tbl.filter goodWord
/-- a word of the tables by its place: claim/WORDS.tsv -/
theorem lw_w {w : Cond} (i : Nat) (h : lw_tbl[i]? = some w) (g : goodWord w = true) : w ∈ lw_all := List.mem_filter.mpr ⟨List.mem_of_getElem? h, g⟩
theorem lw_all_tbl {w : Cond} (h : w ∈ lw_all) : w ∈ lw_tbl := (List.mem_filter.mp h).1
theorem lw_self : GoodIn lw_all lw_all := fun w h => ⟨h, good_of_word (List.mem_filter.mp h).2⟩
/-- a class's field words, by their places -/
theorem lw_in (ws : List Cond) (ps : List Nat) (hp : ws = ps.filterMap (fun i => lw_tbl[i]?)) (hg : ws.all goodWord = true) : ∀ w ∈ ws, w ∈ lw_all := by
  intro w h
  have h1 := List.all_eq_true.mp hg w h
  rw [hp] at h
  obtain ⟨i, -, hi⟩ := List.mem_filterMap.mp h
  exact lw_w i hi h1
/-- the words of a contract for the method y with code b, L locals, answer r -/
abbrev ws_ (y : MethodName) (b : ByteArray) (L : Nat) (r : Option FieldType) : List Cond := Cond.code y b L r :: lw_all
theorem lw_meth {y : MethodName} {b : ByteArray} {L : Nat} {r : Option FieldType} (h : Cond.code y b L r ∈ lw_all) : GoodIn lw_all (ws_ y b L r) := by
  intro w hw
  rcases List.mem_cons.mp hw with e | e
  · rw [e]
    exact lw_self _ h
  · exact lw_self _ e
theorem lw_app {a c : List Cond} (ha : ∀ w ∈ a, w ∈ lw_all) (hc : GoodIn lw_all c) : GoodIn lw_all (a ++ c) := by
  intro w hw
  rcases List.mem_append.mp hw with e | e
  · exact lw_self w (ha w e)
  · exact hc w e
/-- what a call through an object asks: cwV n hts (lw_V ..) -/
theorem lw_V {own : String} {idx : Nat} {C : String} {y : MethodName} {b : ByteArray} {L : Nat} {r : Option FieldType} (h1 : Cond.methodLink own idx y ∈ lw_all) (h2 : Cond.instanceMethod y ∈ lw_all) (h3 : Cond.selects C y y ∈ lw_all) (h4 : Cond.initialized C ∈ lw_all) (h5 : Cond.code y b L r ∈ lw_all) : GoodIn lw_all (wsV own idx C y (ws_ y b L r)) := by
  refine lw_app ?_ (lw_meth h5)
  intro w hw
  simp only [List.mem_cons, List.not_mem_nil, or_false] at hw
  rcases hw with e | e | e | e
  · rw [e]; exact h1
  · rw [e]; exact h2
  · rw [e]; exact h3
  · rw [e]; exact h4
/-- what a static call asks: va_cwS n hts (lw_S ..) -/
theorem lw_S {own : String} {idx : Nat} {y : MethodName} {b : ByteArray} {L : Nat} {r : Option FieldType} (h1 : Cond.methodLink own idx y ∈ lw_all) (h2 : Cond.static y ∈ lw_all) (h3 : Cond.initialized y.cls ∈ lw_all) (h4 : Cond.code y b L r ∈ lw_all) : GoodIn lw_all (va_wsS own idx y (ws_ y b L r)) := by
  refine lw_app ?_ (lw_meth h4)
  intro w hw
  simp only [List.mem_cons, List.not_mem_nil, or_false] at hw
  rcases hw with e | e | e
  · rw [e]; exact h1
  · rw [e]; exact h2
  · rw [e]; exact h3
/-- the words of a contract for a method WITH HANDLERS (hh: its table) -/
abbrev wsW_ (y : MethodName) (b : ByteArray) (L : Nat) (r : Option FieldType) (hh : List (Nat × Nat × Nat × Nat)) : List Cond := Cond.codeWith y b L r hh :: lw_all
theorem lw_methW {y : MethodName} {b : ByteArray} {L : Nat} {r : Option FieldType} {hh : List (Nat × Nat × Nat × Nat)} (h : Cond.codeWith y b L r hh ∈ lw_all) : GoodIn lw_all (wsW_ y b L r hh) := by
  intro w hw
  rcases List.mem_cons.mp hw with e | e
  · rw [e]
    exact lw_self _ h
  · exact lw_self _ e
/-- any list of words by their places (lw_in), good -/
theorem lw_good {ws : List Cond} (h : ∀ w ∈ ws, w ∈ lw_all) : GoodIn lw_all ws := fun w hw => lw_self w (h w hw)
/-- what a call of a method with handlers asks: vx_cwVW n hts (lw_VW ..), vx_cwSW n hts (lw_SW ..) -/
theorem lw_VW {own : String} {idx : Nat} {C : String} {y : MethodName} {b : ByteArray} {L : Nat} {r : Option FieldType} {hh : List (Nat × Nat × Nat × Nat)} (h1 : Cond.methodLink own idx y ∈ lw_all) (h2 : Cond.instanceMethod y ∈ lw_all) (h3 : Cond.selects C y y ∈ lw_all) (h4 : Cond.initialized C ∈ lw_all) (h5 : Cond.codeWith y b L r hh ∈ lw_all) : GoodIn lw_all (wsV own idx C y (wsW_ y b L r hh)) := by
  refine lw_app ?_ (lw_methW h5)
  intro w hw
  simp only [List.mem_cons, List.not_mem_nil, or_false] at hw
  rcases hw with e | e | e | e
  · rw [e]; exact h1
  · rw [e]; exact h2
  · rw [e]; exact h3
  · rw [e]; exact h4
theorem lw_SW {own : String} {idx : Nat} {y : MethodName} {b : ByteArray} {L : Nat} {r : Option FieldType} {hh : List (Nat × Nat × Nat × Nat)} (h1 : Cond.methodLink own idx y ∈ lw_all) (h2 : Cond.static y ∈ lw_all) (h3 : Cond.initialized y.cls ∈ lw_all) (h4 : Cond.codeWith y b L r hh ∈ lw_all) : GoodIn lw_all (va_wsS own idx y (wsW_ y b L r hh)) := by
  refine lw_app ?_ (lw_methW h4)
  intro w hw
  simp only [List.mem_cons, List.not_mem_nil, or_false] at hw
  rcases hw with e | e | e
  · rw [e]; exact h1
  · rw [e]; exact h2
  · rw [e]; exact h3
/-- a word by its place in its run of the tables -/
theorem lw_at {r : List Cond} (hr : ∀ w ∈ r, w ∈ lw_tbl) {w : Cond} (i : Nat) (h : r[i]? = some w) : w ∈ lw_tbl := hr w (List.mem_of_getElem? h)
theorem lw_g {w : Cond} (h : w ∈ lw_tbl) (g : goodWord w = true) : w ∈ lw_all := List.mem_filter.mpr ⟨h, g⟩
theorem lw_ms : ∀ w ∈ k2_sels lw_privs, w ∈ lw_tbl := fun w h => show w ∈ k2_sels lw_privs ++ tables_1 from List.mem_append_left _ h
theorem lw_m1 : ∀ w ∈ tables_1_1, w ∈ lw_tbl := fun w h => show w ∈ k2_sels lw_privs ++ tables_1 from List.mem_append_right (k2_sels lw_privs) (show w ∈ tables_1 from List.mem_append_left _ h)
theorem lw_m2 : ∀ w ∈ tables_1_2, w ∈ lw_tbl := fun w h => show w ∈ k2_sels lw_privs ++ tables_1 from List.mem_append_right (k2_sels lw_privs) (show w ∈ tables_1 from List.mem_append_right _ (List.mem_append_left _ h))
theorem lw_m3 : ∀ w ∈ tables_1_3, w ∈ lw_tbl := fun w h => show w ∈ k2_sels lw_privs ++ tables_1 from List.mem_append_right (k2_sels lw_privs) (show w ∈ tables_1 from List.mem_append_right _ (List.mem_append_right _ (List.mem_append_left _ h)))
theorem lw_m4 : ∀ w ∈ tables_1_4, w ∈ lw_tbl := fun w h => show w ∈ k2_sels lw_privs ++ tables_1 from List.mem_append_right (k2_sels lw_privs) (show w ∈ tables_1 from List.mem_append_right _ (List.mem_append_right _ (List.mem_append_right _ (List.mem_append_left _ h))))
theorem lw_m5 : ∀ w ∈ tables_1_5, w ∈ lw_tbl := fun w h => show w ∈ k2_sels lw_privs ++ tables_1 from List.mem_append_right (k2_sels lw_privs) (show w ∈ tables_1 from List.mem_append_right _ (List.mem_append_right _ (List.mem_append_right _ (List.mem_append_right _ (List.mem_append_left _ h)))))
theorem lw_m6 : ∀ w ∈ tables_1_6, w ∈ lw_tbl := fun w h => show w ∈ k2_sels lw_privs ++ tables_1 from List.mem_append_right (k2_sels lw_privs) (show w ∈ tables_1 from List.mem_append_right _ (List.mem_append_right _ (List.mem_append_right _ (List.mem_append_right _ (List.mem_append_right _ (List.mem_append_left _ h))))))
theorem lw_m7 : ∀ w ∈ tables_1_7, w ∈ lw_tbl := fun w h => show w ∈ k2_sels lw_privs ++ tables_1 from List.mem_append_right (k2_sels lw_privs) (show w ∈ tables_1 from List.mem_append_right _ (List.mem_append_right _ (List.mem_append_right _ (List.mem_append_right _ (List.mem_append_right _ (List.mem_append_right _ (List.mem_append_left _ h)))))))
theorem lw_m8 : ∀ w ∈ tables_1_8, w ∈ lw_tbl := fun w h => show w ∈ k2_sels lw_privs ++ tables_1 from List.mem_append_right (k2_sels lw_privs) (show w ∈ tables_1 from List.mem_append_right _ (List.mem_append_right _ (List.mem_append_right _ (List.mem_append_right _ (List.mem_append_right _ (List.mem_append_right _ (List.mem_append_right _ (List.mem_append_left _ h))))))))
theorem lw_m9 : ∀ w ∈ tables_1_9, w ∈ lw_tbl := fun w h => show w ∈ k2_sels lw_privs ++ tables_1 from List.mem_append_right (k2_sels lw_privs) (show w ∈ tables_1 from List.mem_append_right _ (List.mem_append_right _ (List.mem_append_right _ (List.mem_append_right _ (List.mem_append_right _ (List.mem_append_right _ (List.mem_append_right _ (List.mem_append_right _ h))))))))
theorem qs0 : (Cond.selects "java/util/ArrayList" ⟨"java/util/ArrayList", "add", "(Ljava/lang/Object;[Ljava/lang/Object;I)V"⟩ ⟨"java/util/ArrayList", "add", "(Ljava/lang/Object;[Ljava/lang/Object;I)V"⟩) ∈ lw_all := lw_g (lw_at lw_ms 0 rfl) rfl
theorem qs1 : (Cond.selects "java/util/ArrayList" ⟨"java/util/ArrayList", "grow", "()[Ljava/lang/Object;"⟩ ⟨"java/util/ArrayList", "grow", "()[Ljava/lang/Object;"⟩) ∈ lw_all := lw_g (lw_at lw_ms 1 rfl) rfl
theorem qs2 : (Cond.selects "java/util/ArrayList" ⟨"java/util/ArrayList", "grow", "(I)[Ljava/lang/Object;"⟩ ⟨"java/util/ArrayList", "grow", "(I)[Ljava/lang/Object;"⟩) ∈ lw_all := lw_g (lw_at lw_ms 2 rfl) rfl
theorem qs3 : (Cond.selects "DebtorsHouse" ⟨"DebtorsHouse", "areTwo", "(II)Z"⟩ ⟨"DebtorsHouse", "areTwo", "(II)Z"⟩) ∈ lw_all := lw_g (lw_at lw_ms 3 rfl) rfl
theorem qs4 : (Cond.selects "DebtorsHouse" ⟨"DebtorsHouse", "isPerson", "(I)Z"⟩ ⟨"DebtorsHouse", "isPerson", "(I)Z"⟩) ∈ lw_all := lw_g (lw_at lw_ms 4 rfl) rfl
theorem qs5 : (Cond.selects "DebtorsHouse" ⟨"DebtorsHouse", "isLive", "(I)Z"⟩ ⟨"DebtorsHouse", "isLive", "(I)Z"⟩) ∈ lw_all := lw_g (lw_at lw_ms 5 rfl) rfl
theorem qs6 : (Cond.selects "DebtorsHouse" ⟨"DebtorsHouse", "debtAt", "(I)LDebtorsHouse$Debt;"⟩ ⟨"DebtorsHouse", "debtAt", "(I)LDebtorsHouse$Debt;"⟩) ∈ lw_all := lw_g (lw_at lw_ms 6 rfl) rfl
theorem qs7 : (Cond.selects "DebtorsHouse" ⟨"DebtorsHouse", "due", "(I)I"⟩ ⟨"DebtorsHouse", "due", "(I)I"⟩) ∈ lw_all := lw_g (lw_at lw_ms 7 rfl) rfl
theorem qs8 : (Cond.selects "DebtorsHouse" ⟨"DebtorsHouse", "at", "(I)LDebtorsHouse$Person;"⟩ ⟨"DebtorsHouse", "at", "(I)LDebtorsHouse$Person;"⟩) ∈ lw_all := lw_g (lw_at lw_ms 8 rfl) rfl
theorem qs9 : (Cond.selects "DebtorsHouse" ⟨"DebtorsHouse", "looks", "()V"⟩ ⟨"DebtorsHouse", "looks", "()V"⟩) ∈ lw_all := lw_g (lw_at lw_ms 9 rfl) rfl
theorem qs10 : (Cond.selects "DebtorsHouse" ⟨"DebtorsHouse", "creditorsOf", "(I)I"⟩ ⟨"DebtorsHouse", "creditorsOf", "(I)I"⟩) ∈ lw_all := lw_g (lw_at lw_ms 10 rfl) rfl
theorem qs11 : (Cond.selects "DebtorsHouse" ⟨"DebtorsHouse", "distances", "(I)V"⟩ ⟨"DebtorsHouse", "distances", "(I)V"⟩) ∈ lw_all := lw_g (lw_at lw_ms 11 rfl) rfl
theorem qs12 : (Cond.selects "DebtorsHouse$Reader" ⟨"DebtorsHouse$Reader", "step", "()V"⟩ ⟨"DebtorsHouse$Reader", "step", "()V"⟩) ∈ lw_all := lw_g (lw_at lw_ms 12 rfl) rfl
theorem qs13 : (Cond.selects "DebtorsHouse$Reader" ⟨"DebtorsHouse$Reader", "at", "(I)I"⟩ ⟨"DebtorsHouse$Reader", "at", "(I)I"⟩) ∈ lw_all := lw_g (lw_at lw_ms 13 rfl) rfl
theorem qs14 : (Cond.selects "DebtorsHouse$Reader" ⟨"DebtorsHouse$Reader", "line", "()V"⟩ ⟨"DebtorsHouse$Reader", "line", "()V"⟩) ∈ lw_all := lw_g (lw_at lw_ms 14 rfl) rfl
theorem qs15 : (Cond.selects "DebtorsHouse$Reader" ⟨"DebtorsHouse$Reader", "also", "(II)V"⟩ ⟨"DebtorsHouse$Reader", "also", "(II)V"⟩) ∈ lw_all := lw_g (lw_at lw_ms 15 rfl) rfl
theorem qs16 : (Cond.selects "java/lang/Throwable" ⟨"java/lang/Throwable", "fillInStackTrace", "(I)Ljava/lang/Throwable;"⟩ ⟨"java/lang/Throwable", "fillInStackTrace", "(I)Ljava/lang/Throwable;"⟩) ∈ lw_all := lw_g (lw_at lw_ms 16 rfl) rfl
theorem qs17 : (Cond.selects "DebtorsHouse$Reader" ⟨"DebtorsHouse$Reader", "topic", "()LDebtorsHouse$Topic;"⟩ ⟨"DebtorsHouse$Reader", "topic", "()LDebtorsHouse$Topic;"⟩) ∈ lw_all := lw_g (lw_at lw_ms 17 rfl) rfl
theorem qs18 : (Cond.selects "DebtorsHouse$Reader" ⟨"DebtorsHouse$Reader", "takes", "(Ljava/lang/String;)Z"⟩ ⟨"DebtorsHouse$Reader", "takes", "(Ljava/lang/String;)Z"⟩) ∈ lw_all := lw_g (lw_at lw_ms 18 rfl) rfl
theorem qs19 : (Cond.selects "DebtorsHouse$Reader" ⟨"DebtorsHouse$Reader", "wrong", "()LDebtorsHouse$Fault;"⟩ ⟨"DebtorsHouse$Reader", "wrong", "()LDebtorsHouse$Fault;"⟩) ∈ lw_all := lw_g (lw_at lw_ms 19 rfl) rfl
theorem qs20 : (Cond.selects "DebtorsHouse$Reader" ⟨"DebtorsHouse$Reader", "test", "()LDebtorsHouse$Test;"⟩ ⟨"DebtorsHouse$Reader", "test", "()LDebtorsHouse$Test;"⟩) ∈ lw_all := lw_g (lw_at lw_ms 20 rfl) rfl
theorem qs21 : (Cond.selects "DebtorsHouse$Reader" ⟨"DebtorsHouse$Reader", "isSign", "(I)Z"⟩ ⟨"DebtorsHouse$Reader", "isSign", "(I)Z"⟩) ∈ lw_all := lw_g (lw_at lw_ms 21 rfl) rfl
theorem qs22 : (Cond.selects "DebtorsHouse$Reader" ⟨"DebtorsHouse$Reader", "number", "()I"⟩ ⟨"DebtorsHouse$Reader", "number", "()I"⟩) ∈ lw_all := lw_g (lw_at lw_ms 22 rfl) rfl
theorem qs23 : (Cond.selects "DebtorsHouse$Reader" ⟨"DebtorsHouse$Reader", "must", "(I)V"⟩ ⟨"DebtorsHouse$Reader", "must", "(I)V"⟩) ∈ lw_all := lw_g (lw_at lw_ms 23 rfl) rfl
theorem qs24 : (Cond.selects "DebtorsHouse" ⟨"DebtorsHouse", "asks", "(LDebtorsHouse$Person;)V"⟩ ⟨"DebtorsHouse", "asks", "(LDebtorsHouse$Person;)V"⟩) ∈ lw_all := lw_g (lw_at lw_ms 24 rfl) rfl
theorem qs25 : (Cond.selects "DebtorsHouse" ⟨"DebtorsHouse", "asks", "(LDebtorsHouse$About;I)V"⟩ ⟨"DebtorsHouse", "asks", "(LDebtorsHouse$About;I)V"⟩) ∈ lw_all := lw_g (lw_at lw_ms 25 rfl) rfl
theorem qs26 : (Cond.selects "DebtorsHouse" ⟨"DebtorsHouse", "tells", "(LDebtorsHouse$Topic;I)I"⟩ ⟨"DebtorsHouse", "tells", "(LDebtorsHouse$Topic;I)I"⟩) ∈ lw_all := lw_g (lw_at lw_ms 26 rfl) rfl
theorem qs27 : (Cond.selects "DebtorsHouse" ⟨"DebtorsHouse", "tells", "(LDebtorsHouse$Person;LDebtorsHouse$Topic;)I"⟩ ⟨"DebtorsHouse", "tells", "(LDebtorsHouse$Person;LDebtorsHouse$Topic;)I"⟩) ∈ lw_all := lw_g (lw_at lw_ms 27 rfl) rfl
theorem qs28 : (Cond.selects "DebtorsHouse" ⟨"DebtorsHouse", "isHeld", "(I)Z"⟩ ⟨"DebtorsHouse", "isHeld", "(I)Z"⟩) ∈ lw_all := lw_g (lw_at lw_ms 28 rfl) rfl
theorem qs29 : (Cond.selects "DebtorsHouse" ⟨"DebtorsHouse", "owedBy", "(I)I"⟩ ⟨"DebtorsHouse", "owedBy", "(I)I"⟩) ∈ lw_all := lw_g (lw_at lw_ms 29 rfl) rfl
theorem qs30 : (Cond.selects "DebtorsHouse" ⟨"DebtorsHouse", "owedTo", "(I)I"⟩ ⟨"DebtorsHouse", "owedTo", "(I)I"⟩) ∈ lw_all := lw_g (lw_at lw_ms 30 rfl) rfl
theorem qs31 : (Cond.selects "DebtorsHouse" ⟨"DebtorsHouse", "binds0", "(II)Z"⟩ ⟨"DebtorsHouse", "binds0", "(II)Z"⟩) ∈ lw_all := lw_g (lw_at lw_ms 31 rfl) rfl
theorem qs32 : (Cond.selects "DebtorsHouse" ⟨"DebtorsHouse", "binds", "(IIIJZII)Z"⟩ ⟨"DebtorsHouse", "binds", "(IIIJZII)Z"⟩) ∈ lw_all := lw_g (lw_at lw_ms 32 rfl) rfl
theorem qs33 : (Cond.selects "DebtorsHouse" ⟨"DebtorsHouse", "parts", "(I)I"⟩ ⟨"DebtorsHouse", "parts", "(I)I"⟩) ∈ lw_all := lw_g (lw_at lw_ms 33 rfl) rfl
theorem qs34 : (Cond.selects "DebtorsHouse" ⟨"DebtorsHouse", "shares", "(IIJ)V"⟩ ⟨"DebtorsHouse", "shares", "(IIJ)V"⟩) ∈ lw_all := lw_g (lw_at lw_ms 34 rfl) rfl
theorem qs35 : (Cond.selects "DebtorsHouse" ⟨"DebtorsHouse", "rows", "()I"⟩ ⟨"DebtorsHouse", "rows", "()I"⟩) ∈ lw_all := lw_g (lw_at lw_ms 35 rfl) rfl
theorem qs36 : (Cond.selects "DebtorsHouse" ⟨"DebtorsHouse", "lacks", "(II)J"⟩ ⟨"DebtorsHouse", "lacks", "(II)J"⟩) ∈ lw_all := lw_g (lw_at lw_ms 36 rfl) rfl
theorem qs37 : (Cond.selects "DebtorsHouse" ⟨"DebtorsHouse", "dueTo", "(II)I"⟩ ⟨"DebtorsHouse", "dueTo", "(II)I"⟩) ∈ lw_all := lw_g (lw_at lw_ms 37 rfl) rfl
theorem qs38 : (Cond.selects "DebtorsHouseModel" ⟨"DebtorsHouseModel", "areTwo", "(II)Z"⟩ ⟨"DebtorsHouseModel", "areTwo", "(II)Z"⟩) ∈ lw_all := lw_g (lw_at lw_ms 38 rfl) rfl
theorem qs39 : (Cond.selects "DebtorsHouseModel" ⟨"DebtorsHouseModel", "isPerson", "(I)Z"⟩ ⟨"DebtorsHouseModel", "isPerson", "(I)Z"⟩) ∈ lw_all := lw_g (lw_at lw_ms 39 rfl) rfl
theorem qs40 : (Cond.selects "DebtorsHouseModel" ⟨"DebtorsHouseModel", "isLive", "(I)Z"⟩ ⟨"DebtorsHouseModel", "isLive", "(I)Z"⟩) ∈ lw_all := lw_g (lw_at lw_ms 40 rfl) rfl
theorem qs41 : (Cond.selects "DebtorsHouseModel" ⟨"DebtorsHouseModel", "isDebt", "(I)Z"⟩ ⟨"DebtorsHouseModel", "isDebt", "(I)Z"⟩) ∈ lw_all := lw_g (lw_at lw_ms 41 rfl) rfl
theorem qs42 : (Cond.selects "DebtorsHouseModel" ⟨"DebtorsHouseModel", "dueOf", "(I)I"⟩ ⟨"DebtorsHouseModel", "dueOf", "(I)I"⟩) ∈ lw_all := lw_g (lw_at lw_ms 42 rfl) rfl
theorem qs43 : (Cond.selects "DebtorsHouseModel" ⟨"DebtorsHouseModel", "interestOf", "(I)I"⟩ ⟨"DebtorsHouseModel", "interestOf", "(I)I"⟩) ∈ lw_all := lw_g (lw_at lw_ms 43 rfl) rfl
theorem qs44 : (Cond.selects "DebtorsHouseModel" ⟨"DebtorsHouseModel", "takeOff", "(II)V"⟩ ⟨"DebtorsHouseModel", "takeOff", "(II)V"⟩) ∈ lw_all := lw_g (lw_at lw_ms 44 rfl) rfl
theorem qs45 : (Cond.selects "DebtorsHouseModel" ⟨"DebtorsHouseModel", "ends", "(II)V"⟩ ⟨"DebtorsHouseModel", "ends", "(II)V"⟩) ∈ lw_all := lw_g (lw_at lw_ms 45 rfl) rfl
theorem qs46 : (Cond.selects "DebtorsHouseModel" ⟨"DebtorsHouseModel", "letGo", "()V"⟩ ⟨"DebtorsHouseModel", "letGo", "()V"⟩) ∈ lw_all := lw_g (lw_at lw_ms 46 rfl) rfl
theorem qs47 : (Cond.selects "DebtorsHouseModel" ⟨"DebtorsHouseModel", "findTheRing", "()Z"⟩ ⟨"DebtorsHouseModel", "findTheRing", "()Z"⟩) ∈ lw_all := lw_g (lw_at lw_ms 47 rfl) rfl
theorem qs48 : (Cond.selects "DebtorsHouseModel" ⟨"DebtorsHouseModel", "findRing", "(II)Z"⟩ ⟨"DebtorsHouseModel", "findRing", "(II)Z"⟩) ∈ lw_all := lw_g (lw_at lw_ms 48 rfl) rfl
theorem qs49 : (Cond.selects "DebtorsHouseModel" ⟨"DebtorsHouseModel", "goesOn", "(III)Z"⟩ ⟨"DebtorsHouseModel", "goesOn", "(III)Z"⟩) ∈ lw_all := lw_g (lw_at lw_ms 49 rfl) rfl
theorem qs50 : (Cond.selects "DebtorsHouseModel" ⟨"DebtorsHouseModel", "four", "(I)V"⟩ ⟨"DebtorsHouseModel", "four", "(I)V"⟩) ∈ lw_all := lw_g (lw_at lw_ms 50 rfl) rfl
theorem qs51 : (Cond.selects "DebtorsHouseModel" ⟨"DebtorsHouseModel", "next", "()V"⟩ ⟨"DebtorsHouseModel", "next", "()V"⟩) ∈ lw_all := lw_g (lw_at lw_ms 51 rfl) rfl
theorem qs52 : (Cond.selects "DebtorsHouseModel" ⟨"DebtorsHouseModel", "see", "()I"⟩ ⟨"DebtorsHouseModel", "see", "()I"⟩) ∈ lw_all := lw_g (lw_at lw_ms 52 rfl) rfl
theorem qs53 : (Cond.selects "DebtorsHouseModel" ⟨"DebtorsHouseModel", "oneLine", "()Z"⟩ ⟨"DebtorsHouseModel", "oneLine", "()Z"⟩) ∈ lw_all := lw_g (lw_at lw_ms 53 rfl) rfl
theorem qs54 : (Cond.selects "DebtorsHouseModel" ⟨"DebtorsHouseModel", "later", "(II)V"⟩ ⟨"DebtorsHouseModel", "later", "(II)V"⟩) ∈ lw_all := lw_g (lw_at lw_ms 54 rfl) rfl
theorem qs55 : (Cond.selects "DebtorsHouseModel" ⟨"DebtorsHouseModel", "topicWord", "()I"⟩ ⟨"DebtorsHouseModel", "topicWord", "()I"⟩) ∈ lw_all := lw_g (lw_at lw_ms 55 rfl) rfl
theorem qs56 : (Cond.selects "DebtorsHouseModel" ⟨"DebtorsHouseModel", "isWord", "(J)Z"⟩ ⟨"DebtorsHouseModel", "isWord", "(J)Z"⟩) ∈ lw_all := lw_g (lw_at lw_ms 56 rfl) rfl
theorem qs57 : (Cond.selects "DebtorsHouseModel" ⟨"DebtorsHouseModel", "wrong", "()Z"⟩ ⟨"DebtorsHouseModel", "wrong", "()Z"⟩) ∈ lw_all := lw_g (lw_at lw_ms 57 rfl) rfl
theorem qs58 : (Cond.selects "DebtorsHouseModel" ⟨"DebtorsHouseModel", "test", "(II)Z"⟩ ⟨"DebtorsHouseModel", "test", "(II)Z"⟩) ∈ lw_all := lw_g (lw_at lw_ms 58 rfl) rfl
theorem qs59 : (Cond.selects "DebtorsHouseModel" ⟨"DebtorsHouseModel", "testWord", "()I"⟩ ⟨"DebtorsHouseModel", "testWord", "()I"⟩) ∈ lw_all := lw_g (lw_at lw_ms 59 rfl) rfl
theorem qs60 : (Cond.selects "DebtorsHouseModel" ⟨"DebtorsHouseModel", "need", "(I)Z"⟩ ⟨"DebtorsHouseModel", "need", "(I)Z"⟩) ∈ lw_all := lw_g (lw_at lw_ms 60 rfl) rfl
theorem qs61 : (Cond.selects "DebtorsHouseModel" ⟨"DebtorsHouseModel", "isSign", "(I)Z"⟩ ⟨"DebtorsHouseModel", "isSign", "(I)Z"⟩) ∈ lw_all := lw_g (lw_at lw_ms 61 rfl) rfl
theorem qs62 : (Cond.selects "DebtorsHouseModel" ⟨"DebtorsHouseModel", "goodOn", "(II)I"⟩ ⟨"DebtorsHouseModel", "goodOn", "(II)I"⟩) ∈ lw_all := lw_g (lw_at lw_ms 62 rfl) rfl
theorem qs63 : (Cond.selects "DebtorsHouseModel" ⟨"DebtorsHouseModel", "lookAt", "(I)V"⟩ ⟨"DebtorsHouseModel", "lookAt", "(I)V"⟩) ∈ lw_all := lw_g (lw_at lw_ms 63 rfl) rfl
theorem qs64 : (Cond.selects "DebtorsHouseModel" ⟨"DebtorsHouseModel", "tellsBy", "(II)I"⟩ ⟨"DebtorsHouseModel", "tellsBy", "(II)I"⟩) ∈ lw_all := lw_g (lw_at lw_ms 64 rfl) rfl
theorem qs65 : (Cond.selects "DebtorsHouseModel" ⟨"DebtorsHouseModel", "holds", "(I)Z"⟩ ⟨"DebtorsHouseModel", "holds", "(I)Z"⟩) ∈ lw_all := lw_g (lw_at lw_ms 65 rfl) rfl
theorem qs66 : (Cond.selects "DebtorsHouseModel" ⟨"DebtorsHouseModel", "owes", "(II)Z"⟩ ⟨"DebtorsHouseModel", "owes", "(II)Z"⟩) ∈ lw_all := lw_g (lw_at lw_ms 66 rfl) rfl
theorem qs67 : (Cond.selects "DebtorsHouseModel" ⟨"DebtorsHouseModel", "tellsNow", "(II)I"⟩ ⟨"DebtorsHouseModel", "tellsNow", "(II)I"⟩) ∈ lw_all := lw_g (lw_at lw_ms 67 rfl) rfl
theorem qs68 : (Cond.selects "DebtorsHouseModel" ⟨"DebtorsHouseModel", "goes", "(I)V"⟩ ⟨"DebtorsHouseModel", "goes", "(I)V"⟩) ∈ lw_all := lw_g (lw_at lw_ms 68 rfl) rfl
theorem qs69 : (Cond.selects "DebtorsHouseModel" ⟨"DebtorsHouseModel", "theTurn", "()I"⟩ ⟨"DebtorsHouseModel", "theTurn", "()I"⟩) ∈ lw_all := lw_g (lw_at lw_ms 69 rfl) rfl
theorem qs70 : (Cond.selects "DebtorsHouseModel" ⟨"DebtorsHouseModel", "dueFrom", "(I)I"⟩ ⟨"DebtorsHouseModel", "dueFrom", "(I)I"⟩) ∈ lw_all := lw_g (lw_at lw_ms 70 rfl) rfl
theorem qs71 : (Cond.selects "DebtorsHouseModel" ⟨"DebtorsHouseModel", "dueTo", "(I)I"⟩ ⟨"DebtorsHouseModel", "dueTo", "(I)I"⟩) ∈ lw_all := lw_g (lw_at lw_ms 71 rfl) rfl
theorem qs72 : (Cond.selects "DebtorsHouseModel" ⟨"DebtorsHouseModel", "bindsNow", "(II)Z"⟩ ⟨"DebtorsHouseModel", "bindsNow", "(II)Z"⟩) ∈ lw_all := lw_g (lw_at lw_ms 72 rfl) rfl
theorem qs73 : (Cond.selects "DebtorsHouseModel" ⟨"DebtorsHouseModel", "asItIs", "(I)V"⟩ ⟨"DebtorsHouseModel", "asItIs", "(I)V"⟩) ∈ lw_all := lw_g (lw_at lw_ms 73 rfl) rfl
theorem qs74 : (Cond.selects "DebtorsHouseModel" ⟨"DebtorsHouseModel", "bindsSo", "(III)Z"⟩ ⟨"DebtorsHouseModel", "bindsSo", "(III)Z"⟩) ∈ lw_all := lw_g (lw_at lw_ms 74 rfl) rfl
theorem qs75 : (Cond.selects "DebtorsHouseModel" ⟨"DebtorsHouseModel", "part", "(I)I"⟩ ⟨"DebtorsHouseModel", "part", "(I)I"⟩) ∈ lw_all := lw_g (lw_at lw_ms 75 rfl) rfl
theorem qs76 : (Cond.selects "DebtorsHouseModel" ⟨"DebtorsHouseModel", "partRank", "(II)V"⟩ ⟨"DebtorsHouseModel", "partRank", "(II)V"⟩) ∈ lw_all := lw_g (lw_at lw_ms 76 rfl) rfl
theorem qs77 : (Cond.selects "DebtorsHouseModel" ⟨"DebtorsHouseModel", "lacks", "(III)I"⟩ ⟨"DebtorsHouseModel", "lacks", "(III)I"⟩) ∈ lw_all := lw_g (lw_at lw_ms 77 rfl) rfl
theorem qs78 : (Cond.selects "DebtorsHouseModel" ⟨"DebtorsHouseModel", "copy", "(II)V"⟩ ⟨"DebtorsHouseModel", "copy", "(II)V"⟩) ∈ lw_all := lw_g (lw_at lw_ms 78 rfl) rfl
theorem qs79 : (Cond.selects "DebtorsHouseModel" ⟨"DebtorsHouseModel", "copyDebts", "(II)V"⟩ ⟨"DebtorsHouseModel", "copyDebts", "(II)V"⟩) ∈ lw_all := lw_g (lw_at lw_ms 79 rfl) rfl
