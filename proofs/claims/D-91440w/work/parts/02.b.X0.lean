/-! DebtorsHouse -/
set_option maxRecDepth 100000
def RX0 : String := "DebtorsHouse"
def TX0 : u_T := fun k => match k with
  | 0 => ("DebtorsHouse", "now", "LDebtorsHouse$State;", true)
  | 1 => ("DebtorsHouse", "kept", "[LDebtorsHouse$State;", true)
  | 2 => ("DebtorsHouse", "facts", "[I", true)
  | 3 => ("DebtorsHouse", "far", "[I", true)
  | 4 => ("DebtorsHouse", "worth", "[J", true)
  | 5 => ("DebtorsHouse", "votes", "[Z", true)
  | 6 => ("DebtorsHouse", "asks", "[I", true)
  | 7 => ("DebtorsHouse", "gets", "[I", true)
  | 8 => ("DebtorsHouse", "spent", "[J", true)
  | _ => ("DebtorsHouse", "held", "[I", true)
def tyX0 : Nat → FieldType := fun k => match k with
  | 0 => .object "DebtorsHouse$State"
  | 1 => .array (.object "DebtorsHouse$State")
  | 2 => .array .int
  | 3 => .array .int
  | 4 => .array .long
  | 5 => .array .boolean
  | 6 => .array .int
  | 7 => .array .int
  | 8 => .array .long
  | _ => .array .int
abbrev wsX00 : List Cond := u_ws RX0 TX0 10
theorem nmX0 : ∀ a, a < 10 → ∀ b, b < 10 → a ≠ b → (TX0 a).2.1 ≠ (TX0 b).2.1 := by decide +kernel
theorem tyX0_ok : ∀ k, k < 10 → parseFieldDescriptor (TX0 k).2.2.1 = some (tyX0 k) := by decide +kernel
abbrev cX0_init : ByteArray := prog_1_method_2_code
def yX0_init : MethodName := ⟨RX0, "<init>", "()V"⟩
theorem dX0_init_0 : decode cX0_init 0 = .ok (.aload_n 0, 1) := by decide +kernel
theorem dX0_init_1 : decode cX0_init 1 = .ok (.invokespecial 1, 3) := by decide +kernel
theorem dX0_init_4 : decode cX0_init 4 = .ok (.aload_n 0, 1) := by decide +kernel
theorem dX0_init_5 : decode cX0_init 5 = .ok (.new 7, 3) := by decide +kernel
theorem dX0_init_8 : decode cX0_init 8 = .ok (.dup, 1) := by decide +kernel
theorem dX0_init_9 : decode cX0_init 9 = .ok (.invokespecial 9, 3) := by decide +kernel
theorem dX0_init_12 : decode cX0_init 12 = .ok (.putfield 10, 3) := by decide +kernel
theorem dX0_init_15 : decode cX0_init 15 = .ok (.aload_n 0, 1) := by decide +kernel
theorem dX0_init_16 : decode cX0_init 16 = .ok (.iconst 3, 1) := by decide +kernel
theorem dX0_init_17 : decode cX0_init 17 = .ok (.anewarray 7, 3) := by decide +kernel
theorem dX0_init_20 : decode cX0_init 20 = .ok (.putfield 16, 3) := by decide +kernel
theorem dX0_init_23 : decode cX0_init 23 = .ok (.aload_n 0, 1) := by decide +kernel
theorem dX0_init_24 : decode cX0_init 24 = .ok (.getstatic 20, 3) := by decide +kernel
theorem dX0_init_27 : decode cX0_init 27 = .ok (.arraylength, 1) := by decide +kernel
theorem dX0_init_28 : decode cX0_init 28 = .ok (.newarray .int, 2) := by decide +kernel
theorem dX0_init_30 : decode cX0_init 30 = .ok (.putfield 24, 3) := by decide +kernel
theorem dX0_init_33 : decode cX0_init 33 = .ok (.aload_n 0, 1) := by decide +kernel
theorem dX0_init_34 : decode cX0_init 34 = .ok (.bipush 12, 2) := by decide +kernel
theorem dX0_init_36 : decode cX0_init 36 = .ok (.newarray .int, 2) := by decide +kernel
theorem dX0_init_38 : decode cX0_init 38 = .ok (.putfield 28, 3) := by decide +kernel
theorem dX0_init_41 : decode cX0_init 41 = .ok (.aload_n 0, 1) := by decide +kernel
theorem dX0_init_42 : decode cX0_init 42 = .ok (.bipush 12, 2) := by decide +kernel
theorem dX0_init_44 : decode cX0_init 44 = .ok (.newarray .long, 2) := by decide +kernel
theorem dX0_init_46 : decode cX0_init 46 = .ok (.putfield 31, 3) := by decide +kernel
theorem dX0_init_49 : decode cX0_init 49 = .ok (.aload_n 0, 1) := by decide +kernel
theorem dX0_init_50 : decode cX0_init 50 = .ok (.bipush 12, 2) := by decide +kernel
theorem dX0_init_52 : decode cX0_init 52 = .ok (.newarray .boolean, 2) := by decide +kernel
theorem dX0_init_54 : decode cX0_init 54 = .ok (.putfield 35, 3) := by decide +kernel
theorem dX0_init_57 : decode cX0_init 57 = .ok (.aload_n 0, 1) := by decide +kernel
theorem dX0_init_58 : decode cX0_init 58 = .ok (.bipush 40, 2) := by decide +kernel
theorem dX0_init_60 : decode cX0_init 60 = .ok (.newarray .int, 2) := by decide +kernel
theorem dX0_init_62 : decode cX0_init 62 = .ok (.putfield 39, 3) := by decide +kernel
theorem dX0_init_65 : decode cX0_init 65 = .ok (.aload_n 0, 1) := by decide +kernel
theorem dX0_init_66 : decode cX0_init 66 = .ok (.bipush 40, 2) := by decide +kernel
theorem dX0_init_68 : decode cX0_init 68 = .ok (.newarray .int, 2) := by decide +kernel
theorem dX0_init_70 : decode cX0_init 70 = .ok (.putfield 42, 3) := by decide +kernel
theorem dX0_init_73 : decode cX0_init 73 = .ok (.aload_n 0, 1) := by decide +kernel
theorem dX0_init_74 : decode cX0_init 74 = .ok (.sipush 256, 3) := by decide +kernel
theorem dX0_init_77 : decode cX0_init 77 = .ok (.newarray .long, 2) := by decide +kernel
theorem dX0_init_79 : decode cX0_init 79 = .ok (.putfield 45, 3) := by decide +kernel
theorem dX0_init_82 : decode cX0_init 82 = .ok (.aload_n 0, 1) := by decide +kernel
theorem dX0_init_83 : decode cX0_init 83 = .ok (.bipush 8, 2) := by decide +kernel
theorem dX0_init_85 : decode cX0_init 85 = .ok (.newarray .int, 2) := by decide +kernel
theorem dX0_init_87 : decode cX0_init 87 = .ok (.putfield 48, 3) := by decide +kernel
theorem dX0_init_90 : decode cX0_init 90 = .ok (.return_, 1) := by decide +kernel
abbrev cX0_person : ByteArray := prog_1_method_9_code
def yX0_person : MethodName := ⟨RX0, "person", "(II)I"⟩
theorem dX0_person_0 : decode cX0_person 0 = .ok (.aload_n 0, 1) := by decide +kernel
theorem dX0_person_1 : decode cX0_person 1 = .ok (.getfield 10, 3) := by decide +kernel
theorem dX0_person_4 : decode cX0_person 4 = .ok (.getfield 51, 3) := by decide +kernel
theorem dX0_person_7 : decode cX0_person 7 = .ok (.invokevirtual 68, 3) := by decide +kernel
theorem dX0_person_10 : decode cX0_person 10 = .ok (.bipush 12, 2) := by decide +kernel
theorem dX0_person_12 : decode cX0_person 12 = .ok (.if_icmp .eq 23, 3) := by decide +kernel
theorem dX0_person_15 : decode cX0_person 15 = .ok (.iload_n 1, 1) := by decide +kernel
theorem dX0_person_16 : decode cX0_person 16 = .ok (.iconst 0, 1) := by decide +kernel
theorem dX0_person_17 : decode cX0_person 17 = .ok (.ldc 96, 2) := by decide +kernel
theorem dX0_person_19 : decode cX0_person 19 = .ok (.invokestatic 72, 3) := by decide +kernel
theorem dX0_person_22 : decode cX0_person 22 = .ok (.ifCond .eq 13, 3) := by decide +kernel
theorem dX0_person_25 : decode cX0_person 25 = .ok (.iload_n 2, 1) := by decide +kernel
theorem dX0_person_26 : decode cX0_person 26 = .ok (.iconst 0, 1) := by decide +kernel
theorem dX0_person_27 : decode cX0_person 27 = .ok (.bipush 9, 2) := by decide +kernel
theorem dX0_person_29 : decode cX0_person 29 = .ok (.invokestatic 72, 3) := by decide +kernel
theorem dX0_person_32 : decode cX0_person 32 = .ok (.ifCond .ne 5, 3) := by decide +kernel
theorem dX0_person_35 : decode cX0_person 35 = .ok (.iconst (-1), 1) := by decide +kernel
theorem dX0_person_36 : decode cX0_person 36 = .ok (.ireturn, 1) := by decide +kernel
theorem dX0_person_37 : decode cX0_person 37 = .ok (.aload_n 0, 1) := by decide +kernel
theorem dX0_person_38 : decode cX0_person 38 = .ok (.getfield 10, 3) := by decide +kernel
theorem dX0_person_41 : decode cX0_person 41 = .ok (.getfield 51, 3) := by decide +kernel
theorem dX0_person_44 : decode cX0_person 44 = .ok (.new 61, 3) := by decide +kernel
theorem dX0_person_47 : decode cX0_person 47 = .ok (.dup, 1) := by decide +kernel
theorem dX0_person_48 : decode cX0_person 48 = .ok (.aload_n 0, 1) := by decide +kernel
theorem dX0_person_49 : decode cX0_person 49 = .ok (.getfield 10, 3) := by decide +kernel
theorem dX0_person_52 : decode cX0_person 52 = .ok (.getfield 51, 3) := by decide +kernel
theorem dX0_person_55 : decode cX0_person 55 = .ok (.invokevirtual 68, 3) := by decide +kernel
theorem dX0_person_58 : decode cX0_person 58 = .ok (.iload_n 1, 1) := by decide +kernel
theorem dX0_person_59 : decode cX0_person 59 = .ok (.iload_n 2, 1) := by decide +kernel
theorem dX0_person_60 : decode cX0_person 60 = .ok (.invokespecial 97, 3) := by decide +kernel
theorem dX0_person_63 : decode cX0_person 63 = .ok (.invokevirtual 100, 3) := by decide +kernel
theorem dX0_person_66 : decode cX0_person 66 = .ok (.pop, 1) := by decide +kernel
theorem dX0_person_67 : decode cX0_person 67 = .ok (.aload_n 0, 1) := by decide +kernel
theorem dX0_person_68 : decode cX0_person 68 = .ok (.getfield 10, 3) := by decide +kernel
theorem dX0_person_71 : decode cX0_person 71 = .ok (.getfield 51, 3) := by decide +kernel
theorem dX0_person_74 : decode cX0_person 74 = .ok (.invokevirtual 68, 3) := by decide +kernel
theorem dX0_person_77 : decode cX0_person 77 = .ok (.iconst 1, 1) := by decide +kernel
theorem dX0_person_78 : decode cX0_person 78 = .ok (.isub, 1) := by decide +kernel
theorem dX0_person_79 : decode cX0_person 79 = .ok (.ireturn, 1) := by decide +kernel
abbrev cX0_isIn : ByteArray := prog_1_method_1_code
def yX0_isIn : MethodName := ⟨RX0, "isIn", "(III)Z"⟩
theorem dX0_isIn_0 : decode cX0_isIn 0 = .ok (.iload_n 0, 1) := by decide +kernel
theorem dX0_isIn_1 : decode cX0_isIn 1 = .ok (.iload_n 1, 1) := by decide +kernel
theorem dX0_isIn_2 : decode cX0_isIn 2 = .ok (.if_icmp .lt 12, 3) := by decide +kernel
theorem dX0_isIn_5 : decode cX0_isIn 5 = .ok (.iload_n 0, 1) := by decide +kernel
theorem dX0_isIn_6 : decode cX0_isIn 6 = .ok (.iload_n 2, 1) := by decide +kernel
theorem dX0_isIn_7 : decode cX0_isIn 7 = .ok (.if_icmp .gt 7, 3) := by decide +kernel
theorem dX0_isIn_10 : decode cX0_isIn 10 = .ok (.iconst 1, 1) := by decide +kernel
theorem dX0_isIn_11 : decode cX0_isIn 11 = .ok (.goto 4, 3) := by decide +kernel
theorem dX0_isIn_14 : decode cX0_isIn 14 = .ok (.iconst 0, 1) := by decide +kernel
theorem dX0_isIn_15 : decode cX0_isIn 15 = .ok (.ireturn, 1) := by decide +kernel
abbrev cX0_debt : ByteArray := prog_1_method_10_code
def yX0_debt : MethodName := ⟨RX0, "debt", "(IIIIII)I"⟩
theorem dX0_debt_0 : decode cX0_debt 0 = .ok (.aload_n 0, 1) := by decide +kernel
theorem dX0_debt_1 : decode cX0_debt 1 = .ok (.getfield 10, 3) := by decide +kernel
theorem dX0_debt_4 : decode cX0_debt 4 = .ok (.getfield 63, 3) := by decide +kernel
theorem dX0_debt_7 : decode cX0_debt 7 = .ok (.invokevirtual 68, 3) := by decide +kernel
theorem dX0_debt_10 : decode cX0_debt 10 = .ok (.bipush 40, 2) := by decide +kernel
theorem dX0_debt_12 : decode cX0_debt 12 = .ok (.if_icmp .eq 60, 3) := by decide +kernel
theorem dX0_debt_15 : decode cX0_debt 15 = .ok (.aload_n 0, 1) := by decide +kernel
theorem dX0_debt_16 : decode cX0_debt 16 = .ok (.iload_n 1, 1) := by decide +kernel
theorem dX0_debt_17 : decode cX0_debt 17 = .ok (.iload_n 2, 1) := by decide +kernel
theorem dX0_debt_18 : decode cX0_debt 18 = .ok (.invokevirtual 104, 3) := by decide +kernel
theorem dX0_debt_21 : decode cX0_debt 21 = .ok (.ifCond .eq 51, 3) := by decide +kernel
theorem dX0_debt_24 : decode cX0_debt 24 = .ok (.iload_n 3, 1) := by decide +kernel
theorem dX0_debt_25 : decode cX0_debt 25 = .ok (.iconst 1, 1) := by decide +kernel
theorem dX0_debt_26 : decode cX0_debt 26 = .ok (.ldc 108, 2) := by decide +kernel
theorem dX0_debt_28 : decode cX0_debt 28 = .ok (.invokestatic 72, 3) := by decide +kernel
theorem dX0_debt_31 : decode cX0_debt 31 = .ok (.ifCond .eq 41, 3) := by decide +kernel
theorem dX0_debt_34 : decode cX0_debt 34 = .ok (.iload 4, 2) := by decide +kernel
theorem dX0_debt_36 : decode cX0_debt 36 = .ok (.iconst 0, 1) := by decide +kernel
theorem dX0_debt_37 : decode cX0_debt 37 = .ok (.iconst 3, 1) := by decide +kernel
theorem dX0_debt_38 : decode cX0_debt 38 = .ok (.invokestatic 72, 3) := by decide +kernel
theorem dX0_debt_41 : decode cX0_debt 41 = .ok (.ifCond .eq 31, 3) := by decide +kernel
theorem dX0_debt_44 : decode cX0_debt 44 = .ok (.iload 5, 2) := by decide +kernel
theorem dX0_debt_46 : decode cX0_debt 46 = .ok (.iconst 0, 1) := by decide +kernel
theorem dX0_debt_47 : decode cX0_debt 47 = .ok (.sipush 200, 3) := by decide +kernel
theorem dX0_debt_50 : decode cX0_debt 50 = .ok (.invokestatic 72, 3) := by decide +kernel
theorem dX0_debt_53 : decode cX0_debt 53 = .ok (.ifCond .eq 19, 3) := by decide +kernel
theorem dX0_debt_56 : decode cX0_debt 56 = .ok (.iload 6, 2) := by decide +kernel
theorem dX0_debt_58 : decode cX0_debt 58 = .ok (.iconst 0, 1) := by decide +kernel
theorem dX0_debt_59 : decode cX0_debt 59 = .ok (.aload_n 0, 1) := by decide +kernel
theorem dX0_debt_60 : decode cX0_debt 60 = .ok (.getfield 10, 3) := by decide +kernel
theorem dX0_debt_63 : decode cX0_debt 63 = .ok (.getfield 88, 3) := by decide +kernel
theorem dX0_debt_66 : decode cX0_debt 66 = .ok (.invokestatic 72, 3) := by decide +kernel
theorem dX0_debt_69 : decode cX0_debt 69 = .ok (.ifCond .ne 5, 3) := by decide +kernel
theorem dX0_debt_72 : decode cX0_debt 72 = .ok (.iconst (-1), 1) := by decide +kernel
theorem dX0_debt_73 : decode cX0_debt 73 = .ok (.ireturn, 1) := by decide +kernel
theorem dX0_debt_74 : decode cX0_debt 74 = .ok (.aload_n 0, 1) := by decide +kernel
theorem dX0_debt_75 : decode cX0_debt 75 = .ok (.getfield 10, 3) := by decide +kernel
theorem dX0_debt_78 : decode cX0_debt 78 = .ok (.getfield 63, 3) := by decide +kernel
theorem dX0_debt_81 : decode cX0_debt 81 = .ok (.new 66, 3) := by decide +kernel
theorem dX0_debt_84 : decode cX0_debt 84 = .ok (.dup, 1) := by decide +kernel
theorem dX0_debt_85 : decode cX0_debt 85 = .ok (.aload_n 0, 1) := by decide +kernel
theorem dX0_debt_86 : decode cX0_debt 86 = .ok (.getfield 10, 3) := by decide +kernel
theorem dX0_debt_89 : decode cX0_debt 89 = .ok (.getfield 63, 3) := by decide +kernel
theorem dX0_debt_92 : decode cX0_debt 92 = .ok (.invokevirtual 68, 3) := by decide +kernel
theorem dX0_debt_95 : decode cX0_debt 95 = .ok (.iload_n 1, 1) := by decide +kernel
theorem dX0_debt_96 : decode cX0_debt 96 = .ok (.iload_n 2, 1) := by decide +kernel
theorem dX0_debt_97 : decode cX0_debt 97 = .ok (.iload_n 3, 1) := by decide +kernel
theorem dX0_debt_98 : decode cX0_debt 98 = .ok (.iload 4, 2) := by decide +kernel
theorem dX0_debt_100 : decode cX0_debt 100 = .ok (.iload 5, 2) := by decide +kernel
theorem dX0_debt_102 : decode cX0_debt 102 = .ok (.iload 6, 2) := by decide +kernel
theorem dX0_debt_104 : decode cX0_debt 104 = .ok (.aload_n 0, 1) := by decide +kernel
theorem dX0_debt_105 : decode cX0_debt 105 = .ok (.getfield 10, 3) := by decide +kernel
theorem dX0_debt_108 : decode cX0_debt 108 = .ok (.getfield 88, 3) := by decide +kernel
theorem dX0_debt_111 : decode cX0_debt 111 = .ok (.invokespecial 109, 3) := by decide +kernel
theorem dX0_debt_114 : decode cX0_debt 114 = .ok (.invokevirtual 100, 3) := by decide +kernel
theorem dX0_debt_117 : decode cX0_debt 117 = .ok (.pop, 1) := by decide +kernel
theorem dX0_debt_118 : decode cX0_debt 118 = .ok (.aload_n 0, 1) := by decide +kernel
theorem dX0_debt_119 : decode cX0_debt 119 = .ok (.getfield 10, 3) := by decide +kernel
theorem dX0_debt_122 : decode cX0_debt 122 = .ok (.getfield 63, 3) := by decide +kernel
theorem dX0_debt_125 : decode cX0_debt 125 = .ok (.invokevirtual 68, 3) := by decide +kernel
theorem dX0_debt_128 : decode cX0_debt 128 = .ok (.iconst 1, 1) := by decide +kernel
theorem dX0_debt_129 : decode cX0_debt 129 = .ok (.isub, 1) := by decide +kernel
theorem dX0_debt_130 : decode cX0_debt 130 = .ok (.ireturn, 1) := by decide +kernel
abbrev cX0_areTwo : ByteArray := prog_1_method_6_code
def yX0_areTwo : MethodName := ⟨RX0, "areTwo", "(II)Z"⟩
theorem dX0_areTwo_0 : decode cX0_areTwo 0 = .ok (.aload_n 0, 1) := by decide +kernel
theorem dX0_areTwo_1 : decode cX0_areTwo 1 = .ok (.iload_n 1, 1) := by decide +kernel
theorem dX0_areTwo_2 : decode cX0_areTwo 2 = .ok (.invokevirtual 76, 3) := by decide +kernel
theorem dX0_areTwo_5 : decode cX0_areTwo 5 = .ok (.ifCond .eq 20, 3) := by decide +kernel
theorem dX0_areTwo_8 : decode cX0_areTwo 8 = .ok (.aload_n 0, 1) := by decide +kernel
theorem dX0_areTwo_9 : decode cX0_areTwo 9 = .ok (.iload_n 2, 1) := by decide +kernel
theorem dX0_areTwo_10 : decode cX0_areTwo 10 = .ok (.invokevirtual 76, 3) := by decide +kernel
theorem dX0_areTwo_13 : decode cX0_areTwo 13 = .ok (.ifCond .eq 12, 3) := by decide +kernel
theorem dX0_areTwo_16 : decode cX0_areTwo 16 = .ok (.iload_n 1, 1) := by decide +kernel
theorem dX0_areTwo_17 : decode cX0_areTwo 17 = .ok (.iload_n 2, 1) := by decide +kernel
theorem dX0_areTwo_18 : decode cX0_areTwo 18 = .ok (.if_icmp .eq 7, 3) := by decide +kernel
theorem dX0_areTwo_21 : decode cX0_areTwo 21 = .ok (.iconst 1, 1) := by decide +kernel
theorem dX0_areTwo_22 : decode cX0_areTwo 22 = .ok (.goto 4, 3) := by decide +kernel
theorem dX0_areTwo_25 : decode cX0_areTwo 25 = .ok (.iconst 0, 1) := by decide +kernel
theorem dX0_areTwo_26 : decode cX0_areTwo 26 = .ok (.ireturn, 1) := by decide +kernel
abbrev cX0_isPerson : ByteArray := prog_1_method_5_code
def yX0_isPerson : MethodName := ⟨RX0, "isPerson", "(I)Z"⟩
theorem dX0_isPerson_0 : decode cX0_isPerson 0 = .ok (.iload_n 1, 1) := by decide +kernel
theorem dX0_isPerson_1 : decode cX0_isPerson 1 = .ok (.iconst 0, 1) := by decide +kernel
theorem dX0_isPerson_2 : decode cX0_isPerson 2 = .ok (.aload_n 0, 1) := by decide +kernel
theorem dX0_isPerson_3 : decode cX0_isPerson 3 = .ok (.getfield 10, 3) := by decide +kernel
theorem dX0_isPerson_6 : decode cX0_isPerson 6 = .ok (.getfield 51, 3) := by decide +kernel
theorem dX0_isPerson_9 : decode cX0_isPerson 9 = .ok (.invokevirtual 68, 3) := by decide +kernel
theorem dX0_isPerson_12 : decode cX0_isPerson 12 = .ok (.iconst 1, 1) := by decide +kernel
theorem dX0_isPerson_13 : decode cX0_isPerson 13 = .ok (.isub, 1) := by decide +kernel
theorem dX0_isPerson_14 : decode cX0_isPerson 14 = .ok (.invokestatic 72, 3) := by decide +kernel
theorem dX0_isPerson_17 : decode cX0_isPerson 17 = .ok (.ireturn, 1) := by decide +kernel
abbrev cX0_costs : ByteArray := prog_1_method_11_code
def yX0_costs : MethodName := ⟨RX0, "costs", "(II)I"⟩
theorem dX0_costs_0 : decode cX0_costs 0 = .ok (.aload_n 0, 1) := by decide +kernel
theorem dX0_costs_1 : decode cX0_costs 1 = .ok (.iload_n 1, 1) := by decide +kernel
theorem dX0_costs_2 : decode cX0_costs 2 = .ok (.invokevirtual 112, 3) := by decide +kernel
theorem dX0_costs_5 : decode cX0_costs 5 = .ok (.ifCond .eq 14, 3) := by decide +kernel
theorem dX0_costs_8 : decode cX0_costs 8 = .ok (.iload_n 2, 1) := by decide +kernel
theorem dX0_costs_9 : decode cX0_costs 9 = .ok (.iconst 1, 1) := by decide +kernel
theorem dX0_costs_10 : decode cX0_costs 10 = .ok (.sipush 10000, 3) := by decide +kernel
theorem dX0_costs_13 : decode cX0_costs 13 = .ok (.invokestatic 72, 3) := by decide +kernel
theorem dX0_costs_16 : decode cX0_costs 16 = .ok (.ifCond .ne 5, 3) := by decide +kernel
theorem dX0_costs_19 : decode cX0_costs 19 = .ok (.iconst (-1), 1) := by decide +kernel
theorem dX0_costs_20 : decode cX0_costs 20 = .ok (.ireturn, 1) := by decide +kernel
theorem dX0_costs_21 : decode cX0_costs 21 = .ok (.aload_n 0, 1) := by decide +kernel
theorem dX0_costs_22 : decode cX0_costs 22 = .ok (.iload_n 1, 1) := by decide +kernel
theorem dX0_costs_23 : decode cX0_costs 23 = .ok (.invokevirtual 80, 3) := by decide +kernel
theorem dX0_costs_26 : decode cX0_costs 26 = .ok (.dup, 1) := by decide +kernel
theorem dX0_costs_27 : decode cX0_costs 27 = .ok (.getfield 114, 3) := by decide +kernel
theorem dX0_costs_30 : decode cX0_costs 30 = .ok (.iload_n 2, 1) := by decide +kernel
theorem dX0_costs_31 : decode cX0_costs 31 = .ok (.iadd, 1) := by decide +kernel
theorem dX0_costs_32 : decode cX0_costs 32 = .ok (.putfield 114, 3) := by decide +kernel
theorem dX0_costs_35 : decode cX0_costs 35 = .ok (.aload_n 0, 1) := by decide +kernel
theorem dX0_costs_36 : decode cX0_costs 36 = .ok (.iload_n 1, 1) := by decide +kernel
theorem dX0_costs_37 : decode cX0_costs 37 = .ok (.invokevirtual 117, 3) := by decide +kernel
theorem dX0_costs_40 : decode cX0_costs 40 = .ok (.ireturn, 1) := by decide +kernel
abbrev cX0_isLive : ByteArray := prog_1_method_7_code
def yX0_isLive : MethodName := ⟨RX0, "isLive", "(I)Z"⟩
theorem dX0_isLive_0 : decode cX0_isLive 0 = .ok (.iload_n 1, 1) := by decide +kernel
theorem dX0_isLive_1 : decode cX0_isLive 1 = .ok (.iconst 0, 1) := by decide +kernel
theorem dX0_isLive_2 : decode cX0_isLive 2 = .ok (.aload_n 0, 1) := by decide +kernel
theorem dX0_isLive_3 : decode cX0_isLive 3 = .ok (.getfield 10, 3) := by decide +kernel
theorem dX0_isLive_6 : decode cX0_isLive 6 = .ok (.getfield 63, 3) := by decide +kernel
theorem dX0_isLive_9 : decode cX0_isLive 9 = .ok (.invokevirtual 68, 3) := by decide +kernel
theorem dX0_isLive_12 : decode cX0_isLive 12 = .ok (.iconst 1, 1) := by decide +kernel
theorem dX0_isLive_13 : decode cX0_isLive 13 = .ok (.isub, 1) := by decide +kernel
theorem dX0_isLive_14 : decode cX0_isLive 14 = .ok (.invokestatic 72, 3) := by decide +kernel
theorem dX0_isLive_17 : decode cX0_isLive 17 = .ok (.ifCond .eq 18, 3) := by decide +kernel
theorem dX0_isLive_20 : decode cX0_isLive 20 = .ok (.aload_n 0, 1) := by decide +kernel
theorem dX0_isLive_21 : decode cX0_isLive 21 = .ok (.iload_n 1, 1) := by decide +kernel
theorem dX0_isLive_22 : decode cX0_isLive 22 = .ok (.invokevirtual 80, 3) := by decide +kernel
theorem dX0_isLive_25 : decode cX0_isLive 25 = .ok (.invokevirtual 84, 3) := by decide +kernel
theorem dX0_isLive_28 : decode cX0_isLive 28 = .ok (.ifCond .eq 7, 3) := by decide +kernel
theorem dX0_isLive_31 : decode cX0_isLive 31 = .ok (.iconst 1, 1) := by decide +kernel
theorem dX0_isLive_32 : decode cX0_isLive 32 = .ok (.goto 4, 3) := by decide +kernel
theorem dX0_isLive_35 : decode cX0_isLive 35 = .ok (.iconst 0, 1) := by decide +kernel
theorem dX0_isLive_36 : decode cX0_isLive 36 = .ok (.ireturn, 1) := by decide +kernel
abbrev cX0_debtAt : ByteArray := prog_1_method_4_code
def yX0_debtAt : MethodName := ⟨RX0, "debtAt", "(I)LDebtorsHouse$Debt;"⟩
theorem dX0_debtAt_0 : decode cX0_debtAt 0 = .ok (.aload_n 0, 1) := by decide +kernel
theorem dX0_debtAt_1 : decode cX0_debtAt 1 = .ok (.getfield 10, 3) := by decide +kernel
theorem dX0_debtAt_4 : decode cX0_debtAt 4 = .ok (.getfield 63, 3) := by decide +kernel
theorem dX0_debtAt_7 : decode cX0_debtAt 7 = .ok (.iload_n 1, 1) := by decide +kernel
theorem dX0_debtAt_8 : decode cX0_debtAt 8 = .ok (.invokevirtual 55, 3) := by decide +kernel
theorem dX0_debtAt_11 : decode cX0_debtAt 11 = .ok (.checkcast 66, 3) := by decide +kernel
theorem dX0_debtAt_14 : decode cX0_debtAt 14 = .ok (.areturn, 1) := by decide +kernel
abbrev cX0_due : ByteArray := prog_1_method_8_code
def yX0_due : MethodName := ⟨RX0, "due", "(I)I"⟩
theorem dX0_due_0 : decode cX0_due 0 = .ok (.aload_n 0, 1) := by decide +kernel
theorem dX0_due_1 : decode cX0_due 1 = .ok (.iload_n 1, 1) := by decide +kernel
theorem dX0_due_2 : decode cX0_due 2 = .ok (.invokevirtual 80, 3) := by decide +kernel
theorem dX0_due_5 : decode cX0_due 5 = .ok (.aload_n 0, 1) := by decide +kernel
theorem dX0_due_6 : decode cX0_due 6 = .ok (.getfield 10, 3) := by decide +kernel
theorem dX0_due_9 : decode cX0_due 9 = .ok (.getfield 88, 3) := by decide +kernel
theorem dX0_due_12 : decode cX0_due 12 = .ok (.invokevirtual 92, 3) := by decide +kernel
theorem dX0_due_15 : decode cX0_due 15 = .ok (.ireturn, 1) := by decide +kernel
abbrev cX0_pay : ByteArray := prog_1_method_14_code
def yX0_pay : MethodName := ⟨RX0, "pay", "(II)I"⟩
theorem dX0_pay_0 : decode cX0_pay 0 = .ok (.aload_n 0, 1) := by decide +kernel
theorem dX0_pay_1 : decode cX0_pay 1 = .ok (.iload_n 1, 1) := by decide +kernel
theorem dX0_pay_2 : decode cX0_pay 2 = .ok (.invokevirtual 112, 3) := by decide +kernel
theorem dX0_pay_5 : decode cX0_pay 5 = .ok (.ifCond .eq 35, 3) := by decide +kernel
theorem dX0_pay_8 : decode cX0_pay 8 = .ok (.iload_n 2, 1) := by decide +kernel
theorem dX0_pay_9 : decode cX0_pay 9 = .ok (.iconst 1, 1) := by decide +kernel
theorem dX0_pay_10 : decode cX0_pay 10 = .ok (.aload_n 0, 1) := by decide +kernel
theorem dX0_pay_11 : decode cX0_pay 11 = .ok (.iload_n 1, 1) := by decide +kernel
theorem dX0_pay_12 : decode cX0_pay 12 = .ok (.invokevirtual 117, 3) := by decide +kernel
theorem dX0_pay_15 : decode cX0_pay 15 = .ok (.invokestatic 72, 3) := by decide +kernel
theorem dX0_pay_18 : decode cX0_pay 18 = .ok (.ifCond .eq 22, 3) := by decide +kernel
theorem dX0_pay_21 : decode cX0_pay 21 = .ok (.aload_n 0, 1) := by decide +kernel
theorem dX0_pay_22 : decode cX0_pay 22 = .ok (.aload_n 0, 1) := by decide +kernel
theorem dX0_pay_23 : decode cX0_pay 23 = .ok (.iload_n 1, 1) := by decide +kernel
theorem dX0_pay_24 : decode cX0_pay 24 = .ok (.invokevirtual 80, 3) := by decide +kernel
theorem dX0_pay_27 : decode cX0_pay 27 = .ok (.getfield 128, 3) := by decide +kernel
theorem dX0_pay_30 : decode cX0_pay 30 = .ok (.invokevirtual 118, 3) := by decide +kernel
theorem dX0_pay_33 : decode cX0_pay 33 = .ok (.getfield 134, 3) := by decide +kernel
theorem dX0_pay_36 : decode cX0_pay 36 = .ok (.iload_n 2, 1) := by decide +kernel
theorem dX0_pay_37 : decode cX0_pay 37 = .ok (.if_icmp .ge 5, 3) := by decide +kernel
theorem dX0_pay_40 : decode cX0_pay 40 = .ok (.iconst (-1), 1) := by decide +kernel
theorem dX0_pay_41 : decode cX0_pay 41 = .ok (.ireturn, 1) := by decide +kernel
theorem dX0_pay_42 : decode cX0_pay 42 = .ok (.aload_n 0, 1) := by decide +kernel
theorem dX0_pay_43 : decode cX0_pay 43 = .ok (.iload_n 1, 1) := by decide +kernel
theorem dX0_pay_44 : decode cX0_pay 44 = .ok (.invokevirtual 80, 3) := by decide +kernel
theorem dX0_pay_47 : decode cX0_pay 47 = .ok (.astore_n 3, 1) := by decide +kernel
theorem dX0_pay_48 : decode cX0_pay 48 = .ok (.aload_n 0, 1) := by decide +kernel
theorem dX0_pay_49 : decode cX0_pay 49 = .ok (.aload_n 3, 1) := by decide +kernel
theorem dX0_pay_50 : decode cX0_pay 50 = .ok (.getfield 128, 3) := by decide +kernel
theorem dX0_pay_53 : decode cX0_pay 53 = .ok (.invokevirtual 118, 3) := by decide +kernel
theorem dX0_pay_56 : decode cX0_pay 56 = .ok (.dup, 1) := by decide +kernel
theorem dX0_pay_57 : decode cX0_pay 57 = .ok (.getfield 134, 3) := by decide +kernel
theorem dX0_pay_60 : decode cX0_pay 60 = .ok (.iload_n 2, 1) := by decide +kernel
theorem dX0_pay_61 : decode cX0_pay 61 = .ok (.isub, 1) := by decide +kernel
theorem dX0_pay_62 : decode cX0_pay 62 = .ok (.putfield 134, 3) := by decide +kernel
theorem dX0_pay_65 : decode cX0_pay 65 = .ok (.aload_n 0, 1) := by decide +kernel
theorem dX0_pay_66 : decode cX0_pay 66 = .ok (.aload_n 3, 1) := by decide +kernel
theorem dX0_pay_67 : decode cX0_pay 67 = .ok (.getfield 131, 3) := by decide +kernel
theorem dX0_pay_70 : decode cX0_pay 70 = .ok (.invokevirtual 118, 3) := by decide +kernel
theorem dX0_pay_73 : decode cX0_pay 73 = .ok (.dup, 1) := by decide +kernel
theorem dX0_pay_74 : decode cX0_pay 74 = .ok (.getfield 134, 3) := by decide +kernel
theorem dX0_pay_77 : decode cX0_pay 77 = .ok (.iload_n 2, 1) := by decide +kernel
theorem dX0_pay_78 : decode cX0_pay 78 = .ok (.iadd, 1) := by decide +kernel
theorem dX0_pay_79 : decode cX0_pay 79 = .ok (.putfield 134, 3) := by decide +kernel
theorem dX0_pay_82 : decode cX0_pay 82 = .ok (.aload_n 3, 1) := by decide +kernel
theorem dX0_pay_83 : decode cX0_pay 83 = .ok (.iload_n 2, 1) := by decide +kernel
theorem dX0_pay_84 : decode cX0_pay 84 = .ok (.aload_n 0, 1) := by decide +kernel
theorem dX0_pay_85 : decode cX0_pay 85 = .ok (.getfield 10, 3) := by decide +kernel
theorem dX0_pay_88 : decode cX0_pay 88 = .ok (.getfield 88, 3) := by decide +kernel
theorem dX0_pay_91 : decode cX0_pay 91 = .ok (.invokevirtual 137, 3) := by decide +kernel
theorem dX0_pay_94 : decode cX0_pay 94 = .ok (.aload_n 0, 1) := by decide +kernel
theorem dX0_pay_95 : decode cX0_pay 95 = .ok (.invokevirtual 141, 3) := by decide +kernel
theorem dX0_pay_98 : decode cX0_pay 98 = .ok (.aload_n 0, 1) := by decide +kernel
theorem dX0_pay_99 : decode cX0_pay 99 = .ok (.iload_n 1, 1) := by decide +kernel
theorem dX0_pay_100 : decode cX0_pay 100 = .ok (.invokevirtual 117, 3) := by decide +kernel
theorem dX0_pay_103 : decode cX0_pay 103 = .ok (.ireturn, 1) := by decide +kernel
abbrev cX0_at : ByteArray := prog_1_method_3_code
def yX0_at : MethodName := ⟨RX0, "at", "(I)LDebtorsHouse$Person;"⟩
theorem dX0_at_0 : decode cX0_at 0 = .ok (.aload_n 0, 1) := by decide +kernel
theorem dX0_at_1 : decode cX0_at 1 = .ok (.getfield 10, 3) := by decide +kernel
theorem dX0_at_4 : decode cX0_at 4 = .ok (.getfield 51, 3) := by decide +kernel
theorem dX0_at_7 : decode cX0_at 7 = .ok (.iload_n 1, 1) := by decide +kernel
theorem dX0_at_8 : decode cX0_at 8 = .ok (.invokevirtual 55, 3) := by decide +kernel
theorem dX0_at_11 : decode cX0_at 11 = .ok (.checkcast 61, 3) := by decide +kernel
theorem dX0_at_14 : decode cX0_at 14 = .ok (.areturn, 1) := by decide +kernel
abbrev cX0_looks : ByteArray := prog_1_method_12_code
def yX0_looks : MethodName := ⟨RX0, "looks", "()V"⟩
theorem dX0_looks_0 : decode cX0_looks 0 = .ok (.iconst 0, 1) := by decide +kernel
theorem dX0_looks_1 : decode cX0_looks 1 = .ok (.istore_n 1, 1) := by decide +kernel
theorem dX0_looks_2 : decode cX0_looks 2 = .ok (.iload_n 1, 1) := by decide +kernel
theorem dX0_looks_3 : decode cX0_looks 3 = .ok (.aload_n 0, 1) := by decide +kernel
theorem dX0_looks_4 : decode cX0_looks 4 = .ok (.getfield 10, 3) := by decide +kernel
theorem dX0_looks_7 : decode cX0_looks 7 = .ok (.getfield 51, 3) := by decide +kernel
theorem dX0_looks_10 : decode cX0_looks 10 = .ok (.invokevirtual 68, 3) := by decide +kernel
theorem dX0_looks_13 : decode cX0_looks 13 = .ok (.if_icmp .ge 27, 3) := by decide +kernel
theorem dX0_looks_16 : decode cX0_looks 16 = .ok (.aload_n 0, 1) := by decide +kernel
theorem dX0_looks_17 : decode cX0_looks 17 = .ok (.iload_n 1, 1) := by decide +kernel
theorem dX0_looks_18 : decode cX0_looks 18 = .ok (.invokevirtual 118, 3) := by decide +kernel
theorem dX0_looks_21 : decode cX0_looks 21 = .ok (.dup, 1) := by decide +kernel
theorem dX0_looks_22 : decode cX0_looks 22 = .ok (.getfield 122, 3) := by decide +kernel
theorem dX0_looks_25 : decode cX0_looks 25 = .ok (.aload_n 0, 1) := by decide +kernel
theorem dX0_looks_26 : decode cX0_looks 26 = .ok (.iload_n 1, 1) := by decide +kernel
theorem dX0_looks_27 : decode cX0_looks 27 = .ok (.invokevirtual 125, 3) := by decide +kernel
theorem dX0_looks_30 : decode cX0_looks 30 = .ok (.iand, 1) := by decide +kernel
theorem dX0_looks_31 : decode cX0_looks 31 = .ok (.putfield 122, 3) := by decide +kernel
theorem dX0_looks_34 : decode cX0_looks 34 = .ok (.iinc 1 1, 3) := by decide +kernel
theorem dX0_looks_37 : decode cX0_looks 37 = .ok (.goto (-35), 3) := by decide +kernel
theorem dX0_looks_40 : decode cX0_looks 40 = .ok (.return_, 1) := by decide +kernel
abbrev cX0_creditorsOf : ByteArray := prog_1_method_13_code
def yX0_creditorsOf : MethodName := ⟨RX0, "creditorsOf", "(I)I"⟩
theorem dX0_creditorsOf_0 : decode cX0_creditorsOf 0 = .ok (.iconst 0, 1) := by decide +kernel
theorem dX0_creditorsOf_1 : decode cX0_creditorsOf 1 = .ok (.istore_n 2, 1) := by decide +kernel
theorem dX0_creditorsOf_2 : decode cX0_creditorsOf 2 = .ok (.iconst 0, 1) := by decide +kernel
theorem dX0_creditorsOf_3 : decode cX0_creditorsOf 3 = .ok (.istore_n 3, 1) := by decide +kernel
theorem dX0_creditorsOf_4 : decode cX0_creditorsOf 4 = .ok (.iload_n 3, 1) := by decide +kernel
theorem dX0_creditorsOf_5 : decode cX0_creditorsOf 5 = .ok (.aload_n 0, 1) := by decide +kernel
theorem dX0_creditorsOf_6 : decode cX0_creditorsOf 6 = .ok (.getfield 10, 3) := by decide +kernel
theorem dX0_creditorsOf_9 : decode cX0_creditorsOf 9 = .ok (.getfield 63, 3) := by decide +kernel
theorem dX0_creditorsOf_12 : decode cX0_creditorsOf 12 = .ok (.invokevirtual 68, 3) := by decide +kernel
theorem dX0_creditorsOf_15 : decode cX0_creditorsOf 15 = .ok (.if_icmp .ge 45, 3) := by decide +kernel
theorem dX0_creditorsOf_18 : decode cX0_creditorsOf 18 = .ok (.aload_n 0, 1) := by decide +kernel
theorem dX0_creditorsOf_19 : decode cX0_creditorsOf 19 = .ok (.iload_n 3, 1) := by decide +kernel
theorem dX0_creditorsOf_20 : decode cX0_creditorsOf 20 = .ok (.invokevirtual 80, 3) := by decide +kernel
theorem dX0_creditorsOf_23 : decode cX0_creditorsOf 23 = .ok (.invokevirtual 84, 3) := by decide +kernel
theorem dX0_creditorsOf_26 : decode cX0_creditorsOf 26 = .ok (.ifCond .eq 28, 3) := by decide +kernel
theorem dX0_creditorsOf_29 : decode cX0_creditorsOf 29 = .ok (.aload_n 0, 1) := by decide +kernel
theorem dX0_creditorsOf_30 : decode cX0_creditorsOf 30 = .ok (.iload_n 3, 1) := by decide +kernel
theorem dX0_creditorsOf_31 : decode cX0_creditorsOf 31 = .ok (.invokevirtual 80, 3) := by decide +kernel
theorem dX0_creditorsOf_34 : decode cX0_creditorsOf 34 = .ok (.getfield 128, 3) := by decide +kernel
theorem dX0_creditorsOf_37 : decode cX0_creditorsOf 37 = .ok (.iload_n 1, 1) := by decide +kernel
theorem dX0_creditorsOf_38 : decode cX0_creditorsOf 38 = .ok (.if_icmp .ne 16, 3) := by decide +kernel
theorem dX0_creditorsOf_41 : decode cX0_creditorsOf 41 = .ok (.iload_n 2, 1) := by decide +kernel
theorem dX0_creditorsOf_42 : decode cX0_creditorsOf 42 = .ok (.iconst 1, 1) := by decide +kernel
theorem dX0_creditorsOf_43 : decode cX0_creditorsOf 43 = .ok (.aload_n 0, 1) := by decide +kernel
theorem dX0_creditorsOf_44 : decode cX0_creditorsOf 44 = .ok (.iload_n 3, 1) := by decide +kernel
theorem dX0_creditorsOf_45 : decode cX0_creditorsOf 45 = .ok (.invokevirtual 80, 3) := by decide +kernel
theorem dX0_creditorsOf_48 : decode cX0_creditorsOf 48 = .ok (.getfield 131, 3) := by decide +kernel
theorem dX0_creditorsOf_51 : decode cX0_creditorsOf 51 = .ok (.ishl, 1) := by decide +kernel
theorem dX0_creditorsOf_52 : decode cX0_creditorsOf 52 = .ok (.ior, 1) := by decide +kernel
theorem dX0_creditorsOf_53 : decode cX0_creditorsOf 53 = .ok (.istore_n 2, 1) := by decide +kernel
theorem dX0_creditorsOf_54 : decode cX0_creditorsOf 54 = .ok (.iinc 3 1, 3) := by decide +kernel
theorem dX0_creditorsOf_57 : decode cX0_creditorsOf 57 = .ok (.goto (-53), 3) := by decide +kernel
theorem dX0_creditorsOf_60 : decode cX0_creditorsOf 60 = .ok (.iload_n 2, 1) := by decide +kernel
theorem dX0_creditorsOf_61 : decode cX0_creditorsOf 61 = .ok (.ireturn, 1) := by decide +kernel
abbrev cX0_about : ByteArray := prog_1_method_15_code
def yX0_about : MethodName := ⟨RX0, "about", "(II)I"⟩
theorem dX0_about_0 : decode cX0_about 0 = .ok (.iload_n 1, 1) := by decide +kernel
theorem dX0_about_1 : decode cX0_about 1 = .ok (.iconst 0, 1) := by decide +kernel
theorem dX0_about_2 : decode cX0_about 2 = .ok (.aload_n 0, 1) := by decide +kernel
theorem dX0_about_3 : decode cX0_about 3 = .ok (.getfield 10, 3) := by decide +kernel
theorem dX0_about_6 : decode cX0_about 6 = .ok (.getfield 63, 3) := by decide +kernel
theorem dX0_about_9 : decode cX0_about 9 = .ok (.invokevirtual 68, 3) := by decide +kernel
theorem dX0_about_12 : decode cX0_about 12 = .ok (.iconst 1, 1) := by decide +kernel
theorem dX0_about_13 : decode cX0_about 13 = .ok (.isub, 1) := by decide +kernel
theorem dX0_about_14 : decode cX0_about 14 = .ok (.invokestatic 72, 3) := by decide +kernel
theorem dX0_about_17 : decode cX0_about 17 = .ok (.ifCond .ne 6, 3) := by decide +kernel
theorem dX0_about_20 : decode cX0_about 20 = .ok (.bipush (-100), 2) := by decide +kernel
theorem dX0_about_22 : decode cX0_about 22 = .ok (.ireturn, 1) := by decide +kernel
theorem dX0_about_23 : decode cX0_about 23 = .ok (.aload_n 0, 1) := by decide +kernel
theorem dX0_about_24 : decode cX0_about 24 = .ok (.iload_n 1, 1) := by decide +kernel
theorem dX0_about_25 : decode cX0_about 25 = .ok (.invokevirtual 80, 3) := by decide +kernel
theorem dX0_about_28 : decode cX0_about 28 = .ok (.astore_n 3, 1) := by decide +kernel
theorem dX0_about_29 : decode cX0_about 29 = .ok (.iload_n 2, 1) := by decide +kernel
theorem dX0_about_30 : decode cX0_about 30 = .ok (.tableswitch 201 0 14 #[74, 79, 84, 89, 94, 99, 104, 109, 117, 133, 156, 172, 178, 191, 196], 74) := by decide +kernel
theorem dX0_about_104 : decode cX0_about 104 = .ok (.aload_n 3, 1) := by decide +kernel
theorem dX0_about_105 : decode cX0_about 105 = .ok (.getfield 128, 3) := by decide +kernel
theorem dX0_about_108 : decode cX0_about 108 = .ok (.ireturn, 1) := by decide +kernel
theorem dX0_about_109 : decode cX0_about 109 = .ok (.aload_n 3, 1) := by decide +kernel
theorem dX0_about_110 : decode cX0_about 110 = .ok (.getfield 131, 3) := by decide +kernel
theorem dX0_about_113 : decode cX0_about 113 = .ok (.ireturn, 1) := by decide +kernel
theorem dX0_about_114 : decode cX0_about 114 = .ok (.aload_n 3, 1) := by decide +kernel
theorem dX0_about_115 : decode cX0_about 115 = .ok (.getfield 144, 3) := by decide +kernel
theorem dX0_about_118 : decode cX0_about 118 = .ok (.ireturn, 1) := by decide +kernel
theorem dX0_about_119 : decode cX0_about 119 = .ok (.aload_n 3, 1) := by decide +kernel
theorem dX0_about_120 : decode cX0_about 120 = .ok (.getfield 147, 3) := by decide +kernel
theorem dX0_about_123 : decode cX0_about 123 = .ok (.ireturn, 1) := by decide +kernel
theorem dX0_about_124 : decode cX0_about 124 = .ok (.aload_n 3, 1) := by decide +kernel
theorem dX0_about_125 : decode cX0_about 125 = .ok (.getfield 150, 3) := by decide +kernel
theorem dX0_about_128 : decode cX0_about 128 = .ok (.ireturn, 1) := by decide +kernel
theorem dX0_about_129 : decode cX0_about 129 = .ok (.aload_n 3, 1) := by decide +kernel
theorem dX0_about_130 : decode cX0_about 130 = .ok (.getfield 153, 3) := by decide +kernel
theorem dX0_about_133 : decode cX0_about 133 = .ok (.ireturn, 1) := by decide +kernel
theorem dX0_about_134 : decode cX0_about 134 = .ok (.aload_n 3, 1) := by decide +kernel
theorem dX0_about_135 : decode cX0_about 135 = .ok (.getfield 156, 3) := by decide +kernel
theorem dX0_about_138 : decode cX0_about 138 = .ok (.ireturn, 1) := by decide +kernel
theorem dX0_about_139 : decode cX0_about 139 = .ok (.aload_n 3, 1) := by decide +kernel
theorem dX0_about_140 : decode cX0_about 140 = .ok (.getfield 159, 3) := by decide +kernel
theorem dX0_about_143 : decode cX0_about 143 = .ok (.invokevirtual 163, 3) := by decide +kernel
theorem dX0_about_146 : decode cX0_about 146 = .ok (.ireturn, 1) := by decide +kernel
theorem dX0_about_147 : decode cX0_about 147 = .ok (.aload_n 3, 1) := by decide +kernel
theorem dX0_about_148 : decode cX0_about 148 = .ok (.invokevirtual 84, 3) := by decide +kernel
theorem dX0_about_151 : decode cX0_about 151 = .ok (.ifCond .eq 10, 3) := by decide +kernel
theorem dX0_about_154 : decode cX0_about 154 = .ok (.aload_n 3, 1) := by decide +kernel
theorem dX0_about_155 : decode cX0_about 155 = .ok (.getfield 168, 3) := by decide +kernel
theorem dX0_about_158 : decode cX0_about 158 = .ok (.goto 4, 3) := by decide +kernel
theorem dX0_about_161 : decode cX0_about 161 = .ok (.iconst 0, 1) := by decide +kernel
theorem dX0_about_162 : decode cX0_about 162 = .ok (.ireturn, 1) := by decide +kernel
theorem dX0_about_163 : decode cX0_about 163 = .ok (.aload_n 3, 1) := by decide +kernel
theorem dX0_about_164 : decode cX0_about 164 = .ok (.invokevirtual 84, 3) := by decide +kernel
theorem dX0_about_167 : decode cX0_about 167 = .ok (.ifCond .eq 17, 3) := by decide +kernel
theorem dX0_about_170 : decode cX0_about 170 = .ok (.aload_n 3, 1) := by decide +kernel
theorem dX0_about_171 : decode cX0_about 171 = .ok (.aload_n 0, 1) := by decide +kernel
theorem dX0_about_172 : decode cX0_about 172 = .ok (.getfield 10, 3) := by decide +kernel
theorem dX0_about_175 : decode cX0_about 175 = .ok (.getfield 88, 3) := by decide +kernel
theorem dX0_about_178 : decode cX0_about 178 = .ok (.invokevirtual 171, 3) := by decide +kernel
theorem dX0_about_181 : decode cX0_about 181 = .ok (.goto 4, 3) := by decide +kernel
theorem dX0_about_184 : decode cX0_about 184 = .ok (.iconst 0, 1) := by decide +kernel
theorem dX0_about_185 : decode cX0_about 185 = .ok (.ireturn, 1) := by decide +kernel
theorem dX0_about_186 : decode cX0_about 186 = .ok (.aload_n 3, 1) := by decide +kernel
theorem dX0_about_187 : decode cX0_about 187 = .ok (.invokevirtual 84, 3) := by decide +kernel
theorem dX0_about_190 : decode cX0_about 190 = .ok (.ifCond .eq 10, 3) := by decide +kernel
theorem dX0_about_193 : decode cX0_about 193 = .ok (.aload_n 3, 1) := by decide +kernel
theorem dX0_about_194 : decode cX0_about 194 = .ok (.getfield 114, 3) := by decide +kernel
theorem dX0_about_197 : decode cX0_about 197 = .ok (.goto 4, 3) := by decide +kernel
theorem dX0_about_200 : decode cX0_about 200 = .ok (.iconst 0, 1) := by decide +kernel
theorem dX0_about_201 : decode cX0_about 201 = .ok (.ireturn, 1) := by decide +kernel
theorem dX0_about_202 : decode cX0_about 202 = .ok (.aload_n 0, 1) := by decide +kernel
theorem dX0_about_203 : decode cX0_about 203 = .ok (.iload_n 1, 1) := by decide +kernel
theorem dX0_about_204 : decode cX0_about 204 = .ok (.invokevirtual 117, 3) := by decide +kernel
theorem dX0_about_207 : decode cX0_about 207 = .ok (.ireturn, 1) := by decide +kernel
theorem dX0_about_208 : decode cX0_about 208 = .ok (.aload_n 3, 1) := by decide +kernel
theorem dX0_about_209 : decode cX0_about 209 = .ok (.getfield 174, 3) := by decide +kernel
theorem dX0_about_212 : decode cX0_about 212 = .ok (.ifCond .eq 7, 3) := by decide +kernel
theorem dX0_about_215 : decode cX0_about 215 = .ok (.iconst 1, 1) := by decide +kernel
theorem dX0_about_216 : decode cX0_about 216 = .ok (.goto 4, 3) := by decide +kernel
theorem dX0_about_219 : decode cX0_about 219 = .ok (.iconst 0, 1) := by decide +kernel
theorem dX0_about_220 : decode cX0_about 220 = .ok (.ireturn, 1) := by decide +kernel
theorem dX0_about_221 : decode cX0_about 221 = .ok (.aload_n 3, 1) := by decide +kernel
theorem dX0_about_222 : decode cX0_about 222 = .ok (.getfield 178, 3) := by decide +kernel
theorem dX0_about_225 : decode cX0_about 225 = .ok (.ireturn, 1) := by decide +kernel
theorem dX0_about_226 : decode cX0_about 226 = .ok (.aload_n 3, 1) := by decide +kernel
theorem dX0_about_227 : decode cX0_about 227 = .ok (.getfield 181, 3) := by decide +kernel
theorem dX0_about_230 : decode cX0_about 230 = .ok (.ireturn, 1) := by decide +kernel
theorem dX0_about_231 : decode cX0_about 231 = .ok (.bipush (-100), 2) := by decide +kernel
theorem dX0_about_233 : decode cX0_about 233 = .ok (.ireturn, 1) := by decide +kernel
abbrev cX0_ring : ByteArray := prog_1_method_17_code
def yX0_ring : MethodName := ⟨RX0, "ring", "()I"⟩
theorem dX0_ring_0 : decode cX0_ring 0 = .ok (.aload_n 0, 1) := by decide +kernel
theorem dX0_ring_1 : decode cX0_ring 1 = .ok (.getfield 10, 3) := by decide +kernel
theorem dX0_ring_4 : decode cX0_ring 4 = .ok (.iconst 0, 1) := by decide +kernel
theorem dX0_ring_5 : decode cX0_ring 5 = .ok (.putfield 190, 3) := by decide +kernel
theorem dX0_ring_8 : decode cX0_ring 8 = .ok (.iconst (-1), 1) := by decide +kernel
theorem dX0_ring_9 : decode cX0_ring 9 = .ok (.istore_n 1, 1) := by decide +kernel
theorem dX0_ring_10 : decode cX0_ring 10 = .ok (.bipush 12, 2) := by decide +kernel
theorem dX0_ring_12 : decode cX0_ring 12 = .ok (.istore_n 2, 1) := by decide +kernel
theorem dX0_ring_13 : decode cX0_ring 13 = .ok (.iconst 0, 1) := by decide +kernel
theorem dX0_ring_14 : decode cX0_ring 14 = .ok (.istore_n 3, 1) := by decide +kernel
theorem dX0_ring_15 : decode cX0_ring 15 = .ok (.iload_n 3, 1) := by decide +kernel
theorem dX0_ring_16 : decode cX0_ring 16 = .ok (.aload_n 0, 1) := by decide +kernel
theorem dX0_ring_17 : decode cX0_ring 17 = .ok (.getfield 10, 3) := by decide +kernel
theorem dX0_ring_20 : decode cX0_ring 20 = .ok (.getfield 63, 3) := by decide +kernel
theorem dX0_ring_23 : decode cX0_ring 23 = .ok (.invokevirtual 68, 3) := by decide +kernel
theorem dX0_ring_26 : decode cX0_ring 26 = .ok (.if_icmp .ge 63, 3) := by decide +kernel
theorem dX0_ring_29 : decode cX0_ring 29 = .ok (.aload_n 0, 1) := by decide +kernel
theorem dX0_ring_30 : decode cX0_ring 30 = .ok (.iload_n 3, 1) := by decide +kernel
theorem dX0_ring_31 : decode cX0_ring 31 = .ok (.invokevirtual 80, 3) := by decide +kernel
theorem dX0_ring_34 : decode cX0_ring 34 = .ok (.invokevirtual 84, 3) := by decide +kernel
theorem dX0_ring_37 : decode cX0_ring 37 = .ok (.ifCond .ne 6, 3) := by decide +kernel
theorem dX0_ring_40 : decode cX0_ring 40 = .ok (.goto 43, 3) := by decide +kernel
theorem dX0_ring_43 : decode cX0_ring 43 = .ok (.aload_n 0, 1) := by decide +kernel
theorem dX0_ring_44 : decode cX0_ring 44 = .ok (.iload_n 3, 1) := by decide +kernel
theorem dX0_ring_45 : decode cX0_ring 45 = .ok (.invokevirtual 193, 3) := by decide +kernel
theorem dX0_ring_48 : decode cX0_ring 48 = .ok (.aload_n 0, 1) := by decide +kernel
theorem dX0_ring_49 : decode cX0_ring 49 = .ok (.getfield 28, 3) := by decide +kernel
theorem dX0_ring_52 : decode cX0_ring 52 = .ok (.aload_n 0, 1) := by decide +kernel
theorem dX0_ring_53 : decode cX0_ring 53 = .ok (.iload_n 3, 1) := by decide +kernel
theorem dX0_ring_54 : decode cX0_ring 54 = .ok (.invokevirtual 80, 3) := by decide +kernel
theorem dX0_ring_57 : decode cX0_ring 57 = .ok (.getfield 131, 3) := by decide +kernel
theorem dX0_ring_60 : decode cX0_ring 60 = .ok (.iaload, 1) := by decide +kernel
theorem dX0_ring_61 : decode cX0_ring 61 = .ok (.istore 4, 2) := by decide +kernel
theorem dX0_ring_63 : decode cX0_ring 63 = .ok (.iload 4, 2) := by decide +kernel
theorem dX0_ring_65 : decode cX0_ring 65 = .ok (.iconst (-1), 1) := by decide +kernel
theorem dX0_ring_66 : decode cX0_ring 66 = .ok (.if_icmp .eq 17, 3) := by decide +kernel
theorem dX0_ring_69 : decode cX0_ring 69 = .ok (.iload 4, 2) := by decide +kernel
theorem dX0_ring_71 : decode cX0_ring 71 = .ok (.iload_n 2, 1) := by decide +kernel
theorem dX0_ring_72 : decode cX0_ring 72 = .ok (.if_icmp .lt 6, 3) := by decide +kernel
theorem dX0_ring_75 : decode cX0_ring 75 = .ok (.goto 8, 3) := by decide +kernel
theorem dX0_ring_78 : decode cX0_ring 78 = .ok (.iload_n 3, 1) := by decide +kernel
theorem dX0_ring_79 : decode cX0_ring 79 = .ok (.istore_n 1, 1) := by decide +kernel
theorem dX0_ring_80 : decode cX0_ring 80 = .ok (.iload 4, 2) := by decide +kernel
theorem dX0_ring_82 : decode cX0_ring 82 = .ok (.istore_n 2, 1) := by decide +kernel
theorem dX0_ring_83 : decode cX0_ring 83 = .ok (.iinc 3 1, 3) := by decide +kernel
theorem dX0_ring_86 : decode cX0_ring 86 = .ok (.goto (-71), 3) := by decide +kernel
theorem dX0_ring_89 : decode cX0_ring 89 = .ok (.iload_n 1, 1) := by decide +kernel
theorem dX0_ring_90 : decode cX0_ring 90 = .ok (.iconst (-1), 1) := by decide +kernel
theorem dX0_ring_91 : decode cX0_ring 91 = .ok (.if_icmp .ne 5, 3) := by decide +kernel
theorem dX0_ring_94 : decode cX0_ring 94 = .ok (.iconst (-1), 1) := by decide +kernel
theorem dX0_ring_95 : decode cX0_ring 95 = .ok (.ireturn, 1) := by decide +kernel
theorem dX0_ring_96 : decode cX0_ring 96 = .ok (.aload_n 0, 1) := by decide +kernel
theorem dX0_ring_97 : decode cX0_ring 97 = .ok (.iload_n 1, 1) := by decide +kernel
theorem dX0_ring_98 : decode cX0_ring 98 = .ok (.invokevirtual 193, 3) := by decide +kernel
theorem dX0_ring_101 : decode cX0_ring 101 = .ok (.aload_n 0, 1) := by decide +kernel
theorem dX0_ring_102 : decode cX0_ring 102 = .ok (.getfield 10, 3) := by decide +kernel
theorem dX0_ring_105 : decode cX0_ring 105 = .ok (.getfield 197, 3) := by decide +kernel
theorem dX0_ring_108 : decode cX0_ring 108 = .ok (.iconst 0, 1) := by decide +kernel
theorem dX0_ring_109 : decode cX0_ring 109 = .ok (.iload_n 1, 1) := by decide +kernel
theorem dX0_ring_110 : decode cX0_ring 110 = .ok (.iastore, 1) := by decide +kernel
theorem dX0_ring_111 : decode cX0_ring 111 = .ok (.aload_n 0, 1) := by decide +kernel
theorem dX0_ring_112 : decode cX0_ring 112 = .ok (.getfield 10, 3) := by decide +kernel
theorem dX0_ring_115 : decode cX0_ring 115 = .ok (.iconst 1, 1) := by decide +kernel
theorem dX0_ring_116 : decode cX0_ring 116 = .ok (.putfield 190, 3) := by decide +kernel
theorem dX0_ring_119 : decode cX0_ring 119 = .ok (.aload_n 0, 1) := by decide +kernel
theorem dX0_ring_120 : decode cX0_ring 120 = .ok (.iload_n 1, 1) := by decide +kernel
theorem dX0_ring_121 : decode cX0_ring 121 = .ok (.invokevirtual 80, 3) := by decide +kernel
theorem dX0_ring_124 : decode cX0_ring 124 = .ok (.getfield 131, 3) := by decide +kernel
theorem dX0_ring_127 : decode cX0_ring 127 = .ok (.istore_n 3, 1) := by decide +kernel
theorem dX0_ring_128 : decode cX0_ring 128 = .ok (.aload_n 0, 1) := by decide +kernel
theorem dX0_ring_129 : decode cX0_ring 129 = .ok (.getfield 28, 3) := by decide +kernel
theorem dX0_ring_132 : decode cX0_ring 132 = .ok (.iload_n 3, 1) := by decide +kernel
theorem dX0_ring_133 : decode cX0_ring 133 = .ok (.iaload, 1) := by decide +kernel
theorem dX0_ring_134 : decode cX0_ring 134 = .ok (.ifCond .le 122, 3) := by decide +kernel
theorem dX0_ring_137 : decode cX0_ring 137 = .ok (.iload_n 1, 1) := by decide +kernel
theorem dX0_ring_138 : decode cX0_ring 138 = .ok (.iconst 1, 1) := by decide +kernel
theorem dX0_ring_139 : decode cX0_ring 139 = .ok (.iadd, 1) := by decide +kernel
theorem dX0_ring_140 : decode cX0_ring 140 = .ok (.istore 4, 2) := by decide +kernel
theorem dX0_ring_142 : decode cX0_ring 142 = .ok (.aload_n 0, 1) := by decide +kernel
theorem dX0_ring_143 : decode cX0_ring 143 = .ok (.iload 4, 2) := by decide +kernel
theorem dX0_ring_145 : decode cX0_ring 145 = .ok (.invokevirtual 80, 3) := by decide +kernel
theorem dX0_ring_148 : decode cX0_ring 148 = .ok (.invokevirtual 84, 3) := by decide +kernel
theorem dX0_ring_151 : decode cX0_ring 151 = .ok (.ifCond .eq 41, 3) := by decide +kernel
theorem dX0_ring_154 : decode cX0_ring 154 = .ok (.aload_n 0, 1) := by decide +kernel
theorem dX0_ring_155 : decode cX0_ring 155 = .ok (.iload 4, 2) := by decide +kernel
theorem dX0_ring_157 : decode cX0_ring 157 = .ok (.invokevirtual 80, 3) := by decide +kernel
theorem dX0_ring_160 : decode cX0_ring 160 = .ok (.getfield 128, 3) := by decide +kernel
theorem dX0_ring_163 : decode cX0_ring 163 = .ok (.iload_n 3, 1) := by decide +kernel
theorem dX0_ring_164 : decode cX0_ring 164 = .ok (.if_icmp .ne 28, 3) := by decide +kernel
theorem dX0_ring_167 : decode cX0_ring 167 = .ok (.aload_n 0, 1) := by decide +kernel
theorem dX0_ring_168 : decode cX0_ring 168 = .ok (.getfield 28, 3) := by decide +kernel
theorem dX0_ring_171 : decode cX0_ring 171 = .ok (.aload_n 0, 1) := by decide +kernel
theorem dX0_ring_172 : decode cX0_ring 172 = .ok (.iload 4, 2) := by decide +kernel
theorem dX0_ring_174 : decode cX0_ring 174 = .ok (.invokevirtual 80, 3) := by decide +kernel
theorem dX0_ring_177 : decode cX0_ring 177 = .ok (.getfield 131, 3) := by decide +kernel
theorem dX0_ring_180 : decode cX0_ring 180 = .ok (.iaload, 1) := by decide +kernel
theorem dX0_ring_181 : decode cX0_ring 181 = .ok (.aload_n 0, 1) := by decide +kernel
theorem dX0_ring_182 : decode cX0_ring 182 = .ok (.getfield 28, 3) := by decide +kernel
theorem dX0_ring_185 : decode cX0_ring 185 = .ok (.iload_n 3, 1) := by decide +kernel
theorem dX0_ring_186 : decode cX0_ring 186 = .ok (.iaload, 1) := by decide +kernel
theorem dX0_ring_187 : decode cX0_ring 187 = .ok (.iconst 1, 1) := by decide +kernel
theorem dX0_ring_188 : decode cX0_ring 188 = .ok (.isub, 1) := by decide +kernel
theorem dX0_ring_189 : decode cX0_ring 189 = .ok (.if_icmp .eq 9, 3) := by decide +kernel
theorem dX0_ring_192 : decode cX0_ring 192 = .ok (.iinc 4 1, 3) := by decide +kernel
theorem dX0_ring_195 : decode cX0_ring 195 = .ok (.goto (-53), 3) := by decide +kernel
theorem dX0_ring_198 : decode cX0_ring 198 = .ok (.aload_n 0, 1) := by decide +kernel
theorem dX0_ring_199 : decode cX0_ring 199 = .ok (.getfield 10, 3) := by decide +kernel
theorem dX0_ring_202 : decode cX0_ring 202 = .ok (.getfield 197, 3) := by decide +kernel
theorem dX0_ring_205 : decode cX0_ring 205 = .ok (.aload_n 0, 1) := by decide +kernel
theorem dX0_ring_206 : decode cX0_ring 206 = .ok (.getfield 10, 3) := by decide +kernel
theorem dX0_ring_209 : decode cX0_ring 209 = .ok (.getfield 190, 3) := by decide +kernel
theorem dX0_ring_212 : decode cX0_ring 212 = .ok (.iload 4, 2) := by decide +kernel
theorem dX0_ring_214 : decode cX0_ring 214 = .ok (.iastore, 1) := by decide +kernel
theorem dX0_ring_215 : decode cX0_ring 215 = .ok (.aload_n 0, 1) := by decide +kernel
theorem dX0_ring_216 : decode cX0_ring 216 = .ok (.getfield 10, 3) := by decide +kernel
theorem dX0_ring_219 : decode cX0_ring 219 = .ok (.dup, 1) := by decide +kernel
theorem dX0_ring_220 : decode cX0_ring 220 = .ok (.getfield 190, 3) := by decide +kernel
theorem dX0_ring_223 : decode cX0_ring 223 = .ok (.iconst 1, 1) := by decide +kernel
theorem dX0_ring_224 : decode cX0_ring 224 = .ok (.iadd, 1) := by decide +kernel
theorem dX0_ring_225 : decode cX0_ring 225 = .ok (.putfield 190, 3) := by decide +kernel
theorem dX0_ring_228 : decode cX0_ring 228 = .ok (.aload_n 0, 1) := by decide +kernel
theorem dX0_ring_229 : decode cX0_ring 229 = .ok (.aload_n 0, 1) := by decide +kernel
theorem dX0_ring_230 : decode cX0_ring 230 = .ok (.getfield 10, 3) := by decide +kernel
theorem dX0_ring_233 : decode cX0_ring 233 = .ok (.getfield 197, 3) := by decide +kernel
theorem dX0_ring_236 : decode cX0_ring 236 = .ok (.aload_n 0, 1) := by decide +kernel
theorem dX0_ring_237 : decode cX0_ring 237 = .ok (.getfield 10, 3) := by decide +kernel
theorem dX0_ring_240 : decode cX0_ring 240 = .ok (.getfield 190, 3) := by decide +kernel
theorem dX0_ring_243 : decode cX0_ring 243 = .ok (.iconst 1, 1) := by decide +kernel
theorem dX0_ring_244 : decode cX0_ring 244 = .ok (.isub, 1) := by decide +kernel
theorem dX0_ring_245 : decode cX0_ring 245 = .ok (.iaload, 1) := by decide +kernel
theorem dX0_ring_246 : decode cX0_ring 246 = .ok (.invokevirtual 80, 3) := by decide +kernel
theorem dX0_ring_249 : decode cX0_ring 249 = .ok (.getfield 131, 3) := by decide +kernel
theorem dX0_ring_252 : decode cX0_ring 252 = .ok (.istore_n 3, 1) := by decide +kernel
theorem dX0_ring_253 : decode cX0_ring 253 = .ok (.goto (-125), 3) := by decide +kernel
theorem dX0_ring_256 : decode cX0_ring 256 = .ok (.aload_n 0, 1) := by decide +kernel
theorem dX0_ring_257 : decode cX0_ring 257 = .ok (.getfield 10, 3) := by decide +kernel
theorem dX0_ring_260 : decode cX0_ring 260 = .ok (.getfield 190, 3) := by decide +kernel
theorem dX0_ring_263 : decode cX0_ring 263 = .ok (.ireturn, 1) := by decide +kernel
abbrev cX0_distances : ByteArray := prog_1_method_16_code
def yX0_distances : MethodName := ⟨RX0, "distances", "(I)V"⟩
theorem dX0_distances_0 : decode cX0_distances 0 = .ok (.aload_n 0, 1) := by decide +kernel
theorem dX0_distances_1 : decode cX0_distances 1 = .ok (.getfield 28, 3) := by decide +kernel
theorem dX0_distances_4 : decode cX0_distances 4 = .ok (.iconst (-1), 1) := by decide +kernel
theorem dX0_distances_5 : decode cX0_distances 5 = .ok (.invokestatic 184, 3) := by decide +kernel
theorem dX0_distances_8 : decode cX0_distances 8 = .ok (.aload_n 0, 1) := by decide +kernel
theorem dX0_distances_9 : decode cX0_distances 9 = .ok (.getfield 28, 3) := by decide +kernel
theorem dX0_distances_12 : decode cX0_distances 12 = .ok (.aload_n 0, 1) := by decide +kernel
theorem dX0_distances_13 : decode cX0_distances 13 = .ok (.iload_n 1, 1) := by decide +kernel
theorem dX0_distances_14 : decode cX0_distances 14 = .ok (.invokevirtual 80, 3) := by decide +kernel
theorem dX0_distances_17 : decode cX0_distances 17 = .ok (.getfield 128, 3) := by decide +kernel
theorem dX0_distances_20 : decode cX0_distances 20 = .ok (.iconst 0, 1) := by decide +kernel
theorem dX0_distances_21 : decode cX0_distances 21 = .ok (.iastore, 1) := by decide +kernel
theorem dX0_distances_22 : decode cX0_distances 22 = .ok (.iconst 1, 1) := by decide +kernel
theorem dX0_distances_23 : decode cX0_distances 23 = .ok (.istore_n 2, 1) := by decide +kernel
theorem dX0_distances_24 : decode cX0_distances 24 = .ok (.iconst 1, 1) := by decide +kernel
theorem dX0_distances_25 : decode cX0_distances 25 = .ok (.istore_n 3, 1) := by decide +kernel
theorem dX0_distances_26 : decode cX0_distances 26 = .ok (.iload_n 2, 1) := by decide +kernel
theorem dX0_distances_27 : decode cX0_distances 27 = .ok (.ifCond .eq 99, 3) := by decide +kernel
theorem dX0_distances_30 : decode cX0_distances 30 = .ok (.iconst 0, 1) := by decide +kernel
theorem dX0_distances_31 : decode cX0_distances 31 = .ok (.istore_n 2, 1) := by decide +kernel
theorem dX0_distances_32 : decode cX0_distances 32 = .ok (.iload_n 1, 1) := by decide +kernel
theorem dX0_distances_33 : decode cX0_distances 33 = .ok (.iconst 1, 1) := by decide +kernel
theorem dX0_distances_34 : decode cX0_distances 34 = .ok (.iadd, 1) := by decide +kernel
theorem dX0_distances_35 : decode cX0_distances 35 = .ok (.istore 4, 2) := by decide +kernel
theorem dX0_distances_37 : decode cX0_distances 37 = .ok (.iload 4, 2) := by decide +kernel
theorem dX0_distances_39 : decode cX0_distances 39 = .ok (.aload_n 0, 1) := by decide +kernel
theorem dX0_distances_40 : decode cX0_distances 40 = .ok (.getfield 10, 3) := by decide +kernel
theorem dX0_distances_43 : decode cX0_distances 43 = .ok (.getfield 63, 3) := by decide +kernel
theorem dX0_distances_46 : decode cX0_distances 46 = .ok (.invokevirtual 68, 3) := by decide +kernel
theorem dX0_distances_49 : decode cX0_distances 49 = .ok (.if_icmp .ge 71, 3) := by decide +kernel
theorem dX0_distances_52 : decode cX0_distances 52 = .ok (.aload_n 0, 1) := by decide +kernel
theorem dX0_distances_53 : decode cX0_distances 53 = .ok (.iload 4, 2) := by decide +kernel
theorem dX0_distances_55 : decode cX0_distances 55 = .ok (.invokevirtual 80, 3) := by decide +kernel
theorem dX0_distances_58 : decode cX0_distances 58 = .ok (.astore 5, 2) := by decide +kernel
theorem dX0_distances_60 : decode cX0_distances 60 = .ok (.aload 5, 2) := by decide +kernel
theorem dX0_distances_62 : decode cX0_distances 62 = .ok (.invokevirtual 84, 3) := by decide +kernel
theorem dX0_distances_65 : decode cX0_distances 65 = .ok (.ifCond .eq 49, 3) := by decide +kernel
theorem dX0_distances_68 : decode cX0_distances 68 = .ok (.aload_n 0, 1) := by decide +kernel
theorem dX0_distances_69 : decode cX0_distances 69 = .ok (.getfield 28, 3) := by decide +kernel
theorem dX0_distances_72 : decode cX0_distances 72 = .ok (.aload 5, 2) := by decide +kernel
theorem dX0_distances_74 : decode cX0_distances 74 = .ok (.getfield 128, 3) := by decide +kernel
theorem dX0_distances_77 : decode cX0_distances 77 = .ok (.iaload, 1) := by decide +kernel
theorem dX0_distances_78 : decode cX0_distances 78 = .ok (.iconst (-1), 1) := by decide +kernel
theorem dX0_distances_79 : decode cX0_distances 79 = .ok (.if_icmp .ne 35, 3) := by decide +kernel
theorem dX0_distances_82 : decode cX0_distances 82 = .ok (.aload_n 0, 1) := by decide +kernel
theorem dX0_distances_83 : decode cX0_distances 83 = .ok (.getfield 28, 3) := by decide +kernel
theorem dX0_distances_86 : decode cX0_distances 86 = .ok (.aload 5, 2) := by decide +kernel
theorem dX0_distances_88 : decode cX0_distances 88 = .ok (.getfield 131, 3) := by decide +kernel
theorem dX0_distances_91 : decode cX0_distances 91 = .ok (.iaload, 1) := by decide +kernel
theorem dX0_distances_92 : decode cX0_distances 92 = .ok (.iload_n 3, 1) := by decide +kernel
theorem dX0_distances_93 : decode cX0_distances 93 = .ok (.iconst 1, 1) := by decide +kernel
theorem dX0_distances_94 : decode cX0_distances 94 = .ok (.isub, 1) := by decide +kernel
theorem dX0_distances_95 : decode cX0_distances 95 = .ok (.if_icmp .eq 6, 3) := by decide +kernel
theorem dX0_distances_98 : decode cX0_distances 98 = .ok (.goto 16, 3) := by decide +kernel
theorem dX0_distances_101 : decode cX0_distances 101 = .ok (.aload_n 0, 1) := by decide +kernel
theorem dX0_distances_102 : decode cX0_distances 102 = .ok (.getfield 28, 3) := by decide +kernel
theorem dX0_distances_105 : decode cX0_distances 105 = .ok (.aload 5, 2) := by decide +kernel
theorem dX0_distances_107 : decode cX0_distances 107 = .ok (.getfield 128, 3) := by decide +kernel
theorem dX0_distances_110 : decode cX0_distances 110 = .ok (.iload_n 3, 1) := by decide +kernel
theorem dX0_distances_111 : decode cX0_distances 111 = .ok (.iastore, 1) := by decide +kernel
theorem dX0_distances_112 : decode cX0_distances 112 = .ok (.iconst 1, 1) := by decide +kernel
theorem dX0_distances_113 : decode cX0_distances 113 = .ok (.istore_n 2, 1) := by decide +kernel
theorem dX0_distances_114 : decode cX0_distances 114 = .ok (.iinc 4 1, 3) := by decide +kernel
theorem dX0_distances_117 : decode cX0_distances 117 = .ok (.goto (-80), 3) := by decide +kernel
theorem dX0_distances_120 : decode cX0_distances 120 = .ok (.iinc 3 1, 3) := by decide +kernel
theorem dX0_distances_123 : decode cX0_distances 123 = .ok (.goto (-97), 3) := by decide +kernel
theorem dX0_distances_126 : decode cX0_distances 126 = .ok (.return_, 1) := by decide +kernel
abbrev cX0_row : ByteArray := prog_1_method_18_code
def yX0_row : MethodName := ⟨RX0, "row", "(I)I"⟩
theorem dX0_row_0 : decode cX0_row 0 = .ok (.iload_n 1, 1) := by decide +kernel
theorem dX0_row_1 : decode cX0_row 1 = .ok (.iconst 0, 1) := by decide +kernel
theorem dX0_row_2 : decode cX0_row 2 = .ok (.aload_n 0, 1) := by decide +kernel
theorem dX0_row_3 : decode cX0_row 3 = .ok (.getfield 10, 3) := by decide +kernel
theorem dX0_row_6 : decode cX0_row 6 = .ok (.getfield 190, 3) := by decide +kernel
theorem dX0_row_9 : decode cX0_row 9 = .ok (.iconst 1, 1) := by decide +kernel
theorem dX0_row_10 : decode cX0_row 10 = .ok (.isub, 1) := by decide +kernel
theorem dX0_row_11 : decode cX0_row 11 = .ok (.invokestatic 72, 3) := by decide +kernel
theorem dX0_row_14 : decode cX0_row 14 = .ok (.ifCond .eq 15, 3) := by decide +kernel
theorem dX0_row_17 : decode cX0_row 17 = .ok (.aload_n 0, 1) := by decide +kernel
theorem dX0_row_18 : decode cX0_row 18 = .ok (.getfield 10, 3) := by decide +kernel
theorem dX0_row_21 : decode cX0_row 21 = .ok (.getfield 197, 3) := by decide +kernel
theorem dX0_row_24 : decode cX0_row 24 = .ok (.iload_n 1, 1) := by decide +kernel
theorem dX0_row_25 : decode cX0_row 25 = .ok (.iaload, 1) := by decide +kernel
theorem dX0_row_26 : decode cX0_row 26 = .ok (.goto 4, 3) := by decide +kernel
theorem dX0_row_29 : decode cX0_row 29 = .ok (.iconst (-1), 1) := by decide +kernel
theorem dX0_row_30 : decode cX0_row 30 = .ok (.ireturn, 1) := by decide +kernel
abbrev cX0_net : ByteArray := prog_1_method_19_code
def yX0_net : MethodName := ⟨RX0, "net", "()I"⟩
theorem dX0_net_0 : decode cX0_net 0 = .ok (.aload_n 0, 1) := by decide +kernel
theorem dX0_net_1 : decode cX0_net 1 = .ok (.invokevirtual 200, 3) := by decide +kernel
theorem dX0_net_4 : decode cX0_net 4 = .ok (.iconst (-1), 1) := by decide +kernel
theorem dX0_net_5 : decode cX0_net 5 = .ok (.if_icmp .ne 5, 3) := by decide +kernel
theorem dX0_net_8 : decode cX0_net 8 = .ok (.iconst (-1), 1) := by decide +kernel
theorem dX0_net_9 : decode cX0_net 9 = .ok (.ireturn, 1) := by decide +kernel
theorem dX0_net_10 : decode cX0_net 10 = .ok (.aload_n 0, 1) := by decide +kernel
theorem dX0_net_11 : decode cX0_net 11 = .ok (.aload_n 0, 1) := by decide +kernel
theorem dX0_net_12 : decode cX0_net 12 = .ok (.getfield 10, 3) := by decide +kernel
theorem dX0_net_15 : decode cX0_net 15 = .ok (.getfield 197, 3) := by decide +kernel
theorem dX0_net_18 : decode cX0_net 18 = .ok (.iconst 0, 1) := by decide +kernel
theorem dX0_net_19 : decode cX0_net 19 = .ok (.iaload, 1) := by decide +kernel
theorem dX0_net_20 : decode cX0_net 20 = .ok (.invokevirtual 117, 3) := by decide +kernel
theorem dX0_net_23 : decode cX0_net 23 = .ok (.istore_n 1, 1) := by decide +kernel
theorem dX0_net_24 : decode cX0_net 24 = .ok (.iconst 1, 1) := by decide +kernel
theorem dX0_net_25 : decode cX0_net 25 = .ok (.istore_n 2, 1) := by decide +kernel
theorem dX0_net_26 : decode cX0_net 26 = .ok (.iload_n 2, 1) := by decide +kernel
theorem dX0_net_27 : decode cX0_net 27 = .ok (.aload_n 0, 1) := by decide +kernel
theorem dX0_net_28 : decode cX0_net 28 = .ok (.getfield 10, 3) := by decide +kernel
theorem dX0_net_31 : decode cX0_net 31 = .ok (.getfield 190, 3) := by decide +kernel
theorem dX0_net_34 : decode cX0_net 34 = .ok (.if_icmp .ge 27, 3) := by decide +kernel
theorem dX0_net_37 : decode cX0_net 37 = .ok (.iload_n 1, 1) := by decide +kernel
theorem dX0_net_38 : decode cX0_net 38 = .ok (.aload_n 0, 1) := by decide +kernel
theorem dX0_net_39 : decode cX0_net 39 = .ok (.aload_n 0, 1) := by decide +kernel
theorem dX0_net_40 : decode cX0_net 40 = .ok (.getfield 10, 3) := by decide +kernel
theorem dX0_net_43 : decode cX0_net 43 = .ok (.getfield 197, 3) := by decide +kernel
theorem dX0_net_46 : decode cX0_net 46 = .ok (.iload_n 2, 1) := by decide +kernel
theorem dX0_net_47 : decode cX0_net 47 = .ok (.iaload, 1) := by decide +kernel
theorem dX0_net_48 : decode cX0_net 48 = .ok (.invokevirtual 117, 3) := by decide +kernel
theorem dX0_net_51 : decode cX0_net 51 = .ok (.invokestatic 202, 3) := by decide +kernel
theorem dX0_net_54 : decode cX0_net 54 = .ok (.istore_n 1, 1) := by decide +kernel
theorem dX0_net_55 : decode cX0_net 55 = .ok (.iinc 2 1, 3) := by decide +kernel
theorem dX0_net_58 : decode cX0_net 58 = .ok (.goto (-32), 3) := by decide +kernel
theorem dX0_net_61 : decode cX0_net 61 = .ok (.iconst 0, 1) := by decide +kernel
theorem dX0_net_62 : decode cX0_net 62 = .ok (.istore_n 2, 1) := by decide +kernel
theorem dX0_net_63 : decode cX0_net 63 = .ok (.iload_n 2, 1) := by decide +kernel
theorem dX0_net_64 : decode cX0_net 64 = .ok (.aload_n 0, 1) := by decide +kernel
theorem dX0_net_65 : decode cX0_net 65 = .ok (.getfield 10, 3) := by decide +kernel
theorem dX0_net_68 : decode cX0_net 68 = .ok (.getfield 190, 3) := by decide +kernel
theorem dX0_net_71 : decode cX0_net 71 = .ok (.if_icmp .ge 33, 3) := by decide +kernel
theorem dX0_net_74 : decode cX0_net 74 = .ok (.aload_n 0, 1) := by decide +kernel
theorem dX0_net_75 : decode cX0_net 75 = .ok (.aload_n 0, 1) := by decide +kernel
theorem dX0_net_76 : decode cX0_net 76 = .ok (.getfield 10, 3) := by decide +kernel
theorem dX0_net_79 : decode cX0_net 79 = .ok (.getfield 197, 3) := by decide +kernel
theorem dX0_net_82 : decode cX0_net 82 = .ok (.iload_n 2, 1) := by decide +kernel
theorem dX0_net_83 : decode cX0_net 83 = .ok (.iaload, 1) := by decide +kernel
theorem dX0_net_84 : decode cX0_net 84 = .ok (.invokevirtual 80, 3) := by decide +kernel
theorem dX0_net_87 : decode cX0_net 87 = .ok (.iload_n 1, 1) := by decide +kernel
theorem dX0_net_88 : decode cX0_net 88 = .ok (.aload_n 0, 1) := by decide +kernel
theorem dX0_net_89 : decode cX0_net 89 = .ok (.getfield 10, 3) := by decide +kernel
theorem dX0_net_92 : decode cX0_net 92 = .ok (.getfield 88, 3) := by decide +kernel
theorem dX0_net_95 : decode cX0_net 95 = .ok (.invokevirtual 137, 3) := by decide +kernel
theorem dX0_net_98 : decode cX0_net 98 = .ok (.iinc 2 1, 3) := by decide +kernel
theorem dX0_net_101 : decode cX0_net 101 = .ok (.goto (-38), 3) := by decide +kernel
theorem dX0_net_104 : decode cX0_net 104 = .ok (.aload_n 0, 1) := by decide +kernel
theorem dX0_net_105 : decode cX0_net 105 = .ok (.invokevirtual 141, 3) := by decide +kernel
theorem dX0_net_108 : decode cX0_net 108 = .ok (.iload_n 1, 1) := by decide +kernel
theorem dX0_net_109 : decode cX0_net 109 = .ok (.ireturn, 1) := by decide +kernel
abbrev cX0_feed : ByteArray := prog_1_method_20_code
def yX0_feed : MethodName := ⟨RX0, "feed", "(IIIII)I"⟩
theorem dX0_feed_0 : decode cX0_feed 0 = .ok (.aload_n 0, 1) := by decide +kernel
theorem dX0_feed_1 : decode cX0_feed 1 = .ok (.getfield 10, 3) := by decide +kernel
theorem dX0_feed_4 : decode cX0_feed 4 = .ok (.getfield 208, 3) := by decide +kernel
theorem dX0_feed_7 : decode cX0_feed 7 = .ok (.bipush 20, 2) := by decide +kernel
theorem dX0_feed_9 : decode cX0_feed 9 = .ok (.iadd, 1) := by decide +kernel
theorem dX0_feed_10 : decode cX0_feed 10 = .ok (.sipush 600, 3) := by decide +kernel
theorem dX0_feed_13 : decode cX0_feed 13 = .ok (.if_icmp .le 5, 3) := by decide +kernel
theorem dX0_feed_16 : decode cX0_feed 16 = .ok (.iconst (-1), 1) := by decide +kernel
theorem dX0_feed_17 : decode cX0_feed 17 = .ok (.ireturn, 1) := by decide +kernel
theorem dX0_feed_18 : decode cX0_feed 18 = .ok (.iconst 0, 1) := by decide +kernel
theorem dX0_feed_19 : decode cX0_feed 19 = .ok (.istore 6, 2) := by decide +kernel
theorem dX0_feed_21 : decode cX0_feed 21 = .ok (.iload 6, 2) := by decide +kernel
theorem dX0_feed_23 : decode cX0_feed 23 = .ok (.bipush 20, 2) := by decide +kernel
theorem dX0_feed_25 : decode cX0_feed 25 = .ok (.if_icmp .ge 99, 3) := by decide +kernel
theorem dX0_feed_28 : decode cX0_feed 28 = .ok (.iload 6, 2) := by decide +kernel
theorem dX0_feed_30 : decode cX0_feed 30 = .ok (.iconst 4, 1) := by decide +kernel
theorem dX0_feed_31 : decode cX0_feed 31 = .ok (.if_icmp .ge 7, 3) := by decide +kernel
theorem dX0_feed_34 : decode cX0_feed 34 = .ok (.iload_n 1, 1) := by decide +kernel
theorem dX0_feed_35 : decode cX0_feed 35 = .ok (.goto 39, 3) := by decide +kernel
theorem dX0_feed_38 : decode cX0_feed 38 = .ok (.iload 6, 2) := by decide +kernel
theorem dX0_feed_40 : decode cX0_feed 40 = .ok (.bipush 8, 2) := by decide +kernel
theorem dX0_feed_42 : decode cX0_feed 42 = .ok (.if_icmp .ge 7, 3) := by decide +kernel
theorem dX0_feed_45 : decode cX0_feed 45 = .ok (.iload_n 2, 1) := by decide +kernel
theorem dX0_feed_46 : decode cX0_feed 46 = .ok (.goto 28, 3) := by decide +kernel
theorem dX0_feed_49 : decode cX0_feed 49 = .ok (.iload 6, 2) := by decide +kernel
theorem dX0_feed_51 : decode cX0_feed 51 = .ok (.bipush 12, 2) := by decide +kernel
theorem dX0_feed_53 : decode cX0_feed 53 = .ok (.if_icmp .ge 7, 3) := by decide +kernel
theorem dX0_feed_56 : decode cX0_feed 56 = .ok (.iload_n 3, 1) := by decide +kernel
theorem dX0_feed_57 : decode cX0_feed 57 = .ok (.goto 17, 3) := by decide +kernel
theorem dX0_feed_60 : decode cX0_feed 60 = .ok (.iload 6, 2) := by decide +kernel
theorem dX0_feed_62 : decode cX0_feed 62 = .ok (.bipush 16, 2) := by decide +kernel
theorem dX0_feed_64 : decode cX0_feed 64 = .ok (.if_icmp .ge 8, 3) := by decide +kernel
theorem dX0_feed_67 : decode cX0_feed 67 = .ok (.iload 4, 2) := by decide +kernel
theorem dX0_feed_69 : decode cX0_feed 69 = .ok (.goto 5, 3) := by decide +kernel
theorem dX0_feed_72 : decode cX0_feed 72 = .ok (.iload 5, 2) := by decide +kernel
theorem dX0_feed_74 : decode cX0_feed 74 = .ok (.istore 7, 2) := by decide +kernel
theorem dX0_feed_76 : decode cX0_feed 76 = .ok (.aload_n 0, 1) := by decide +kernel
theorem dX0_feed_77 : decode cX0_feed 77 = .ok (.getfield 10, 3) := by decide +kernel
theorem dX0_feed_80 : decode cX0_feed 80 = .ok (.getfield 211, 3) := by decide +kernel
theorem dX0_feed_83 : decode cX0_feed 83 = .ok (.aload_n 0, 1) := by decide +kernel
theorem dX0_feed_84 : decode cX0_feed 84 = .ok (.getfield 10, 3) := by decide +kernel
theorem dX0_feed_87 : decode cX0_feed 87 = .ok (.getfield 208, 3) := by decide +kernel
theorem dX0_feed_90 : decode cX0_feed 90 = .ok (.iload 7, 2) := by decide +kernel
theorem dX0_feed_92 : decode cX0_feed 92 = .ok (.bipush 24, 2) := by decide +kernel
theorem dX0_feed_94 : decode cX0_feed 94 = .ok (.bipush 8, 2) := by decide +kernel
theorem dX0_feed_96 : decode cX0_feed 96 = .ok (.iload 6, 2) := by decide +kernel
theorem dX0_feed_98 : decode cX0_feed 98 = .ok (.iconst 3, 1) := by decide +kernel
theorem dX0_feed_99 : decode cX0_feed 99 = .ok (.iand, 1) := by decide +kernel
theorem dX0_feed_100 : decode cX0_feed 100 = .ok (.imul, 1) := by decide +kernel
theorem dX0_feed_101 : decode cX0_feed 101 = .ok (.isub, 1) := by decide +kernel
theorem dX0_feed_102 : decode cX0_feed 102 = .ok (.ishr, 1) := by decide +kernel
theorem dX0_feed_103 : decode cX0_feed 103 = .ok (.i2b, 1) := by decide +kernel
theorem dX0_feed_104 : decode cX0_feed 104 = .ok (.bastore, 1) := by decide +kernel
theorem dX0_feed_105 : decode cX0_feed 105 = .ok (.aload_n 0, 1) := by decide +kernel
theorem dX0_feed_106 : decode cX0_feed 106 = .ok (.getfield 10, 3) := by decide +kernel
theorem dX0_feed_109 : decode cX0_feed 109 = .ok (.dup, 1) := by decide +kernel
theorem dX0_feed_110 : decode cX0_feed 110 = .ok (.getfield 208, 3) := by decide +kernel
theorem dX0_feed_113 : decode cX0_feed 113 = .ok (.iconst 1, 1) := by decide +kernel
theorem dX0_feed_114 : decode cX0_feed 114 = .ok (.iadd, 1) := by decide +kernel
theorem dX0_feed_115 : decode cX0_feed 115 = .ok (.putfield 208, 3) := by decide +kernel
theorem dX0_feed_118 : decode cX0_feed 118 = .ok (.iinc 6 1, 3) := by decide +kernel
theorem dX0_feed_121 : decode cX0_feed 121 = .ok (.goto (-100), 3) := by decide +kernel
theorem dX0_feed_124 : decode cX0_feed 124 = .ok (.aload_n 0, 1) := by decide +kernel
theorem dX0_feed_125 : decode cX0_feed 125 = .ok (.getfield 10, 3) := by decide +kernel
theorem dX0_feed_128 : decode cX0_feed 128 = .ok (.getfield 208, 3) := by decide +kernel
theorem dX0_feed_131 : decode cX0_feed 131 = .ok (.ireturn, 1) := by decide +kernel
abbrev cX0_end : ByteArray := prog_1_method_21_code
def yX0_end : MethodName := ⟨RX0, "end", "(I)I"⟩
theorem dX0_end_0 : decode cX0_end 0 = .ok (.iload_n 1, 1) := by decide +kernel
theorem dX0_end_1 : decode cX0_end 1 = .ok (.ifCond .lt 14, 3) := by decide +kernel
theorem dX0_end_4 : decode cX0_end 4 = .ok (.iload_n 1, 1) := by decide +kernel
theorem dX0_end_5 : decode cX0_end 5 = .ok (.aload_n 0, 1) := by decide +kernel
theorem dX0_end_6 : decode cX0_end 6 = .ok (.getfield 10, 3) := by decide +kernel
theorem dX0_end_9 : decode cX0_end 9 = .ok (.getfield 208, 3) := by decide +kernel
theorem dX0_end_12 : decode cX0_end 12 = .ok (.if_icmp .le 5, 3) := by decide +kernel
theorem dX0_end_15 : decode cX0_end 15 = .ok (.iconst (-1), 1) := by decide +kernel
theorem dX0_end_16 : decode cX0_end 16 = .ok (.ireturn, 1) := by decide +kernel
theorem dX0_end_17 : decode cX0_end 17 = .ok (.aload_n 0, 1) := by decide +kernel
theorem dX0_end_18 : decode cX0_end 18 = .ok (.getfield 10, 3) := by decide +kernel
theorem dX0_end_21 : decode cX0_end 21 = .ok (.iload_n 1, 1) := by decide +kernel
theorem dX0_end_22 : decode cX0_end 22 = .ok (.putfield 208, 3) := by decide +kernel
theorem dX0_end_25 : decode cX0_end 25 = .ok (.iload_n 1, 1) := by decide +kernel
theorem dX0_end_26 : decode cX0_end 26 = .ok (.ireturn, 1) := by decide +kernel
abbrev cX0_act : ByteArray := prog_1_method_23_code
def yX0_act : MethodName := ⟨RX0, "act", "(I)I"⟩
theorem dX0_act_0 : decode cX0_act 0 = .ok (.aload_n 0, 1) := by decide +kernel
theorem dX0_act_1 : decode cX0_act 1 = .ok (.getfield 10, 3) := by decide +kernel
theorem dX0_act_4 : decode cX0_act 4 = .ok (.getfield 208, 3) := by decide +kernel
theorem dX0_act_7 : decode cX0_act 7 = .ok (.istore_n 2, 1) := by decide +kernel
theorem dX0_act_8 : decode cX0_act 8 = .ok (.aload_n 0, 1) := by decide +kernel
theorem dX0_act_9 : decode cX0_act 9 = .ok (.getfield 10, 3) := by decide +kernel
theorem dX0_act_12 : decode cX0_act 12 = .ok (.iconst 0, 1) := by decide +kernel
theorem dX0_act_13 : decode cX0_act 13 = .ok (.putfield 208, 3) := by decide +kernel
theorem dX0_act_16 : decode cX0_act 16 = .ok (.aload_n 0, 1) := by decide +kernel
theorem dX0_act_17 : decode cX0_act 17 = .ok (.getfield 10, 3) := by decide +kernel
theorem dX0_act_20 : decode cX0_act 20 = .ok (.iconst 0, 1) := by decide +kernel
theorem dX0_act_21 : decode cX0_act 21 = .ok (.putfield 215, 3) := by decide +kernel
theorem dX0_act_24 : decode cX0_act 24 = .ok (.aload_n 0, 1) := by decide +kernel
theorem dX0_act_25 : decode cX0_act 25 = .ok (.getfield 10, 3) := by decide +kernel
theorem dX0_act_28 : decode cX0_act 28 = .ok (.iconst (-1), 1) := by decide +kernel
theorem dX0_act_29 : decode cX0_act 29 = .ok (.putfield 218, 3) := by decide +kernel
theorem dX0_act_32 : decode cX0_act 32 = .ok (.aload_n 0, 1) := by decide +kernel
theorem dX0_act_33 : decode cX0_act 33 = .ok (.getfield 10, 3) := by decide +kernel
theorem dX0_act_36 : decode cX0_act 36 = .ok (.getfield 221, 3) := by decide +kernel
theorem dX0_act_39 : decode cX0_act 39 = .ok (.invokevirtual 68, 3) := by decide +kernel
theorem dX0_act_42 : decode cX0_act 42 = .ok (.iconst 4, 1) := by decide +kernel
theorem dX0_act_43 : decode cX0_act 43 = .ok (.if_icmp .eq 10, 3) := by decide +kernel
theorem dX0_act_46 : decode cX0_act 46 = .ok (.iload_n 1, 1) := by decide +kernel
theorem dX0_act_47 : decode cX0_act 47 = .ok (.invokestatic 224, 3) := by decide +kernel
theorem dX0_act_50 : decode cX0_act 50 = .ok (.ifCond .ne 6, 3) := by decide +kernel
theorem dX0_act_53 : decode cX0_act 53 = .ok (.bipush (-2), 2) := by decide +kernel
theorem dX0_act_55 : decode cX0_act 55 = .ok (.ireturn, 1) := by decide +kernel
theorem dX0_act_56 : decode cX0_act 56 = .ok (.aload_n 0, 1) := by decide +kernel
theorem dX0_act_57 : decode cX0_act 57 = .ok (.getfield 10, 3) := by decide +kernel
theorem dX0_act_60 : decode cX0_act 60 = .ok (.getfield 221, 3) := by decide +kernel
theorem dX0_act_63 : decode cX0_act 63 = .ok (.new 227, 3) := by decide +kernel
theorem dX0_act_66 : decode cX0_act 66 = .ok (.dup, 1) := by decide +kernel
theorem dX0_act_67 : decode cX0_act 67 = .ok (.iload_n 1, 1) := by decide +kernel
theorem dX0_act_68 : decode cX0_act 68 = .ok (.aload_n 0, 1) := by decide +kernel
theorem dX0_act_69 : decode cX0_act 69 = .ok (.getfield 10, 3) := by decide +kernel
theorem dX0_act_72 : decode cX0_act 72 = .ok (.getfield 88, 3) := by decide +kernel
theorem dX0_act_75 : decode cX0_act 75 = .ok (.new 229, 3) := by decide +kernel
theorem dX0_act_78 : decode cX0_act 78 = .ok (.dup, 1) := by decide +kernel
theorem dX0_act_79 : decode cX0_act 79 = .ok (.aload_n 0, 1) := by decide +kernel
theorem dX0_act_80 : decode cX0_act 80 = .ok (.getfield 10, 3) := by decide +kernel
theorem dX0_act_83 : decode cX0_act 83 = .ok (.getfield 211, 3) := by decide +kernel
theorem dX0_act_86 : decode cX0_act 86 = .ok (.iload_n 2, 1) := by decide +kernel
theorem dX0_act_87 : decode cX0_act 87 = .ok (.invokespecial 231, 3) := by decide +kernel
theorem dX0_act_90 : decode cX0_act 90 = .ok (.invokevirtual 234, 3) := by decide +kernel
theorem dX0_act_93 : decode cX0_act 93 = .ok (.invokespecial 238, 3) := by decide +kernel
theorem dX0_act_96 : decode cX0_act 96 = .ok (.invokevirtual 100, 3) := by decide +kernel
theorem dX0_act_99 : decode cX0_act 99 = .ok (.pop, 1) := by decide +kernel
theorem dX0_act_100 : decode cX0_act 100 = .ok (.aload_n 0, 1) := by decide +kernel
theorem dX0_act_101 : decode cX0_act 101 = .ok (.getfield 10, 3) := by decide +kernel
theorem dX0_act_104 : decode cX0_act 104 = .ok (.getfield 221, 3) := by decide +kernel
theorem dX0_act_107 : decode cX0_act 107 = .ok (.invokevirtual 68, 3) := by decide +kernel
theorem dX0_act_110 : decode cX0_act 110 = .ok (.iconst 1, 1) := by decide +kernel
theorem dX0_act_111 : decode cX0_act 111 = .ok (.isub, 1) := by decide +kernel
theorem dX0_act_112 : decode cX0_act 112 = .ok (.ireturn, 1) := by decide +kernel
theorem dX0_act_113 : decode cX0_act 113 = .ok (.astore_n 3, 1) := by decide +kernel
theorem dX0_act_114 : decode cX0_act 114 = .ok (.aload_n 0, 1) := by decide +kernel
theorem dX0_act_115 : decode cX0_act 115 = .ok (.getfield 10, 3) := by decide +kernel
theorem dX0_act_118 : decode cX0_act 118 = .ok (.aload_n 3, 1) := by decide +kernel
theorem dX0_act_119 : decode cX0_act 119 = .ok (.getfield 243, 3) := by decide +kernel
theorem dX0_act_122 : decode cX0_act 122 = .ok (.putfield 215, 3) := by decide +kernel
theorem dX0_act_125 : decode cX0_act 125 = .ok (.aload_n 0, 1) := by decide +kernel
theorem dX0_act_126 : decode cX0_act 126 = .ok (.getfield 10, 3) := by decide +kernel
theorem dX0_act_129 : decode cX0_act 129 = .ok (.aload_n 3, 1) := by decide +kernel
theorem dX0_act_130 : decode cX0_act 130 = .ok (.getfield 246, 3) := by decide +kernel
theorem dX0_act_133 : decode cX0_act 133 = .ok (.putfield 218, 3) := by decide +kernel
theorem dX0_act_136 : decode cX0_act 136 = .ok (.iconst (-1), 1) := by decide +kernel
theorem dX0_act_137 : decode cX0_act 137 = .ok (.ireturn, 1) := by decide +kernel
abbrev cX0_isDay : ByteArray := prog_1_method_22_code
def yX0_isDay : MethodName := ⟨RX0, "isDay", "(I)Z"⟩
theorem dX0_isDay_0 : decode cX0_isDay 0 = .ok (.iload_n 0, 1) := by decide +kernel
theorem dX0_isDay_1 : decode cX0_isDay 1 = .ok (.iconst 0, 1) := by decide +kernel
theorem dX0_isDay_2 : decode cX0_isDay 2 = .ok (.sipush 9999, 3) := by decide +kernel
theorem dX0_isDay_5 : decode cX0_isDay 5 = .ok (.invokestatic 72, 3) := by decide +kernel
theorem dX0_isDay_8 : decode cX0_isDay 8 = .ok (.ireturn, 1) := by decide +kernel
abbrev cX0_fault : ByteArray := prog_1_method_24_code
def yX0_fault : MethodName := ⟨RX0, "fault", "(I)I"⟩
theorem dX0_fault_0 : decode cX0_fault 0 = .ok (.iload_n 1, 1) := by decide +kernel
theorem dX0_fault_1 : decode cX0_fault 1 = .ok (.ifCond .ne 13, 3) := by decide +kernel
theorem dX0_fault_4 : decode cX0_fault 4 = .ok (.aload_n 0, 1) := by decide +kernel
theorem dX0_fault_5 : decode cX0_fault 5 = .ok (.getfield 10, 3) := by decide +kernel
theorem dX0_fault_8 : decode cX0_fault 8 = .ok (.getfield 215, 3) := by decide +kernel
theorem dX0_fault_11 : decode cX0_fault 11 = .ok (.goto 19, 3) := by decide +kernel
theorem dX0_fault_14 : decode cX0_fault 14 = .ok (.iload_n 1, 1) := by decide +kernel
theorem dX0_fault_15 : decode cX0_fault 15 = .ok (.iconst 1, 1) := by decide +kernel
theorem dX0_fault_16 : decode cX0_fault 16 = .ok (.if_icmp .ne 13, 3) := by decide +kernel
theorem dX0_fault_19 : decode cX0_fault 19 = .ok (.aload_n 0, 1) := by decide +kernel
theorem dX0_fault_20 : decode cX0_fault 20 = .ok (.getfield 10, 3) := by decide +kernel
theorem dX0_fault_23 : decode cX0_fault 23 = .ok (.getfield 218, 3) := by decide +kernel
theorem dX0_fault_26 : decode cX0_fault 26 = .ok (.goto 4, 3) := by decide +kernel
theorem dX0_fault_29 : decode cX0_fault 29 = .ok (.iconst (-1), 1) := by decide +kernel
theorem dX0_fault_30 : decode cX0_fault 30 = .ok (.ireturn, 1) := by decide +kernel
abbrev cX0_good : ByteArray := prog_1_method_25_code
def yX0_good : MethodName := ⟨RX0, "good", "(II)I"⟩
theorem dX0_good_0 : decode cX0_good 0 = .ok (.iconst (-1), 1) := by decide +kernel
theorem dX0_good_1 : decode cX0_good 1 = .ok (.istore_n 3, 1) := by decide +kernel
theorem dX0_good_2 : decode cX0_good 2 = .ok (.iconst 0, 1) := by decide +kernel
theorem dX0_good_3 : decode cX0_good 3 = .ok (.istore 4, 2) := by decide +kernel
theorem dX0_good_5 : decode cX0_good 5 = .ok (.iload 4, 2) := by decide +kernel
theorem dX0_good_7 : decode cX0_good 7 = .ok (.aload_n 0, 1) := by decide +kernel
theorem dX0_good_8 : decode cX0_good 8 = .ok (.getfield 10, 3) := by decide +kernel
theorem dX0_good_11 : decode cX0_good 11 = .ok (.getfield 221, 3) := by decide +kernel
theorem dX0_good_14 : decode cX0_good 14 = .ok (.invokevirtual 68, 3) := by decide +kernel
theorem dX0_good_17 : decode cX0_good 17 = .ok (.if_icmp .ge 70, 3) := by decide +kernel
theorem dX0_good_20 : decode cX0_good 20 = .ok (.iload_n 1, 1) := by decide +kernel
theorem dX0_good_21 : decode cX0_good 21 = .ok (.invokestatic 224, 3) := by decide +kernel
theorem dX0_good_24 : decode cX0_good 24 = .ok (.ifCond .eq 63, 3) := by decide +kernel
theorem dX0_good_27 : decode cX0_good 27 = .ok (.iload_n 2, 1) := by decide +kernel
theorem dX0_good_28 : decode cX0_good 28 = .ok (.invokestatic 224, 3) := by decide +kernel
theorem dX0_good_31 : decode cX0_good 31 = .ok (.ifCond .eq 56, 3) := by decide +kernel
theorem dX0_good_34 : decode cX0_good 34 = .ok (.aload_n 0, 1) := by decide +kernel
theorem dX0_good_35 : decode cX0_good 35 = .ok (.getfield 10, 3) := by decide +kernel
theorem dX0_good_38 : decode cX0_good 38 = .ok (.getfield 221, 3) := by decide +kernel
theorem dX0_good_41 : decode cX0_good 41 = .ok (.iload 4, 2) := by decide +kernel
theorem dX0_good_43 : decode cX0_good 43 = .ok (.invokevirtual 55, 3) := by decide +kernel
theorem dX0_good_46 : decode cX0_good 46 = .ok (.checkcast 227, 3) := by decide +kernel
theorem dX0_good_49 : decode cX0_good 49 = .ok (.getfield 249, 3) := by decide +kernel
theorem dX0_good_52 : decode cX0_good 52 = .ok (.iload_n 1, 1) := by decide +kernel
theorem dX0_good_53 : decode cX0_good 53 = .ok (.if_icmp .gt 28, 3) := by decide +kernel
theorem dX0_good_56 : decode cX0_good 56 = .ok (.aload_n 0, 1) := by decide +kernel
theorem dX0_good_57 : decode cX0_good 57 = .ok (.getfield 10, 3) := by decide +kernel
theorem dX0_good_60 : decode cX0_good 60 = .ok (.getfield 221, 3) := by decide +kernel
theorem dX0_good_63 : decode cX0_good 63 = .ok (.iload 4, 2) := by decide +kernel
theorem dX0_good_65 : decode cX0_good 65 = .ok (.invokevirtual 55, 3) := by decide +kernel
theorem dX0_good_68 : decode cX0_good 68 = .ok (.checkcast 227, 3) := by decide +kernel
theorem dX0_good_71 : decode cX0_good 71 = .ok (.getfield 252, 3) := by decide +kernel
theorem dX0_good_74 : decode cX0_good 74 = .ok (.iload_n 2, 1) := by decide +kernel
theorem dX0_good_75 : decode cX0_good 75 = .ok (.if_icmp .gt 6, 3) := by decide +kernel
theorem dX0_good_78 : decode cX0_good 78 = .ok (.iload 4, 2) := by decide +kernel
theorem dX0_good_80 : decode cX0_good 80 = .ok (.istore_n 3, 1) := by decide +kernel
theorem dX0_good_81 : decode cX0_good 81 = .ok (.iinc 4 1, 3) := by decide +kernel
theorem dX0_good_84 : decode cX0_good 84 = .ok (.goto (-79), 3) := by decide +kernel
theorem dX0_good_87 : decode cX0_good 87 = .ok (.iload_n 3, 1) := by decide +kernel
theorem dX0_good_88 : decode cX0_good 88 = .ok (.ireturn, 1) := by decide +kernel
abbrev cX0_tells : ByteArray := prog_1_method_30_code
def yX0_tells : MethodName := ⟨RX0, "tells", "(III)I"⟩
theorem dX0_tells_0 : decode cX0_tells 0 = .ok (.aload_n 0, 1) := by decide +kernel
theorem dX0_tells_1 : decode cX0_tells 1 = .ok (.iload_n 1, 1) := by decide +kernel
theorem dX0_tells_2 : decode cX0_tells 2 = .ok (.invokevirtual 76, 3) := by decide +kernel
theorem dX0_tells_5 : decode cX0_tells 5 = .ok (.ifCond .eq 37, 3) := by decide +kernel
theorem dX0_tells_8 : decode cX0_tells 8 = .ok (.iload_n 2, 1) := by decide +kernel
theorem dX0_tells_9 : decode cX0_tells 9 = .ok (.iconst 0, 1) := by decide +kernel
theorem dX0_tells_10 : decode cX0_tells 10 = .ok (.getstatic 318, 3) := by decide +kernel
theorem dX0_tells_13 : decode cX0_tells 13 = .ok (.arraylength, 1) := by decide +kernel
theorem dX0_tells_14 : decode cX0_tells 14 = .ok (.iconst 1, 1) := by decide +kernel
theorem dX0_tells_15 : decode cX0_tells 15 = .ok (.isub, 1) := by decide +kernel
theorem dX0_tells_16 : decode cX0_tells 16 = .ok (.invokestatic 72, 3) := by decide +kernel
theorem dX0_tells_19 : decode cX0_tells 19 = .ok (.ifCond .eq 23, 3) := by decide +kernel
theorem dX0_tells_22 : decode cX0_tells 22 = .ok (.iload_n 3, 1) := by decide +kernel
theorem dX0_tells_23 : decode cX0_tells 23 = .ok (.iconst (-1), 1) := by decide +kernel
theorem dX0_tells_24 : decode cX0_tells 24 = .ok (.aload_n 0, 1) := by decide +kernel
theorem dX0_tells_25 : decode cX0_tells 25 = .ok (.getfield 10, 3) := by decide +kernel
theorem dX0_tells_28 : decode cX0_tells 28 = .ok (.getfield 221, 3) := by decide +kernel
theorem dX0_tells_31 : decode cX0_tells 31 = .ok (.invokevirtual 68, 3) := by decide +kernel
theorem dX0_tells_34 : decode cX0_tells 34 = .ok (.iconst 1, 1) := by decide +kernel
theorem dX0_tells_35 : decode cX0_tells 35 = .ok (.isub, 1) := by decide +kernel
theorem dX0_tells_36 : decode cX0_tells 36 = .ok (.invokestatic 72, 3) := by decide +kernel
theorem dX0_tells_39 : decode cX0_tells 39 = .ok (.ifCond .ne 5, 3) := by decide +kernel
theorem dX0_tells_42 : decode cX0_tells 42 = .ok (.iconst (-1), 1) := by decide +kernel
theorem dX0_tells_43 : decode cX0_tells 43 = .ok (.ireturn, 1) := by decide +kernel
theorem dX0_tells_44 : decode cX0_tells 44 = .ok (.aload_n 0, 1) := by decide +kernel
theorem dX0_tells_45 : decode cX0_tells 45 = .ok (.aload_n 0, 1) := by decide +kernel
theorem dX0_tells_46 : decode cX0_tells 46 = .ok (.iload_n 1, 1) := by decide +kernel
theorem dX0_tells_47 : decode cX0_tells 47 = .ok (.invokevirtual 118, 3) := by decide +kernel
theorem dX0_tells_50 : decode cX0_tells 50 = .ok (.invokevirtual 309, 3) := by decide +kernel
theorem dX0_tells_53 : decode cX0_tells 53 = .ok (.aload_n 0, 1) := by decide +kernel
theorem dX0_tells_54 : decode cX0_tells 54 = .ok (.getstatic 318, 3) := by decide +kernel
theorem dX0_tells_57 : decode cX0_tells 57 = .ok (.iload_n 2, 1) := by decide +kernel
theorem dX0_tells_58 : decode cX0_tells 58 = .ok (.aaload, 1) := by decide +kernel
theorem dX0_tells_59 : decode cX0_tells 59 = .ok (.iload_n 3, 1) := by decide +kernel
theorem dX0_tells_60 : decode cX0_tells 60 = .ok (.iconst (-1), 1) := by decide +kernel
theorem dX0_tells_61 : decode cX0_tells 61 = .ok (.if_icmp .ne 24, 3) := by decide +kernel
theorem dX0_tells_64 : decode cX0_tells 64 = .ok (.aload_n 0, 1) := by decide +kernel
theorem dX0_tells_65 : decode cX0_tells 65 = .ok (.aload_n 0, 1) := by decide +kernel
theorem dX0_tells_66 : decode cX0_tells 66 = .ok (.getfield 10, 3) := by decide +kernel
theorem dX0_tells_69 : decode cX0_tells 69 = .ok (.getfield 88, 3) := by decide +kernel
theorem dX0_tells_72 : decode cX0_tells 72 = .ok (.aload_n 0, 1) := by decide +kernel
theorem dX0_tells_73 : decode cX0_tells 73 = .ok (.getfield 10, 3) := by decide +kernel
theorem dX0_tells_76 : decode cX0_tells 76 = .ok (.getfield 88, 3) := by decide +kernel
theorem dX0_tells_79 : decode cX0_tells 79 = .ok (.invokevirtual 312, 3) := by decide +kernel
theorem dX0_tells_82 : decode cX0_tells 82 = .ok (.goto 4, 3) := by decide +kernel
theorem dX0_tells_85 : decode cX0_tells 85 = .ok (.iload_n 3, 1) := by decide +kernel
theorem dX0_tells_86 : decode cX0_tells 86 = .ok (.invokevirtual 315, 3) := by decide +kernel
theorem dX0_tells_89 : decode cX0_tells 89 = .ok (.ireturn, 1) := by decide +kernel
abbrev cX0_asks : ByteArray := prog_1_method_27_code
def yX0_asks : MethodName := ⟨RX0, "asks", "(LDebtorsHouse$Person;)V"⟩
theorem dX0_asks_0 : decode cX0_asks 0 = .ok (.iconst 0, 1) := by decide +kernel
theorem dX0_asks_1 : decode cX0_asks 1 = .ok (.istore_n 2, 1) := by decide +kernel
theorem dX0_asks_2 : decode cX0_asks 2 = .ok (.iconst 0, 1) := by decide +kernel
theorem dX0_asks_3 : decode cX0_asks 3 = .ok (.istore_n 3, 1) := by decide +kernel
theorem dX0_asks_4 : decode cX0_asks 4 = .ok (.bipush 9, 2) := by decide +kernel
theorem dX0_asks_6 : decode cX0_asks 6 = .ok (.istore 4, 2) := by decide +kernel
theorem dX0_asks_8 : decode cX0_asks 8 = .ok (.iconst 0, 1) := by decide +kernel
theorem dX0_asks_9 : decode cX0_asks 9 = .ok (.istore 5, 2) := by decide +kernel
theorem dX0_asks_11 : decode cX0_asks 11 = .ok (.iload 5, 2) := by decide +kernel
theorem dX0_asks_13 : decode cX0_asks 13 = .ok (.aload_n 0, 1) := by decide +kernel
theorem dX0_asks_14 : decode cX0_asks 14 = .ok (.getfield 10, 3) := by decide +kernel
theorem dX0_asks_17 : decode cX0_asks 17 = .ok (.getfield 63, 3) := by decide +kernel
theorem dX0_asks_20 : decode cX0_asks 20 = .ok (.invokevirtual 68, 3) := by decide +kernel
theorem dX0_asks_23 : decode cX0_asks 23 = .ok (.if_icmp .ge 70, 3) := by decide +kernel
theorem dX0_asks_26 : decode cX0_asks 26 = .ok (.aload_n 0, 1) := by decide +kernel
theorem dX0_asks_27 : decode cX0_asks 27 = .ok (.iload 5, 2) := by decide +kernel
theorem dX0_asks_29 : decode cX0_asks 29 = .ok (.invokevirtual 80, 3) := by decide +kernel
theorem dX0_asks_32 : decode cX0_asks 32 = .ok (.astore 6, 2) := by decide +kernel
theorem dX0_asks_34 : decode cX0_asks 34 = .ok (.aload 6, 2) := by decide +kernel
theorem dX0_asks_36 : decode cX0_asks 36 = .ok (.invokevirtual 84, 3) := by decide +kernel
theorem dX0_asks_39 : decode cX0_asks 39 = .ok (.ifCond .eq 48, 3) := by decide +kernel
theorem dX0_asks_42 : decode cX0_asks 42 = .ok (.aload 6, 2) := by decide +kernel
theorem dX0_asks_44 : decode cX0_asks 44 = .ok (.getfield 128, 3) := by decide +kernel
theorem dX0_asks_47 : decode cX0_asks 47 = .ok (.aload_n 1, 1) := by decide +kernel
theorem dX0_asks_48 : decode cX0_asks 48 = .ok (.getfield 256, 3) := by decide +kernel
theorem dX0_asks_51 : decode cX0_asks 51 = .ok (.if_icmp .eq 6, 3) := by decide +kernel
theorem dX0_asks_54 : decode cX0_asks 54 = .ok (.goto 33, 3) := by decide +kernel
theorem dX0_asks_57 : decode cX0_asks 57 = .ok (.iload_n 2, 1) := by decide +kernel
theorem dX0_asks_58 : decode cX0_asks 58 = .ok (.aload 6, 2) := by decide +kernel
theorem dX0_asks_60 : decode cX0_asks 60 = .ok (.aload_n 0, 1) := by decide +kernel
theorem dX0_asks_61 : decode cX0_asks 61 = .ok (.getfield 10, 3) := by decide +kernel
theorem dX0_asks_64 : decode cX0_asks 64 = .ok (.getfield 88, 3) := by decide +kernel
theorem dX0_asks_67 : decode cX0_asks 67 = .ok (.invokevirtual 92, 3) := by decide +kernel
theorem dX0_asks_70 : decode cX0_asks 70 = .ok (.iadd, 1) := by decide +kernel
theorem dX0_asks_71 : decode cX0_asks 71 = .ok (.istore_n 2, 1) := by decide +kernel
theorem dX0_asks_72 : decode cX0_asks 72 = .ok (.iinc 3 1, 3) := by decide +kernel
theorem dX0_asks_75 : decode cX0_asks 75 = .ok (.iload 4, 2) := by decide +kernel
theorem dX0_asks_77 : decode cX0_asks 77 = .ok (.aload 6, 2) := by decide +kernel
theorem dX0_asks_79 : decode cX0_asks 79 = .ok (.getfield 147, 3) := by decide +kernel
theorem dX0_asks_82 : decode cX0_asks 82 = .ok (.invokestatic 202, 3) := by decide +kernel
theorem dX0_asks_85 : decode cX0_asks 85 = .ok (.istore 4, 2) := by decide +kernel
theorem dX0_asks_87 : decode cX0_asks 87 = .ok (.iinc 5 1, 3) := by decide +kernel
theorem dX0_asks_90 : decode cX0_asks 90 = .ok (.goto (-79), 3) := by decide +kernel
theorem dX0_asks_93 : decode cX0_asks 93 = .ok (.aload_n 0, 1) := by decide +kernel
theorem dX0_asks_94 : decode cX0_asks 94 = .ok (.getstatic 259, 3) := by decide +kernel
theorem dX0_asks_97 : decode cX0_asks 97 = .ok (.iload_n 2, 1) := by decide +kernel
theorem dX0_asks_98 : decode cX0_asks 98 = .ok (.invokevirtual 263, 3) := by decide +kernel
theorem dX0_asks_101 : decode cX0_asks 101 = .ok (.aload_n 0, 1) := by decide +kernel
theorem dX0_asks_102 : decode cX0_asks 102 = .ok (.getstatic 266, 3) := by decide +kernel
theorem dX0_asks_105 : decode cX0_asks 105 = .ok (.iload_n 3, 1) := by decide +kernel
theorem dX0_asks_106 : decode cX0_asks 106 = .ok (.invokevirtual 263, 3) := by decide +kernel
theorem dX0_asks_109 : decode cX0_asks 109 = .ok (.aload_n 0, 1) := by decide +kernel
theorem dX0_asks_110 : decode cX0_asks 110 = .ok (.getstatic 269, 3) := by decide +kernel
theorem dX0_asks_113 : decode cX0_asks 113 = .ok (.iload 4, 2) := by decide +kernel
theorem dX0_asks_115 : decode cX0_asks 115 = .ok (.invokevirtual 263, 3) := by decide +kernel
theorem dX0_asks_118 : decode cX0_asks 118 = .ok (.aload_n 0, 1) := by decide +kernel
theorem dX0_asks_119 : decode cX0_asks 119 = .ok (.getstatic 272, 3) := by decide +kernel
theorem dX0_asks_122 : decode cX0_asks 122 = .ok (.aload_n 1, 1) := by decide +kernel
theorem dX0_asks_123 : decode cX0_asks 123 = .ok (.invokevirtual 275, 3) := by decide +kernel
theorem dX0_asks_126 : decode cX0_asks 126 = .ok (.ifCond .eq 18, 3) := by decide +kernel
theorem dX0_asks_129 : decode cX0_asks 129 = .ok (.aload_n 0, 1) := by decide +kernel
theorem dX0_asks_130 : decode cX0_asks 130 = .ok (.getfield 10, 3) := by decide +kernel
theorem dX0_asks_133 : decode cX0_asks 133 = .ok (.getfield 88, 3) := by decide +kernel
theorem dX0_asks_136 : decode cX0_asks 136 = .ok (.aload_n 1, 1) := by decide +kernel
theorem dX0_asks_137 : decode cX0_asks 137 = .ok (.getfield 278, 3) := by decide +kernel
theorem dX0_asks_140 : decode cX0_asks 140 = .ok (.isub, 1) := by decide +kernel
theorem dX0_asks_141 : decode cX0_asks 141 = .ok (.goto 4, 3) := by decide +kernel
theorem dX0_asks_144 : decode cX0_asks 144 = .ok (.iconst 0, 1) := by decide +kernel
theorem dX0_asks_145 : decode cX0_asks 145 = .ok (.invokevirtual 263, 3) := by decide +kernel
theorem dX0_asks_148 : decode cX0_asks 148 = .ok (.aload_n 0, 1) := by decide +kernel
theorem dX0_asks_149 : decode cX0_asks 149 = .ok (.getstatic 279, 3) := by decide +kernel
theorem dX0_asks_152 : decode cX0_asks 152 = .ok (.aload_n 1, 1) := by decide +kernel
theorem dX0_asks_153 : decode cX0_asks 153 = .ok (.getfield 282, 3) := by decide +kernel
theorem dX0_asks_156 : decode cX0_asks 156 = .ok (.invokevirtual 263, 3) := by decide +kernel
theorem dX0_asks_159 : decode cX0_asks 159 = .ok (.aload_n 0, 1) := by decide +kernel
theorem dX0_asks_160 : decode cX0_asks 160 = .ok (.getstatic 285, 3) := by decide +kernel
theorem dX0_asks_163 : decode cX0_asks 163 = .ok (.aload_n 1, 1) := by decide +kernel
theorem dX0_asks_164 : decode cX0_asks 164 = .ok (.getfield 288, 3) := by decide +kernel
theorem dX0_asks_167 : decode cX0_asks 167 = .ok (.invokevirtual 263, 3) := by decide +kernel
theorem dX0_asks_170 : decode cX0_asks 170 = .ok (.aload_n 0, 1) := by decide +kernel
theorem dX0_asks_171 : decode cX0_asks 171 = .ok (.getstatic 291, 3) := by decide +kernel
theorem dX0_asks_174 : decode cX0_asks 174 = .ok (.aload_n 0, 1) := by decide +kernel
theorem dX0_asks_175 : decode cX0_asks 175 = .ok (.getfield 10, 3) := by decide +kernel
theorem dX0_asks_178 : decode cX0_asks 178 = .ok (.getfield 294, 3) := by decide +kernel
theorem dX0_asks_181 : decode cX0_asks 181 = .ok (.invokevirtual 263, 3) := by decide +kernel
theorem dX0_asks_184 : decode cX0_asks 184 = .ok (.aload_n 0, 1) := by decide +kernel
theorem dX0_asks_185 : decode cX0_asks 185 = .ok (.getstatic 297, 3) := by decide +kernel
theorem dX0_asks_188 : decode cX0_asks 188 = .ok (.aload_n 1, 1) := by decide +kernel
theorem dX0_asks_189 : decode cX0_asks 189 = .ok (.getfield 134, 3) := by decide +kernel
theorem dX0_asks_192 : decode cX0_asks 192 = .ok (.invokevirtual 263, 3) := by decide +kernel
theorem dX0_asks_195 : decode cX0_asks 195 = .ok (.return_, 1) := by decide +kernel
abbrev cX0_asks_2 : ByteArray := prog_1_method_26_code
def yX0_asks_2 : MethodName := ⟨RX0, "asks", "(LDebtorsHouse$About;I)V"⟩
theorem dX0_asks_2_0 : decode cX0_asks_2 0 = .ok (.aload_n 0, 1) := by decide +kernel
theorem dX0_asks_2_1 : decode cX0_asks_2 1 = .ok (.getfield 24, 3) := by decide +kernel
theorem dX0_asks_2_4 : decode cX0_asks_2 4 = .ok (.aload_n 1, 1) := by decide +kernel
theorem dX0_asks_2_5 : decode cX0_asks_2 5 = .ok (.invokevirtual 253, 3) := by decide +kernel
theorem dX0_asks_2_8 : decode cX0_asks_2 8 = .ok (.iload_n 2, 1) := by decide +kernel
theorem dX0_asks_2_9 : decode cX0_asks_2 9 = .ok (.iastore, 1) := by decide +kernel
theorem dX0_asks_2_10 : decode cX0_asks_2 10 = .ok (.return_, 1) := by decide +kernel
abbrev cX0_tells_2 : ByteArray := prog_1_method_28_code
def yX0_tells_2 : MethodName := ⟨RX0, "tells", "(LDebtorsHouse$Topic;I)I"⟩
theorem dX0_tells_2_0 : decode cX0_tells_2 0 = .ok (.iload_n 2, 1) := by decide +kernel
theorem dX0_tells_2_1 : decode cX0_tells_2 1 = .ok (.iconst (-1), 1) := by decide +kernel
theorem dX0_tells_2_2 : decode cX0_tells_2 2 = .ok (.if_icmp .ne 10, 3) := by decide +kernel
theorem dX0_tells_2_5 : decode cX0_tells_2 5 = .ok (.aload_n 1, 1) := by decide +kernel
theorem dX0_tells_2_6 : decode cX0_tells_2 6 = .ok (.getfield 300, 3) := by decide +kernel
theorem dX0_tells_2_9 : decode cX0_tells_2 9 = .ok (.goto 25, 3) := by decide +kernel
theorem dX0_tells_2_12 : decode cX0_tells_2 12 = .ok (.aload_n 0, 1) := by decide +kernel
theorem dX0_tells_2_13 : decode cX0_tells_2 13 = .ok (.getfield 10, 3) := by decide +kernel
theorem dX0_tells_2_16 : decode cX0_tells_2 16 = .ok (.getfield 221, 3) := by decide +kernel
theorem dX0_tells_2_19 : decode cX0_tells_2 19 = .ok (.iload_n 2, 1) := by decide +kernel
theorem dX0_tells_2_20 : decode cX0_tells_2 20 = .ok (.invokevirtual 55, 3) := by decide +kernel
theorem dX0_tells_2_23 : decode cX0_tells_2 23 = .ok (.checkcast 227, 3) := by decide +kernel
theorem dX0_tells_2_26 : decode cX0_tells_2 26 = .ok (.aload_n 1, 1) := by decide +kernel
theorem dX0_tells_2_27 : decode cX0_tells_2 27 = .ok (.aload_n 0, 1) := by decide +kernel
theorem dX0_tells_2_28 : decode cX0_tells_2 28 = .ok (.getfield 24, 3) := by decide +kernel
theorem dX0_tells_2_31 : decode cX0_tells_2 31 = .ok (.invokevirtual 305, 3) := by decide +kernel
theorem dX0_tells_2_34 : decode cX0_tells_2 34 = .ok (.ireturn, 1) := by decide +kernel
abbrev cX0_lawful : ByteArray := prog_1_method_31_code
def yX0_lawful : MethodName := ⟨RX0, "lawful", "(III)Z"⟩
theorem dX0_lawful_0 : decode cX0_lawful 0 = .ok (.aload_n 0, 1) := by decide +kernel
theorem dX0_lawful_1 : decode cX0_lawful 1 = .ok (.iload_n 1, 1) := by decide +kernel
theorem dX0_lawful_2 : decode cX0_lawful 2 = .ok (.invokevirtual 76, 3) := by decide +kernel
theorem dX0_lawful_5 : decode cX0_lawful 5 = .ok (.ifCond .eq 17, 3) := by decide +kernel
theorem dX0_lawful_8 : decode cX0_lawful 8 = .ok (.iload_n 2, 1) := by decide +kernel
theorem dX0_lawful_9 : decode cX0_lawful 9 = .ok (.invokestatic 224, 3) := by decide +kernel
theorem dX0_lawful_12 : decode cX0_lawful 12 = .ok (.ifCond .eq 10, 3) := by decide +kernel
theorem dX0_lawful_15 : decode cX0_lawful 15 = .ok (.iload_n 3, 1) := by decide +kernel
theorem dX0_lawful_16 : decode cX0_lawful 16 = .ok (.invokestatic 224, 3) := by decide +kernel
theorem dX0_lawful_19 : decode cX0_lawful 19 = .ok (.ifCond .ne 5, 3) := by decide +kernel
theorem dX0_lawful_22 : decode cX0_lawful 22 = .ok (.iconst 0, 1) := by decide +kernel
theorem dX0_lawful_23 : decode cX0_lawful 23 = .ok (.ireturn, 1) := by decide +kernel
theorem dX0_lawful_24 : decode cX0_lawful 24 = .ok (.iconst 0, 1) := by decide +kernel
theorem dX0_lawful_25 : decode cX0_lawful 25 = .ok (.istore 4, 2) := by decide +kernel
theorem dX0_lawful_27 : decode cX0_lawful 27 = .ok (.iconst 0, 1) := by decide +kernel
theorem dX0_lawful_28 : decode cX0_lawful 28 = .ok (.istore 5, 2) := by decide +kernel
theorem dX0_lawful_30 : decode cX0_lawful 30 = .ok (.bipush 9, 2) := by decide +kernel
theorem dX0_lawful_32 : decode cX0_lawful 32 = .ok (.istore 6, 2) := by decide +kernel
theorem dX0_lawful_34 : decode cX0_lawful 34 = .ok (.iconst 0, 1) := by decide +kernel
theorem dX0_lawful_35 : decode cX0_lawful 35 = .ok (.istore 7, 2) := by decide +kernel
theorem dX0_lawful_37 : decode cX0_lawful 37 = .ok (.iload 7, 2) := by decide +kernel
theorem dX0_lawful_39 : decode cX0_lawful 39 = .ok (.aload_n 0, 1) := by decide +kernel
theorem dX0_lawful_40 : decode cX0_lawful 40 = .ok (.getfield 10, 3) := by decide +kernel
theorem dX0_lawful_43 : decode cX0_lawful 43 = .ok (.getfield 63, 3) := by decide +kernel
theorem dX0_lawful_46 : decode cX0_lawful 46 = .ok (.invokevirtual 68, 3) := by decide +kernel
theorem dX0_lawful_49 : decode cX0_lawful 49 = .ok (.if_icmp .ge 94, 3) := by decide +kernel
theorem dX0_lawful_52 : decode cX0_lawful 52 = .ok (.aload_n 0, 1) := by decide +kernel
theorem dX0_lawful_53 : decode cX0_lawful 53 = .ok (.iload 7, 2) := by decide +kernel
theorem dX0_lawful_55 : decode cX0_lawful 55 = .ok (.invokevirtual 80, 3) := by decide +kernel
theorem dX0_lawful_58 : decode cX0_lawful 58 = .ok (.astore 8, 2) := by decide +kernel
theorem dX0_lawful_60 : decode cX0_lawful 60 = .ok (.aload 8, 2) := by decide +kernel
theorem dX0_lawful_62 : decode cX0_lawful 62 = .ok (.getfield 128, 3) := by decide +kernel
theorem dX0_lawful_65 : decode cX0_lawful 65 = .ok (.iload_n 1, 1) := by decide +kernel
theorem dX0_lawful_66 : decode cX0_lawful 66 = .ok (.if_icmp .ne 71, 3) := by decide +kernel
theorem dX0_lawful_69 : decode cX0_lawful 69 = .ok (.aload 8, 2) := by decide +kernel
theorem dX0_lawful_71 : decode cX0_lawful 71 = .ok (.getfield 153, 3) := by decide +kernel
theorem dX0_lawful_74 : decode cX0_lawful 74 = .ok (.iload_n 2, 1) := by decide +kernel
theorem dX0_lawful_75 : decode cX0_lawful 75 = .ok (.if_icmp .gt 62, 3) := by decide +kernel
theorem dX0_lawful_78 : decode cX0_lawful 78 = .ok (.aload 8, 2) := by decide +kernel
theorem dX0_lawful_80 : decode cX0_lawful 80 = .ok (.getfield 156, 3) := by decide +kernel
theorem dX0_lawful_83 : decode cX0_lawful 83 = .ok (.iload_n 3, 1) := by decide +kernel
theorem dX0_lawful_84 : decode cX0_lawful 84 = .ok (.if_icmp .gt 53, 3) := by decide +kernel
theorem dX0_lawful_87 : decode cX0_lawful 87 = .ok (.aload 8, 2) := by decide +kernel
theorem dX0_lawful_89 : decode cX0_lawful 89 = .ok (.getfield 181, 3) := by decide +kernel
theorem dX0_lawful_92 : decode cX0_lawful 92 = .ok (.iconst (-1), 1) := by decide +kernel
theorem dX0_lawful_93 : decode cX0_lawful 93 = .ok (.if_icmp .eq 19, 3) := by decide +kernel
theorem dX0_lawful_96 : decode cX0_lawful 96 = .ok (.aload 8, 2) := by decide +kernel
theorem dX0_lawful_98 : decode cX0_lawful 98 = .ok (.getfield 181, 3) := by decide +kernel
theorem dX0_lawful_101 : decode cX0_lawful 101 = .ok (.iload_n 2, 1) := by decide +kernel
theorem dX0_lawful_102 : decode cX0_lawful 102 = .ok (.iload_n 3, 1) := by decide +kernel
theorem dX0_lawful_103 : decode cX0_lawful 103 = .ok (.invokestatic 202, 3) := by decide +kernel
theorem dX0_lawful_106 : decode cX0_lawful 106 = .ok (.if_icmp .gt 6, 3) := by decide +kernel
theorem dX0_lawful_109 : decode cX0_lawful 109 = .ok (.goto 28, 3) := by decide +kernel
theorem dX0_lawful_112 : decode cX0_lawful 112 = .ok (.iload 4, 2) := by decide +kernel
theorem dX0_lawful_114 : decode cX0_lawful 114 = .ok (.aload 8, 2) := by decide +kernel
theorem dX0_lawful_116 : decode cX0_lawful 116 = .ok (.getfield 144, 3) := by decide +kernel
theorem dX0_lawful_119 : decode cX0_lawful 119 = .ok (.iadd, 1) := by decide +kernel
theorem dX0_lawful_120 : decode cX0_lawful 120 = .ok (.istore 4, 2) := by decide +kernel
theorem dX0_lawful_122 : decode cX0_lawful 122 = .ok (.iinc 5 1, 3) := by decide +kernel
theorem dX0_lawful_125 : decode cX0_lawful 125 = .ok (.iload 6, 2) := by decide +kernel
theorem dX0_lawful_127 : decode cX0_lawful 127 = .ok (.aload 8, 2) := by decide +kernel
theorem dX0_lawful_129 : decode cX0_lawful 129 = .ok (.getfield 147, 3) := by decide +kernel
theorem dX0_lawful_132 : decode cX0_lawful 132 = .ok (.invokestatic 202, 3) := by decide +kernel
theorem dX0_lawful_135 : decode cX0_lawful 135 = .ok (.istore 6, 2) := by decide +kernel
theorem dX0_lawful_137 : decode cX0_lawful 137 = .ok (.iinc 7 1, 3) := by decide +kernel
theorem dX0_lawful_140 : decode cX0_lawful 140 = .ok (.goto (-103), 3) := by decide +kernel
theorem dX0_lawful_143 : decode cX0_lawful 143 = .ok (.iload 5, 2) := by decide +kernel
theorem dX0_lawful_145 : decode cX0_lawful 145 = .ok (.ifCond .ne 5, 3) := by decide +kernel
theorem dX0_lawful_148 : decode cX0_lawful 148 = .ok (.iconst 0, 1) := by decide +kernel
theorem dX0_lawful_149 : decode cX0_lawful 149 = .ok (.ireturn, 1) := by decide +kernel
theorem dX0_lawful_150 : decode cX0_lawful 150 = .ok (.aload_n 0, 1) := by decide +kernel
theorem dX0_lawful_151 : decode cX0_lawful 151 = .ok (.getfield 24, 3) := by decide +kernel
theorem dX0_lawful_154 : decode cX0_lawful 154 = .ok (.iconst 0, 1) := by decide +kernel
theorem dX0_lawful_155 : decode cX0_lawful 155 = .ok (.invokestatic 184, 3) := by decide +kernel
theorem dX0_lawful_158 : decode cX0_lawful 158 = .ok (.aload_n 0, 1) := by decide +kernel
theorem dX0_lawful_159 : decode cX0_lawful 159 = .ok (.getstatic 259, 3) := by decide +kernel
theorem dX0_lawful_162 : decode cX0_lawful 162 = .ok (.iload 4, 2) := by decide +kernel
theorem dX0_lawful_164 : decode cX0_lawful 164 = .ok (.invokevirtual 263, 3) := by decide +kernel
theorem dX0_lawful_167 : decode cX0_lawful 167 = .ok (.aload_n 0, 1) := by decide +kernel
theorem dX0_lawful_168 : decode cX0_lawful 168 = .ok (.getstatic 266, 3) := by decide +kernel
theorem dX0_lawful_171 : decode cX0_lawful 171 = .ok (.iload 5, 2) := by decide +kernel
theorem dX0_lawful_173 : decode cX0_lawful 173 = .ok (.invokevirtual 263, 3) := by decide +kernel
theorem dX0_lawful_176 : decode cX0_lawful 176 = .ok (.aload_n 0, 1) := by decide +kernel
theorem dX0_lawful_177 : decode cX0_lawful 177 = .ok (.getstatic 269, 3) := by decide +kernel
theorem dX0_lawful_180 : decode cX0_lawful 180 = .ok (.iload 6, 2) := by decide +kernel
theorem dX0_lawful_182 : decode cX0_lawful 182 = .ok (.invokevirtual 263, 3) := by decide +kernel
theorem dX0_lawful_185 : decode cX0_lawful 185 = .ok (.aload_n 0, 1) := by decide +kernel
theorem dX0_lawful_186 : decode cX0_lawful 186 = .ok (.getstatic 279, 3) := by decide +kernel
theorem dX0_lawful_189 : decode cX0_lawful 189 = .ok (.aload_n 0, 1) := by decide +kernel
theorem dX0_lawful_190 : decode cX0_lawful 190 = .ok (.iload_n 1, 1) := by decide +kernel
theorem dX0_lawful_191 : decode cX0_lawful 191 = .ok (.invokevirtual 118, 3) := by decide +kernel
theorem dX0_lawful_194 : decode cX0_lawful 194 = .ok (.getfield 282, 3) := by decide +kernel
theorem dX0_lawful_197 : decode cX0_lawful 197 = .ok (.invokevirtual 263, 3) := by decide +kernel
theorem dX0_lawful_200 : decode cX0_lawful 200 = .ok (.aload_n 0, 1) := by decide +kernel
theorem dX0_lawful_201 : decode cX0_lawful 201 = .ok (.getstatic 297, 3) := by decide +kernel
theorem dX0_lawful_204 : decode cX0_lawful 204 = .ok (.aload_n 0, 1) := by decide +kernel
theorem dX0_lawful_205 : decode cX0_lawful 205 = .ok (.iload_n 1, 1) := by decide +kernel
theorem dX0_lawful_206 : decode cX0_lawful 206 = .ok (.invokevirtual 118, 3) := by decide +kernel
theorem dX0_lawful_209 : decode cX0_lawful 209 = .ok (.getfield 134, 3) := by decide +kernel
theorem dX0_lawful_212 : decode cX0_lawful 212 = .ok (.invokevirtual 263, 3) := by decide +kernel
theorem dX0_lawful_215 : decode cX0_lawful 215 = .ok (.aload_n 0, 1) := by decide +kernel
theorem dX0_lawful_216 : decode cX0_lawful 216 = .ok (.getstatic 322, 3) := by decide +kernel
theorem dX0_lawful_219 : decode cX0_lawful 219 = .ok (.aload_n 0, 1) := by decide +kernel
theorem dX0_lawful_220 : decode cX0_lawful 220 = .ok (.iload_n 2, 1) := by decide +kernel
theorem dX0_lawful_221 : decode cX0_lawful 221 = .ok (.iload_n 3, 1) := by decide +kernel
theorem dX0_lawful_222 : decode cX0_lawful 222 = .ok (.invokevirtual 312, 3) := by decide +kernel
theorem dX0_lawful_225 : decode cX0_lawful 225 = .ok (.invokevirtual 315, 3) := by decide +kernel
theorem dX0_lawful_228 : decode cX0_lawful 228 = .ok (.ifCond .eq 7, 3) := by decide +kernel
theorem dX0_lawful_231 : decode cX0_lawful 231 = .ok (.iconst 1, 1) := by decide +kernel
theorem dX0_lawful_232 : decode cX0_lawful 232 = .ok (.goto 4, 3) := by decide +kernel
theorem dX0_lawful_235 : decode cX0_lawful 235 = .ok (.iconst 0, 1) := by decide +kernel
theorem dX0_lawful_236 : decode cX0_lawful 236 = .ok (.ireturn, 1) := by decide +kernel
abbrev cX0_hold : ByteArray := prog_1_method_32_code
def yX0_hold : MethodName := ⟨RX0, "hold", "(II)Z"⟩
theorem dX0_hold_0 : decode cX0_hold 0 = .ok (.aload_n 0, 1) := by decide +kernel
theorem dX0_hold_1 : decode cX0_hold 1 = .ok (.iload_n 1, 1) := by decide +kernel
theorem dX0_hold_2 : decode cX0_hold 2 = .ok (.iload_n 2, 1) := by decide +kernel
theorem dX0_hold_3 : decode cX0_hold 3 = .ok (.invokevirtual 104, 3) := by decide +kernel
theorem dX0_hold_6 : decode cX0_hold 6 = .ok (.ifCond .eq 31, 3) := by decide +kernel
theorem dX0_hold_9 : decode cX0_hold 9 = .ok (.aload_n 0, 1) := by decide +kernel
theorem dX0_hold_10 : decode cX0_hold 10 = .ok (.iload_n 2, 1) := by decide +kernel
theorem dX0_hold_11 : decode cX0_hold 11 = .ok (.invokevirtual 125, 3) := by decide +kernel
theorem dX0_hold_14 : decode cX0_hold 14 = .ok (.iload_n 1, 1) := by decide +kernel
theorem dX0_hold_15 : decode cX0_hold 15 = .ok (.ishr, 1) := by decide +kernel
theorem dX0_hold_16 : decode cX0_hold 16 = .ok (.iconst 1, 1) := by decide +kernel
theorem dX0_hold_17 : decode cX0_hold 17 = .ok (.iand, 1) := by decide +kernel
theorem dX0_hold_18 : decode cX0_hold 18 = .ok (.ifCond .eq 19, 3) := by decide +kernel
theorem dX0_hold_21 : decode cX0_hold 21 = .ok (.aload_n 0, 1) := by decide +kernel
theorem dX0_hold_22 : decode cX0_hold 22 = .ok (.iload_n 2, 1) := by decide +kernel
theorem dX0_hold_23 : decode cX0_hold 23 = .ok (.invokevirtual 118, 3) := by decide +kernel
theorem dX0_hold_26 : decode cX0_hold 26 = .ok (.getfield 122, 3) := by decide +kernel
theorem dX0_hold_29 : decode cX0_hold 29 = .ok (.iload_n 1, 1) := by decide +kernel
theorem dX0_hold_30 : decode cX0_hold 30 = .ok (.ishr, 1) := by decide +kernel
theorem dX0_hold_31 : decode cX0_hold 31 = .ok (.iconst 1, 1) := by decide +kernel
theorem dX0_hold_32 : decode cX0_hold 32 = .ok (.iand, 1) := by decide +kernel
theorem dX0_hold_33 : decode cX0_hold 33 = .ok (.iconst 1, 1) := by decide +kernel
theorem dX0_hold_34 : decode cX0_hold 34 = .ok (.if_icmp .ne 5, 3) := by decide +kernel
theorem dX0_hold_37 : decode cX0_hold 37 = .ok (.iconst 0, 1) := by decide +kernel
theorem dX0_hold_38 : decode cX0_hold 38 = .ok (.ireturn, 1) := by decide +kernel
theorem dX0_hold_39 : decode cX0_hold 39 = .ok (.aload_n 0, 1) := by decide +kernel
theorem dX0_hold_40 : decode cX0_hold 40 = .ok (.iload_n 2, 1) := by decide +kernel
theorem dX0_hold_41 : decode cX0_hold 41 = .ok (.invokevirtual 118, 3) := by decide +kernel
theorem dX0_hold_44 : decode cX0_hold 44 = .ok (.astore_n 3, 1) := by decide +kernel
theorem dX0_hold_45 : decode cX0_hold 45 = .ok (.aload_n 0, 1) := by decide +kernel
theorem dX0_hold_46 : decode cX0_hold 46 = .ok (.aload_n 3, 1) := by decide +kernel
theorem dX0_hold_47 : decode cX0_hold 47 = .ok (.getstatic 322, 3) := by decide +kernel
theorem dX0_hold_50 : decode cX0_hold 50 = .ok (.invokevirtual 326, 3) := by decide +kernel
theorem dX0_hold_53 : decode cX0_hold 53 = .ok (.ifCond .ne 5, 3) := by decide +kernel
theorem dX0_hold_56 : decode cX0_hold 56 = .ok (.iconst 0, 1) := by decide +kernel
theorem dX0_hold_57 : decode cX0_hold 57 = .ok (.ireturn, 1) := by decide +kernel
theorem dX0_hold_58 : decode cX0_hold 58 = .ok (.aload_n 3, 1) := by decide +kernel
theorem dX0_hold_59 : decode cX0_hold 59 = .ok (.invokevirtual 275, 3) := by decide +kernel
theorem dX0_hold_62 : decode cX0_hold 62 = .ok (.ifCond .ne 36, 3) := by decide +kernel
theorem dX0_hold_65 : decode cX0_hold 65 = .ok (.aload_n 3, 1) := by decide +kernel
theorem dX0_hold_66 : decode cX0_hold 66 = .ok (.dup, 1) := by decide +kernel
theorem dX0_hold_67 : decode cX0_hold 67 = .ok (.getfield 329, 3) := by decide +kernel
theorem dX0_hold_70 : decode cX0_hold 70 = .ok (.aload_n 0, 1) := by decide +kernel
theorem dX0_hold_71 : decode cX0_hold 71 = .ok (.aload_n 3, 1) := by decide +kernel
theorem dX0_hold_72 : decode cX0_hold 72 = .ok (.getstatic 332, 3) := by decide +kernel
theorem dX0_hold_75 : decode cX0_hold 75 = .ok (.invokevirtual 326, 3) := by decide +kernel
theorem dX0_hold_78 : decode cX0_hold 78 = .ok (.iadd, 1) := by decide +kernel
theorem dX0_hold_79 : decode cX0_hold 79 = .ok (.putfield 329, 3) := by decide +kernel
theorem dX0_hold_82 : decode cX0_hold 82 = .ok (.aload_n 3, 1) := by decide +kernel
theorem dX0_hold_83 : decode cX0_hold 83 = .ok (.aload_n 0, 1) := by decide +kernel
theorem dX0_hold_84 : decode cX0_hold 84 = .ok (.getfield 10, 3) := by decide +kernel
theorem dX0_hold_87 : decode cX0_hold 87 = .ok (.getfield 88, 3) := by decide +kernel
theorem dX0_hold_90 : decode cX0_hold 90 = .ok (.putfield 278, 3) := by decide +kernel
theorem dX0_hold_93 : decode cX0_hold 93 = .ok (.aload_n 3, 1) := by decide +kernel
theorem dX0_hold_94 : decode cX0_hold 94 = .ok (.iconst 0, 1) := by decide +kernel
theorem dX0_hold_95 : decode cX0_hold 95 = .ok (.putfield 288, 3) := by decide +kernel
theorem dX0_hold_98 : decode cX0_hold 98 = .ok (.aload_n 3, 1) := by decide +kernel
theorem dX0_hold_99 : decode cX0_hold 99 = .ok (.dup, 1) := by decide +kernel
theorem dX0_hold_100 : decode cX0_hold 100 = .ok (.getfield 122, 3) := by decide +kernel
theorem dX0_hold_103 : decode cX0_hold 103 = .ok (.iconst 1, 1) := by decide +kernel
theorem dX0_hold_104 : decode cX0_hold 104 = .ok (.iload_n 1, 1) := by decide +kernel
theorem dX0_hold_105 : decode cX0_hold 105 = .ok (.ishl, 1) := by decide +kernel
theorem dX0_hold_106 : decode cX0_hold 106 = .ok (.ior, 1) := by decide +kernel
theorem dX0_hold_107 : decode cX0_hold 107 = .ok (.putfield 122, 3) := by decide +kernel
theorem dX0_hold_110 : decode cX0_hold 110 = .ok (.iconst 1, 1) := by decide +kernel
theorem dX0_hold_111 : decode cX0_hold 111 = .ok (.ireturn, 1) := by decide +kernel
abbrev cX0_tells_3 : ByteArray := prog_1_method_29_code
def yX0_tells_3 : MethodName := ⟨RX0, "tells", "(LDebtorsHouse$Person;LDebtorsHouse$Topic;)I"⟩
theorem dX0_tells_3_0 : decode cX0_tells_3 0 = .ok (.aload_n 0, 1) := by decide +kernel
theorem dX0_tells_3_1 : decode cX0_tells_3 1 = .ok (.aload_n 1, 1) := by decide +kernel
theorem dX0_tells_3_2 : decode cX0_tells_3 2 = .ok (.invokevirtual 309, 3) := by decide +kernel
theorem dX0_tells_3_5 : decode cX0_tells_3 5 = .ok (.aload_n 0, 1) := by decide +kernel
theorem dX0_tells_3_6 : decode cX0_tells_3 6 = .ok (.aload_n 2, 1) := by decide +kernel
theorem dX0_tells_3_7 : decode cX0_tells_3 7 = .ok (.aload_n 0, 1) := by decide +kernel
theorem dX0_tells_3_8 : decode cX0_tells_3 8 = .ok (.aload_n 0, 1) := by decide +kernel
theorem dX0_tells_3_9 : decode cX0_tells_3 9 = .ok (.getfield 10, 3) := by decide +kernel
theorem dX0_tells_3_12 : decode cX0_tells_3 12 = .ok (.getfield 88, 3) := by decide +kernel
theorem dX0_tells_3_15 : decode cX0_tells_3 15 = .ok (.aload_n 0, 1) := by decide +kernel
theorem dX0_tells_3_16 : decode cX0_tells_3 16 = .ok (.getfield 10, 3) := by decide +kernel
theorem dX0_tells_3_19 : decode cX0_tells_3 19 = .ok (.getfield 88, 3) := by decide +kernel
theorem dX0_tells_3_22 : decode cX0_tells_3 22 = .ok (.invokevirtual 312, 3) := by decide +kernel
theorem dX0_tells_3_25 : decode cX0_tells_3 25 = .ok (.invokevirtual 315, 3) := by decide +kernel
theorem dX0_tells_3_28 : decode cX0_tells_3 28 = .ok (.ireturn, 1) := by decide +kernel
abbrev cX0_tire : ByteArray := prog_1_method_33_code
def yX0_tire : MethodName := ⟨RX0, "tire", "(II)Z"⟩
theorem dX0_tire_0 : decode cX0_tire 0 = .ok (.aload_n 0, 1) := by decide +kernel
theorem dX0_tire_1 : decode cX0_tire 1 = .ok (.iload_n 1, 1) := by decide +kernel
theorem dX0_tire_2 : decode cX0_tire 2 = .ok (.iload_n 2, 1) := by decide +kernel
theorem dX0_tire_3 : decode cX0_tire 3 = .ok (.invokevirtual 104, 3) := by decide +kernel
theorem dX0_tire_6 : decode cX0_tire 6 = .ok (.ifCond .eq 18, 3) := by decide +kernel
theorem dX0_tire_9 : decode cX0_tire 9 = .ok (.aload_n 0, 1) := by decide +kernel
theorem dX0_tire_10 : decode cX0_tire 10 = .ok (.iload_n 2, 1) := by decide +kernel
theorem dX0_tire_11 : decode cX0_tire 11 = .ok (.invokevirtual 118, 3) := by decide +kernel
theorem dX0_tire_14 : decode cX0_tire 14 = .ok (.getfield 122, 3) := by decide +kernel
theorem dX0_tire_17 : decode cX0_tire 17 = .ok (.iload_n 1, 1) := by decide +kernel
theorem dX0_tire_18 : decode cX0_tire 18 = .ok (.ishr, 1) := by decide +kernel
theorem dX0_tire_19 : decode cX0_tire 19 = .ok (.iconst 1, 1) := by decide +kernel
theorem dX0_tire_20 : decode cX0_tire 20 = .ok (.iand, 1) := by decide +kernel
theorem dX0_tire_21 : decode cX0_tire 21 = .ok (.ifCond .ne 5, 3) := by decide +kernel
theorem dX0_tire_24 : decode cX0_tire 24 = .ok (.iconst 0, 1) := by decide +kernel
theorem dX0_tire_25 : decode cX0_tire 25 = .ok (.ireturn, 1) := by decide +kernel
theorem dX0_tire_26 : decode cX0_tire 26 = .ok (.aload_n 0, 1) := by decide +kernel
theorem dX0_tire_27 : decode cX0_tire 27 = .ok (.iload_n 2, 1) := by decide +kernel
theorem dX0_tire_28 : decode cX0_tire 28 = .ok (.invokevirtual 118, 3) := by decide +kernel
theorem dX0_tire_31 : decode cX0_tire 31 = .ok (.dup, 1) := by decide +kernel
theorem dX0_tire_32 : decode cX0_tire 32 = .ok (.getfield 122, 3) := by decide +kernel
theorem dX0_tire_35 : decode cX0_tire 35 = .ok (.iconst 1, 1) := by decide +kernel
theorem dX0_tire_36 : decode cX0_tire 36 = .ok (.iload_n 1, 1) := by decide +kernel
theorem dX0_tire_37 : decode cX0_tire 37 = .ok (.ishl, 1) := by decide +kernel
theorem dX0_tire_38 : decode cX0_tire 38 = .ok (.iconst (-1), 1) := by decide +kernel
theorem dX0_tire_39 : decode cX0_tire 39 = .ok (.ixor, 1) := by decide +kernel
theorem dX0_tire_40 : decode cX0_tire 40 = .ok (.iand, 1) := by decide +kernel
theorem dX0_tire_41 : decode cX0_tire 41 = .ok (.putfield 122, 3) := by decide +kernel
theorem dX0_tire_44 : decode cX0_tire 44 = .ok (.iconst 1, 1) := by decide +kernel
theorem dX0_tire_45 : decode cX0_tire 45 = .ok (.ireturn, 1) := by decide +kernel
abbrev cX0_leave : ByteArray := prog_1_method_35_code
def yX0_leave : MethodName := ⟨RX0, "leave", "(I)Z"⟩
theorem dX0_leave_0 : decode cX0_leave 0 = .ok (.aload_n 0, 1) := by decide +kernel
theorem dX0_leave_1 : decode cX0_leave 1 = .ok (.iload_n 1, 1) := by decide +kernel
theorem dX0_leave_2 : decode cX0_leave 2 = .ok (.invokevirtual 335, 3) := by decide +kernel
theorem dX0_leave_5 : decode cX0_leave 5 = .ok (.ifCond .ne 5, 3) := by decide +kernel
theorem dX0_leave_8 : decode cX0_leave 8 = .ok (.iconst 0, 1) := by decide +kernel
theorem dX0_leave_9 : decode cX0_leave 9 = .ok (.ireturn, 1) := by decide +kernel
theorem dX0_leave_10 : decode cX0_leave 10 = .ok (.aload_n 0, 1) := by decide +kernel
theorem dX0_leave_11 : decode cX0_leave 11 = .ok (.iload_n 1, 1) := by decide +kernel
theorem dX0_leave_12 : decode cX0_leave 12 = .ok (.invokevirtual 118, 3) := by decide +kernel
theorem dX0_leave_15 : decode cX0_leave 15 = .ok (.astore_n 2, 1) := by decide +kernel
theorem dX0_leave_16 : decode cX0_leave 16 = .ok (.aload_n 2, 1) := by decide +kernel
theorem dX0_leave_17 : decode cX0_leave 17 = .ok (.getfield 122, 3) := by decide +kernel
theorem dX0_leave_20 : decode cX0_leave 20 = .ok (.ifCond .ne 21, 3) := by decide +kernel
theorem dX0_leave_23 : decode cX0_leave 23 = .ok (.aload_n 2, 1) := by decide +kernel
theorem dX0_leave_24 : decode cX0_leave 24 = .ok (.getfield 337, 3) := by decide +kernel
theorem dX0_leave_27 : decode cX0_leave 27 = .ok (.ifCond .ne 14, 3) := by decide +kernel
theorem dX0_leave_30 : decode cX0_leave 30 = .ok (.aload_n 2, 1) := by decide +kernel
theorem dX0_leave_31 : decode cX0_leave 31 = .ok (.getfield 134, 3) := by decide +kernel
theorem dX0_leave_34 : decode cX0_leave 34 = .ok (.aload_n 2, 1) := by decide +kernel
theorem dX0_leave_35 : decode cX0_leave 35 = .ok (.getfield 329, 3) := by decide +kernel
theorem dX0_leave_38 : decode cX0_leave 38 = .ok (.if_icmp .ge 5, 3) := by decide +kernel
theorem dX0_leave_41 : decode cX0_leave 41 = .ok (.iconst 0, 1) := by decide +kernel
theorem dX0_leave_42 : decode cX0_leave 42 = .ok (.ireturn, 1) := by decide +kernel
theorem dX0_leave_43 : decode cX0_leave 43 = .ok (.aload_n 2, 1) := by decide +kernel
theorem dX0_leave_44 : decode cX0_leave 44 = .ok (.dup, 1) := by decide +kernel
theorem dX0_leave_45 : decode cX0_leave 45 = .ok (.getfield 134, 3) := by decide +kernel
theorem dX0_leave_48 : decode cX0_leave 48 = .ok (.aload_n 2, 1) := by decide +kernel
theorem dX0_leave_49 : decode cX0_leave 49 = .ok (.getfield 329, 3) := by decide +kernel
theorem dX0_leave_52 : decode cX0_leave 52 = .ok (.isub, 1) := by decide +kernel
theorem dX0_leave_53 : decode cX0_leave 53 = .ok (.putfield 134, 3) := by decide +kernel
theorem dX0_leave_56 : decode cX0_leave 56 = .ok (.aload_n 0, 1) := by decide +kernel
theorem dX0_leave_57 : decode cX0_leave 57 = .ok (.getfield 10, 3) := by decide +kernel
theorem dX0_leave_60 : decode cX0_leave 60 = .ok (.dup, 1) := by decide +kernel
theorem dX0_leave_61 : decode cX0_leave 61 = .ok (.getfield 340, 3) := by decide +kernel
theorem dX0_leave_64 : decode cX0_leave 64 = .ok (.aload_n 2, 1) := by decide +kernel
theorem dX0_leave_65 : decode cX0_leave 65 = .ok (.getfield 329, 3) := by decide +kernel
theorem dX0_leave_68 : decode cX0_leave 68 = .ok (.iadd, 1) := by decide +kernel
theorem dX0_leave_69 : decode cX0_leave 69 = .ok (.putfield 340, 3) := by decide +kernel
theorem dX0_leave_72 : decode cX0_leave 72 = .ok (.aload_n 2, 1) := by decide +kernel
theorem dX0_leave_73 : decode cX0_leave 73 = .ok (.invokevirtual 341, 3) := by decide +kernel
theorem dX0_leave_76 : decode cX0_leave 76 = .ok (.iconst 1, 1) := by decide +kernel
theorem dX0_leave_77 : decode cX0_leave 77 = .ok (.ireturn, 1) := by decide +kernel
abbrev cX0_isHeld : ByteArray := prog_1_method_34_code
def yX0_isHeld : MethodName := ⟨RX0, "isHeld", "(I)Z"⟩
theorem dX0_isHeld_0 : decode cX0_isHeld 0 = .ok (.aload_n 0, 1) := by decide +kernel
theorem dX0_isHeld_1 : decode cX0_isHeld 1 = .ok (.iload_n 1, 1) := by decide +kernel
theorem dX0_isHeld_2 : decode cX0_isHeld 2 = .ok (.invokevirtual 76, 3) := by decide +kernel
theorem dX0_isHeld_5 : decode cX0_isHeld 5 = .ok (.ifCond .eq 18, 3) := by decide +kernel
theorem dX0_isHeld_8 : decode cX0_isHeld 8 = .ok (.aload_n 0, 1) := by decide +kernel
theorem dX0_isHeld_9 : decode cX0_isHeld 9 = .ok (.iload_n 1, 1) := by decide +kernel
theorem dX0_isHeld_10 : decode cX0_isHeld 10 = .ok (.invokevirtual 118, 3) := by decide +kernel
theorem dX0_isHeld_13 : decode cX0_isHeld 13 = .ok (.invokevirtual 275, 3) := by decide +kernel
theorem dX0_isHeld_16 : decode cX0_isHeld 16 = .ok (.ifCond .eq 7, 3) := by decide +kernel
theorem dX0_isHeld_19 : decode cX0_isHeld 19 = .ok (.iconst 1, 1) := by decide +kernel
theorem dX0_isHeld_20 : decode cX0_isHeld 20 = .ok (.goto 4, 3) := by decide +kernel
theorem dX0_isHeld_23 : decode cX0_isHeld 23 = .ok (.iconst 0, 1) := by decide +kernel
theorem dX0_isHeld_24 : decode cX0_isHeld 24 = .ok (.ireturn, 1) := by decide +kernel
abbrev cX0_room : ByteArray := prog_1_method_36_code
def yX0_room : MethodName := ⟨RX0, "room", "(II)Z"⟩
theorem dX0_room_0 : decode cX0_room 0 = .ok (.aload_n 0, 1) := by decide +kernel
theorem dX0_room_1 : decode cX0_room 1 = .ok (.iload_n 1, 1) := by decide +kernel
theorem dX0_room_2 : decode cX0_room 2 = .ok (.invokevirtual 335, 3) := by decide +kernel
theorem dX0_room_5 : decode cX0_room 5 = .ok (.ifCond .eq 12, 3) := by decide +kernel
theorem dX0_room_8 : decode cX0_room 8 = .ok (.iload_n 2, 1) := by decide +kernel
theorem dX0_room_9 : decode cX0_room 9 = .ok (.iconst 0, 1) := by decide +kernel
theorem dX0_room_10 : decode cX0_room 10 = .ok (.iconst 3, 1) := by decide +kernel
theorem dX0_room_11 : decode cX0_room 11 = .ok (.invokestatic 72, 3) := by decide +kernel
theorem dX0_room_14 : decode cX0_room 14 = .ok (.ifCond .ne 5, 3) := by decide +kernel
theorem dX0_room_17 : decode cX0_room 17 = .ok (.iconst 0, 1) := by decide +kernel
theorem dX0_room_18 : decode cX0_room 18 = .ok (.ireturn, 1) := by decide +kernel
theorem dX0_room_19 : decode cX0_room 19 = .ok (.aload_n 0, 1) := by decide +kernel
theorem dX0_room_20 : decode cX0_room 20 = .ok (.iload_n 1, 1) := by decide +kernel
theorem dX0_room_21 : decode cX0_room 21 = .ok (.invokevirtual 118, 3) := by decide +kernel
theorem dX0_room_24 : decode cX0_room 24 = .ok (.iload_n 2, 1) := by decide +kernel
theorem dX0_room_25 : decode cX0_room 25 = .ok (.putfield 288, 3) := by decide +kernel
theorem dX0_room_28 : decode cX0_room 28 = .ok (.iconst 1, 1) := by decide +kernel
theorem dX0_room_29 : decode cX0_room 29 = .ok (.ireturn, 1) := by decide +kernel
abbrev cX0_walk : ByteArray := prog_1_method_37_code
def yX0_walk : MethodName := ⟨RX0, "walk", "(IZ)Z"⟩
theorem dX0_walk_0 : decode cX0_walk 0 = .ok (.aload_n 0, 1) := by decide +kernel
theorem dX0_walk_1 : decode cX0_walk 1 = .ok (.iload_n 1, 1) := by decide +kernel
theorem dX0_walk_2 : decode cX0_walk 2 = .ok (.invokevirtual 335, 3) := by decide +kernel
theorem dX0_walk_5 : decode cX0_walk 5 = .ok (.ifCond .eq 34, 3) := by decide +kernel
theorem dX0_walk_8 : decode cX0_walk 8 = .ok (.aload_n 0, 1) := by decide +kernel
theorem dX0_walk_9 : decode cX0_walk 9 = .ok (.iload_n 1, 1) := by decide +kernel
theorem dX0_walk_10 : decode cX0_walk 10 = .ok (.invokevirtual 118, 3) := by decide +kernel
theorem dX0_walk_13 : decode cX0_walk 13 = .ok (.getfield 337, 3) := by decide +kernel
theorem dX0_walk_16 : decode cX0_walk 16 = .ok (.iload_n 2, 1) := by decide +kernel
theorem dX0_walk_17 : decode cX0_walk 17 = .ok (.if_icmp .eq 22, 3) := by decide +kernel
theorem dX0_walk_20 : decode cX0_walk 20 = .ok (.iload_n 2, 1) := by decide +kernel
theorem dX0_walk_21 : decode cX0_walk 21 = .ok (.ifCond .eq 20, 3) := by decide +kernel
theorem dX0_walk_24 : decode cX0_walk 24 = .ok (.aload_n 0, 1) := by decide +kernel
theorem dX0_walk_25 : decode cX0_walk 25 = .ok (.aload_n 0, 1) := by decide +kernel
theorem dX0_walk_26 : decode cX0_walk 26 = .ok (.iload_n 1, 1) := by decide +kernel
theorem dX0_walk_27 : decode cX0_walk 27 = .ok (.invokevirtual 118, 3) := by decide +kernel
theorem dX0_walk_30 : decode cX0_walk 30 = .ok (.getstatic 344, 3) := by decide +kernel
theorem dX0_walk_33 : decode cX0_walk 33 = .ok (.invokevirtual 326, 3) := by decide +kernel
theorem dX0_walk_36 : decode cX0_walk 36 = .ok (.ifCond .ne 5, 3) := by decide +kernel
theorem dX0_walk_39 : decode cX0_walk 39 = .ok (.iconst 0, 1) := by decide +kernel
theorem dX0_walk_40 : decode cX0_walk 40 = .ok (.ireturn, 1) := by decide +kernel
theorem dX0_walk_41 : decode cX0_walk 41 = .ok (.aload_n 0, 1) := by decide +kernel
theorem dX0_walk_42 : decode cX0_walk 42 = .ok (.iload_n 1, 1) := by decide +kernel
theorem dX0_walk_43 : decode cX0_walk 43 = .ok (.invokevirtual 118, 3) := by decide +kernel
theorem dX0_walk_46 : decode cX0_walk 46 = .ok (.iload_n 2, 1) := by decide +kernel
theorem dX0_walk_47 : decode cX0_walk 47 = .ok (.putfield 337, 3) := by decide +kernel
theorem dX0_walk_50 : decode cX0_walk 50 = .ok (.iconst 1, 1) := by decide +kernel
theorem dX0_walk_51 : decode cX0_walk 51 = .ok (.ireturn, 1) := by decide +kernel
abbrev cX0_hour : ByteArray := prog_1_method_38_code
def yX0_hour : MethodName := ⟨RX0, "hour", "()I"⟩
theorem dX0_hour_0 : decode cX0_hour 0 = .ok (.aload_n 0, 1) := by decide +kernel
theorem dX0_hour_1 : decode cX0_hour 1 = .ok (.getfield 10, 3) := by decide +kernel
theorem dX0_hour_4 : decode cX0_hour 4 = .ok (.getfield 294, 3) := by decide +kernel
theorem dX0_hour_7 : decode cX0_hour 7 = .ok (.bipush 23, 2) := by decide +kernel
theorem dX0_hour_9 : decode cX0_hour 9 = .ok (.if_icmp .ne 5, 3) := by decide +kernel
theorem dX0_hour_12 : decode cX0_hour 12 = .ok (.iconst (-1), 1) := by decide +kernel
theorem dX0_hour_13 : decode cX0_hour 13 = .ok (.ireturn, 1) := by decide +kernel
theorem dX0_hour_14 : decode cX0_hour 14 = .ok (.iconst 0, 1) := by decide +kernel
theorem dX0_hour_15 : decode cX0_hour 15 = .ok (.istore_n 1, 1) := by decide +kernel
theorem dX0_hour_16 : decode cX0_hour 16 = .ok (.iload_n 1, 1) := by decide +kernel
theorem dX0_hour_17 : decode cX0_hour 17 = .ok (.aload_n 0, 1) := by decide +kernel
theorem dX0_hour_18 : decode cX0_hour 18 = .ok (.getfield 10, 3) := by decide +kernel
theorem dX0_hour_21 : decode cX0_hour 21 = .ok (.getfield 51, 3) := by decide +kernel
theorem dX0_hour_24 : decode cX0_hour 24 = .ok (.invokevirtual 68, 3) := by decide +kernel
theorem dX0_hour_27 : decode cX0_hour 27 = .ok (.if_icmp .ge 43, 3) := by decide +kernel
theorem dX0_hour_30 : decode cX0_hour 30 = .ok (.aload_n 0, 1) := by decide +kernel
theorem dX0_hour_31 : decode cX0_hour 31 = .ok (.iload_n 1, 1) := by decide +kernel
theorem dX0_hour_32 : decode cX0_hour 32 = .ok (.invokevirtual 118, 3) := by decide +kernel
theorem dX0_hour_35 : decode cX0_hour 35 = .ok (.astore_n 2, 1) := by decide +kernel
theorem dX0_hour_36 : decode cX0_hour 36 = .ok (.aload_n 2, 1) := by decide +kernel
theorem dX0_hour_37 : decode cX0_hour 37 = .ok (.getfield 337, 3) := by decide +kernel
theorem dX0_hour_40 : decode cX0_hour 40 = .ok (.ifCond .eq 24, 3) := by decide +kernel
theorem dX0_hour_43 : decode cX0_hour 43 = .ok (.aload_n 0, 1) := by decide +kernel
theorem dX0_hour_44 : decode cX0_hour 44 = .ok (.aload_n 2, 1) := by decide +kernel
theorem dX0_hour_45 : decode cX0_hour 45 = .ok (.getstatic 344, 3) := by decide +kernel
theorem dX0_hour_48 : decode cX0_hour 48 = .ok (.invokevirtual 326, 3) := by decide +kernel
theorem dX0_hour_51 : decode cX0_hour 51 = .ok (.ifCond .ne 13, 3) := by decide +kernel
theorem dX0_hour_54 : decode cX0_hour 54 = .ok (.aload_n 2, 1) := by decide +kernel
theorem dX0_hour_55 : decode cX0_hour 55 = .ok (.dup, 1) := by decide +kernel
theorem dX0_hour_56 : decode cX0_hour 56 = .ok (.getfield 347, 3) := by decide +kernel
theorem dX0_hour_59 : decode cX0_hour 59 = .ok (.iconst 1, 1) := by decide +kernel
theorem dX0_hour_60 : decode cX0_hour 60 = .ok (.iadd, 1) := by decide +kernel
theorem dX0_hour_61 : decode cX0_hour 61 = .ok (.putfield 347, 3) := by decide +kernel
theorem dX0_hour_64 : decode cX0_hour 64 = .ok (.iinc 1 1, 3) := by decide +kernel
theorem dX0_hour_67 : decode cX0_hour 67 = .ok (.goto (-51), 3) := by decide +kernel
theorem dX0_hour_70 : decode cX0_hour 70 = .ok (.aload_n 0, 1) := by decide +kernel
theorem dX0_hour_71 : decode cX0_hour 71 = .ok (.getfield 10, 3) := by decide +kernel
theorem dX0_hour_74 : decode cX0_hour 74 = .ok (.dup, 1) := by decide +kernel
theorem dX0_hour_75 : decode cX0_hour 75 = .ok (.getfield 294, 3) := by decide +kernel
theorem dX0_hour_78 : decode cX0_hour 78 = .ok (.iconst 1, 1) := by decide +kernel
theorem dX0_hour_79 : decode cX0_hour 79 = .ok (.iadd, 1) := by decide +kernel
theorem dX0_hour_80 : decode cX0_hour 80 = .ok (.putfield 294, 3) := by decide +kernel
theorem dX0_hour_83 : decode cX0_hour 83 = .ok (.aload_n 0, 1) := by decide +kernel
theorem dX0_hour_84 : decode cX0_hour 84 = .ok (.getfield 10, 3) := by decide +kernel
theorem dX0_hour_87 : decode cX0_hour 87 = .ok (.getfield 294, 3) := by decide +kernel
theorem dX0_hour_90 : decode cX0_hour 90 = .ok (.ireturn, 1) := by decide +kernel
abbrev cX0_turn : ByteArray := prog_1_method_39_code
def yX0_turn : MethodName := ⟨RX0, "turn", "()I"⟩
theorem dX0_turn_0 : decode cX0_turn 0 = .ok (.iconst (-1), 1) := by decide +kernel
theorem dX0_turn_1 : decode cX0_turn 1 = .ok (.istore_n 1, 1) := by decide +kernel
theorem dX0_turn_2 : decode cX0_turn 2 = .ok (.iconst 0, 1) := by decide +kernel
theorem dX0_turn_3 : decode cX0_turn 3 = .ok (.istore_n 2, 1) := by decide +kernel
theorem dX0_turn_4 : decode cX0_turn 4 = .ok (.iload_n 2, 1) := by decide +kernel
theorem dX0_turn_5 : decode cX0_turn 5 = .ok (.aload_n 0, 1) := by decide +kernel
theorem dX0_turn_6 : decode cX0_turn 6 = .ok (.getfield 10, 3) := by decide +kernel
theorem dX0_turn_9 : decode cX0_turn 9 = .ok (.getfield 51, 3) := by decide +kernel
theorem dX0_turn_12 : decode cX0_turn 12 = .ok (.invokevirtual 68, 3) := by decide +kernel
theorem dX0_turn_15 : decode cX0_turn 15 = .ok (.if_icmp .ge 77, 3) := by decide +kernel
theorem dX0_turn_18 : decode cX0_turn 18 = .ok (.aload_n 0, 1) := by decide +kernel
theorem dX0_turn_19 : decode cX0_turn 19 = .ok (.iload_n 2, 1) := by decide +kernel
theorem dX0_turn_20 : decode cX0_turn 20 = .ok (.invokevirtual 118, 3) := by decide +kernel
theorem dX0_turn_23 : decode cX0_turn 23 = .ok (.astore_n 3, 1) := by decide +kernel
theorem dX0_turn_24 : decode cX0_turn 24 = .ok (.aload_n 3, 1) := by decide +kernel
theorem dX0_turn_25 : decode cX0_turn 25 = .ok (.invokevirtual 275, 3) := by decide +kernel
theorem dX0_turn_28 : decode cX0_turn 28 = .ok (.ifCond .ne 6, 3) := by decide +kernel
theorem dX0_turn_31 : decode cX0_turn 31 = .ok (.goto 55, 3) := by decide +kernel
theorem dX0_turn_34 : decode cX0_turn 34 = .ok (.iload_n 1, 1) := by decide +kernel
theorem dX0_turn_35 : decode cX0_turn 35 = .ok (.iconst (-1), 1) := by decide +kernel
theorem dX0_turn_36 : decode cX0_turn 36 = .ok (.if_icmp .eq 48, 3) := by decide +kernel
theorem dX0_turn_39 : decode cX0_turn 39 = .ok (.aload_n 3, 1) := by decide +kernel
theorem dX0_turn_40 : decode cX0_turn 40 = .ok (.getfield 350, 3) := by decide +kernel
theorem dX0_turn_43 : decode cX0_turn 43 = .ok (.aload_n 0, 1) := by decide +kernel
theorem dX0_turn_44 : decode cX0_turn 44 = .ok (.iload_n 1, 1) := by decide +kernel
theorem dX0_turn_45 : decode cX0_turn 45 = .ok (.invokevirtual 118, 3) := by decide +kernel
theorem dX0_turn_48 : decode cX0_turn 48 = .ok (.getfield 350, 3) := by decide +kernel
theorem dX0_turn_51 : decode cX0_turn 51 = .ok (.if_icmp .lt 33, 3) := by decide +kernel
theorem dX0_turn_54 : decode cX0_turn 54 = .ok (.aload_n 3, 1) := by decide +kernel
theorem dX0_turn_55 : decode cX0_turn 55 = .ok (.getfield 350, 3) := by decide +kernel
theorem dX0_turn_58 : decode cX0_turn 58 = .ok (.aload_n 0, 1) := by decide +kernel
theorem dX0_turn_59 : decode cX0_turn 59 = .ok (.iload_n 1, 1) := by decide +kernel
theorem dX0_turn_60 : decode cX0_turn 60 = .ok (.invokevirtual 118, 3) := by decide +kernel
theorem dX0_turn_63 : decode cX0_turn 63 = .ok (.getfield 350, 3) := by decide +kernel
theorem dX0_turn_66 : decode cX0_turn 66 = .ok (.if_icmp .ne 20, 3) := by decide +kernel
theorem dX0_turn_69 : decode cX0_turn 69 = .ok (.aload_n 3, 1) := by decide +kernel
theorem dX0_turn_70 : decode cX0_turn 70 = .ok (.getfield 278, 3) := by decide +kernel
theorem dX0_turn_73 : decode cX0_turn 73 = .ok (.aload_n 0, 1) := by decide +kernel
theorem dX0_turn_74 : decode cX0_turn 74 = .ok (.iload_n 1, 1) := by decide +kernel
theorem dX0_turn_75 : decode cX0_turn 75 = .ok (.invokevirtual 118, 3) := by decide +kernel
theorem dX0_turn_78 : decode cX0_turn 78 = .ok (.getfield 278, 3) := by decide +kernel
theorem dX0_turn_81 : decode cX0_turn 81 = .ok (.if_icmp .ge 5, 3) := by decide +kernel
theorem dX0_turn_84 : decode cX0_turn 84 = .ok (.iload_n 2, 1) := by decide +kernel
theorem dX0_turn_85 : decode cX0_turn 85 = .ok (.istore_n 1, 1) := by decide +kernel
theorem dX0_turn_86 : decode cX0_turn 86 = .ok (.iinc 2 1, 3) := by decide +kernel
theorem dX0_turn_89 : decode cX0_turn 89 = .ok (.goto (-85), 3) := by decide +kernel
theorem dX0_turn_92 : decode cX0_turn 92 = .ok (.iload_n 1, 1) := by decide +kernel
theorem dX0_turn_93 : decode cX0_turn 93 = .ok (.ireturn, 1) := by decide +kernel
abbrev cX0_day : ByteArray := prog_1_method_40_code
def yX0_day : MethodName := ⟨RX0, "day", "()I"⟩
theorem dX0_day_0 : decode cX0_day 0 = .ok (.aload_n 0, 1) := by decide +kernel
theorem dX0_day_1 : decode cX0_day 1 = .ok (.getfield 10, 3) := by decide +kernel
theorem dX0_day_4 : decode cX0_day 4 = .ok (.getfield 88, 3) := by decide +kernel
theorem dX0_day_7 : decode cX0_day 7 = .ok (.sipush 9999, 3) := by decide +kernel
theorem dX0_day_10 : decode cX0_day 10 = .ok (.if_icmp .ne 5, 3) := by decide +kernel
theorem dX0_day_13 : decode cX0_day 13 = .ok (.iconst (-1), 1) := by decide +kernel
theorem dX0_day_14 : decode cX0_day 14 = .ok (.ireturn, 1) := by decide +kernel
theorem dX0_day_15 : decode cX0_day 15 = .ok (.aload_n 0, 1) := by decide +kernel
theorem dX0_day_16 : decode cX0_day 16 = .ok (.invokevirtual 353, 3) := by decide +kernel
theorem dX0_day_19 : decode cX0_day 19 = .ok (.istore_n 1, 1) := by decide +kernel
theorem dX0_day_20 : decode cX0_day 20 = .ok (.iload_n 1, 1) := by decide +kernel
theorem dX0_day_21 : decode cX0_day 21 = .ok (.iconst (-1), 1) := by decide +kernel
theorem dX0_day_22 : decode cX0_day 22 = .ok (.if_icmp .eq 17, 3) := by decide +kernel
theorem dX0_day_25 : decode cX0_day 25 = .ok (.aload_n 0, 1) := by decide +kernel
theorem dX0_day_26 : decode cX0_day 26 = .ok (.iload_n 1, 1) := by decide +kernel
theorem dX0_day_27 : decode cX0_day 27 = .ok (.invokevirtual 118, 3) := by decide +kernel
theorem dX0_day_30 : decode cX0_day 30 = .ok (.dup, 1) := by decide +kernel
theorem dX0_day_31 : decode cX0_day 31 = .ok (.getfield 350, 3) := by decide +kernel
theorem dX0_day_34 : decode cX0_day 34 = .ok (.iconst 1, 1) := by decide +kernel
theorem dX0_day_35 : decode cX0_day 35 = .ok (.iadd, 1) := by decide +kernel
theorem dX0_day_36 : decode cX0_day 36 = .ok (.putfield 350, 3) := by decide +kernel
theorem dX0_day_39 : decode cX0_day 39 = .ok (.iconst 0, 1) := by decide +kernel
theorem dX0_day_40 : decode cX0_day 40 = .ok (.istore_n 2, 1) := by decide +kernel
theorem dX0_day_41 : decode cX0_day 41 = .ok (.iload_n 2, 1) := by decide +kernel
theorem dX0_day_42 : decode cX0_day 42 = .ok (.aload_n 0, 1) := by decide +kernel
theorem dX0_day_43 : decode cX0_day 43 = .ok (.getfield 10, 3) := by decide +kernel
theorem dX0_day_46 : decode cX0_day 46 = .ok (.getfield 51, 3) := by decide +kernel
theorem dX0_day_49 : decode cX0_day 49 = .ok (.invokevirtual 68, 3) := by decide +kernel
theorem dX0_day_52 : decode cX0_day 52 = .ok (.if_icmp .ge 63, 3) := by decide +kernel
theorem dX0_day_55 : decode cX0_day 55 = .ok (.aload_n 0, 1) := by decide +kernel
theorem dX0_day_56 : decode cX0_day 56 = .ok (.iload_n 2, 1) := by decide +kernel
theorem dX0_day_57 : decode cX0_day 57 = .ok (.invokevirtual 118, 3) := by decide +kernel
theorem dX0_day_60 : decode cX0_day 60 = .ok (.astore_n 3, 1) := by decide +kernel
theorem dX0_day_61 : decode cX0_day 61 = .ok (.aload_n 3, 1) := by decide +kernel
theorem dX0_day_62 : decode cX0_day 62 = .ok (.getfield 337, 3) := by decide +kernel
theorem dX0_day_65 : decode cX0_day 65 = .ok (.ifCond .eq 20, 3) := by decide +kernel
theorem dX0_day_68 : decode cX0_day 68 = .ok (.aload_n 3, 1) := by decide +kernel
theorem dX0_day_69 : decode cX0_day 69 = .ok (.invokevirtual 341, 3) := by decide +kernel
theorem dX0_day_72 : decode cX0_day 72 = .ok (.aload_n 3, 1) := by decide +kernel
theorem dX0_day_73 : decode cX0_day 73 = .ok (.dup, 1) := by decide +kernel
theorem dX0_day_74 : decode cX0_day 74 = .ok (.getfield 356, 3) := by decide +kernel
theorem dX0_day_77 : decode cX0_day 77 = .ok (.iconst 1, 1) := by decide +kernel
theorem dX0_day_78 : decode cX0_day 78 = .ok (.iadd, 1) := by decide +kernel
theorem dX0_day_79 : decode cX0_day 79 = .ok (.putfield 356, 3) := by decide +kernel
theorem dX0_day_82 : decode cX0_day 82 = .ok (.goto 27, 3) := by decide +kernel
theorem dX0_day_85 : decode cX0_day 85 = .ok (.aload_n 3, 1) := by decide +kernel
theorem dX0_day_86 : decode cX0_day 86 = .ok (.invokevirtual 275, 3) := by decide +kernel
theorem dX0_day_89 : decode cX0_day 89 = .ok (.ifCond .eq 20, 3) := by decide +kernel
theorem dX0_day_92 : decode cX0_day 92 = .ok (.aload_n 3, 1) := by decide +kernel
theorem dX0_day_93 : decode cX0_day 93 = .ok (.dup, 1) := by decide +kernel
theorem dX0_day_94 : decode cX0_day 94 = .ok (.getfield 329, 3) := by decide +kernel
theorem dX0_day_97 : decode cX0_day 97 = .ok (.aload_n 0, 1) := by decide +kernel
theorem dX0_day_98 : decode cX0_day 98 = .ok (.aload_n 3, 1) := by decide +kernel
theorem dX0_day_99 : decode cX0_day 99 = .ok (.getstatic 359, 3) := by decide +kernel
theorem dX0_day_102 : decode cX0_day 102 = .ok (.invokevirtual 326, 3) := by decide +kernel
theorem dX0_day_105 : decode cX0_day 105 = .ok (.iadd, 1) := by decide +kernel
theorem dX0_day_106 : decode cX0_day 106 = .ok (.putfield 329, 3) := by decide +kernel
theorem dX0_day_109 : decode cX0_day 109 = .ok (.iinc 2 1, 3) := by decide +kernel
theorem dX0_day_112 : decode cX0_day 112 = .ok (.goto (-71), 3) := by decide +kernel
theorem dX0_day_115 : decode cX0_day 115 = .ok (.aload_n 0, 1) := by decide +kernel
theorem dX0_day_116 : decode cX0_day 116 = .ok (.getfield 10, 3) := by decide +kernel
theorem dX0_day_119 : decode cX0_day 119 = .ok (.dup, 1) := by decide +kernel
theorem dX0_day_120 : decode cX0_day 120 = .ok (.getfield 88, 3) := by decide +kernel
theorem dX0_day_123 : decode cX0_day 123 = .ok (.iconst 1, 1) := by decide +kernel
theorem dX0_day_124 : decode cX0_day 124 = .ok (.iadd, 1) := by decide +kernel
theorem dX0_day_125 : decode cX0_day 125 = .ok (.putfield 88, 3) := by decide +kernel
theorem dX0_day_128 : decode cX0_day 128 = .ok (.aload_n 0, 1) := by decide +kernel
theorem dX0_day_129 : decode cX0_day 129 = .ok (.getfield 10, 3) := by decide +kernel
theorem dX0_day_132 : decode cX0_day 132 = .ok (.iconst 0, 1) := by decide +kernel
theorem dX0_day_133 : decode cX0_day 133 = .ok (.putfield 294, 3) := by decide +kernel
theorem dX0_day_136 : decode cX0_day 136 = .ok (.aload_n 0, 1) := by decide +kernel
theorem dX0_day_137 : decode cX0_day 137 = .ok (.getfield 10, 3) := by decide +kernel
theorem dX0_day_140 : decode cX0_day 140 = .ok (.getfield 88, 3) := by decide +kernel
theorem dX0_day_143 : decode cX0_day 143 = .ok (.ireturn, 1) := by decide +kernel
abbrev cX0_alms : ByteArray := prog_1_method_41_code
def yX0_alms : MethodName := ⟨RX0, "alms", "(I)I"⟩
theorem dX0_alms_0 : decode cX0_alms 0 = .ok (.aload_n 0, 1) := by decide +kernel
theorem dX0_alms_1 : decode cX0_alms 1 = .ok (.invokevirtual 353, 3) := by decide +kernel
theorem dX0_alms_4 : decode cX0_alms 4 = .ok (.istore_n 2, 1) := by decide +kernel
theorem dX0_alms_5 : decode cX0_alms 5 = .ok (.iload_n 2, 1) := by decide +kernel
theorem dX0_alms_6 : decode cX0_alms 6 = .ok (.iconst (-1), 1) := by decide +kernel
theorem dX0_alms_7 : decode cX0_alms 7 = .ok (.if_icmp .eq 14, 3) := by decide +kernel
theorem dX0_alms_10 : decode cX0_alms 10 = .ok (.iload_n 1, 1) := by decide +kernel
theorem dX0_alms_11 : decode cX0_alms 11 = .ok (.iconst 1, 1) := by decide +kernel
theorem dX0_alms_12 : decode cX0_alms 12 = .ok (.sipush 10000, 3) := by decide +kernel
theorem dX0_alms_15 : decode cX0_alms 15 = .ok (.invokestatic 72, 3) := by decide +kernel
theorem dX0_alms_18 : decode cX0_alms 18 = .ok (.ifCond .ne 5, 3) := by decide +kernel
theorem dX0_alms_21 : decode cX0_alms 21 = .ok (.iconst (-1), 1) := by decide +kernel
theorem dX0_alms_22 : decode cX0_alms 22 = .ok (.ireturn, 1) := by decide +kernel
theorem dX0_alms_23 : decode cX0_alms 23 = .ok (.aload_n 0, 1) := by decide +kernel
theorem dX0_alms_24 : decode cX0_alms 24 = .ok (.iload_n 2, 1) := by decide +kernel
theorem dX0_alms_25 : decode cX0_alms 25 = .ok (.invokevirtual 118, 3) := by decide +kernel
theorem dX0_alms_28 : decode cX0_alms 28 = .ok (.dup, 1) := by decide +kernel
theorem dX0_alms_29 : decode cX0_alms 29 = .ok (.getfield 134, 3) := by decide +kernel
theorem dX0_alms_32 : decode cX0_alms 32 = .ok (.iload_n 1, 1) := by decide +kernel
theorem dX0_alms_33 : decode cX0_alms 33 = .ok (.iadd, 1) := by decide +kernel
theorem dX0_alms_34 : decode cX0_alms 34 = .ok (.putfield 134, 3) := by decide +kernel
theorem dX0_alms_37 : decode cX0_alms 37 = .ok (.iload_n 2, 1) := by decide +kernel
theorem dX0_alms_38 : decode cX0_alms 38 = .ok (.ireturn, 1) := by decide +kernel
abbrev cX0_tell : ByteArray := prog_1_method_44_code
def yX0_tell : MethodName := ⟨RX0, "tell", "(II)I"⟩
theorem dX0_tell_0 : decode cX0_tell 0 = .ok (.aload_n 0, 1) := by decide +kernel
theorem dX0_tell_1 : decode cX0_tell 1 = .ok (.iload_n 1, 1) := by decide +kernel
theorem dX0_tell_2 : decode cX0_tell 2 = .ok (.invokevirtual 76, 3) := by decide +kernel
theorem dX0_tell_5 : decode cX0_tell 5 = .ok (.ifCond .ne 6, 3) := by decide +kernel
theorem dX0_tell_8 : decode cX0_tell 8 = .ok (.bipush (-100), 2) := by decide +kernel
theorem dX0_tell_10 : decode cX0_tell 10 = .ok (.ireturn, 1) := by decide +kernel
theorem dX0_tell_11 : decode cX0_tell 11 = .ok (.aload_n 0, 1) := by decide +kernel
theorem dX0_tell_12 : decode cX0_tell 12 = .ok (.iload_n 1, 1) := by decide +kernel
theorem dX0_tell_13 : decode cX0_tell 13 = .ok (.invokevirtual 118, 3) := by decide +kernel
theorem dX0_tell_16 : decode cX0_tell 16 = .ok (.astore_n 3, 1) := by decide +kernel
theorem dX0_tell_17 : decode cX0_tell 17 = .ok (.iload_n 2, 1) := by decide +kernel
theorem dX0_tell_18 : decode cX0_tell 18 = .ok (.tableswitch 187 0 14 #[74, 79, 84, 97, 102, 118, 123, 136, 141, 146, 151, 156, 162, 168, 181], 74) := by decide +kernel
theorem dX0_tell_92 : decode cX0_tell 92 = .ok (.aload_n 3, 1) := by decide +kernel
theorem dX0_tell_93 : decode cX0_tell 93 = .ok (.getfield 134, 3) := by decide +kernel
theorem dX0_tell_96 : decode cX0_tell 96 = .ok (.ireturn, 1) := by decide +kernel
theorem dX0_tell_97 : decode cX0_tell 97 = .ok (.aload_n 3, 1) := by decide +kernel
theorem dX0_tell_98 : decode cX0_tell 98 = .ok (.getfield 282, 3) := by decide +kernel
theorem dX0_tell_101 : decode cX0_tell 101 = .ok (.ireturn, 1) := by decide +kernel
theorem dX0_tell_102 : decode cX0_tell 102 = .ok (.aload_n 3, 1) := by decide +kernel
theorem dX0_tell_103 : decode cX0_tell 103 = .ok (.invokevirtual 275, 3) := by decide +kernel
theorem dX0_tell_106 : decode cX0_tell 106 = .ok (.ifCond .eq 7, 3) := by decide +kernel
theorem dX0_tell_109 : decode cX0_tell 109 = .ok (.iconst 1, 1) := by decide +kernel
theorem dX0_tell_110 : decode cX0_tell 110 = .ok (.goto 4, 3) := by decide +kernel
theorem dX0_tell_113 : decode cX0_tell 113 = .ok (.iconst 0, 1) := by decide +kernel
theorem dX0_tell_114 : decode cX0_tell 114 = .ok (.ireturn, 1) := by decide +kernel
theorem dX0_tell_115 : decode cX0_tell 115 = .ok (.aload_n 3, 1) := by decide +kernel
theorem dX0_tell_116 : decode cX0_tell 116 = .ok (.getfield 278, 3) := by decide +kernel
theorem dX0_tell_119 : decode cX0_tell 119 = .ok (.ireturn, 1) := by decide +kernel
theorem dX0_tell_120 : decode cX0_tell 120 = .ok (.aload_n 3, 1) := by decide +kernel
theorem dX0_tell_121 : decode cX0_tell 121 = .ok (.invokevirtual 275, 3) := by decide +kernel
theorem dX0_tell_124 : decode cX0_tell 124 = .ok (.ifCond .eq 10, 3) := by decide +kernel
theorem dX0_tell_127 : decode cX0_tell 127 = .ok (.aload_n 3, 1) := by decide +kernel
theorem dX0_tell_128 : decode cX0_tell 128 = .ok (.getfield 288, 3) := by decide +kernel
theorem dX0_tell_131 : decode cX0_tell 131 = .ok (.goto 4, 3) := by decide +kernel
theorem dX0_tell_134 : decode cX0_tell 134 = .ok (.iconst (-1), 1) := by decide +kernel
theorem dX0_tell_135 : decode cX0_tell 135 = .ok (.ireturn, 1) := by decide +kernel
theorem dX0_tell_136 : decode cX0_tell 136 = .ok (.aload_n 3, 1) := by decide +kernel
theorem dX0_tell_137 : decode cX0_tell 137 = .ok (.getfield 329, 3) := by decide +kernel
theorem dX0_tell_140 : decode cX0_tell 140 = .ok (.ireturn, 1) := by decide +kernel
theorem dX0_tell_141 : decode cX0_tell 141 = .ok (.aload_n 3, 1) := by decide +kernel
theorem dX0_tell_142 : decode cX0_tell 142 = .ok (.getfield 337, 3) := by decide +kernel
theorem dX0_tell_145 : decode cX0_tell 145 = .ok (.ifCond .eq 7, 3) := by decide +kernel
theorem dX0_tell_148 : decode cX0_tell 148 = .ok (.iconst 1, 1) := by decide +kernel
theorem dX0_tell_149 : decode cX0_tell 149 = .ok (.goto 4, 3) := by decide +kernel
theorem dX0_tell_152 : decode cX0_tell 152 = .ok (.iconst 0, 1) := by decide +kernel
theorem dX0_tell_153 : decode cX0_tell 153 = .ok (.ireturn, 1) := by decide +kernel
theorem dX0_tell_154 : decode cX0_tell 154 = .ok (.aload_n 3, 1) := by decide +kernel
theorem dX0_tell_155 : decode cX0_tell 155 = .ok (.getfield 347, 3) := by decide +kernel
theorem dX0_tell_158 : decode cX0_tell 158 = .ok (.ireturn, 1) := by decide +kernel
theorem dX0_tell_159 : decode cX0_tell 159 = .ok (.aload_n 3, 1) := by decide +kernel
theorem dX0_tell_160 : decode cX0_tell 160 = .ok (.getfield 350, 3) := by decide +kernel
theorem dX0_tell_163 : decode cX0_tell 163 = .ok (.ireturn, 1) := by decide +kernel
theorem dX0_tell_164 : decode cX0_tell 164 = .ok (.aload_n 3, 1) := by decide +kernel
theorem dX0_tell_165 : decode cX0_tell 165 = .ok (.getfield 356, 3) := by decide +kernel
theorem dX0_tell_168 : decode cX0_tell 168 = .ok (.ireturn, 1) := by decide +kernel
theorem dX0_tell_169 : decode cX0_tell 169 = .ok (.aload_n 3, 1) := by decide +kernel
theorem dX0_tell_170 : decode cX0_tell 170 = .ok (.getfield 122, 3) := by decide +kernel
theorem dX0_tell_173 : decode cX0_tell 173 = .ok (.ireturn, 1) := by decide +kernel
theorem dX0_tell_174 : decode cX0_tell 174 = .ok (.aload_n 0, 1) := by decide +kernel
theorem dX0_tell_175 : decode cX0_tell 175 = .ok (.iload_n 1, 1) := by decide +kernel
theorem dX0_tell_176 : decode cX0_tell 176 = .ok (.invokevirtual 362, 3) := by decide +kernel
theorem dX0_tell_179 : decode cX0_tell 179 = .ok (.ireturn, 1) := by decide +kernel
theorem dX0_tell_180 : decode cX0_tell 180 = .ok (.aload_n 0, 1) := by decide +kernel
theorem dX0_tell_181 : decode cX0_tell 181 = .ok (.iload_n 1, 1) := by decide +kernel
theorem dX0_tell_182 : decode cX0_tell 182 = .ok (.invokevirtual 365, 3) := by decide +kernel
theorem dX0_tell_185 : decode cX0_tell 185 = .ok (.ireturn, 1) := by decide +kernel
theorem dX0_tell_186 : decode cX0_tell 186 = .ok (.aload_n 3, 1) := by decide +kernel
theorem dX0_tell_187 : decode cX0_tell 187 = .ok (.getfield 368, 3) := by decide +kernel
theorem dX0_tell_190 : decode cX0_tell 190 = .ok (.ifCond .eq 7, 3) := by decide +kernel
theorem dX0_tell_193 : decode cX0_tell 193 = .ok (.iconst 1, 1) := by decide +kernel
theorem dX0_tell_194 : decode cX0_tell 194 = .ok (.goto 4, 3) := by decide +kernel
theorem dX0_tell_197 : decode cX0_tell 197 = .ok (.iconst 0, 1) := by decide +kernel
theorem dX0_tell_198 : decode cX0_tell 198 = .ok (.ireturn, 1) := by decide +kernel
theorem dX0_tell_199 : decode cX0_tell 199 = .ok (.aload_n 3, 1) := by decide +kernel
theorem dX0_tell_200 : decode cX0_tell 200 = .ok (.getfield 371, 3) := by decide +kernel
theorem dX0_tell_203 : decode cX0_tell 203 = .ok (.ineg, 1) := by decide +kernel
theorem dX0_tell_204 : decode cX0_tell 204 = .ok (.ireturn, 1) := by decide +kernel
theorem dX0_tell_205 : decode cX0_tell 205 = .ok (.bipush (-100), 2) := by decide +kernel
theorem dX0_tell_207 : decode cX0_tell 207 = .ok (.ireturn, 1) := by decide +kernel
abbrev cX0_owedBy : ByteArray := prog_1_method_42_code
def yX0_owedBy : MethodName := ⟨RX0, "owedBy", "(I)I"⟩
theorem dX0_owedBy_0 : decode cX0_owedBy 0 = .ok (.iconst 0, 1) := by decide +kernel
theorem dX0_owedBy_1 : decode cX0_owedBy 1 = .ok (.istore_n 2, 1) := by decide +kernel
theorem dX0_owedBy_2 : decode cX0_owedBy 2 = .ok (.iconst 0, 1) := by decide +kernel
theorem dX0_owedBy_3 : decode cX0_owedBy 3 = .ok (.istore_n 3, 1) := by decide +kernel
theorem dX0_owedBy_4 : decode cX0_owedBy 4 = .ok (.iload_n 3, 1) := by decide +kernel
theorem dX0_owedBy_5 : decode cX0_owedBy 5 = .ok (.aload_n 0, 1) := by decide +kernel
theorem dX0_owedBy_6 : decode cX0_owedBy 6 = .ok (.getfield 10, 3) := by decide +kernel
theorem dX0_owedBy_9 : decode cX0_owedBy 9 = .ok (.getfield 63, 3) := by decide +kernel
theorem dX0_owedBy_12 : decode cX0_owedBy 12 = .ok (.invokevirtual 68, 3) := by decide +kernel
theorem dX0_owedBy_15 : decode cX0_owedBy 15 = .ok (.if_icmp .ge 33, 3) := by decide +kernel
theorem dX0_owedBy_18 : decode cX0_owedBy 18 = .ok (.iload_n 2, 1) := by decide +kernel
theorem dX0_owedBy_19 : decode cX0_owedBy 19 = .ok (.aload_n 0, 1) := by decide +kernel
theorem dX0_owedBy_20 : decode cX0_owedBy 20 = .ok (.iload_n 3, 1) := by decide +kernel
theorem dX0_owedBy_21 : decode cX0_owedBy 21 = .ok (.invokevirtual 80, 3) := by decide +kernel
theorem dX0_owedBy_24 : decode cX0_owedBy 24 = .ok (.getfield 128, 3) := by decide +kernel
theorem dX0_owedBy_27 : decode cX0_owedBy 27 = .ok (.iload_n 1, 1) := by decide +kernel
theorem dX0_owedBy_28 : decode cX0_owedBy 28 = .ok (.if_icmp .ne 11, 3) := by decide +kernel
theorem dX0_owedBy_31 : decode cX0_owedBy 31 = .ok (.aload_n 0, 1) := by decide +kernel
theorem dX0_owedBy_32 : decode cX0_owedBy 32 = .ok (.iload_n 3, 1) := by decide +kernel
theorem dX0_owedBy_33 : decode cX0_owedBy 33 = .ok (.invokevirtual 117, 3) := by decide +kernel
theorem dX0_owedBy_36 : decode cX0_owedBy 36 = .ok (.goto 4, 3) := by decide +kernel
theorem dX0_owedBy_39 : decode cX0_owedBy 39 = .ok (.iconst 0, 1) := by decide +kernel
theorem dX0_owedBy_40 : decode cX0_owedBy 40 = .ok (.iadd, 1) := by decide +kernel
theorem dX0_owedBy_41 : decode cX0_owedBy 41 = .ok (.istore_n 2, 1) := by decide +kernel
theorem dX0_owedBy_42 : decode cX0_owedBy 42 = .ok (.iinc 3 1, 3) := by decide +kernel
theorem dX0_owedBy_45 : decode cX0_owedBy 45 = .ok (.goto (-41), 3) := by decide +kernel
theorem dX0_owedBy_48 : decode cX0_owedBy 48 = .ok (.iload_n 2, 1) := by decide +kernel
theorem dX0_owedBy_49 : decode cX0_owedBy 49 = .ok (.ireturn, 1) := by decide +kernel
abbrev cX0_owedTo : ByteArray := prog_1_method_43_code
def yX0_owedTo : MethodName := ⟨RX0, "owedTo", "(I)I"⟩
theorem dX0_owedTo_0 : decode cX0_owedTo 0 = .ok (.iconst 0, 1) := by decide +kernel
theorem dX0_owedTo_1 : decode cX0_owedTo 1 = .ok (.istore_n 2, 1) := by decide +kernel
theorem dX0_owedTo_2 : decode cX0_owedTo 2 = .ok (.iconst 0, 1) := by decide +kernel
theorem dX0_owedTo_3 : decode cX0_owedTo 3 = .ok (.istore_n 3, 1) := by decide +kernel
theorem dX0_owedTo_4 : decode cX0_owedTo 4 = .ok (.iload_n 3, 1) := by decide +kernel
theorem dX0_owedTo_5 : decode cX0_owedTo 5 = .ok (.aload_n 0, 1) := by decide +kernel
theorem dX0_owedTo_6 : decode cX0_owedTo 6 = .ok (.getfield 10, 3) := by decide +kernel
theorem dX0_owedTo_9 : decode cX0_owedTo 9 = .ok (.getfield 63, 3) := by decide +kernel
theorem dX0_owedTo_12 : decode cX0_owedTo 12 = .ok (.invokevirtual 68, 3) := by decide +kernel
theorem dX0_owedTo_15 : decode cX0_owedTo 15 = .ok (.if_icmp .ge 33, 3) := by decide +kernel
theorem dX0_owedTo_18 : decode cX0_owedTo 18 = .ok (.iload_n 2, 1) := by decide +kernel
theorem dX0_owedTo_19 : decode cX0_owedTo 19 = .ok (.aload_n 0, 1) := by decide +kernel
theorem dX0_owedTo_20 : decode cX0_owedTo 20 = .ok (.iload_n 3, 1) := by decide +kernel
theorem dX0_owedTo_21 : decode cX0_owedTo 21 = .ok (.invokevirtual 80, 3) := by decide +kernel
theorem dX0_owedTo_24 : decode cX0_owedTo 24 = .ok (.getfield 131, 3) := by decide +kernel
theorem dX0_owedTo_27 : decode cX0_owedTo 27 = .ok (.iload_n 1, 1) := by decide +kernel
theorem dX0_owedTo_28 : decode cX0_owedTo 28 = .ok (.if_icmp .ne 11, 3) := by decide +kernel
theorem dX0_owedTo_31 : decode cX0_owedTo 31 = .ok (.aload_n 0, 1) := by decide +kernel
theorem dX0_owedTo_32 : decode cX0_owedTo 32 = .ok (.iload_n 3, 1) := by decide +kernel
theorem dX0_owedTo_33 : decode cX0_owedTo 33 = .ok (.invokevirtual 117, 3) := by decide +kernel
theorem dX0_owedTo_36 : decode cX0_owedTo 36 = .ok (.goto 4, 3) := by decide +kernel
theorem dX0_owedTo_39 : decode cX0_owedTo 39 = .ok (.iconst 0, 1) := by decide +kernel
theorem dX0_owedTo_40 : decode cX0_owedTo 40 = .ok (.iadd, 1) := by decide +kernel
theorem dX0_owedTo_41 : decode cX0_owedTo 41 = .ok (.istore_n 2, 1) := by decide +kernel
theorem dX0_owedTo_42 : decode cX0_owedTo 42 = .ok (.iinc 3 1, 3) := by decide +kernel
theorem dX0_owedTo_45 : decode cX0_owedTo 45 = .ok (.goto (-41), 3) := by decide +kernel
theorem dX0_owedTo_48 : decode cX0_owedTo 48 = .ok (.iload_n 2, 1) := by decide +kernel
theorem dX0_owedTo_49 : decode cX0_owedTo 49 = .ok (.ireturn, 1) := by decide +kernel
abbrev cX0_least : ByteArray := prog_1_method_45_code
def yX0_least : MethodName := ⟨RX0, "least", "(III)Z"⟩
theorem dX0_least_0 : decode cX0_least 0 = .ok (.aload_n 0, 1) := by decide +kernel
theorem dX0_least_1 : decode cX0_least 1 = .ok (.iload_n 1, 1) := by decide +kernel
theorem dX0_least_2 : decode cX0_least 2 = .ok (.iload_n 2, 1) := by decide +kernel
theorem dX0_least_3 : decode cX0_least 3 = .ok (.invokevirtual 104, 3) := by decide +kernel
theorem dX0_least_6 : decode cX0_least 6 = .ok (.ifCond .eq 14, 3) := by decide +kernel
theorem dX0_least_9 : decode cX0_least 9 = .ok (.iload_n 3, 1) := by decide +kernel
theorem dX0_least_10 : decode cX0_least 10 = .ok (.iconst 0, 1) := by decide +kernel
theorem dX0_least_11 : decode cX0_least 11 = .ok (.sipush 1000, 3) := by decide +kernel
theorem dX0_least_14 : decode cX0_least 14 = .ok (.invokestatic 72, 3) := by decide +kernel
theorem dX0_least_17 : decode cX0_least 17 = .ok (.ifCond .ne 5, 3) := by decide +kernel
theorem dX0_least_20 : decode cX0_least 20 = .ok (.iconst 0, 1) := by decide +kernel
theorem dX0_least_21 : decode cX0_least 21 = .ok (.ireturn, 1) := by decide +kernel
theorem dX0_least_22 : decode cX0_least 22 = .ok (.aload_n 0, 1) := by decide +kernel
theorem dX0_least_23 : decode cX0_least 23 = .ok (.getfield 10, 3) := by decide +kernel
theorem dX0_least_26 : decode cX0_least 26 = .ok (.getfield 374, 3) := by decide +kernel
theorem dX0_least_29 : decode cX0_least 29 = .ok (.iload_n 1, 1) := by decide +kernel
theorem dX0_least_30 : decode cX0_least 30 = .ok (.aaload, 1) := by decide +kernel
theorem dX0_least_31 : decode cX0_least 31 = .ok (.iload_n 2, 1) := by decide +kernel
theorem dX0_least_32 : decode cX0_least 32 = .ok (.iload_n 3, 1) := by decide +kernel
theorem dX0_least_33 : decode cX0_least 33 = .ok (.iastore, 1) := by decide +kernel
theorem dX0_least_34 : decode cX0_least 34 = .ok (.iconst 1, 1) := by decide +kernel
theorem dX0_least_35 : decode cX0_least 35 = .ok (.ireturn, 1) := by decide +kernel
abbrev cX0_binds : ByteArray := prog_1_method_48_code
def yX0_binds : MethodName := ⟨RX0, "binds", "(II)Z"⟩
theorem dX0_binds_0 : decode cX0_binds 0 = .ok (.aload_n 0, 1) := by decide +kernel
theorem dX0_binds_1 : decode cX0_binds 1 = .ok (.iload_n 1, 1) := by decide +kernel
theorem dX0_binds_2 : decode cX0_binds 2 = .ok (.invokevirtual 76, 3) := by decide +kernel
theorem dX0_binds_5 : decode cX0_binds 5 = .ok (.ifCond .eq 27, 3) := by decide +kernel
theorem dX0_binds_8 : decode cX0_binds 8 = .ok (.iload_n 2, 1) := by decide +kernel
theorem dX0_binds_9 : decode cX0_binds 9 = .ok (.iconst 0, 1) := by decide +kernel
theorem dX0_binds_10 : decode cX0_binds 10 = .ok (.sipush 1000, 3) := by decide +kernel
theorem dX0_binds_13 : decode cX0_binds 13 = .ok (.invokestatic 72, 3) := by decide +kernel
theorem dX0_binds_16 : decode cX0_binds 16 = .ok (.ifCond .eq 16, 3) := by decide +kernel
theorem dX0_binds_19 : decode cX0_binds 19 = .ok (.aload_n 0, 1) := by decide +kernel
theorem dX0_binds_20 : decode cX0_binds 20 = .ok (.iload_n 1, 1) := by decide +kernel
theorem dX0_binds_21 : decode cX0_binds 21 = .ok (.iload_n 2, 1) := by decide +kernel
theorem dX0_binds_22 : decode cX0_binds 22 = .ok (.invokevirtual 398, 3) := by decide +kernel
theorem dX0_binds_25 : decode cX0_binds 25 = .ok (.ifCond .eq 7, 3) := by decide +kernel
theorem dX0_binds_28 : decode cX0_binds 28 = .ok (.iconst 1, 1) := by decide +kernel
theorem dX0_binds_29 : decode cX0_binds 29 = .ok (.goto 4, 3) := by decide +kernel
theorem dX0_binds_32 : decode cX0_binds 32 = .ok (.iconst 0, 1) := by decide +kernel
theorem dX0_binds_33 : decode cX0_binds 33 = .ok (.ireturn, 1) := by decide +kernel
abbrev cX0_binds0 : ByteArray := prog_1_method_47_code
def yX0_binds0 : MethodName := ⟨RX0, "binds0", "(II)Z"⟩
theorem dX0_binds0_0 : decode cX0_binds0 0 = .ok (.aload_n 0, 1) := by decide +kernel
theorem dX0_binds0_1 : decode cX0_binds0 1 = .ok (.iload_n 1, 1) := by decide +kernel
theorem dX0_binds0_2 : decode cX0_binds0 2 = .ok (.invokevirtual 118, 3) := by decide +kernel
theorem dX0_binds0_5 : decode cX0_binds0 5 = .ok (.astore_n 3, 1) := by decide +kernel
theorem dX0_binds0_6 : decode cX0_binds0 6 = .ok (.aload_n 0, 1) := by decide +kernel
theorem dX0_binds0_7 : decode cX0_binds0 7 = .ok (.iload_n 1, 1) := by decide +kernel
theorem dX0_binds0_8 : decode cX0_binds0 8 = .ok (.iload_n 2, 1) := by decide +kernel
theorem dX0_binds0_9 : decode cX0_binds0 9 = .ok (.iconst (-1), 1) := by decide +kernel
theorem dX0_binds0_10 : decode cX0_binds0 10 = .ok (.lconst 0, 1) := by decide +kernel
theorem dX0_binds0_11 : decode cX0_binds0 11 = .ok (.aload_n 0, 1) := by decide +kernel
theorem dX0_binds0_12 : decode cX0_binds0 12 = .ok (.aload_n 3, 1) := by decide +kernel
theorem dX0_binds0_13 : decode cX0_binds0 13 = .ok (.getstatic 385, 3) := by decide +kernel
theorem dX0_binds0_16 : decode cX0_binds0 16 = .ok (.invokevirtual 326, 3) := by decide +kernel
theorem dX0_binds0_19 : decode cX0_binds0 19 = .ok (.ifCond .eq 7, 3) := by decide +kernel
theorem dX0_binds0_22 : decode cX0_binds0 22 = .ok (.iconst 1, 1) := by decide +kernel
theorem dX0_binds0_23 : decode cX0_binds0 23 = .ok (.goto 4, 3) := by decide +kernel
theorem dX0_binds0_26 : decode cX0_binds0 26 = .ok (.iconst 0, 1) := by decide +kernel
theorem dX0_binds0_27 : decode cX0_binds0 27 = .ok (.aload_n 0, 1) := by decide +kernel
theorem dX0_binds0_28 : decode cX0_binds0 28 = .ok (.aload_n 3, 1) := by decide +kernel
theorem dX0_binds0_29 : decode cX0_binds0 29 = .ok (.getstatic 388, 3) := by decide +kernel
theorem dX0_binds0_32 : decode cX0_binds0 32 = .ok (.invokevirtual 326, 3) := by decide +kernel
theorem dX0_binds0_35 : decode cX0_binds0 35 = .ok (.aload_n 0, 1) := by decide +kernel
theorem dX0_binds0_36 : decode cX0_binds0 36 = .ok (.aload_n 3, 1) := by decide +kernel
theorem dX0_binds0_37 : decode cX0_binds0 37 = .ok (.getstatic 391, 3) := by decide +kernel
theorem dX0_binds0_40 : decode cX0_binds0 40 = .ok (.invokevirtual 326, 3) := by decide +kernel
theorem dX0_binds0_43 : decode cX0_binds0 43 = .ok (.invokevirtual 394, 3) := by decide +kernel
theorem dX0_binds0_46 : decode cX0_binds0 46 = .ok (.ireturn, 1) := by decide +kernel
abbrev cX0_binds_2 : ByteArray := prog_1_method_46_code
def yX0_binds_2 : MethodName := ⟨RX0, "binds", "(IIIJZII)Z"⟩
theorem dX0_binds_2_0 : decode cX0_binds_2 0 = .ok (.aload_n 0, 1) := by decide +kernel
theorem dX0_binds_2_1 : decode cX0_binds_2 1 = .ok (.getfield 31, 3) := by decide +kernel
theorem dX0_binds_2_4 : decode cX0_binds_2 4 = .ok (.lconst 0, 1) := by decide +kernel
theorem dX0_binds_2_5 : decode cX0_binds_2 5 = .ok (.invokestatic 377, 3) := by decide +kernel
theorem dX0_binds_2_8 : decode cX0_binds_2 8 = .ok (.aload_n 0, 1) := by decide +kernel
theorem dX0_binds_2_9 : decode cX0_binds_2 9 = .ok (.getfield 35, 3) := by decide +kernel
theorem dX0_binds_2_12 : decode cX0_binds_2 12 = .ok (.iconst 0, 1) := by decide +kernel
theorem dX0_binds_2_13 : decode cX0_binds_2 13 = .ok (.invokestatic 380, 3) := by decide +kernel
theorem dX0_binds_2_16 : decode cX0_binds_2 16 = .ok (.iconst 0, 1) := by decide +kernel
theorem dX0_binds_2_17 : decode cX0_binds_2 17 = .ok (.istore 9, 2) := by decide +kernel
theorem dX0_binds_2_19 : decode cX0_binds_2 19 = .ok (.iload 9, 2) := by decide +kernel
theorem dX0_binds_2_21 : decode cX0_binds_2 21 = .ok (.aload_n 0, 1) := by decide +kernel
theorem dX0_binds_2_22 : decode cX0_binds_2 22 = .ok (.getfield 10, 3) := by decide +kernel
theorem dX0_binds_2_25 : decode cX0_binds_2 25 = .ok (.getfield 63, 3) := by decide +kernel
theorem dX0_binds_2_28 : decode cX0_binds_2 28 = .ok (.invokevirtual 68, 3) := by decide +kernel
theorem dX0_binds_2_31 : decode cX0_binds_2 31 = .ok (.if_icmp .ge 118, 3) := by decide +kernel
theorem dX0_binds_2_34 : decode cX0_binds_2 34 = .ok (.aload_n 0, 1) := by decide +kernel
theorem dX0_binds_2_35 : decode cX0_binds_2 35 = .ok (.iload 9, 2) := by decide +kernel
theorem dX0_binds_2_37 : decode cX0_binds_2 37 = .ok (.invokevirtual 80, 3) := by decide +kernel
theorem dX0_binds_2_40 : decode cX0_binds_2 40 = .ok (.astore 10, 2) := by decide +kernel
theorem dX0_binds_2_42 : decode cX0_binds_2 42 = .ok (.aload 10, 2) := by decide +kernel
theorem dX0_binds_2_44 : decode cX0_binds_2 44 = .ok (.invokevirtual 84, 3) := by decide +kernel
theorem dX0_binds_2_47 : decode cX0_binds_2 47 = .ok (.ifCond .eq 96, 3) := by decide +kernel
theorem dX0_binds_2_50 : decode cX0_binds_2 50 = .ok (.aload 10, 2) := by decide +kernel
theorem dX0_binds_2_52 : decode cX0_binds_2 52 = .ok (.getfield 128, 3) := by decide +kernel
theorem dX0_binds_2_55 : decode cX0_binds_2 55 = .ok (.iload_n 1, 1) := by decide +kernel
theorem dX0_binds_2_56 : decode cX0_binds_2 56 = .ok (.if_icmp .eq 6, 3) := by decide +kernel
theorem dX0_binds_2_59 : decode cX0_binds_2 59 = .ok (.goto 84, 3) := by decide +kernel
theorem dX0_binds_2_62 : decode cX0_binds_2 62 = .ok (.lload 4, 2) := by decide +kernel
theorem dX0_binds_2_64 : decode cX0_binds_2 64 = .ok (.iload 9, 2) := by decide +kernel
theorem dX0_binds_2_66 : decode cX0_binds_2 66 = .ok (.lshr, 1) := by decide +kernel
theorem dX0_binds_2_67 : decode cX0_binds_2 67 = .ok (.lconst 1, 1) := by decide +kernel
theorem dX0_binds_2_68 : decode cX0_binds_2 68 = .ok (.land, 1) := by decide +kernel
theorem dX0_binds_2_69 : decode cX0_binds_2 69 = .ok (.lconst 1, 1) := by decide +kernel
theorem dX0_binds_2_70 : decode cX0_binds_2 70 = .ok (.lcmp, 1) := by decide +kernel
theorem dX0_binds_2_71 : decode cX0_binds_2 71 = .ok (.ifCond .ne 7, 3) := by decide +kernel
theorem dX0_binds_2_74 : decode cX0_binds_2 74 = .ok (.iconst 1, 1) := by decide +kernel
theorem dX0_binds_2_75 : decode cX0_binds_2 75 = .ok (.goto 4, 3) := by decide +kernel
theorem dX0_binds_2_78 : decode cX0_binds_2 78 = .ok (.iconst 0, 1) := by decide +kernel
theorem dX0_binds_2_79 : decode cX0_binds_2 79 = .ok (.istore 11, 2) := by decide +kernel
theorem dX0_binds_2_81 : decode cX0_binds_2 81 = .ok (.aload 10, 2) := by decide +kernel
theorem dX0_binds_2_83 : decode cX0_binds_2 83 = .ok (.getfield 174, 3) := by decide +kernel
theorem dX0_binds_2_86 : decode cX0_binds_2 86 = .ok (.ifCond .ne 8, 3) := by decide +kernel
theorem dX0_binds_2_89 : decode cX0_binds_2 89 = .ok (.iload 11, 2) := by decide +kernel
theorem dX0_binds_2_91 : decode cX0_binds_2 91 = .ok (.ifCond .eq 11, 3) := by decide +kernel
theorem dX0_binds_2_94 : decode cX0_binds_2 94 = .ok (.iload 6, 2) := by decide +kernel
theorem dX0_binds_2_96 : decode cX0_binds_2 96 = .ok (.ifCond .ne 6, 3) := by decide +kernel
theorem dX0_binds_2_99 : decode cX0_binds_2 99 = .ok (.goto 44, 3) := by decide +kernel
theorem dX0_binds_2_102 : decode cX0_binds_2 102 = .ok (.iload 11, 2) := by decide +kernel
theorem dX0_binds_2_104 : decode cX0_binds_2 104 = .ok (.ifCond .eq 7, 3) := by decide +kernel
theorem dX0_binds_2_107 : decode cX0_binds_2 107 = .ok (.iload_n 3, 1) := by decide +kernel
theorem dX0_binds_2_108 : decode cX0_binds_2 108 = .ok (.goto 8, 3) := by decide +kernel
theorem dX0_binds_2_111 : decode cX0_binds_2 111 = .ok (.aload 10, 2) := by decide +kernel
theorem dX0_binds_2_113 : decode cX0_binds_2 113 = .ok (.getfield 131, 3) := by decide +kernel
theorem dX0_binds_2_116 : decode cX0_binds_2 116 = .ok (.istore 12, 2) := by decide +kernel
theorem dX0_binds_2_118 : decode cX0_binds_2 118 = .ok (.aload_n 0, 1) := by decide +kernel
theorem dX0_binds_2_119 : decode cX0_binds_2 119 = .ok (.getfield 31, 3) := by decide +kernel
theorem dX0_binds_2_122 : decode cX0_binds_2 122 = .ok (.iload 12, 2) := by decide +kernel
theorem dX0_binds_2_124 : decode cX0_binds_2 124 = .ok (.dup2, 1) := by decide +kernel
theorem dX0_binds_2_125 : decode cX0_binds_2 125 = .ok (.laload, 1) := by decide +kernel
theorem dX0_binds_2_126 : decode cX0_binds_2 126 = .ok (.aload_n 0, 1) := by decide +kernel
theorem dX0_binds_2_127 : decode cX0_binds_2 127 = .ok (.iload 9, 2) := by decide +kernel
theorem dX0_binds_2_129 : decode cX0_binds_2 129 = .ok (.invokevirtual 117, 3) := by decide +kernel
theorem dX0_binds_2_132 : decode cX0_binds_2 132 = .ok (.i2l, 1) := by decide +kernel
theorem dX0_binds_2_133 : decode cX0_binds_2 133 = .ok (.ladd, 1) := by decide +kernel
theorem dX0_binds_2_134 : decode cX0_binds_2 134 = .ok (.lastore, 1) := by decide +kernel
theorem dX0_binds_2_135 : decode cX0_binds_2 135 = .ok (.aload_n 0, 1) := by decide +kernel
theorem dX0_binds_2_136 : decode cX0_binds_2 136 = .ok (.getfield 35, 3) := by decide +kernel
theorem dX0_binds_2_139 : decode cX0_binds_2 139 = .ok (.iload 12, 2) := by decide +kernel
theorem dX0_binds_2_141 : decode cX0_binds_2 141 = .ok (.iconst 1, 1) := by decide +kernel
theorem dX0_binds_2_142 : decode cX0_binds_2 142 = .ok (.bastore, 1) := by decide +kernel
theorem dX0_binds_2_143 : decode cX0_binds_2 143 = .ok (.iinc 9 1, 3) := by decide +kernel
theorem dX0_binds_2_146 : decode cX0_binds_2 146 = .ok (.goto (-127), 3) := by decide +kernel
theorem dX0_binds_2_149 : decode cX0_binds_2 149 = .ok (.lconst 0, 1) := by decide +kernel
theorem dX0_binds_2_150 : decode cX0_binds_2 150 = .ok (.lstore 9, 2) := by decide +kernel
theorem dX0_binds_2_152 : decode cX0_binds_2 152 = .ok (.lconst 0, 1) := by decide +kernel
theorem dX0_binds_2_153 : decode cX0_binds_2 153 = .ok (.lstore 11, 2) := by decide +kernel
theorem dX0_binds_2_155 : decode cX0_binds_2 155 = .ok (.iconst 0, 1) := by decide +kernel
theorem dX0_binds_2_156 : decode cX0_binds_2 156 = .ok (.istore 13, 2) := by decide +kernel
theorem dX0_binds_2_158 : decode cX0_binds_2 158 = .ok (.iconst 0, 1) := by decide +kernel
theorem dX0_binds_2_159 : decode cX0_binds_2 159 = .ok (.istore 14, 2) := by decide +kernel
theorem dX0_binds_2_161 : decode cX0_binds_2 161 = .ok (.iconst 0, 1) := by decide +kernel
theorem dX0_binds_2_162 : decode cX0_binds_2 162 = .ok (.istore 15, 2) := by decide +kernel
theorem dX0_binds_2_164 : decode cX0_binds_2 164 = .ok (.iload 15, 2) := by decide +kernel
theorem dX0_binds_2_166 : decode cX0_binds_2 166 = .ok (.bipush 12, 2) := by decide +kernel
theorem dX0_binds_2_168 : decode cX0_binds_2 168 = .ok (.if_icmp .ge 77, 3) := by decide +kernel
theorem dX0_binds_2_171 : decode cX0_binds_2 171 = .ok (.aload_n 0, 1) := by decide +kernel
theorem dX0_binds_2_172 : decode cX0_binds_2 172 = .ok (.getfield 35, 3) := by decide +kernel
theorem dX0_binds_2_175 : decode cX0_binds_2 175 = .ok (.iload 15, 2) := by decide +kernel
theorem dX0_binds_2_177 : decode cX0_binds_2 177 = .ok (.baload, 1) := by decide +kernel
theorem dX0_binds_2_178 : decode cX0_binds_2 178 = .ok (.ifCond .ne 6, 3) := by decide +kernel
theorem dX0_binds_2_181 : decode cX0_binds_2 181 = .ok (.goto 58, 3) := by decide +kernel
theorem dX0_binds_2_184 : decode cX0_binds_2 184 = .ok (.iinc 13 1, 3) := by decide +kernel
theorem dX0_binds_2_187 : decode cX0_binds_2 187 = .ok (.lload 9, 2) := by decide +kernel
theorem dX0_binds_2_189 : decode cX0_binds_2 189 = .ok (.aload_n 0, 1) := by decide +kernel
theorem dX0_binds_2_190 : decode cX0_binds_2 190 = .ok (.getfield 31, 3) := by decide +kernel
theorem dX0_binds_2_193 : decode cX0_binds_2 193 = .ok (.iload 15, 2) := by decide +kernel
theorem dX0_binds_2_195 : decode cX0_binds_2 195 = .ok (.laload, 1) := by decide +kernel
theorem dX0_binds_2_196 : decode cX0_binds_2 196 = .ok (.ladd, 1) := by decide +kernel
theorem dX0_binds_2_197 : decode cX0_binds_2 197 = .ok (.lstore 9, 2) := by decide +kernel
theorem dX0_binds_2_199 : decode cX0_binds_2 199 = .ok (.iload 15, 2) := by decide +kernel
theorem dX0_binds_2_201 : decode cX0_binds_2 201 = .ok (.iload_n 3, 1) := by decide +kernel
theorem dX0_binds_2_202 : decode cX0_binds_2 202 = .ok (.if_icmp .eq 22, 3) := by decide +kernel
theorem dX0_binds_2_205 : decode cX0_binds_2 205 = .ok (.iload_n 2, 1) := by decide +kernel
theorem dX0_binds_2_206 : decode cX0_binds_2 206 = .ok (.aload_n 0, 1) := by decide +kernel
theorem dX0_binds_2_207 : decode cX0_binds_2 207 = .ok (.getfield 10, 3) := by decide +kernel
theorem dX0_binds_2_210 : decode cX0_binds_2 210 = .ok (.getfield 374, 3) := by decide +kernel
theorem dX0_binds_2_213 : decode cX0_binds_2 213 = .ok (.iload 15, 2) := by decide +kernel
theorem dX0_binds_2_215 : decode cX0_binds_2 215 = .ok (.aaload, 1) := by decide +kernel
theorem dX0_binds_2_216 : decode cX0_binds_2 216 = .ok (.iload_n 1, 1) := by decide +kernel
theorem dX0_binds_2_217 : decode cX0_binds_2 217 = .ok (.iaload, 1) := by decide +kernel
theorem dX0_binds_2_218 : decode cX0_binds_2 218 = .ok (.if_icmp .ge 6, 3) := by decide +kernel
theorem dX0_binds_2_221 : decode cX0_binds_2 221 = .ok (.goto 18, 3) := by decide +kernel
theorem dX0_binds_2_224 : decode cX0_binds_2 224 = .ok (.iinc 14 1, 3) := by decide +kernel
theorem dX0_binds_2_227 : decode cX0_binds_2 227 = .ok (.lload 11, 2) := by decide +kernel
theorem dX0_binds_2_229 : decode cX0_binds_2 229 = .ok (.aload_n 0, 1) := by decide +kernel
theorem dX0_binds_2_230 : decode cX0_binds_2 230 = .ok (.getfield 31, 3) := by decide +kernel
theorem dX0_binds_2_233 : decode cX0_binds_2 233 = .ok (.iload 15, 2) := by decide +kernel
theorem dX0_binds_2_235 : decode cX0_binds_2 235 = .ok (.laload, 1) := by decide +kernel
theorem dX0_binds_2_236 : decode cX0_binds_2 236 = .ok (.ladd, 1) := by decide +kernel
theorem dX0_binds_2_237 : decode cX0_binds_2 237 = .ok (.lstore 11, 2) := by decide +kernel
theorem dX0_binds_2_239 : decode cX0_binds_2 239 = .ok (.iinc 15 1, 3) := by decide +kernel
theorem dX0_binds_2_242 : decode cX0_binds_2 242 = .ok (.goto (-78), 3) := by decide +kernel
theorem dX0_binds_2_245 : decode cX0_binds_2 245 = .ok (.iload 13, 2) := by decide +kernel
theorem dX0_binds_2_247 : decode cX0_binds_2 247 = .ok (.ifCond .le 36, 3) := by decide +kernel
theorem dX0_binds_2_250 : decode cX0_binds_2 250 = .ok (.bipush 100, 2) := by decide +kernel
theorem dX0_binds_2_252 : decode cX0_binds_2 252 = .ok (.iload 14, 2) := by decide +kernel
theorem dX0_binds_2_254 : decode cX0_binds_2 254 = .ok (.imul, 1) := by decide +kernel
theorem dX0_binds_2_255 : decode cX0_binds_2 255 = .ok (.iload 7, 2) := by decide +kernel
theorem dX0_binds_2_257 : decode cX0_binds_2 257 = .ok (.iload 13, 2) := by decide +kernel
theorem dX0_binds_2_259 : decode cX0_binds_2 259 = .ok (.imul, 1) := by decide +kernel
theorem dX0_binds_2_260 : decode cX0_binds_2 260 = .ok (.if_icmp .lt 23, 3) := by decide +kernel
theorem dX0_binds_2_263 : decode cX0_binds_2 263 = .ok (.ldc2_w 383, 3) := by decide +kernel
theorem dX0_binds_2_266 : decode cX0_binds_2 266 = .ok (.lload 11, 2) := by decide +kernel
theorem dX0_binds_2_268 : decode cX0_binds_2 268 = .ok (.lmul, 1) := by decide +kernel
theorem dX0_binds_2_269 : decode cX0_binds_2 269 = .ok (.iload 8, 2) := by decide +kernel
theorem dX0_binds_2_271 : decode cX0_binds_2 271 = .ok (.i2l, 1) := by decide +kernel
theorem dX0_binds_2_272 : decode cX0_binds_2 272 = .ok (.lload 9, 2) := by decide +kernel
theorem dX0_binds_2_274 : decode cX0_binds_2 274 = .ok (.lmul, 1) := by decide +kernel
theorem dX0_binds_2_275 : decode cX0_binds_2 275 = .ok (.lcmp, 1) := by decide +kernel
theorem dX0_binds_2_276 : decode cX0_binds_2 276 = .ok (.ifCond .lt 7, 3) := by decide +kernel
theorem dX0_binds_2_279 : decode cX0_binds_2 279 = .ok (.iconst 1, 1) := by decide +kernel
theorem dX0_binds_2_280 : decode cX0_binds_2 280 = .ok (.goto 4, 3) := by decide +kernel
theorem dX0_binds_2_283 : decode cX0_binds_2 283 = .ok (.iconst 0, 1) := by decide +kernel
theorem dX0_binds_2_284 : decode cX0_binds_2 284 = .ok (.ireturn, 1) := by decide +kernel
abbrev cX0_offer : ByteArray := prog_1_method_49_code
def yX0_offer : MethodName := ⟨RX0, "offer", "(I)I"⟩
theorem dX0_offer_0 : decode cX0_offer 0 = .ok (.aload_n 0, 1) := by decide +kernel
theorem dX0_offer_1 : decode cX0_offer 1 = .ok (.iload_n 1, 1) := by decide +kernel
theorem dX0_offer_2 : decode cX0_offer 2 = .ok (.invokevirtual 76, 3) := by decide +kernel
theorem dX0_offer_5 : decode cX0_offer 5 = .ok (.ifCond .ne 5, 3) := by decide +kernel
theorem dX0_offer_8 : decode cX0_offer 8 = .ok (.iconst (-1), 1) := by decide +kernel
theorem dX0_offer_9 : decode cX0_offer 9 = .ok (.ireturn, 1) := by decide +kernel
theorem dX0_offer_10 : decode cX0_offer 10 = .ok (.iconst 0, 1) := by decide +kernel
theorem dX0_offer_11 : decode cX0_offer 11 = .ok (.istore_n 2, 1) := by decide +kernel
theorem dX0_offer_12 : decode cX0_offer 12 = .ok (.iload_n 2, 1) := by decide +kernel
theorem dX0_offer_13 : decode cX0_offer 13 = .ok (.sipush 1000, 3) := by decide +kernel
theorem dX0_offer_16 : decode cX0_offer 16 = .ok (.if_icmp .gt 20, 3) := by decide +kernel
theorem dX0_offer_19 : decode cX0_offer 19 = .ok (.aload_n 0, 1) := by decide +kernel
theorem dX0_offer_20 : decode cX0_offer 20 = .ok (.iload_n 1, 1) := by decide +kernel
theorem dX0_offer_21 : decode cX0_offer 21 = .ok (.iload_n 2, 1) := by decide +kernel
theorem dX0_offer_22 : decode cX0_offer 22 = .ok (.invokevirtual 398, 3) := by decide +kernel
theorem dX0_offer_25 : decode cX0_offer 25 = .ok (.ifCond .eq 5, 3) := by decide +kernel
theorem dX0_offer_28 : decode cX0_offer 28 = .ok (.iload_n 2, 1) := by decide +kernel
theorem dX0_offer_29 : decode cX0_offer 29 = .ok (.ireturn, 1) := by decide +kernel
theorem dX0_offer_30 : decode cX0_offer 30 = .ok (.iinc 2 1, 3) := by decide +kernel
theorem dX0_offer_33 : decode cX0_offer 33 = .ok (.goto (-21), 3) := by decide +kernel
theorem dX0_offer_36 : decode cX0_offer 36 = .ok (.iconst (-1), 1) := by decide +kernel
theorem dX0_offer_37 : decode cX0_offer 37 = .ok (.ireturn, 1) := by decide +kernel
abbrev cX0_compose : ByteArray := prog_1_method_51_code
def yX0_compose : MethodName := ⟨RX0, "compose", "(II)I"⟩
theorem dX0_compose_0 : decode cX0_compose 0 = .ok (.aload_n 0, 1) := by decide +kernel
theorem dX0_compose_1 : decode cX0_compose 1 = .ok (.iload_n 1, 1) := by decide +kernel
theorem dX0_compose_2 : decode cX0_compose 2 = .ok (.iload_n 2, 1) := by decide +kernel
theorem dX0_compose_3 : decode cX0_compose 3 = .ok (.invokevirtual 403, 3) := by decide +kernel
theorem dX0_compose_6 : decode cX0_compose 6 = .ok (.ifCond .ne 5, 3) := by decide +kernel
theorem dX0_compose_9 : decode cX0_compose 9 = .ok (.iconst (-1), 1) := by decide +kernel
theorem dX0_compose_10 : decode cX0_compose 10 = .ok (.ireturn, 1) := by decide +kernel
theorem dX0_compose_11 : decode cX0_compose 11 = .ok (.iconst 0, 1) := by decide +kernel
theorem dX0_compose_12 : decode cX0_compose 12 = .ok (.istore_n 3, 1) := by decide +kernel
theorem dX0_compose_13 : decode cX0_compose 13 = .ok (.iconst 0, 1) := by decide +kernel
theorem dX0_compose_14 : decode cX0_compose 14 = .ok (.istore 4, 2) := by decide +kernel
theorem dX0_compose_16 : decode cX0_compose 16 = .ok (.iload 4, 2) := by decide +kernel
theorem dX0_compose_18 : decode cX0_compose 18 = .ok (.aload_n 0, 1) := by decide +kernel
theorem dX0_compose_19 : decode cX0_compose 19 = .ok (.getfield 10, 3) := by decide +kernel
theorem dX0_compose_22 : decode cX0_compose 22 = .ok (.getfield 63, 3) := by decide +kernel
theorem dX0_compose_25 : decode cX0_compose 25 = .ok (.invokevirtual 68, 3) := by decide +kernel
theorem dX0_compose_28 : decode cX0_compose 28 = .ok (.if_icmp .ge 39, 3) := by decide +kernel
theorem dX0_compose_31 : decode cX0_compose 31 = .ok (.iload_n 3, 1) := by decide +kernel
theorem dX0_compose_32 : decode cX0_compose 32 = .ok (.aload_n 0, 1) := by decide +kernel
theorem dX0_compose_33 : decode cX0_compose 33 = .ok (.iload 4, 2) := by decide +kernel
theorem dX0_compose_35 : decode cX0_compose 35 = .ok (.invokevirtual 80, 3) := by decide +kernel
theorem dX0_compose_38 : decode cX0_compose 38 = .ok (.getfield 128, 3) := by decide +kernel
theorem dX0_compose_41 : decode cX0_compose 41 = .ok (.iload_n 1, 1) := by decide +kernel
theorem dX0_compose_42 : decode cX0_compose 42 = .ok (.if_icmp .ne 16, 3) := by decide +kernel
theorem dX0_compose_45 : decode cX0_compose 45 = .ok (.aload_n 0, 1) := by decide +kernel
theorem dX0_compose_46 : decode cX0_compose 46 = .ok (.iload 4, 2) := by decide +kernel
theorem dX0_compose_48 : decode cX0_compose 48 = .ok (.invokevirtual 117, 3) := by decide +kernel
theorem dX0_compose_51 : decode cX0_compose 51 = .ok (.iload_n 2, 1) := by decide +kernel
theorem dX0_compose_52 : decode cX0_compose 52 = .ok (.invokestatic 405, 3) := by decide +kernel
theorem dX0_compose_55 : decode cX0_compose 55 = .ok (.goto 4, 3) := by decide +kernel
theorem dX0_compose_58 : decode cX0_compose 58 = .ok (.iconst 0, 1) := by decide +kernel
theorem dX0_compose_59 : decode cX0_compose 59 = .ok (.iadd, 1) := by decide +kernel
theorem dX0_compose_60 : decode cX0_compose 60 = .ok (.istore_n 3, 1) := by decide +kernel
theorem dX0_compose_61 : decode cX0_compose 61 = .ok (.iinc 4 1, 3) := by decide +kernel
theorem dX0_compose_64 : decode cX0_compose 64 = .ok (.goto (-48), 3) := by decide +kernel
theorem dX0_compose_67 : decode cX0_compose 67 = .ok (.aload_n 0, 1) := by decide +kernel
theorem dX0_compose_68 : decode cX0_compose 68 = .ok (.iload_n 1, 1) := by decide +kernel
theorem dX0_compose_69 : decode cX0_compose 69 = .ok (.invokevirtual 118, 3) := by decide +kernel
theorem dX0_compose_72 : decode cX0_compose 72 = .ok (.getfield 134, 3) := by decide +kernel
theorem dX0_compose_75 : decode cX0_compose 75 = .ok (.iload_n 3, 1) := by decide +kernel
theorem dX0_compose_76 : decode cX0_compose 76 = .ok (.if_icmp .ge 5, 3) := by decide +kernel
theorem dX0_compose_79 : decode cX0_compose 79 = .ok (.iconst (-1), 1) := by decide +kernel
theorem dX0_compose_80 : decode cX0_compose 80 = .ok (.ireturn, 1) := by decide +kernel
theorem dX0_compose_81 : decode cX0_compose 81 = .ok (.iconst 0, 1) := by decide +kernel
theorem dX0_compose_82 : decode cX0_compose 82 = .ok (.istore 4, 2) := by decide +kernel
theorem dX0_compose_84 : decode cX0_compose 84 = .ok (.iload 4, 2) := by decide +kernel
theorem dX0_compose_86 : decode cX0_compose 86 = .ok (.aload_n 0, 1) := by decide +kernel
theorem dX0_compose_87 : decode cX0_compose 87 = .ok (.getfield 10, 3) := by decide +kernel
theorem dX0_compose_90 : decode cX0_compose 90 = .ok (.getfield 63, 3) := by decide +kernel
theorem dX0_compose_93 : decode cX0_compose 93 = .ok (.invokevirtual 68, 3) := by decide +kernel
theorem dX0_compose_96 : decode cX0_compose 96 = .ok (.if_icmp .ge 115, 3) := by decide +kernel
theorem dX0_compose_99 : decode cX0_compose 99 = .ok (.aload_n 0, 1) := by decide +kernel
theorem dX0_compose_100 : decode cX0_compose 100 = .ok (.iload 4, 2) := by decide +kernel
theorem dX0_compose_102 : decode cX0_compose 102 = .ok (.invokevirtual 80, 3) := by decide +kernel
theorem dX0_compose_105 : decode cX0_compose 105 = .ok (.astore 5, 2) := by decide +kernel
theorem dX0_compose_107 : decode cX0_compose 107 = .ok (.aload 5, 2) := by decide +kernel
theorem dX0_compose_109 : decode cX0_compose 109 = .ok (.invokevirtual 84, 3) := by decide +kernel
theorem dX0_compose_112 : decode cX0_compose 112 = .ok (.ifCond .eq 93, 3) := by decide +kernel
theorem dX0_compose_115 : decode cX0_compose 115 = .ok (.aload 5, 2) := by decide +kernel
theorem dX0_compose_117 : decode cX0_compose 117 = .ok (.getfield 128, 3) := by decide +kernel
theorem dX0_compose_120 : decode cX0_compose 120 = .ok (.iload_n 1, 1) := by decide +kernel
theorem dX0_compose_121 : decode cX0_compose 121 = .ok (.if_icmp .eq 6, 3) := by decide +kernel
theorem dX0_compose_124 : decode cX0_compose 124 = .ok (.goto 81, 3) := by decide +kernel
theorem dX0_compose_127 : decode cX0_compose 127 = .ok (.aload_n 0, 1) := by decide +kernel
theorem dX0_compose_128 : decode cX0_compose 128 = .ok (.iload 4, 2) := by decide +kernel
theorem dX0_compose_130 : decode cX0_compose 130 = .ok (.invokevirtual 117, 3) := by decide +kernel
theorem dX0_compose_133 : decode cX0_compose 133 = .ok (.iload_n 2, 1) := by decide +kernel
theorem dX0_compose_134 : decode cX0_compose 134 = .ok (.invokestatic 405, 3) := by decide +kernel
theorem dX0_compose_137 : decode cX0_compose 137 = .ok (.istore 6, 2) := by decide +kernel
theorem dX0_compose_139 : decode cX0_compose 139 = .ok (.aload_n 0, 1) := by decide +kernel
theorem dX0_compose_140 : decode cX0_compose 140 = .ok (.iload_n 1, 1) := by decide +kernel
theorem dX0_compose_141 : decode cX0_compose 141 = .ok (.invokevirtual 118, 3) := by decide +kernel
theorem dX0_compose_144 : decode cX0_compose 144 = .ok (.dup, 1) := by decide +kernel
theorem dX0_compose_145 : decode cX0_compose 145 = .ok (.getfield 134, 3) := by decide +kernel
theorem dX0_compose_148 : decode cX0_compose 148 = .ok (.iload 6, 2) := by decide +kernel
theorem dX0_compose_150 : decode cX0_compose 150 = .ok (.isub, 1) := by decide +kernel
theorem dX0_compose_151 : decode cX0_compose 151 = .ok (.putfield 134, 3) := by decide +kernel
theorem dX0_compose_154 : decode cX0_compose 154 = .ok (.aload_n 0, 1) := by decide +kernel
theorem dX0_compose_155 : decode cX0_compose 155 = .ok (.aload 5, 2) := by decide +kernel
theorem dX0_compose_157 : decode cX0_compose 157 = .ok (.getfield 131, 3) := by decide +kernel
theorem dX0_compose_160 : decode cX0_compose 160 = .ok (.invokevirtual 118, 3) := by decide +kernel
theorem dX0_compose_163 : decode cX0_compose 163 = .ok (.dup, 1) := by decide +kernel
theorem dX0_compose_164 : decode cX0_compose 164 = .ok (.getfield 134, 3) := by decide +kernel
theorem dX0_compose_167 : decode cX0_compose 167 = .ok (.iload 6, 2) := by decide +kernel
theorem dX0_compose_169 : decode cX0_compose 169 = .ok (.iadd, 1) := by decide +kernel
theorem dX0_compose_170 : decode cX0_compose 170 = .ok (.putfield 134, 3) := by decide +kernel
theorem dX0_compose_173 : decode cX0_compose 173 = .ok (.aload 5, 2) := by decide +kernel
theorem dX0_compose_175 : decode cX0_compose 175 = .ok (.iload 6, 2) := by decide +kernel
theorem dX0_compose_177 : decode cX0_compose 177 = .ok (.aload_n 0, 1) := by decide +kernel
theorem dX0_compose_178 : decode cX0_compose 178 = .ok (.iload 4, 2) := by decide +kernel
theorem dX0_compose_180 : decode cX0_compose 180 = .ok (.invokevirtual 117, 3) := by decide +kernel
theorem dX0_compose_183 : decode cX0_compose 183 = .ok (.if_icmp .ne 9, 3) := by decide +kernel
theorem dX0_compose_186 : decode cX0_compose 186 = .ok (.getstatic 408, 3) := by decide +kernel
theorem dX0_compose_189 : decode cX0_compose 189 = .ok (.goto 6, 3) := by decide +kernel
theorem dX0_compose_192 : decode cX0_compose 192 = .ok (.getstatic 411, 3) := by decide +kernel
theorem dX0_compose_195 : decode cX0_compose 195 = .ok (.aload_n 0, 1) := by decide +kernel
theorem dX0_compose_196 : decode cX0_compose 196 = .ok (.getfield 10, 3) := by decide +kernel
theorem dX0_compose_199 : decode cX0_compose 199 = .ok (.getfield 88, 3) := by decide +kernel
theorem dX0_compose_202 : decode cX0_compose 202 = .ok (.invokevirtual 414, 3) := by decide +kernel
theorem dX0_compose_205 : decode cX0_compose 205 = .ok (.iinc 4 1, 3) := by decide +kernel
theorem dX0_compose_208 : decode cX0_compose 208 = .ok (.goto (-124), 3) := by decide +kernel
theorem dX0_compose_211 : decode cX0_compose 211 = .ok (.aload_n 0, 1) := by decide +kernel
theorem dX0_compose_212 : decode cX0_compose 212 = .ok (.invokevirtual 141, 3) := by decide +kernel
theorem dX0_compose_215 : decode cX0_compose 215 = .ok (.iload_n 3, 1) := by decide +kernel
theorem dX0_compose_216 : decode cX0_compose 216 = .ok (.ireturn, 1) := by decide +kernel
abbrev cX0_part : ByteArray := prog_1_method_50_code
def yX0_part : MethodName := ⟨RX0, "part", "(II)I"⟩
theorem dX0_part_0 : decode cX0_part 0 = .ok (.iload_n 0, 1) := by decide +kernel
theorem dX0_part_1 : decode cX0_part 1 = .ok (.i2l, 1) := by decide +kernel
theorem dX0_part_2 : decode cX0_part 2 = .ok (.iload_n 1, 1) := by decide +kernel
theorem dX0_part_3 : decode cX0_part 3 = .ok (.i2l, 1) := by decide +kernel
theorem dX0_part_4 : decode cX0_part 4 = .ok (.lmul, 1) := by decide +kernel
theorem dX0_part_5 : decode cX0_part 5 = .ok (.ldc2_w 401, 3) := by decide +kernel
theorem dX0_part_8 : decode cX0_part 8 = .ok (.ldiv, 1) := by decide +kernel
theorem dX0_part_9 : decode cX0_part 9 = .ok (.l2i, 1) := by decide +kernel
theorem dX0_part_10 : decode cX0_part 10 = .ok (.ireturn, 1) := by decide +kernel
abbrev cX0_buy : ByteArray := prog_1_method_52_code
def yX0_buy : MethodName := ⟨RX0, "buy", "(III)Z"⟩
theorem dX0_buy_0 : decode cX0_buy 0 = .ok (.aload_n 0, 1) := by decide +kernel
theorem dX0_buy_1 : decode cX0_buy 1 = .ok (.iload_n 1, 1) := by decide +kernel
theorem dX0_buy_2 : decode cX0_buy 2 = .ok (.invokevirtual 112, 3) := by decide +kernel
theorem dX0_buy_5 : decode cX0_buy 5 = .ok (.ifCond .eq 33, 3) := by decide +kernel
theorem dX0_buy_8 : decode cX0_buy 8 = .ok (.aload_n 0, 1) := by decide +kernel
theorem dX0_buy_9 : decode cX0_buy 9 = .ok (.iload_n 2, 1) := by decide +kernel
theorem dX0_buy_10 : decode cX0_buy 10 = .ok (.invokevirtual 76, 3) := by decide +kernel
theorem dX0_buy_13 : decode cX0_buy 13 = .ok (.ifCond .eq 25, 3) := by decide +kernel
theorem dX0_buy_16 : decode cX0_buy 16 = .ok (.iload_n 3, 1) := by decide +kernel
theorem dX0_buy_17 : decode cX0_buy 17 = .ok (.iconst 0, 1) := by decide +kernel
theorem dX0_buy_18 : decode cX0_buy 18 = .ok (.ldc 108, 2) := by decide +kernel
theorem dX0_buy_20 : decode cX0_buy 20 = .ok (.invokestatic 72, 3) := by decide +kernel
theorem dX0_buy_23 : decode cX0_buy 23 = .ok (.ifCond .eq 15, 3) := by decide +kernel
theorem dX0_buy_26 : decode cX0_buy 26 = .ok (.aload_n 0, 1) := by decide +kernel
theorem dX0_buy_27 : decode cX0_buy 27 = .ok (.iload_n 2, 1) := by decide +kernel
theorem dX0_buy_28 : decode cX0_buy 28 = .ok (.invokevirtual 118, 3) := by decide +kernel
theorem dX0_buy_31 : decode cX0_buy 31 = .ok (.getfield 134, 3) := by decide +kernel
theorem dX0_buy_34 : decode cX0_buy 34 = .ok (.iload_n 3, 1) := by decide +kernel
theorem dX0_buy_35 : decode cX0_buy 35 = .ok (.if_icmp .ge 5, 3) := by decide +kernel
theorem dX0_buy_38 : decode cX0_buy 38 = .ok (.iconst 0, 1) := by decide +kernel
theorem dX0_buy_39 : decode cX0_buy 39 = .ok (.ireturn, 1) := by decide +kernel
theorem dX0_buy_40 : decode cX0_buy 40 = .ok (.aload_n 0, 1) := by decide +kernel
theorem dX0_buy_41 : decode cX0_buy 41 = .ok (.iload_n 1, 1) := by decide +kernel
theorem dX0_buy_42 : decode cX0_buy 42 = .ok (.invokevirtual 80, 3) := by decide +kernel
theorem dX0_buy_45 : decode cX0_buy 45 = .ok (.astore 4, 2) := by decide +kernel
theorem dX0_buy_47 : decode cX0_buy 47 = .ok (.aload 4, 2) := by decide +kernel
theorem dX0_buy_49 : decode cX0_buy 49 = .ok (.getfield 128, 3) := by decide +kernel
theorem dX0_buy_52 : decode cX0_buy 52 = .ok (.iload_n 2, 1) := by decide +kernel
theorem dX0_buy_53 : decode cX0_buy 53 = .ok (.if_icmp .eq 12, 3) := by decide +kernel
theorem dX0_buy_56 : decode cX0_buy 56 = .ok (.aload 4, 2) := by decide +kernel
theorem dX0_buy_58 : decode cX0_buy 58 = .ok (.getfield 131, 3) := by decide +kernel
theorem dX0_buy_61 : decode cX0_buy 61 = .ok (.iload_n 2, 1) := by decide +kernel
theorem dX0_buy_62 : decode cX0_buy 62 = .ok (.if_icmp .ne 5, 3) := by decide +kernel
theorem dX0_buy_65 : decode cX0_buy 65 = .ok (.iconst 0, 1) := by decide +kernel
theorem dX0_buy_66 : decode cX0_buy 66 = .ok (.ireturn, 1) := by decide +kernel
theorem dX0_buy_67 : decode cX0_buy 67 = .ok (.aload_n 0, 1) := by decide +kernel
theorem dX0_buy_68 : decode cX0_buy 68 = .ok (.iload_n 2, 1) := by decide +kernel
theorem dX0_buy_69 : decode cX0_buy 69 = .ok (.invokevirtual 118, 3) := by decide +kernel
theorem dX0_buy_72 : decode cX0_buy 72 = .ok (.dup, 1) := by decide +kernel
theorem dX0_buy_73 : decode cX0_buy 73 = .ok (.getfield 134, 3) := by decide +kernel
theorem dX0_buy_76 : decode cX0_buy 76 = .ok (.iload_n 3, 1) := by decide +kernel
theorem dX0_buy_77 : decode cX0_buy 77 = .ok (.isub, 1) := by decide +kernel
theorem dX0_buy_78 : decode cX0_buy 78 = .ok (.putfield 134, 3) := by decide +kernel
theorem dX0_buy_81 : decode cX0_buy 81 = .ok (.aload_n 0, 1) := by decide +kernel
theorem dX0_buy_82 : decode cX0_buy 82 = .ok (.aload 4, 2) := by decide +kernel
theorem dX0_buy_84 : decode cX0_buy 84 = .ok (.getfield 131, 3) := by decide +kernel
theorem dX0_buy_87 : decode cX0_buy 87 = .ok (.invokevirtual 118, 3) := by decide +kernel
theorem dX0_buy_90 : decode cX0_buy 90 = .ok (.dup, 1) := by decide +kernel
theorem dX0_buy_91 : decode cX0_buy 91 = .ok (.getfield 134, 3) := by decide +kernel
theorem dX0_buy_94 : decode cX0_buy 94 = .ok (.iload_n 3, 1) := by decide +kernel
theorem dX0_buy_95 : decode cX0_buy 95 = .ok (.iadd, 1) := by decide +kernel
theorem dX0_buy_96 : decode cX0_buy 96 = .ok (.putfield 134, 3) := by decide +kernel
theorem dX0_buy_99 : decode cX0_buy 99 = .ok (.aload 4, 2) := by decide +kernel
theorem dX0_buy_101 : decode cX0_buy 101 = .ok (.iload_n 2, 1) := by decide +kernel
theorem dX0_buy_102 : decode cX0_buy 102 = .ok (.putfield 131, 3) := by decide +kernel
theorem dX0_buy_105 : decode cX0_buy 105 = .ok (.aload 4, 2) := by decide +kernel
theorem dX0_buy_107 : decode cX0_buy 107 = .ok (.iconst 1, 1) := by decide +kernel
theorem dX0_buy_108 : decode cX0_buy 108 = .ok (.putfield 174, 3) := by decide +kernel
theorem dX0_buy_111 : decode cX0_buy 111 = .ok (.aload_n 0, 1) := by decide +kernel
theorem dX0_buy_112 : decode cX0_buy 112 = .ok (.invokevirtual 141, 3) := by decide +kernel
theorem dX0_buy_115 : decode cX0_buy 115 = .ok (.iconst 1, 1) := by decide +kernel
theorem dX0_buy_116 : decode cX0_buy 116 = .ok (.ireturn, 1) := by decide +kernel
abbrev cX0_swing : ByteArray := prog_1_method_53_code
def yX0_swing : MethodName := ⟨RX0, "swing", "(IIII)I"⟩
theorem dX0_swing_0 : decode cX0_swing 0 = .ok (.aload_n 0, 1) := by decide +kernel
theorem dX0_swing_1 : decode cX0_swing 1 = .ok (.iload_n 1, 1) := by decide +kernel
theorem dX0_swing_2 : decode cX0_swing 2 = .ok (.iload_n 2, 1) := by decide +kernel
theorem dX0_swing_3 : decode cX0_swing 3 = .ok (.invokevirtual 104, 3) := by decide +kernel
theorem dX0_swing_6 : decode cX0_swing 6 = .ok (.ifCond .eq 24, 3) := by decide +kernel
theorem dX0_swing_9 : decode cX0_swing 9 = .ok (.iload_n 3, 1) := by decide +kernel
theorem dX0_swing_10 : decode cX0_swing 10 = .ok (.iconst 0, 1) := by decide +kernel
theorem dX0_swing_11 : decode cX0_swing 11 = .ok (.sipush 1000, 3) := by decide +kernel
theorem dX0_swing_14 : decode cX0_swing 14 = .ok (.invokestatic 72, 3) := by decide +kernel
theorem dX0_swing_17 : decode cX0_swing 17 = .ok (.ifCond .eq 13, 3) := by decide +kernel
theorem dX0_swing_20 : decode cX0_swing 20 = .ok (.iload 4, 2) := by decide +kernel
theorem dX0_swing_22 : decode cX0_swing 22 = .ok (.iconst 0, 1) := by decide +kernel
theorem dX0_swing_23 : decode cX0_swing 23 = .ok (.iconst 1, 1) := by decide +kernel
theorem dX0_swing_24 : decode cX0_swing 24 = .ok (.invokestatic 72, 3) := by decide +kernel
theorem dX0_swing_27 : decode cX0_swing 27 = .ok (.ifCond .ne 5, 3) := by decide +kernel
theorem dX0_swing_30 : decode cX0_swing 30 = .ok (.iconst (-1), 1) := by decide +kernel
theorem dX0_swing_31 : decode cX0_swing 31 = .ok (.ireturn, 1) := by decide +kernel
theorem dX0_swing_32 : decode cX0_swing 32 = .ok (.bipush 10, 2) := by decide +kernel
theorem dX0_swing_34 : decode cX0_swing 34 = .ok (.newarray .int, 2) := by decide +kernel
theorem dX0_swing_36 : decode cX0_swing 36 = .ok (.astore 5, 2) := by decide +kernel
theorem dX0_swing_38 : decode cX0_swing 38 = .ok (.iconst 0, 1) := by decide +kernel
theorem dX0_swing_39 : decode cX0_swing 39 = .ok (.istore 6, 2) := by decide +kernel
theorem dX0_swing_41 : decode cX0_swing 41 = .ok (.iconst 0, 1) := by decide +kernel
theorem dX0_swing_42 : decode cX0_swing 42 = .ok (.istore 7, 2) := by decide +kernel
theorem dX0_swing_44 : decode cX0_swing 44 = .ok (.iload 7, 2) := by decide +kernel
theorem dX0_swing_46 : decode cX0_swing 46 = .ok (.aload_n 0, 1) := by decide +kernel
theorem dX0_swing_47 : decode cX0_swing 47 = .ok (.getfield 10, 3) := by decide +kernel
theorem dX0_swing_50 : decode cX0_swing 50 = .ok (.getfield 63, 3) := by decide +kernel
theorem dX0_swing_53 : decode cX0_swing 53 = .ok (.invokevirtual 68, 3) := by decide +kernel
theorem dX0_swing_56 : decode cX0_swing 56 = .ok (.if_icmp .ge 63, 3) := by decide +kernel
theorem dX0_swing_59 : decode cX0_swing 59 = .ok (.iload 6, 2) := by decide +kernel
theorem dX0_swing_61 : decode cX0_swing 61 = .ok (.bipush 10, 2) := by decide +kernel
theorem dX0_swing_63 : decode cX0_swing 63 = .ok (.if_icmp .ge 56, 3) := by decide +kernel
theorem dX0_swing_66 : decode cX0_swing 66 = .ok (.aload_n 0, 1) := by decide +kernel
theorem dX0_swing_67 : decode cX0_swing 67 = .ok (.iload 7, 2) := by decide +kernel
theorem dX0_swing_69 : decode cX0_swing 69 = .ok (.invokevirtual 80, 3) := by decide +kernel
theorem dX0_swing_72 : decode cX0_swing 72 = .ok (.astore 8, 2) := by decide +kernel
theorem dX0_swing_74 : decode cX0_swing 74 = .ok (.aload 8, 2) := by decide +kernel
theorem dX0_swing_76 : decode cX0_swing 76 = .ok (.invokevirtual 84, 3) := by decide +kernel
theorem dX0_swing_79 : decode cX0_swing 79 = .ok (.ifCond .eq 34, 3) := by decide +kernel
theorem dX0_swing_82 : decode cX0_swing 82 = .ok (.aload 8, 2) := by decide +kernel
theorem dX0_swing_84 : decode cX0_swing 84 = .ok (.getfield 128, 3) := by decide +kernel
theorem dX0_swing_87 : decode cX0_swing 87 = .ok (.iload_n 1, 1) := by decide +kernel
theorem dX0_swing_88 : decode cX0_swing 88 = .ok (.if_icmp .ne 25, 3) := by decide +kernel
theorem dX0_swing_91 : decode cX0_swing 91 = .ok (.aload 8, 2) := by decide +kernel
theorem dX0_swing_93 : decode cX0_swing 93 = .ok (.getfield 131, 3) := by decide +kernel
theorem dX0_swing_96 : decode cX0_swing 96 = .ok (.iload_n 2, 1) := by decide +kernel
theorem dX0_swing_97 : decode cX0_swing 97 = .ok (.if_icmp .ne 6, 3) := by decide +kernel
theorem dX0_swing_100 : decode cX0_swing 100 = .ok (.goto 13, 3) := by decide +kernel
theorem dX0_swing_103 : decode cX0_swing 103 = .ok (.aload 5, 2) := by decide +kernel
theorem dX0_swing_105 : decode cX0_swing 105 = .ok (.iload 6, 2) := by decide +kernel
theorem dX0_swing_107 : decode cX0_swing 107 = .ok (.iload 7, 2) := by decide +kernel
theorem dX0_swing_109 : decode cX0_swing 109 = .ok (.iastore, 1) := by decide +kernel
theorem dX0_swing_110 : decode cX0_swing 110 = .ok (.iinc 6 1, 3) := by decide +kernel
theorem dX0_swing_113 : decode cX0_swing 113 = .ok (.iinc 7 1, 3) := by decide +kernel
theorem dX0_swing_116 : decode cX0_swing 116 = .ok (.goto (-72), 3) := by decide +kernel
theorem dX0_swing_119 : decode cX0_swing 119 = .ok (.aload_n 0, 1) := by decide +kernel
theorem dX0_swing_120 : decode cX0_swing 120 = .ok (.iload_n 1, 1) := by decide +kernel
theorem dX0_swing_121 : decode cX0_swing 121 = .ok (.invokevirtual 118, 3) := by decide +kernel
theorem dX0_swing_124 : decode cX0_swing 124 = .ok (.astore 7, 2) := by decide +kernel
theorem dX0_swing_126 : decode cX0_swing 126 = .ok (.aload_n 0, 1) := by decide +kernel
theorem dX0_swing_127 : decode cX0_swing 127 = .ok (.aload 7, 2) := by decide +kernel
theorem dX0_swing_129 : decode cX0_swing 129 = .ok (.getstatic 385, 3) := by decide +kernel
theorem dX0_swing_132 : decode cX0_swing 132 = .ok (.invokevirtual 326, 3) := by decide +kernel
theorem dX0_swing_135 : decode cX0_swing 135 = .ok (.ifCond .eq 7, 3) := by decide +kernel
theorem dX0_swing_138 : decode cX0_swing 138 = .ok (.iconst 1, 1) := by decide +kernel
theorem dX0_swing_139 : decode cX0_swing 139 = .ok (.goto 4, 3) := by decide +kernel
theorem dX0_swing_142 : decode cX0_swing 142 = .ok (.iconst 0, 1) := by decide +kernel
theorem dX0_swing_143 : decode cX0_swing 143 = .ok (.istore 8, 2) := by decide +kernel
theorem dX0_swing_145 : decode cX0_swing 145 = .ok (.aload_n 0, 1) := by decide +kernel
theorem dX0_swing_146 : decode cX0_swing 146 = .ok (.aload 7, 2) := by decide +kernel
theorem dX0_swing_148 : decode cX0_swing 148 = .ok (.getstatic 388, 3) := by decide +kernel
theorem dX0_swing_151 : decode cX0_swing 151 = .ok (.invokevirtual 326, 3) := by decide +kernel
theorem dX0_swing_154 : decode cX0_swing 154 = .ok (.istore 9, 2) := by decide +kernel
theorem dX0_swing_156 : decode cX0_swing 156 = .ok (.aload_n 0, 1) := by decide +kernel
theorem dX0_swing_157 : decode cX0_swing 157 = .ok (.aload 7, 2) := by decide +kernel
theorem dX0_swing_159 : decode cX0_swing 159 = .ok (.getstatic 391, 3) := by decide +kernel
theorem dX0_swing_162 : decode cX0_swing 162 = .ok (.invokevirtual 326, 3) := by decide +kernel
theorem dX0_swing_165 : decode cX0_swing 165 = .ok (.istore 10, 2) := by decide +kernel
theorem dX0_swing_167 : decode cX0_swing 167 = .ok (.iconst (-1), 1) := by decide +kernel
theorem dX0_swing_168 : decode cX0_swing 168 = .ok (.istore 11, 2) := by decide +kernel
theorem dX0_swing_170 : decode cX0_swing 170 = .ok (.iconst 0, 1) := by decide +kernel
theorem dX0_swing_171 : decode cX0_swing 171 = .ok (.istore 12, 2) := by decide +kernel
theorem dX0_swing_173 : decode cX0_swing 173 = .ok (.iconst 0, 1) := by decide +kernel
theorem dX0_swing_174 : decode cX0_swing 174 = .ok (.istore 13, 2) := by decide +kernel
theorem dX0_swing_176 : decode cX0_swing 176 = .ok (.iload 13, 2) := by decide +kernel
theorem dX0_swing_178 : decode cX0_swing 178 = .ok (.iconst 1, 1) := by decide +kernel
theorem dX0_swing_179 : decode cX0_swing 179 = .ok (.iload 6, 2) := by decide +kernel
theorem dX0_swing_181 : decode cX0_swing 181 = .ok (.ishl, 1) := by decide +kernel
theorem dX0_swing_182 : decode cX0_swing 182 = .ok (.if_icmp .ge 137, 3) := by decide +kernel
theorem dX0_swing_185 : decode cX0_swing 185 = .ok (.lconst 0, 1) := by decide +kernel
theorem dX0_swing_186 : decode cX0_swing 186 = .ok (.lstore 14, 2) := by decide +kernel
theorem dX0_swing_188 : decode cX0_swing 188 = .ok (.iconst 0, 1) := by decide +kernel
theorem dX0_swing_189 : decode cX0_swing 189 = .ok (.istore 16, 2) := by decide +kernel
theorem dX0_swing_191 : decode cX0_swing 191 = .ok (.iconst 0, 1) := by decide +kernel
theorem dX0_swing_192 : decode cX0_swing 192 = .ok (.istore 17, 2) := by decide +kernel
theorem dX0_swing_194 : decode cX0_swing 194 = .ok (.iload 17, 2) := by decide +kernel
theorem dX0_swing_196 : decode cX0_swing 196 = .ok (.iload 6, 2) := by decide +kernel
theorem dX0_swing_198 : decode cX0_swing 198 = .ok (.if_icmp .ge 73, 3) := by decide +kernel
theorem dX0_swing_201 : decode cX0_swing 201 = .ok (.iload 13, 2) := by decide +kernel
theorem dX0_swing_203 : decode cX0_swing 203 = .ok (.iload 17, 2) := by decide +kernel
theorem dX0_swing_205 : decode cX0_swing 205 = .ok (.ishr, 1) := by decide +kernel
theorem dX0_swing_206 : decode cX0_swing 206 = .ok (.iconst 1, 1) := by decide +kernel
theorem dX0_swing_207 : decode cX0_swing 207 = .ok (.iand, 1) := by decide +kernel
theorem dX0_swing_208 : decode cX0_swing 208 = .ok (.ifCond .ne 6, 3) := by decide +kernel
theorem dX0_swing_211 : decode cX0_swing 211 = .ok (.goto 54, 3) := by decide +kernel
theorem dX0_swing_214 : decode cX0_swing 214 = .ok (.lload 14, 2) := by decide +kernel
theorem dX0_swing_216 : decode cX0_swing 216 = .ok (.lconst 1, 1) := by decide +kernel
theorem dX0_swing_217 : decode cX0_swing 217 = .ok (.aload 5, 2) := by decide +kernel
theorem dX0_swing_219 : decode cX0_swing 219 = .ok (.iload 17, 2) := by decide +kernel
theorem dX0_swing_221 : decode cX0_swing 221 = .ok (.iaload, 1) := by decide +kernel
theorem dX0_swing_222 : decode cX0_swing 222 = .ok (.lshl, 1) := by decide +kernel
theorem dX0_swing_223 : decode cX0_swing 223 = .ok (.lor, 1) := by decide +kernel
theorem dX0_swing_224 : decode cX0_swing 224 = .ok (.lstore 14, 2) := by decide +kernel
theorem dX0_swing_226 : decode cX0_swing 226 = .ok (.iload 16, 2) := by decide +kernel
theorem dX0_swing_228 : decode cX0_swing 228 = .ok (.aload_n 0, 1) := by decide +kernel
theorem dX0_swing_229 : decode cX0_swing 229 = .ok (.aload 5, 2) := by decide +kernel
theorem dX0_swing_231 : decode cX0_swing 231 = .ok (.iload 17, 2) := by decide +kernel
theorem dX0_swing_233 : decode cX0_swing 233 = .ok (.iaload, 1) := by decide +kernel
theorem dX0_swing_234 : decode cX0_swing 234 = .ok (.invokevirtual 117, 3) := by decide +kernel
theorem dX0_swing_237 : decode cX0_swing 237 = .ok (.aload_n 0, 1) := by decide +kernel
theorem dX0_swing_238 : decode cX0_swing 238 = .ok (.getfield 10, 3) := by decide +kernel
theorem dX0_swing_241 : decode cX0_swing 241 = .ok (.getfield 374, 3) := by decide +kernel
theorem dX0_swing_244 : decode cX0_swing 244 = .ok (.aload_n 0, 1) := by decide +kernel
theorem dX0_swing_245 : decode cX0_swing 245 = .ok (.aload 5, 2) := by decide +kernel
theorem dX0_swing_247 : decode cX0_swing 247 = .ok (.iload 17, 2) := by decide +kernel
theorem dX0_swing_249 : decode cX0_swing 249 = .ok (.iaload, 1) := by decide +kernel
theorem dX0_swing_250 : decode cX0_swing 250 = .ok (.invokevirtual 80, 3) := by decide +kernel
theorem dX0_swing_253 : decode cX0_swing 253 = .ok (.getfield 131, 3) := by decide +kernel
theorem dX0_swing_256 : decode cX0_swing 256 = .ok (.aaload, 1) := by decide +kernel
theorem dX0_swing_257 : decode cX0_swing 257 = .ok (.iload_n 1, 1) := by decide +kernel
theorem dX0_swing_258 : decode cX0_swing 258 = .ok (.iaload, 1) := by decide +kernel
theorem dX0_swing_259 : decode cX0_swing 259 = .ok (.invokestatic 405, 3) := by decide +kernel
theorem dX0_swing_262 : decode cX0_swing 262 = .ok (.iadd, 1) := by decide +kernel
theorem dX0_swing_263 : decode cX0_swing 263 = .ok (.istore 16, 2) := by decide +kernel
theorem dX0_swing_265 : decode cX0_swing 265 = .ok (.iinc 17 1, 3) := by decide +kernel
theorem dX0_swing_268 : decode cX0_swing 268 = .ok (.goto (-74), 3) := by decide +kernel
theorem dX0_swing_271 : decode cX0_swing 271 = .ok (.iload 11, 2) := by decide +kernel
theorem dX0_swing_273 : decode cX0_swing 273 = .ok (.iconst (-1), 1) := by decide +kernel
theorem dX0_swing_274 : decode cX0_swing 274 = .ok (.if_icmp .eq 10, 3) := by decide +kernel
theorem dX0_swing_277 : decode cX0_swing 277 = .ok (.iload 16, 2) := by decide +kernel
theorem dX0_swing_279 : decode cX0_swing 279 = .ok (.iload 12, 2) := by decide +kernel
theorem dX0_swing_281 : decode cX0_swing 281 = .ok (.if_icmp .ge 32, 3) := by decide +kernel
theorem dX0_swing_284 : decode cX0_swing 284 = .ok (.aload_n 0, 1) := by decide +kernel
theorem dX0_swing_285 : decode cX0_swing 285 = .ok (.iload_n 1, 1) := by decide +kernel
theorem dX0_swing_286 : decode cX0_swing 286 = .ok (.iload_n 3, 1) := by decide +kernel
theorem dX0_swing_287 : decode cX0_swing 287 = .ok (.iload_n 2, 1) := by decide +kernel
theorem dX0_swing_288 : decode cX0_swing 288 = .ok (.lload 14, 2) := by decide +kernel
theorem dX0_swing_290 : decode cX0_swing 290 = .ok (.iload 8, 2) := by decide +kernel
theorem dX0_swing_292 : decode cX0_swing 292 = .ok (.iload 9, 2) := by decide +kernel
theorem dX0_swing_294 : decode cX0_swing 294 = .ok (.iload 10, 2) := by decide +kernel
theorem dX0_swing_296 : decode cX0_swing 296 = .ok (.invokevirtual 394, 3) := by decide +kernel
theorem dX0_swing_299 : decode cX0_swing 299 = .ok (.ifCond .ne 6, 3) := by decide +kernel
theorem dX0_swing_302 : decode cX0_swing 302 = .ok (.goto 11, 3) := by decide +kernel
theorem dX0_swing_305 : decode cX0_swing 305 = .ok (.iload 13, 2) := by decide +kernel
theorem dX0_swing_307 : decode cX0_swing 307 = .ok (.istore 11, 2) := by decide +kernel
theorem dX0_swing_309 : decode cX0_swing 309 = .ok (.iload 16, 2) := by decide +kernel
theorem dX0_swing_311 : decode cX0_swing 311 = .ok (.istore 12, 2) := by decide +kernel
theorem dX0_swing_313 : decode cX0_swing 313 = .ok (.iinc 13 1, 3) := by decide +kernel
theorem dX0_swing_316 : decode cX0_swing 316 = .ok (.goto (-140), 3) := by decide +kernel
theorem dX0_swing_319 : decode cX0_swing 319 = .ok (.iload 11, 2) := by decide +kernel
theorem dX0_swing_321 : decode cX0_swing 321 = .ok (.iconst (-1), 1) := by decide +kernel
theorem dX0_swing_322 : decode cX0_swing 322 = .ok (.if_icmp .ne 7, 3) := by decide +kernel
theorem dX0_swing_325 : decode cX0_swing 325 = .ok (.iconst (-1), 1) := by decide +kernel
theorem dX0_swing_326 : decode cX0_swing 326 = .ok (.goto 15, 3) := by decide +kernel
theorem dX0_swing_329 : decode cX0_swing 329 = .ok (.iload 4, 2) := by decide +kernel
theorem dX0_swing_331 : decode cX0_swing 331 = .ok (.ifCond .ne 8, 3) := by decide +kernel
theorem dX0_swing_334 : decode cX0_swing 334 = .ok (.iload 12, 2) := by decide +kernel
theorem dX0_swing_336 : decode cX0_swing 336 = .ok (.goto 5, 3) := by decide +kernel
theorem dX0_swing_339 : decode cX0_swing 339 = .ok (.iload 11, 2) := by decide +kernel
theorem dX0_swing_341 : decode cX0_swing 341 = .ok (.ireturn, 1) := by decide +kernel
abbrev cX0_surrender : ByteArray := prog_1_method_56_code
def yX0_surrender : MethodName := ⟨RX0, "surrender", "(I)I"⟩
theorem dX0_surrender_0 : decode cX0_surrender 0 = .ok (.aload_n 0, 1) := by decide +kernel
theorem dX0_surrender_1 : decode cX0_surrender 1 = .ok (.iload_n 1, 1) := by decide +kernel
theorem dX0_surrender_2 : decode cX0_surrender 2 = .ok (.invokevirtual 76, 3) := by decide +kernel
theorem dX0_surrender_5 : decode cX0_surrender 5 = .ok (.ifCond .eq 11, 3) := by decide +kernel
theorem dX0_surrender_8 : decode cX0_surrender 8 = .ok (.aload_n 0, 1) := by decide +kernel
theorem dX0_surrender_9 : decode cX0_surrender 9 = .ok (.iload_n 1, 1) := by decide +kernel
theorem dX0_surrender_10 : decode cX0_surrender 10 = .ok (.invokevirtual 125, 3) := by decide +kernel
theorem dX0_surrender_13 : decode cX0_surrender 13 = .ok (.ifCond .ne 5, 3) := by decide +kernel
theorem dX0_surrender_16 : decode cX0_surrender 16 = .ok (.iconst (-1), 1) := by decide +kernel
theorem dX0_surrender_17 : decode cX0_surrender 17 = .ok (.ireturn, 1) := by decide +kernel
theorem dX0_surrender_18 : decode cX0_surrender 18 = .ok (.aload_n 0, 1) := by decide +kernel
theorem dX0_surrender_19 : decode cX0_surrender 19 = .ok (.iload_n 1, 1) := by decide +kernel
theorem dX0_surrender_20 : decode cX0_surrender 20 = .ok (.invokevirtual 118, 3) := by decide +kernel
theorem dX0_surrender_23 : decode cX0_surrender 23 = .ok (.astore_n 2, 1) := by decide +kernel
theorem dX0_surrender_24 : decode cX0_surrender 24 = .ok (.aload_n 2, 1) := by decide +kernel
theorem dX0_surrender_25 : decode cX0_surrender 25 = .ok (.getfield 134, 3) := by decide +kernel
theorem dX0_surrender_28 : decode cX0_surrender 28 = .ok (.i2l, 1) := by decide +kernel
theorem dX0_surrender_29 : decode cX0_surrender 29 = .ok (.aload_n 0, 1) := by decide +kernel
theorem dX0_surrender_30 : decode cX0_surrender 30 = .ok (.aload_n 2, 1) := by decide +kernel
theorem dX0_surrender_31 : decode cX0_surrender 31 = .ok (.getstatic 422, 3) := by decide +kernel
theorem dX0_surrender_34 : decode cX0_surrender 34 = .ok (.invokevirtual 326, 3) := by decide +kernel
theorem dX0_surrender_37 : decode cX0_surrender 37 = .ok (.i2l, 1) := by decide +kernel
theorem dX0_surrender_38 : decode cX0_surrender 38 = .ok (.lmul, 1) := by decide +kernel
theorem dX0_surrender_39 : decode cX0_surrender 39 = .ok (.ldc2_w 383, 3) := by decide +kernel
theorem dX0_surrender_42 : decode cX0_surrender 42 = .ok (.ldiv, 1) := by decide +kernel
theorem dX0_surrender_43 : decode cX0_surrender 43 = .ok (.l2i, 1) := by decide +kernel
theorem dX0_surrender_44 : decode cX0_surrender 44 = .ok (.istore_n 3, 1) := by decide +kernel
theorem dX0_surrender_45 : decode cX0_surrender 45 = .ok (.aload_n 2, 1) := by decide +kernel
theorem dX0_surrender_46 : decode cX0_surrender 46 = .ok (.getfield 134, 3) := by decide +kernel
theorem dX0_surrender_49 : decode cX0_surrender 49 = .ok (.iload_n 3, 1) := by decide +kernel
theorem dX0_surrender_50 : decode cX0_surrender 50 = .ok (.isub, 1) := by decide +kernel
theorem dX0_surrender_51 : decode cX0_surrender 51 = .ok (.istore 4, 2) := by decide +kernel
theorem dX0_surrender_53 : decode cX0_surrender 53 = .ok (.iconst 0, 1) := by decide +kernel
theorem dX0_surrender_54 : decode cX0_surrender 54 = .ok (.istore 5, 2) := by decide +kernel
theorem dX0_surrender_56 : decode cX0_surrender 56 = .ok (.iload 5, 2) := by decide +kernel
theorem dX0_surrender_58 : decode cX0_surrender 58 = .ok (.aload_n 0, 1) := by decide +kernel
theorem dX0_surrender_59 : decode cX0_surrender 59 = .ok (.getfield 10, 3) := by decide +kernel
theorem dX0_surrender_62 : decode cX0_surrender 62 = .ok (.getfield 63, 3) := by decide +kernel
theorem dX0_surrender_65 : decode cX0_surrender 65 = .ok (.invokevirtual 68, 3) := by decide +kernel
theorem dX0_surrender_68 : decode cX0_surrender 68 = .ok (.if_icmp .ge 47, 3) := by decide +kernel
theorem dX0_surrender_71 : decode cX0_surrender 71 = .ok (.aload_n 0, 1) := by decide +kernel
theorem dX0_surrender_72 : decode cX0_surrender 72 = .ok (.getfield 39, 3) := by decide +kernel
theorem dX0_surrender_75 : decode cX0_surrender 75 = .ok (.iload 5, 2) := by decide +kernel
theorem dX0_surrender_77 : decode cX0_surrender 77 = .ok (.aload_n 0, 1) := by decide +kernel
theorem dX0_surrender_78 : decode cX0_surrender 78 = .ok (.iload 5, 2) := by decide +kernel
theorem dX0_surrender_80 : decode cX0_surrender 80 = .ok (.invokevirtual 80, 3) := by decide +kernel
theorem dX0_surrender_83 : decode cX0_surrender 83 = .ok (.getfield 128, 3) := by decide +kernel
theorem dX0_surrender_86 : decode cX0_surrender 86 = .ok (.iload_n 1, 1) := by decide +kernel
theorem dX0_surrender_87 : decode cX0_surrender 87 = .ok (.if_icmp .ne 12, 3) := by decide +kernel
theorem dX0_surrender_90 : decode cX0_surrender 90 = .ok (.aload_n 0, 1) := by decide +kernel
theorem dX0_surrender_91 : decode cX0_surrender 91 = .ok (.iload 5, 2) := by decide +kernel
theorem dX0_surrender_93 : decode cX0_surrender 93 = .ok (.invokevirtual 117, 3) := by decide +kernel
theorem dX0_surrender_96 : decode cX0_surrender 96 = .ok (.goto 4, 3) := by decide +kernel
theorem dX0_surrender_99 : decode cX0_surrender 99 = .ok (.iconst 0, 1) := by decide +kernel
theorem dX0_surrender_100 : decode cX0_surrender 100 = .ok (.iastore, 1) := by decide +kernel
theorem dX0_surrender_101 : decode cX0_surrender 101 = .ok (.aload_n 0, 1) := by decide +kernel
theorem dX0_surrender_102 : decode cX0_surrender 102 = .ok (.getfield 42, 3) := by decide +kernel
theorem dX0_surrender_105 : decode cX0_surrender 105 = .ok (.iload 5, 2) := by decide +kernel
theorem dX0_surrender_107 : decode cX0_surrender 107 = .ok (.iconst 0, 1) := by decide +kernel
theorem dX0_surrender_108 : decode cX0_surrender 108 = .ok (.iastore, 1) := by decide +kernel
theorem dX0_surrender_109 : decode cX0_surrender 109 = .ok (.iinc 5 1, 3) := by decide +kernel
theorem dX0_surrender_112 : decode cX0_surrender 112 = .ok (.goto (-56), 3) := by decide +kernel
theorem dX0_surrender_115 : decode cX0_surrender 115 = .ok (.aload_n 0, 1) := by decide +kernel
theorem dX0_surrender_116 : decode cX0_surrender 116 = .ok (.iload 4, 2) := by decide +kernel
theorem dX0_surrender_118 : decode cX0_surrender 118 = .ok (.invokevirtual 425, 3) := by decide +kernel
theorem dX0_surrender_121 : decode cX0_surrender 121 = .ok (.istore 5, 2) := by decide +kernel
theorem dX0_surrender_123 : decode cX0_surrender 123 = .ok (.iconst 0, 1) := by decide +kernel
theorem dX0_surrender_124 : decode cX0_surrender 124 = .ok (.istore 6, 2) := by decide +kernel
theorem dX0_surrender_126 : decode cX0_surrender 126 = .ok (.iload 6, 2) := by decide +kernel
theorem dX0_surrender_128 : decode cX0_surrender 128 = .ok (.aload_n 0, 1) := by decide +kernel
theorem dX0_surrender_129 : decode cX0_surrender 129 = .ok (.getfield 10, 3) := by decide +kernel
theorem dX0_surrender_132 : decode cX0_surrender 132 = .ok (.getfield 63, 3) := by decide +kernel
theorem dX0_surrender_135 : decode cX0_surrender 135 = .ok (.invokevirtual 68, 3) := by decide +kernel
theorem dX0_surrender_138 : decode cX0_surrender 138 = .ok (.if_icmp .ge 110, 3) := by decide +kernel
theorem dX0_surrender_141 : decode cX0_surrender 141 = .ok (.aload_n 0, 1) := by decide +kernel
theorem dX0_surrender_142 : decode cX0_surrender 142 = .ok (.iload 6, 2) := by decide +kernel
theorem dX0_surrender_144 : decode cX0_surrender 144 = .ok (.invokevirtual 80, 3) := by decide +kernel
theorem dX0_surrender_147 : decode cX0_surrender 147 = .ok (.astore 7, 2) := by decide +kernel
theorem dX0_surrender_149 : decode cX0_surrender 149 = .ok (.aload 7, 2) := by decide +kernel
theorem dX0_surrender_151 : decode cX0_surrender 151 = .ok (.invokevirtual 84, 3) := by decide +kernel
theorem dX0_surrender_154 : decode cX0_surrender 154 = .ok (.ifCond .eq 88, 3) := by decide +kernel
theorem dX0_surrender_157 : decode cX0_surrender 157 = .ok (.aload 7, 2) := by decide +kernel
theorem dX0_surrender_159 : decode cX0_surrender 159 = .ok (.getfield 128, 3) := by decide +kernel
theorem dX0_surrender_162 : decode cX0_surrender 162 = .ok (.iload_n 1, 1) := by decide +kernel
theorem dX0_surrender_163 : decode cX0_surrender 163 = .ok (.if_icmp .eq 6, 3) := by decide +kernel
theorem dX0_surrender_166 : decode cX0_surrender 166 = .ok (.goto 76, 3) := by decide +kernel
theorem dX0_surrender_169 : decode cX0_surrender 169 = .ok (.aload_n 0, 1) := by decide +kernel
theorem dX0_surrender_170 : decode cX0_surrender 170 = .ok (.aload 7, 2) := by decide +kernel
theorem dX0_surrender_172 : decode cX0_surrender 172 = .ok (.getfield 131, 3) := by decide +kernel
theorem dX0_surrender_175 : decode cX0_surrender 175 = .ok (.invokevirtual 118, 3) := by decide +kernel
theorem dX0_surrender_178 : decode cX0_surrender 178 = .ok (.dup, 1) := by decide +kernel
theorem dX0_surrender_179 : decode cX0_surrender 179 = .ok (.getfield 134, 3) := by decide +kernel
theorem dX0_surrender_182 : decode cX0_surrender 182 = .ok (.aload_n 0, 1) := by decide +kernel
theorem dX0_surrender_183 : decode cX0_surrender 183 = .ok (.getfield 42, 3) := by decide +kernel
theorem dX0_surrender_186 : decode cX0_surrender 186 = .ok (.iload 6, 2) := by decide +kernel
theorem dX0_surrender_188 : decode cX0_surrender 188 = .ok (.iaload, 1) := by decide +kernel
theorem dX0_surrender_189 : decode cX0_surrender 189 = .ok (.iadd, 1) := by decide +kernel
theorem dX0_surrender_190 : decode cX0_surrender 190 = .ok (.putfield 134, 3) := by decide +kernel
theorem dX0_surrender_193 : decode cX0_surrender 193 = .ok (.aload 7, 2) := by decide +kernel
theorem dX0_surrender_195 : decode cX0_surrender 195 = .ok (.aload_n 0, 1) := by decide +kernel
theorem dX0_surrender_196 : decode cX0_surrender 196 = .ok (.getfield 39, 3) := by decide +kernel
theorem dX0_surrender_199 : decode cX0_surrender 199 = .ok (.iload 6, 2) := by decide +kernel
theorem dX0_surrender_201 : decode cX0_surrender 201 = .ok (.iaload, 1) := by decide +kernel
theorem dX0_surrender_202 : decode cX0_surrender 202 = .ok (.aload_n 0, 1) := by decide +kernel
theorem dX0_surrender_203 : decode cX0_surrender 203 = .ok (.getfield 42, 3) := by decide +kernel
theorem dX0_surrender_206 : decode cX0_surrender 206 = .ok (.iload 6, 2) := by decide +kernel
theorem dX0_surrender_208 : decode cX0_surrender 208 = .ok (.iaload, 1) := by decide +kernel
theorem dX0_surrender_209 : decode cX0_surrender 209 = .ok (.isub, 1) := by decide +kernel
theorem dX0_surrender_210 : decode cX0_surrender 210 = .ok (.putfield 178, 3) := by decide +kernel
theorem dX0_surrender_213 : decode cX0_surrender 213 = .ok (.aload 7, 2) := by decide +kernel
theorem dX0_surrender_215 : decode cX0_surrender 215 = .ok (.aload 7, 2) := by decide +kernel
theorem dX0_surrender_217 : decode cX0_surrender 217 = .ok (.getfield 178, 3) := by decide +kernel
theorem dX0_surrender_220 : decode cX0_surrender 220 = .ok (.ifCond .ne 9, 3) := by decide +kernel
theorem dX0_surrender_223 : decode cX0_surrender 223 = .ok (.getstatic 408, 3) := by decide +kernel
theorem dX0_surrender_226 : decode cX0_surrender 226 = .ok (.goto 6, 3) := by decide +kernel
theorem dX0_surrender_229 : decode cX0_surrender 229 = .ok (.getstatic 428, 3) := by decide +kernel
theorem dX0_surrender_232 : decode cX0_surrender 232 = .ok (.aload_n 0, 1) := by decide +kernel
theorem dX0_surrender_233 : decode cX0_surrender 233 = .ok (.getfield 10, 3) := by decide +kernel
theorem dX0_surrender_236 : decode cX0_surrender 236 = .ok (.getfield 88, 3) := by decide +kernel
theorem dX0_surrender_239 : decode cX0_surrender 239 = .ok (.invokevirtual 414, 3) := by decide +kernel
theorem dX0_surrender_242 : decode cX0_surrender 242 = .ok (.iinc 6 1, 3) := by decide +kernel
theorem dX0_surrender_245 : decode cX0_surrender 245 = .ok (.goto (-119), 3) := by decide +kernel
theorem dX0_surrender_248 : decode cX0_surrender 248 = .ok (.aload_n 2, 1) := by decide +kernel
theorem dX0_surrender_249 : decode cX0_surrender 249 = .ok (.iload_n 3, 1) := by decide +kernel
theorem dX0_surrender_250 : decode cX0_surrender 250 = .ok (.iload 5, 2) := by decide +kernel
theorem dX0_surrender_252 : decode cX0_surrender 252 = .ok (.iadd, 1) := by decide +kernel
theorem dX0_surrender_253 : decode cX0_surrender 253 = .ok (.putfield 134, 3) := by decide +kernel
theorem dX0_surrender_256 : decode cX0_surrender 256 = .ok (.aload_n 2, 1) := by decide +kernel
theorem dX0_surrender_257 : decode cX0_surrender 257 = .ok (.iconst 1, 1) := by decide +kernel
theorem dX0_surrender_258 : decode cX0_surrender 258 = .ok (.putfield 368, 3) := by decide +kernel
theorem dX0_surrender_261 : decode cX0_surrender 261 = .ok (.aload_n 0, 1) := by decide +kernel
theorem dX0_surrender_262 : decode cX0_surrender 262 = .ok (.invokevirtual 141, 3) := by decide +kernel
theorem dX0_surrender_265 : decode cX0_surrender 265 = .ok (.iload 4, 2) := by decide +kernel
theorem dX0_surrender_267 : decode cX0_surrender 267 = .ok (.iload 5, 2) := by decide +kernel
theorem dX0_surrender_269 : decode cX0_surrender 269 = .ok (.isub, 1) := by decide +kernel
theorem dX0_surrender_270 : decode cX0_surrender 270 = .ok (.ireturn, 1) := by decide +kernel
abbrev cX0_parts : ByteArray := prog_1_method_54_code
def yX0_parts : MethodName := ⟨RX0, "parts", "(I)I"⟩
theorem dX0_parts_0 : decode cX0_parts 0 = .ok (.iload_n 1, 1) := by decide +kernel
theorem dX0_parts_1 : decode cX0_parts 1 = .ok (.istore_n 2, 1) := by decide +kernel
theorem dX0_parts_2 : decode cX0_parts 2 = .ok (.iconst 0, 1) := by decide +kernel
theorem dX0_parts_3 : decode cX0_parts 3 = .ok (.istore_n 3, 1) := by decide +kernel
theorem dX0_parts_4 : decode cX0_parts 4 = .ok (.iload_n 3, 1) := by decide +kernel
theorem dX0_parts_5 : decode cX0_parts 5 = .ok (.iconst 4, 1) := by decide +kernel
theorem dX0_parts_6 : decode cX0_parts 6 = .ok (.if_icmp .ge 144, 3) := by decide +kernel
theorem dX0_parts_9 : decode cX0_parts 9 = .ok (.lconst 0, 1) := by decide +kernel
theorem dX0_parts_10 : decode cX0_parts 10 = .ok (.lstore 4, 2) := by decide +kernel
theorem dX0_parts_12 : decode cX0_parts 12 = .ok (.iconst 0, 1) := by decide +kernel
theorem dX0_parts_13 : decode cX0_parts 13 = .ok (.istore 6, 2) := by decide +kernel
theorem dX0_parts_15 : decode cX0_parts 15 = .ok (.iload 6, 2) := by decide +kernel
theorem dX0_parts_17 : decode cX0_parts 17 = .ok (.aload_n 0, 1) := by decide +kernel
theorem dX0_parts_18 : decode cX0_parts 18 = .ok (.getfield 10, 3) := by decide +kernel
theorem dX0_parts_21 : decode cX0_parts 21 = .ok (.getfield 63, 3) := by decide +kernel
theorem dX0_parts_24 : decode cX0_parts 24 = .ok (.invokevirtual 68, 3) := by decide +kernel
theorem dX0_parts_27 : decode cX0_parts 27 = .ok (.if_icmp .ge 39, 3) := by decide +kernel
theorem dX0_parts_30 : decode cX0_parts 30 = .ok (.lload 4, 2) := by decide +kernel
theorem dX0_parts_32 : decode cX0_parts 32 = .ok (.aload_n 0, 1) := by decide +kernel
theorem dX0_parts_33 : decode cX0_parts 33 = .ok (.iload 6, 2) := by decide +kernel
theorem dX0_parts_35 : decode cX0_parts 35 = .ok (.invokevirtual 80, 3) := by decide +kernel
theorem dX0_parts_38 : decode cX0_parts 38 = .ok (.getfield 147, 3) := by decide +kernel
theorem dX0_parts_41 : decode cX0_parts 41 = .ok (.iload_n 3, 1) := by decide +kernel
theorem dX0_parts_42 : decode cX0_parts 42 = .ok (.if_icmp .ne 14, 3) := by decide +kernel
theorem dX0_parts_45 : decode cX0_parts 45 = .ok (.aload_n 0, 1) := by decide +kernel
theorem dX0_parts_46 : decode cX0_parts 46 = .ok (.getfield 39, 3) := by decide +kernel
theorem dX0_parts_49 : decode cX0_parts 49 = .ok (.iload 6, 2) := by decide +kernel
theorem dX0_parts_51 : decode cX0_parts 51 = .ok (.iaload, 1) := by decide +kernel
theorem dX0_parts_52 : decode cX0_parts 52 = .ok (.i2l, 1) := by decide +kernel
theorem dX0_parts_53 : decode cX0_parts 53 = .ok (.goto 4, 3) := by decide +kernel
theorem dX0_parts_56 : decode cX0_parts 56 = .ok (.lconst 0, 1) := by decide +kernel
theorem dX0_parts_57 : decode cX0_parts 57 = .ok (.ladd, 1) := by decide +kernel
theorem dX0_parts_58 : decode cX0_parts 58 = .ok (.lstore 4, 2) := by decide +kernel
theorem dX0_parts_60 : decode cX0_parts 60 = .ok (.iinc 6 1, 3) := by decide +kernel
theorem dX0_parts_63 : decode cX0_parts 63 = .ok (.goto (-48), 3) := by decide +kernel
theorem dX0_parts_66 : decode cX0_parts 66 = .ok (.lload 4, 2) := by decide +kernel
theorem dX0_parts_68 : decode cX0_parts 68 = .ok (.iload_n 2, 1) := by decide +kernel
theorem dX0_parts_69 : decode cX0_parts 69 = .ok (.i2l, 1) := by decide +kernel
theorem dX0_parts_70 : decode cX0_parts 70 = .ok (.lcmp, 1) := by decide +kernel
theorem dX0_parts_71 : decode cX0_parts 71 = .ok (.ifCond .gt 63, 3) := by decide +kernel
theorem dX0_parts_74 : decode cX0_parts 74 = .ok (.iconst 0, 1) := by decide +kernel
theorem dX0_parts_75 : decode cX0_parts 75 = .ok (.istore 6, 2) := by decide +kernel
theorem dX0_parts_77 : decode cX0_parts 77 = .ok (.iload 6, 2) := by decide +kernel
theorem dX0_parts_79 : decode cX0_parts 79 = .ok (.aload_n 0, 1) := by decide +kernel
theorem dX0_parts_80 : decode cX0_parts 80 = .ok (.getfield 10, 3) := by decide +kernel
theorem dX0_parts_83 : decode cX0_parts 83 = .ok (.getfield 63, 3) := by decide +kernel
theorem dX0_parts_86 : decode cX0_parts 86 = .ok (.invokevirtual 68, 3) := by decide +kernel
theorem dX0_parts_89 : decode cX0_parts 89 = .ok (.if_icmp .ge 36, 3) := by decide +kernel
theorem dX0_parts_92 : decode cX0_parts 92 = .ok (.aload_n 0, 1) := by decide +kernel
theorem dX0_parts_93 : decode cX0_parts 93 = .ok (.iload 6, 2) := by decide +kernel
theorem dX0_parts_95 : decode cX0_parts 95 = .ok (.invokevirtual 80, 3) := by decide +kernel
theorem dX0_parts_98 : decode cX0_parts 98 = .ok (.getfield 147, 3) := by decide +kernel
theorem dX0_parts_101 : decode cX0_parts 101 = .ok (.iload_n 3, 1) := by decide +kernel
theorem dX0_parts_102 : decode cX0_parts 102 = .ok (.if_icmp .ne 17, 3) := by decide +kernel
theorem dX0_parts_105 : decode cX0_parts 105 = .ok (.aload_n 0, 1) := by decide +kernel
theorem dX0_parts_106 : decode cX0_parts 106 = .ok (.getfield 42, 3) := by decide +kernel
theorem dX0_parts_109 : decode cX0_parts 109 = .ok (.iload 6, 2) := by decide +kernel
theorem dX0_parts_111 : decode cX0_parts 111 = .ok (.aload_n 0, 1) := by decide +kernel
theorem dX0_parts_112 : decode cX0_parts 112 = .ok (.getfield 39, 3) := by decide +kernel
theorem dX0_parts_115 : decode cX0_parts 115 = .ok (.iload 6, 2) := by decide +kernel
theorem dX0_parts_117 : decode cX0_parts 117 = .ok (.iaload, 1) := by decide +kernel
theorem dX0_parts_118 : decode cX0_parts 118 = .ok (.iastore, 1) := by decide +kernel
theorem dX0_parts_119 : decode cX0_parts 119 = .ok (.iinc 6 1, 3) := by decide +kernel
theorem dX0_parts_122 : decode cX0_parts 122 = .ok (.goto (-45), 3) := by decide +kernel
theorem dX0_parts_125 : decode cX0_parts 125 = .ok (.iload_n 2, 1) := by decide +kernel
theorem dX0_parts_126 : decode cX0_parts 126 = .ok (.lload 4, 2) := by decide +kernel
theorem dX0_parts_128 : decode cX0_parts 128 = .ok (.l2i, 1) := by decide +kernel
theorem dX0_parts_129 : decode cX0_parts 129 = .ok (.isub, 1) := by decide +kernel
theorem dX0_parts_130 : decode cX0_parts 130 = .ok (.istore_n 2, 1) := by decide +kernel
theorem dX0_parts_131 : decode cX0_parts 131 = .ok (.goto 13, 3) := by decide +kernel
theorem dX0_parts_134 : decode cX0_parts 134 = .ok (.aload_n 0, 1) := by decide +kernel
theorem dX0_parts_135 : decode cX0_parts 135 = .ok (.iload_n 3, 1) := by decide +kernel
theorem dX0_parts_136 : decode cX0_parts 136 = .ok (.iload_n 2, 1) := by decide +kernel
theorem dX0_parts_137 : decode cX0_parts 137 = .ok (.lload 4, 2) := by decide +kernel
theorem dX0_parts_139 : decode cX0_parts 139 = .ok (.invokevirtual 418, 3) := by decide +kernel
theorem dX0_parts_142 : decode cX0_parts 142 = .ok (.iconst 0, 1) := by decide +kernel
theorem dX0_parts_143 : decode cX0_parts 143 = .ok (.istore_n 2, 1) := by decide +kernel
theorem dX0_parts_144 : decode cX0_parts 144 = .ok (.iinc 3 1, 3) := by decide +kernel
theorem dX0_parts_147 : decode cX0_parts 147 = .ok (.goto (-143), 3) := by decide +kernel
theorem dX0_parts_150 : decode cX0_parts 150 = .ok (.iload_n 2, 1) := by decide +kernel
theorem dX0_parts_151 : decode cX0_parts 151 = .ok (.ireturn, 1) := by decide +kernel
abbrev cX0_shares : ByteArray := prog_1_method_55_code
def yX0_shares : MethodName := ⟨RX0, "shares", "(IIJ)V"⟩
theorem dX0_shares_0 : decode cX0_shares 0 = .ok (.iload_n 2, 1) := by decide +kernel
theorem dX0_shares_1 : decode cX0_shares 1 = .ok (.istore 5, 2) := by decide +kernel
theorem dX0_shares_3 : decode cX0_shares 3 = .ok (.iconst 0, 1) := by decide +kernel
theorem dX0_shares_4 : decode cX0_shares 4 = .ok (.istore 6, 2) := by decide +kernel
theorem dX0_shares_6 : decode cX0_shares 6 = .ok (.iload 6, 2) := by decide +kernel
theorem dX0_shares_8 : decode cX0_shares 8 = .ok (.aload_n 0, 1) := by decide +kernel
theorem dX0_shares_9 : decode cX0_shares 9 = .ok (.getfield 10, 3) := by decide +kernel
theorem dX0_shares_12 : decode cX0_shares 12 = .ok (.getfield 63, 3) := by decide +kernel
theorem dX0_shares_15 : decode cX0_shares 15 = .ok (.invokevirtual 68, 3) := by decide +kernel
theorem dX0_shares_18 : decode cX0_shares 18 = .ok (.if_icmp .ge 58, 3) := by decide +kernel
theorem dX0_shares_21 : decode cX0_shares 21 = .ok (.aload_n 0, 1) := by decide +kernel
theorem dX0_shares_22 : decode cX0_shares 22 = .ok (.iload 6, 2) := by decide +kernel
theorem dX0_shares_24 : decode cX0_shares 24 = .ok (.invokevirtual 80, 3) := by decide +kernel
theorem dX0_shares_27 : decode cX0_shares 27 = .ok (.getfield 147, 3) := by decide +kernel
theorem dX0_shares_30 : decode cX0_shares 30 = .ok (.iload_n 1, 1) := by decide +kernel
theorem dX0_shares_31 : decode cX0_shares 31 = .ok (.if_icmp .eq 6, 3) := by decide +kernel
theorem dX0_shares_34 : decode cX0_shares 34 = .ok (.goto 36, 3) := by decide +kernel
theorem dX0_shares_37 : decode cX0_shares 37 = .ok (.aload_n 0, 1) := by decide +kernel
theorem dX0_shares_38 : decode cX0_shares 38 = .ok (.getfield 42, 3) := by decide +kernel
theorem dX0_shares_41 : decode cX0_shares 41 = .ok (.iload 6, 2) := by decide +kernel
theorem dX0_shares_43 : decode cX0_shares 43 = .ok (.aload_n 0, 1) := by decide +kernel
theorem dX0_shares_44 : decode cX0_shares 44 = .ok (.getfield 39, 3) := by decide +kernel
theorem dX0_shares_47 : decode cX0_shares 47 = .ok (.iload 6, 2) := by decide +kernel
theorem dX0_shares_49 : decode cX0_shares 49 = .ok (.iaload, 1) := by decide +kernel
theorem dX0_shares_50 : decode cX0_shares 50 = .ok (.i2l, 1) := by decide +kernel
theorem dX0_shares_51 : decode cX0_shares 51 = .ok (.iload_n 2, 1) := by decide +kernel
theorem dX0_shares_52 : decode cX0_shares 52 = .ok (.i2l, 1) := by decide +kernel
theorem dX0_shares_53 : decode cX0_shares 53 = .ok (.lmul, 1) := by decide +kernel
theorem dX0_shares_54 : decode cX0_shares 54 = .ok (.lload_n 3, 1) := by decide +kernel
theorem dX0_shares_55 : decode cX0_shares 55 = .ok (.ldiv, 1) := by decide +kernel
theorem dX0_shares_56 : decode cX0_shares 56 = .ok (.l2i, 1) := by decide +kernel
theorem dX0_shares_57 : decode cX0_shares 57 = .ok (.iastore, 1) := by decide +kernel
theorem dX0_shares_58 : decode cX0_shares 58 = .ok (.iload 5, 2) := by decide +kernel
theorem dX0_shares_60 : decode cX0_shares 60 = .ok (.aload_n 0, 1) := by decide +kernel
theorem dX0_shares_61 : decode cX0_shares 61 = .ok (.getfield 42, 3) := by decide +kernel
theorem dX0_shares_64 : decode cX0_shares 64 = .ok (.iload 6, 2) := by decide +kernel
theorem dX0_shares_66 : decode cX0_shares 66 = .ok (.iaload, 1) := by decide +kernel
theorem dX0_shares_67 : decode cX0_shares 67 = .ok (.isub, 1) := by decide +kernel
theorem dX0_shares_68 : decode cX0_shares 68 = .ok (.istore 5, 2) := by decide +kernel
theorem dX0_shares_70 : decode cX0_shares 70 = .ok (.iinc 6 1, 3) := by decide +kernel
theorem dX0_shares_73 : decode cX0_shares 73 = .ok (.goto (-67), 3) := by decide +kernel
theorem dX0_shares_76 : decode cX0_shares 76 = .ok (.lconst 0, 1) := by decide +kernel
theorem dX0_shares_77 : decode cX0_shares 77 = .ok (.lstore 6, 2) := by decide +kernel
theorem dX0_shares_79 : decode cX0_shares 79 = .ok (.iload 5, 2) := by decide +kernel
theorem dX0_shares_81 : decode cX0_shares 81 = .ok (.ifCond .le 124, 3) := by decide +kernel
theorem dX0_shares_84 : decode cX0_shares 84 = .ok (.iconst (-1), 1) := by decide +kernel
theorem dX0_shares_85 : decode cX0_shares 85 = .ok (.istore 8, 2) := by decide +kernel
theorem dX0_shares_87 : decode cX0_shares 87 = .ok (.iconst 0, 1) := by decide +kernel
theorem dX0_shares_88 : decode cX0_shares 88 = .ok (.istore 9, 2) := by decide +kernel
theorem dX0_shares_90 : decode cX0_shares 90 = .ok (.iload 9, 2) := by decide +kernel
theorem dX0_shares_92 : decode cX0_shares 92 = .ok (.aload_n 0, 1) := by decide +kernel
theorem dX0_shares_93 : decode cX0_shares 93 = .ok (.getfield 10, 3) := by decide +kernel
theorem dX0_shares_96 : decode cX0_shares 96 = .ok (.getfield 63, 3) := by decide +kernel
theorem dX0_shares_99 : decode cX0_shares 99 = .ok (.invokevirtual 68, 3) := by decide +kernel
theorem dX0_shares_102 : decode cX0_shares 102 = .ok (.if_icmp .ge 77, 3) := by decide +kernel
theorem dX0_shares_105 : decode cX0_shares 105 = .ok (.aload_n 0, 1) := by decide +kernel
theorem dX0_shares_106 : decode cX0_shares 106 = .ok (.iload 9, 2) := by decide +kernel
theorem dX0_shares_108 : decode cX0_shares 108 = .ok (.invokevirtual 80, 3) := by decide +kernel
theorem dX0_shares_111 : decode cX0_shares 111 = .ok (.getfield 147, 3) := by decide +kernel
theorem dX0_shares_114 : decode cX0_shares 114 = .ok (.iload_n 1, 1) := by decide +kernel
theorem dX0_shares_115 : decode cX0_shares 115 = .ok (.if_icmp .ne 58, 3) := by decide +kernel
theorem dX0_shares_118 : decode cX0_shares 118 = .ok (.lload 6, 2) := by decide +kernel
theorem dX0_shares_120 : decode cX0_shares 120 = .ok (.iload 9, 2) := by decide +kernel
theorem dX0_shares_122 : decode cX0_shares 122 = .ok (.lshr, 1) := by decide +kernel
theorem dX0_shares_123 : decode cX0_shares 123 = .ok (.lconst 1, 1) := by decide +kernel
theorem dX0_shares_124 : decode cX0_shares 124 = .ok (.land, 1) := by decide +kernel
theorem dX0_shares_125 : decode cX0_shares 125 = .ok (.lconst 1, 1) := by decide +kernel
theorem dX0_shares_126 : decode cX0_shares 126 = .ok (.lcmp, 1) := by decide +kernel
theorem dX0_shares_127 : decode cX0_shares 127 = .ok (.ifCond .ne 6, 3) := by decide +kernel
theorem dX0_shares_130 : decode cX0_shares 130 = .ok (.goto 43, 3) := by decide +kernel
theorem dX0_shares_133 : decode cX0_shares 133 = .ok (.iload 8, 2) := by decide +kernel
theorem dX0_shares_135 : decode cX0_shares 135 = .ok (.iconst (-1), 1) := by decide +kernel
theorem dX0_shares_136 : decode cX0_shares 136 = .ok (.if_icmp .eq 33, 3) := by decide +kernel
theorem dX0_shares_139 : decode cX0_shares 139 = .ok (.aload_n 0, 1) := by decide +kernel
theorem dX0_shares_140 : decode cX0_shares 140 = .ok (.getfield 39, 3) := by decide +kernel
theorem dX0_shares_143 : decode cX0_shares 143 = .ok (.iload 9, 2) := by decide +kernel
theorem dX0_shares_145 : decode cX0_shares 145 = .ok (.iaload, 1) := by decide +kernel
theorem dX0_shares_146 : decode cX0_shares 146 = .ok (.i2l, 1) := by decide +kernel
theorem dX0_shares_147 : decode cX0_shares 147 = .ok (.iload_n 2, 1) := by decide +kernel
theorem dX0_shares_148 : decode cX0_shares 148 = .ok (.i2l, 1) := by decide +kernel
theorem dX0_shares_149 : decode cX0_shares 149 = .ok (.lmul, 1) := by decide +kernel
theorem dX0_shares_150 : decode cX0_shares 150 = .ok (.lload_n 3, 1) := by decide +kernel
theorem dX0_shares_151 : decode cX0_shares 151 = .ok (.lrem, 1) := by decide +kernel
theorem dX0_shares_152 : decode cX0_shares 152 = .ok (.aload_n 0, 1) := by decide +kernel
theorem dX0_shares_153 : decode cX0_shares 153 = .ok (.getfield 39, 3) := by decide +kernel
theorem dX0_shares_156 : decode cX0_shares 156 = .ok (.iload 8, 2) := by decide +kernel
theorem dX0_shares_158 : decode cX0_shares 158 = .ok (.iaload, 1) := by decide +kernel
theorem dX0_shares_159 : decode cX0_shares 159 = .ok (.i2l, 1) := by decide +kernel
theorem dX0_shares_160 : decode cX0_shares 160 = .ok (.iload_n 2, 1) := by decide +kernel
theorem dX0_shares_161 : decode cX0_shares 161 = .ok (.i2l, 1) := by decide +kernel
theorem dX0_shares_162 : decode cX0_shares 162 = .ok (.lmul, 1) := by decide +kernel
theorem dX0_shares_163 : decode cX0_shares 163 = .ok (.lload_n 3, 1) := by decide +kernel
theorem dX0_shares_164 : decode cX0_shares 164 = .ok (.lrem, 1) := by decide +kernel
theorem dX0_shares_165 : decode cX0_shares 165 = .ok (.lcmp, 1) := by decide +kernel
theorem dX0_shares_166 : decode cX0_shares 166 = .ok (.ifCond .le 7, 3) := by decide +kernel
theorem dX0_shares_169 : decode cX0_shares 169 = .ok (.iload 9, 2) := by decide +kernel
theorem dX0_shares_171 : decode cX0_shares 171 = .ok (.istore 8, 2) := by decide +kernel
theorem dX0_shares_173 : decode cX0_shares 173 = .ok (.iinc 9 1, 3) := by decide +kernel
theorem dX0_shares_176 : decode cX0_shares 176 = .ok (.goto (-86), 3) := by decide +kernel
theorem dX0_shares_179 : decode cX0_shares 179 = .ok (.lload 6, 2) := by decide +kernel
theorem dX0_shares_181 : decode cX0_shares 181 = .ok (.lconst 1, 1) := by decide +kernel
theorem dX0_shares_182 : decode cX0_shares 182 = .ok (.iload 8, 2) := by decide +kernel
theorem dX0_shares_184 : decode cX0_shares 184 = .ok (.lshl, 1) := by decide +kernel
theorem dX0_shares_185 : decode cX0_shares 185 = .ok (.lor, 1) := by decide +kernel
theorem dX0_shares_186 : decode cX0_shares 186 = .ok (.lstore 6, 2) := by decide +kernel
theorem dX0_shares_188 : decode cX0_shares 188 = .ok (.aload_n 0, 1) := by decide +kernel
theorem dX0_shares_189 : decode cX0_shares 189 = .ok (.getfield 42, 3) := by decide +kernel
theorem dX0_shares_192 : decode cX0_shares 192 = .ok (.iload 8, 2) := by decide +kernel
theorem dX0_shares_194 : decode cX0_shares 194 = .ok (.dup2, 1) := by decide +kernel
theorem dX0_shares_195 : decode cX0_shares 195 = .ok (.iaload, 1) := by decide +kernel
theorem dX0_shares_196 : decode cX0_shares 196 = .ok (.iconst 1, 1) := by decide +kernel
theorem dX0_shares_197 : decode cX0_shares 197 = .ok (.iadd, 1) := by decide +kernel
theorem dX0_shares_198 : decode cX0_shares 198 = .ok (.iastore, 1) := by decide +kernel
theorem dX0_shares_199 : decode cX0_shares 199 = .ok (.iinc 5 (-1), 3) := by decide +kernel
theorem dX0_shares_202 : decode cX0_shares 202 = .ok (.goto (-123), 3) := by decide +kernel
theorem dX0_shares_205 : decode cX0_shares 205 = .ok (.return_, 1) := by decide +kernel
abbrev cX0_found : ByteArray := prog_1_method_57_code
def yX0_found : MethodName := ⟨RX0, "found", "(II)I"⟩
theorem dX0_found_0 : decode cX0_found 0 = .ok (.aload_n 0, 1) := by decide +kernel
theorem dX0_found_1 : decode cX0_found 1 = .ok (.iload_n 1, 1) := by decide +kernel
theorem dX0_found_2 : decode cX0_found 2 = .ok (.invokevirtual 76, 3) := by decide +kernel
theorem dX0_found_5 : decode cX0_found 5 = .ok (.ifCond .eq 13, 3) := by decide +kernel
theorem dX0_found_8 : decode cX0_found 8 = .ok (.iload_n 2, 1) := by decide +kernel
theorem dX0_found_9 : decode cX0_found 9 = .ok (.iconst 1, 1) := by decide +kernel
theorem dX0_found_10 : decode cX0_found 10 = .ok (.ldc 96, 2) := by decide +kernel
theorem dX0_found_12 : decode cX0_found 12 = .ok (.invokestatic 72, 3) := by decide +kernel
theorem dX0_found_15 : decode cX0_found 15 = .ok (.ifCond .ne 5, 3) := by decide +kernel
theorem dX0_found_18 : decode cX0_found 18 = .ok (.iconst (-1), 1) := by decide +kernel
theorem dX0_found_19 : decode cX0_found 19 = .ok (.ireturn, 1) := by decide +kernel
theorem dX0_found_20 : decode cX0_found 20 = .ok (.aload_n 0, 1) := by decide +kernel
theorem dX0_found_21 : decode cX0_found 21 = .ok (.iload_n 1, 1) := by decide +kernel
theorem dX0_found_22 : decode cX0_found 22 = .ok (.invokevirtual 118, 3) := by decide +kernel
theorem dX0_found_25 : decode cX0_found 25 = .ok (.astore_n 3, 1) := by decide +kernel
theorem dX0_found_26 : decode cX0_found 26 = .ok (.iconst 0, 1) := by decide +kernel
theorem dX0_found_27 : decode cX0_found 27 = .ok (.istore 4, 2) := by decide +kernel
theorem dX0_found_29 : decode cX0_found 29 = .ok (.iconst 0, 1) := by decide +kernel
theorem dX0_found_30 : decode cX0_found 30 = .ok (.istore 5, 2) := by decide +kernel
theorem dX0_found_32 : decode cX0_found 32 = .ok (.iload 5, 2) := by decide +kernel
theorem dX0_found_34 : decode cX0_found 34 = .ok (.aload_n 0, 1) := by decide +kernel
theorem dX0_found_35 : decode cX0_found 35 = .ok (.getfield 10, 3) := by decide +kernel
theorem dX0_found_38 : decode cX0_found 38 = .ok (.getfield 63, 3) := by decide +kernel
theorem dX0_found_41 : decode cX0_found 41 = .ok (.invokevirtual 68, 3) := by decide +kernel
theorem dX0_found_44 : decode cX0_found 44 = .ok (.if_icmp .ge 72, 3) := by decide +kernel
theorem dX0_found_47 : decode cX0_found 47 = .ok (.aload_n 0, 1) := by decide +kernel
theorem dX0_found_48 : decode cX0_found 48 = .ok (.getfield 39, 3) := by decide +kernel
theorem dX0_found_51 : decode cX0_found 51 = .ok (.iload 5, 2) := by decide +kernel
theorem dX0_found_53 : decode cX0_found 53 = .ok (.aload_n 0, 1) := by decide +kernel
theorem dX0_found_54 : decode cX0_found 54 = .ok (.iload 5, 2) := by decide +kernel
theorem dX0_found_56 : decode cX0_found 56 = .ok (.invokevirtual 80, 3) := by decide +kernel
theorem dX0_found_59 : decode cX0_found 59 = .ok (.getfield 128, 3) := by decide +kernel
theorem dX0_found_62 : decode cX0_found 62 = .ok (.iload_n 1, 1) := by decide +kernel
theorem dX0_found_63 : decode cX0_found 63 = .ok (.if_icmp .ne 15, 3) := by decide +kernel
theorem dX0_found_66 : decode cX0_found 66 = .ok (.aload_n 0, 1) := by decide +kernel
theorem dX0_found_67 : decode cX0_found 67 = .ok (.iload 5, 2) := by decide +kernel
theorem dX0_found_69 : decode cX0_found 69 = .ok (.invokevirtual 80, 3) := by decide +kernel
theorem dX0_found_72 : decode cX0_found 72 = .ok (.getfield 178, 3) := by decide +kernel
theorem dX0_found_75 : decode cX0_found 75 = .ok (.goto 4, 3) := by decide +kernel
theorem dX0_found_78 : decode cX0_found 78 = .ok (.iconst 0, 1) := by decide +kernel
theorem dX0_found_79 : decode cX0_found 79 = .ok (.iastore, 1) := by decide +kernel
theorem dX0_found_80 : decode cX0_found 80 = .ok (.aload_n 0, 1) := by decide +kernel
theorem dX0_found_81 : decode cX0_found 81 = .ok (.getfield 42, 3) := by decide +kernel
theorem dX0_found_84 : decode cX0_found 84 = .ok (.iload 5, 2) := by decide +kernel
theorem dX0_found_86 : decode cX0_found 86 = .ok (.iconst 0, 1) := by decide +kernel
theorem dX0_found_87 : decode cX0_found 87 = .ok (.iastore, 1) := by decide +kernel
theorem dX0_found_88 : decode cX0_found 88 = .ok (.iload 4, 2) := by decide +kernel
theorem dX0_found_90 : decode cX0_found 90 = .ok (.ifCond .ne 13, 3) := by decide +kernel
theorem dX0_found_93 : decode cX0_found 93 = .ok (.aload_n 0, 1) := by decide +kernel
theorem dX0_found_94 : decode cX0_found 94 = .ok (.getfield 39, 3) := by decide +kernel
theorem dX0_found_97 : decode cX0_found 97 = .ok (.iload 5, 2) := by decide +kernel
theorem dX0_found_99 : decode cX0_found 99 = .ok (.iaload, 1) := by decide +kernel
theorem dX0_found_100 : decode cX0_found 100 = .ok (.ifCond .le 7, 3) := by decide +kernel
theorem dX0_found_103 : decode cX0_found 103 = .ok (.iconst 1, 1) := by decide +kernel
theorem dX0_found_104 : decode cX0_found 104 = .ok (.goto 4, 3) := by decide +kernel
theorem dX0_found_107 : decode cX0_found 107 = .ok (.iconst 0, 1) := by decide +kernel
theorem dX0_found_108 : decode cX0_found 108 = .ok (.istore 4, 2) := by decide +kernel
theorem dX0_found_110 : decode cX0_found 110 = .ok (.iinc 5 1, 3) := by decide +kernel
theorem dX0_found_113 : decode cX0_found 113 = .ok (.goto (-81), 3) := by decide +kernel
theorem dX0_found_116 : decode cX0_found 116 = .ok (.aload_n 3, 1) := by decide +kernel
theorem dX0_found_117 : decode cX0_found 117 = .ok (.getfield 368, 3) := by decide +kernel
theorem dX0_found_120 : decode cX0_found 120 = .ok (.ifCond .eq 19, 3) := by decide +kernel
theorem dX0_found_123 : decode cX0_found 123 = .ok (.iload 4, 2) := by decide +kernel
theorem dX0_found_125 : decode cX0_found 125 = .ok (.ifCond .eq 14, 3) := by decide +kernel
theorem dX0_found_128 : decode cX0_found 128 = .ok (.aload_n 0, 1) := by decide +kernel
theorem dX0_found_129 : decode cX0_found 129 = .ok (.aload_n 3, 1) := by decide +kernel
theorem dX0_found_130 : decode cX0_found 130 = .ok (.getstatic 431, 3) := by decide +kernel
theorem dX0_found_133 : decode cX0_found 133 = .ok (.invokevirtual 326, 3) := by decide +kernel
theorem dX0_found_136 : decode cX0_found 136 = .ok (.ifCond .ne 15, 3) := by decide +kernel
theorem dX0_found_139 : decode cX0_found 139 = .ok (.aload_n 3, 1) := by decide +kernel
theorem dX0_found_140 : decode cX0_found 140 = .ok (.dup, 1) := by decide +kernel
theorem dX0_found_141 : decode cX0_found 141 = .ok (.getfield 134, 3) := by decide +kernel
theorem dX0_found_144 : decode cX0_found 144 = .ok (.iload_n 2, 1) := by decide +kernel
theorem dX0_found_145 : decode cX0_found 145 = .ok (.iadd, 1) := by decide +kernel
theorem dX0_found_146 : decode cX0_found 146 = .ok (.putfield 134, 3) := by decide +kernel
theorem dX0_found_149 : decode cX0_found 149 = .ok (.iconst 0, 1) := by decide +kernel
theorem dX0_found_150 : decode cX0_found 150 = .ok (.ireturn, 1) := by decide +kernel
theorem dX0_found_151 : decode cX0_found 151 = .ok (.aload_n 0, 1) := by decide +kernel
theorem dX0_found_152 : decode cX0_found 152 = .ok (.iload_n 2, 1) := by decide +kernel
theorem dX0_found_153 : decode cX0_found 153 = .ok (.invokevirtual 425, 3) := by decide +kernel
theorem dX0_found_156 : decode cX0_found 156 = .ok (.istore 5, 2) := by decide +kernel
theorem dX0_found_158 : decode cX0_found 158 = .ok (.iconst 0, 1) := by decide +kernel
theorem dX0_found_159 : decode cX0_found 159 = .ok (.istore 6, 2) := by decide +kernel
theorem dX0_found_161 : decode cX0_found 161 = .ok (.iload 6, 2) := by decide +kernel
theorem dX0_found_163 : decode cX0_found 163 = .ok (.aload_n 0, 1) := by decide +kernel
theorem dX0_found_164 : decode cX0_found 164 = .ok (.getfield 10, 3) := by decide +kernel
theorem dX0_found_167 : decode cX0_found 167 = .ok (.getfield 63, 3) := by decide +kernel
theorem dX0_found_170 : decode cX0_found 170 = .ok (.invokevirtual 68, 3) := by decide +kernel
theorem dX0_found_173 : decode cX0_found 173 = .ok (.if_icmp .ge 58, 3) := by decide +kernel
theorem dX0_found_176 : decode cX0_found 176 = .ok (.aload_n 0, 1) := by decide +kernel
theorem dX0_found_177 : decode cX0_found 177 = .ok (.aload_n 0, 1) := by decide +kernel
theorem dX0_found_178 : decode cX0_found 178 = .ok (.iload 6, 2) := by decide +kernel
theorem dX0_found_180 : decode cX0_found 180 = .ok (.invokevirtual 80, 3) := by decide +kernel
theorem dX0_found_183 : decode cX0_found 183 = .ok (.getfield 131, 3) := by decide +kernel
theorem dX0_found_186 : decode cX0_found 186 = .ok (.invokevirtual 118, 3) := by decide +kernel
theorem dX0_found_189 : decode cX0_found 189 = .ok (.dup, 1) := by decide +kernel
theorem dX0_found_190 : decode cX0_found 190 = .ok (.getfield 134, 3) := by decide +kernel
theorem dX0_found_193 : decode cX0_found 193 = .ok (.aload_n 0, 1) := by decide +kernel
theorem dX0_found_194 : decode cX0_found 194 = .ok (.getfield 42, 3) := by decide +kernel
theorem dX0_found_197 : decode cX0_found 197 = .ok (.iload 6, 2) := by decide +kernel
theorem dX0_found_199 : decode cX0_found 199 = .ok (.iaload, 1) := by decide +kernel
theorem dX0_found_200 : decode cX0_found 200 = .ok (.iadd, 1) := by decide +kernel
theorem dX0_found_201 : decode cX0_found 201 = .ok (.putfield 134, 3) := by decide +kernel
theorem dX0_found_204 : decode cX0_found 204 = .ok (.aload_n 0, 1) := by decide +kernel
theorem dX0_found_205 : decode cX0_found 205 = .ok (.iload 6, 2) := by decide +kernel
theorem dX0_found_207 : decode cX0_found 207 = .ok (.invokevirtual 80, 3) := by decide +kernel
theorem dX0_found_210 : decode cX0_found 210 = .ok (.dup, 1) := by decide +kernel
theorem dX0_found_211 : decode cX0_found 211 = .ok (.getfield 178, 3) := by decide +kernel
theorem dX0_found_214 : decode cX0_found 214 = .ok (.aload_n 0, 1) := by decide +kernel
theorem dX0_found_215 : decode cX0_found 215 = .ok (.getfield 42, 3) := by decide +kernel
theorem dX0_found_218 : decode cX0_found 218 = .ok (.iload 6, 2) := by decide +kernel
theorem dX0_found_220 : decode cX0_found 220 = .ok (.iaload, 1) := by decide +kernel
theorem dX0_found_221 : decode cX0_found 221 = .ok (.isub, 1) := by decide +kernel
theorem dX0_found_222 : decode cX0_found 222 = .ok (.putfield 178, 3) := by decide +kernel
theorem dX0_found_225 : decode cX0_found 225 = .ok (.iinc 6 1, 3) := by decide +kernel
theorem dX0_found_228 : decode cX0_found 228 = .ok (.goto (-67), 3) := by decide +kernel
theorem dX0_found_231 : decode cX0_found 231 = .ok (.aload_n 3, 1) := by decide +kernel
theorem dX0_found_232 : decode cX0_found 232 = .ok (.dup, 1) := by decide +kernel
theorem dX0_found_233 : decode cX0_found 233 = .ok (.getfield 134, 3) := by decide +kernel
theorem dX0_found_236 : decode cX0_found 236 = .ok (.iload 5, 2) := by decide +kernel
theorem dX0_found_238 : decode cX0_found 238 = .ok (.iadd, 1) := by decide +kernel
theorem dX0_found_239 : decode cX0_found 239 = .ok (.putfield 134, 3) := by decide +kernel
theorem dX0_found_242 : decode cX0_found 242 = .ok (.iload_n 2, 1) := by decide +kernel
theorem dX0_found_243 : decode cX0_found 243 = .ok (.iload 5, 2) := by decide +kernel
theorem dX0_found_245 : decode cX0_found 245 = .ok (.isub, 1) := by decide +kernel
theorem dX0_found_246 : decode cX0_found 246 = .ok (.ireturn, 1) := by decide +kernel
abbrev cX0_book : ByteArray := prog_1_method_59_code
def yX0_book : MethodName := ⟨RX0, "book", "(II)I"⟩
theorem dX0_book_0 : decode cX0_book 0 = .ok (.aload_n 0, 1) := by decide +kernel
theorem dX0_book_1 : decode cX0_book 1 = .ok (.iload_n 1, 1) := by decide +kernel
theorem dX0_book_2 : decode cX0_book 2 = .ok (.invokevirtual 76, 3) := by decide +kernel
theorem dX0_book_5 : decode cX0_book 5 = .ok (.ifCond .eq 28, 3) := by decide +kernel
theorem dX0_book_8 : decode cX0_book 8 = .ok (.iload_n 2, 1) := by decide +kernel
theorem dX0_book_9 : decode cX0_book 9 = .ok (.ifCond .eq 24, 3) := by decide +kernel
theorem dX0_book_12 : decode cX0_book 12 = .ok (.iload_n 2, 1) := by decide +kernel
theorem dX0_book_13 : decode cX0_book 13 = .ok (.ldc_w 437, 3) := by decide +kernel
theorem dX0_book_16 : decode cX0_book 16 = .ok (.ldc 108, 2) := by decide +kernel
theorem dX0_book_18 : decode cX0_book 18 = .ok (.invokestatic 72, 3) := by decide +kernel
theorem dX0_book_21 : decode cX0_book 21 = .ok (.ifCond .eq 12, 3) := by decide +kernel
theorem dX0_book_24 : decode cX0_book 24 = .ok (.aload_n 0, 1) := by decide +kernel
theorem dX0_book_25 : decode cX0_book 25 = .ok (.invokevirtual 438, 3) := by decide +kernel
theorem dX0_book_28 : decode cX0_book 28 = .ok (.bipush 60, 2) := by decide +kernel
theorem dX0_book_30 : decode cX0_book 30 = .ok (.if_icmp .ne 5, 3) := by decide +kernel
theorem dX0_book_33 : decode cX0_book 33 = .ok (.iconst (-1), 1) := by decide +kernel
theorem dX0_book_34 : decode cX0_book 34 = .ok (.ireturn, 1) := by decide +kernel
theorem dX0_book_35 : decode cX0_book 35 = .ok (.aload_n 0, 1) := by decide +kernel
theorem dX0_book_36 : decode cX0_book 36 = .ok (.iload_n 1, 1) := by decide +kernel
theorem dX0_book_37 : decode cX0_book 37 = .ok (.invokevirtual 118, 3) := by decide +kernel
theorem dX0_book_40 : decode cX0_book 40 = .ok (.iload_n 2, 1) := by decide +kernel
theorem dX0_book_41 : decode cX0_book 41 = .ok (.invokevirtual 440, 3) := by decide +kernel
theorem dX0_book_44 : decode cX0_book 44 = .ok (.aload_n 0, 1) := by decide +kernel
theorem dX0_book_45 : decode cX0_book 45 = .ok (.iload_n 1, 1) := by decide +kernel
theorem dX0_book_46 : decode cX0_book 46 = .ok (.invokevirtual 118, 3) := by decide +kernel
theorem dX0_book_49 : decode cX0_book 49 = .ok (.getfield 371, 3) := by decide +kernel
theorem dX0_book_52 : decode cX0_book 52 = .ok (.ineg, 1) := by decide +kernel
theorem dX0_book_53 : decode cX0_book 53 = .ok (.ireturn, 1) := by decide +kernel
abbrev cX0_rows : ByteArray := prog_1_method_58_code
def yX0_rows : MethodName := ⟨RX0, "rows", "()I"⟩
theorem dX0_rows_0 : decode cX0_rows 0 = .ok (.iconst 0, 1) := by decide +kernel
theorem dX0_rows_1 : decode cX0_rows 1 = .ok (.istore_n 1, 1) := by decide +kernel
theorem dX0_rows_2 : decode cX0_rows 2 = .ok (.iconst 0, 1) := by decide +kernel
theorem dX0_rows_3 : decode cX0_rows 3 = .ok (.istore_n 2, 1) := by decide +kernel
theorem dX0_rows_4 : decode cX0_rows 4 = .ok (.iload_n 2, 1) := by decide +kernel
theorem dX0_rows_5 : decode cX0_rows 5 = .ok (.aload_n 0, 1) := by decide +kernel
theorem dX0_rows_6 : decode cX0_rows 6 = .ok (.getfield 10, 3) := by decide +kernel
theorem dX0_rows_9 : decode cX0_rows 9 = .ok (.getfield 51, 3) := by decide +kernel
theorem dX0_rows_12 : decode cX0_rows 12 = .ok (.invokevirtual 68, 3) := by decide +kernel
theorem dX0_rows_15 : decode cX0_rows 15 = .ok (.if_icmp .ge 20, 3) := by decide +kernel
theorem dX0_rows_18 : decode cX0_rows 18 = .ok (.iload_n 1, 1) := by decide +kernel
theorem dX0_rows_19 : decode cX0_rows 19 = .ok (.aload_n 0, 1) := by decide +kernel
theorem dX0_rows_20 : decode cX0_rows 20 = .ok (.iload_n 2, 1) := by decide +kernel
theorem dX0_rows_21 : decode cX0_rows 21 = .ok (.invokevirtual 118, 3) := by decide +kernel
theorem dX0_rows_24 : decode cX0_rows 24 = .ok (.getfield 434, 3) := by decide +kernel
theorem dX0_rows_27 : decode cX0_rows 27 = .ok (.iadd, 1) := by decide +kernel
theorem dX0_rows_28 : decode cX0_rows 28 = .ok (.istore_n 1, 1) := by decide +kernel
theorem dX0_rows_29 : decode cX0_rows 29 = .ok (.iinc 2 1, 3) := by decide +kernel
theorem dX0_rows_32 : decode cX0_rows 32 = .ok (.goto (-28), 3) := by decide +kernel
theorem dX0_rows_35 : decode cX0_rows 35 = .ok (.iload_n 1, 1) := by decide +kernel
theorem dX0_rows_36 : decode cX0_rows 36 = .ok (.ireturn, 1) := by decide +kernel
abbrev cX0_free : ByteArray := prog_1_method_62_code
def yX0_free : MethodName := ⟨RX0, "free", "(II)I"⟩
theorem dX0_free_0 : decode cX0_free 0 = .ok (.iload_n 1, 1) := by decide +kernel
theorem dX0_free_1 : decode cX0_free 1 = .ok (.iconst 0, 1) := by decide +kernel
theorem dX0_free_2 : decode cX0_free 2 = .ok (.ldc 96, 2) := by decide +kernel
theorem dX0_free_4 : decode cX0_free 4 = .ok (.invokestatic 72, 3) := by decide +kernel
theorem dX0_free_7 : decode cX0_free 7 = .ok (.ifCond .eq 12, 3) := by decide +kernel
theorem dX0_free_10 : decode cX0_free 10 = .ok (.iload_n 2, 1) := by decide +kernel
theorem dX0_free_11 : decode cX0_free 11 = .ok (.iconst 0, 1) := by decide +kernel
theorem dX0_free_12 : decode cX0_free 12 = .ok (.iconst 2, 1) := by decide +kernel
theorem dX0_free_13 : decode cX0_free 13 = .ok (.invokestatic 72, 3) := by decide +kernel
theorem dX0_free_16 : decode cX0_free 16 = .ok (.ifCond .ne 5, 3) := by decide +kernel
theorem dX0_free_19 : decode cX0_free 19 = .ok (.iconst (-1), 1) := by decide +kernel
theorem dX0_free_20 : decode cX0_free 20 = .ok (.ireturn, 1) := by decide +kernel
theorem dX0_free_21 : decode cX0_free 21 = .ok (.iconst 0, 1) := by decide +kernel
theorem dX0_free_22 : decode cX0_free 22 = .ok (.istore_n 3, 1) := by decide +kernel
theorem dX0_free_23 : decode cX0_free 23 = .ok (.iconst 0, 1) := by decide +kernel
theorem dX0_free_24 : decode cX0_free 24 = .ok (.istore 4, 2) := by decide +kernel
theorem dX0_free_26 : decode cX0_free 26 = .ok (.iload 4, 2) := by decide +kernel
theorem dX0_free_28 : decode cX0_free 28 = .ok (.aload_n 0, 1) := by decide +kernel
theorem dX0_free_29 : decode cX0_free 29 = .ok (.getfield 10, 3) := by decide +kernel
theorem dX0_free_32 : decode cX0_free 32 = .ok (.getfield 51, 3) := by decide +kernel
theorem dX0_free_35 : decode cX0_free 35 = .ok (.invokevirtual 68, 3) := by decide +kernel
theorem dX0_free_38 : decode cX0_free 38 = .ok (.if_icmp .ge 41, 3) := by decide +kernel
theorem dX0_free_41 : decode cX0_free 41 = .ok (.iload_n 3, 1) := by decide +kernel
theorem dX0_free_42 : decode cX0_free 42 = .ok (.bipush 8, 2) := by decide +kernel
theorem dX0_free_44 : decode cX0_free 44 = .ok (.if_icmp .ge 35, 3) := by decide +kernel
theorem dX0_free_47 : decode cX0_free 47 = .ok (.aload_n 0, 1) := by decide +kernel
theorem dX0_free_48 : decode cX0_free 48 = .ok (.iload 4, 2) := by decide +kernel
theorem dX0_free_50 : decode cX0_free 50 = .ok (.invokevirtual 118, 3) := by decide +kernel
theorem dX0_free_53 : decode cX0_free 53 = .ok (.invokevirtual 275, 3) := by decide +kernel
theorem dX0_free_56 : decode cX0_free 56 = .ok (.ifCond .ne 6, 3) := by decide +kernel
theorem dX0_free_59 : decode cX0_free 59 = .ok (.goto 14, 3) := by decide +kernel
theorem dX0_free_62 : decode cX0_free 62 = .ok (.aload_n 0, 1) := by decide +kernel
theorem dX0_free_63 : decode cX0_free 63 = .ok (.getfield 48, 3) := by decide +kernel
theorem dX0_free_66 : decode cX0_free 66 = .ok (.iload_n 3, 1) := by decide +kernel
theorem dX0_free_67 : decode cX0_free 67 = .ok (.iload 4, 2) := by decide +kernel
theorem dX0_free_69 : decode cX0_free 69 = .ok (.iastore, 1) := by decide +kernel
theorem dX0_free_70 : decode cX0_free 70 = .ok (.iinc 3 1, 3) := by decide +kernel
theorem dX0_free_73 : decode cX0_free 73 = .ok (.iinc 4 1, 3) := by decide +kernel
theorem dX0_free_76 : decode cX0_free 76 = .ok (.goto (-50), 3) := by decide +kernel
theorem dX0_free_79 : decode cX0_free 79 = .ok (.iconst 0, 1) := by decide +kernel
theorem dX0_free_80 : decode cX0_free 80 = .ok (.istore 4, 2) := by decide +kernel
theorem dX0_free_82 : decode cX0_free 82 = .ok (.aload_n 0, 1) := by decide +kernel
theorem dX0_free_83 : decode cX0_free 83 = .ok (.getfield 45, 3) := by decide +kernel
theorem dX0_free_86 : decode cX0_free 86 = .ok (.iconst 0, 1) := by decide +kernel
theorem dX0_free_87 : decode cX0_free 87 = .ok (.lconst 0, 1) := by decide +kernel
theorem dX0_free_88 : decode cX0_free 88 = .ok (.lastore, 1) := by decide +kernel
theorem dX0_free_89 : decode cX0_free 89 = .ok (.iconst 1, 1) := by decide +kernel
theorem dX0_free_90 : decode cX0_free 90 = .ok (.istore 5, 2) := by decide +kernel
theorem dX0_free_92 : decode cX0_free 92 = .ok (.iload 5, 2) := by decide +kernel
theorem dX0_free_94 : decode cX0_free 94 = .ok (.iconst 1, 1) := by decide +kernel
theorem dX0_free_95 : decode cX0_free 95 = .ok (.iload_n 3, 1) := by decide +kernel
theorem dX0_free_96 : decode cX0_free 96 = .ok (.ishl, 1) := by decide +kernel
theorem dX0_free_97 : decode cX0_free 97 = .ok (.if_icmp .ge 149, 3) := by decide +kernel
theorem dX0_free_100 : decode cX0_free 100 = .ok (.aload_n 0, 1) := by decide +kernel
theorem dX0_free_101 : decode cX0_free 101 = .ok (.getfield 45, 3) := by decide +kernel
theorem dX0_free_104 : decode cX0_free 104 = .ok (.iload 5, 2) := by decide +kernel
theorem dX0_free_106 : decode cX0_free 106 = .ok (.ldc2_w 452, 3) := by decide +kernel
theorem dX0_free_109 : decode cX0_free 109 = .ok (.lastore, 1) := by decide +kernel
theorem dX0_free_110 : decode cX0_free 110 = .ok (.iconst 0, 1) := by decide +kernel
theorem dX0_free_111 : decode cX0_free 111 = .ok (.istore 6, 2) := by decide +kernel
theorem dX0_free_113 : decode cX0_free 113 = .ok (.iload 6, 2) := by decide +kernel
theorem dX0_free_115 : decode cX0_free 115 = .ok (.iload_n 3, 1) := by decide +kernel
theorem dX0_free_116 : decode cX0_free 116 = .ok (.if_icmp .ge 66, 3) := by decide +kernel
theorem dX0_free_119 : decode cX0_free 119 = .ok (.iload 5, 2) := by decide +kernel
theorem dX0_free_121 : decode cX0_free 121 = .ok (.iload 6, 2) := by decide +kernel
theorem dX0_free_123 : decode cX0_free 123 = .ok (.ishr, 1) := by decide +kernel
theorem dX0_free_124 : decode cX0_free 124 = .ok (.iconst 1, 1) := by decide +kernel
theorem dX0_free_125 : decode cX0_free 125 = .ok (.iand, 1) := by decide +kernel
theorem dX0_free_126 : decode cX0_free 126 = .ok (.ifCond .ne 6, 3) := by decide +kernel
theorem dX0_free_129 : decode cX0_free 129 = .ok (.goto 47, 3) := by decide +kernel
theorem dX0_free_132 : decode cX0_free 132 = .ok (.iload 5, 2) := by decide +kernel
theorem dX0_free_134 : decode cX0_free 134 = .ok (.iconst 1, 1) := by decide +kernel
theorem dX0_free_135 : decode cX0_free 135 = .ok (.iload 6, 2) := by decide +kernel
theorem dX0_free_137 : decode cX0_free 137 = .ok (.ishl, 1) := by decide +kernel
theorem dX0_free_138 : decode cX0_free 138 = .ok (.iconst (-1), 1) := by decide +kernel
theorem dX0_free_139 : decode cX0_free 139 = .ok (.ixor, 1) := by decide +kernel
theorem dX0_free_140 : decode cX0_free 140 = .ok (.iand, 1) := by decide +kernel
theorem dX0_free_141 : decode cX0_free 141 = .ok (.istore 7, 2) := by decide +kernel
theorem dX0_free_143 : decode cX0_free 143 = .ok (.aload_n 0, 1) := by decide +kernel
theorem dX0_free_144 : decode cX0_free 144 = .ok (.getfield 45, 3) := by decide +kernel
theorem dX0_free_147 : decode cX0_free 147 = .ok (.iload 5, 2) := by decide +kernel
theorem dX0_free_149 : decode cX0_free 149 = .ok (.aload_n 0, 1) := by decide +kernel
theorem dX0_free_150 : decode cX0_free 150 = .ok (.getfield 45, 3) := by decide +kernel
theorem dX0_free_153 : decode cX0_free 153 = .ok (.iload 5, 2) := by decide +kernel
theorem dX0_free_155 : decode cX0_free 155 = .ok (.laload, 1) := by decide +kernel
theorem dX0_free_156 : decode cX0_free 156 = .ok (.aload_n 0, 1) := by decide +kernel
theorem dX0_free_157 : decode cX0_free 157 = .ok (.getfield 45, 3) := by decide +kernel
theorem dX0_free_160 : decode cX0_free 160 = .ok (.iload 7, 2) := by decide +kernel
theorem dX0_free_162 : decode cX0_free 162 = .ok (.laload, 1) := by decide +kernel
theorem dX0_free_163 : decode cX0_free 163 = .ok (.aload_n 0, 1) := by decide +kernel
theorem dX0_free_164 : decode cX0_free 164 = .ok (.iload 7, 2) := by decide +kernel
theorem dX0_free_166 : decode cX0_free 166 = .ok (.iload 6, 2) := by decide +kernel
theorem dX0_free_168 : decode cX0_free 168 = .ok (.invokevirtual 454, 3) := by decide +kernel
theorem dX0_free_171 : decode cX0_free 171 = .ok (.ladd, 1) := by decide +kernel
theorem dX0_free_172 : decode cX0_free 172 = .ok (.invokestatic 458, 3) := by decide +kernel
theorem dX0_free_175 : decode cX0_free 175 = .ok (.lastore, 1) := by decide +kernel
theorem dX0_free_176 : decode cX0_free 176 = .ok (.iinc 6 1, 3) := by decide +kernel
theorem dX0_free_179 : decode cX0_free 179 = .ok (.goto (-66), 3) := by decide +kernel
theorem dX0_free_182 : decode cX0_free 182 = .ok (.iload 5, 2) := by decide +kernel
theorem dX0_free_184 : decode cX0_free 184 = .ok (.invokestatic 460, 3) := by decide +kernel
theorem dX0_free_187 : decode cX0_free 187 = .ok (.iload 4, 2) := by decide +kernel
theorem dX0_free_189 : decode cX0_free 189 = .ok (.invokestatic 460, 3) := by decide +kernel
theorem dX0_free_192 : decode cX0_free 192 = .ok (.isub, 1) := by decide +kernel
theorem dX0_free_193 : decode cX0_free 193 = .ok (.istore 6, 2) := by decide +kernel
theorem dX0_free_195 : decode cX0_free 195 = .ok (.aload_n 0, 1) := by decide +kernel
theorem dX0_free_196 : decode cX0_free 196 = .ok (.getfield 45, 3) := by decide +kernel
theorem dX0_free_199 : decode cX0_free 199 = .ok (.iload 5, 2) := by decide +kernel
theorem dX0_free_201 : decode cX0_free 201 = .ok (.laload, 1) := by decide +kernel
theorem dX0_free_202 : decode cX0_free 202 = .ok (.iload_n 1, 1) := by decide +kernel
theorem dX0_free_203 : decode cX0_free 203 = .ok (.i2l, 1) := by decide +kernel
theorem dX0_free_204 : decode cX0_free 204 = .ok (.lcmp, 1) := by decide +kernel
theorem dX0_free_205 : decode cX0_free 205 = .ok (.ifCond .gt 35, 3) := by decide +kernel
theorem dX0_free_208 : decode cX0_free 208 = .ok (.iload 6, 2) := by decide +kernel
theorem dX0_free_210 : decode cX0_free 210 = .ok (.ifCond .gt 26, 3) := by decide +kernel
theorem dX0_free_213 : decode cX0_free 213 = .ok (.iload 6, 2) := by decide +kernel
theorem dX0_free_215 : decode cX0_free 215 = .ok (.ifCond .ne 25, 3) := by decide +kernel
theorem dX0_free_218 : decode cX0_free 218 = .ok (.aload_n 0, 1) := by decide +kernel
theorem dX0_free_219 : decode cX0_free 219 = .ok (.getfield 45, 3) := by decide +kernel
theorem dX0_free_222 : decode cX0_free 222 = .ok (.iload 5, 2) := by decide +kernel
theorem dX0_free_224 : decode cX0_free 224 = .ok (.laload, 1) := by decide +kernel
theorem dX0_free_225 : decode cX0_free 225 = .ok (.aload_n 0, 1) := by decide +kernel
theorem dX0_free_226 : decode cX0_free 226 = .ok (.getfield 45, 3) := by decide +kernel
theorem dX0_free_229 : decode cX0_free 229 = .ok (.iload 4, 2) := by decide +kernel
theorem dX0_free_231 : decode cX0_free 231 = .ok (.laload, 1) := by decide +kernel
theorem dX0_free_232 : decode cX0_free 232 = .ok (.lcmp, 1) := by decide +kernel
theorem dX0_free_233 : decode cX0_free 233 = .ok (.ifCond .ge 7, 3) := by decide +kernel
theorem dX0_free_236 : decode cX0_free 236 = .ok (.iload 5, 2) := by decide +kernel
theorem dX0_free_238 : decode cX0_free 238 = .ok (.istore 4, 2) := by decide +kernel
theorem dX0_free_240 : decode cX0_free 240 = .ok (.iinc 5 1, 3) := by decide +kernel
theorem dX0_free_243 : decode cX0_free 243 = .ok (.goto (-151), 3) := by decide +kernel
theorem dX0_free_246 : decode cX0_free 246 = .ok (.iconst 0, 1) := by decide +kernel
theorem dX0_free_247 : decode cX0_free 247 = .ok (.istore 5, 2) := by decide +kernel
theorem dX0_free_249 : decode cX0_free 249 = .ok (.iconst 0, 1) := by decide +kernel
theorem dX0_free_250 : decode cX0_free 250 = .ok (.istore 6, 2) := by decide +kernel
theorem dX0_free_252 : decode cX0_free 252 = .ok (.iload 6, 2) := by decide +kernel
theorem dX0_free_254 : decode cX0_free 254 = .ok (.iload_n 3, 1) := by decide +kernel
theorem dX0_free_255 : decode cX0_free 255 = .ok (.if_icmp .ge 34, 3) := by decide +kernel
theorem dX0_free_258 : decode cX0_free 258 = .ok (.iload 4, 2) := by decide +kernel
theorem dX0_free_260 : decode cX0_free 260 = .ok (.iload 6, 2) := by decide +kernel
theorem dX0_free_262 : decode cX0_free 262 = .ok (.ishr, 1) := by decide +kernel
theorem dX0_free_263 : decode cX0_free 263 = .ok (.iconst 1, 1) := by decide +kernel
theorem dX0_free_264 : decode cX0_free 264 = .ok (.iand, 1) := by decide +kernel
theorem dX0_free_265 : decode cX0_free 265 = .ok (.iconst 1, 1) := by decide +kernel
theorem dX0_free_266 : decode cX0_free 266 = .ok (.if_icmp .ne 17, 3) := by decide +kernel
theorem dX0_free_269 : decode cX0_free 269 = .ok (.iload 5, 2) := by decide +kernel
theorem dX0_free_271 : decode cX0_free 271 = .ok (.iconst 1, 1) := by decide +kernel
theorem dX0_free_272 : decode cX0_free 272 = .ok (.aload_n 0, 1) := by decide +kernel
theorem dX0_free_273 : decode cX0_free 273 = .ok (.getfield 48, 3) := by decide +kernel
theorem dX0_free_276 : decode cX0_free 276 = .ok (.iload 6, 2) := by decide +kernel
theorem dX0_free_278 : decode cX0_free 278 = .ok (.iaload, 1) := by decide +kernel
theorem dX0_free_279 : decode cX0_free 279 = .ok (.ishl, 1) := by decide +kernel
theorem dX0_free_280 : decode cX0_free 280 = .ok (.ior, 1) := by decide +kernel
theorem dX0_free_281 : decode cX0_free 281 = .ok (.istore 5, 2) := by decide +kernel
theorem dX0_free_283 : decode cX0_free 283 = .ok (.iinc 6 1, 3) := by decide +kernel
theorem dX0_free_286 : decode cX0_free 286 = .ok (.goto (-34), 3) := by decide +kernel
theorem dX0_free_289 : decode cX0_free 289 = .ok (.iload_n 2, 1) := by decide +kernel
theorem dX0_free_290 : decode cX0_free 290 = .ok (.ifCond .ne 11, 3) := by decide +kernel
theorem dX0_free_293 : decode cX0_free 293 = .ok (.iload 4, 2) := by decide +kernel
theorem dX0_free_295 : decode cX0_free 295 = .ok (.invokestatic 460, 3) := by decide +kernel
theorem dX0_free_298 : decode cX0_free 298 = .ok (.goto 21, 3) := by decide +kernel
theorem dX0_free_301 : decode cX0_free 301 = .ok (.iload_n 2, 1) := by decide +kernel
theorem dX0_free_302 : decode cX0_free 302 = .ok (.iconst 1, 1) := by decide +kernel
theorem dX0_free_303 : decode cX0_free 303 = .ok (.if_icmp .ne 8, 3) := by decide +kernel
theorem dX0_free_306 : decode cX0_free 306 = .ok (.iload 5, 2) := by decide +kernel
theorem dX0_free_308 : decode cX0_free 308 = .ok (.goto 11, 3) := by decide +kernel
theorem dX0_free_311 : decode cX0_free 311 = .ok (.aload_n 0, 1) := by decide +kernel
theorem dX0_free_312 : decode cX0_free 312 = .ok (.getfield 45, 3) := by decide +kernel
theorem dX0_free_315 : decode cX0_free 315 = .ok (.iload 4, 2) := by decide +kernel
theorem dX0_free_317 : decode cX0_free 317 = .ok (.laload, 1) := by decide +kernel
theorem dX0_free_318 : decode cX0_free 318 = .ok (.l2i, 1) := by decide +kernel
theorem dX0_free_319 : decode cX0_free 319 = .ok (.ireturn, 1) := by decide +kernel
abbrev cX0_lacks : ByteArray := prog_1_method_61_code
def yX0_lacks : MethodName := ⟨RX0, "lacks", "(II)J"⟩
theorem dX0_lacks_0 : decode cX0_lacks 0 = .ok (.aload_n 0, 1) := by decide +kernel
theorem dX0_lacks_1 : decode cX0_lacks 1 = .ok (.aload_n 0, 1) := by decide +kernel
theorem dX0_lacks_2 : decode cX0_lacks 2 = .ok (.getfield 48, 3) := by decide +kernel
theorem dX0_lacks_5 : decode cX0_lacks 5 = .ok (.iload_n 2, 1) := by decide +kernel
theorem dX0_lacks_6 : decode cX0_lacks 6 = .ok (.iaload, 1) := by decide +kernel
theorem dX0_lacks_7 : decode cX0_lacks 7 = .ok (.invokevirtual 118, 3) := by decide +kernel
theorem dX0_lacks_10 : decode cX0_lacks 10 = .ok (.astore_n 3, 1) := by decide +kernel
theorem dX0_lacks_11 : decode cX0_lacks 11 = .ok (.aload_n 3, 1) := by decide +kernel
theorem dX0_lacks_12 : decode cX0_lacks 12 = .ok (.getfield 134, 3) := by decide +kernel
theorem dX0_lacks_15 : decode cX0_lacks 15 = .ok (.i2l, 1) := by decide +kernel
theorem dX0_lacks_16 : decode cX0_lacks 16 = .ok (.lstore 4, 2) := by decide +kernel
theorem dX0_lacks_18 : decode cX0_lacks 18 = .ok (.iconst 0, 1) := by decide +kernel
theorem dX0_lacks_19 : decode cX0_lacks 19 = .ok (.istore 6, 2) := by decide +kernel
theorem dX0_lacks_21 : decode cX0_lacks 21 = .ok (.iload 6, 2) := by decide +kernel
theorem dX0_lacks_23 : decode cX0_lacks 23 = .ok (.bipush 8, 2) := by decide +kernel
theorem dX0_lacks_25 : decode cX0_lacks 25 = .ok (.if_icmp .ge 40, 3) := by decide +kernel
theorem dX0_lacks_28 : decode cX0_lacks 28 = .ok (.iload_n 1, 1) := by decide +kernel
theorem dX0_lacks_29 : decode cX0_lacks 29 = .ok (.iload 6, 2) := by decide +kernel
theorem dX0_lacks_31 : decode cX0_lacks 31 = .ok (.ishr, 1) := by decide +kernel
theorem dX0_lacks_32 : decode cX0_lacks 32 = .ok (.iconst 1, 1) := by decide +kernel
theorem dX0_lacks_33 : decode cX0_lacks 33 = .ok (.iand, 1) := by decide +kernel
theorem dX0_lacks_34 : decode cX0_lacks 34 = .ok (.iconst 1, 1) := by decide +kernel
theorem dX0_lacks_35 : decode cX0_lacks 35 = .ok (.if_icmp .ne 24, 3) := by decide +kernel
theorem dX0_lacks_38 : decode cX0_lacks 38 = .ok (.lload 4, 2) := by decide +kernel
theorem dX0_lacks_40 : decode cX0_lacks 40 = .ok (.aload_n 0, 1) := by decide +kernel
theorem dX0_lacks_41 : decode cX0_lacks 41 = .ok (.aload_n 0, 1) := by decide +kernel
theorem dX0_lacks_42 : decode cX0_lacks 42 = .ok (.getfield 48, 3) := by decide +kernel
theorem dX0_lacks_45 : decode cX0_lacks 45 = .ok (.iload 6, 2) := by decide +kernel
theorem dX0_lacks_47 : decode cX0_lacks 47 = .ok (.iaload, 1) := by decide +kernel
theorem dX0_lacks_48 : decode cX0_lacks 48 = .ok (.aload_n 3, 1) := by decide +kernel
theorem dX0_lacks_49 : decode cX0_lacks 49 = .ok (.getfield 256, 3) := by decide +kernel
theorem dX0_lacks_52 : decode cX0_lacks 52 = .ok (.invokevirtual 443, 3) := by decide +kernel
theorem dX0_lacks_55 : decode cX0_lacks 55 = .ok (.i2l, 1) := by decide +kernel
theorem dX0_lacks_56 : decode cX0_lacks 56 = .ok (.ladd, 1) := by decide +kernel
theorem dX0_lacks_57 : decode cX0_lacks 57 = .ok (.lstore 4, 2) := by decide +kernel
theorem dX0_lacks_59 : decode cX0_lacks 59 = .ok (.iinc 6 1, 3) := by decide +kernel
theorem dX0_lacks_62 : decode cX0_lacks 62 = .ok (.goto (-41), 3) := by decide +kernel
theorem dX0_lacks_65 : decode cX0_lacks 65 = .ok (.lconst 0, 1) := by decide +kernel
theorem dX0_lacks_66 : decode cX0_lacks 66 = .ok (.aload_n 0, 1) := by decide +kernel
theorem dX0_lacks_67 : decode cX0_lacks 67 = .ok (.aload_n 3, 1) := by decide +kernel
theorem dX0_lacks_68 : decode cX0_lacks 68 = .ok (.getfield 256, 3) := by decide +kernel
theorem dX0_lacks_71 : decode cX0_lacks 71 = .ok (.invokevirtual 362, 3) := by decide +kernel
theorem dX0_lacks_74 : decode cX0_lacks 74 = .ok (.i2l, 1) := by decide +kernel
theorem dX0_lacks_75 : decode cX0_lacks 75 = .ok (.aload_n 3, 1) := by decide +kernel
theorem dX0_lacks_76 : decode cX0_lacks 76 = .ok (.getfield 329, 3) := by decide +kernel
theorem dX0_lacks_79 : decode cX0_lacks 79 = .ok (.i2l, 1) := by decide +kernel
theorem dX0_lacks_80 : decode cX0_lacks 80 = .ok (.ladd, 1) := by decide +kernel
theorem dX0_lacks_81 : decode cX0_lacks 81 = .ok (.lload 4, 2) := by decide +kernel
theorem dX0_lacks_83 : decode cX0_lacks 83 = .ok (.lsub, 1) := by decide +kernel
theorem dX0_lacks_84 : decode cX0_lacks 84 = .ok (.invokestatic 446, 3) := by decide +kernel
theorem dX0_lacks_87 : decode cX0_lacks 87 = .ok (.lreturn, 1) := by decide +kernel
abbrev cX0_dueTo : ByteArray := prog_1_method_60_code
def yX0_dueTo : MethodName := ⟨RX0, "dueTo", "(II)I"⟩
theorem dX0_dueTo_0 : decode cX0_dueTo 0 = .ok (.iconst 0, 1) := by decide +kernel
theorem dX0_dueTo_1 : decode cX0_dueTo 1 = .ok (.istore_n 3, 1) := by decide +kernel
theorem dX0_dueTo_2 : decode cX0_dueTo 2 = .ok (.iconst 0, 1) := by decide +kernel
theorem dX0_dueTo_3 : decode cX0_dueTo 3 = .ok (.istore 4, 2) := by decide +kernel
theorem dX0_dueTo_5 : decode cX0_dueTo 5 = .ok (.iload 4, 2) := by decide +kernel
theorem dX0_dueTo_7 : decode cX0_dueTo 7 = .ok (.aload_n 0, 1) := by decide +kernel
theorem dX0_dueTo_8 : decode cX0_dueTo 8 = .ok (.getfield 10, 3) := by decide +kernel
theorem dX0_dueTo_11 : decode cX0_dueTo 11 = .ok (.getfield 63, 3) := by decide +kernel
theorem dX0_dueTo_14 : decode cX0_dueTo 14 = .ok (.invokevirtual 68, 3) := by decide +kernel
theorem dX0_dueTo_17 : decode cX0_dueTo 17 = .ok (.if_icmp .ge 48, 3) := by decide +kernel
theorem dX0_dueTo_20 : decode cX0_dueTo 20 = .ok (.iload_n 3, 1) := by decide +kernel
theorem dX0_dueTo_21 : decode cX0_dueTo 21 = .ok (.aload_n 0, 1) := by decide +kernel
theorem dX0_dueTo_22 : decode cX0_dueTo 22 = .ok (.iload 4, 2) := by decide +kernel
theorem dX0_dueTo_24 : decode cX0_dueTo 24 = .ok (.invokevirtual 80, 3) := by decide +kernel
theorem dX0_dueTo_27 : decode cX0_dueTo 27 = .ok (.getfield 128, 3) := by decide +kernel
theorem dX0_dueTo_30 : decode cX0_dueTo 30 = .ok (.iload_n 1, 1) := by decide +kernel
theorem dX0_dueTo_31 : decode cX0_dueTo 31 = .ok (.if_icmp .ne 25, 3) := by decide +kernel
theorem dX0_dueTo_34 : decode cX0_dueTo 34 = .ok (.aload_n 0, 1) := by decide +kernel
theorem dX0_dueTo_35 : decode cX0_dueTo 35 = .ok (.iload 4, 2) := by decide +kernel
theorem dX0_dueTo_37 : decode cX0_dueTo 37 = .ok (.invokevirtual 80, 3) := by decide +kernel
theorem dX0_dueTo_40 : decode cX0_dueTo 40 = .ok (.getfield 131, 3) := by decide +kernel
theorem dX0_dueTo_43 : decode cX0_dueTo 43 = .ok (.iload_n 2, 1) := by decide +kernel
theorem dX0_dueTo_44 : decode cX0_dueTo 44 = .ok (.if_icmp .ne 12, 3) := by decide +kernel
theorem dX0_dueTo_47 : decode cX0_dueTo 47 = .ok (.aload_n 0, 1) := by decide +kernel
theorem dX0_dueTo_48 : decode cX0_dueTo 48 = .ok (.iload 4, 2) := by decide +kernel
theorem dX0_dueTo_50 : decode cX0_dueTo 50 = .ok (.invokevirtual 117, 3) := by decide +kernel
theorem dX0_dueTo_53 : decode cX0_dueTo 53 = .ok (.goto 4, 3) := by decide +kernel
theorem dX0_dueTo_56 : decode cX0_dueTo 56 = .ok (.iconst 0, 1) := by decide +kernel
theorem dX0_dueTo_57 : decode cX0_dueTo 57 = .ok (.iadd, 1) := by decide +kernel
theorem dX0_dueTo_58 : decode cX0_dueTo 58 = .ok (.istore_n 3, 1) := by decide +kernel
theorem dX0_dueTo_59 : decode cX0_dueTo 59 = .ok (.iinc 4 1, 3) := by decide +kernel
theorem dX0_dueTo_62 : decode cX0_dueTo 62 = .ok (.goto (-57), 3) := by decide +kernel
theorem dX0_dueTo_65 : decode cX0_dueTo 65 = .ok (.iload_n 3, 1) := by decide +kernel
theorem dX0_dueTo_66 : decode cX0_dueTo 66 = .ok (.ireturn, 1) := by decide +kernel
abbrev cX0_count : ByteArray := prog_1_method_63_code
def yX0_count : MethodName := ⟨RX0, "count", "(I)I"⟩
theorem dX0_count_0 : decode cX0_count 0 = .ok (.iconst 0, 1) := by decide +kernel
theorem dX0_count_1 : decode cX0_count 1 = .ok (.istore_n 2, 1) := by decide +kernel
theorem dX0_count_2 : decode cX0_count 2 = .ok (.iconst 0, 1) := by decide +kernel
theorem dX0_count_3 : decode cX0_count 3 = .ok (.istore_n 3, 1) := by decide +kernel
theorem dX0_count_4 : decode cX0_count 4 = .ok (.iconst 0, 1) := by decide +kernel
theorem dX0_count_5 : decode cX0_count 5 = .ok (.istore 4, 2) := by decide +kernel
theorem dX0_count_7 : decode cX0_count 7 = .ok (.iconst 0, 1) := by decide +kernel
theorem dX0_count_8 : decode cX0_count 8 = .ok (.istore 5, 2) := by decide +kernel
theorem dX0_count_10 : decode cX0_count 10 = .ok (.iconst 0, 1) := by decide +kernel
theorem dX0_count_11 : decode cX0_count 11 = .ok (.istore 6, 2) := by decide +kernel
theorem dX0_count_13 : decode cX0_count 13 = .ok (.iload 6, 2) := by decide +kernel
theorem dX0_count_15 : decode cX0_count 15 = .ok (.aload_n 0, 1) := by decide +kernel
theorem dX0_count_16 : decode cX0_count 16 = .ok (.getfield 10, 3) := by decide +kernel
theorem dX0_count_19 : decode cX0_count 19 = .ok (.getfield 63, 3) := by decide +kernel
theorem dX0_count_22 : decode cX0_count 22 = .ok (.invokevirtual 68, 3) := by decide +kernel
theorem dX0_count_25 : decode cX0_count 25 = .ok (.if_icmp .ge 40, 3) := by decide +kernel
theorem dX0_count_28 : decode cX0_count 28 = .ok (.iload_n 2, 1) := by decide +kernel
theorem dX0_count_29 : decode cX0_count 29 = .ok (.aload_n 0, 1) := by decide +kernel
theorem dX0_count_30 : decode cX0_count 30 = .ok (.iload 6, 2) := by decide +kernel
theorem dX0_count_32 : decode cX0_count 32 = .ok (.invokevirtual 80, 3) := by decide +kernel
theorem dX0_count_35 : decode cX0_count 35 = .ok (.invokevirtual 84, 3) := by decide +kernel
theorem dX0_count_38 : decode cX0_count 38 = .ok (.ifCond .eq 7, 3) := by decide +kernel
theorem dX0_count_41 : decode cX0_count 41 = .ok (.iconst 1, 1) := by decide +kernel
theorem dX0_count_42 : decode cX0_count 42 = .ok (.goto 4, 3) := by decide +kernel
theorem dX0_count_45 : decode cX0_count 45 = .ok (.iconst 0, 1) := by decide +kernel
theorem dX0_count_46 : decode cX0_count 46 = .ok (.iadd, 1) := by decide +kernel
theorem dX0_count_47 : decode cX0_count 47 = .ok (.istore_n 2, 1) := by decide +kernel
theorem dX0_count_48 : decode cX0_count 48 = .ok (.iload 5, 2) := by decide +kernel
theorem dX0_count_50 : decode cX0_count 50 = .ok (.aload_n 0, 1) := by decide +kernel
theorem dX0_count_51 : decode cX0_count 51 = .ok (.iload 6, 2) := by decide +kernel
theorem dX0_count_53 : decode cX0_count 53 = .ok (.invokevirtual 117, 3) := by decide +kernel
theorem dX0_count_56 : decode cX0_count 56 = .ok (.iadd, 1) := by decide +kernel
theorem dX0_count_57 : decode cX0_count 57 = .ok (.istore 5, 2) := by decide +kernel
theorem dX0_count_59 : decode cX0_count 59 = .ok (.iinc 6 1, 3) := by decide +kernel
theorem dX0_count_62 : decode cX0_count 62 = .ok (.goto (-49), 3) := by decide +kernel
theorem dX0_count_65 : decode cX0_count 65 = .ok (.iconst 0, 1) := by decide +kernel
theorem dX0_count_66 : decode cX0_count 66 = .ok (.istore 6, 2) := by decide +kernel
theorem dX0_count_68 : decode cX0_count 68 = .ok (.iload 6, 2) := by decide +kernel
theorem dX0_count_70 : decode cX0_count 70 = .ok (.aload_n 0, 1) := by decide +kernel
theorem dX0_count_71 : decode cX0_count 71 = .ok (.getfield 10, 3) := by decide +kernel
theorem dX0_count_74 : decode cX0_count 74 = .ok (.getfield 51, 3) := by decide +kernel
theorem dX0_count_77 : decode cX0_count 77 = .ok (.invokevirtual 68, 3) := by decide +kernel
theorem dX0_count_80 : decode cX0_count 80 = .ok (.if_icmp .ge 43, 3) := by decide +kernel
theorem dX0_count_83 : decode cX0_count 83 = .ok (.iload_n 3, 1) := by decide +kernel
theorem dX0_count_84 : decode cX0_count 84 = .ok (.aload_n 0, 1) := by decide +kernel
theorem dX0_count_85 : decode cX0_count 85 = .ok (.iload 6, 2) := by decide +kernel
theorem dX0_count_87 : decode cX0_count 87 = .ok (.invokevirtual 118, 3) := by decide +kernel
theorem dX0_count_90 : decode cX0_count 90 = .ok (.invokevirtual 275, 3) := by decide +kernel
theorem dX0_count_93 : decode cX0_count 93 = .ok (.ifCond .eq 7, 3) := by decide +kernel
theorem dX0_count_96 : decode cX0_count 96 = .ok (.iconst 1, 1) := by decide +kernel
theorem dX0_count_97 : decode cX0_count 97 = .ok (.goto 4, 3) := by decide +kernel
theorem dX0_count_100 : decode cX0_count 100 = .ok (.iconst 0, 1) := by decide +kernel
theorem dX0_count_101 : decode cX0_count 101 = .ok (.iadd, 1) := by decide +kernel
theorem dX0_count_102 : decode cX0_count 102 = .ok (.istore_n 3, 1) := by decide +kernel
theorem dX0_count_103 : decode cX0_count 103 = .ok (.iload 4, 2) := by decide +kernel
theorem dX0_count_105 : decode cX0_count 105 = .ok (.aload_n 0, 1) := by decide +kernel
theorem dX0_count_106 : decode cX0_count 106 = .ok (.iload 6, 2) := by decide +kernel
theorem dX0_count_108 : decode cX0_count 108 = .ok (.invokevirtual 118, 3) := by decide +kernel
theorem dX0_count_111 : decode cX0_count 111 = .ok (.getfield 134, 3) := by decide +kernel
theorem dX0_count_114 : decode cX0_count 114 = .ok (.iadd, 1) := by decide +kernel
theorem dX0_count_115 : decode cX0_count 115 = .ok (.istore 4, 2) := by decide +kernel
theorem dX0_count_117 : decode cX0_count 117 = .ok (.iinc 6 1, 3) := by decide +kernel
theorem dX0_count_120 : decode cX0_count 120 = .ok (.goto (-52), 3) := by decide +kernel
theorem dX0_count_123 : decode cX0_count 123 = .ok (.iload_n 1, 1) := by decide +kernel
theorem dX0_count_124 : decode cX0_count 124 = .ok (.tableswitch 144 0 11 #[64, 75, 86, 88, 99, 107, 115, 117, 125, 133, 136, 139], 64) := by decide +kernel
theorem dX0_count_188 : decode cX0_count 188 = .ok (.aload_n 0, 1) := by decide +kernel
theorem dX0_count_189 : decode cX0_count 189 = .ok (.getfield 10, 3) := by decide +kernel
theorem dX0_count_192 : decode cX0_count 192 = .ok (.getfield 51, 3) := by decide +kernel
theorem dX0_count_195 : decode cX0_count 195 = .ok (.invokevirtual 68, 3) := by decide +kernel
theorem dX0_count_198 : decode cX0_count 198 = .ok (.ireturn, 1) := by decide +kernel
theorem dX0_count_199 : decode cX0_count 199 = .ok (.aload_n 0, 1) := by decide +kernel
theorem dX0_count_200 : decode cX0_count 200 = .ok (.getfield 10, 3) := by decide +kernel
theorem dX0_count_203 : decode cX0_count 203 = .ok (.getfield 63, 3) := by decide +kernel
theorem dX0_count_206 : decode cX0_count 206 = .ok (.invokevirtual 68, 3) := by decide +kernel
theorem dX0_count_209 : decode cX0_count 209 = .ok (.ireturn, 1) := by decide +kernel
theorem dX0_count_210 : decode cX0_count 210 = .ok (.iload_n 2, 1) := by decide +kernel
theorem dX0_count_211 : decode cX0_count 211 = .ok (.ireturn, 1) := by decide +kernel
theorem dX0_count_212 : decode cX0_count 212 = .ok (.aload_n 0, 1) := by decide +kernel
theorem dX0_count_213 : decode cX0_count 213 = .ok (.getfield 10, 3) := by decide +kernel
theorem dX0_count_216 : decode cX0_count 216 = .ok (.getfield 221, 3) := by decide +kernel
theorem dX0_count_219 : decode cX0_count 219 = .ok (.invokevirtual 68, 3) := by decide +kernel
theorem dX0_count_222 : decode cX0_count 222 = .ok (.ireturn, 1) := by decide +kernel
theorem dX0_count_223 : decode cX0_count 223 = .ok (.aload_n 0, 1) := by decide +kernel
theorem dX0_count_224 : decode cX0_count 224 = .ok (.getfield 10, 3) := by decide +kernel
theorem dX0_count_227 : decode cX0_count 227 = .ok (.getfield 88, 3) := by decide +kernel
theorem dX0_count_230 : decode cX0_count 230 = .ok (.ireturn, 1) := by decide +kernel
theorem dX0_count_231 : decode cX0_count 231 = .ok (.aload_n 0, 1) := by decide +kernel
theorem dX0_count_232 : decode cX0_count 232 = .ok (.getfield 10, 3) := by decide +kernel
theorem dX0_count_235 : decode cX0_count 235 = .ok (.getfield 294, 3) := by decide +kernel
theorem dX0_count_238 : decode cX0_count 238 = .ok (.ireturn, 1) := by decide +kernel
theorem dX0_count_239 : decode cX0_count 239 = .ok (.iload_n 3, 1) := by decide +kernel
theorem dX0_count_240 : decode cX0_count 240 = .ok (.ireturn, 1) := by decide +kernel
theorem dX0_count_241 : decode cX0_count 241 = .ok (.aload_n 0, 1) := by decide +kernel
theorem dX0_count_242 : decode cX0_count 242 = .ok (.getfield 10, 3) := by decide +kernel
theorem dX0_count_245 : decode cX0_count 245 = .ok (.getfield 190, 3) := by decide +kernel
theorem dX0_count_248 : decode cX0_count 248 = .ok (.ireturn, 1) := by decide +kernel
theorem dX0_count_249 : decode cX0_count 249 = .ok (.aload_n 0, 1) := by decide +kernel
theorem dX0_count_250 : decode cX0_count 250 = .ok (.getfield 10, 3) := by decide +kernel
theorem dX0_count_253 : decode cX0_count 253 = .ok (.getfield 340, 3) := by decide +kernel
theorem dX0_count_256 : decode cX0_count 256 = .ok (.ireturn, 1) := by decide +kernel
theorem dX0_count_257 : decode cX0_count 257 = .ok (.iload 4, 2) := by decide +kernel
theorem dX0_count_259 : decode cX0_count 259 = .ok (.ireturn, 1) := by decide +kernel
theorem dX0_count_260 : decode cX0_count 260 = .ok (.iload 5, 2) := by decide +kernel
theorem dX0_count_262 : decode cX0_count 262 = .ok (.ireturn, 1) := by decide +kernel
theorem dX0_count_263 : decode cX0_count 263 = .ok (.aload_n 0, 1) := by decide +kernel
theorem dX0_count_264 : decode cX0_count 264 = .ok (.invokevirtual 438, 3) := by decide +kernel
theorem dX0_count_267 : decode cX0_count 267 = .ok (.ireturn, 1) := by decide +kernel
theorem dX0_count_268 : decode cX0_count 268 = .ok (.iconst (-1), 1) := by decide +kernel
theorem dX0_count_269 : decode cX0_count 269 = .ok (.ireturn, 1) := by decide +kernel
abbrev cX0_image : ByteArray := prog_1_method_64_code
def yX0_image : MethodName := ⟨RX0, "image", "(I)Z"⟩
theorem dX0_image_0 : decode cX0_image 0 = .ok (.iload_n 1, 1) := by decide +kernel
theorem dX0_image_1 : decode cX0_image 1 = .ok (.iconst 0, 1) := by decide +kernel
theorem dX0_image_2 : decode cX0_image 2 = .ok (.iconst 2, 1) := by decide +kernel
theorem dX0_image_3 : decode cX0_image 3 = .ok (.invokestatic 72, 3) := by decide +kernel
theorem dX0_image_6 : decode cX0_image 6 = .ok (.ifCond .ne 5, 3) := by decide +kernel
theorem dX0_image_9 : decode cX0_image 9 = .ok (.iconst 0, 1) := by decide +kernel
theorem dX0_image_10 : decode cX0_image 10 = .ok (.ireturn, 1) := by decide +kernel
theorem dX0_image_11 : decode cX0_image 11 = .ok (.aload_n 0, 1) := by decide +kernel
theorem dX0_image_12 : decode cX0_image 12 = .ok (.getfield 16, 3) := by decide +kernel
theorem dX0_image_15 : decode cX0_image 15 = .ok (.iload_n 1, 1) := by decide +kernel
theorem dX0_image_16 : decode cX0_image 16 = .ok (.aaload, 1) := by decide +kernel
theorem dX0_image_17 : decode cX0_image 17 = .ok (.ifnonnull 16, 3) := by decide +kernel
theorem dX0_image_20 : decode cX0_image 20 = .ok (.aload_n 0, 1) := by decide +kernel
theorem dX0_image_21 : decode cX0_image 21 = .ok (.getfield 16, 3) := by decide +kernel
theorem dX0_image_24 : decode cX0_image 24 = .ok (.iload_n 1, 1) := by decide +kernel
theorem dX0_image_25 : decode cX0_image 25 = .ok (.new 7, 3) := by decide +kernel
theorem dX0_image_28 : decode cX0_image 28 = .ok (.dup, 1) := by decide +kernel
theorem dX0_image_29 : decode cX0_image 29 = .ok (.invokespecial 9, 3) := by decide +kernel
theorem dX0_image_32 : decode cX0_image 32 = .ok (.aastore, 1) := by decide +kernel
theorem dX0_image_33 : decode cX0_image 33 = .ok (.aload_n 0, 1) := by decide +kernel
theorem dX0_image_34 : decode cX0_image 34 = .ok (.getfield 16, 3) := by decide +kernel
theorem dX0_image_37 : decode cX0_image 37 = .ok (.iload_n 1, 1) := by decide +kernel
theorem dX0_image_38 : decode cX0_image 38 = .ok (.aaload, 1) := by decide +kernel
theorem dX0_image_39 : decode cX0_image 39 = .ok (.aload_n 0, 1) := by decide +kernel
theorem dX0_image_40 : decode cX0_image 40 = .ok (.getfield 10, 3) := by decide +kernel
theorem dX0_image_43 : decode cX0_image 43 = .ok (.invokevirtual 465, 3) := by decide +kernel
theorem dX0_image_46 : decode cX0_image 46 = .ok (.iconst 1, 1) := by decide +kernel
theorem dX0_image_47 : decode cX0_image 47 = .ok (.ireturn, 1) := by decide +kernel
abbrev cX0_again : ByteArray := prog_1_method_65_code
def yX0_again : MethodName := ⟨RX0, "again", "(I)Z"⟩
theorem dX0_again_0 : decode cX0_again 0 = .ok (.iload_n 1, 1) := by decide +kernel
theorem dX0_again_1 : decode cX0_again 1 = .ok (.iconst 0, 1) := by decide +kernel
theorem dX0_again_2 : decode cX0_again 2 = .ok (.iconst 2, 1) := by decide +kernel
theorem dX0_again_3 : decode cX0_again 3 = .ok (.invokestatic 72, 3) := by decide +kernel
theorem dX0_again_6 : decode cX0_again 6 = .ok (.ifCond .eq 12, 3) := by decide +kernel
theorem dX0_again_9 : decode cX0_again 9 = .ok (.aload_n 0, 1) := by decide +kernel
theorem dX0_again_10 : decode cX0_again 10 = .ok (.getfield 16, 3) := by decide +kernel
theorem dX0_again_13 : decode cX0_again 13 = .ok (.iload_n 1, 1) := by decide +kernel
theorem dX0_again_14 : decode cX0_again 14 = .ok (.aaload, 1) := by decide +kernel
theorem dX0_again_15 : decode cX0_again 15 = .ok (.ifnonnull 5, 3) := by decide +kernel
theorem dX0_again_18 : decode cX0_again 18 = .ok (.iconst 0, 1) := by decide +kernel
theorem dX0_again_19 : decode cX0_again 19 = .ok (.ireturn, 1) := by decide +kernel
theorem dX0_again_20 : decode cX0_again 20 = .ok (.aload_n 0, 1) := by decide +kernel
theorem dX0_again_21 : decode cX0_again 21 = .ok (.getfield 10, 3) := by decide +kernel
theorem dX0_again_24 : decode cX0_again 24 = .ok (.aload_n 0, 1) := by decide +kernel
theorem dX0_again_25 : decode cX0_again 25 = .ok (.getfield 16, 3) := by decide +kernel
theorem dX0_again_28 : decode cX0_again 28 = .ok (.iload_n 1, 1) := by decide +kernel
theorem dX0_again_29 : decode cX0_again 29 = .ok (.aaload, 1) := by decide +kernel
theorem dX0_again_30 : decode cX0_again 30 = .ok (.invokevirtual 465, 3) := by decide +kernel
theorem dX0_again_33 : decode cX0_again 33 = .ok (.iconst 1, 1) := by decide +kernel
theorem dX0_again_34 : decode cX0_again 34 = .ok (.ireturn, 1) := by decide +kernel
theorem q81 : (Jvm.Cond.initialized "DebtorsHouse") ∈ lw_all := lw_g (lw_at lw_m1 1 rfl) rfl
theorem q115 : (Jvm.Cond.instantiable "DebtorsHouse" (10 : Nat)) ∈ lw_all := lw_g (lw_at lw_m1 35 rfl) rfl
theorem q117 : (Jvm.Cond.instanceMethod ({ cls := "DebtorsHouse", name := "<init>", desc := "()V" } : Jvm.MethodName)) ∈ lw_all := lw_g (lw_at lw_m1 37 rfl) rfl
theorem q118 : (Jvm.Cond.code ({ cls := "DebtorsHouse", name := "<init>", desc := "()V" } : Jvm.MethodName) prog_1_method_2_code (1 : Nat) (Option.none : Option Jvm.ClassFile.FieldType)) ∈ lw_all := lw_g (lw_at lw_m1 38 rfl) rfl
theorem q119 : (Jvm.Cond.methodLink "DebtorsHouse" (1 : Nat) ({ cls := "java/lang/Object", name := "<init>", desc := "()V" } : Jvm.MethodName)) ∈ lw_all := lw_g (lw_at lw_m1 39 rfl) rfl
theorem q122 : (Jvm.Cond.classLink "DebtorsHouse" (7 : Nat) "DebtorsHouse$State") ∈ lw_all := lw_g (lw_at lw_m1 42 rfl) rfl
theorem q124 : (Jvm.Cond.methodLink "DebtorsHouse" (9 : Nat) ({ cls := "DebtorsHouse$State", name := "<init>", desc := "()V" } : Jvm.MethodName)) ∈ lw_all := lw_g (lw_at lw_m1 44 rfl) rfl
theorem q163 : (Jvm.Cond.fieldLinkNest "DebtorsHouse" (211 : Nat) "DebtorsHouse$State" "tape" "[B" "DebtorsHouse") ∈ lw_tbl := lw_at lw_m1 83 rfl
theorem q165 : (Jvm.Cond.fieldLinkNest "DebtorsHouse" (208 : Nat) "DebtorsHouse$State" "taped" "I" "DebtorsHouse") ∈ lw_tbl := lw_at lw_m1 85 rfl
theorem q167 : (Jvm.Cond.fieldLinkNest "DebtorsHouse" (215 : Nat) "DebtorsHouse$State" "faultKind" "I" "DebtorsHouse") ∈ lw_tbl := lw_at lw_m1 87 rfl
theorem q169 : (Jvm.Cond.fieldLinkNest "DebtorsHouse" (218 : Nat) "DebtorsHouse$State" "faultPlace" "I" "DebtorsHouse") ∈ lw_tbl := lw_at lw_m1 89 rfl
theorem q171 : (Jvm.Cond.fieldLinkNest "DebtorsHouse" (88 : Nat) "DebtorsHouse$State" "day" "I" "DebtorsHouse") ∈ lw_tbl := lw_at lw_m1 91 rfl
theorem q173 : (Jvm.Cond.fieldLinkNest "DebtorsHouse" (294 : Nat) "DebtorsHouse$State" "hour" "I" "DebtorsHouse") ∈ lw_tbl := lw_at lw_m1 93 rfl
theorem q175 : (Jvm.Cond.fieldLinkNest "DebtorsHouse" (340 : Nat) "DebtorsHouse$State" "fees" "I" "DebtorsHouse") ∈ lw_tbl := lw_at lw_m1 95 rfl
theorem q177 : (Jvm.Cond.fieldLinkNest "DebtorsHouse" (190 : Nat) "DebtorsHouse$State" "many" "I" "DebtorsHouse") ∈ lw_tbl := lw_at lw_m1 97 rfl
theorem q179 : (Jvm.Cond.fieldLinkNest "DebtorsHouse" (51 : Nat) "DebtorsHouse$State" "persons" "Ljava/util/ArrayList;" "DebtorsHouse") ∈ lw_tbl := lw_at lw_m1 99 rfl
theorem q181 : (Jvm.Cond.fieldLinkNest "DebtorsHouse" (63 : Nat) "DebtorsHouse$State" "debts" "Ljava/util/ArrayList;" "DebtorsHouse") ∈ lw_tbl := lw_at lw_m1 101 rfl
theorem q183 : (Jvm.Cond.fieldLinkNest "DebtorsHouse" (221 : Nat) "DebtorsHouse$State" "acts" "Ljava/util/ArrayList;" "DebtorsHouse") ∈ lw_tbl := lw_at lw_m1 103 rfl
theorem q185 : (Jvm.Cond.fieldLinkNest "DebtorsHouse" (374 : Nat) "DebtorsHouse$State" "least" "[[I" "DebtorsHouse") ∈ lw_tbl := lw_at lw_m1 105 rfl
theorem q187 : (Jvm.Cond.fieldLinkNest "DebtorsHouse" (197 : Nat) "DebtorsHouse$State" "ring" "[I" "DebtorsHouse") ∈ lw_tbl := lw_at lw_m1 107 rfl
theorem q217 : (Jvm.Cond.fieldLink "DebtorsHouse" (20 : Nat) "DebtorsHouse" "ASKED" "[LDebtorsHouse$About;") ∈ lw_all := lw_g (lw_at lw_m1 137 rfl) rfl
theorem q218 : (Jvm.Cond.laysStatic "DebtorsHouse" "ASKED" "[LDebtorsHouse$About;") ∈ lw_tbl := lw_at lw_m1 138 rfl
theorem q219 : (Jvm.Cond.fieldLink "DebtorsHouse" (10 : Nat) "DebtorsHouse" "now" "LDebtorsHouse$State;") ∈ lw_all := lw_g (lw_at lw_m1 139 rfl) rfl
theorem q220 : (Jvm.Cond.fieldLink "DebtorsHouse" (16 : Nat) "DebtorsHouse" "kept" "[LDebtorsHouse$State;") ∈ lw_all := lw_g (lw_at lw_m1 140 rfl) rfl
theorem q221 : (Jvm.Cond.fieldLink "DebtorsHouse" (24 : Nat) "DebtorsHouse" "facts" "[I") ∈ lw_all := lw_g (lw_at lw_m1 141 rfl) rfl
theorem q222 : (Jvm.Cond.fieldLink "DebtorsHouse" (28 : Nat) "DebtorsHouse" "far" "[I") ∈ lw_all := lw_g (lw_at lw_m1 142 rfl) rfl
theorem q223 : (Jvm.Cond.fieldLink "DebtorsHouse" (31 : Nat) "DebtorsHouse" "worth" "[J") ∈ lw_all := lw_g (lw_at lw_m1 143 rfl) rfl
theorem q224 : (Jvm.Cond.fieldLink "DebtorsHouse" (35 : Nat) "DebtorsHouse" "votes" "[Z") ∈ lw_all := lw_g (lw_at lw_m1 144 rfl) rfl
theorem q225 : (Jvm.Cond.fieldLink "DebtorsHouse" (39 : Nat) "DebtorsHouse" "asks" "[I") ∈ lw_all := lw_g (lw_at lw_m1 145 rfl) rfl
theorem q226 : (Jvm.Cond.fieldLink "DebtorsHouse" (42 : Nat) "DebtorsHouse" "gets" "[I") ∈ lw_all := lw_g (lw_at lw_m1 146 rfl) rfl
theorem q227 : (Jvm.Cond.fieldLink "DebtorsHouse" (45 : Nat) "DebtorsHouse" "spent" "[J") ∈ lw_all := lw_g (lw_at lw_m1 147 rfl) rfl
theorem q228 : (Jvm.Cond.fieldLink "DebtorsHouse" (48 : Nat) "DebtorsHouse" "held" "[I") ∈ lw_all := lw_g (lw_at lw_m1 148 rfl) rfl
theorem q229 : (Jvm.Cond.laysFinal "DebtorsHouse" "DebtorsHouse" "now" "LDebtorsHouse$State;") ∈ lw_all := lw_g (lw_at lw_m1 149 rfl) rfl
theorem q230 : (Jvm.Cond.soleField "DebtorsHouse" "now") ∈ lw_all := lw_g (lw_at lw_m1 150 rfl) rfl
theorem q231 : (Jvm.Cond.laysFinal "DebtorsHouse" "DebtorsHouse" "kept" "[LDebtorsHouse$State;") ∈ lw_all := lw_g (lw_at lw_m1 151 rfl) rfl
theorem q232 : (Jvm.Cond.soleField "DebtorsHouse" "kept") ∈ lw_all := lw_g (lw_at lw_m1 152 rfl) rfl
theorem q233 : (Jvm.Cond.laysFinal "DebtorsHouse" "DebtorsHouse" "facts" "[I") ∈ lw_all := lw_g (lw_at lw_m1 153 rfl) rfl
theorem q234 : (Jvm.Cond.soleField "DebtorsHouse" "facts") ∈ lw_all := lw_g (lw_at lw_m1 154 rfl) rfl
theorem q235 : (Jvm.Cond.laysFinal "DebtorsHouse" "DebtorsHouse" "far" "[I") ∈ lw_all := lw_g (lw_at lw_m1 155 rfl) rfl
theorem q236 : (Jvm.Cond.soleField "DebtorsHouse" "far") ∈ lw_all := lw_g (lw_at lw_m1 156 rfl) rfl
theorem q237 : (Jvm.Cond.laysFinal "DebtorsHouse" "DebtorsHouse" "worth" "[J") ∈ lw_all := lw_g (lw_at lw_m1 157 rfl) rfl
theorem q238 : (Jvm.Cond.soleField "DebtorsHouse" "worth") ∈ lw_all := lw_g (lw_at lw_m1 158 rfl) rfl
theorem q239 : (Jvm.Cond.laysFinal "DebtorsHouse" "DebtorsHouse" "votes" "[Z") ∈ lw_all := lw_g (lw_at lw_m1 159 rfl) rfl
theorem q240 : (Jvm.Cond.soleField "DebtorsHouse" "votes") ∈ lw_all := lw_g (lw_at lw_m1 160 rfl) rfl
theorem q241 : (Jvm.Cond.laysFinal "DebtorsHouse" "DebtorsHouse" "asks" "[I") ∈ lw_all := lw_g (lw_at lw_m1 161 rfl) rfl
theorem q242 : (Jvm.Cond.soleField "DebtorsHouse" "asks") ∈ lw_all := lw_g (lw_at lw_m1 162 rfl) rfl
theorem q243 : (Jvm.Cond.laysFinal "DebtorsHouse" "DebtorsHouse" "gets" "[I") ∈ lw_all := lw_g (lw_at lw_m1 163 rfl) rfl
theorem q244 : (Jvm.Cond.soleField "DebtorsHouse" "gets") ∈ lw_all := lw_g (lw_at lw_m1 164 rfl) rfl
theorem q245 : (Jvm.Cond.laysFinal "DebtorsHouse" "DebtorsHouse" "spent" "[J") ∈ lw_all := lw_g (lw_at lw_m1 165 rfl) rfl
theorem q246 : (Jvm.Cond.soleField "DebtorsHouse" "spent") ∈ lw_all := lw_g (lw_at lw_m1 166 rfl) rfl
theorem q247 : (Jvm.Cond.laysFinal "DebtorsHouse" "DebtorsHouse" "held" "[I") ∈ lw_all := lw_g (lw_at lw_m1 167 rfl) rfl
theorem q248 : (Jvm.Cond.soleField "DebtorsHouse" "held") ∈ lw_all := lw_g (lw_at lw_m1 168 rfl) rfl
theorem q249 : (Jvm.Cond.superclass "DebtorsHouse" "java/lang/Object") ∈ lw_all := lw_g (lw_at lw_m1 169 rfl) rfl
theorem q253 : (Jvm.Cond.instanceMethod ({ cls := "DebtorsHouse", name := "person", desc := "(II)I" } : Jvm.MethodName)) ∈ lw_all := lw_g (lw_at lw_m1 173 rfl) rfl
theorem q254 : (Jvm.Cond.selects "DebtorsHouse" ({ cls := "DebtorsHouse", name := "person", desc := "(II)I" } : Jvm.MethodName) ({ cls := "DebtorsHouse", name := "person", desc := "(II)I" } : Jvm.MethodName)) ∈ lw_all := lw_g (lw_at lw_m1 174 rfl) rfl
theorem q255 : (Jvm.Cond.code ({ cls := "DebtorsHouse", name := "person", desc := "(II)I" } : Jvm.MethodName) prog_1_method_9_code (3 : Nat) (Option.some Jvm.ClassFile.FieldType.int)) ∈ lw_all := lw_g (lw_at lw_m1 175 rfl) rfl
theorem q256 : (Jvm.Cond.methodLink "DebtorsHouse" (68 : Nat) ({ cls := "java/util/ArrayList", name := "size", desc := "()I" } : Jvm.MethodName)) ∈ lw_all := lw_g (lw_at lw_m1 176 rfl) rfl
theorem q260 : (Jvm.Cond.constant "DebtorsHouse" (96 : Nat) (1000000 : Int32)) ∈ lw_all := lw_g (lw_at lw_m1 180 rfl) rfl
theorem q261 : (Jvm.Cond.methodLink "DebtorsHouse" (72 : Nat) ({ cls := "DebtorsHouse", name := "isIn", desc := "(III)Z" } : Jvm.MethodName)) ∈ lw_all := lw_g (lw_at lw_m1 181 rfl) rfl
theorem q262 : (Jvm.Cond.static ({ cls := "DebtorsHouse", name := "isIn", desc := "(III)Z" } : Jvm.MethodName)) ∈ lw_all := lw_g (lw_at lw_m1 182 rfl) rfl
theorem q263 : (Jvm.Cond.code ({ cls := "DebtorsHouse", name := "isIn", desc := "(III)Z" } : Jvm.MethodName) prog_1_method_1_code (3 : Nat) (Option.some Jvm.ClassFile.FieldType.boolean)) ∈ lw_all := lw_g (lw_at lw_m1 183 rfl) rfl
theorem q264 : (Jvm.Cond.classLink "DebtorsHouse" (61 : Nat) "DebtorsHouse$Person") ∈ lw_all := lw_g (lw_at lw_m1 184 rfl) rfl
theorem q266 : (Jvm.Cond.methodLink "DebtorsHouse" (97 : Nat) ({ cls := "DebtorsHouse$Person", name := "<init>", desc := "(III)V" } : Jvm.MethodName)) ∈ lw_all := lw_g (lw_at lw_m1 186 rfl) rfl
theorem q271 : (Jvm.Cond.fieldLinkNest "DebtorsHouse" (256 : Nat) "DebtorsHouse$Person" "number" "I" "DebtorsHouse") ∈ lw_tbl := lw_at lw_m1 191 rfl
theorem q273 : (Jvm.Cond.fieldLinkNest "DebtorsHouse" (282 : Nat) "DebtorsHouse$Person" "children" "I" "DebtorsHouse") ∈ lw_tbl := lw_at lw_m1 193 rfl
theorem q275 : (Jvm.Cond.fieldLinkNest "DebtorsHouse" (134 : Nat) "DebtorsHouse$Person" "coins" "I" "DebtorsHouse") ∈ lw_tbl := lw_at lw_m1 195 rfl
theorem q277 : (Jvm.Cond.fieldLinkNest "DebtorsHouse" (278 : Nat) "DebtorsHouse$Person" "since" "I" "DebtorsHouse") ∈ lw_tbl := lw_at lw_m1 197 rfl
theorem q279 : (Jvm.Cond.fieldLinkNest "DebtorsHouse" (288 : Nat) "DebtorsHouse$Person" "room" "I" "DebtorsHouse") ∈ lw_tbl := lw_at lw_m1 199 rfl
theorem q281 : (Jvm.Cond.fieldLinkNest "DebtorsHouse" (329 : Nat) "DebtorsHouse$Person" "fees" "I" "DebtorsHouse") ∈ lw_tbl := lw_at lw_m1 201 rfl
theorem q283 : (Jvm.Cond.fieldLinkNest "DebtorsHouse" (347 : Nat) "DebtorsHouse$Person" "late" "I" "DebtorsHouse") ∈ lw_tbl := lw_at lw_m1 203 rfl
theorem q285 : (Jvm.Cond.fieldLinkNest "DebtorsHouse" (350 : Nat) "DebtorsHouse$Person" "turns" "I" "DebtorsHouse") ∈ lw_tbl := lw_at lw_m1 205 rfl
theorem q287 : (Jvm.Cond.fieldLinkNest "DebtorsHouse" (356 : Nat) "DebtorsHouse$Person" "escaped" "I" "DebtorsHouse") ∈ lw_tbl := lw_at lw_m1 207 rfl
theorem q289 : (Jvm.Cond.fieldLinkNest "DebtorsHouse" (122 : Nat) "DebtorsHouse$Person" "detained" "I" "DebtorsHouse") ∈ lw_tbl := lw_at lw_m1 209 rfl
theorem q291 : (Jvm.Cond.fieldLinkNest "DebtorsHouse" (434 : Nat) "DebtorsHouse$Person" "rows" "I" "DebtorsHouse") ∈ lw_tbl := lw_at lw_m1 211 rfl
theorem q294 : (Jvm.Cond.fieldLinkNest "DebtorsHouse" (371 : Nat) "DebtorsHouse$Person" "least" "I" "DebtorsHouse") ∈ lw_tbl := lw_at lw_m1 214 rfl
theorem q296 : (Jvm.Cond.fieldLinkNest "DebtorsHouse" (337 : Nat) "DebtorsHouse$Person" "out" "Z" "DebtorsHouse") ∈ lw_tbl := lw_at lw_m1 216 rfl
theorem q298 : (Jvm.Cond.fieldLinkNest "DebtorsHouse" (368 : Nat) "DebtorsHouse$Person" "surrendered" "Z" "DebtorsHouse") ∈ lw_tbl := lw_at lw_m1 218 rfl
theorem q330 : (Jvm.Cond.methodLink "DebtorsHouse" (100 : Nat) ({ cls := "java/util/ArrayList", name := "add", desc := "(Ljava/lang/Object;)Z" } : Jvm.MethodName)) ∈ lw_all := lw_g (lw_at lw_m2 10 rfl) rfl
theorem q364 : (Jvm.Cond.selects "DebtorsHouse" ({ cls := "java/lang/Object", name := "getClass", desc := "()Ljava/lang/Class;" } : Jvm.MethodName) ({ cls := "java/lang/Object", name := "getClass", desc := "()Ljava/lang/Class;" } : Jvm.MethodName)) ∈ lw_all := lw_g (lw_at lw_m2 44 rfl) rfl
theorem q395 : (Jvm.Cond.instanceMethod ({ cls := "DebtorsHouse", name := "debt", desc := "(IIIIII)I" } : Jvm.MethodName)) ∈ lw_all := lw_g (lw_at lw_m2 75 rfl) rfl
theorem q396 : (Jvm.Cond.selects "DebtorsHouse" ({ cls := "DebtorsHouse", name := "debt", desc := "(IIIIII)I" } : Jvm.MethodName) ({ cls := "DebtorsHouse", name := "debt", desc := "(IIIIII)I" } : Jvm.MethodName)) ∈ lw_all := lw_g (lw_at lw_m2 76 rfl) rfl
theorem q397 : (Jvm.Cond.code ({ cls := "DebtorsHouse", name := "debt", desc := "(IIIIII)I" } : Jvm.MethodName) prog_1_method_10_code (7 : Nat) (Option.some Jvm.ClassFile.FieldType.int)) ∈ lw_all := lw_g (lw_at lw_m2 77 rfl) rfl
theorem q398 : (Jvm.Cond.methodLink "DebtorsHouse" (104 : Nat) ({ cls := "DebtorsHouse", name := "areTwo", desc := "(II)Z" } : Jvm.MethodName)) ∈ lw_all := lw_g (lw_at lw_m2 78 rfl) rfl
theorem q399 : (Jvm.Cond.privateMethod ({ cls := "DebtorsHouse", name := "areTwo", desc := "(II)Z" } : Jvm.MethodName)) ∈ lw_tbl := lw_at lw_m2 79 rfl
theorem q400 : (Jvm.Cond.instanceMethod ({ cls := "DebtorsHouse", name := "areTwo", desc := "(II)Z" } : Jvm.MethodName)) ∈ lw_all := lw_g (lw_at lw_m2 80 rfl) rfl
theorem q401 : (Jvm.Cond.code ({ cls := "DebtorsHouse", name := "areTwo", desc := "(II)Z" } : Jvm.MethodName) prog_1_method_6_code (3 : Nat) (Option.some Jvm.ClassFile.FieldType.boolean)) ∈ lw_all := lw_g (lw_at lw_m2 81 rfl) rfl
theorem q402 : (Jvm.Cond.methodLink "DebtorsHouse" (76 : Nat) ({ cls := "DebtorsHouse", name := "isPerson", desc := "(I)Z" } : Jvm.MethodName)) ∈ lw_all := lw_g (lw_at lw_m2 82 rfl) rfl
theorem q403 : (Jvm.Cond.privateMethod ({ cls := "DebtorsHouse", name := "isPerson", desc := "(I)Z" } : Jvm.MethodName)) ∈ lw_tbl := lw_at lw_m2 83 rfl
theorem q404 : (Jvm.Cond.instanceMethod ({ cls := "DebtorsHouse", name := "isPerson", desc := "(I)Z" } : Jvm.MethodName)) ∈ lw_all := lw_g (lw_at lw_m2 84 rfl) rfl
theorem q405 : (Jvm.Cond.code ({ cls := "DebtorsHouse", name := "isPerson", desc := "(I)Z" } : Jvm.MethodName) prog_1_method_5_code (2 : Nat) (Option.some Jvm.ClassFile.FieldType.boolean)) ∈ lw_all := lw_g (lw_at lw_m2 85 rfl) rfl
theorem q406 : (Jvm.Cond.constant "DebtorsHouse" (108 : Nat) (100000 : Int32)) ∈ lw_all := lw_g (lw_at lw_m2 86 rfl) rfl
theorem q407 : (Jvm.Cond.classLink "DebtorsHouse" (66 : Nat) "DebtorsHouse$Debt") ∈ lw_all := lw_g (lw_at lw_m2 87 rfl) rfl
theorem q409 : (Jvm.Cond.methodLink "DebtorsHouse" (109 : Nat) ({ cls := "DebtorsHouse$Debt", name := "<init>", desc := "(IIIIIIII)V" } : Jvm.MethodName)) ∈ lw_all := lw_g (lw_at lw_m2 89 rfl) rfl
theorem q417 : (Jvm.Cond.fieldLinkNest "DebtorsHouse" (128 : Nat) "DebtorsHouse$Debt" "debtor" "I" "DebtorsHouse") ∈ lw_tbl := lw_at lw_m2 97 rfl
theorem q419 : (Jvm.Cond.fieldLinkNest "DebtorsHouse" (144 : Nat) "DebtorsHouse$Debt" "sum" "I" "DebtorsHouse") ∈ lw_tbl := lw_at lw_m2 99 rfl
theorem q421 : (Jvm.Cond.fieldLinkNest "DebtorsHouse" (147 : Nat) "DebtorsHouse$Debt" "rank" "I" "DebtorsHouse") ∈ lw_tbl := lw_at lw_m2 101 rfl
theorem q423 : (Jvm.Cond.fieldLinkNest "DebtorsHouse" (150 : Nat) "DebtorsHouse$Debt" "rate" "I" "DebtorsHouse") ∈ lw_tbl := lw_at lw_m2 103 rfl
theorem q425 : (Jvm.Cond.fieldLinkNest "DebtorsHouse" (153 : Nat) "DebtorsHouse$Debt" "since" "I" "DebtorsHouse") ∈ lw_tbl := lw_at lw_m2 105 rfl
theorem q427 : (Jvm.Cond.fieldLinkNest "DebtorsHouse" (156 : Nat) "DebtorsHouse$Debt" "told" "I" "DebtorsHouse") ∈ lw_tbl := lw_at lw_m2 107 rfl
theorem q429 : (Jvm.Cond.fieldLinkNest "DebtorsHouse" (131 : Nat) "DebtorsHouse$Debt" "creditor" "I" "DebtorsHouse") ∈ lw_tbl := lw_at lw_m2 109 rfl
theorem q431 : (Jvm.Cond.fieldLinkNest "DebtorsHouse" (168 : Nat) "DebtorsHouse$Debt" "principal" "I" "DebtorsHouse") ∈ lw_tbl := lw_at lw_m2 111 rfl
theorem q434 : (Jvm.Cond.fieldLinkNest "DebtorsHouse" (114 : Nat) "DebtorsHouse$Debt" "costs" "I" "DebtorsHouse") ∈ lw_tbl := lw_at lw_m2 114 rfl
theorem q437 : (Jvm.Cond.fieldLinkNest "DebtorsHouse" (178 : Nat) "DebtorsHouse$Debt" "lack" "I" "DebtorsHouse") ∈ lw_tbl := lw_at lw_m2 117 rfl
theorem q439 : (Jvm.Cond.fieldLinkNest "DebtorsHouse" (181 : Nat) "DebtorsHouse$Debt" "ended" "I" "DebtorsHouse") ∈ lw_tbl := lw_at lw_m2 119 rfl
theorem q441 : (Jvm.Cond.fieldLinkNest "DebtorsHouse" (174 : Nat) "DebtorsHouse$Debt" "bought" "Z" "DebtorsHouse") ∈ lw_tbl := lw_at lw_m2 121 rfl
theorem q443 : (Jvm.Cond.fieldLinkNest "DebtorsHouse" (159 : Nat) "DebtorsHouse$Debt" "stands" "LDebtorsHouse$Stands;" "DebtorsHouse") ∈ lw_tbl := lw_at lw_m2 123 rfl
theorem q478 : (Jvm.Cond.instanceMethod ({ cls := "DebtorsHouse", name := "costs", desc := "(II)I" } : Jvm.MethodName)) ∈ lw_all := lw_g (lw_at lw_m2 158 rfl) rfl
theorem q479 : (Jvm.Cond.selects "DebtorsHouse" ({ cls := "DebtorsHouse", name := "costs", desc := "(II)I" } : Jvm.MethodName) ({ cls := "DebtorsHouse", name := "costs", desc := "(II)I" } : Jvm.MethodName)) ∈ lw_all := lw_g (lw_at lw_m2 159 rfl) rfl
theorem q480 : (Jvm.Cond.code ({ cls := "DebtorsHouse", name := "costs", desc := "(II)I" } : Jvm.MethodName) prog_1_method_11_code (3 : Nat) (Option.some Jvm.ClassFile.FieldType.int)) ∈ lw_all := lw_g (lw_at lw_m2 160 rfl) rfl
theorem q481 : (Jvm.Cond.methodLink "DebtorsHouse" (112 : Nat) ({ cls := "DebtorsHouse", name := "isLive", desc := "(I)Z" } : Jvm.MethodName)) ∈ lw_all := lw_g (lw_at lw_m2 161 rfl) rfl
theorem q482 : (Jvm.Cond.privateMethod ({ cls := "DebtorsHouse", name := "isLive", desc := "(I)Z" } : Jvm.MethodName)) ∈ lw_tbl := lw_at lw_m2 162 rfl
theorem q483 : (Jvm.Cond.instanceMethod ({ cls := "DebtorsHouse", name := "isLive", desc := "(I)Z" } : Jvm.MethodName)) ∈ lw_all := lw_g (lw_at lw_m2 163 rfl) rfl
theorem q484 : (Jvm.Cond.code ({ cls := "DebtorsHouse", name := "isLive", desc := "(I)Z" } : Jvm.MethodName) prog_1_method_7_code (2 : Nat) (Option.some Jvm.ClassFile.FieldType.boolean)) ∈ lw_all := lw_g (lw_at lw_m2 164 rfl) rfl
theorem q485 : (Jvm.Cond.methodLink "DebtorsHouse" (80 : Nat) ({ cls := "DebtorsHouse", name := "debtAt", desc := "(I)LDebtorsHouse$Debt;" } : Jvm.MethodName)) ∈ lw_all := lw_g (lw_at lw_m2 165 rfl) rfl
theorem q486 : (Jvm.Cond.privateMethod ({ cls := "DebtorsHouse", name := "debtAt", desc := "(I)LDebtorsHouse$Debt;" } : Jvm.MethodName)) ∈ lw_tbl := lw_at lw_m2 166 rfl
theorem q487 : (Jvm.Cond.instanceMethod ({ cls := "DebtorsHouse", name := "debtAt", desc := "(I)LDebtorsHouse$Debt;" } : Jvm.MethodName)) ∈ lw_all := lw_g (lw_at lw_m2 167 rfl) rfl
theorem q488 : (Jvm.Cond.code ({ cls := "DebtorsHouse", name := "debtAt", desc := "(I)LDebtorsHouse$Debt;" } : Jvm.MethodName) prog_1_method_4_code (2 : Nat) (Option.some (Jvm.ClassFile.FieldType.object "DebtorsHouse$Debt"))) ∈ lw_all := lw_g (lw_at lw_m2 168 rfl) rfl
theorem q489 : (Jvm.Cond.methodLink "DebtorsHouse" (55 : Nat) ({ cls := "java/util/ArrayList", name := "get", desc := "(I)Ljava/lang/Object;" } : Jvm.MethodName)) ∈ lw_all := lw_g (lw_at lw_m2 169 rfl) rfl
theorem q503 : (Jvm.Cond.methodLink "DebtorsHouse" (84 : Nat) ({ cls := "DebtorsHouse$Debt", name := "isLive", desc := "()Z" } : Jvm.MethodName)) ∈ lw_all := lw_g (lw_at lw_m2 183 rfl) rfl
theorem q507 : (Jvm.Cond.methodLink "DebtorsHouse" (117 : Nat) ({ cls := "DebtorsHouse", name := "due", desc := "(I)I" } : Jvm.MethodName)) ∈ lw_all := lw_g (lw_at lw_m2 187 rfl) rfl
theorem q508 : (Jvm.Cond.privateMethod ({ cls := "DebtorsHouse", name := "due", desc := "(I)I" } : Jvm.MethodName)) ∈ lw_tbl := lw_at lw_m2 188 rfl
theorem q509 : (Jvm.Cond.instanceMethod ({ cls := "DebtorsHouse", name := "due", desc := "(I)I" } : Jvm.MethodName)) ∈ lw_all := lw_g (lw_at lw_m2 189 rfl) rfl
theorem q510 : (Jvm.Cond.code ({ cls := "DebtorsHouse", name := "due", desc := "(I)I" } : Jvm.MethodName) prog_1_method_8_code (2 : Nat) (Option.some Jvm.ClassFile.FieldType.int)) ∈ lw_all := lw_g (lw_at lw_m2 190 rfl) rfl
theorem q511 : (Jvm.Cond.methodLink "DebtorsHouse" (92 : Nat) ({ cls := "DebtorsHouse$Debt", name := "due", desc := "(I)I" } : Jvm.MethodName)) ∈ lw_all := lw_g (lw_at lw_m2 191 rfl) rfl
theorem q522 : (Jvm.Cond.instanceMethod ({ cls := "DebtorsHouse", name := "pay", desc := "(II)I" } : Jvm.MethodName)) ∈ lw_all := lw_g (lw_at lw_m2 202 rfl) rfl
theorem q523 : (Jvm.Cond.selects "DebtorsHouse" ({ cls := "DebtorsHouse", name := "pay", desc := "(II)I" } : Jvm.MethodName) ({ cls := "DebtorsHouse", name := "pay", desc := "(II)I" } : Jvm.MethodName)) ∈ lw_all := lw_g (lw_at lw_m2 203 rfl) rfl
theorem q524 : (Jvm.Cond.code ({ cls := "DebtorsHouse", name := "pay", desc := "(II)I" } : Jvm.MethodName) prog_1_method_14_code (4 : Nat) (Option.some Jvm.ClassFile.FieldType.int)) ∈ lw_all := lw_g (lw_at lw_m2 204 rfl) rfl
theorem q525 : (Jvm.Cond.methodLink "DebtorsHouse" (118 : Nat) ({ cls := "DebtorsHouse", name := "at", desc := "(I)LDebtorsHouse$Person;" } : Jvm.MethodName)) ∈ lw_all := lw_g (lw_at lw_m2 205 rfl) rfl
theorem q526 : (Jvm.Cond.privateMethod ({ cls := "DebtorsHouse", name := "at", desc := "(I)LDebtorsHouse$Person;" } : Jvm.MethodName)) ∈ lw_tbl := lw_at lw_m2 206 rfl
theorem q527 : (Jvm.Cond.instanceMethod ({ cls := "DebtorsHouse", name := "at", desc := "(I)LDebtorsHouse$Person;" } : Jvm.MethodName)) ∈ lw_all := lw_g (lw_at lw_m2 207 rfl) rfl
theorem q528 : (Jvm.Cond.code ({ cls := "DebtorsHouse", name := "at", desc := "(I)LDebtorsHouse$Person;" } : Jvm.MethodName) prog_1_method_3_code (2 : Nat) (Option.some (Jvm.ClassFile.FieldType.object "DebtorsHouse$Person"))) ∈ lw_all := lw_g (lw_at lw_m2 208 rfl) rfl
theorem q529 : (Jvm.Cond.methodLink "DebtorsHouse" (137 : Nat) ({ cls := "DebtorsHouse$Debt", name := "less", desc := "(II)V" } : Jvm.MethodName)) ∈ lw_all := lw_g (lw_at lw_m2 209 rfl) rfl
theorem q540 : (Jvm.Cond.methodLink "DebtorsHouse" (141 : Nat) ({ cls := "DebtorsHouse", name := "looks", desc := "()V" } : Jvm.MethodName)) ∈ lw_all := lw_g (lw_at lw_m2 220 rfl) rfl
theorem q541 : (Jvm.Cond.privateMethod ({ cls := "DebtorsHouse", name := "looks", desc := "()V" } : Jvm.MethodName)) ∈ lw_tbl := lw_at lw_m2 221 rfl
theorem q542 : (Jvm.Cond.instanceMethod ({ cls := "DebtorsHouse", name := "looks", desc := "()V" } : Jvm.MethodName)) ∈ lw_all := lw_g (lw_at lw_m2 222 rfl) rfl
theorem q543 : (Jvm.Cond.code ({ cls := "DebtorsHouse", name := "looks", desc := "()V" } : Jvm.MethodName) prog_1_method_12_code (2 : Nat) (Option.none : Option Jvm.ClassFile.FieldType)) ∈ lw_all := lw_g (lw_at lw_m2 223 rfl) rfl
theorem q544 : (Jvm.Cond.methodLink "DebtorsHouse" (125 : Nat) ({ cls := "DebtorsHouse", name := "creditorsOf", desc := "(I)I" } : Jvm.MethodName)) ∈ lw_all := lw_g (lw_at lw_m2 224 rfl) rfl
theorem q545 : (Jvm.Cond.privateMethod ({ cls := "DebtorsHouse", name := "creditorsOf", desc := "(I)I" } : Jvm.MethodName)) ∈ lw_tbl := lw_at lw_m2 225 rfl
theorem q546 : (Jvm.Cond.instanceMethod ({ cls := "DebtorsHouse", name := "creditorsOf", desc := "(I)I" } : Jvm.MethodName)) ∈ lw_all := lw_g (lw_at lw_m2 226 rfl) rfl
theorem q547 : (Jvm.Cond.code ({ cls := "DebtorsHouse", name := "creditorsOf", desc := "(I)I" } : Jvm.MethodName) prog_1_method_13_code (4 : Nat) (Option.some Jvm.ClassFile.FieldType.int)) ∈ lw_all := lw_g (lw_at lw_m2 227 rfl) rfl
theorem q549 : (Jvm.Cond.instanceMethod ({ cls := "DebtorsHouse", name := "about", desc := "(II)I" } : Jvm.MethodName)) ∈ lw_all := lw_g (lw_at lw_m2 229 rfl) rfl
theorem q550 : (Jvm.Cond.selects "DebtorsHouse" ({ cls := "DebtorsHouse", name := "about", desc := "(II)I" } : Jvm.MethodName) ({ cls := "DebtorsHouse", name := "about", desc := "(II)I" } : Jvm.MethodName)) ∈ lw_all := lw_g (lw_at lw_m2 230 rfl) rfl
theorem q551 : (Jvm.Cond.code ({ cls := "DebtorsHouse", name := "about", desc := "(II)I" } : Jvm.MethodName) prog_1_method_15_code (4 : Nat) (Option.some Jvm.ClassFile.FieldType.int)) ∈ lw_all := lw_g (lw_at lw_m2 231 rfl) rfl
theorem q552 : (Jvm.Cond.methodLink "DebtorsHouse" (163 : Nat) ({ cls := "DebtorsHouse$Stands", name := "ordinal", desc := "()I" } : Jvm.MethodName)) ∈ lw_all := lw_g (lw_at lw_m2 232 rfl) rfl
theorem q558 : (Jvm.Cond.methodLink "DebtorsHouse" (171 : Nat) ({ cls := "DebtorsHouse$Debt", name := "interestOn", desc := "(I)I" } : Jvm.MethodName)) ∈ lw_all := lw_g (lw_at lw_m2 238 rfl) rfl
theorem q560 : (Jvm.Cond.instanceMethod ({ cls := "DebtorsHouse", name := "ring", desc := "()I" } : Jvm.MethodName)) ∈ lw_all := lw_g (lw_at lw_m3 0 rfl) rfl
theorem q561 : (Jvm.Cond.selects "DebtorsHouse" ({ cls := "DebtorsHouse", name := "ring", desc := "()I" } : Jvm.MethodName) ({ cls := "DebtorsHouse", name := "ring", desc := "()I" } : Jvm.MethodName)) ∈ lw_all := lw_g (lw_at lw_m3 1 rfl) rfl
theorem q562 : (Jvm.Cond.code ({ cls := "DebtorsHouse", name := "ring", desc := "()I" } : Jvm.MethodName) prog_1_method_17_code (5 : Nat) (Option.some Jvm.ClassFile.FieldType.int)) ∈ lw_all := lw_g (lw_at lw_m3 2 rfl) rfl
theorem q563 : (Jvm.Cond.methodLink "DebtorsHouse" (193 : Nat) ({ cls := "DebtorsHouse", name := "distances", desc := "(I)V" } : Jvm.MethodName)) ∈ lw_all := lw_g (lw_at lw_m3 3 rfl) rfl
theorem q564 : (Jvm.Cond.privateMethod ({ cls := "DebtorsHouse", name := "distances", desc := "(I)V" } : Jvm.MethodName)) ∈ lw_tbl := lw_at lw_m3 4 rfl
theorem q565 : (Jvm.Cond.instanceMethod ({ cls := "DebtorsHouse", name := "distances", desc := "(I)V" } : Jvm.MethodName)) ∈ lw_all := lw_g (lw_at lw_m3 5 rfl) rfl
theorem q566 : (Jvm.Cond.code ({ cls := "DebtorsHouse", name := "distances", desc := "(I)V" } : Jvm.MethodName) prog_1_method_16_code (6 : Nat) (Option.none : Option Jvm.ClassFile.FieldType)) ∈ lw_all := lw_g (lw_at lw_m3 6 rfl) rfl
theorem q567 : (Jvm.Cond.methodLink "DebtorsHouse" (184 : Nat) ({ cls := "java/util/Arrays", name := "fill", desc := "([II)V" } : Jvm.MethodName)) ∈ lw_all := lw_g (lw_at lw_m3 7 rfl) rfl
theorem q569 : (Jvm.Cond.instanceMethod ({ cls := "DebtorsHouse", name := "row", desc := "(I)I" } : Jvm.MethodName)) ∈ lw_all := lw_g (lw_at lw_m3 9 rfl) rfl
theorem q570 : (Jvm.Cond.selects "DebtorsHouse" ({ cls := "DebtorsHouse", name := "row", desc := "(I)I" } : Jvm.MethodName) ({ cls := "DebtorsHouse", name := "row", desc := "(I)I" } : Jvm.MethodName)) ∈ lw_all := lw_g (lw_at lw_m3 10 rfl) rfl
theorem q571 : (Jvm.Cond.code ({ cls := "DebtorsHouse", name := "row", desc := "(I)I" } : Jvm.MethodName) prog_1_method_18_code (2 : Nat) (Option.some Jvm.ClassFile.FieldType.int)) ∈ lw_all := lw_g (lw_at lw_m3 11 rfl) rfl
theorem q573 : (Jvm.Cond.instanceMethod ({ cls := "DebtorsHouse", name := "net", desc := "()I" } : Jvm.MethodName)) ∈ lw_all := lw_g (lw_at lw_m3 13 rfl) rfl
theorem q574 : (Jvm.Cond.selects "DebtorsHouse" ({ cls := "DebtorsHouse", name := "net", desc := "()I" } : Jvm.MethodName) ({ cls := "DebtorsHouse", name := "net", desc := "()I" } : Jvm.MethodName)) ∈ lw_all := lw_g (lw_at lw_m3 14 rfl) rfl
theorem q575 : (Jvm.Cond.code ({ cls := "DebtorsHouse", name := "net", desc := "()I" } : Jvm.MethodName) prog_1_method_19_code (3 : Nat) (Option.some Jvm.ClassFile.FieldType.int)) ∈ lw_all := lw_g (lw_at lw_m3 15 rfl) rfl
theorem q576 : (Jvm.Cond.methodLink "DebtorsHouse" (200 : Nat) ({ cls := "DebtorsHouse", name := "ring", desc := "()I" } : Jvm.MethodName)) ∈ lw_all := lw_g (lw_at lw_m3 16 rfl) rfl
theorem q577 : (Jvm.Cond.methodLink "DebtorsHouse" (202 : Nat) ({ cls := "java/lang/Math", name := "min", desc := "(II)I" } : Jvm.MethodName)) ∈ lw_all := lw_g (lw_at lw_m3 17 rfl) rfl
theorem q579 : (Jvm.Cond.instanceMethod ({ cls := "DebtorsHouse", name := "feed", desc := "(IIIII)I" } : Jvm.MethodName)) ∈ lw_all := lw_g (lw_at lw_m3 19 rfl) rfl
theorem q580 : (Jvm.Cond.selects "DebtorsHouse" ({ cls := "DebtorsHouse", name := "feed", desc := "(IIIII)I" } : Jvm.MethodName) ({ cls := "DebtorsHouse", name := "feed", desc := "(IIIII)I" } : Jvm.MethodName)) ∈ lw_all := lw_g (lw_at lw_m3 20 rfl) rfl
theorem q581 : (Jvm.Cond.code ({ cls := "DebtorsHouse", name := "feed", desc := "(IIIII)I" } : Jvm.MethodName) prog_1_method_20_code (8 : Nat) (Option.some Jvm.ClassFile.FieldType.int)) ∈ lw_all := lw_g (lw_at lw_m3 21 rfl) rfl
theorem q583 : (Jvm.Cond.instanceMethod ({ cls := "DebtorsHouse", name := "end", desc := "(I)I" } : Jvm.MethodName)) ∈ lw_all := lw_g (lw_at lw_m3 23 rfl) rfl
theorem q584 : (Jvm.Cond.selects "DebtorsHouse" ({ cls := "DebtorsHouse", name := "end", desc := "(I)I" } : Jvm.MethodName) ({ cls := "DebtorsHouse", name := "end", desc := "(I)I" } : Jvm.MethodName)) ∈ lw_all := lw_g (lw_at lw_m3 24 rfl) rfl
theorem q585 : (Jvm.Cond.code ({ cls := "DebtorsHouse", name := "end", desc := "(I)I" } : Jvm.MethodName) prog_1_method_21_code (2 : Nat) (Option.some Jvm.ClassFile.FieldType.int)) ∈ lw_all := lw_g (lw_at lw_m3 25 rfl) rfl
theorem q587 : (Jvm.Cond.instanceMethod ({ cls := "DebtorsHouse", name := "act", desc := "(I)I" } : Jvm.MethodName)) ∈ lw_all := lw_g (lw_at lw_m3 27 rfl) rfl
theorem q588 : (Jvm.Cond.selects "DebtorsHouse" ({ cls := "DebtorsHouse", name := "act", desc := "(I)I" } : Jvm.MethodName) ({ cls := "DebtorsHouse", name := "act", desc := "(I)I" } : Jvm.MethodName)) ∈ lw_all := lw_g (lw_at lw_m3 28 rfl) rfl
theorem q589 : (Jvm.Cond.codeWith ({ cls := "DebtorsHouse", name := "act", desc := "(I)I" } : Jvm.MethodName) prog_1_method_23_code (4 : Nat) (Option.some Jvm.ClassFile.FieldType.int) [((56 : Nat), (112 : Nat), (113 : Nat), (241 : Nat))]) ∈ lw_all := lw_g (lw_at lw_m3 29 rfl) rfl
theorem q590 : (Jvm.Cond.classLink "DebtorsHouse" (241 : Nat) "DebtorsHouse$Fault") ∈ lw_all := lw_g (lw_at lw_m3 30 rfl) rfl
theorem q591 : (Jvm.Cond.methodLink "DebtorsHouse" (224 : Nat) ({ cls := "DebtorsHouse", name := "isDay", desc := "(I)Z" } : Jvm.MethodName)) ∈ lw_all := lw_g (lw_at lw_m3 31 rfl) rfl
theorem q592 : (Jvm.Cond.static ({ cls := "DebtorsHouse", name := "isDay", desc := "(I)Z" } : Jvm.MethodName)) ∈ lw_all := lw_g (lw_at lw_m3 32 rfl) rfl
theorem q593 : (Jvm.Cond.code ({ cls := "DebtorsHouse", name := "isDay", desc := "(I)Z" } : Jvm.MethodName) prog_1_method_22_code (1 : Nat) (Option.some Jvm.ClassFile.FieldType.boolean)) ∈ lw_all := lw_g (lw_at lw_m3 33 rfl) rfl
theorem q594 : (Jvm.Cond.classLink "DebtorsHouse" (227 : Nat) "DebtorsHouse$Act") ∈ lw_all := lw_g (lw_at lw_m3 34 rfl) rfl
theorem q596 : (Jvm.Cond.classLink "DebtorsHouse" (229 : Nat) "DebtorsHouse$Reader") ∈ lw_all := lw_g (lw_at lw_m3 36 rfl) rfl
theorem q598 : (Jvm.Cond.methodLink "DebtorsHouse" (231 : Nat) ({ cls := "DebtorsHouse$Reader", name := "<init>", desc := "([BI)V" } : Jvm.MethodName)) ∈ lw_all := lw_g (lw_at lw_m3 38 rfl) rfl
theorem q893 : (Jvm.Cond.methodLink "DebtorsHouse" (234 : Nat) ({ cls := "DebtorsHouse$Reader", name := "whole", desc := "()Ljava/util/ArrayList;" } : Jvm.MethodName)) ∈ lw_all := lw_g (lw_at lw_m4 93 rfl) rfl
theorem q951 : (Jvm.Cond.fieldLinkNest "DebtorsHouse" (243 : Nat) "DebtorsHouse$Fault" "kind" "I" "DebtorsHouse") ∈ lw_tbl := lw_at lw_m4 151 rfl
theorem q953 : (Jvm.Cond.fieldLinkNest "DebtorsHouse" (246 : Nat) "DebtorsHouse$Fault" "place" "I" "DebtorsHouse") ∈ lw_tbl := lw_at lw_m4 153 rfl
theorem q996 : (Jvm.Cond.laysStatic "DebtorsHouse" "TOPICS" "[LDebtorsHouse$Topic;") ∈ lw_tbl := lw_at lw_m4 196 rfl
theorem q1065 : (Jvm.Cond.methodLink "DebtorsHouse" (238 : Nat) ({ cls := "DebtorsHouse$Act", name := "<init>", desc := "(IILjava/util/ArrayList;)V" } : Jvm.MethodName)) ∈ lw_all := lw_g (lw_at lw_m5 25 rfl) rfl
theorem q1070 : (Jvm.Cond.fieldLinkNest "DebtorsHouse" (249 : Nat) "DebtorsHouse$Act" "from" "I" "DebtorsHouse") ∈ lw_tbl := lw_at lw_m5 30 rfl
theorem q1072 : (Jvm.Cond.fieldLinkNest "DebtorsHouse" (252 : Nat) "DebtorsHouse$Act" "told" "I" "DebtorsHouse") ∈ lw_tbl := lw_at lw_m5 32 rfl
theorem q1082 : (Jvm.Cond.instanceMethod ({ cls := "DebtorsHouse", name := "fault", desc := "(I)I" } : Jvm.MethodName)) ∈ lw_all := lw_g (lw_at lw_m5 42 rfl) rfl
theorem q1083 : (Jvm.Cond.selects "DebtorsHouse" ({ cls := "DebtorsHouse", name := "fault", desc := "(I)I" } : Jvm.MethodName) ({ cls := "DebtorsHouse", name := "fault", desc := "(I)I" } : Jvm.MethodName)) ∈ lw_all := lw_g (lw_at lw_m5 43 rfl) rfl
theorem q1084 : (Jvm.Cond.code ({ cls := "DebtorsHouse", name := "fault", desc := "(I)I" } : Jvm.MethodName) prog_1_method_24_code (2 : Nat) (Option.some Jvm.ClassFile.FieldType.int)) ∈ lw_all := lw_g (lw_at lw_m5 44 rfl) rfl
theorem q1086 : (Jvm.Cond.instanceMethod ({ cls := "DebtorsHouse", name := "good", desc := "(II)I" } : Jvm.MethodName)) ∈ lw_all := lw_g (lw_at lw_m5 46 rfl) rfl
theorem q1087 : (Jvm.Cond.selects "DebtorsHouse" ({ cls := "DebtorsHouse", name := "good", desc := "(II)I" } : Jvm.MethodName) ({ cls := "DebtorsHouse", name := "good", desc := "(II)I" } : Jvm.MethodName)) ∈ lw_all := lw_g (lw_at lw_m5 47 rfl) rfl
theorem q1088 : (Jvm.Cond.code ({ cls := "DebtorsHouse", name := "good", desc := "(II)I" } : Jvm.MethodName) prog_1_method_25_code (5 : Nat) (Option.some Jvm.ClassFile.FieldType.int)) ∈ lw_all := lw_g (lw_at lw_m5 48 rfl) rfl
theorem q1090 : (Jvm.Cond.instanceMethod ({ cls := "DebtorsHouse", name := "tells", desc := "(III)I" } : Jvm.MethodName)) ∈ lw_all := lw_g (lw_at lw_m5 50 rfl) rfl
theorem q1091 : (Jvm.Cond.selects "DebtorsHouse" ({ cls := "DebtorsHouse", name := "tells", desc := "(III)I" } : Jvm.MethodName) ({ cls := "DebtorsHouse", name := "tells", desc := "(III)I" } : Jvm.MethodName)) ∈ lw_all := lw_g (lw_at lw_m5 51 rfl) rfl
theorem q1092 : (Jvm.Cond.code ({ cls := "DebtorsHouse", name := "tells", desc := "(III)I" } : Jvm.MethodName) prog_1_method_30_code (4 : Nat) (Option.some Jvm.ClassFile.FieldType.int)) ∈ lw_all := lw_g (lw_at lw_m5 52 rfl) rfl
theorem q1093 : (Jvm.Cond.fieldLink "DebtorsHouse" (318 : Nat) "DebtorsHouse" "TOPICS" "[LDebtorsHouse$Topic;") ∈ lw_all := lw_g (lw_at lw_m5 53 rfl) rfl
theorem q1094 : (Jvm.Cond.methodLink "DebtorsHouse" (309 : Nat) ({ cls := "DebtorsHouse", name := "asks", desc := "(LDebtorsHouse$Person;)V" } : Jvm.MethodName)) ∈ lw_all := lw_g (lw_at lw_m5 54 rfl) rfl
theorem q1095 : (Jvm.Cond.privateMethod ({ cls := "DebtorsHouse", name := "asks", desc := "(LDebtorsHouse$Person;)V" } : Jvm.MethodName)) ∈ lw_tbl := lw_at lw_m5 55 rfl
theorem q1096 : (Jvm.Cond.instanceMethod ({ cls := "DebtorsHouse", name := "asks", desc := "(LDebtorsHouse$Person;)V" } : Jvm.MethodName)) ∈ lw_all := lw_g (lw_at lw_m5 56 rfl) rfl
theorem q1097 : (Jvm.Cond.code ({ cls := "DebtorsHouse", name := "asks", desc := "(LDebtorsHouse$Person;)V" } : Jvm.MethodName) prog_1_method_27_code (7 : Nat) (Option.none : Option Jvm.ClassFile.FieldType)) ∈ lw_all := lw_g (lw_at lw_m5 57 rfl) rfl
theorem q1098 : (Jvm.Cond.fieldLink "DebtorsHouse" (259 : Nat) "DebtorsHouse$About" "SUM" "LDebtorsHouse$About;") ∈ lw_all := lw_g (lw_at lw_m5 58 rfl) rfl
theorem q1100 : (Jvm.Cond.methodLink "DebtorsHouse" (263 : Nat) ({ cls := "DebtorsHouse", name := "asks", desc := "(LDebtorsHouse$About;I)V" } : Jvm.MethodName)) ∈ lw_all := lw_g (lw_at lw_m5 60 rfl) rfl
theorem q1101 : (Jvm.Cond.privateMethod ({ cls := "DebtorsHouse", name := "asks", desc := "(LDebtorsHouse$About;I)V" } : Jvm.MethodName)) ∈ lw_tbl := lw_at lw_m5 61 rfl
theorem q1102 : (Jvm.Cond.instanceMethod ({ cls := "DebtorsHouse", name := "asks", desc := "(LDebtorsHouse$About;I)V" } : Jvm.MethodName)) ∈ lw_all := lw_g (lw_at lw_m5 62 rfl) rfl
theorem q1103 : (Jvm.Cond.code ({ cls := "DebtorsHouse", name := "asks", desc := "(LDebtorsHouse$About;I)V" } : Jvm.MethodName) prog_1_method_26_code (3 : Nat) (Option.none : Option Jvm.ClassFile.FieldType)) ∈ lw_all := lw_g (lw_at lw_m5 63 rfl) rfl
theorem q1104 : (Jvm.Cond.methodLink "DebtorsHouse" (253 : Nat) ({ cls := "DebtorsHouse$About", name := "ordinal", desc := "()I" } : Jvm.MethodName)) ∈ lw_all := lw_g (lw_at lw_m5 64 rfl) rfl
theorem q1107 : (Jvm.Cond.fieldLink "DebtorsHouse" (266 : Nat) "DebtorsHouse$About" "DEBTS" "LDebtorsHouse$About;") ∈ lw_all := lw_g (lw_at lw_m5 67 rfl) rfl
theorem q1109 : (Jvm.Cond.fieldLink "DebtorsHouse" (269 : Nat) "DebtorsHouse$About" "RANK" "LDebtorsHouse$About;") ∈ lw_all := lw_g (lw_at lw_m5 69 rfl) rfl
theorem q1111 : (Jvm.Cond.fieldLink "DebtorsHouse" (272 : Nat) "DebtorsHouse$About" "DAYS" "LDebtorsHouse$About;") ∈ lw_all := lw_g (lw_at lw_m5 71 rfl) rfl
theorem q1113 : (Jvm.Cond.methodLink "DebtorsHouse" (275 : Nat) ({ cls := "DebtorsHouse$Person", name := "isHeld", desc := "()Z" } : Jvm.MethodName)) ∈ lw_all := lw_g (lw_at lw_m5 73 rfl) rfl
theorem q1117 : (Jvm.Cond.fieldLink "DebtorsHouse" (279 : Nat) "DebtorsHouse$About" "CHILDREN" "LDebtorsHouse$About;") ∈ lw_all := lw_g (lw_at lw_m5 77 rfl) rfl
theorem q1119 : (Jvm.Cond.fieldLink "DebtorsHouse" (285 : Nat) "DebtorsHouse$About" "ROOM" "LDebtorsHouse$About;") ∈ lw_all := lw_g (lw_at lw_m5 79 rfl) rfl
theorem q1121 : (Jvm.Cond.fieldLink "DebtorsHouse" (291 : Nat) "DebtorsHouse$About" "HOUR" "LDebtorsHouse$About;") ∈ lw_all := lw_g (lw_at lw_m5 81 rfl) rfl
theorem q1123 : (Jvm.Cond.fieldLink "DebtorsHouse" (297 : Nat) "DebtorsHouse$About" "COINS" "LDebtorsHouse$About;") ∈ lw_all := lw_g (lw_at lw_m5 83 rfl) rfl
theorem q1125 : (Jvm.Cond.methodLink "DebtorsHouse" (312 : Nat) ({ cls := "DebtorsHouse", name := "good", desc := "(II)I" } : Jvm.MethodName)) ∈ lw_all := lw_g (lw_at lw_m5 85 rfl) rfl
theorem q1126 : (Jvm.Cond.methodLink "DebtorsHouse" (315 : Nat) ({ cls := "DebtorsHouse", name := "tells", desc := "(LDebtorsHouse$Topic;I)I" } : Jvm.MethodName)) ∈ lw_all := lw_g (lw_at lw_m5 86 rfl) rfl
theorem q1127 : (Jvm.Cond.privateMethod ({ cls := "DebtorsHouse", name := "tells", desc := "(LDebtorsHouse$Topic;I)I" } : Jvm.MethodName)) ∈ lw_tbl := lw_at lw_m5 87 rfl
theorem q1128 : (Jvm.Cond.instanceMethod ({ cls := "DebtorsHouse", name := "tells", desc := "(LDebtorsHouse$Topic;I)I" } : Jvm.MethodName)) ∈ lw_all := lw_g (lw_at lw_m5 88 rfl) rfl
theorem q1129 : (Jvm.Cond.code ({ cls := "DebtorsHouse", name := "tells", desc := "(LDebtorsHouse$Topic;I)I" } : Jvm.MethodName) prog_1_method_28_code (3 : Nat) (Option.some Jvm.ClassFile.FieldType.int)) ∈ lw_all := lw_g (lw_at lw_m5 89 rfl) rfl
theorem q1130 : (Jvm.Cond.methodLink "DebtorsHouse" (305 : Nat) ({ cls := "DebtorsHouse$Act", name := "tells", desc := "(LDebtorsHouse$Topic;[I)I" } : Jvm.MethodName)) ∈ lw_all := lw_g (lw_at lw_m5 90 rfl) rfl
theorem q1150 : (Jvm.Cond.instanceMethod ({ cls := "DebtorsHouse", name := "lawful", desc := "(III)Z" } : Jvm.MethodName)) ∈ lw_all := lw_g (lw_at lw_m5 110 rfl) rfl
theorem q1151 : (Jvm.Cond.selects "DebtorsHouse" ({ cls := "DebtorsHouse", name := "lawful", desc := "(III)Z" } : Jvm.MethodName) ({ cls := "DebtorsHouse", name := "lawful", desc := "(III)Z" } : Jvm.MethodName)) ∈ lw_all := lw_g (lw_at lw_m5 111 rfl) rfl
theorem q1152 : (Jvm.Cond.code ({ cls := "DebtorsHouse", name := "lawful", desc := "(III)Z" } : Jvm.MethodName) prog_1_method_31_code (9 : Nat) (Option.some Jvm.ClassFile.FieldType.boolean)) ∈ lw_all := lw_g (lw_at lw_m5 112 rfl) rfl
theorem q1153 : (Jvm.Cond.fieldLink "DebtorsHouse" (322 : Nat) "DebtorsHouse$Topic" "HELD" "LDebtorsHouse$Topic;") ∈ lw_all := lw_g (lw_at lw_m5 113 rfl) rfl
theorem q1156 : (Jvm.Cond.instanceMethod ({ cls := "DebtorsHouse", name := "hold", desc := "(II)Z" } : Jvm.MethodName)) ∈ lw_all := lw_g (lw_at lw_m5 116 rfl) rfl
theorem q1157 : (Jvm.Cond.selects "DebtorsHouse" ({ cls := "DebtorsHouse", name := "hold", desc := "(II)Z" } : Jvm.MethodName) ({ cls := "DebtorsHouse", name := "hold", desc := "(II)Z" } : Jvm.MethodName)) ∈ lw_all := lw_g (lw_at lw_m5 117 rfl) rfl
theorem q1158 : (Jvm.Cond.code ({ cls := "DebtorsHouse", name := "hold", desc := "(II)Z" } : Jvm.MethodName) prog_1_method_32_code (4 : Nat) (Option.some Jvm.ClassFile.FieldType.boolean)) ∈ lw_all := lw_g (lw_at lw_m5 118 rfl) rfl
theorem q1159 : (Jvm.Cond.methodLink "DebtorsHouse" (326 : Nat) ({ cls := "DebtorsHouse", name := "tells", desc := "(LDebtorsHouse$Person;LDebtorsHouse$Topic;)I" } : Jvm.MethodName)) ∈ lw_all := lw_g (lw_at lw_m5 119 rfl) rfl
theorem q1160 : (Jvm.Cond.privateMethod ({ cls := "DebtorsHouse", name := "tells", desc := "(LDebtorsHouse$Person;LDebtorsHouse$Topic;)I" } : Jvm.MethodName)) ∈ lw_tbl := lw_at lw_m5 120 rfl
theorem q1161 : (Jvm.Cond.instanceMethod ({ cls := "DebtorsHouse", name := "tells", desc := "(LDebtorsHouse$Person;LDebtorsHouse$Topic;)I" } : Jvm.MethodName)) ∈ lw_all := lw_g (lw_at lw_m5 121 rfl) rfl
theorem q1162 : (Jvm.Cond.code ({ cls := "DebtorsHouse", name := "tells", desc := "(LDebtorsHouse$Person;LDebtorsHouse$Topic;)I" } : Jvm.MethodName) prog_1_method_29_code (3 : Nat) (Option.some Jvm.ClassFile.FieldType.int)) ∈ lw_all := lw_g (lw_at lw_m5 122 rfl) rfl
theorem q1163 : (Jvm.Cond.fieldLink "DebtorsHouse" (332 : Nat) "DebtorsHouse$Topic" "ENTRY" "LDebtorsHouse$Topic;") ∈ lw_all := lw_g (lw_at lw_m5 123 rfl) rfl
theorem q1166 : (Jvm.Cond.instanceMethod ({ cls := "DebtorsHouse", name := "tire", desc := "(II)Z" } : Jvm.MethodName)) ∈ lw_all := lw_g (lw_at lw_m5 126 rfl) rfl
theorem q1167 : (Jvm.Cond.selects "DebtorsHouse" ({ cls := "DebtorsHouse", name := "tire", desc := "(II)Z" } : Jvm.MethodName) ({ cls := "DebtorsHouse", name := "tire", desc := "(II)Z" } : Jvm.MethodName)) ∈ lw_all := lw_g (lw_at lw_m5 127 rfl) rfl
theorem q1168 : (Jvm.Cond.code ({ cls := "DebtorsHouse", name := "tire", desc := "(II)Z" } : Jvm.MethodName) prog_1_method_33_code (3 : Nat) (Option.some Jvm.ClassFile.FieldType.boolean)) ∈ lw_all := lw_g (lw_at lw_m5 128 rfl) rfl
theorem q1170 : (Jvm.Cond.instanceMethod ({ cls := "DebtorsHouse", name := "leave", desc := "(I)Z" } : Jvm.MethodName)) ∈ lw_all := lw_g (lw_at lw_m5 130 rfl) rfl
theorem q1171 : (Jvm.Cond.selects "DebtorsHouse" ({ cls := "DebtorsHouse", name := "leave", desc := "(I)Z" } : Jvm.MethodName) ({ cls := "DebtorsHouse", name := "leave", desc := "(I)Z" } : Jvm.MethodName)) ∈ lw_all := lw_g (lw_at lw_m5 131 rfl) rfl
theorem q1172 : (Jvm.Cond.code ({ cls := "DebtorsHouse", name := "leave", desc := "(I)Z" } : Jvm.MethodName) prog_1_method_35_code (3 : Nat) (Option.some Jvm.ClassFile.FieldType.boolean)) ∈ lw_all := lw_g (lw_at lw_m5 132 rfl) rfl
theorem q1173 : (Jvm.Cond.methodLink "DebtorsHouse" (335 : Nat) ({ cls := "DebtorsHouse", name := "isHeld", desc := "(I)Z" } : Jvm.MethodName)) ∈ lw_all := lw_g (lw_at lw_m5 133 rfl) rfl
theorem q1174 : (Jvm.Cond.privateMethod ({ cls := "DebtorsHouse", name := "isHeld", desc := "(I)Z" } : Jvm.MethodName)) ∈ lw_tbl := lw_at lw_m5 134 rfl
theorem q1175 : (Jvm.Cond.instanceMethod ({ cls := "DebtorsHouse", name := "isHeld", desc := "(I)Z" } : Jvm.MethodName)) ∈ lw_all := lw_g (lw_at lw_m5 135 rfl) rfl
theorem q1176 : (Jvm.Cond.code ({ cls := "DebtorsHouse", name := "isHeld", desc := "(I)Z" } : Jvm.MethodName) prog_1_method_34_code (2 : Nat) (Option.some Jvm.ClassFile.FieldType.boolean)) ∈ lw_all := lw_g (lw_at lw_m5 136 rfl) rfl
theorem q1177 : (Jvm.Cond.methodLink "DebtorsHouse" (341 : Nat) ({ cls := "DebtorsHouse$Person", name := "goes", desc := "()V" } : Jvm.MethodName)) ∈ lw_all := lw_g (lw_at lw_m5 137 rfl) rfl
theorem q1182 : (Jvm.Cond.instanceMethod ({ cls := "DebtorsHouse", name := "room", desc := "(II)Z" } : Jvm.MethodName)) ∈ lw_all := lw_g (lw_at lw_m5 142 rfl) rfl
theorem q1183 : (Jvm.Cond.selects "DebtorsHouse" ({ cls := "DebtorsHouse", name := "room", desc := "(II)Z" } : Jvm.MethodName) ({ cls := "DebtorsHouse", name := "room", desc := "(II)Z" } : Jvm.MethodName)) ∈ lw_all := lw_g (lw_at lw_m5 143 rfl) rfl
theorem q1184 : (Jvm.Cond.code ({ cls := "DebtorsHouse", name := "room", desc := "(II)Z" } : Jvm.MethodName) prog_1_method_36_code (3 : Nat) (Option.some Jvm.ClassFile.FieldType.boolean)) ∈ lw_all := lw_g (lw_at lw_m5 144 rfl) rfl
theorem q1186 : (Jvm.Cond.instanceMethod ({ cls := "DebtorsHouse", name := "walk", desc := "(IZ)Z" } : Jvm.MethodName)) ∈ lw_all := lw_g (lw_at lw_m5 146 rfl) rfl
theorem q1187 : (Jvm.Cond.selects "DebtorsHouse" ({ cls := "DebtorsHouse", name := "walk", desc := "(IZ)Z" } : Jvm.MethodName) ({ cls := "DebtorsHouse", name := "walk", desc := "(IZ)Z" } : Jvm.MethodName)) ∈ lw_all := lw_g (lw_at lw_m5 147 rfl) rfl
theorem q1188 : (Jvm.Cond.code ({ cls := "DebtorsHouse", name := "walk", desc := "(IZ)Z" } : Jvm.MethodName) prog_1_method_37_code (3 : Nat) (Option.some Jvm.ClassFile.FieldType.boolean)) ∈ lw_all := lw_g (lw_at lw_m5 148 rfl) rfl
theorem q1189 : (Jvm.Cond.fieldLink "DebtorsHouse" (344 : Nat) "DebtorsHouse$Topic" "WALK" "LDebtorsHouse$Topic;") ∈ lw_all := lw_g (lw_at lw_m5 149 rfl) rfl
theorem q1192 : (Jvm.Cond.instanceMethod ({ cls := "DebtorsHouse", name := "hour", desc := "()I" } : Jvm.MethodName)) ∈ lw_all := lw_g (lw_at lw_m5 152 rfl) rfl
theorem q1193 : (Jvm.Cond.selects "DebtorsHouse" ({ cls := "DebtorsHouse", name := "hour", desc := "()I" } : Jvm.MethodName) ({ cls := "DebtorsHouse", name := "hour", desc := "()I" } : Jvm.MethodName)) ∈ lw_all := lw_g (lw_at lw_m5 153 rfl) rfl
theorem q1194 : (Jvm.Cond.code ({ cls := "DebtorsHouse", name := "hour", desc := "()I" } : Jvm.MethodName) prog_1_method_38_code (3 : Nat) (Option.some Jvm.ClassFile.FieldType.int)) ∈ lw_all := lw_g (lw_at lw_m5 154 rfl) rfl
theorem q1196 : (Jvm.Cond.instanceMethod ({ cls := "DebtorsHouse", name := "turn", desc := "()I" } : Jvm.MethodName)) ∈ lw_all := lw_g (lw_at lw_m5 156 rfl) rfl
theorem q1197 : (Jvm.Cond.selects "DebtorsHouse" ({ cls := "DebtorsHouse", name := "turn", desc := "()I" } : Jvm.MethodName) ({ cls := "DebtorsHouse", name := "turn", desc := "()I" } : Jvm.MethodName)) ∈ lw_all := lw_g (lw_at lw_m5 157 rfl) rfl
theorem q1198 : (Jvm.Cond.code ({ cls := "DebtorsHouse", name := "turn", desc := "()I" } : Jvm.MethodName) prog_1_method_39_code (4 : Nat) (Option.some Jvm.ClassFile.FieldType.int)) ∈ lw_all := lw_g (lw_at lw_m5 158 rfl) rfl
theorem q1200 : (Jvm.Cond.instanceMethod ({ cls := "DebtorsHouse", name := "day", desc := "()I" } : Jvm.MethodName)) ∈ lw_all := lw_g (lw_at lw_m5 160 rfl) rfl
theorem q1201 : (Jvm.Cond.selects "DebtorsHouse" ({ cls := "DebtorsHouse", name := "day", desc := "()I" } : Jvm.MethodName) ({ cls := "DebtorsHouse", name := "day", desc := "()I" } : Jvm.MethodName)) ∈ lw_all := lw_g (lw_at lw_m5 161 rfl) rfl
theorem q1202 : (Jvm.Cond.code ({ cls := "DebtorsHouse", name := "day", desc := "()I" } : Jvm.MethodName) prog_1_method_40_code (4 : Nat) (Option.some Jvm.ClassFile.FieldType.int)) ∈ lw_all := lw_g (lw_at lw_m5 162 rfl) rfl
theorem q1203 : (Jvm.Cond.methodLink "DebtorsHouse" (353 : Nat) ({ cls := "DebtorsHouse", name := "turn", desc := "()I" } : Jvm.MethodName)) ∈ lw_all := lw_g (lw_at lw_m5 163 rfl) rfl
theorem q1204 : (Jvm.Cond.fieldLink "DebtorsHouse" (359 : Nat) "DebtorsHouse$Topic" "DAILY" "LDebtorsHouse$Topic;") ∈ lw_all := lw_g (lw_at lw_m5 164 rfl) rfl
theorem q1207 : (Jvm.Cond.instanceMethod ({ cls := "DebtorsHouse", name := "alms", desc := "(I)I" } : Jvm.MethodName)) ∈ lw_all := lw_g (lw_at lw_m5 167 rfl) rfl
theorem q1208 : (Jvm.Cond.selects "DebtorsHouse" ({ cls := "DebtorsHouse", name := "alms", desc := "(I)I" } : Jvm.MethodName) ({ cls := "DebtorsHouse", name := "alms", desc := "(I)I" } : Jvm.MethodName)) ∈ lw_all := lw_g (lw_at lw_m5 168 rfl) rfl
theorem q1209 : (Jvm.Cond.code ({ cls := "DebtorsHouse", name := "alms", desc := "(I)I" } : Jvm.MethodName) prog_1_method_41_code (3 : Nat) (Option.some Jvm.ClassFile.FieldType.int)) ∈ lw_all := lw_g (lw_at lw_m5 169 rfl) rfl
theorem q1211 : (Jvm.Cond.instanceMethod ({ cls := "DebtorsHouse", name := "tell", desc := "(II)I" } : Jvm.MethodName)) ∈ lw_all := lw_g (lw_at lw_m5 171 rfl) rfl
theorem q1212 : (Jvm.Cond.selects "DebtorsHouse" ({ cls := "DebtorsHouse", name := "tell", desc := "(II)I" } : Jvm.MethodName) ({ cls := "DebtorsHouse", name := "tell", desc := "(II)I" } : Jvm.MethodName)) ∈ lw_all := lw_g (lw_at lw_m5 172 rfl) rfl
theorem q1213 : (Jvm.Cond.code ({ cls := "DebtorsHouse", name := "tell", desc := "(II)I" } : Jvm.MethodName) prog_1_method_44_code (4 : Nat) (Option.some Jvm.ClassFile.FieldType.int)) ∈ lw_all := lw_g (lw_at lw_m5 173 rfl) rfl
theorem q1214 : (Jvm.Cond.methodLink "DebtorsHouse" (362 : Nat) ({ cls := "DebtorsHouse", name := "owedBy", desc := "(I)I" } : Jvm.MethodName)) ∈ lw_all := lw_g (lw_at lw_m5 174 rfl) rfl
theorem q1215 : (Jvm.Cond.privateMethod ({ cls := "DebtorsHouse", name := "owedBy", desc := "(I)I" } : Jvm.MethodName)) ∈ lw_tbl := lw_at lw_m5 175 rfl
theorem q1216 : (Jvm.Cond.instanceMethod ({ cls := "DebtorsHouse", name := "owedBy", desc := "(I)I" } : Jvm.MethodName)) ∈ lw_all := lw_g (lw_at lw_m5 176 rfl) rfl
theorem q1217 : (Jvm.Cond.code ({ cls := "DebtorsHouse", name := "owedBy", desc := "(I)I" } : Jvm.MethodName) prog_1_method_42_code (4 : Nat) (Option.some Jvm.ClassFile.FieldType.int)) ∈ lw_all := lw_g (lw_at lw_m5 177 rfl) rfl
theorem q1218 : (Jvm.Cond.methodLink "DebtorsHouse" (365 : Nat) ({ cls := "DebtorsHouse", name := "owedTo", desc := "(I)I" } : Jvm.MethodName)) ∈ lw_all := lw_g (lw_at lw_m5 178 rfl) rfl
theorem q1219 : (Jvm.Cond.privateMethod ({ cls := "DebtorsHouse", name := "owedTo", desc := "(I)I" } : Jvm.MethodName)) ∈ lw_tbl := lw_at lw_m5 179 rfl
theorem q1220 : (Jvm.Cond.instanceMethod ({ cls := "DebtorsHouse", name := "owedTo", desc := "(I)I" } : Jvm.MethodName)) ∈ lw_all := lw_g (lw_at lw_m5 180 rfl) rfl
theorem q1221 : (Jvm.Cond.code ({ cls := "DebtorsHouse", name := "owedTo", desc := "(I)I" } : Jvm.MethodName) prog_1_method_43_code (4 : Nat) (Option.some Jvm.ClassFile.FieldType.int)) ∈ lw_all := lw_g (lw_at lw_m5 181 rfl) rfl
theorem q1223 : (Jvm.Cond.instanceMethod ({ cls := "DebtorsHouse", name := "least", desc := "(III)Z" } : Jvm.MethodName)) ∈ lw_all := lw_g (lw_at lw_m5 183 rfl) rfl
theorem q1224 : (Jvm.Cond.selects "DebtorsHouse" ({ cls := "DebtorsHouse", name := "least", desc := "(III)Z" } : Jvm.MethodName) ({ cls := "DebtorsHouse", name := "least", desc := "(III)Z" } : Jvm.MethodName)) ∈ lw_all := lw_g (lw_at lw_m5 184 rfl) rfl
theorem q1225 : (Jvm.Cond.code ({ cls := "DebtorsHouse", name := "least", desc := "(III)Z" } : Jvm.MethodName) prog_1_method_45_code (4 : Nat) (Option.some Jvm.ClassFile.FieldType.boolean)) ∈ lw_all := lw_g (lw_at lw_m5 185 rfl) rfl
theorem q1227 : (Jvm.Cond.instanceMethod ({ cls := "DebtorsHouse", name := "binds", desc := "(II)Z" } : Jvm.MethodName)) ∈ lw_all := lw_g (lw_at lw_m5 187 rfl) rfl
theorem q1228 : (Jvm.Cond.selects "DebtorsHouse" ({ cls := "DebtorsHouse", name := "binds", desc := "(II)Z" } : Jvm.MethodName) ({ cls := "DebtorsHouse", name := "binds", desc := "(II)Z" } : Jvm.MethodName)) ∈ lw_all := lw_g (lw_at lw_m5 188 rfl) rfl
theorem q1229 : (Jvm.Cond.code ({ cls := "DebtorsHouse", name := "binds", desc := "(II)Z" } : Jvm.MethodName) prog_1_method_48_code (3 : Nat) (Option.some Jvm.ClassFile.FieldType.boolean)) ∈ lw_all := lw_g (lw_at lw_m5 189 rfl) rfl
theorem q1230 : (Jvm.Cond.methodLink "DebtorsHouse" (398 : Nat) ({ cls := "DebtorsHouse", name := "binds0", desc := "(II)Z" } : Jvm.MethodName)) ∈ lw_all := lw_g (lw_at lw_m5 190 rfl) rfl
theorem q1231 : (Jvm.Cond.privateMethod ({ cls := "DebtorsHouse", name := "binds0", desc := "(II)Z" } : Jvm.MethodName)) ∈ lw_tbl := lw_at lw_m5 191 rfl
theorem q1232 : (Jvm.Cond.instanceMethod ({ cls := "DebtorsHouse", name := "binds0", desc := "(II)Z" } : Jvm.MethodName)) ∈ lw_all := lw_g (lw_at lw_m5 192 rfl) rfl
theorem q1233 : (Jvm.Cond.code ({ cls := "DebtorsHouse", name := "binds0", desc := "(II)Z" } : Jvm.MethodName) prog_1_method_47_code (4 : Nat) (Option.some Jvm.ClassFile.FieldType.boolean)) ∈ lw_all := lw_g (lw_at lw_m5 193 rfl) rfl
theorem q1234 : (Jvm.Cond.fieldLink "DebtorsHouse" (385 : Nat) "DebtorsHouse$Topic" "BUYER" "LDebtorsHouse$Topic;") ∈ lw_all := lw_g (lw_at lw_m5 194 rfl) rfl
theorem q1236 : (Jvm.Cond.fieldLink "DebtorsHouse" (388 : Nat) "DebtorsHouse$Topic" "NUMBER" "LDebtorsHouse$Topic;") ∈ lw_all := lw_g (lw_at lw_m5 196 rfl) rfl
theorem q1237 : (Jvm.Cond.fieldLink "DebtorsHouse" (391 : Nat) "DebtorsHouse$Topic" "WORTH" "LDebtorsHouse$Topic;") ∈ lw_all := lw_g (lw_at lw_m5 197 rfl) rfl
theorem q1238 : (Jvm.Cond.methodLink "DebtorsHouse" (394 : Nat) ({ cls := "DebtorsHouse", name := "binds", desc := "(IIIJZII)Z" } : Jvm.MethodName)) ∈ lw_all := lw_g (lw_at lw_m5 198 rfl) rfl
theorem q1239 : (Jvm.Cond.privateMethod ({ cls := "DebtorsHouse", name := "binds", desc := "(IIIJZII)Z" } : Jvm.MethodName)) ∈ lw_tbl := lw_at lw_m5 199 rfl
theorem q1240 : (Jvm.Cond.instanceMethod ({ cls := "DebtorsHouse", name := "binds", desc := "(IIIJZII)Z" } : Jvm.MethodName)) ∈ lw_all := lw_g (lw_at lw_m5 200 rfl) rfl
theorem q1241 : (Jvm.Cond.code ({ cls := "DebtorsHouse", name := "binds", desc := "(IIIJZII)Z" } : Jvm.MethodName) prog_1_method_46_code (16 : Nat) (Option.some Jvm.ClassFile.FieldType.boolean)) ∈ lw_all := lw_g (lw_at lw_m5 201 rfl) rfl
theorem q1242 : (Jvm.Cond.methodLink "DebtorsHouse" (377 : Nat) ({ cls := "java/util/Arrays", name := "fill", desc := "([JJ)V" } : Jvm.MethodName)) ∈ lw_all := lw_g (lw_at lw_m5 202 rfl) rfl
theorem q1245 : (Jvm.Cond.methodLink "DebtorsHouse" (380 : Nat) ({ cls := "java/util/Arrays", name := "fill", desc := "([ZZ)V" } : Jvm.MethodName)) ∈ lw_all := lw_g (lw_at lw_m5 205 rfl) rfl
theorem q1248 : (Jvm.Cond.constantLong "DebtorsHouse" (383 : Nat) (100 : Int64)) ∈ lw_all := lw_g (lw_at lw_m5 208 rfl) rfl
theorem q1250 : (Jvm.Cond.instanceMethod ({ cls := "DebtorsHouse", name := "offer", desc := "(I)I" } : Jvm.MethodName)) ∈ lw_all := lw_g (lw_at lw_m5 210 rfl) rfl
theorem q1251 : (Jvm.Cond.selects "DebtorsHouse" ({ cls := "DebtorsHouse", name := "offer", desc := "(I)I" } : Jvm.MethodName) ({ cls := "DebtorsHouse", name := "offer", desc := "(I)I" } : Jvm.MethodName)) ∈ lw_all := lw_g (lw_at lw_m5 211 rfl) rfl
theorem q1252 : (Jvm.Cond.code ({ cls := "DebtorsHouse", name := "offer", desc := "(I)I" } : Jvm.MethodName) prog_1_method_49_code (3 : Nat) (Option.some Jvm.ClassFile.FieldType.int)) ∈ lw_all := lw_g (lw_at lw_m5 212 rfl) rfl
theorem q1254 : (Jvm.Cond.instanceMethod ({ cls := "DebtorsHouse", name := "compose", desc := "(II)I" } : Jvm.MethodName)) ∈ lw_all := lw_g (lw_at lw_m5 214 rfl) rfl
theorem q1255 : (Jvm.Cond.selects "DebtorsHouse" ({ cls := "DebtorsHouse", name := "compose", desc := "(II)I" } : Jvm.MethodName) ({ cls := "DebtorsHouse", name := "compose", desc := "(II)I" } : Jvm.MethodName)) ∈ lw_all := lw_g (lw_at lw_m5 215 rfl) rfl
theorem q1256 : (Jvm.Cond.code ({ cls := "DebtorsHouse", name := "compose", desc := "(II)I" } : Jvm.MethodName) prog_1_method_51_code (7 : Nat) (Option.some Jvm.ClassFile.FieldType.int)) ∈ lw_all := lw_g (lw_at lw_m5 216 rfl) rfl
theorem q1257 : (Jvm.Cond.methodLink "DebtorsHouse" (403 : Nat) ({ cls := "DebtorsHouse", name := "binds", desc := "(II)Z" } : Jvm.MethodName)) ∈ lw_all := lw_g (lw_at lw_m5 217 rfl) rfl
theorem q1258 : (Jvm.Cond.methodLink "DebtorsHouse" (405 : Nat) ({ cls := "DebtorsHouse", name := "part", desc := "(II)I" } : Jvm.MethodName)) ∈ lw_all := lw_g (lw_at lw_m5 218 rfl) rfl
theorem q1259 : (Jvm.Cond.static ({ cls := "DebtorsHouse", name := "part", desc := "(II)I" } : Jvm.MethodName)) ∈ lw_all := lw_g (lw_at lw_m5 219 rfl) rfl
theorem q1260 : (Jvm.Cond.code ({ cls := "DebtorsHouse", name := "part", desc := "(II)I" } : Jvm.MethodName) prog_1_method_50_code (2 : Nat) (Option.some Jvm.ClassFile.FieldType.int)) ∈ lw_all := lw_g (lw_at lw_m5 220 rfl) rfl
theorem q1261 : (Jvm.Cond.constantLong "DebtorsHouse" (401 : Nat) (1000 : Int64)) ∈ lw_all := lw_g (lw_at lw_m5 221 rfl) rfl
theorem q1262 : (Jvm.Cond.fieldLink "DebtorsHouse" (408 : Nat) "DebtorsHouse$Stands" "PAID" "LDebtorsHouse$Stands;") ∈ lw_all := lw_g (lw_at lw_m5 222 rfl) rfl
theorem q1263 : (Jvm.Cond.fieldLink "DebtorsHouse" (411 : Nat) "DebtorsHouse$Stands" "FORGIVEN" "LDebtorsHouse$Stands;") ∈ lw_all := lw_g (lw_at lw_m5 223 rfl) rfl
theorem q1265 : (Jvm.Cond.methodLink "DebtorsHouse" (414 : Nat) ({ cls := "DebtorsHouse$Debt", name := "ends", desc := "(LDebtorsHouse$Stands;I)V" } : Jvm.MethodName)) ∈ lw_all := lw_g (lw_at lw_m5 225 rfl) rfl
theorem q1267 : (Jvm.Cond.instanceMethod ({ cls := "DebtorsHouse", name := "buy", desc := "(III)Z" } : Jvm.MethodName)) ∈ lw_all := lw_g (lw_at lw_m5 227 rfl) rfl
theorem q1268 : (Jvm.Cond.selects "DebtorsHouse" ({ cls := "DebtorsHouse", name := "buy", desc := "(III)Z" } : Jvm.MethodName) ({ cls := "DebtorsHouse", name := "buy", desc := "(III)Z" } : Jvm.MethodName)) ∈ lw_all := lw_g (lw_at lw_m5 228 rfl) rfl
theorem q1269 : (Jvm.Cond.code ({ cls := "DebtorsHouse", name := "buy", desc := "(III)Z" } : Jvm.MethodName) prog_1_method_52_code (5 : Nat) (Option.some Jvm.ClassFile.FieldType.boolean)) ∈ lw_all := lw_g (lw_at lw_m5 229 rfl) rfl
theorem q1271 : (Jvm.Cond.instanceMethod ({ cls := "DebtorsHouse", name := "swing", desc := "(IIII)I" } : Jvm.MethodName)) ∈ lw_all := lw_g (lw_at lw_m5 231 rfl) rfl
theorem q1272 : (Jvm.Cond.selects "DebtorsHouse" ({ cls := "DebtorsHouse", name := "swing", desc := "(IIII)I" } : Jvm.MethodName) ({ cls := "DebtorsHouse", name := "swing", desc := "(IIII)I" } : Jvm.MethodName)) ∈ lw_all := lw_g (lw_at lw_m5 232 rfl) rfl
theorem q1273 : (Jvm.Cond.code ({ cls := "DebtorsHouse", name := "swing", desc := "(IIII)I" } : Jvm.MethodName) prog_1_method_53_code (18 : Nat) (Option.some Jvm.ClassFile.FieldType.int)) ∈ lw_all := lw_g (lw_at lw_m5 233 rfl) rfl
theorem q1275 : (Jvm.Cond.instanceMethod ({ cls := "DebtorsHouse", name := "surrender", desc := "(I)I" } : Jvm.MethodName)) ∈ lw_all := lw_g (lw_at lw_m5 235 rfl) rfl
theorem q1276 : (Jvm.Cond.selects "DebtorsHouse" ({ cls := "DebtorsHouse", name := "surrender", desc := "(I)I" } : Jvm.MethodName) ({ cls := "DebtorsHouse", name := "surrender", desc := "(I)I" } : Jvm.MethodName)) ∈ lw_all := lw_g (lw_at lw_m5 236 rfl) rfl
theorem q1277 : (Jvm.Cond.code ({ cls := "DebtorsHouse", name := "surrender", desc := "(I)I" } : Jvm.MethodName) prog_1_method_56_code (8 : Nat) (Option.some Jvm.ClassFile.FieldType.int)) ∈ lw_all := lw_g (lw_at lw_m5 237 rfl) rfl
theorem q1278 : (Jvm.Cond.fieldLink "DebtorsHouse" (422 : Nat) "DebtorsHouse$Topic" "KEEP" "LDebtorsHouse$Topic;") ∈ lw_all := lw_g (lw_at lw_m5 238 rfl) rfl
theorem q1279 : (Jvm.Cond.methodLink "DebtorsHouse" (425 : Nat) ({ cls := "DebtorsHouse", name := "parts", desc := "(I)I" } : Jvm.MethodName)) ∈ lw_all := lw_g (lw_at lw_m5 239 rfl) rfl
theorem q1280 : (Jvm.Cond.privateMethod ({ cls := "DebtorsHouse", name := "parts", desc := "(I)I" } : Jvm.MethodName)) ∈ lw_tbl := lw_at lw_m6 0 rfl
theorem q1281 : (Jvm.Cond.instanceMethod ({ cls := "DebtorsHouse", name := "parts", desc := "(I)I" } : Jvm.MethodName)) ∈ lw_all := lw_g (lw_at lw_m6 1 rfl) rfl
theorem q1282 : (Jvm.Cond.code ({ cls := "DebtorsHouse", name := "parts", desc := "(I)I" } : Jvm.MethodName) prog_1_method_54_code (7 : Nat) (Option.some Jvm.ClassFile.FieldType.int)) ∈ lw_all := lw_g (lw_at lw_m6 2 rfl) rfl
theorem q1283 : (Jvm.Cond.methodLink "DebtorsHouse" (418 : Nat) ({ cls := "DebtorsHouse", name := "shares", desc := "(IIJ)V" } : Jvm.MethodName)) ∈ lw_all := lw_g (lw_at lw_m6 3 rfl) rfl
theorem q1284 : (Jvm.Cond.privateMethod ({ cls := "DebtorsHouse", name := "shares", desc := "(IIJ)V" } : Jvm.MethodName)) ∈ lw_tbl := lw_at lw_m6 4 rfl
theorem q1285 : (Jvm.Cond.instanceMethod ({ cls := "DebtorsHouse", name := "shares", desc := "(IIJ)V" } : Jvm.MethodName)) ∈ lw_all := lw_g (lw_at lw_m6 5 rfl) rfl
theorem q1286 : (Jvm.Cond.code ({ cls := "DebtorsHouse", name := "shares", desc := "(IIJ)V" } : Jvm.MethodName) prog_1_method_55_code (10 : Nat) (Option.none : Option Jvm.ClassFile.FieldType)) ∈ lw_all := lw_g (lw_at lw_m6 6 rfl) rfl
theorem q1287 : (Jvm.Cond.fieldLink "DebtorsHouse" (428 : Nat) "DebtorsHouse$Stands" "RELEASED" "LDebtorsHouse$Stands;") ∈ lw_all := lw_g (lw_at lw_m6 7 rfl) rfl
theorem q1290 : (Jvm.Cond.instanceMethod ({ cls := "DebtorsHouse", name := "found", desc := "(II)I" } : Jvm.MethodName)) ∈ lw_all := lw_g (lw_at lw_m6 10 rfl) rfl
theorem q1291 : (Jvm.Cond.selects "DebtorsHouse" ({ cls := "DebtorsHouse", name := "found", desc := "(II)I" } : Jvm.MethodName) ({ cls := "DebtorsHouse", name := "found", desc := "(II)I" } : Jvm.MethodName)) ∈ lw_all := lw_g (lw_at lw_m6 11 rfl) rfl
theorem q1292 : (Jvm.Cond.code ({ cls := "DebtorsHouse", name := "found", desc := "(II)I" } : Jvm.MethodName) prog_1_method_57_code (7 : Nat) (Option.some Jvm.ClassFile.FieldType.int)) ∈ lw_all := lw_g (lw_at lw_m6 12 rfl) rfl
theorem q1293 : (Jvm.Cond.fieldLink "DebtorsHouse" (431 : Nat) "DebtorsHouse$Topic" "OPENS" "LDebtorsHouse$Topic;") ∈ lw_all := lw_g (lw_at lw_m6 13 rfl) rfl
theorem q1296 : (Jvm.Cond.instanceMethod ({ cls := "DebtorsHouse", name := "book", desc := "(II)I" } : Jvm.MethodName)) ∈ lw_all := lw_g (lw_at lw_m6 16 rfl) rfl
theorem q1297 : (Jvm.Cond.selects "DebtorsHouse" ({ cls := "DebtorsHouse", name := "book", desc := "(II)I" } : Jvm.MethodName) ({ cls := "DebtorsHouse", name := "book", desc := "(II)I" } : Jvm.MethodName)) ∈ lw_all := lw_g (lw_at lw_m6 17 rfl) rfl
theorem q1298 : (Jvm.Cond.code ({ cls := "DebtorsHouse", name := "book", desc := "(II)I" } : Jvm.MethodName) prog_1_method_59_code (3 : Nat) (Option.some Jvm.ClassFile.FieldType.int)) ∈ lw_all := lw_g (lw_at lw_m6 18 rfl) rfl
theorem q1299 : (Jvm.Cond.constant "DebtorsHouse" (437 : Nat) (-100000 : Int32)) ∈ lw_all := lw_g (lw_at lw_m6 19 rfl) rfl
theorem q1300 : (Jvm.Cond.methodLink "DebtorsHouse" (438 : Nat) ({ cls := "DebtorsHouse", name := "rows", desc := "()I" } : Jvm.MethodName)) ∈ lw_all := lw_g (lw_at lw_m6 20 rfl) rfl
theorem q1301 : (Jvm.Cond.privateMethod ({ cls := "DebtorsHouse", name := "rows", desc := "()I" } : Jvm.MethodName)) ∈ lw_tbl := lw_at lw_m6 21 rfl
theorem q1302 : (Jvm.Cond.instanceMethod ({ cls := "DebtorsHouse", name := "rows", desc := "()I" } : Jvm.MethodName)) ∈ lw_all := lw_g (lw_at lw_m6 22 rfl) rfl
theorem q1303 : (Jvm.Cond.code ({ cls := "DebtorsHouse", name := "rows", desc := "()I" } : Jvm.MethodName) prog_1_method_58_code (3 : Nat) (Option.some Jvm.ClassFile.FieldType.int)) ∈ lw_all := lw_g (lw_at lw_m6 23 rfl) rfl
theorem q1304 : (Jvm.Cond.methodLink "DebtorsHouse" (440 : Nat) ({ cls := "DebtorsHouse$Person", name := "writes", desc := "(I)V" } : Jvm.MethodName)) ∈ lw_all := lw_g (lw_at lw_m6 24 rfl) rfl
theorem q1310 : (Jvm.Cond.instanceMethod ({ cls := "DebtorsHouse", name := "free", desc := "(II)I" } : Jvm.MethodName)) ∈ lw_all := lw_g (lw_at lw_m6 30 rfl) rfl
theorem q1311 : (Jvm.Cond.selects "DebtorsHouse" ({ cls := "DebtorsHouse", name := "free", desc := "(II)I" } : Jvm.MethodName) ({ cls := "DebtorsHouse", name := "free", desc := "(II)I" } : Jvm.MethodName)) ∈ lw_all := lw_g (lw_at lw_m6 31 rfl) rfl
theorem q1312 : (Jvm.Cond.code ({ cls := "DebtorsHouse", name := "free", desc := "(II)I" } : Jvm.MethodName) prog_1_method_62_code (8 : Nat) (Option.some Jvm.ClassFile.FieldType.int)) ∈ lw_all := lw_g (lw_at lw_m6 32 rfl) rfl
theorem q1313 : (Jvm.Cond.constantLong "DebtorsHouse" (452 : Nat) (9223372036854775807 : Int64)) ∈ lw_all := lw_g (lw_at lw_m6 33 rfl) rfl
theorem q1314 : (Jvm.Cond.methodLink "DebtorsHouse" (454 : Nat) ({ cls := "DebtorsHouse", name := "lacks", desc := "(II)J" } : Jvm.MethodName)) ∈ lw_all := lw_g (lw_at lw_m6 34 rfl) rfl
theorem q1315 : (Jvm.Cond.privateMethod ({ cls := "DebtorsHouse", name := "lacks", desc := "(II)J" } : Jvm.MethodName)) ∈ lw_tbl := lw_at lw_m6 35 rfl
theorem q1316 : (Jvm.Cond.instanceMethod ({ cls := "DebtorsHouse", name := "lacks", desc := "(II)J" } : Jvm.MethodName)) ∈ lw_all := lw_g (lw_at lw_m6 36 rfl) rfl
theorem q1317 : (Jvm.Cond.code ({ cls := "DebtorsHouse", name := "lacks", desc := "(II)J" } : Jvm.MethodName) prog_1_method_61_code (7 : Nat) (Option.some Jvm.ClassFile.FieldType.long)) ∈ lw_all := lw_g (lw_at lw_m6 37 rfl) rfl
theorem q1318 : (Jvm.Cond.methodLink "DebtorsHouse" (443 : Nat) ({ cls := "DebtorsHouse", name := "dueTo", desc := "(II)I" } : Jvm.MethodName)) ∈ lw_all := lw_g (lw_at lw_m6 38 rfl) rfl
theorem q1319 : (Jvm.Cond.privateMethod ({ cls := "DebtorsHouse", name := "dueTo", desc := "(II)I" } : Jvm.MethodName)) ∈ lw_tbl := lw_at lw_m6 39 rfl
theorem q1320 : (Jvm.Cond.instanceMethod ({ cls := "DebtorsHouse", name := "dueTo", desc := "(II)I" } : Jvm.MethodName)) ∈ lw_all := lw_g (lw_at lw_m6 40 rfl) rfl
theorem q1321 : (Jvm.Cond.code ({ cls := "DebtorsHouse", name := "dueTo", desc := "(II)I" } : Jvm.MethodName) prog_1_method_60_code (5 : Nat) (Option.some Jvm.ClassFile.FieldType.int)) ∈ lw_all := lw_g (lw_at lw_m6 41 rfl) rfl
theorem q1322 : (Jvm.Cond.methodLink "DebtorsHouse" (446 : Nat) ({ cls := "java/lang/Math", name := "max", desc := "(JJ)J" } : Jvm.MethodName)) ∈ lw_all := lw_g (lw_at lw_m6 42 rfl) rfl
theorem q1325 : (Jvm.Cond.methodLink "DebtorsHouse" (458 : Nat) ({ cls := "java/lang/Math", name := "min", desc := "(JJ)J" } : Jvm.MethodName)) ∈ lw_all := lw_g (lw_at lw_m6 45 rfl) rfl
theorem q1328 : (Jvm.Cond.methodLink "DebtorsHouse" (460 : Nat) ({ cls := "java/lang/Integer", name := "bitCount", desc := "(I)I" } : Jvm.MethodName)) ∈ lw_all := lw_g (lw_at lw_m6 48 rfl) rfl
theorem q1335 : (Jvm.Cond.instanceMethod ({ cls := "DebtorsHouse", name := "count", desc := "(I)I" } : Jvm.MethodName)) ∈ lw_all := lw_g (lw_at lw_m6 55 rfl) rfl
theorem q1336 : (Jvm.Cond.selects "DebtorsHouse" ({ cls := "DebtorsHouse", name := "count", desc := "(I)I" } : Jvm.MethodName) ({ cls := "DebtorsHouse", name := "count", desc := "(I)I" } : Jvm.MethodName)) ∈ lw_all := lw_g (lw_at lw_m6 56 rfl) rfl
theorem q1337 : (Jvm.Cond.code ({ cls := "DebtorsHouse", name := "count", desc := "(I)I" } : Jvm.MethodName) prog_1_method_63_code (7 : Nat) (Option.some Jvm.ClassFile.FieldType.int)) ∈ lw_all := lw_g (lw_at lw_m6 57 rfl) rfl
theorem q1339 : (Jvm.Cond.instanceMethod ({ cls := "DebtorsHouse", name := "image", desc := "(I)Z" } : Jvm.MethodName)) ∈ lw_all := lw_g (lw_at lw_m6 59 rfl) rfl
theorem q1340 : (Jvm.Cond.selects "DebtorsHouse" ({ cls := "DebtorsHouse", name := "image", desc := "(I)Z" } : Jvm.MethodName) ({ cls := "DebtorsHouse", name := "image", desc := "(I)Z" } : Jvm.MethodName)) ∈ lw_all := lw_g (lw_at lw_m6 60 rfl) rfl
theorem q1341 : (Jvm.Cond.code ({ cls := "DebtorsHouse", name := "image", desc := "(I)Z" } : Jvm.MethodName) prog_1_method_64_code (2 : Nat) (Option.some Jvm.ClassFile.FieldType.boolean)) ∈ lw_all := lw_g (lw_at lw_m6 61 rfl) rfl
theorem q1342 : (Jvm.Cond.methodLink "DebtorsHouse" (465 : Nat) ({ cls := "DebtorsHouse$State", name := "be", desc := "(LDebtorsHouse$State;)V" } : Jvm.MethodName)) ∈ lw_all := lw_g (lw_at lw_m6 62 rfl) rfl
theorem q1384 : (Jvm.Cond.instanceMethod ({ cls := "DebtorsHouse", name := "again", desc := "(I)Z" } : Jvm.MethodName)) ∈ lw_all := lw_g (lw_at lw_m6 104 rfl) rfl
theorem q1385 : (Jvm.Cond.selects "DebtorsHouse" ({ cls := "DebtorsHouse", name := "again", desc := "(I)Z" } : Jvm.MethodName) ({ cls := "DebtorsHouse", name := "again", desc := "(I)Z" } : Jvm.MethodName)) ∈ lw_all := lw_g (lw_at lw_m6 105 rfl) rfl
theorem q1386 : (Jvm.Cond.code ({ cls := "DebtorsHouse", name := "again", desc := "(I)Z" } : Jvm.MethodName) prog_1_method_65_code (2 : Nat) (Option.some Jvm.ClassFile.FieldType.boolean)) ∈ lw_all := lw_g (lw_at lw_m6 106 rfl) rfl
theorem q2007 : (Jvm.Cond.castable "DebtorsHouse" "java/lang/Object") ∈ lw_tbl := lw_at lw_m9 7 rfl
theorem q2037 : (Jvm.Cond.fieldLinkNest "DebtorsHouse" (300 : Nat) "DebtorsHouse$Topic" "without" "I" "DebtorsHouse") ∈ lw_tbl := lw_at lw_m9 37 rfl
theorem in_X0 : ∀ w ∈ wsX00, w ∈ lw_all := lw_in wsX00 [229, 231, 233, 235, 237, 239, 241, 243, 245, 247] (by decide +kernel) (by decide +kernel)
