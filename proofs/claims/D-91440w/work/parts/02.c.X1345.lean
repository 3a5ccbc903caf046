/-! DebtorsHouse$State -/
set_option maxRecDepth 100000
def RX1 : String := "DebtorsHouse$State"
def TX1 : u_T := fun k => match k with
  | 0 => ("DebtorsHouse$State", "tape", "[B", true)
  | 1 => ("DebtorsHouse$State", "taped", "I", false)
  | 2 => ("DebtorsHouse$State", "faultKind", "I", false)
  | 3 => ("DebtorsHouse$State", "faultPlace", "I", false)
  | 4 => ("DebtorsHouse$State", "day", "I", false)
  | 5 => ("DebtorsHouse$State", "hour", "I", false)
  | 6 => ("DebtorsHouse$State", "fees", "I", false)
  | 7 => ("DebtorsHouse$State", "many", "I", false)
  | 8 => ("DebtorsHouse$State", "persons", "Ljava/util/ArrayList;", true)
  | 9 => ("DebtorsHouse$State", "debts", "Ljava/util/ArrayList;", true)
  | 10 => ("DebtorsHouse$State", "acts", "Ljava/util/ArrayList;", true)
  | 11 => ("DebtorsHouse$State", "least", "[[I", true)
  | _ => ("DebtorsHouse$State", "ring", "[I", true)
def tyX1 : Nat → FieldType := fun k => match k with
  | 0 => .array .byte
  | 1 => .int
  | 2 => .int
  | 3 => .int
  | 4 => .int
  | 5 => .int
  | 6 => .int
  | 7 => .int
  | 8 => .object "java/util/ArrayList"
  | 9 => .object "java/util/ArrayList"
  | 10 => .object "java/util/ArrayList"
  | 11 => .array (.array .int)
  | _ => .array .int
abbrev wsX10 : List Cond := u_ws RX1 TX1 13
set_option maxRecDepth 100000 in
theorem nmX1 : ∀ a, a < 13 → ∀ b, b < 13 → a ≠ b → (TX1 a).2.1 ≠ (TX1 b).2.1 := by decide +kernel
set_option maxRecDepth 100000 in
theorem tyX1_ok : ∀ k, k < 13 → parseFieldDescriptor (TX1 k).2.2.1 = some (tyX1 k) := by decide +kernel
abbrev cX1_init : ByteArray := prog_10_method_1_code
def yX1_init : MethodName := ⟨RX1, "<init>", "()V"⟩
theorem dX1_init_0 : decode cX1_init 0 = .ok (.aload_n 0, 1) := by decide +kernel
theorem dX1_init_1 : decode cX1_init 1 = .ok (.invokespecial 3, 3) := by decide +kernel
theorem dX1_init_4 : decode cX1_init 4 = .ok (.aload_n 0, 1) := by decide +kernel
theorem dX1_init_5 : decode cX1_init 5 = .ok (.sipush 600, 3) := by decide +kernel
theorem dX1_init_8 : decode cX1_init 8 = .ok (.newarray .byte, 2) := by decide +kernel
theorem dX1_init_10 : decode cX1_init 10 = .ok (.putfield 9, 3) := by decide +kernel
theorem dX1_init_13 : decode cX1_init 13 = .ok (.aload_n 0, 1) := by decide +kernel
theorem dX1_init_14 : decode cX1_init 14 = .ok (.iconst (-1), 1) := by decide +kernel
theorem dX1_init_15 : decode cX1_init 15 = .ok (.putfield 15, 3) := by decide +kernel
theorem dX1_init_18 : decode cX1_init 18 = .ok (.aload_n 0, 1) := by decide +kernel
theorem dX1_init_19 : decode cX1_init 19 = .ok (.new 19, 3) := by decide +kernel
theorem dX1_init_22 : decode cX1_init 22 = .ok (.dup, 1) := by decide +kernel
theorem dX1_init_23 : decode cX1_init 23 = .ok (.bipush 12, 2) := by decide +kernel
theorem dX1_init_25 : decode cX1_init 25 = .ok (.invokespecial 21, 3) := by decide +kernel
theorem dX1_init_28 : decode cX1_init 28 = .ok (.putfield 24, 3) := by decide +kernel
theorem dX1_init_31 : decode cX1_init 31 = .ok (.aload_n 0, 1) := by decide +kernel
theorem dX1_init_32 : decode cX1_init 32 = .ok (.new 19, 3) := by decide +kernel
theorem dX1_init_35 : decode cX1_init 35 = .ok (.dup, 1) := by decide +kernel
theorem dX1_init_36 : decode cX1_init 36 = .ok (.bipush 40, 2) := by decide +kernel
theorem dX1_init_38 : decode cX1_init 38 = .ok (.invokespecial 21, 3) := by decide +kernel
theorem dX1_init_41 : decode cX1_init 41 = .ok (.putfield 28, 3) := by decide +kernel
theorem dX1_init_44 : decode cX1_init 44 = .ok (.aload_n 0, 1) := by decide +kernel
theorem dX1_init_45 : decode cX1_init 45 = .ok (.new 19, 3) := by decide +kernel
theorem dX1_init_48 : decode cX1_init 48 = .ok (.dup, 1) := by decide +kernel
theorem dX1_init_49 : decode cX1_init 49 = .ok (.iconst 4, 1) := by decide +kernel
theorem dX1_init_50 : decode cX1_init 50 = .ok (.invokespecial 21, 3) := by decide +kernel
theorem dX1_init_53 : decode cX1_init 53 = .ok (.putfield 31, 3) := by decide +kernel
theorem dX1_init_56 : decode cX1_init 56 = .ok (.aload_n 0, 1) := by decide +kernel
theorem dX1_init_57 : decode cX1_init 57 = .ok (.bipush 12, 2) := by decide +kernel
theorem dX1_init_59 : decode cX1_init 59 = .ok (.bipush 12, 2) := by decide +kernel
theorem dX1_init_61 : decode cX1_init 61 = .ok (.multianewarray 34 2, 4) := by decide +kernel
theorem dX1_init_65 : decode cX1_init 65 = .ok (.putfield 36, 3) := by decide +kernel
theorem dX1_init_68 : decode cX1_init 68 = .ok (.aload_n 0, 1) := by decide +kernel
theorem dX1_init_69 : decode cX1_init 69 = .ok (.bipush 12, 2) := by decide +kernel
theorem dX1_init_71 : decode cX1_init 71 = .ok (.newarray .int, 2) := by decide +kernel
theorem dX1_init_73 : decode cX1_init 73 = .ok (.putfield 39, 3) := by decide +kernel
theorem dX1_init_76 : decode cX1_init 76 = .ok (.iconst 0, 1) := by decide +kernel
theorem dX1_init_77 : decode cX1_init 77 = .ok (.istore_n 1, 1) := by decide +kernel
theorem dX1_init_78 : decode cX1_init 78 = .ok (.iload_n 1, 1) := by decide +kernel
theorem dX1_init_79 : decode cX1_init 79 = .ok (.bipush 12, 2) := by decide +kernel
theorem dX1_init_81 : decode cX1_init 81 = .ok (.if_icmp .ge 21, 3) := by decide +kernel
theorem dX1_init_84 : decode cX1_init 84 = .ok (.aload_n 0, 1) := by decide +kernel
theorem dX1_init_85 : decode cX1_init 85 = .ok (.getfield 36, 3) := by decide +kernel
theorem dX1_init_88 : decode cX1_init 88 = .ok (.iload_n 1, 1) := by decide +kernel
theorem dX1_init_89 : decode cX1_init 89 = .ok (.aaload, 1) := by decide +kernel
theorem dX1_init_90 : decode cX1_init 90 = .ok (.sipush 1000, 3) := by decide +kernel
theorem dX1_init_93 : decode cX1_init 93 = .ok (.invokestatic 43, 3) := by decide +kernel
theorem dX1_init_96 : decode cX1_init 96 = .ok (.iinc 1 1, 3) := by decide +kernel
theorem dX1_init_99 : decode cX1_init 99 = .ok (.goto (-21), 3) := by decide +kernel
theorem dX1_init_102 : decode cX1_init 102 = .ok (.return_, 1) := by decide +kernel
abbrev cX1_be : ByteArray := prog_10_method_2_code
def yX1_be : MethodName := ⟨RX1, "be", "(LDebtorsHouse$State;)V"⟩
theorem dX1_be_0 : decode cX1_be 0 = .ok (.aload_n 1, 1) := by decide +kernel
theorem dX1_be_1 : decode cX1_be 1 = .ok (.getfield 9, 3) := by decide +kernel
theorem dX1_be_4 : decode cX1_be 4 = .ok (.iconst 0, 1) := by decide +kernel
theorem dX1_be_5 : decode cX1_be 5 = .ok (.aload_n 0, 1) := by decide +kernel
theorem dX1_be_6 : decode cX1_be 6 = .ok (.getfield 9, 3) := by decide +kernel
theorem dX1_be_9 : decode cX1_be 9 = .ok (.iconst 0, 1) := by decide +kernel
theorem dX1_be_10 : decode cX1_be 10 = .ok (.sipush 600, 3) := by decide +kernel
theorem dX1_be_13 : decode cX1_be 13 = .ok (.invokestatic 49, 3) := by decide +kernel
theorem dX1_be_16 : decode cX1_be 16 = .ok (.aload_n 0, 1) := by decide +kernel
theorem dX1_be_17 : decode cX1_be 17 = .ok (.aload_n 1, 1) := by decide +kernel
theorem dX1_be_18 : decode cX1_be 18 = .ok (.getfield 55, 3) := by decide +kernel
theorem dX1_be_21 : decode cX1_be 21 = .ok (.putfield 55, 3) := by decide +kernel
theorem dX1_be_24 : decode cX1_be 24 = .ok (.aload_n 0, 1) := by decide +kernel
theorem dX1_be_25 : decode cX1_be 25 = .ok (.aload_n 1, 1) := by decide +kernel
theorem dX1_be_26 : decode cX1_be 26 = .ok (.getfield 58, 3) := by decide +kernel
theorem dX1_be_29 : decode cX1_be 29 = .ok (.putfield 58, 3) := by decide +kernel
theorem dX1_be_32 : decode cX1_be 32 = .ok (.aload_n 0, 1) := by decide +kernel
theorem dX1_be_33 : decode cX1_be 33 = .ok (.aload_n 1, 1) := by decide +kernel
theorem dX1_be_34 : decode cX1_be 34 = .ok (.getfield 15, 3) := by decide +kernel
theorem dX1_be_37 : decode cX1_be 37 = .ok (.putfield 15, 3) := by decide +kernel
theorem dX1_be_40 : decode cX1_be 40 = .ok (.aload_n 0, 1) := by decide +kernel
theorem dX1_be_41 : decode cX1_be 41 = .ok (.aload_n 1, 1) := by decide +kernel
theorem dX1_be_42 : decode cX1_be 42 = .ok (.getfield 61, 3) := by decide +kernel
theorem dX1_be_45 : decode cX1_be 45 = .ok (.putfield 61, 3) := by decide +kernel
theorem dX1_be_48 : decode cX1_be 48 = .ok (.aload_n 0, 1) := by decide +kernel
theorem dX1_be_49 : decode cX1_be 49 = .ok (.aload_n 1, 1) := by decide +kernel
theorem dX1_be_50 : decode cX1_be 50 = .ok (.getfield 64, 3) := by decide +kernel
theorem dX1_be_53 : decode cX1_be 53 = .ok (.putfield 64, 3) := by decide +kernel
theorem dX1_be_56 : decode cX1_be 56 = .ok (.aload_n 0, 1) := by decide +kernel
theorem dX1_be_57 : decode cX1_be 57 = .ok (.aload_n 1, 1) := by decide +kernel
theorem dX1_be_58 : decode cX1_be 58 = .ok (.getfield 67, 3) := by decide +kernel
theorem dX1_be_61 : decode cX1_be 61 = .ok (.putfield 67, 3) := by decide +kernel
theorem dX1_be_64 : decode cX1_be 64 = .ok (.aload_n 0, 1) := by decide +kernel
theorem dX1_be_65 : decode cX1_be 65 = .ok (.aload_n 1, 1) := by decide +kernel
theorem dX1_be_66 : decode cX1_be 66 = .ok (.getfield 70, 3) := by decide +kernel
theorem dX1_be_69 : decode cX1_be 69 = .ok (.putfield 70, 3) := by decide +kernel
theorem dX1_be_72 : decode cX1_be 72 = .ok (.aload_n 0, 1) := by decide +kernel
theorem dX1_be_73 : decode cX1_be 73 = .ok (.getfield 24, 3) := by decide +kernel
theorem dX1_be_76 : decode cX1_be 76 = .ok (.invokevirtual 73, 3) := by decide +kernel
theorem dX1_be_79 : decode cX1_be 79 = .ok (.iconst 0, 1) := by decide +kernel
theorem dX1_be_80 : decode cX1_be 80 = .ok (.istore_n 2, 1) := by decide +kernel
theorem dX1_be_81 : decode cX1_be 81 = .ok (.iload_n 2, 1) := by decide +kernel
theorem dX1_be_82 : decode cX1_be 82 = .ok (.aload_n 1, 1) := by decide +kernel
theorem dX1_be_83 : decode cX1_be 83 = .ok (.getfield 24, 3) := by decide +kernel
theorem dX1_be_86 : decode cX1_be 86 = .ok (.invokevirtual 76, 3) := by decide +kernel
theorem dX1_be_89 : decode cX1_be 89 = .ok (.if_icmp .ge 31, 3) := by decide +kernel
theorem dX1_be_92 : decode cX1_be 92 = .ok (.aload_n 0, 1) := by decide +kernel
theorem dX1_be_93 : decode cX1_be 93 = .ok (.getfield 24, 3) := by decide +kernel
theorem dX1_be_96 : decode cX1_be 96 = .ok (.aload_n 1, 1) := by decide +kernel
theorem dX1_be_97 : decode cX1_be 97 = .ok (.getfield 24, 3) := by decide +kernel
theorem dX1_be_100 : decode cX1_be 100 = .ok (.iload_n 2, 1) := by decide +kernel
theorem dX1_be_101 : decode cX1_be 101 = .ok (.invokevirtual 80, 3) := by decide +kernel
theorem dX1_be_104 : decode cX1_be 104 = .ok (.checkcast 84, 3) := by decide +kernel
theorem dX1_be_107 : decode cX1_be 107 = .ok (.invokevirtual 86, 3) := by decide +kernel
theorem dX1_be_110 : decode cX1_be 110 = .ok (.invokevirtual 90, 3) := by decide +kernel
theorem dX1_be_113 : decode cX1_be 113 = .ok (.pop, 1) := by decide +kernel
theorem dX1_be_114 : decode cX1_be 114 = .ok (.iinc 2 1, 3) := by decide +kernel
theorem dX1_be_117 : decode cX1_be 117 = .ok (.goto (-36), 3) := by decide +kernel
theorem dX1_be_120 : decode cX1_be 120 = .ok (.aload_n 0, 1) := by decide +kernel
theorem dX1_be_121 : decode cX1_be 121 = .ok (.getfield 28, 3) := by decide +kernel
theorem dX1_be_124 : decode cX1_be 124 = .ok (.invokevirtual 73, 3) := by decide +kernel
theorem dX1_be_127 : decode cX1_be 127 = .ok (.iconst 0, 1) := by decide +kernel
theorem dX1_be_128 : decode cX1_be 128 = .ok (.istore_n 2, 1) := by decide +kernel
theorem dX1_be_129 : decode cX1_be 129 = .ok (.iload_n 2, 1) := by decide +kernel
theorem dX1_be_130 : decode cX1_be 130 = .ok (.aload_n 1, 1) := by decide +kernel
theorem dX1_be_131 : decode cX1_be 131 = .ok (.getfield 28, 3) := by decide +kernel
theorem dX1_be_134 : decode cX1_be 134 = .ok (.invokevirtual 76, 3) := by decide +kernel
theorem dX1_be_137 : decode cX1_be 137 = .ok (.if_icmp .ge 31, 3) := by decide +kernel
theorem dX1_be_140 : decode cX1_be 140 = .ok (.aload_n 0, 1) := by decide +kernel
theorem dX1_be_141 : decode cX1_be 141 = .ok (.getfield 28, 3) := by decide +kernel
theorem dX1_be_144 : decode cX1_be 144 = .ok (.aload_n 1, 1) := by decide +kernel
theorem dX1_be_145 : decode cX1_be 145 = .ok (.getfield 28, 3) := by decide +kernel
theorem dX1_be_148 : decode cX1_be 148 = .ok (.iload_n 2, 1) := by decide +kernel
theorem dX1_be_149 : decode cX1_be 149 = .ok (.invokevirtual 80, 3) := by decide +kernel
theorem dX1_be_152 : decode cX1_be 152 = .ok (.checkcast 94, 3) := by decide +kernel
theorem dX1_be_155 : decode cX1_be 155 = .ok (.invokevirtual 96, 3) := by decide +kernel
theorem dX1_be_158 : decode cX1_be 158 = .ok (.invokevirtual 90, 3) := by decide +kernel
theorem dX1_be_161 : decode cX1_be 161 = .ok (.pop, 1) := by decide +kernel
theorem dX1_be_162 : decode cX1_be 162 = .ok (.iinc 2 1, 3) := by decide +kernel
theorem dX1_be_165 : decode cX1_be 165 = .ok (.goto (-36), 3) := by decide +kernel
theorem dX1_be_168 : decode cX1_be 168 = .ok (.aload_n 0, 1) := by decide +kernel
theorem dX1_be_169 : decode cX1_be 169 = .ok (.getfield 31, 3) := by decide +kernel
theorem dX1_be_172 : decode cX1_be 172 = .ok (.invokevirtual 73, 3) := by decide +kernel
theorem dX1_be_175 : decode cX1_be 175 = .ok (.aload_n 0, 1) := by decide +kernel
theorem dX1_be_176 : decode cX1_be 176 = .ok (.getfield 31, 3) := by decide +kernel
theorem dX1_be_179 : decode cX1_be 179 = .ok (.aload_n 1, 1) := by decide +kernel
theorem dX1_be_180 : decode cX1_be 180 = .ok (.getfield 31, 3) := by decide +kernel
theorem dX1_be_183 : decode cX1_be 183 = .ok (.invokevirtual 99, 3) := by decide +kernel
theorem dX1_be_186 : decode cX1_be 186 = .ok (.pop, 1) := by decide +kernel
theorem dX1_be_187 : decode cX1_be 187 = .ok (.iconst 0, 1) := by decide +kernel
theorem dX1_be_188 : decode cX1_be 188 = .ok (.istore_n 2, 1) := by decide +kernel
theorem dX1_be_189 : decode cX1_be 189 = .ok (.iload_n 2, 1) := by decide +kernel
theorem dX1_be_190 : decode cX1_be 190 = .ok (.bipush 12, 2) := by decide +kernel
theorem dX1_be_192 : decode cX1_be 192 = .ok (.if_icmp .ge 28, 3) := by decide +kernel
theorem dX1_be_195 : decode cX1_be 195 = .ok (.aload_n 1, 1) := by decide +kernel
theorem dX1_be_196 : decode cX1_be 196 = .ok (.getfield 36, 3) := by decide +kernel
theorem dX1_be_199 : decode cX1_be 199 = .ok (.iload_n 2, 1) := by decide +kernel
theorem dX1_be_200 : decode cX1_be 200 = .ok (.aaload, 1) := by decide +kernel
theorem dX1_be_201 : decode cX1_be 201 = .ok (.iconst 0, 1) := by decide +kernel
theorem dX1_be_202 : decode cX1_be 202 = .ok (.aload_n 0, 1) := by decide +kernel
theorem dX1_be_203 : decode cX1_be 203 = .ok (.getfield 36, 3) := by decide +kernel
theorem dX1_be_206 : decode cX1_be 206 = .ok (.iload_n 2, 1) := by decide +kernel
theorem dX1_be_207 : decode cX1_be 207 = .ok (.aaload, 1) := by decide +kernel
theorem dX1_be_208 : decode cX1_be 208 = .ok (.iconst 0, 1) := by decide +kernel
theorem dX1_be_209 : decode cX1_be 209 = .ok (.bipush 12, 2) := by decide +kernel
theorem dX1_be_211 : decode cX1_be 211 = .ok (.invokestatic 49, 3) := by decide +kernel
theorem dX1_be_214 : decode cX1_be 214 = .ok (.iinc 2 1, 3) := by decide +kernel
theorem dX1_be_217 : decode cX1_be 217 = .ok (.goto (-28), 3) := by decide +kernel
theorem dX1_be_220 : decode cX1_be 220 = .ok (.aload_n 1, 1) := by decide +kernel
theorem dX1_be_221 : decode cX1_be 221 = .ok (.getfield 39, 3) := by decide +kernel
theorem dX1_be_224 : decode cX1_be 224 = .ok (.iconst 0, 1) := by decide +kernel
theorem dX1_be_225 : decode cX1_be 225 = .ok (.aload_n 0, 1) := by decide +kernel
theorem dX1_be_226 : decode cX1_be 226 = .ok (.getfield 39, 3) := by decide +kernel
theorem dX1_be_229 : decode cX1_be 229 = .ok (.iconst 0, 1) := by decide +kernel
theorem dX1_be_230 : decode cX1_be 230 = .ok (.bipush 12, 2) := by decide +kernel
theorem dX1_be_232 : decode cX1_be 232 = .ok (.invokestatic 49, 3) := by decide +kernel
theorem dX1_be_235 : decode cX1_be 235 = .ok (.return_, 1) := by decide +kernel
theorem q82 : (Jvm.Cond.initialized "DebtorsHouse$State") ∈ lw_all := lw_g (lw_at lw_m1 2 rfl) rfl
theorem q123 : (Jvm.Cond.instantiable "DebtorsHouse$State" (13 : Nat)) ∈ lw_all := lw_g (lw_at lw_m1 43 rfl) rfl
theorem q125 : (Jvm.Cond.instanceMethod ({ cls := "DebtorsHouse$State", name := "<init>", desc := "()V" } : Jvm.MethodName)) ∈ lw_all := lw_g (lw_at lw_m1 45 rfl) rfl
theorem q126 : (Jvm.Cond.code ({ cls := "DebtorsHouse$State", name := "<init>", desc := "()V" } : Jvm.MethodName) prog_10_method_1_code (2 : Nat) (Option.none : Option Jvm.ClassFile.FieldType)) ∈ lw_all := lw_g (lw_at lw_m1 46 rfl) rfl
theorem q127 : (Jvm.Cond.methodLink "DebtorsHouse$State" (3 : Nat) ({ cls := "java/lang/Object", name := "<init>", desc := "()V" } : Jvm.MethodName)) ∈ lw_all := lw_g (lw_at lw_m1 47 rfl) rfl
theorem q128 : (Jvm.Cond.classLink "DebtorsHouse$State" (19 : Nat) "java/util/ArrayList") ∈ lw_all := lw_g (lw_at lw_m1 48 rfl) rfl
theorem q130 : (Jvm.Cond.methodLink "DebtorsHouse$State" (21 : Nat) ({ cls := "java/util/ArrayList", name := "<init>", desc := "(I)V" } : Jvm.MethodName)) ∈ lw_all := lw_g (lw_at lw_m1 50 rfl) rfl
theorem q157 : (Jvm.Cond.classLink "DebtorsHouse$State" (34 : Nat) "[[I") ∈ lw_all := lw_g (lw_at lw_m1 77 rfl) rfl
theorem q159 : (Jvm.Cond.methodLink "DebtorsHouse$State" (43 : Nat) ({ cls := "java/util/Arrays", name := "fill", desc := "([II)V" } : Jvm.MethodName)) ∈ lw_all := lw_g (lw_at lw_m1 79 rfl) rfl
theorem q162 : (Jvm.Cond.fieldLink "DebtorsHouse$State" (9 : Nat) "DebtorsHouse$State" "tape" "[B") ∈ lw_all := lw_g (lw_at lw_m1 82 rfl) rfl
theorem q164 : (Jvm.Cond.fieldLink "DebtorsHouse$State" (55 : Nat) "DebtorsHouse$State" "taped" "I") ∈ lw_all := lw_g (lw_at lw_m1 84 rfl) rfl
theorem q166 : (Jvm.Cond.fieldLink "DebtorsHouse$State" (58 : Nat) "DebtorsHouse$State" "faultKind" "I") ∈ lw_all := lw_g (lw_at lw_m1 86 rfl) rfl
theorem q168 : (Jvm.Cond.fieldLink "DebtorsHouse$State" (15 : Nat) "DebtorsHouse$State" "faultPlace" "I") ∈ lw_all := lw_g (lw_at lw_m1 88 rfl) rfl
theorem q170 : (Jvm.Cond.fieldLink "DebtorsHouse$State" (61 : Nat) "DebtorsHouse$State" "day" "I") ∈ lw_all := lw_g (lw_at lw_m1 90 rfl) rfl
theorem q172 : (Jvm.Cond.fieldLink "DebtorsHouse$State" (64 : Nat) "DebtorsHouse$State" "hour" "I") ∈ lw_all := lw_g (lw_at lw_m1 92 rfl) rfl
theorem q174 : (Jvm.Cond.fieldLink "DebtorsHouse$State" (67 : Nat) "DebtorsHouse$State" "fees" "I") ∈ lw_all := lw_g (lw_at lw_m1 94 rfl) rfl
theorem q176 : (Jvm.Cond.fieldLink "DebtorsHouse$State" (70 : Nat) "DebtorsHouse$State" "many" "I") ∈ lw_all := lw_g (lw_at lw_m1 96 rfl) rfl
theorem q178 : (Jvm.Cond.fieldLink "DebtorsHouse$State" (24 : Nat) "DebtorsHouse$State" "persons" "Ljava/util/ArrayList;") ∈ lw_all := lw_g (lw_at lw_m1 98 rfl) rfl
theorem q180 : (Jvm.Cond.fieldLink "DebtorsHouse$State" (28 : Nat) "DebtorsHouse$State" "debts" "Ljava/util/ArrayList;") ∈ lw_all := lw_g (lw_at lw_m1 100 rfl) rfl
theorem q182 : (Jvm.Cond.fieldLink "DebtorsHouse$State" (31 : Nat) "DebtorsHouse$State" "acts" "Ljava/util/ArrayList;") ∈ lw_all := lw_g (lw_at lw_m1 102 rfl) rfl
theorem q184 : (Jvm.Cond.fieldLink "DebtorsHouse$State" (36 : Nat) "DebtorsHouse$State" "least" "[[I") ∈ lw_all := lw_g (lw_at lw_m1 104 rfl) rfl
theorem q186 : (Jvm.Cond.fieldLink "DebtorsHouse$State" (39 : Nat) "DebtorsHouse$State" "ring" "[I") ∈ lw_all := lw_g (lw_at lw_m1 106 rfl) rfl
theorem q188 : (Jvm.Cond.laysFinal "DebtorsHouse$State" "DebtorsHouse$State" "tape" "[B") ∈ lw_all := lw_g (lw_at lw_m1 108 rfl) rfl
theorem q189 : (Jvm.Cond.soleField "DebtorsHouse$State" "tape") ∈ lw_all := lw_g (lw_at lw_m1 109 rfl) rfl
theorem q190 : (Jvm.Cond.lays "DebtorsHouse$State" "DebtorsHouse$State" "taped" "I") ∈ lw_all := lw_g (lw_at lw_m1 110 rfl) rfl
theorem q191 : (Jvm.Cond.soleField "DebtorsHouse$State" "taped") ∈ lw_all := lw_g (lw_at lw_m1 111 rfl) rfl
theorem q192 : (Jvm.Cond.lays "DebtorsHouse$State" "DebtorsHouse$State" "faultKind" "I") ∈ lw_all := lw_g (lw_at lw_m1 112 rfl) rfl
theorem q193 : (Jvm.Cond.soleField "DebtorsHouse$State" "faultKind") ∈ lw_all := lw_g (lw_at lw_m1 113 rfl) rfl
theorem q194 : (Jvm.Cond.lays "DebtorsHouse$State" "DebtorsHouse$State" "faultPlace" "I") ∈ lw_all := lw_g (lw_at lw_m1 114 rfl) rfl
theorem q195 : (Jvm.Cond.soleField "DebtorsHouse$State" "faultPlace") ∈ lw_all := lw_g (lw_at lw_m1 115 rfl) rfl
theorem q196 : (Jvm.Cond.lays "DebtorsHouse$State" "DebtorsHouse$State" "day" "I") ∈ lw_all := lw_g (lw_at lw_m1 116 rfl) rfl
theorem q197 : (Jvm.Cond.soleField "DebtorsHouse$State" "day") ∈ lw_all := lw_g (lw_at lw_m1 117 rfl) rfl
theorem q198 : (Jvm.Cond.lays "DebtorsHouse$State" "DebtorsHouse$State" "hour" "I") ∈ lw_all := lw_g (lw_at lw_m1 118 rfl) rfl
theorem q199 : (Jvm.Cond.soleField "DebtorsHouse$State" "hour") ∈ lw_all := lw_g (lw_at lw_m1 119 rfl) rfl
theorem q200 : (Jvm.Cond.lays "DebtorsHouse$State" "DebtorsHouse$State" "fees" "I") ∈ lw_all := lw_g (lw_at lw_m1 120 rfl) rfl
theorem q201 : (Jvm.Cond.soleField "DebtorsHouse$State" "fees") ∈ lw_all := lw_g (lw_at lw_m1 121 rfl) rfl
theorem q202 : (Jvm.Cond.lays "DebtorsHouse$State" "DebtorsHouse$State" "many" "I") ∈ lw_all := lw_g (lw_at lw_m1 122 rfl) rfl
theorem q203 : (Jvm.Cond.soleField "DebtorsHouse$State" "many") ∈ lw_all := lw_g (lw_at lw_m1 123 rfl) rfl
theorem q204 : (Jvm.Cond.laysFinal "DebtorsHouse$State" "DebtorsHouse$State" "persons" "Ljava/util/ArrayList;") ∈ lw_all := lw_g (lw_at lw_m1 124 rfl) rfl
theorem q205 : (Jvm.Cond.soleField "DebtorsHouse$State" "persons") ∈ lw_all := lw_g (lw_at lw_m1 125 rfl) rfl
theorem q206 : (Jvm.Cond.laysFinal "DebtorsHouse$State" "DebtorsHouse$State" "debts" "Ljava/util/ArrayList;") ∈ lw_all := lw_g (lw_at lw_m1 126 rfl) rfl
theorem q207 : (Jvm.Cond.soleField "DebtorsHouse$State" "debts") ∈ lw_all := lw_g (lw_at lw_m1 127 rfl) rfl
theorem q208 : (Jvm.Cond.laysFinal "DebtorsHouse$State" "DebtorsHouse$State" "acts" "Ljava/util/ArrayList;") ∈ lw_all := lw_g (lw_at lw_m1 128 rfl) rfl
theorem q209 : (Jvm.Cond.soleField "DebtorsHouse$State" "acts") ∈ lw_all := lw_g (lw_at lw_m1 129 rfl) rfl
theorem q210 : (Jvm.Cond.laysFinal "DebtorsHouse$State" "DebtorsHouse$State" "least" "[[I") ∈ lw_all := lw_g (lw_at lw_m1 130 rfl) rfl
theorem q211 : (Jvm.Cond.soleField "DebtorsHouse$State" "least") ∈ lw_all := lw_g (lw_at lw_m1 131 rfl) rfl
theorem q212 : (Jvm.Cond.laysFinal "DebtorsHouse$State" "DebtorsHouse$State" "ring" "[I") ∈ lw_all := lw_g (lw_at lw_m1 132 rfl) rfl
theorem q213 : (Jvm.Cond.soleField "DebtorsHouse$State" "ring") ∈ lw_all := lw_g (lw_at lw_m1 133 rfl) rfl
theorem q214 : (Jvm.Cond.superclass "DebtorsHouse$State" "java/lang/Object") ∈ lw_all := lw_g (lw_at lw_m1 134 rfl) rfl
theorem q373 : (Jvm.Cond.selects "DebtorsHouse$State" ({ cls := "java/lang/Object", name := "getClass", desc := "()Ljava/lang/Class;" } : Jvm.MethodName) ({ cls := "java/lang/Object", name := "getClass", desc := "()Ljava/lang/Class;" } : Jvm.MethodName)) ∈ lw_all := lw_g (lw_at lw_m2 53 rfl) rfl
theorem q1343 : (Jvm.Cond.instanceMethod ({ cls := "DebtorsHouse$State", name := "be", desc := "(LDebtorsHouse$State;)V" } : Jvm.MethodName)) ∈ lw_all := lw_g (lw_at lw_m6 63 rfl) rfl
theorem q1344 : (Jvm.Cond.selects "DebtorsHouse$State" ({ cls := "DebtorsHouse$State", name := "be", desc := "(LDebtorsHouse$State;)V" } : Jvm.MethodName) ({ cls := "DebtorsHouse$State", name := "be", desc := "(LDebtorsHouse$State;)V" } : Jvm.MethodName)) ∈ lw_all := lw_g (lw_at lw_m6 64 rfl) rfl
theorem q1345 : (Jvm.Cond.code ({ cls := "DebtorsHouse$State", name := "be", desc := "(LDebtorsHouse$State;)V" } : Jvm.MethodName) prog_10_method_2_code (3 : Nat) (Option.none : Option Jvm.ClassFile.FieldType)) ∈ lw_all := lw_g (lw_at lw_m6 65 rfl) rfl
theorem q1346 : (Jvm.Cond.methodLink "DebtorsHouse$State" (49 : Nat) ({ cls := "java/lang/System", name := "arraycopy", desc := "(Ljava/lang/Object;ILjava/lang/Object;II)V" } : Jvm.MethodName)) ∈ lw_all := lw_g (lw_at lw_m6 66 rfl) rfl
theorem q1347 : (Jvm.Cond.methodLink "DebtorsHouse$State" (73 : Nat) ({ cls := "java/util/ArrayList", name := "clear", desc := "()V" } : Jvm.MethodName)) ∈ lw_all := lw_g (lw_at lw_m6 67 rfl) rfl
theorem q1351 : (Jvm.Cond.methodLink "DebtorsHouse$State" (76 : Nat) ({ cls := "java/util/ArrayList", name := "size", desc := "()I" } : Jvm.MethodName)) ∈ lw_all := lw_g (lw_at lw_m6 71 rfl) rfl
theorem q1352 : (Jvm.Cond.methodLink "DebtorsHouse$State" (80 : Nat) ({ cls := "java/util/ArrayList", name := "get", desc := "(I)Ljava/lang/Object;" } : Jvm.MethodName)) ∈ lw_all := lw_g (lw_at lw_m6 72 rfl) rfl
theorem q1353 : (Jvm.Cond.classLink "DebtorsHouse$State" (84 : Nat) "DebtorsHouse$Person") ∈ lw_all := lw_g (lw_at lw_m6 73 rfl) rfl
theorem q1354 : (Jvm.Cond.methodLink "DebtorsHouse$State" (86 : Nat) ({ cls := "DebtorsHouse$Person", name := "copy", desc := "()LDebtorsHouse$Person;" } : Jvm.MethodName)) ∈ lw_all := lw_g (lw_at lw_m6 74 rfl) rfl
theorem q1360 : (Jvm.Cond.methodLink "DebtorsHouse$State" (90 : Nat) ({ cls := "java/util/ArrayList", name := "add", desc := "(Ljava/lang/Object;)Z" } : Jvm.MethodName)) ∈ lw_all := lw_g (lw_at lw_m6 80 rfl) rfl
theorem q1361 : (Jvm.Cond.classLink "DebtorsHouse$State" (94 : Nat) "DebtorsHouse$Debt") ∈ lw_all := lw_g (lw_at lw_m6 81 rfl) rfl
theorem q1362 : (Jvm.Cond.methodLink "DebtorsHouse$State" (96 : Nat) ({ cls := "DebtorsHouse$Debt", name := "copy", desc := "()LDebtorsHouse$Debt;" } : Jvm.MethodName)) ∈ lw_all := lw_g (lw_at lw_m6 82 rfl) rfl
theorem q1368 : (Jvm.Cond.methodLink "DebtorsHouse$State" (99 : Nat) ({ cls := "java/util/ArrayList", name := "addAll", desc := "(Ljava/util/Collection;)Z" } : Jvm.MethodName)) ∈ lw_all := lw_g (lw_at lw_m6 88 rfl) rfl
theorem q2006 : (Jvm.Cond.castable "DebtorsHouse$State" "java/lang/Object") ∈ lw_tbl := lw_at lw_m9 6 rfl
theorem in_X1 : ∀ w ∈ wsX10, w ∈ lw_all := lw_in wsX10 [188, 190, 192, 194, 196, 198, 200, 202, 204, 206, 208, 210, 212] (by decide +kernel) (by decide +kernel)
/-! DebtorsHouse$Person -/
set_option maxRecDepth 100000
def RX3 : String := "DebtorsHouse$Person"
def TX3 : u_T := fun k => match k with
  | 0 => ("DebtorsHouse$Person", "number", "I", true)
  | 1 => ("DebtorsHouse$Person", "children", "I", true)
  | 2 => ("DebtorsHouse$Person", "coins", "I", false)
  | 3 => ("DebtorsHouse$Person", "since", "I", false)
  | 4 => ("DebtorsHouse$Person", "room", "I", false)
  | 5 => ("DebtorsHouse$Person", "fees", "I", false)
  | 6 => ("DebtorsHouse$Person", "late", "I", false)
  | 7 => ("DebtorsHouse$Person", "turns", "I", false)
  | 8 => ("DebtorsHouse$Person", "escaped", "I", false)
  | 9 => ("DebtorsHouse$Person", "detained", "I", false)
  | 10 => ("DebtorsHouse$Person", "rows", "I", false)
  | 11 => ("DebtorsHouse$Person", "sum", "I", false)
  | 12 => ("DebtorsHouse$Person", "least", "I", false)
  | 13 => ("DebtorsHouse$Person", "out", "Z", false)
  | _ => ("DebtorsHouse$Person", "surrendered", "Z", false)
def tyX3 : Nat → FieldType := fun k => match k with
  | 0 => .int
  | 1 => .int
  | 2 => .int
  | 3 => .int
  | 4 => .int
  | 5 => .int
  | 6 => .int
  | 7 => .int
  | 8 => .int
  | 9 => .int
  | 10 => .int
  | 11 => .int
  | 12 => .int
  | 13 => .boolean
  | _ => .boolean
abbrev wsX30 : List Cond := u_ws RX3 TX3 15
set_option maxRecDepth 100000 in
theorem nmX3 : ∀ a, a < 15 → ∀ b, b < 15 → a ≠ b → (TX3 a).2.1 ≠ (TX3 b).2.1 := by decide +kernel
set_option maxRecDepth 100000 in
theorem tyX3_ok : ∀ k, k < 15 → parseFieldDescriptor (TX3 k).2.2.1 = some (tyX3 k) := by decide +kernel
abbrev cX3_init : ByteArray := prog_7_method_1_code
def yX3_init : MethodName := ⟨RX3, "<init>", "(III)V"⟩
theorem dX3_init_0 : decode cX3_init 0 = .ok (.aload_n 0, 1) := by decide +kernel
theorem dX3_init_1 : decode cX3_init 1 = .ok (.invokespecial 3, 3) := by decide +kernel
theorem dX3_init_4 : decode cX3_init 4 = .ok (.aload_n 0, 1) := by decide +kernel
theorem dX3_init_5 : decode cX3_init 5 = .ok (.iconst (-1), 1) := by decide +kernel
theorem dX3_init_6 : decode cX3_init 6 = .ok (.putfield 9, 3) := by decide +kernel
theorem dX3_init_9 : decode cX3_init 9 = .ok (.aload_n 0, 1) := by decide +kernel
theorem dX3_init_10 : decode cX3_init 10 = .ok (.iload_n 1, 1) := by decide +kernel
theorem dX3_init_11 : decode cX3_init 11 = .ok (.putfield 15, 3) := by decide +kernel
theorem dX3_init_14 : decode cX3_init 14 = .ok (.aload_n 0, 1) := by decide +kernel
theorem dX3_init_15 : decode cX3_init 15 = .ok (.iload_n 2, 1) := by decide +kernel
theorem dX3_init_16 : decode cX3_init 16 = .ok (.putfield 18, 3) := by decide +kernel
theorem dX3_init_19 : decode cX3_init 19 = .ok (.aload_n 0, 1) := by decide +kernel
theorem dX3_init_20 : decode cX3_init 20 = .ok (.iload_n 3, 1) := by decide +kernel
theorem dX3_init_21 : decode cX3_init 21 = .ok (.putfield 21, 3) := by decide +kernel
theorem dX3_init_24 : decode cX3_init 24 = .ok (.return_, 1) := by decide +kernel
abbrev cX3_isHeld : ByteArray := prog_7_method_3_code
def yX3_isHeld : MethodName := ⟨RX3, "isHeld", "()Z"⟩
theorem dX3_isHeld_0 : decode cX3_isHeld 0 = .ok (.aload_n 0, 1) := by decide +kernel
theorem dX3_isHeld_1 : decode cX3_isHeld 1 = .ok (.getfield 9, 3) := by decide +kernel
theorem dX3_isHeld_4 : decode cX3_isHeld 4 = .ok (.iconst (-1), 1) := by decide +kernel
theorem dX3_isHeld_5 : decode cX3_isHeld 5 = .ok (.if_icmp .eq 7, 3) := by decide +kernel
theorem dX3_isHeld_8 : decode cX3_isHeld 8 = .ok (.iconst 1, 1) := by decide +kernel
theorem dX3_isHeld_9 : decode cX3_isHeld 9 = .ok (.goto 4, 3) := by decide +kernel
theorem dX3_isHeld_12 : decode cX3_isHeld 12 = .ok (.iconst 0, 1) := by decide +kernel
theorem dX3_isHeld_13 : decode cX3_isHeld 13 = .ok (.ireturn, 1) := by decide +kernel
abbrev cX3_goes : ByteArray := prog_7_method_4_code
def yX3_goes : MethodName := ⟨RX3, "goes", "()V"⟩
theorem dX3_goes_0 : decode cX3_goes 0 = .ok (.aload_n 0, 1) := by decide +kernel
theorem dX3_goes_1 : decode cX3_goes 1 = .ok (.iconst (-1), 1) := by decide +kernel
theorem dX3_goes_2 : decode cX3_goes 2 = .ok (.putfield 9, 3) := by decide +kernel
theorem dX3_goes_5 : decode cX3_goes 5 = .ok (.aload_n 0, 1) := by decide +kernel
theorem dX3_goes_6 : decode cX3_goes 6 = .ok (.iconst 0, 1) := by decide +kernel
theorem dX3_goes_7 : decode cX3_goes 7 = .ok (.putfield 27, 3) := by decide +kernel
theorem dX3_goes_10 : decode cX3_goes 10 = .ok (.aload_n 0, 1) := by decide +kernel
theorem dX3_goes_11 : decode cX3_goes 11 = .ok (.iconst 0, 1) := by decide +kernel
theorem dX3_goes_12 : decode cX3_goes 12 = .ok (.putfield 30, 3) := by decide +kernel
theorem dX3_goes_15 : decode cX3_goes 15 = .ok (.aload_n 0, 1) := by decide +kernel
theorem dX3_goes_16 : decode cX3_goes 16 = .ok (.iconst 0, 1) := by decide +kernel
theorem dX3_goes_17 : decode cX3_goes 17 = .ok (.putfield 42, 3) := by decide +kernel
theorem dX3_goes_20 : decode cX3_goes 20 = .ok (.aload_n 0, 1) := by decide +kernel
theorem dX3_goes_21 : decode cX3_goes 21 = .ok (.iconst 0, 1) := by decide +kernel
theorem dX3_goes_22 : decode cX3_goes 22 = .ok (.putfield 54, 3) := by decide +kernel
theorem dX3_goes_25 : decode cX3_goes 25 = .ok (.return_, 1) := by decide +kernel
abbrev cX3_writes : ByteArray := prog_7_method_5_code
def yX3_writes : MethodName := ⟨RX3, "writes", "(I)V"⟩
theorem dX3_writes_0 : decode cX3_writes 0 = .ok (.aload_n 0, 1) := by decide +kernel
theorem dX3_writes_1 : decode cX3_writes 1 = .ok (.dup, 1) := by decide +kernel
theorem dX3_writes_2 : decode cX3_writes 2 = .ok (.getfield 45, 3) := by decide +kernel
theorem dX3_writes_5 : decode cX3_writes 5 = .ok (.iconst 1, 1) := by decide +kernel
theorem dX3_writes_6 : decode cX3_writes 6 = .ok (.iadd, 1) := by decide +kernel
theorem dX3_writes_7 : decode cX3_writes 7 = .ok (.putfield 45, 3) := by decide +kernel
theorem dX3_writes_10 : decode cX3_writes 10 = .ok (.aload_n 0, 1) := by decide +kernel
theorem dX3_writes_11 : decode cX3_writes 11 = .ok (.dup, 1) := by decide +kernel
theorem dX3_writes_12 : decode cX3_writes 12 = .ok (.getfield 48, 3) := by decide +kernel
theorem dX3_writes_15 : decode cX3_writes 15 = .ok (.iload_n 1, 1) := by decide +kernel
theorem dX3_writes_16 : decode cX3_writes 16 = .ok (.iadd, 1) := by decide +kernel
theorem dX3_writes_17 : decode cX3_writes 17 = .ok (.putfield 48, 3) := by decide +kernel
theorem dX3_writes_20 : decode cX3_writes 20 = .ok (.aload_n 0, 1) := by decide +kernel
theorem dX3_writes_21 : decode cX3_writes 21 = .ok (.aload_n 0, 1) := by decide +kernel
theorem dX3_writes_22 : decode cX3_writes 22 = .ok (.getfield 51, 3) := by decide +kernel
theorem dX3_writes_25 : decode cX3_writes 25 = .ok (.aload_n 0, 1) := by decide +kernel
theorem dX3_writes_26 : decode cX3_writes 26 = .ok (.getfield 48, 3) := by decide +kernel
theorem dX3_writes_29 : decode cX3_writes 29 = .ok (.invokestatic 61, 3) := by decide +kernel
theorem dX3_writes_32 : decode cX3_writes 32 = .ok (.putfield 51, 3) := by decide +kernel
theorem dX3_writes_35 : decode cX3_writes 35 = .ok (.return_, 1) := by decide +kernel
abbrev cX3_copy : ByteArray := prog_7_method_2_code
def yX3_copy : MethodName := ⟨RX3, "copy", "()LDebtorsHouse$Person;"⟩
theorem dX3_copy_0 : decode cX3_copy 0 = .ok (.new 10, 3) := by decide +kernel
theorem dX3_copy_3 : decode cX3_copy 3 = .ok (.dup, 1) := by decide +kernel
theorem dX3_copy_4 : decode cX3_copy 4 = .ok (.aload_n 0, 1) := by decide +kernel
theorem dX3_copy_5 : decode cX3_copy 5 = .ok (.getfield 15, 3) := by decide +kernel
theorem dX3_copy_8 : decode cX3_copy 8 = .ok (.aload_n 0, 1) := by decide +kernel
theorem dX3_copy_9 : decode cX3_copy 9 = .ok (.getfield 18, 3) := by decide +kernel
theorem dX3_copy_12 : decode cX3_copy 12 = .ok (.aload_n 0, 1) := by decide +kernel
theorem dX3_copy_13 : decode cX3_copy 13 = .ok (.getfield 21, 3) := by decide +kernel
theorem dX3_copy_16 : decode cX3_copy 16 = .ok (.invokespecial 24, 3) := by decide +kernel
theorem dX3_copy_19 : decode cX3_copy 19 = .ok (.astore_n 1, 1) := by decide +kernel
theorem dX3_copy_20 : decode cX3_copy 20 = .ok (.aload_n 1, 1) := by decide +kernel
theorem dX3_copy_21 : decode cX3_copy 21 = .ok (.aload_n 0, 1) := by decide +kernel
theorem dX3_copy_22 : decode cX3_copy 22 = .ok (.getfield 9, 3) := by decide +kernel
theorem dX3_copy_25 : decode cX3_copy 25 = .ok (.putfield 9, 3) := by decide +kernel
theorem dX3_copy_28 : decode cX3_copy 28 = .ok (.aload_n 1, 1) := by decide +kernel
theorem dX3_copy_29 : decode cX3_copy 29 = .ok (.aload_n 0, 1) := by decide +kernel
theorem dX3_copy_30 : decode cX3_copy 30 = .ok (.getfield 27, 3) := by decide +kernel
theorem dX3_copy_33 : decode cX3_copy 33 = .ok (.putfield 27, 3) := by decide +kernel
theorem dX3_copy_36 : decode cX3_copy 36 = .ok (.aload_n 1, 1) := by decide +kernel
theorem dX3_copy_37 : decode cX3_copy 37 = .ok (.aload_n 0, 1) := by decide +kernel
theorem dX3_copy_38 : decode cX3_copy 38 = .ok (.getfield 30, 3) := by decide +kernel
theorem dX3_copy_41 : decode cX3_copy 41 = .ok (.putfield 30, 3) := by decide +kernel
theorem dX3_copy_44 : decode cX3_copy 44 = .ok (.aload_n 1, 1) := by decide +kernel
theorem dX3_copy_45 : decode cX3_copy 45 = .ok (.aload_n 0, 1) := by decide +kernel
theorem dX3_copy_46 : decode cX3_copy 46 = .ok (.getfield 33, 3) := by decide +kernel
theorem dX3_copy_49 : decode cX3_copy 49 = .ok (.putfield 33, 3) := by decide +kernel
theorem dX3_copy_52 : decode cX3_copy 52 = .ok (.aload_n 1, 1) := by decide +kernel
theorem dX3_copy_53 : decode cX3_copy 53 = .ok (.aload_n 0, 1) := by decide +kernel
theorem dX3_copy_54 : decode cX3_copy 54 = .ok (.getfield 36, 3) := by decide +kernel
theorem dX3_copy_57 : decode cX3_copy 57 = .ok (.putfield 36, 3) := by decide +kernel
theorem dX3_copy_60 : decode cX3_copy 60 = .ok (.aload_n 1, 1) := by decide +kernel
theorem dX3_copy_61 : decode cX3_copy 61 = .ok (.aload_n 0, 1) := by decide +kernel
theorem dX3_copy_62 : decode cX3_copy 62 = .ok (.getfield 39, 3) := by decide +kernel
theorem dX3_copy_65 : decode cX3_copy 65 = .ok (.putfield 39, 3) := by decide +kernel
theorem dX3_copy_68 : decode cX3_copy 68 = .ok (.aload_n 1, 1) := by decide +kernel
theorem dX3_copy_69 : decode cX3_copy 69 = .ok (.aload_n 0, 1) := by decide +kernel
theorem dX3_copy_70 : decode cX3_copy 70 = .ok (.getfield 42, 3) := by decide +kernel
theorem dX3_copy_73 : decode cX3_copy 73 = .ok (.putfield 42, 3) := by decide +kernel
theorem dX3_copy_76 : decode cX3_copy 76 = .ok (.aload_n 1, 1) := by decide +kernel
theorem dX3_copy_77 : decode cX3_copy 77 = .ok (.aload_n 0, 1) := by decide +kernel
theorem dX3_copy_78 : decode cX3_copy 78 = .ok (.getfield 45, 3) := by decide +kernel
theorem dX3_copy_81 : decode cX3_copy 81 = .ok (.putfield 45, 3) := by decide +kernel
theorem dX3_copy_84 : decode cX3_copy 84 = .ok (.aload_n 1, 1) := by decide +kernel
theorem dX3_copy_85 : decode cX3_copy 85 = .ok (.aload_n 0, 1) := by decide +kernel
theorem dX3_copy_86 : decode cX3_copy 86 = .ok (.getfield 48, 3) := by decide +kernel
theorem dX3_copy_89 : decode cX3_copy 89 = .ok (.putfield 48, 3) := by decide +kernel
theorem dX3_copy_92 : decode cX3_copy 92 = .ok (.aload_n 1, 1) := by decide +kernel
theorem dX3_copy_93 : decode cX3_copy 93 = .ok (.aload_n 0, 1) := by decide +kernel
theorem dX3_copy_94 : decode cX3_copy 94 = .ok (.getfield 51, 3) := by decide +kernel
theorem dX3_copy_97 : decode cX3_copy 97 = .ok (.putfield 51, 3) := by decide +kernel
theorem dX3_copy_100 : decode cX3_copy 100 = .ok (.aload_n 1, 1) := by decide +kernel
theorem dX3_copy_101 : decode cX3_copy 101 = .ok (.aload_n 0, 1) := by decide +kernel
theorem dX3_copy_102 : decode cX3_copy 102 = .ok (.getfield 54, 3) := by decide +kernel
theorem dX3_copy_105 : decode cX3_copy 105 = .ok (.putfield 54, 3) := by decide +kernel
theorem dX3_copy_108 : decode cX3_copy 108 = .ok (.aload_n 1, 1) := by decide +kernel
theorem dX3_copy_109 : decode cX3_copy 109 = .ok (.aload_n 0, 1) := by decide +kernel
theorem dX3_copy_110 : decode cX3_copy 110 = .ok (.getfield 58, 3) := by decide +kernel
theorem dX3_copy_113 : decode cX3_copy 113 = .ok (.putfield 58, 3) := by decide +kernel
theorem dX3_copy_116 : decode cX3_copy 116 = .ok (.aload_n 1, 1) := by decide +kernel
theorem dX3_copy_117 : decode cX3_copy 117 = .ok (.areturn, 1) := by decide +kernel
theorem q88 : (Jvm.Cond.initialized "DebtorsHouse$Person") ∈ lw_all := lw_g (lw_at lw_m1 8 rfl) rfl
theorem q265 : (Jvm.Cond.instantiable "DebtorsHouse$Person" (15 : Nat)) ∈ lw_all := lw_g (lw_at lw_m1 185 rfl) rfl
theorem q267 : (Jvm.Cond.instanceMethod ({ cls := "DebtorsHouse$Person", name := "<init>", desc := "(III)V" } : Jvm.MethodName)) ∈ lw_all := lw_g (lw_at lw_m1 187 rfl) rfl
theorem q268 : (Jvm.Cond.code ({ cls := "DebtorsHouse$Person", name := "<init>", desc := "(III)V" } : Jvm.MethodName) prog_7_method_1_code (4 : Nat) (Option.none : Option Jvm.ClassFile.FieldType)) ∈ lw_all := lw_g (lw_at lw_m1 188 rfl) rfl
theorem q269 : (Jvm.Cond.methodLink "DebtorsHouse$Person" (3 : Nat) ({ cls := "java/lang/Object", name := "<init>", desc := "()V" } : Jvm.MethodName)) ∈ lw_all := lw_g (lw_at lw_m1 189 rfl) rfl
theorem q270 : (Jvm.Cond.fieldLink "DebtorsHouse$Person" (15 : Nat) "DebtorsHouse$Person" "number" "I") ∈ lw_all := lw_g (lw_at lw_m1 190 rfl) rfl
theorem q272 : (Jvm.Cond.fieldLink "DebtorsHouse$Person" (21 : Nat) "DebtorsHouse$Person" "children" "I") ∈ lw_all := lw_g (lw_at lw_m1 192 rfl) rfl
theorem q274 : (Jvm.Cond.fieldLink "DebtorsHouse$Person" (18 : Nat) "DebtorsHouse$Person" "coins" "I") ∈ lw_all := lw_g (lw_at lw_m1 194 rfl) rfl
theorem q276 : (Jvm.Cond.fieldLink "DebtorsHouse$Person" (9 : Nat) "DebtorsHouse$Person" "since" "I") ∈ lw_all := lw_g (lw_at lw_m1 196 rfl) rfl
theorem q278 : (Jvm.Cond.fieldLink "DebtorsHouse$Person" (27 : Nat) "DebtorsHouse$Person" "room" "I") ∈ lw_all := lw_g (lw_at lw_m1 198 rfl) rfl
theorem q280 : (Jvm.Cond.fieldLink "DebtorsHouse$Person" (30 : Nat) "DebtorsHouse$Person" "fees" "I") ∈ lw_all := lw_g (lw_at lw_m1 200 rfl) rfl
theorem q282 : (Jvm.Cond.fieldLink "DebtorsHouse$Person" (33 : Nat) "DebtorsHouse$Person" "late" "I") ∈ lw_all := lw_g (lw_at lw_m1 202 rfl) rfl
theorem q284 : (Jvm.Cond.fieldLink "DebtorsHouse$Person" (36 : Nat) "DebtorsHouse$Person" "turns" "I") ∈ lw_all := lw_g (lw_at lw_m1 204 rfl) rfl
theorem q286 : (Jvm.Cond.fieldLink "DebtorsHouse$Person" (39 : Nat) "DebtorsHouse$Person" "escaped" "I") ∈ lw_all := lw_g (lw_at lw_m1 206 rfl) rfl
theorem q288 : (Jvm.Cond.fieldLink "DebtorsHouse$Person" (42 : Nat) "DebtorsHouse$Person" "detained" "I") ∈ lw_all := lw_g (lw_at lw_m1 208 rfl) rfl
theorem q290 : (Jvm.Cond.fieldLink "DebtorsHouse$Person" (45 : Nat) "DebtorsHouse$Person" "rows" "I") ∈ lw_all := lw_g (lw_at lw_m1 210 rfl) rfl
theorem q292 : (Jvm.Cond.fieldLink "DebtorsHouse$Person" (48 : Nat) "DebtorsHouse$Person" "sum" "I") ∈ lw_all := lw_g (lw_at lw_m1 212 rfl) rfl
theorem q293 : (Jvm.Cond.fieldLink "DebtorsHouse$Person" (51 : Nat) "DebtorsHouse$Person" "least" "I") ∈ lw_all := lw_g (lw_at lw_m1 213 rfl) rfl
theorem q295 : (Jvm.Cond.fieldLink "DebtorsHouse$Person" (54 : Nat) "DebtorsHouse$Person" "out" "Z") ∈ lw_all := lw_g (lw_at lw_m1 215 rfl) rfl
theorem q297 : (Jvm.Cond.fieldLink "DebtorsHouse$Person" (58 : Nat) "DebtorsHouse$Person" "surrendered" "Z") ∈ lw_all := lw_g (lw_at lw_m1 217 rfl) rfl
theorem q299 : (Jvm.Cond.laysFinal "DebtorsHouse$Person" "DebtorsHouse$Person" "number" "I") ∈ lw_all := lw_g (lw_at lw_m1 219 rfl) rfl
theorem q300 : (Jvm.Cond.soleField "DebtorsHouse$Person" "number") ∈ lw_all := lw_g (lw_at lw_m1 220 rfl) rfl
theorem q301 : (Jvm.Cond.laysFinal "DebtorsHouse$Person" "DebtorsHouse$Person" "children" "I") ∈ lw_all := lw_g (lw_at lw_m1 221 rfl) rfl
theorem q302 : (Jvm.Cond.soleField "DebtorsHouse$Person" "children") ∈ lw_all := lw_g (lw_at lw_m1 222 rfl) rfl
theorem q303 : (Jvm.Cond.lays "DebtorsHouse$Person" "DebtorsHouse$Person" "coins" "I") ∈ lw_all := lw_g (lw_at lw_m1 223 rfl) rfl
theorem q304 : (Jvm.Cond.soleField "DebtorsHouse$Person" "coins") ∈ lw_all := lw_g (lw_at lw_m1 224 rfl) rfl
theorem q305 : (Jvm.Cond.lays "DebtorsHouse$Person" "DebtorsHouse$Person" "since" "I") ∈ lw_all := lw_g (lw_at lw_m1 225 rfl) rfl
theorem q306 : (Jvm.Cond.soleField "DebtorsHouse$Person" "since") ∈ lw_all := lw_g (lw_at lw_m1 226 rfl) rfl
theorem q307 : (Jvm.Cond.lays "DebtorsHouse$Person" "DebtorsHouse$Person" "room" "I") ∈ lw_all := lw_g (lw_at lw_m1 227 rfl) rfl
theorem q308 : (Jvm.Cond.soleField "DebtorsHouse$Person" "room") ∈ lw_all := lw_g (lw_at lw_m1 228 rfl) rfl
theorem q309 : (Jvm.Cond.lays "DebtorsHouse$Person" "DebtorsHouse$Person" "fees" "I") ∈ lw_all := lw_g (lw_at lw_m1 229 rfl) rfl
theorem q310 : (Jvm.Cond.soleField "DebtorsHouse$Person" "fees") ∈ lw_all := lw_g (lw_at lw_m1 230 rfl) rfl
theorem q311 : (Jvm.Cond.lays "DebtorsHouse$Person" "DebtorsHouse$Person" "late" "I") ∈ lw_all := lw_g (lw_at lw_m1 231 rfl) rfl
theorem q312 : (Jvm.Cond.soleField "DebtorsHouse$Person" "late") ∈ lw_all := lw_g (lw_at lw_m1 232 rfl) rfl
theorem q313 : (Jvm.Cond.lays "DebtorsHouse$Person" "DebtorsHouse$Person" "turns" "I") ∈ lw_all := lw_g (lw_at lw_m1 233 rfl) rfl
theorem q314 : (Jvm.Cond.soleField "DebtorsHouse$Person" "turns") ∈ lw_all := lw_g (lw_at lw_m1 234 rfl) rfl
theorem q315 : (Jvm.Cond.lays "DebtorsHouse$Person" "DebtorsHouse$Person" "escaped" "I") ∈ lw_all := lw_g (lw_at lw_m1 235 rfl) rfl
theorem q316 : (Jvm.Cond.soleField "DebtorsHouse$Person" "escaped") ∈ lw_all := lw_g (lw_at lw_m1 236 rfl) rfl
theorem q317 : (Jvm.Cond.lays "DebtorsHouse$Person" "DebtorsHouse$Person" "detained" "I") ∈ lw_all := lw_g (lw_at lw_m1 237 rfl) rfl
theorem q318 : (Jvm.Cond.soleField "DebtorsHouse$Person" "detained") ∈ lw_all := lw_g (lw_at lw_m1 238 rfl) rfl
theorem q319 : (Jvm.Cond.lays "DebtorsHouse$Person" "DebtorsHouse$Person" "rows" "I") ∈ lw_all := lw_g (lw_at lw_m1 239 rfl) rfl
theorem q320 : (Jvm.Cond.soleField "DebtorsHouse$Person" "rows") ∈ lw_all := lw_g (lw_at lw_m2 0 rfl) rfl
theorem q321 : (Jvm.Cond.lays "DebtorsHouse$Person" "DebtorsHouse$Person" "sum" "I") ∈ lw_all := lw_g (lw_at lw_m2 1 rfl) rfl
theorem q322 : (Jvm.Cond.soleField "DebtorsHouse$Person" "sum") ∈ lw_all := lw_g (lw_at lw_m2 2 rfl) rfl
theorem q323 : (Jvm.Cond.lays "DebtorsHouse$Person" "DebtorsHouse$Person" "least" "I") ∈ lw_all := lw_g (lw_at lw_m2 3 rfl) rfl
theorem q324 : (Jvm.Cond.soleField "DebtorsHouse$Person" "least") ∈ lw_all := lw_g (lw_at lw_m2 4 rfl) rfl
theorem q325 : (Jvm.Cond.lays "DebtorsHouse$Person" "DebtorsHouse$Person" "out" "Z") ∈ lw_all := lw_g (lw_at lw_m2 5 rfl) rfl
theorem q326 : (Jvm.Cond.soleField "DebtorsHouse$Person" "out") ∈ lw_all := lw_g (lw_at lw_m2 6 rfl) rfl
theorem q327 : (Jvm.Cond.lays "DebtorsHouse$Person" "DebtorsHouse$Person" "surrendered" "Z") ∈ lw_all := lw_g (lw_at lw_m2 7 rfl) rfl
theorem q328 : (Jvm.Cond.soleField "DebtorsHouse$Person" "surrendered") ∈ lw_all := lw_g (lw_at lw_m2 8 rfl) rfl
theorem q329 : (Jvm.Cond.superclass "DebtorsHouse$Person" "java/lang/Object") ∈ lw_all := lw_g (lw_at lw_m2 9 rfl) rfl
theorem q370 : (Jvm.Cond.selects "DebtorsHouse$Person" ({ cls := "java/lang/Object", name := "getClass", desc := "()Ljava/lang/Class;" } : Jvm.MethodName) ({ cls := "java/lang/Object", name := "getClass", desc := "()Ljava/lang/Class;" } : Jvm.MethodName)) ∈ lw_all := lw_g (lw_at lw_m2 50 rfl) rfl
theorem q1114 : (Jvm.Cond.instanceMethod ({ cls := "DebtorsHouse$Person", name := "isHeld", desc := "()Z" } : Jvm.MethodName)) ∈ lw_all := lw_g (lw_at lw_m5 74 rfl) rfl
theorem q1115 : (Jvm.Cond.selects "DebtorsHouse$Person" ({ cls := "DebtorsHouse$Person", name := "isHeld", desc := "()Z" } : Jvm.MethodName) ({ cls := "DebtorsHouse$Person", name := "isHeld", desc := "()Z" } : Jvm.MethodName)) ∈ lw_all := lw_g (lw_at lw_m5 75 rfl) rfl
theorem q1116 : (Jvm.Cond.code ({ cls := "DebtorsHouse$Person", name := "isHeld", desc := "()Z" } : Jvm.MethodName) prog_7_method_3_code (1 : Nat) (Option.some Jvm.ClassFile.FieldType.boolean)) ∈ lw_all := lw_g (lw_at lw_m5 76 rfl) rfl
theorem q1178 : (Jvm.Cond.instanceMethod ({ cls := "DebtorsHouse$Person", name := "goes", desc := "()V" } : Jvm.MethodName)) ∈ lw_all := lw_g (lw_at lw_m5 138 rfl) rfl
theorem q1179 : (Jvm.Cond.selects "DebtorsHouse$Person" ({ cls := "DebtorsHouse$Person", name := "goes", desc := "()V" } : Jvm.MethodName) ({ cls := "DebtorsHouse$Person", name := "goes", desc := "()V" } : Jvm.MethodName)) ∈ lw_all := lw_g (lw_at lw_m5 139 rfl) rfl
theorem q1180 : (Jvm.Cond.code ({ cls := "DebtorsHouse$Person", name := "goes", desc := "()V" } : Jvm.MethodName) prog_7_method_4_code (1 : Nat) (Option.none : Option Jvm.ClassFile.FieldType)) ∈ lw_all := lw_g (lw_at lw_m5 140 rfl) rfl
theorem q1305 : (Jvm.Cond.instanceMethod ({ cls := "DebtorsHouse$Person", name := "writes", desc := "(I)V" } : Jvm.MethodName)) ∈ lw_all := lw_g (lw_at lw_m6 25 rfl) rfl
theorem q1306 : (Jvm.Cond.selects "DebtorsHouse$Person" ({ cls := "DebtorsHouse$Person", name := "writes", desc := "(I)V" } : Jvm.MethodName) ({ cls := "DebtorsHouse$Person", name := "writes", desc := "(I)V" } : Jvm.MethodName)) ∈ lw_all := lw_g (lw_at lw_m6 26 rfl) rfl
theorem q1307 : (Jvm.Cond.code ({ cls := "DebtorsHouse$Person", name := "writes", desc := "(I)V" } : Jvm.MethodName) prog_7_method_5_code (2 : Nat) (Option.none : Option Jvm.ClassFile.FieldType)) ∈ lw_all := lw_g (lw_at lw_m6 27 rfl) rfl
theorem q1308 : (Jvm.Cond.methodLink "DebtorsHouse$Person" (61 : Nat) ({ cls := "java/lang/Math", name := "min", desc := "(II)I" } : Jvm.MethodName)) ∈ lw_all := lw_g (lw_at lw_m6 28 rfl) rfl
theorem q1355 : (Jvm.Cond.instanceMethod ({ cls := "DebtorsHouse$Person", name := "copy", desc := "()LDebtorsHouse$Person;" } : Jvm.MethodName)) ∈ lw_all := lw_g (lw_at lw_m6 75 rfl) rfl
theorem q1356 : (Jvm.Cond.selects "DebtorsHouse$Person" ({ cls := "DebtorsHouse$Person", name := "copy", desc := "()LDebtorsHouse$Person;" } : Jvm.MethodName) ({ cls := "DebtorsHouse$Person", name := "copy", desc := "()LDebtorsHouse$Person;" } : Jvm.MethodName)) ∈ lw_all := lw_g (lw_at lw_m6 76 rfl) rfl
theorem q1357 : (Jvm.Cond.code ({ cls := "DebtorsHouse$Person", name := "copy", desc := "()LDebtorsHouse$Person;" } : Jvm.MethodName) prog_7_method_2_code (2 : Nat) (Option.some (Jvm.ClassFile.FieldType.object "DebtorsHouse$Person"))) ∈ lw_all := lw_g (lw_at lw_m6 77 rfl) rfl
theorem q1358 : (Jvm.Cond.classLink "DebtorsHouse$Person" (10 : Nat) "DebtorsHouse$Person") ∈ lw_all := lw_g (lw_at lw_m6 78 rfl) rfl
theorem q1359 : (Jvm.Cond.methodLink "DebtorsHouse$Person" (24 : Nat) ({ cls := "DebtorsHouse$Person", name := "<init>", desc := "(III)V" } : Jvm.MethodName)) ∈ lw_all := lw_g (lw_at lw_m6 79 rfl) rfl
theorem q2011 : (Jvm.Cond.castable "DebtorsHouse$Person" "java/lang/Object") ∈ lw_tbl := lw_at lw_m9 11 rfl
theorem in_X3 : ∀ w ∈ wsX30, w ∈ lw_all := lw_in wsX30 [299, 301, 303, 305, 307, 309, 311, 313, 315, 317, 319, 321, 323, 325, 327] (by decide +kernel) (by decide +kernel)
/-! DebtorsHouse$Debt -/
set_option maxRecDepth 100000
def RX4 : String := "DebtorsHouse$Debt"
def TX4 : u_T := fun k => match k with
  | 0 => ("DebtorsHouse$Debt", "number", "I", true)
  | 1 => ("DebtorsHouse$Debt", "debtor", "I", true)
  | 2 => ("DebtorsHouse$Debt", "sum", "I", true)
  | 3 => ("DebtorsHouse$Debt", "rank", "I", true)
  | 4 => ("DebtorsHouse$Debt", "rate", "I", true)
  | 5 => ("DebtorsHouse$Debt", "since", "I", true)
  | 6 => ("DebtorsHouse$Debt", "told", "I", true)
  | 7 => ("DebtorsHouse$Debt", "creditor", "I", false)
  | 8 => ("DebtorsHouse$Debt", "principal", "I", false)
  | 9 => ("DebtorsHouse$Debt", "interest", "I", false)
  | 10 => ("DebtorsHouse$Debt", "costs", "I", false)
  | 11 => ("DebtorsHouse$Debt", "reckoned", "I", false)
  | 12 => ("DebtorsHouse$Debt", "lack", "I", false)
  | 13 => ("DebtorsHouse$Debt", "ended", "I", false)
  | 14 => ("DebtorsHouse$Debt", "bought", "Z", false)
  | _ => ("DebtorsHouse$Debt", "stands", "LDebtorsHouse$Stands;", false)
def tyX4 : Nat → FieldType := fun k => match k with
  | 0 => .int
  | 1 => .int
  | 2 => .int
  | 3 => .int
  | 4 => .int
  | 5 => .int
  | 6 => .int
  | 7 => .int
  | 8 => .int
  | 9 => .int
  | 10 => .int
  | 11 => .int
  | 12 => .int
  | 13 => .int
  | 14 => .boolean
  | _ => .object "DebtorsHouse$Stands"
abbrev wsX40 : List Cond := u_ws RX4 TX4 16
set_option maxRecDepth 100000 in
theorem nmX4 : ∀ a, a < 16 → ∀ b, b < 16 → a ≠ b → (TX4 a).2.1 ≠ (TX4 b).2.1 := by decide +kernel
set_option maxRecDepth 100000 in
theorem tyX4_ok : ∀ k, k < 16 → parseFieldDescriptor (TX4 k).2.2.1 = some (tyX4 k) := by decide +kernel
abbrev cX4_init : ByteArray := prog_4_method_1_code
def yX4_init : MethodName := ⟨RX4, "<init>", "(IIIIIIII)V"⟩
theorem dX4_init_0 : decode cX4_init 0 = .ok (.aload_n 0, 1) := by decide +kernel
theorem dX4_init_1 : decode cX4_init 1 = .ok (.invokespecial 3, 3) := by decide +kernel
theorem dX4_init_4 : decode cX4_init 4 = .ok (.aload_n 0, 1) := by decide +kernel
theorem dX4_init_5 : decode cX4_init 5 = .ok (.iconst (-1), 1) := by decide +kernel
theorem dX4_init_6 : decode cX4_init 6 = .ok (.putfield 9, 3) := by decide +kernel
theorem dX4_init_9 : decode cX4_init 9 = .ok (.aload_n 0, 1) := by decide +kernel
theorem dX4_init_10 : decode cX4_init 10 = .ok (.getstatic 15, 3) := by decide +kernel
theorem dX4_init_13 : decode cX4_init 13 = .ok (.putfield 21, 3) := by decide +kernel
theorem dX4_init_16 : decode cX4_init 16 = .ok (.aload_n 0, 1) := by decide +kernel
theorem dX4_init_17 : decode cX4_init 17 = .ok (.iload_n 1, 1) := by decide +kernel
theorem dX4_init_18 : decode cX4_init 18 = .ok (.putfield 24, 3) := by decide +kernel
theorem dX4_init_21 : decode cX4_init 21 = .ok (.aload_n 0, 1) := by decide +kernel
theorem dX4_init_22 : decode cX4_init 22 = .ok (.iload_n 2, 1) := by decide +kernel
theorem dX4_init_23 : decode cX4_init 23 = .ok (.putfield 27, 3) := by decide +kernel
theorem dX4_init_26 : decode cX4_init 26 = .ok (.aload_n 0, 1) := by decide +kernel
theorem dX4_init_27 : decode cX4_init 27 = .ok (.iload_n 3, 1) := by decide +kernel
theorem dX4_init_28 : decode cX4_init 28 = .ok (.putfield 30, 3) := by decide +kernel
theorem dX4_init_31 : decode cX4_init 31 = .ok (.aload_n 0, 1) := by decide +kernel
theorem dX4_init_32 : decode cX4_init 32 = .ok (.iload 4, 2) := by decide +kernel
theorem dX4_init_34 : decode cX4_init 34 = .ok (.putfield 33, 3) := by decide +kernel
theorem dX4_init_37 : decode cX4_init 37 = .ok (.aload_n 0, 1) := by decide +kernel
theorem dX4_init_38 : decode cX4_init 38 = .ok (.iload 5, 2) := by decide +kernel
theorem dX4_init_40 : decode cX4_init 40 = .ok (.putfield 36, 3) := by decide +kernel
theorem dX4_init_43 : decode cX4_init 43 = .ok (.aload_n 0, 1) := by decide +kernel
theorem dX4_init_44 : decode cX4_init 44 = .ok (.iload 6, 2) := by decide +kernel
theorem dX4_init_46 : decode cX4_init 46 = .ok (.putfield 39, 3) := by decide +kernel
theorem dX4_init_49 : decode cX4_init 49 = .ok (.aload_n 0, 1) := by decide +kernel
theorem dX4_init_50 : decode cX4_init 50 = .ok (.iload 7, 2) := by decide +kernel
theorem dX4_init_52 : decode cX4_init 52 = .ok (.putfield 42, 3) := by decide +kernel
theorem dX4_init_55 : decode cX4_init 55 = .ok (.aload_n 0, 1) := by decide +kernel
theorem dX4_init_56 : decode cX4_init 56 = .ok (.iload 8, 2) := by decide +kernel
theorem dX4_init_58 : decode cX4_init 58 = .ok (.putfield 45, 3) := by decide +kernel
theorem dX4_init_61 : decode cX4_init 61 = .ok (.aload_n 0, 1) := by decide +kernel
theorem dX4_init_62 : decode cX4_init 62 = .ok (.iload 4, 2) := by decide +kernel
theorem dX4_init_64 : decode cX4_init 64 = .ok (.putfield 48, 3) := by decide +kernel
theorem dX4_init_67 : decode cX4_init 67 = .ok (.aload_n 0, 1) := by decide +kernel
theorem dX4_init_68 : decode cX4_init 68 = .ok (.iload 7, 2) := by decide +kernel
theorem dX4_init_70 : decode cX4_init 70 = .ok (.putfield 51, 3) := by decide +kernel
theorem dX4_init_73 : decode cX4_init 73 = .ok (.return_, 1) := by decide +kernel
abbrev cX4_isLive : ByteArray := prog_4_method_3_code
def yX4_isLive : MethodName := ⟨RX4, "isLive", "()Z"⟩
theorem dX4_isLive_0 : decode cX4_isLive 0 = .ok (.aload_n 0, 1) := by decide +kernel
theorem dX4_isLive_1 : decode cX4_isLive 1 = .ok (.getfield 21, 3) := by decide +kernel
theorem dX4_isLive_4 : decode cX4_isLive 4 = .ok (.getstatic 15, 3) := by decide +kernel
theorem dX4_isLive_7 : decode cX4_isLive 7 = .ok (.if_acmp .ne 7, 3) := by decide +kernel
theorem dX4_isLive_10 : decode cX4_isLive 10 = .ok (.iconst 1, 1) := by decide +kernel
theorem dX4_isLive_11 : decode cX4_isLive 11 = .ok (.goto 4, 3) := by decide +kernel
theorem dX4_isLive_14 : decode cX4_isLive 14 = .ok (.iconst 0, 1) := by decide +kernel
theorem dX4_isLive_15 : decode cX4_isLive 15 = .ok (.ireturn, 1) := by decide +kernel
abbrev cX4_due : ByteArray := prog_4_method_5_code
def yX4_due : MethodName := ⟨RX4, "due", "(I)I"⟩
theorem dX4_due_0 : decode cX4_due 0 = .ok (.aload_n 0, 1) := by decide +kernel
theorem dX4_due_1 : decode cX4_due 1 = .ok (.invokevirtual 72, 3) := by decide +kernel
theorem dX4_due_4 : decode cX4_due 4 = .ok (.ifCond .eq 21, 3) := by decide +kernel
theorem dX4_due_7 : decode cX4_due 7 = .ok (.aload_n 0, 1) := by decide +kernel
theorem dX4_due_8 : decode cX4_due 8 = .ok (.getfield 48, 3) := by decide +kernel
theorem dX4_due_11 : decode cX4_due 11 = .ok (.aload_n 0, 1) := by decide +kernel
theorem dX4_due_12 : decode cX4_due 12 = .ok (.iload_n 1, 1) := by decide +kernel
theorem dX4_due_13 : decode cX4_due 13 = .ok (.invokevirtual 76, 3) := by decide +kernel
theorem dX4_due_16 : decode cX4_due 16 = .ok (.iadd, 1) := by decide +kernel
theorem dX4_due_17 : decode cX4_due 17 = .ok (.aload_n 0, 1) := by decide +kernel
theorem dX4_due_18 : decode cX4_due 18 = .ok (.getfield 60, 3) := by decide +kernel
theorem dX4_due_21 : decode cX4_due 21 = .ok (.iadd, 1) := by decide +kernel
theorem dX4_due_22 : decode cX4_due 22 = .ok (.goto 4, 3) := by decide +kernel
theorem dX4_due_25 : decode cX4_due 25 = .ok (.iconst 0, 1) := by decide +kernel
theorem dX4_due_26 : decode cX4_due 26 = .ok (.ireturn, 1) := by decide +kernel
abbrev cX4_interestOn : ByteArray := prog_4_method_4_code
def yX4_interestOn : MethodName := ⟨RX4, "interestOn", "(I)I"⟩
theorem dX4_interestOn_0 : decode cX4_interestOn 0 = .ok (.aload_n 0, 1) := by decide +kernel
theorem dX4_interestOn_1 : decode cX4_interestOn 1 = .ok (.getfield 57, 3) := by decide +kernel
theorem dX4_interestOn_4 : decode cX4_interestOn 4 = .ok (.aload_n 0, 1) := by decide +kernel
theorem dX4_interestOn_5 : decode cX4_interestOn 5 = .ok (.getfield 48, 3) := by decide +kernel
theorem dX4_interestOn_8 : decode cX4_interestOn 8 = .ok (.i2l, 1) := by decide +kernel
theorem dX4_interestOn_9 : decode cX4_interestOn 9 = .ok (.aload_n 0, 1) := by decide +kernel
theorem dX4_interestOn_10 : decode cX4_interestOn 10 = .ok (.getfield 39, 3) := by decide +kernel
theorem dX4_interestOn_13 : decode cX4_interestOn 13 = .ok (.i2l, 1) := by decide +kernel
theorem dX4_interestOn_14 : decode cX4_interestOn 14 = .ok (.lmul, 1) := by decide +kernel
theorem dX4_interestOn_15 : decode cX4_interestOn 15 = .ok (.iload_n 1, 1) := by decide +kernel
theorem dX4_interestOn_16 : decode cX4_interestOn 16 = .ok (.aload_n 0, 1) := by decide +kernel
theorem dX4_interestOn_17 : decode cX4_interestOn 17 = .ok (.getfield 51, 3) := by decide +kernel
theorem dX4_interestOn_20 : decode cX4_interestOn 20 = .ok (.isub, 1) := by decide +kernel
theorem dX4_interestOn_21 : decode cX4_interestOn 21 = .ok (.i2l, 1) := by decide +kernel
theorem dX4_interestOn_22 : decode cX4_interestOn 22 = .ok (.lmul, 1) := by decide +kernel
theorem dX4_interestOn_23 : decode cX4_interestOn 23 = .ok (.ldc2_w 70, 3) := by decide +kernel
theorem dX4_interestOn_26 : decode cX4_interestOn 26 = .ok (.ldiv, 1) := by decide +kernel
theorem dX4_interestOn_27 : decode cX4_interestOn 27 = .ok (.l2i, 1) := by decide +kernel
theorem dX4_interestOn_28 : decode cX4_interestOn 28 = .ok (.iadd, 1) := by decide +kernel
theorem dX4_interestOn_29 : decode cX4_interestOn 29 = .ok (.ireturn, 1) := by decide +kernel
abbrev cX4_less : ByteArray := prog_4_method_7_code
def yX4_less : MethodName := ⟨RX4, "less", "(II)V"⟩
theorem dX4_less_0 : decode cX4_less 0 = .ok (.aload_n 0, 1) := by decide +kernel
theorem dX4_less_1 : decode cX4_less 1 = .ok (.aload_n 0, 1) := by decide +kernel
theorem dX4_less_2 : decode cX4_less 2 = .ok (.iload_n 2, 1) := by decide +kernel
theorem dX4_less_3 : decode cX4_less 3 = .ok (.invokevirtual 76, 3) := by decide +kernel
theorem dX4_less_6 : decode cX4_less 6 = .ok (.putfield 57, 3) := by decide +kernel
theorem dX4_less_9 : decode cX4_less 9 = .ok (.aload_n 0, 1) := by decide +kernel
theorem dX4_less_10 : decode cX4_less 10 = .ok (.iload_n 2, 1) := by decide +kernel
theorem dX4_less_11 : decode cX4_less 11 = .ok (.putfield 51, 3) := by decide +kernel
theorem dX4_less_14 : decode cX4_less 14 = .ok (.iload_n 1, 1) := by decide +kernel
theorem dX4_less_15 : decode cX4_less 15 = .ok (.istore_n 3, 1) := by decide +kernel
theorem dX4_less_16 : decode cX4_less 16 = .ok (.iload_n 3, 1) := by decide +kernel
theorem dX4_less_17 : decode cX4_less 17 = .ok (.aload_n 0, 1) := by decide +kernel
theorem dX4_less_18 : decode cX4_less 18 = .ok (.getfield 60, 3) := by decide +kernel
theorem dX4_less_21 : decode cX4_less 21 = .ok (.invokestatic 80, 3) := by decide +kernel
theorem dX4_less_24 : decode cX4_less 24 = .ok (.istore 4, 2) := by decide +kernel
theorem dX4_less_26 : decode cX4_less 26 = .ok (.aload_n 0, 1) := by decide +kernel
theorem dX4_less_27 : decode cX4_less 27 = .ok (.dup, 1) := by decide +kernel
theorem dX4_less_28 : decode cX4_less 28 = .ok (.getfield 60, 3) := by decide +kernel
theorem dX4_less_31 : decode cX4_less 31 = .ok (.iload 4, 2) := by decide +kernel
theorem dX4_less_33 : decode cX4_less 33 = .ok (.isub, 1) := by decide +kernel
theorem dX4_less_34 : decode cX4_less 34 = .ok (.putfield 60, 3) := by decide +kernel
theorem dX4_less_37 : decode cX4_less 37 = .ok (.iload_n 3, 1) := by decide +kernel
theorem dX4_less_38 : decode cX4_less 38 = .ok (.iload 4, 2) := by decide +kernel
theorem dX4_less_40 : decode cX4_less 40 = .ok (.isub, 1) := by decide +kernel
theorem dX4_less_41 : decode cX4_less 41 = .ok (.istore_n 3, 1) := by decide +kernel
theorem dX4_less_42 : decode cX4_less 42 = .ok (.iload_n 3, 1) := by decide +kernel
theorem dX4_less_43 : decode cX4_less 43 = .ok (.aload_n 0, 1) := by decide +kernel
theorem dX4_less_44 : decode cX4_less 44 = .ok (.getfield 57, 3) := by decide +kernel
theorem dX4_less_47 : decode cX4_less 47 = .ok (.invokestatic 80, 3) := by decide +kernel
theorem dX4_less_50 : decode cX4_less 50 = .ok (.istore 4, 2) := by decide +kernel
theorem dX4_less_52 : decode cX4_less 52 = .ok (.aload_n 0, 1) := by decide +kernel
theorem dX4_less_53 : decode cX4_less 53 = .ok (.dup, 1) := by decide +kernel
theorem dX4_less_54 : decode cX4_less 54 = .ok (.getfield 57, 3) := by decide +kernel
theorem dX4_less_57 : decode cX4_less 57 = .ok (.iload 4, 2) := by decide +kernel
theorem dX4_less_59 : decode cX4_less 59 = .ok (.isub, 1) := by decide +kernel
theorem dX4_less_60 : decode cX4_less 60 = .ok (.putfield 57, 3) := by decide +kernel
theorem dX4_less_63 : decode cX4_less 63 = .ok (.iload_n 3, 1) := by decide +kernel
theorem dX4_less_64 : decode cX4_less 64 = .ok (.iload 4, 2) := by decide +kernel
theorem dX4_less_66 : decode cX4_less 66 = .ok (.isub, 1) := by decide +kernel
theorem dX4_less_67 : decode cX4_less 67 = .ok (.istore_n 3, 1) := by decide +kernel
theorem dX4_less_68 : decode cX4_less 68 = .ok (.aload_n 0, 1) := by decide +kernel
theorem dX4_less_69 : decode cX4_less 69 = .ok (.dup, 1) := by decide +kernel
theorem dX4_less_70 : decode cX4_less 70 = .ok (.getfield 48, 3) := by decide +kernel
theorem dX4_less_73 : decode cX4_less 73 = .ok (.iload_n 3, 1) := by decide +kernel
theorem dX4_less_74 : decode cX4_less 74 = .ok (.isub, 1) := by decide +kernel
theorem dX4_less_75 : decode cX4_less 75 = .ok (.putfield 48, 3) := by decide +kernel
theorem dX4_less_78 : decode cX4_less 78 = .ok (.aload_n 0, 1) := by decide +kernel
theorem dX4_less_79 : decode cX4_less 79 = .ok (.getfield 60, 3) := by decide +kernel
theorem dX4_less_82 : decode cX4_less 82 = .ok (.aload_n 0, 1) := by decide +kernel
theorem dX4_less_83 : decode cX4_less 83 = .ok (.getfield 57, 3) := by decide +kernel
theorem dX4_less_86 : decode cX4_less 86 = .ok (.iadd, 1) := by decide +kernel
theorem dX4_less_87 : decode cX4_less 87 = .ok (.aload_n 0, 1) := by decide +kernel
theorem dX4_less_88 : decode cX4_less 88 = .ok (.getfield 48, 3) := by decide +kernel
theorem dX4_less_91 : decode cX4_less 91 = .ok (.iadd, 1) := by decide +kernel
theorem dX4_less_92 : decode cX4_less 92 = .ok (.ifCond .ne 11, 3) := by decide +kernel
theorem dX4_less_95 : decode cX4_less 95 = .ok (.aload_n 0, 1) := by decide +kernel
theorem dX4_less_96 : decode cX4_less 96 = .ok (.getstatic 86, 3) := by decide +kernel
theorem dX4_less_99 : decode cX4_less 99 = .ok (.iload_n 2, 1) := by decide +kernel
theorem dX4_less_100 : decode cX4_less 100 = .ok (.invokevirtual 89, 3) := by decide +kernel
theorem dX4_less_103 : decode cX4_less 103 = .ok (.return_, 1) := by decide +kernel
abbrev cX4_ends : ByteArray := prog_4_method_6_code
def yX4_ends : MethodName := ⟨RX4, "ends", "(LDebtorsHouse$Stands;I)V"⟩
theorem dX4_ends_0 : decode cX4_ends 0 = .ok (.aload_n 0, 1) := by decide +kernel
theorem dX4_ends_1 : decode cX4_ends 1 = .ok (.aload_n 1, 1) := by decide +kernel
theorem dX4_ends_2 : decode cX4_ends 2 = .ok (.putfield 21, 3) := by decide +kernel
theorem dX4_ends_5 : decode cX4_ends 5 = .ok (.aload_n 0, 1) := by decide +kernel
theorem dX4_ends_6 : decode cX4_ends 6 = .ok (.iload_n 2, 1) := by decide +kernel
theorem dX4_ends_7 : decode cX4_ends 7 = .ok (.putfield 9, 3) := by decide +kernel
theorem dX4_ends_10 : decode cX4_ends 10 = .ok (.return_, 1) := by decide +kernel
abbrev cX4_copy : ByteArray := prog_4_method_2_code
def yX4_copy : MethodName := ⟨RX4, "copy", "()LDebtorsHouse$Debt;"⟩
theorem dX4_copy_0 : decode cX4_copy 0 = .ok (.new 10, 3) := by decide +kernel
theorem dX4_copy_3 : decode cX4_copy 3 = .ok (.dup, 1) := by decide +kernel
theorem dX4_copy_4 : decode cX4_copy 4 = .ok (.aload_n 0, 1) := by decide +kernel
theorem dX4_copy_5 : decode cX4_copy 5 = .ok (.getfield 24, 3) := by decide +kernel
theorem dX4_copy_8 : decode cX4_copy 8 = .ok (.aload_n 0, 1) := by decide +kernel
theorem dX4_copy_9 : decode cX4_copy 9 = .ok (.getfield 27, 3) := by decide +kernel
theorem dX4_copy_12 : decode cX4_copy 12 = .ok (.aload_n 0, 1) := by decide +kernel
theorem dX4_copy_13 : decode cX4_copy 13 = .ok (.getfield 30, 3) := by decide +kernel
theorem dX4_copy_16 : decode cX4_copy 16 = .ok (.aload_n 0, 1) := by decide +kernel
theorem dX4_copy_17 : decode cX4_copy 17 = .ok (.getfield 33, 3) := by decide +kernel
theorem dX4_copy_20 : decode cX4_copy 20 = .ok (.aload_n 0, 1) := by decide +kernel
theorem dX4_copy_21 : decode cX4_copy 21 = .ok (.getfield 36, 3) := by decide +kernel
theorem dX4_copy_24 : decode cX4_copy 24 = .ok (.aload_n 0, 1) := by decide +kernel
theorem dX4_copy_25 : decode cX4_copy 25 = .ok (.getfield 39, 3) := by decide +kernel
theorem dX4_copy_28 : decode cX4_copy 28 = .ok (.aload_n 0, 1) := by decide +kernel
theorem dX4_copy_29 : decode cX4_copy 29 = .ok (.getfield 42, 3) := by decide +kernel
theorem dX4_copy_32 : decode cX4_copy 32 = .ok (.aload_n 0, 1) := by decide +kernel
theorem dX4_copy_33 : decode cX4_copy 33 = .ok (.getfield 45, 3) := by decide +kernel
theorem dX4_copy_36 : decode cX4_copy 36 = .ok (.invokespecial 54, 3) := by decide +kernel
theorem dX4_copy_39 : decode cX4_copy 39 = .ok (.astore_n 1, 1) := by decide +kernel
theorem dX4_copy_40 : decode cX4_copy 40 = .ok (.aload_n 1, 1) := by decide +kernel
theorem dX4_copy_41 : decode cX4_copy 41 = .ok (.aload_n 0, 1) := by decide +kernel
theorem dX4_copy_42 : decode cX4_copy 42 = .ok (.getfield 48, 3) := by decide +kernel
theorem dX4_copy_45 : decode cX4_copy 45 = .ok (.putfield 48, 3) := by decide +kernel
theorem dX4_copy_48 : decode cX4_copy 48 = .ok (.aload_n 1, 1) := by decide +kernel
theorem dX4_copy_49 : decode cX4_copy 49 = .ok (.aload_n 0, 1) := by decide +kernel
theorem dX4_copy_50 : decode cX4_copy 50 = .ok (.getfield 57, 3) := by decide +kernel
theorem dX4_copy_53 : decode cX4_copy 53 = .ok (.putfield 57, 3) := by decide +kernel
theorem dX4_copy_56 : decode cX4_copy 56 = .ok (.aload_n 1, 1) := by decide +kernel
theorem dX4_copy_57 : decode cX4_copy 57 = .ok (.aload_n 0, 1) := by decide +kernel
theorem dX4_copy_58 : decode cX4_copy 58 = .ok (.getfield 60, 3) := by decide +kernel
theorem dX4_copy_61 : decode cX4_copy 61 = .ok (.putfield 60, 3) := by decide +kernel
theorem dX4_copy_64 : decode cX4_copy 64 = .ok (.aload_n 1, 1) := by decide +kernel
theorem dX4_copy_65 : decode cX4_copy 65 = .ok (.aload_n 0, 1) := by decide +kernel
theorem dX4_copy_66 : decode cX4_copy 66 = .ok (.getfield 51, 3) := by decide +kernel
theorem dX4_copy_69 : decode cX4_copy 69 = .ok (.putfield 51, 3) := by decide +kernel
theorem dX4_copy_72 : decode cX4_copy 72 = .ok (.aload_n 1, 1) := by decide +kernel
theorem dX4_copy_73 : decode cX4_copy 73 = .ok (.aload_n 0, 1) := by decide +kernel
theorem dX4_copy_74 : decode cX4_copy 74 = .ok (.getfield 63, 3) := by decide +kernel
theorem dX4_copy_77 : decode cX4_copy 77 = .ok (.putfield 63, 3) := by decide +kernel
theorem dX4_copy_80 : decode cX4_copy 80 = .ok (.aload_n 1, 1) := by decide +kernel
theorem dX4_copy_81 : decode cX4_copy 81 = .ok (.aload_n 0, 1) := by decide +kernel
theorem dX4_copy_82 : decode cX4_copy 82 = .ok (.getfield 9, 3) := by decide +kernel
theorem dX4_copy_85 : decode cX4_copy 85 = .ok (.putfield 9, 3) := by decide +kernel
theorem dX4_copy_88 : decode cX4_copy 88 = .ok (.aload_n 1, 1) := by decide +kernel
theorem dX4_copy_89 : decode cX4_copy 89 = .ok (.aload_n 0, 1) := by decide +kernel
theorem dX4_copy_90 : decode cX4_copy 90 = .ok (.getfield 66, 3) := by decide +kernel
theorem dX4_copy_93 : decode cX4_copy 93 = .ok (.putfield 66, 3) := by decide +kernel
theorem dX4_copy_96 : decode cX4_copy 96 = .ok (.aload_n 1, 1) := by decide +kernel
theorem dX4_copy_97 : decode cX4_copy 97 = .ok (.aload_n 0, 1) := by decide +kernel
theorem dX4_copy_98 : decode cX4_copy 98 = .ok (.getfield 21, 3) := by decide +kernel
theorem dX4_copy_101 : decode cX4_copy 101 = .ok (.putfield 21, 3) := by decide +kernel
theorem dX4_copy_104 : decode cX4_copy 104 = .ok (.aload_n 1, 1) := by decide +kernel
theorem dX4_copy_105 : decode cX4_copy 105 = .ok (.areturn, 1) := by decide +kernel
theorem q92 : (Jvm.Cond.initialized "DebtorsHouse$Debt") ∈ lw_all := lw_g (lw_at lw_m1 12 rfl) rfl
theorem q367 : (Jvm.Cond.selects "DebtorsHouse$Debt" ({ cls := "java/lang/Object", name := "getClass", desc := "()Ljava/lang/Class;" } : Jvm.MethodName) ({ cls := "java/lang/Object", name := "getClass", desc := "()Ljava/lang/Class;" } : Jvm.MethodName)) ∈ lw_all := lw_g (lw_at lw_m2 47 rfl) rfl
theorem q408 : (Jvm.Cond.instantiable "DebtorsHouse$Debt" (16 : Nat)) ∈ lw_all := lw_g (lw_at lw_m2 88 rfl) rfl
theorem q410 : (Jvm.Cond.instanceMethod ({ cls := "DebtorsHouse$Debt", name := "<init>", desc := "(IIIIIIII)V" } : Jvm.MethodName)) ∈ lw_all := lw_g (lw_at lw_m2 90 rfl) rfl
theorem q411 : (Jvm.Cond.code ({ cls := "DebtorsHouse$Debt", name := "<init>", desc := "(IIIIIIII)V" } : Jvm.MethodName) prog_4_method_1_code (9 : Nat) (Option.none : Option Jvm.ClassFile.FieldType)) ∈ lw_all := lw_g (lw_at lw_m2 91 rfl) rfl
theorem q412 : (Jvm.Cond.methodLink "DebtorsHouse$Debt" (3 : Nat) ({ cls := "java/lang/Object", name := "<init>", desc := "()V" } : Jvm.MethodName)) ∈ lw_all := lw_g (lw_at lw_m2 92 rfl) rfl
theorem q413 : (Jvm.Cond.fieldLink "DebtorsHouse$Debt" (15 : Nat) "DebtorsHouse$Stands" "LIVE" "LDebtorsHouse$Stands;") ∈ lw_all := lw_g (lw_at lw_m2 93 rfl) rfl
theorem q415 : (Jvm.Cond.fieldLink "DebtorsHouse$Debt" (24 : Nat) "DebtorsHouse$Debt" "number" "I") ∈ lw_all := lw_g (lw_at lw_m2 95 rfl) rfl
theorem q416 : (Jvm.Cond.fieldLink "DebtorsHouse$Debt" (27 : Nat) "DebtorsHouse$Debt" "debtor" "I") ∈ lw_all := lw_g (lw_at lw_m2 96 rfl) rfl
theorem q418 : (Jvm.Cond.fieldLink "DebtorsHouse$Debt" (33 : Nat) "DebtorsHouse$Debt" "sum" "I") ∈ lw_all := lw_g (lw_at lw_m2 98 rfl) rfl
theorem q420 : (Jvm.Cond.fieldLink "DebtorsHouse$Debt" (36 : Nat) "DebtorsHouse$Debt" "rank" "I") ∈ lw_all := lw_g (lw_at lw_m2 100 rfl) rfl
theorem q422 : (Jvm.Cond.fieldLink "DebtorsHouse$Debt" (39 : Nat) "DebtorsHouse$Debt" "rate" "I") ∈ lw_all := lw_g (lw_at lw_m2 102 rfl) rfl
theorem q424 : (Jvm.Cond.fieldLink "DebtorsHouse$Debt" (42 : Nat) "DebtorsHouse$Debt" "since" "I") ∈ lw_all := lw_g (lw_at lw_m2 104 rfl) rfl
theorem q426 : (Jvm.Cond.fieldLink "DebtorsHouse$Debt" (45 : Nat) "DebtorsHouse$Debt" "told" "I") ∈ lw_all := lw_g (lw_at lw_m2 106 rfl) rfl
theorem q428 : (Jvm.Cond.fieldLink "DebtorsHouse$Debt" (30 : Nat) "DebtorsHouse$Debt" "creditor" "I") ∈ lw_all := lw_g (lw_at lw_m2 108 rfl) rfl
theorem q430 : (Jvm.Cond.fieldLink "DebtorsHouse$Debt" (48 : Nat) "DebtorsHouse$Debt" "principal" "I") ∈ lw_all := lw_g (lw_at lw_m2 110 rfl) rfl
theorem q432 : (Jvm.Cond.fieldLink "DebtorsHouse$Debt" (57 : Nat) "DebtorsHouse$Debt" "interest" "I") ∈ lw_all := lw_g (lw_at lw_m2 112 rfl) rfl
theorem q433 : (Jvm.Cond.fieldLink "DebtorsHouse$Debt" (60 : Nat) "DebtorsHouse$Debt" "costs" "I") ∈ lw_all := lw_g (lw_at lw_m2 113 rfl) rfl
theorem q435 : (Jvm.Cond.fieldLink "DebtorsHouse$Debt" (51 : Nat) "DebtorsHouse$Debt" "reckoned" "I") ∈ lw_all := lw_g (lw_at lw_m2 115 rfl) rfl
theorem q436 : (Jvm.Cond.fieldLink "DebtorsHouse$Debt" (63 : Nat) "DebtorsHouse$Debt" "lack" "I") ∈ lw_all := lw_g (lw_at lw_m2 116 rfl) rfl
theorem q438 : (Jvm.Cond.fieldLink "DebtorsHouse$Debt" (9 : Nat) "DebtorsHouse$Debt" "ended" "I") ∈ lw_all := lw_g (lw_at lw_m2 118 rfl) rfl
theorem q440 : (Jvm.Cond.fieldLink "DebtorsHouse$Debt" (66 : Nat) "DebtorsHouse$Debt" "bought" "Z") ∈ lw_all := lw_g (lw_at lw_m2 120 rfl) rfl
theorem q442 : (Jvm.Cond.fieldLink "DebtorsHouse$Debt" (21 : Nat) "DebtorsHouse$Debt" "stands" "LDebtorsHouse$Stands;") ∈ lw_all := lw_g (lw_at lw_m2 122 rfl) rfl
theorem q444 : (Jvm.Cond.laysFinal "DebtorsHouse$Debt" "DebtorsHouse$Debt" "number" "I") ∈ lw_all := lw_g (lw_at lw_m2 124 rfl) rfl
theorem q445 : (Jvm.Cond.soleField "DebtorsHouse$Debt" "number") ∈ lw_all := lw_g (lw_at lw_m2 125 rfl) rfl
theorem q446 : (Jvm.Cond.laysFinal "DebtorsHouse$Debt" "DebtorsHouse$Debt" "debtor" "I") ∈ lw_all := lw_g (lw_at lw_m2 126 rfl) rfl
theorem q447 : (Jvm.Cond.soleField "DebtorsHouse$Debt" "debtor") ∈ lw_all := lw_g (lw_at lw_m2 127 rfl) rfl
theorem q448 : (Jvm.Cond.laysFinal "DebtorsHouse$Debt" "DebtorsHouse$Debt" "sum" "I") ∈ lw_all := lw_g (lw_at lw_m2 128 rfl) rfl
theorem q449 : (Jvm.Cond.soleField "DebtorsHouse$Debt" "sum") ∈ lw_all := lw_g (lw_at lw_m2 129 rfl) rfl
theorem q450 : (Jvm.Cond.laysFinal "DebtorsHouse$Debt" "DebtorsHouse$Debt" "rank" "I") ∈ lw_all := lw_g (lw_at lw_m2 130 rfl) rfl
theorem q451 : (Jvm.Cond.soleField "DebtorsHouse$Debt" "rank") ∈ lw_all := lw_g (lw_at lw_m2 131 rfl) rfl
theorem q452 : (Jvm.Cond.laysFinal "DebtorsHouse$Debt" "DebtorsHouse$Debt" "rate" "I") ∈ lw_all := lw_g (lw_at lw_m2 132 rfl) rfl
theorem q453 : (Jvm.Cond.soleField "DebtorsHouse$Debt" "rate") ∈ lw_all := lw_g (lw_at lw_m2 133 rfl) rfl
theorem q454 : (Jvm.Cond.laysFinal "DebtorsHouse$Debt" "DebtorsHouse$Debt" "since" "I") ∈ lw_all := lw_g (lw_at lw_m2 134 rfl) rfl
theorem q455 : (Jvm.Cond.soleField "DebtorsHouse$Debt" "since") ∈ lw_all := lw_g (lw_at lw_m2 135 rfl) rfl
theorem q456 : (Jvm.Cond.laysFinal "DebtorsHouse$Debt" "DebtorsHouse$Debt" "told" "I") ∈ lw_all := lw_g (lw_at lw_m2 136 rfl) rfl
theorem q457 : (Jvm.Cond.soleField "DebtorsHouse$Debt" "told") ∈ lw_all := lw_g (lw_at lw_m2 137 rfl) rfl
theorem q458 : (Jvm.Cond.lays "DebtorsHouse$Debt" "DebtorsHouse$Debt" "creditor" "I") ∈ lw_all := lw_g (lw_at lw_m2 138 rfl) rfl
theorem q459 : (Jvm.Cond.soleField "DebtorsHouse$Debt" "creditor") ∈ lw_all := lw_g (lw_at lw_m2 139 rfl) rfl
theorem q460 : (Jvm.Cond.lays "DebtorsHouse$Debt" "DebtorsHouse$Debt" "principal" "I") ∈ lw_all := lw_g (lw_at lw_m2 140 rfl) rfl
theorem q461 : (Jvm.Cond.soleField "DebtorsHouse$Debt" "principal") ∈ lw_all := lw_g (lw_at lw_m2 141 rfl) rfl
theorem q462 : (Jvm.Cond.lays "DebtorsHouse$Debt" "DebtorsHouse$Debt" "interest" "I") ∈ lw_all := lw_g (lw_at lw_m2 142 rfl) rfl
theorem q463 : (Jvm.Cond.soleField "DebtorsHouse$Debt" "interest") ∈ lw_all := lw_g (lw_at lw_m2 143 rfl) rfl
theorem q464 : (Jvm.Cond.lays "DebtorsHouse$Debt" "DebtorsHouse$Debt" "costs" "I") ∈ lw_all := lw_g (lw_at lw_m2 144 rfl) rfl
theorem q465 : (Jvm.Cond.soleField "DebtorsHouse$Debt" "costs") ∈ lw_all := lw_g (lw_at lw_m2 145 rfl) rfl
theorem q466 : (Jvm.Cond.lays "DebtorsHouse$Debt" "DebtorsHouse$Debt" "reckoned" "I") ∈ lw_all := lw_g (lw_at lw_m2 146 rfl) rfl
theorem q467 : (Jvm.Cond.soleField "DebtorsHouse$Debt" "reckoned") ∈ lw_all := lw_g (lw_at lw_m2 147 rfl) rfl
theorem q468 : (Jvm.Cond.lays "DebtorsHouse$Debt" "DebtorsHouse$Debt" "lack" "I") ∈ lw_all := lw_g (lw_at lw_m2 148 rfl) rfl
theorem q469 : (Jvm.Cond.soleField "DebtorsHouse$Debt" "lack") ∈ lw_all := lw_g (lw_at lw_m2 149 rfl) rfl
theorem q470 : (Jvm.Cond.lays "DebtorsHouse$Debt" "DebtorsHouse$Debt" "ended" "I") ∈ lw_all := lw_g (lw_at lw_m2 150 rfl) rfl
theorem q471 : (Jvm.Cond.soleField "DebtorsHouse$Debt" "ended") ∈ lw_all := lw_g (lw_at lw_m2 151 rfl) rfl
theorem q472 : (Jvm.Cond.lays "DebtorsHouse$Debt" "DebtorsHouse$Debt" "bought" "Z") ∈ lw_all := lw_g (lw_at lw_m2 152 rfl) rfl
theorem q473 : (Jvm.Cond.soleField "DebtorsHouse$Debt" "bought") ∈ lw_all := lw_g (lw_at lw_m2 153 rfl) rfl
theorem q474 : (Jvm.Cond.lays "DebtorsHouse$Debt" "DebtorsHouse$Debt" "stands" "LDebtorsHouse$Stands;") ∈ lw_all := lw_g (lw_at lw_m2 154 rfl) rfl
theorem q475 : (Jvm.Cond.soleField "DebtorsHouse$Debt" "stands") ∈ lw_all := lw_g (lw_at lw_m2 155 rfl) rfl
theorem q476 : (Jvm.Cond.superclass "DebtorsHouse$Debt" "java/lang/Object") ∈ lw_all := lw_g (lw_at lw_m2 156 rfl) rfl
theorem q504 : (Jvm.Cond.instanceMethod ({ cls := "DebtorsHouse$Debt", name := "isLive", desc := "()Z" } : Jvm.MethodName)) ∈ lw_all := lw_g (lw_at lw_m2 184 rfl) rfl
theorem q505 : (Jvm.Cond.selects "DebtorsHouse$Debt" ({ cls := "DebtorsHouse$Debt", name := "isLive", desc := "()Z" } : Jvm.MethodName) ({ cls := "DebtorsHouse$Debt", name := "isLive", desc := "()Z" } : Jvm.MethodName)) ∈ lw_all := lw_g (lw_at lw_m2 185 rfl) rfl
theorem q506 : (Jvm.Cond.code ({ cls := "DebtorsHouse$Debt", name := "isLive", desc := "()Z" } : Jvm.MethodName) prog_4_method_3_code (1 : Nat) (Option.some Jvm.ClassFile.FieldType.boolean)) ∈ lw_all := lw_g (lw_at lw_m2 186 rfl) rfl
theorem q512 : (Jvm.Cond.instanceMethod ({ cls := "DebtorsHouse$Debt", name := "due", desc := "(I)I" } : Jvm.MethodName)) ∈ lw_all := lw_g (lw_at lw_m2 192 rfl) rfl
theorem q513 : (Jvm.Cond.selects "DebtorsHouse$Debt" ({ cls := "DebtorsHouse$Debt", name := "due", desc := "(I)I" } : Jvm.MethodName) ({ cls := "DebtorsHouse$Debt", name := "due", desc := "(I)I" } : Jvm.MethodName)) ∈ lw_all := lw_g (lw_at lw_m2 193 rfl) rfl
theorem q514 : (Jvm.Cond.code ({ cls := "DebtorsHouse$Debt", name := "due", desc := "(I)I" } : Jvm.MethodName) prog_4_method_5_code (2 : Nat) (Option.some Jvm.ClassFile.FieldType.int)) ∈ lw_all := lw_g (lw_at lw_m2 194 rfl) rfl
theorem q515 : (Jvm.Cond.methodLink "DebtorsHouse$Debt" (72 : Nat) ({ cls := "DebtorsHouse$Debt", name := "isLive", desc := "()Z" } : Jvm.MethodName)) ∈ lw_all := lw_g (lw_at lw_m2 195 rfl) rfl
theorem q516 : (Jvm.Cond.methodLink "DebtorsHouse$Debt" (76 : Nat) ({ cls := "DebtorsHouse$Debt", name := "interestOn", desc := "(I)I" } : Jvm.MethodName)) ∈ lw_all := lw_g (lw_at lw_m2 196 rfl) rfl
theorem q517 : (Jvm.Cond.instanceMethod ({ cls := "DebtorsHouse$Debt", name := "interestOn", desc := "(I)I" } : Jvm.MethodName)) ∈ lw_all := lw_g (lw_at lw_m2 197 rfl) rfl
theorem q518 : (Jvm.Cond.selects "DebtorsHouse$Debt" ({ cls := "DebtorsHouse$Debt", name := "interestOn", desc := "(I)I" } : Jvm.MethodName) ({ cls := "DebtorsHouse$Debt", name := "interestOn", desc := "(I)I" } : Jvm.MethodName)) ∈ lw_all := lw_g (lw_at lw_m2 198 rfl) rfl
theorem q519 : (Jvm.Cond.code ({ cls := "DebtorsHouse$Debt", name := "interestOn", desc := "(I)I" } : Jvm.MethodName) prog_4_method_4_code (2 : Nat) (Option.some Jvm.ClassFile.FieldType.int)) ∈ lw_all := lw_g (lw_at lw_m2 199 rfl) rfl
theorem q520 : (Jvm.Cond.constantLong "DebtorsHouse$Debt" (70 : Nat) (360000 : Int64)) ∈ lw_all := lw_g (lw_at lw_m2 200 rfl) rfl
theorem q530 : (Jvm.Cond.instanceMethod ({ cls := "DebtorsHouse$Debt", name := "less", desc := "(II)V" } : Jvm.MethodName)) ∈ lw_all := lw_g (lw_at lw_m2 210 rfl) rfl
theorem q531 : (Jvm.Cond.selects "DebtorsHouse$Debt" ({ cls := "DebtorsHouse$Debt", name := "less", desc := "(II)V" } : Jvm.MethodName) ({ cls := "DebtorsHouse$Debt", name := "less", desc := "(II)V" } : Jvm.MethodName)) ∈ lw_all := lw_g (lw_at lw_m2 211 rfl) rfl
theorem q532 : (Jvm.Cond.code ({ cls := "DebtorsHouse$Debt", name := "less", desc := "(II)V" } : Jvm.MethodName) prog_4_method_7_code (5 : Nat) (Option.none : Option Jvm.ClassFile.FieldType)) ∈ lw_all := lw_g (lw_at lw_m2 212 rfl) rfl
theorem q533 : (Jvm.Cond.methodLink "DebtorsHouse$Debt" (80 : Nat) ({ cls := "java/lang/Math", name := "min", desc := "(II)I" } : Jvm.MethodName)) ∈ lw_all := lw_g (lw_at lw_m2 213 rfl) rfl
theorem q534 : (Jvm.Cond.fieldLink "DebtorsHouse$Debt" (86 : Nat) "DebtorsHouse$Stands" "PAID" "LDebtorsHouse$Stands;") ∈ lw_all := lw_g (lw_at lw_m2 214 rfl) rfl
theorem q536 : (Jvm.Cond.methodLink "DebtorsHouse$Debt" (89 : Nat) ({ cls := "DebtorsHouse$Debt", name := "ends", desc := "(LDebtorsHouse$Stands;I)V" } : Jvm.MethodName)) ∈ lw_all := lw_g (lw_at lw_m2 216 rfl) rfl
theorem q537 : (Jvm.Cond.instanceMethod ({ cls := "DebtorsHouse$Debt", name := "ends", desc := "(LDebtorsHouse$Stands;I)V" } : Jvm.MethodName)) ∈ lw_all := lw_g (lw_at lw_m2 217 rfl) rfl
theorem q538 : (Jvm.Cond.selects "DebtorsHouse$Debt" ({ cls := "DebtorsHouse$Debt", name := "ends", desc := "(LDebtorsHouse$Stands;I)V" } : Jvm.MethodName) ({ cls := "DebtorsHouse$Debt", name := "ends", desc := "(LDebtorsHouse$Stands;I)V" } : Jvm.MethodName)) ∈ lw_all := lw_g (lw_at lw_m2 218 rfl) rfl
theorem q539 : (Jvm.Cond.code ({ cls := "DebtorsHouse$Debt", name := "ends", desc := "(LDebtorsHouse$Stands;I)V" } : Jvm.MethodName) prog_4_method_6_code (3 : Nat) (Option.none : Option Jvm.ClassFile.FieldType)) ∈ lw_all := lw_g (lw_at lw_m2 219 rfl) rfl
theorem q1363 : (Jvm.Cond.instanceMethod ({ cls := "DebtorsHouse$Debt", name := "copy", desc := "()LDebtorsHouse$Debt;" } : Jvm.MethodName)) ∈ lw_all := lw_g (lw_at lw_m6 83 rfl) rfl
theorem q1364 : (Jvm.Cond.selects "DebtorsHouse$Debt" ({ cls := "DebtorsHouse$Debt", name := "copy", desc := "()LDebtorsHouse$Debt;" } : Jvm.MethodName) ({ cls := "DebtorsHouse$Debt", name := "copy", desc := "()LDebtorsHouse$Debt;" } : Jvm.MethodName)) ∈ lw_all := lw_g (lw_at lw_m6 84 rfl) rfl
theorem q1365 : (Jvm.Cond.code ({ cls := "DebtorsHouse$Debt", name := "copy", desc := "()LDebtorsHouse$Debt;" } : Jvm.MethodName) prog_4_method_2_code (2 : Nat) (Option.some (Jvm.ClassFile.FieldType.object "DebtorsHouse$Debt"))) ∈ lw_all := lw_g (lw_at lw_m6 85 rfl) rfl
theorem q1366 : (Jvm.Cond.classLink "DebtorsHouse$Debt" (10 : Nat) "DebtorsHouse$Debt") ∈ lw_all := lw_g (lw_at lw_m6 86 rfl) rfl
theorem q1367 : (Jvm.Cond.methodLink "DebtorsHouse$Debt" (54 : Nat) ({ cls := "DebtorsHouse$Debt", name := "<init>", desc := "(IIIIIIII)V" } : Jvm.MethodName)) ∈ lw_all := lw_g (lw_at lw_m6 87 rfl) rfl
theorem q2012 : (Jvm.Cond.castable "DebtorsHouse$Debt" "java/lang/Object") ∈ lw_tbl := lw_at lw_m9 12 rfl
theorem in_X4 : ∀ w ∈ wsX40, w ∈ lw_all := lw_in wsX40 [444, 446, 448, 450, 452, 454, 456, 458, 460, 462, 464, 466, 468, 470, 472, 474] (by decide +kernel) (by decide +kernel)
/-! DebtorsHouse$Act -/
set_option maxRecDepth 100000
def RX5 : String := "DebtorsHouse$Act"
def TX5 : u_T := fun k => match k with
  | 0 => ("DebtorsHouse$Act", "from", "I", true)
  | 1 => ("DebtorsHouse$Act", "told", "I", true)
  | _ => ("DebtorsHouse$Act", "lines", "Ljava/util/ArrayList;", true)
def tyX5 : Nat → FieldType := fun k => match k with
  | 0 => .int
  | 1 => .int
  | _ => .object "java/util/ArrayList"
abbrev wsX50 : List Cond := u_ws RX5 TX5 3
theorem nmX5 : ∀ a, a < 3 → ∀ b, b < 3 → a ≠ b → (TX5 a).2.1 ≠ (TX5 b).2.1 := by decide +kernel
theorem tyX5_ok : ∀ k, k < 3 → parseFieldDescriptor (TX5 k).2.2.1 = some (tyX5 k) := by decide +kernel
abbrev cX5_init : ByteArray := prog_3_method_1_code
def yX5_init : MethodName := ⟨RX5, "<init>", "(IILjava/util/ArrayList;)V"⟩
theorem dX5_init_0 : decode cX5_init 0 = .ok (.aload_n 0, 1) := by decide +kernel
theorem dX5_init_1 : decode cX5_init 1 = .ok (.invokespecial 1, 3) := by decide +kernel
theorem dX5_init_4 : decode cX5_init 4 = .ok (.aload_n 0, 1) := by decide +kernel
theorem dX5_init_5 : decode cX5_init 5 = .ok (.iload_n 1, 1) := by decide +kernel
theorem dX5_init_6 : decode cX5_init 6 = .ok (.putfield 7, 3) := by decide +kernel
theorem dX5_init_9 : decode cX5_init 9 = .ok (.aload_n 0, 1) := by decide +kernel
theorem dX5_init_10 : decode cX5_init 10 = .ok (.iload_n 2, 1) := by decide +kernel
theorem dX5_init_11 : decode cX5_init 11 = .ok (.putfield 13, 3) := by decide +kernel
theorem dX5_init_14 : decode cX5_init 14 = .ok (.aload_n 0, 1) := by decide +kernel
theorem dX5_init_15 : decode cX5_init 15 = .ok (.aload_n 3, 1) := by decide +kernel
theorem dX5_init_16 : decode cX5_init 16 = .ok (.putfield 16, 3) := by decide +kernel
theorem dX5_init_19 : decode cX5_init 19 = .ok (.return_, 1) := by decide +kernel
abbrev cX5_tells : ByteArray := prog_3_method_2_code
def yX5_tells : MethodName := ⟨RX5, "tells", "(LDebtorsHouse$Topic;[I)I"⟩
theorem dX5_tells_0 : decode cX5_tells 0 = .ok (.iconst 0, 1) := by decide +kernel
theorem dX5_tells_1 : decode cX5_tells 1 = .ok (.istore_n 3, 1) := by decide +kernel
theorem dX5_tells_2 : decode cX5_tells 2 = .ok (.iload_n 3, 1) := by decide +kernel
theorem dX5_tells_3 : decode cX5_tells 3 = .ok (.aload_n 0, 1) := by decide +kernel
theorem dX5_tells_4 : decode cX5_tells 4 = .ok (.getfield 16, 3) := by decide +kernel
theorem dX5_tells_7 : decode cX5_tells 7 = .ok (.invokevirtual 20, 3) := by decide +kernel
theorem dX5_tells_10 : decode cX5_tells 10 = .ok (.if_icmp .ge 60, 3) := by decide +kernel
theorem dX5_tells_13 : decode cX5_tells 13 = .ok (.aload_n 0, 1) := by decide +kernel
theorem dX5_tells_14 : decode cX5_tells 14 = .ok (.getfield 16, 3) := by decide +kernel
theorem dX5_tells_17 : decode cX5_tells 17 = .ok (.iload_n 3, 1) := by decide +kernel
theorem dX5_tells_18 : decode cX5_tells 18 = .ok (.invokevirtual 26, 3) := by decide +kernel
theorem dX5_tells_21 : decode cX5_tells 21 = .ok (.checkcast 30, 3) := by decide +kernel
theorem dX5_tells_24 : decode cX5_tells 24 = .ok (.getfield 32, 3) := by decide +kernel
theorem dX5_tells_27 : decode cX5_tells 27 = .ok (.aload_n 1, 1) := by decide +kernel
theorem dX5_tells_28 : decode cX5_tells 28 = .ok (.if_acmp .ne 36, 3) := by decide +kernel
theorem dX5_tells_31 : decode cX5_tells 31 = .ok (.aload_n 0, 1) := by decide +kernel
theorem dX5_tells_32 : decode cX5_tells 32 = .ok (.getfield 16, 3) := by decide +kernel
theorem dX5_tells_35 : decode cX5_tells 35 = .ok (.iload_n 3, 1) := by decide +kernel
theorem dX5_tells_36 : decode cX5_tells 36 = .ok (.invokevirtual 26, 3) := by decide +kernel
theorem dX5_tells_39 : decode cX5_tells 39 = .ok (.checkcast 30, 3) := by decide +kernel
theorem dX5_tells_42 : decode cX5_tells 42 = .ok (.aload_n 2, 1) := by decide +kernel
theorem dX5_tells_43 : decode cX5_tells 43 = .ok (.invokevirtual 36, 3) := by decide +kernel
theorem dX5_tells_46 : decode cX5_tells 46 = .ok (.ifCond .eq 18, 3) := by decide +kernel
theorem dX5_tells_49 : decode cX5_tells 49 = .ok (.aload_n 0, 1) := by decide +kernel
theorem dX5_tells_50 : decode cX5_tells 50 = .ok (.getfield 16, 3) := by decide +kernel
theorem dX5_tells_53 : decode cX5_tells 53 = .ok (.iload_n 3, 1) := by decide +kernel
theorem dX5_tells_54 : decode cX5_tells 54 = .ok (.invokevirtual 26, 3) := by decide +kernel
theorem dX5_tells_57 : decode cX5_tells 57 = .ok (.checkcast 30, 3) := by decide +kernel
theorem dX5_tells_60 : decode cX5_tells 60 = .ok (.getfield 40, 3) := by decide +kernel
theorem dX5_tells_63 : decode cX5_tells 63 = .ok (.ireturn, 1) := by decide +kernel
theorem dX5_tells_64 : decode cX5_tells 64 = .ok (.iinc 3 1, 3) := by decide +kernel
theorem dX5_tells_67 : decode cX5_tells 67 = .ok (.goto (-65), 3) := by decide +kernel
theorem dX5_tells_70 : decode cX5_tells 70 = .ok (.aload_n 1, 1) := by decide +kernel
theorem dX5_tells_71 : decode cX5_tells 71 = .ok (.getfield 43, 3) := by decide +kernel
theorem dX5_tells_74 : decode cX5_tells 74 = .ok (.ireturn, 1) := by decide +kernel
theorem q97 : (Jvm.Cond.initialized "DebtorsHouse$Act") ∈ lw_all := lw_g (lw_at lw_m1 17 rfl) rfl
theorem q366 : (Jvm.Cond.selects "DebtorsHouse$Act" ({ cls := "java/lang/Object", name := "getClass", desc := "()Ljava/lang/Class;" } : Jvm.MethodName) ({ cls := "java/lang/Object", name := "getClass", desc := "()Ljava/lang/Class;" } : Jvm.MethodName)) ∈ lw_all := lw_g (lw_at lw_m2 46 rfl) rfl
theorem q595 : (Jvm.Cond.instantiable "DebtorsHouse$Act" (3 : Nat)) ∈ lw_all := lw_g (lw_at lw_m3 35 rfl) rfl
theorem q978 : (Jvm.Cond.fieldLinkNest "DebtorsHouse$Act" (32 : Nat) "DebtorsHouse$Line" "topic" "LDebtorsHouse$Topic;" "DebtorsHouse") ∈ lw_tbl := lw_at lw_m4 178 rfl
theorem q982 : (Jvm.Cond.fieldLinkNest "DebtorsHouse$Act" (40 : Nat) "DebtorsHouse$Line" "number" "I" "DebtorsHouse") ∈ lw_tbl := lw_at lw_m4 182 rfl
theorem q1066 : (Jvm.Cond.instanceMethod ({ cls := "DebtorsHouse$Act", name := "<init>", desc := "(IILjava/util/ArrayList;)V" } : Jvm.MethodName)) ∈ lw_all := lw_g (lw_at lw_m5 26 rfl) rfl
theorem q1067 : (Jvm.Cond.code ({ cls := "DebtorsHouse$Act", name := "<init>", desc := "(IILjava/util/ArrayList;)V" } : Jvm.MethodName) prog_3_method_1_code (4 : Nat) (Option.none : Option Jvm.ClassFile.FieldType)) ∈ lw_all := lw_g (lw_at lw_m5 27 rfl) rfl
theorem q1068 : (Jvm.Cond.methodLink "DebtorsHouse$Act" (1 : Nat) ({ cls := "java/lang/Object", name := "<init>", desc := "()V" } : Jvm.MethodName)) ∈ lw_all := lw_g (lw_at lw_m5 28 rfl) rfl
theorem q1069 : (Jvm.Cond.fieldLink "DebtorsHouse$Act" (7 : Nat) "DebtorsHouse$Act" "from" "I") ∈ lw_all := lw_g (lw_at lw_m5 29 rfl) rfl
theorem q1071 : (Jvm.Cond.fieldLink "DebtorsHouse$Act" (13 : Nat) "DebtorsHouse$Act" "told" "I") ∈ lw_all := lw_g (lw_at lw_m5 31 rfl) rfl
theorem q1073 : (Jvm.Cond.fieldLink "DebtorsHouse$Act" (16 : Nat) "DebtorsHouse$Act" "lines" "Ljava/util/ArrayList;") ∈ lw_all := lw_g (lw_at lw_m5 33 rfl) rfl
theorem q1074 : (Jvm.Cond.laysFinal "DebtorsHouse$Act" "DebtorsHouse$Act" "from" "I") ∈ lw_all := lw_g (lw_at lw_m5 34 rfl) rfl
theorem q1075 : (Jvm.Cond.soleField "DebtorsHouse$Act" "from") ∈ lw_all := lw_g (lw_at lw_m5 35 rfl) rfl
theorem q1076 : (Jvm.Cond.laysFinal "DebtorsHouse$Act" "DebtorsHouse$Act" "told" "I") ∈ lw_all := lw_g (lw_at lw_m5 36 rfl) rfl
theorem q1077 : (Jvm.Cond.soleField "DebtorsHouse$Act" "told") ∈ lw_all := lw_g (lw_at lw_m5 37 rfl) rfl
theorem q1078 : (Jvm.Cond.laysFinal "DebtorsHouse$Act" "DebtorsHouse$Act" "lines" "Ljava/util/ArrayList;") ∈ lw_all := lw_g (lw_at lw_m5 38 rfl) rfl
theorem q1079 : (Jvm.Cond.soleField "DebtorsHouse$Act" "lines") ∈ lw_all := lw_g (lw_at lw_m5 39 rfl) rfl
theorem q1080 : (Jvm.Cond.superclass "DebtorsHouse$Act" "java/lang/Object") ∈ lw_all := lw_g (lw_at lw_m5 40 rfl) rfl
theorem q1131 : (Jvm.Cond.instanceMethod ({ cls := "DebtorsHouse$Act", name := "tells", desc := "(LDebtorsHouse$Topic;[I)I" } : Jvm.MethodName)) ∈ lw_all := lw_g (lw_at lw_m5 91 rfl) rfl
theorem q1132 : (Jvm.Cond.selects "DebtorsHouse$Act" ({ cls := "DebtorsHouse$Act", name := "tells", desc := "(LDebtorsHouse$Topic;[I)I" } : Jvm.MethodName) ({ cls := "DebtorsHouse$Act", name := "tells", desc := "(LDebtorsHouse$Topic;[I)I" } : Jvm.MethodName)) ∈ lw_all := lw_g (lw_at lw_m5 92 rfl) rfl
theorem q1133 : (Jvm.Cond.code ({ cls := "DebtorsHouse$Act", name := "tells", desc := "(LDebtorsHouse$Topic;[I)I" } : Jvm.MethodName) prog_3_method_2_code (4 : Nat) (Option.some Jvm.ClassFile.FieldType.int)) ∈ lw_all := lw_g (lw_at lw_m5 93 rfl) rfl
theorem q1134 : (Jvm.Cond.methodLink "DebtorsHouse$Act" (20 : Nat) ({ cls := "java/util/ArrayList", name := "size", desc := "()I" } : Jvm.MethodName)) ∈ lw_all := lw_g (lw_at lw_m5 94 rfl) rfl
theorem q1135 : (Jvm.Cond.methodLink "DebtorsHouse$Act" (26 : Nat) ({ cls := "java/util/ArrayList", name := "get", desc := "(I)Ljava/lang/Object;" } : Jvm.MethodName)) ∈ lw_all := lw_g (lw_at lw_m5 95 rfl) rfl
theorem q1136 : (Jvm.Cond.classLink "DebtorsHouse$Act" (30 : Nat) "DebtorsHouse$Line") ∈ lw_all := lw_g (lw_at lw_m5 96 rfl) rfl
theorem q1137 : (Jvm.Cond.methodLink "DebtorsHouse$Act" (36 : Nat) ({ cls := "DebtorsHouse$Line", name := "holds", desc := "([I)Z" } : Jvm.MethodName)) ∈ lw_all := lw_g (lw_at lw_m5 97 rfl) rfl
theorem q2014 : (Jvm.Cond.castable "DebtorsHouse$Act" "java/lang/Object") ∈ lw_tbl := lw_at lw_m9 14 rfl
theorem q2038 : (Jvm.Cond.fieldLinkNest "DebtorsHouse$Act" (43 : Nat) "DebtorsHouse$Topic" "without" "I" "DebtorsHouse") ∈ lw_tbl := lw_at lw_m9 38 rfl
theorem in_X5 : ∀ w ∈ wsX50, w ∈ lw_all := lw_in wsX50 [1074, 1076, 1078] (by decide +kernel) (by decide +kernel)
