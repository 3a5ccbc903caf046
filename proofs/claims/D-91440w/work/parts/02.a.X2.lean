/-! DebtorsHouseModel -/
set_option maxRecDepth 100000
def RX2 : String := "DebtorsHouseModel"
def TX2 : u_T := fun k => match k with
  | 0 => ("DebtorsHouseModel", "code", "I", false)
  | 1 => ("DebtorsHouseModel", "tape", "[B", true)
  | 2 => ("DebtorsHouseModel", "size", "[I", true)
  | 3 => ("DebtorsHouseModel", "fault", "[I", true)
  | 4 => ("DebtorsHouseModel", "faultPlace", "[I", true)
  | 5 => ("DebtorsHouseModel", "days", "[I", true)
  | 6 => ("DebtorsHouseModel", "hours", "[I", true)
  | 7 => ("DebtorsHouseModel", "feesPaid", "[I", true)
  | 8 => ("DebtorsHouseModel", "persons", "[I", true)
  | 9 => ("DebtorsHouseModel", "coins", "[I", true)
  | 10 => ("DebtorsHouseModel", "children", "[I", true)
  | 11 => ("DebtorsHouseModel", "isHeld", "[Z", true)
  | 12 => ("DebtorsHouseModel", "heldSince", "[I", true)
  | 13 => ("DebtorsHouseModel", "rooms", "[I", true)
  | 14 => ("DebtorsHouseModel", "fees", "[I", true)
  | 15 => ("DebtorsHouseModel", "isOut", "[Z", true)
  | 16 => ("DebtorsHouseModel", "late", "[I", true)
  | 17 => ("DebtorsHouseModel", "turns", "[I", true)
  | 18 => ("DebtorsHouseModel", "escaped", "[I", true)
  | 19 => ("DebtorsHouseModel", "detains", "[I", true)
  | 20 => ("DebtorsHouseModel", "surrendered", "[Z", true)
  | 21 => ("DebtorsHouseModel", "bookSum", "[I", true)
  | 22 => ("DebtorsHouseModel", "bookLow", "[I", true)
  | 23 => ("DebtorsHouseModel", "bookRows", "[I", true)
  | 24 => ("DebtorsHouseModel", "leasts", "[I", true)
  | 25 => ("DebtorsHouseModel", "debts", "[I", true)
  | 26 => ("DebtorsHouseModel", "debtor", "[I", true)
  | 27 => ("DebtorsHouseModel", "creditor", "[I", true)
  | 28 => ("DebtorsHouseModel", "sums", "[I", true)
  | 29 => ("DebtorsHouseModel", "rank", "[I", true)
  | 30 => ("DebtorsHouseModel", "rate", "[I", true)
  | 31 => ("DebtorsHouseModel", "since", "[I", true)
  | 32 => ("DebtorsHouseModel", "toldOn", "[I", true)
  | 33 => ("DebtorsHouseModel", "state", "[I", true)
  | 34 => ("DebtorsHouseModel", "principal", "[I", true)
  | 35 => ("DebtorsHouseModel", "keptInterest", "[I", true)
  | 36 => ("DebtorsHouseModel", "reckoned", "[I", true)
  | 37 => ("DebtorsHouseModel", "costs", "[I", true)
  | 38 => ("DebtorsHouseModel", "bought", "[Z", true)
  | 39 => ("DebtorsHouseModel", "lack", "[I", true)
  | 40 => ("DebtorsHouseModel", "endedOn", "[I", true)
  | 41 => ("DebtorsHouseModel", "handMany", "[I", true)
  | 42 => ("DebtorsHouseModel", "hand", "[I", true)
  | 43 => ("DebtorsHouseModel", "acts", "[I", true)
  | 44 => ("DebtorsHouseModel", "actFrom", "[I", true)
  | 45 => ("DebtorsHouseModel", "actTold", "[I", true)
  | 46 => ("DebtorsHouseModel", "actLines", "[I", true)
  | 47 => ("DebtorsHouseModel", "lineTopic", "[I", true)
  | 48 => ("DebtorsHouseModel", "lineTests", "[I", true)
  | 49 => ("DebtorsHouseModel", "lineValue", "[I", true)
  | 50 => ("DebtorsHouseModel", "testWhat", "[I", true)
  | 51 => ("DebtorsHouseModel", "testSign", "[I", true)
  | 52 => ("DebtorsHouseModel", "testThan", "[I", true)
  | 53 => ("DebtorsHouseModel", "trail", "[I", true)
  | 54 => ("DebtorsHouseModel", "ahead", "I", false)
  | 55 => ("DebtorsHouseModel", "length", "I", false)
  | 56 => ("DebtorsHouseModel", "begins", "I", false)
  | 57 => ("DebtorsHouseModel", "sort", "I", false)
  | 58 => ("DebtorsHouseModel", "value", "I", false)
  | 59 => ("DebtorsHouseModel", "word", "J", false)
  | 60 => ("DebtorsHouseModel", "wrongAt", "I", false)
  | 61 => ("DebtorsHouseModel", "laterFault", "I", false)
  | 62 => ("DebtorsHouseModel", "laterPlace", "I", false)
  | 63 => ("DebtorsHouseModel", "newLines", "I", false)
  | 64 => ("DebtorsHouseModel", "newTopic", "[I", true)
  | 65 => ("DebtorsHouseModel", "newTests", "[I", true)
  | 66 => ("DebtorsHouseModel", "newValue", "[I", true)
  | 67 => ("DebtorsHouseModel", "newWhat", "[I", true)
  | 68 => ("DebtorsHouseModel", "newSign", "[I", true)
  | 69 => ("DebtorsHouseModel", "newThan", "[I", true)
  | 70 => ("DebtorsHouseModel", "seen", "[I", true)
  | 71 => ("DebtorsHouseModel", "whose", "[I", true)
  | 72 => ("DebtorsHouseModel", "counts", "[Z", true)
  | 73 => ("DebtorsHouseModel", "might", "[I", true)
  | 74 => ("DebtorsHouseModel", "wants", "[I", true)
  | 75 => ("DebtorsHouseModel", "gets", "[I", true)
  | 76 => ("DebtorsHouseModel", "rest", "[J", true)
  | 77 => ("DebtorsHouseModel", "whom", "[I", true)
  | 78 => ("DebtorsHouseModel", "given", "[I", true)
  | _ => ("DebtorsHouseModel", "kept", "[Z", true)
def tyX2 : Nat → FieldType := fun k => match k with
  | 0 => .int
  | 1 => .array .byte
  | 2 => .array .int
  | 3 => .array .int
  | 4 => .array .int
  | 5 => .array .int
  | 6 => .array .int
  | 7 => .array .int
  | 8 => .array .int
  | 9 => .array .int
  | 10 => .array .int
  | 11 => .array .boolean
  | 12 => .array .int
  | 13 => .array .int
  | 14 => .array .int
  | 15 => .array .boolean
  | 16 => .array .int
  | 17 => .array .int
  | 18 => .array .int
  | 19 => .array .int
  | 20 => .array .boolean
  | 21 => .array .int
  | 22 => .array .int
  | 23 => .array .int
  | 24 => .array .int
  | 25 => .array .int
  | 26 => .array .int
  | 27 => .array .int
  | 28 => .array .int
  | 29 => .array .int
  | 30 => .array .int
  | 31 => .array .int
  | 32 => .array .int
  | 33 => .array .int
  | 34 => .array .int
  | 35 => .array .int
  | 36 => .array .int
  | 37 => .array .int
  | 38 => .array .boolean
  | 39 => .array .int
  | 40 => .array .int
  | 41 => .array .int
  | 42 => .array .int
  | 43 => .array .int
  | 44 => .array .int
  | 45 => .array .int
  | 46 => .array .int
  | 47 => .array .int
  | 48 => .array .int
  | 49 => .array .int
  | 50 => .array .int
  | 51 => .array .int
  | 52 => .array .int
  | 53 => .array .int
  | 54 => .int
  | 55 => .int
  | 56 => .int
  | 57 => .int
  | 58 => .int
  | 59 => .long
  | 60 => .int
  | 61 => .int
  | 62 => .int
  | 63 => .int
  | 64 => .array .int
  | 65 => .array .int
  | 66 => .array .int
  | 67 => .array .int
  | 68 => .array .int
  | 69 => .array .int
  | 70 => .array .int
  | 71 => .array .int
  | 72 => .array .boolean
  | 73 => .array .int
  | 74 => .array .int
  | 75 => .array .int
  | 76 => .array .long
  | 77 => .array .int
  | 78 => .array .int
  | _ => .array .boolean
abbrev wsX20 : List Cond := u_ws RX2 TX2 80
set_option maxRecDepth 100000 in
theorem nmX2 : ∀ a, a < 80 → ∀ b, b < 80 → a ≠ b → (TX2 a).2.1 ≠ (TX2 b).2.1 := by decide +kernel
set_option maxRecDepth 100000 in
theorem tyX2_ok : ∀ k, k < 80 → parseFieldDescriptor (TX2 k).2.2.1 = some (tyX2 k) := by decide +kernel
abbrev cX2_init : ByteArray := prog_15_method_1_code
def yX2_init : MethodName := ⟨RX2, "<init>", "()V"⟩
theorem dX2_init_0 : decode cX2_init 0 = .ok (.aload_n 0, 1) := by decide +kernel
theorem dX2_init_1 : decode cX2_init 1 = .ok (.invokespecial 1, 3) := by decide +kernel
theorem dX2_init_4 : decode cX2_init 4 = .ok (.aload_n 0, 1) := by decide +kernel
theorem dX2_init_5 : decode cX2_init 5 = .ok (.sipush 2400, 3) := by decide +kernel
theorem dX2_init_8 : decode cX2_init 8 = .ok (.newarray .byte, 2) := by decide +kernel
theorem dX2_init_10 : decode cX2_init 10 = .ok (.putfield 7, 3) := by decide +kernel
theorem dX2_init_13 : decode cX2_init 13 = .ok (.aload_n 0, 1) := by decide +kernel
theorem dX2_init_14 : decode cX2_init 14 = .ok (.iconst 4, 1) := by decide +kernel
theorem dX2_init_15 : decode cX2_init 15 = .ok (.newarray .int, 2) := by decide +kernel
theorem dX2_init_17 : decode cX2_init 17 = .ok (.putfield 13, 3) := by decide +kernel
theorem dX2_init_20 : decode cX2_init 20 = .ok (.aload_n 0, 1) := by decide +kernel
theorem dX2_init_21 : decode cX2_init 21 = .ok (.iconst 4, 1) := by decide +kernel
theorem dX2_init_22 : decode cX2_init 22 = .ok (.newarray .int, 2) := by decide +kernel
theorem dX2_init_24 : decode cX2_init 24 = .ok (.putfield 17, 3) := by decide +kernel
theorem dX2_init_27 : decode cX2_init 27 = .ok (.aload_n 0, 1) := by decide +kernel
theorem dX2_init_28 : decode cX2_init 28 = .ok (.iconst 4, 1) := by decide +kernel
theorem dX2_init_29 : decode cX2_init 29 = .ok (.newarray .int, 2) := by decide +kernel
theorem dX2_init_31 : decode cX2_init 31 = .ok (.putfield 20, 3) := by decide +kernel
theorem dX2_init_34 : decode cX2_init 34 = .ok (.aload_n 0, 1) := by decide +kernel
theorem dX2_init_35 : decode cX2_init 35 = .ok (.iconst 4, 1) := by decide +kernel
theorem dX2_init_36 : decode cX2_init 36 = .ok (.newarray .int, 2) := by decide +kernel
theorem dX2_init_38 : decode cX2_init 38 = .ok (.putfield 23, 3) := by decide +kernel
theorem dX2_init_41 : decode cX2_init 41 = .ok (.aload_n 0, 1) := by decide +kernel
theorem dX2_init_42 : decode cX2_init 42 = .ok (.iconst 4, 1) := by decide +kernel
theorem dX2_init_43 : decode cX2_init 43 = .ok (.newarray .int, 2) := by decide +kernel
theorem dX2_init_45 : decode cX2_init 45 = .ok (.putfield 26, 3) := by decide +kernel
theorem dX2_init_48 : decode cX2_init 48 = .ok (.aload_n 0, 1) := by decide +kernel
theorem dX2_init_49 : decode cX2_init 49 = .ok (.iconst 4, 1) := by decide +kernel
theorem dX2_init_50 : decode cX2_init 50 = .ok (.newarray .int, 2) := by decide +kernel
theorem dX2_init_52 : decode cX2_init 52 = .ok (.putfield 29, 3) := by decide +kernel
theorem dX2_init_55 : decode cX2_init 55 = .ok (.aload_n 0, 1) := by decide +kernel
theorem dX2_init_56 : decode cX2_init 56 = .ok (.iconst 4, 1) := by decide +kernel
theorem dX2_init_57 : decode cX2_init 57 = .ok (.newarray .int, 2) := by decide +kernel
theorem dX2_init_59 : decode cX2_init 59 = .ok (.putfield 32, 3) := by decide +kernel
theorem dX2_init_62 : decode cX2_init 62 = .ok (.aload_n 0, 1) := by decide +kernel
theorem dX2_init_63 : decode cX2_init 63 = .ok (.bipush 48, 2) := by decide +kernel
theorem dX2_init_65 : decode cX2_init 65 = .ok (.newarray .int, 2) := by decide +kernel
theorem dX2_init_67 : decode cX2_init 67 = .ok (.putfield 35, 3) := by decide +kernel
theorem dX2_init_70 : decode cX2_init 70 = .ok (.aload_n 0, 1) := by decide +kernel
theorem dX2_init_71 : decode cX2_init 71 = .ok (.bipush 48, 2) := by decide +kernel
theorem dX2_init_73 : decode cX2_init 73 = .ok (.newarray .int, 2) := by decide +kernel
theorem dX2_init_75 : decode cX2_init 75 = .ok (.putfield 38, 3) := by decide +kernel
theorem dX2_init_78 : decode cX2_init 78 = .ok (.aload_n 0, 1) := by decide +kernel
theorem dX2_init_79 : decode cX2_init 79 = .ok (.bipush 48, 2) := by decide +kernel
theorem dX2_init_81 : decode cX2_init 81 = .ok (.newarray .boolean, 2) := by decide +kernel
theorem dX2_init_83 : decode cX2_init 83 = .ok (.putfield 41, 3) := by decide +kernel
theorem dX2_init_86 : decode cX2_init 86 = .ok (.aload_n 0, 1) := by decide +kernel
theorem dX2_init_87 : decode cX2_init 87 = .ok (.bipush 48, 2) := by decide +kernel
theorem dX2_init_89 : decode cX2_init 89 = .ok (.newarray .int, 2) := by decide +kernel
theorem dX2_init_91 : decode cX2_init 91 = .ok (.putfield 45, 3) := by decide +kernel
theorem dX2_init_94 : decode cX2_init 94 = .ok (.aload_n 0, 1) := by decide +kernel
theorem dX2_init_95 : decode cX2_init 95 = .ok (.bipush 48, 2) := by decide +kernel
theorem dX2_init_97 : decode cX2_init 97 = .ok (.newarray .int, 2) := by decide +kernel
theorem dX2_init_99 : decode cX2_init 99 = .ok (.putfield 48, 3) := by decide +kernel
theorem dX2_init_102 : decode cX2_init 102 = .ok (.aload_n 0, 1) := by decide +kernel
theorem dX2_init_103 : decode cX2_init 103 = .ok (.bipush 48, 2) := by decide +kernel
theorem dX2_init_105 : decode cX2_init 105 = .ok (.newarray .int, 2) := by decide +kernel
theorem dX2_init_107 : decode cX2_init 107 = .ok (.putfield 51, 3) := by decide +kernel
theorem dX2_init_110 : decode cX2_init 110 = .ok (.aload_n 0, 1) := by decide +kernel
theorem dX2_init_111 : decode cX2_init 111 = .ok (.bipush 48, 2) := by decide +kernel
theorem dX2_init_113 : decode cX2_init 113 = .ok (.newarray .boolean, 2) := by decide +kernel
theorem dX2_init_115 : decode cX2_init 115 = .ok (.putfield 54, 3) := by decide +kernel
theorem dX2_init_118 : decode cX2_init 118 = .ok (.aload_n 0, 1) := by decide +kernel
theorem dX2_init_119 : decode cX2_init 119 = .ok (.bipush 48, 2) := by decide +kernel
theorem dX2_init_121 : decode cX2_init 121 = .ok (.newarray .int, 2) := by decide +kernel
theorem dX2_init_123 : decode cX2_init 123 = .ok (.putfield 57, 3) := by decide +kernel
theorem dX2_init_126 : decode cX2_init 126 = .ok (.aload_n 0, 1) := by decide +kernel
theorem dX2_init_127 : decode cX2_init 127 = .ok (.bipush 48, 2) := by decide +kernel
theorem dX2_init_129 : decode cX2_init 129 = .ok (.newarray .int, 2) := by decide +kernel
theorem dX2_init_131 : decode cX2_init 131 = .ok (.putfield 60, 3) := by decide +kernel
theorem dX2_init_134 : decode cX2_init 134 = .ok (.aload_n 0, 1) := by decide +kernel
theorem dX2_init_135 : decode cX2_init 135 = .ok (.bipush 48, 2) := by decide +kernel
theorem dX2_init_137 : decode cX2_init 137 = .ok (.newarray .int, 2) := by decide +kernel
theorem dX2_init_139 : decode cX2_init 139 = .ok (.putfield 63, 3) := by decide +kernel
theorem dX2_init_142 : decode cX2_init 142 = .ok (.aload_n 0, 1) := by decide +kernel
theorem dX2_init_143 : decode cX2_init 143 = .ok (.bipush 48, 2) := by decide +kernel
theorem dX2_init_145 : decode cX2_init 145 = .ok (.newarray .int, 2) := by decide +kernel
theorem dX2_init_147 : decode cX2_init 147 = .ok (.putfield 66, 3) := by decide +kernel
theorem dX2_init_150 : decode cX2_init 150 = .ok (.aload_n 0, 1) := by decide +kernel
theorem dX2_init_151 : decode cX2_init 151 = .ok (.bipush 48, 2) := by decide +kernel
theorem dX2_init_153 : decode cX2_init 153 = .ok (.newarray .boolean, 2) := by decide +kernel
theorem dX2_init_155 : decode cX2_init 155 = .ok (.putfield 69, 3) := by decide +kernel
theorem dX2_init_158 : decode cX2_init 158 = .ok (.aload_n 0, 1) := by decide +kernel
theorem dX2_init_159 : decode cX2_init 159 = .ok (.bipush 48, 2) := by decide +kernel
theorem dX2_init_161 : decode cX2_init 161 = .ok (.newarray .int, 2) := by decide +kernel
theorem dX2_init_163 : decode cX2_init 163 = .ok (.putfield 72, 3) := by decide +kernel
theorem dX2_init_166 : decode cX2_init 166 = .ok (.aload_n 0, 1) := by decide +kernel
theorem dX2_init_167 : decode cX2_init 167 = .ok (.bipush 48, 2) := by decide +kernel
theorem dX2_init_169 : decode cX2_init 169 = .ok (.newarray .int, 2) := by decide +kernel
theorem dX2_init_171 : decode cX2_init 171 = .ok (.putfield 75, 3) := by decide +kernel
theorem dX2_init_174 : decode cX2_init 174 = .ok (.aload_n 0, 1) := by decide +kernel
theorem dX2_init_175 : decode cX2_init 175 = .ok (.iconst 4, 1) := by decide +kernel
theorem dX2_init_176 : decode cX2_init 176 = .ok (.newarray .int, 2) := by decide +kernel
theorem dX2_init_178 : decode cX2_init 178 = .ok (.putfield 78, 3) := by decide +kernel
theorem dX2_init_181 : decode cX2_init 181 = .ok (.aload_n 0, 1) := by decide +kernel
theorem dX2_init_182 : decode cX2_init 182 = .ok (.sipush 576, 3) := by decide +kernel
theorem dX2_init_185 : decode cX2_init 185 = .ok (.newarray .int, 2) := by decide +kernel
theorem dX2_init_187 : decode cX2_init 187 = .ok (.putfield 81, 3) := by decide +kernel
theorem dX2_init_190 : decode cX2_init 190 = .ok (.aload_n 0, 1) := by decide +kernel
theorem dX2_init_191 : decode cX2_init 191 = .ok (.iconst 4, 1) := by decide +kernel
theorem dX2_init_192 : decode cX2_init 192 = .ok (.newarray .int, 2) := by decide +kernel
theorem dX2_init_194 : decode cX2_init 194 = .ok (.putfield 84, 3) := by decide +kernel
theorem dX2_init_197 : decode cX2_init 197 = .ok (.aload_n 0, 1) := by decide +kernel
theorem dX2_init_198 : decode cX2_init 198 = .ok (.sipush 160, 3) := by decide +kernel
theorem dX2_init_201 : decode cX2_init 201 = .ok (.newarray .int, 2) := by decide +kernel
theorem dX2_init_203 : decode cX2_init 203 = .ok (.putfield 87, 3) := by decide +kernel
theorem dX2_init_206 : decode cX2_init 206 = .ok (.aload_n 0, 1) := by decide +kernel
theorem dX2_init_207 : decode cX2_init 207 = .ok (.sipush 160, 3) := by decide +kernel
theorem dX2_init_210 : decode cX2_init 210 = .ok (.newarray .int, 2) := by decide +kernel
theorem dX2_init_212 : decode cX2_init 212 = .ok (.putfield 90, 3) := by decide +kernel
theorem dX2_init_215 : decode cX2_init 215 = .ok (.aload_n 0, 1) := by decide +kernel
theorem dX2_init_216 : decode cX2_init 216 = .ok (.sipush 160, 3) := by decide +kernel
theorem dX2_init_219 : decode cX2_init 219 = .ok (.newarray .int, 2) := by decide +kernel
theorem dX2_init_221 : decode cX2_init 221 = .ok (.putfield 93, 3) := by decide +kernel
theorem dX2_init_224 : decode cX2_init 224 = .ok (.aload_n 0, 1) := by decide +kernel
theorem dX2_init_225 : decode cX2_init 225 = .ok (.sipush 160, 3) := by decide +kernel
theorem dX2_init_228 : decode cX2_init 228 = .ok (.newarray .int, 2) := by decide +kernel
theorem dX2_init_230 : decode cX2_init 230 = .ok (.putfield 96, 3) := by decide +kernel
theorem dX2_init_233 : decode cX2_init 233 = .ok (.aload_n 0, 1) := by decide +kernel
theorem dX2_init_234 : decode cX2_init 234 = .ok (.sipush 160, 3) := by decide +kernel
theorem dX2_init_237 : decode cX2_init 237 = .ok (.newarray .int, 2) := by decide +kernel
theorem dX2_init_239 : decode cX2_init 239 = .ok (.putfield 99, 3) := by decide +kernel
theorem dX2_init_242 : decode cX2_init 242 = .ok (.aload_n 0, 1) := by decide +kernel
theorem dX2_init_243 : decode cX2_init 243 = .ok (.sipush 160, 3) := by decide +kernel
theorem dX2_init_246 : decode cX2_init 246 = .ok (.newarray .int, 2) := by decide +kernel
theorem dX2_init_248 : decode cX2_init 248 = .ok (.putfield 102, 3) := by decide +kernel
theorem dX2_init_251 : decode cX2_init 251 = .ok (.aload_n 0, 1) := by decide +kernel
theorem dX2_init_252 : decode cX2_init 252 = .ok (.sipush 160, 3) := by decide +kernel
theorem dX2_init_255 : decode cX2_init 255 = .ok (.newarray .int, 2) := by decide +kernel
theorem dX2_init_257 : decode cX2_init 257 = .ok (.putfield 105, 3) := by decide +kernel
theorem dX2_init_260 : decode cX2_init 260 = .ok (.aload_n 0, 1) := by decide +kernel
theorem dX2_init_261 : decode cX2_init 261 = .ok (.sipush 160, 3) := by decide +kernel
theorem dX2_init_264 : decode cX2_init 264 = .ok (.newarray .int, 2) := by decide +kernel
theorem dX2_init_266 : decode cX2_init 266 = .ok (.putfield 108, 3) := by decide +kernel
theorem dX2_init_269 : decode cX2_init 269 = .ok (.aload_n 0, 1) := by decide +kernel
theorem dX2_init_270 : decode cX2_init 270 = .ok (.sipush 160, 3) := by decide +kernel
theorem dX2_init_273 : decode cX2_init 273 = .ok (.newarray .int, 2) := by decide +kernel
theorem dX2_init_275 : decode cX2_init 275 = .ok (.putfield 111, 3) := by decide +kernel
theorem dX2_init_278 : decode cX2_init 278 = .ok (.aload_n 0, 1) := by decide +kernel
theorem dX2_init_279 : decode cX2_init 279 = .ok (.sipush 160, 3) := by decide +kernel
theorem dX2_init_282 : decode cX2_init 282 = .ok (.newarray .int, 2) := by decide +kernel
theorem dX2_init_284 : decode cX2_init 284 = .ok (.putfield 114, 3) := by decide +kernel
theorem dX2_init_287 : decode cX2_init 287 = .ok (.aload_n 0, 1) := by decide +kernel
theorem dX2_init_288 : decode cX2_init 288 = .ok (.sipush 160, 3) := by decide +kernel
theorem dX2_init_291 : decode cX2_init 291 = .ok (.newarray .int, 2) := by decide +kernel
theorem dX2_init_293 : decode cX2_init 293 = .ok (.putfield 117, 3) := by decide +kernel
theorem dX2_init_296 : decode cX2_init 296 = .ok (.aload_n 0, 1) := by decide +kernel
theorem dX2_init_297 : decode cX2_init 297 = .ok (.sipush 160, 3) := by decide +kernel
theorem dX2_init_300 : decode cX2_init 300 = .ok (.newarray .int, 2) := by decide +kernel
theorem dX2_init_302 : decode cX2_init 302 = .ok (.putfield 120, 3) := by decide +kernel
theorem dX2_init_305 : decode cX2_init 305 = .ok (.aload_n 0, 1) := by decide +kernel
theorem dX2_init_306 : decode cX2_init 306 = .ok (.sipush 160, 3) := by decide +kernel
theorem dX2_init_309 : decode cX2_init 309 = .ok (.newarray .boolean, 2) := by decide +kernel
theorem dX2_init_311 : decode cX2_init 311 = .ok (.putfield 123, 3) := by decide +kernel
theorem dX2_init_314 : decode cX2_init 314 = .ok (.aload_n 0, 1) := by decide +kernel
theorem dX2_init_315 : decode cX2_init 315 = .ok (.sipush 160, 3) := by decide +kernel
theorem dX2_init_318 : decode cX2_init 318 = .ok (.newarray .int, 2) := by decide +kernel
theorem dX2_init_320 : decode cX2_init 320 = .ok (.putfield 126, 3) := by decide +kernel
theorem dX2_init_323 : decode cX2_init 323 = .ok (.aload_n 0, 1) := by decide +kernel
theorem dX2_init_324 : decode cX2_init 324 = .ok (.sipush 160, 3) := by decide +kernel
theorem dX2_init_327 : decode cX2_init 327 = .ok (.newarray .int, 2) := by decide +kernel
theorem dX2_init_329 : decode cX2_init 329 = .ok (.putfield 129, 3) := by decide +kernel
theorem dX2_init_332 : decode cX2_init 332 = .ok (.aload_n 0, 1) := by decide +kernel
theorem dX2_init_333 : decode cX2_init 333 = .ok (.iconst 4, 1) := by decide +kernel
theorem dX2_init_334 : decode cX2_init 334 = .ok (.newarray .int, 2) := by decide +kernel
theorem dX2_init_336 : decode cX2_init 336 = .ok (.putfield 132, 3) := by decide +kernel
theorem dX2_init_339 : decode cX2_init 339 = .ok (.aload_n 0, 1) := by decide +kernel
theorem dX2_init_340 : decode cX2_init 340 = .ok (.bipush 48, 2) := by decide +kernel
theorem dX2_init_342 : decode cX2_init 342 = .ok (.newarray .int, 2) := by decide +kernel
theorem dX2_init_344 : decode cX2_init 344 = .ok (.putfield 135, 3) := by decide +kernel
theorem dX2_init_347 : decode cX2_init 347 = .ok (.aload_n 0, 1) := by decide +kernel
theorem dX2_init_348 : decode cX2_init 348 = .ok (.iconst 4, 1) := by decide +kernel
theorem dX2_init_349 : decode cX2_init 349 = .ok (.newarray .int, 2) := by decide +kernel
theorem dX2_init_351 : decode cX2_init 351 = .ok (.putfield 138, 3) := by decide +kernel
theorem dX2_init_354 : decode cX2_init 354 = .ok (.aload_n 0, 1) := by decide +kernel
theorem dX2_init_355 : decode cX2_init 355 = .ok (.bipush 16, 2) := by decide +kernel
theorem dX2_init_357 : decode cX2_init 357 = .ok (.newarray .int, 2) := by decide +kernel
theorem dX2_init_359 : decode cX2_init 359 = .ok (.putfield 141, 3) := by decide +kernel
theorem dX2_init_362 : decode cX2_init 362 = .ok (.aload_n 0, 1) := by decide +kernel
theorem dX2_init_363 : decode cX2_init 363 = .ok (.bipush 16, 2) := by decide +kernel
theorem dX2_init_365 : decode cX2_init 365 = .ok (.newarray .int, 2) := by decide +kernel
theorem dX2_init_367 : decode cX2_init 367 = .ok (.putfield 144, 3) := by decide +kernel
theorem dX2_init_370 : decode cX2_init 370 = .ok (.aload_n 0, 1) := by decide +kernel
theorem dX2_init_371 : decode cX2_init 371 = .ok (.bipush 16, 2) := by decide +kernel
theorem dX2_init_373 : decode cX2_init 373 = .ok (.newarray .int, 2) := by decide +kernel
theorem dX2_init_375 : decode cX2_init 375 = .ok (.putfield 147, 3) := by decide +kernel
theorem dX2_init_378 : decode cX2_init 378 = .ok (.aload_n 0, 1) := by decide +kernel
theorem dX2_init_379 : decode cX2_init 379 = .ok (.sipush 320, 3) := by decide +kernel
theorem dX2_init_382 : decode cX2_init 382 = .ok (.newarray .int, 2) := by decide +kernel
theorem dX2_init_384 : decode cX2_init 384 = .ok (.putfield 150, 3) := by decide +kernel
theorem dX2_init_387 : decode cX2_init 387 = .ok (.aload_n 0, 1) := by decide +kernel
theorem dX2_init_388 : decode cX2_init 388 = .ok (.sipush 320, 3) := by decide +kernel
theorem dX2_init_391 : decode cX2_init 391 = .ok (.newarray .int, 2) := by decide +kernel
theorem dX2_init_393 : decode cX2_init 393 = .ok (.putfield 153, 3) := by decide +kernel
theorem dX2_init_396 : decode cX2_init 396 = .ok (.aload_n 0, 1) := by decide +kernel
theorem dX2_init_397 : decode cX2_init 397 = .ok (.sipush 320, 3) := by decide +kernel
theorem dX2_init_400 : decode cX2_init 400 = .ok (.newarray .int, 2) := by decide +kernel
theorem dX2_init_402 : decode cX2_init 402 = .ok (.putfield 156, 3) := by decide +kernel
theorem dX2_init_405 : decode cX2_init 405 = .ok (.aload_n 0, 1) := by decide +kernel
theorem dX2_init_406 : decode cX2_init 406 = .ok (.sipush 1280, 3) := by decide +kernel
theorem dX2_init_409 : decode cX2_init 409 = .ok (.newarray .int, 2) := by decide +kernel
theorem dX2_init_411 : decode cX2_init 411 = .ok (.putfield 159, 3) := by decide +kernel
theorem dX2_init_414 : decode cX2_init 414 = .ok (.aload_n 0, 1) := by decide +kernel
theorem dX2_init_415 : decode cX2_init 415 = .ok (.sipush 1280, 3) := by decide +kernel
theorem dX2_init_418 : decode cX2_init 418 = .ok (.newarray .int, 2) := by decide +kernel
theorem dX2_init_420 : decode cX2_init 420 = .ok (.putfield 162, 3) := by decide +kernel
theorem dX2_init_423 : decode cX2_init 423 = .ok (.aload_n 0, 1) := by decide +kernel
theorem dX2_init_424 : decode cX2_init 424 = .ok (.sipush 1280, 3) := by decide +kernel
theorem dX2_init_427 : decode cX2_init 427 = .ok (.newarray .int, 2) := by decide +kernel
theorem dX2_init_429 : decode cX2_init 429 = .ok (.putfield 165, 3) := by decide +kernel
theorem dX2_init_432 : decode cX2_init 432 = .ok (.aload_n 0, 1) := by decide +kernel
theorem dX2_init_433 : decode cX2_init 433 = .ok (.bipush 12, 2) := by decide +kernel
theorem dX2_init_435 : decode cX2_init 435 = .ok (.newarray .int, 2) := by decide +kernel
theorem dX2_init_437 : decode cX2_init 437 = .ok (.putfield 168, 3) := by decide +kernel
theorem dX2_init_440 : decode cX2_init 440 = .ok (.aload_n 0, 1) := by decide +kernel
theorem dX2_init_441 : decode cX2_init 441 = .ok (.bipush 21, 2) := by decide +kernel
theorem dX2_init_443 : decode cX2_init 443 = .ok (.newarray .int, 2) := by decide +kernel
theorem dX2_init_445 : decode cX2_init 445 = .ok (.putfield 171, 3) := by decide +kernel
theorem dX2_init_448 : decode cX2_init 448 = .ok (.aload_n 0, 1) := by decide +kernel
theorem dX2_init_449 : decode cX2_init 449 = .ok (.bipush 21, 2) := by decide +kernel
theorem dX2_init_451 : decode cX2_init 451 = .ok (.newarray .int, 2) := by decide +kernel
theorem dX2_init_453 : decode cX2_init 453 = .ok (.putfield 174, 3) := by decide +kernel
theorem dX2_init_456 : decode cX2_init 456 = .ok (.aload_n 0, 1) := by decide +kernel
theorem dX2_init_457 : decode cX2_init 457 = .ok (.bipush 21, 2) := by decide +kernel
theorem dX2_init_459 : decode cX2_init 459 = .ok (.newarray .int, 2) := by decide +kernel
theorem dX2_init_461 : decode cX2_init 461 = .ok (.putfield 177, 3) := by decide +kernel
theorem dX2_init_464 : decode cX2_init 464 = .ok (.aload_n 0, 1) := by decide +kernel
theorem dX2_init_465 : decode cX2_init 465 = .ok (.bipush 80, 2) := by decide +kernel
theorem dX2_init_467 : decode cX2_init 467 = .ok (.newarray .int, 2) := by decide +kernel
theorem dX2_init_469 : decode cX2_init 469 = .ok (.putfield 180, 3) := by decide +kernel
theorem dX2_init_472 : decode cX2_init 472 = .ok (.aload_n 0, 1) := by decide +kernel
theorem dX2_init_473 : decode cX2_init 473 = .ok (.bipush 80, 2) := by decide +kernel
theorem dX2_init_475 : decode cX2_init 475 = .ok (.newarray .int, 2) := by decide +kernel
theorem dX2_init_477 : decode cX2_init 477 = .ok (.putfield 183, 3) := by decide +kernel
theorem dX2_init_480 : decode cX2_init 480 = .ok (.aload_n 0, 1) := by decide +kernel
theorem dX2_init_481 : decode cX2_init 481 = .ok (.bipush 80, 2) := by decide +kernel
theorem dX2_init_483 : decode cX2_init 483 = .ok (.newarray .int, 2) := by decide +kernel
theorem dX2_init_485 : decode cX2_init 485 = .ok (.putfield 186, 3) := by decide +kernel
theorem dX2_init_488 : decode cX2_init 488 = .ok (.aload_n 0, 1) := by decide +kernel
theorem dX2_init_489 : decode cX2_init 489 = .ok (.bipush 8, 2) := by decide +kernel
theorem dX2_init_491 : decode cX2_init 491 = .ok (.newarray .int, 2) := by decide +kernel
theorem dX2_init_493 : decode cX2_init 493 = .ok (.putfield 189, 3) := by decide +kernel
theorem dX2_init_496 : decode cX2_init 496 = .ok (.aload_n 0, 1) := by decide +kernel
theorem dX2_init_497 : decode cX2_init 497 = .ok (.bipush 40, 2) := by decide +kernel
theorem dX2_init_499 : decode cX2_init 499 = .ok (.newarray .int, 2) := by decide +kernel
theorem dX2_init_501 : decode cX2_init 501 = .ok (.putfield 192, 3) := by decide +kernel
theorem dX2_init_504 : decode cX2_init 504 = .ok (.aload_n 0, 1) := by decide +kernel
theorem dX2_init_505 : decode cX2_init 505 = .ok (.bipush 40, 2) := by decide +kernel
theorem dX2_init_507 : decode cX2_init 507 = .ok (.newarray .boolean, 2) := by decide +kernel
theorem dX2_init_509 : decode cX2_init 509 = .ok (.putfield 195, 3) := by decide +kernel
theorem dX2_init_512 : decode cX2_init 512 = .ok (.aload_n 0, 1) := by decide +kernel
theorem dX2_init_513 : decode cX2_init 513 = .ok (.bipush 10, 2) := by decide +kernel
theorem dX2_init_515 : decode cX2_init 515 = .ok (.newarray .int, 2) := by decide +kernel
theorem dX2_init_517 : decode cX2_init 517 = .ok (.putfield 198, 3) := by decide +kernel
theorem dX2_init_520 : decode cX2_init 520 = .ok (.aload_n 0, 1) := by decide +kernel
theorem dX2_init_521 : decode cX2_init 521 = .ok (.bipush 40, 2) := by decide +kernel
theorem dX2_init_523 : decode cX2_init 523 = .ok (.newarray .int, 2) := by decide +kernel
theorem dX2_init_525 : decode cX2_init 525 = .ok (.putfield 201, 3) := by decide +kernel
theorem dX2_init_528 : decode cX2_init 528 = .ok (.aload_n 0, 1) := by decide +kernel
theorem dX2_init_529 : decode cX2_init 529 = .ok (.bipush 40, 2) := by decide +kernel
theorem dX2_init_531 : decode cX2_init 531 = .ok (.newarray .int, 2) := by decide +kernel
theorem dX2_init_533 : decode cX2_init 533 = .ok (.putfield 204, 3) := by decide +kernel
theorem dX2_init_536 : decode cX2_init 536 = .ok (.aload_n 0, 1) := by decide +kernel
theorem dX2_init_537 : decode cX2_init 537 = .ok (.bipush 40, 2) := by decide +kernel
theorem dX2_init_539 : decode cX2_init 539 = .ok (.newarray .long, 2) := by decide +kernel
theorem dX2_init_541 : decode cX2_init 541 = .ok (.putfield 207, 3) := by decide +kernel
theorem dX2_init_544 : decode cX2_init 544 = .ok (.aload_n 0, 1) := by decide +kernel
theorem dX2_init_545 : decode cX2_init 545 = .ok (.bipush 8, 2) := by decide +kernel
theorem dX2_init_547 : decode cX2_init 547 = .ok (.newarray .int, 2) := by decide +kernel
theorem dX2_init_549 : decode cX2_init 549 = .ok (.putfield 211, 3) := by decide +kernel
theorem dX2_init_552 : decode cX2_init 552 = .ok (.aload_n 0, 1) := by decide +kernel
theorem dX2_init_553 : decode cX2_init 553 = .ok (.sipush 256, 3) := by decide +kernel
theorem dX2_init_556 : decode cX2_init 556 = .ok (.newarray .int, 2) := by decide +kernel
theorem dX2_init_558 : decode cX2_init 558 = .ok (.putfield 214, 3) := by decide +kernel
theorem dX2_init_561 : decode cX2_init 561 = .ok (.aload_n 0, 1) := by decide +kernel
theorem dX2_init_562 : decode cX2_init 562 = .ok (.iconst 3, 1) := by decide +kernel
theorem dX2_init_563 : decode cX2_init 563 = .ok (.newarray .boolean, 2) := by decide +kernel
theorem dX2_init_565 : decode cX2_init 565 = .ok (.putfield 217, 3) := by decide +kernel
theorem dX2_init_568 : decode cX2_init 568 = .ok (.aload_n 0, 1) := by decide +kernel
theorem dX2_init_569 : decode cX2_init 569 = .ok (.getfield 20, 3) := by decide +kernel
theorem dX2_init_572 : decode cX2_init 572 = .ok (.iconst 0, 1) := by decide +kernel
theorem dX2_init_573 : decode cX2_init 573 = .ok (.iconst (-1), 1) := by decide +kernel
theorem dX2_init_574 : decode cX2_init 574 = .ok (.iastore, 1) := by decide +kernel
theorem dX2_init_575 : decode cX2_init 575 = .ok (.return_, 1) := by decide +kernel
abbrev cX2_person : ByteArray := prog_15_method_13_code
def yX2_person : MethodName := ⟨RX2, "person", "(II)I"⟩
theorem dX2_person_0 : decode cX2_person 0 = .ok (.aload_n 0, 1) := by decide +kernel
theorem dX2_person_1 : decode cX2_person 1 = .ok (.iconst 0, 1) := by decide +kernel
theorem dX2_person_2 : decode cX2_person 2 = .ok (.putfield 220, 3) := by decide +kernel
theorem dX2_person_5 : decode cX2_person 5 = .ok (.aload_n 0, 1) := by decide +kernel
theorem dX2_person_6 : decode cX2_person 6 = .ok (.getfield 32, 3) := by decide +kernel
theorem dX2_person_9 : decode cX2_person 9 = .ok (.iconst 0, 1) := by decide +kernel
theorem dX2_person_10 : decode cX2_person 10 = .ok (.iaload, 1) := by decide +kernel
theorem dX2_person_11 : decode cX2_person 11 = .ok (.bipush 12, 2) := by decide +kernel
theorem dX2_person_13 : decode cX2_person 13 = .ok (.if_icmp .eq 23, 3) := by decide +kernel
theorem dX2_person_16 : decode cX2_person 16 = .ok (.iload_n 1, 1) := by decide +kernel
theorem dX2_person_17 : decode cX2_person 17 = .ok (.iconst 0, 1) := by decide +kernel
theorem dX2_person_18 : decode cX2_person 18 = .ok (.ldc 247, 2) := by decide +kernel
theorem dX2_person_20 : decode cX2_person 20 = .ok (.invokestatic 236, 3) := by decide +kernel
theorem dX2_person_23 : decode cX2_person 23 = .ok (.ifCond .eq 13, 3) := by decide +kernel
theorem dX2_person_26 : decode cX2_person 26 = .ok (.iload_n 2, 1) := by decide +kernel
theorem dX2_person_27 : decode cX2_person 27 = .ok (.iconst 0, 1) := by decide +kernel
theorem dX2_person_28 : decode cX2_person 28 = .ok (.bipush 9, 2) := by decide +kernel
theorem dX2_person_30 : decode cX2_person 30 = .ok (.invokestatic 236, 3) := by decide +kernel
theorem dX2_person_33 : decode cX2_person 33 = .ok (.ifCond .ne 5, 3) := by decide +kernel
theorem dX2_person_36 : decode cX2_person 36 = .ok (.iconst (-1), 1) := by decide +kernel
theorem dX2_person_37 : decode cX2_person 37 = .ok (.ireturn, 1) := by decide +kernel
theorem dX2_person_38 : decode cX2_person 38 = .ok (.aload_n 0, 1) := by decide +kernel
theorem dX2_person_39 : decode cX2_person 39 = .ok (.getfield 32, 3) := by decide +kernel
theorem dX2_person_42 : decode cX2_person 42 = .ok (.iconst 0, 1) := by decide +kernel
theorem dX2_person_43 : decode cX2_person 43 = .ok (.iaload, 1) := by decide +kernel
theorem dX2_person_44 : decode cX2_person 44 = .ok (.istore_n 3, 1) := by decide +kernel
theorem dX2_person_45 : decode cX2_person 45 = .ok (.aload_n 0, 1) := by decide +kernel
theorem dX2_person_46 : decode cX2_person 46 = .ok (.getfield 32, 3) := by decide +kernel
theorem dX2_person_49 : decode cX2_person 49 = .ok (.iconst 0, 1) := by decide +kernel
theorem dX2_person_50 : decode cX2_person 50 = .ok (.dup2, 1) := by decide +kernel
theorem dX2_person_51 : decode cX2_person 51 = .ok (.iaload, 1) := by decide +kernel
theorem dX2_person_52 : decode cX2_person 52 = .ok (.iconst 1, 1) := by decide +kernel
theorem dX2_person_53 : decode cX2_person 53 = .ok (.iadd, 1) := by decide +kernel
theorem dX2_person_54 : decode cX2_person 54 = .ok (.iastore, 1) := by decide +kernel
theorem dX2_person_55 : decode cX2_person 55 = .ok (.aload_n 0, 1) := by decide +kernel
theorem dX2_person_56 : decode cX2_person 56 = .ok (.getfield 35, 3) := by decide +kernel
theorem dX2_person_59 : decode cX2_person 59 = .ok (.iload_n 3, 1) := by decide +kernel
theorem dX2_person_60 : decode cX2_person 60 = .ok (.iload_n 1, 1) := by decide +kernel
theorem dX2_person_61 : decode cX2_person 61 = .ok (.iastore, 1) := by decide +kernel
theorem dX2_person_62 : decode cX2_person 62 = .ok (.aload_n 0, 1) := by decide +kernel
theorem dX2_person_63 : decode cX2_person 63 = .ok (.getfield 38, 3) := by decide +kernel
theorem dX2_person_66 : decode cX2_person 66 = .ok (.iload_n 3, 1) := by decide +kernel
theorem dX2_person_67 : decode cX2_person 67 = .ok (.iload_n 2, 1) := by decide +kernel
theorem dX2_person_68 : decode cX2_person 68 = .ok (.iastore, 1) := by decide +kernel
theorem dX2_person_69 : decode cX2_person 69 = .ok (.aload_n 0, 1) := by decide +kernel
theorem dX2_person_70 : decode cX2_person 70 = .ok (.getfield 41, 3) := by decide +kernel
theorem dX2_person_73 : decode cX2_person 73 = .ok (.iload_n 3, 1) := by decide +kernel
theorem dX2_person_74 : decode cX2_person 74 = .ok (.iconst 0, 1) := by decide +kernel
theorem dX2_person_75 : decode cX2_person 75 = .ok (.bastore, 1) := by decide +kernel
theorem dX2_person_76 : decode cX2_person 76 = .ok (.aload_n 0, 1) := by decide +kernel
theorem dX2_person_77 : decode cX2_person 77 = .ok (.getfield 45, 3) := by decide +kernel
theorem dX2_person_80 : decode cX2_person 80 = .ok (.iload_n 3, 1) := by decide +kernel
theorem dX2_person_81 : decode cX2_person 81 = .ok (.iconst (-1), 1) := by decide +kernel
theorem dX2_person_82 : decode cX2_person 82 = .ok (.iastore, 1) := by decide +kernel
theorem dX2_person_83 : decode cX2_person 83 = .ok (.aload_n 0, 1) := by decide +kernel
theorem dX2_person_84 : decode cX2_person 84 = .ok (.getfield 48, 3) := by decide +kernel
theorem dX2_person_87 : decode cX2_person 87 = .ok (.iload_n 3, 1) := by decide +kernel
theorem dX2_person_88 : decode cX2_person 88 = .ok (.iconst (-1), 1) := by decide +kernel
theorem dX2_person_89 : decode cX2_person 89 = .ok (.iastore, 1) := by decide +kernel
theorem dX2_person_90 : decode cX2_person 90 = .ok (.aload_n 0, 1) := by decide +kernel
theorem dX2_person_91 : decode cX2_person 91 = .ok (.getfield 51, 3) := by decide +kernel
theorem dX2_person_94 : decode cX2_person 94 = .ok (.iload_n 3, 1) := by decide +kernel
theorem dX2_person_95 : decode cX2_person 95 = .ok (.iconst 0, 1) := by decide +kernel
theorem dX2_person_96 : decode cX2_person 96 = .ok (.iastore, 1) := by decide +kernel
theorem dX2_person_97 : decode cX2_person 97 = .ok (.aload_n 0, 1) := by decide +kernel
theorem dX2_person_98 : decode cX2_person 98 = .ok (.getfield 54, 3) := by decide +kernel
theorem dX2_person_101 : decode cX2_person 101 = .ok (.iload_n 3, 1) := by decide +kernel
theorem dX2_person_102 : decode cX2_person 102 = .ok (.iconst 0, 1) := by decide +kernel
theorem dX2_person_103 : decode cX2_person 103 = .ok (.bastore, 1) := by decide +kernel
theorem dX2_person_104 : decode cX2_person 104 = .ok (.aload_n 0, 1) := by decide +kernel
theorem dX2_person_105 : decode cX2_person 105 = .ok (.getfield 57, 3) := by decide +kernel
theorem dX2_person_108 : decode cX2_person 108 = .ok (.iload_n 3, 1) := by decide +kernel
theorem dX2_person_109 : decode cX2_person 109 = .ok (.iconst 0, 1) := by decide +kernel
theorem dX2_person_110 : decode cX2_person 110 = .ok (.iastore, 1) := by decide +kernel
theorem dX2_person_111 : decode cX2_person 111 = .ok (.aload_n 0, 1) := by decide +kernel
theorem dX2_person_112 : decode cX2_person 112 = .ok (.getfield 60, 3) := by decide +kernel
theorem dX2_person_115 : decode cX2_person 115 = .ok (.iload_n 3, 1) := by decide +kernel
theorem dX2_person_116 : decode cX2_person 116 = .ok (.iconst 0, 1) := by decide +kernel
theorem dX2_person_117 : decode cX2_person 117 = .ok (.iastore, 1) := by decide +kernel
theorem dX2_person_118 : decode cX2_person 118 = .ok (.aload_n 0, 1) := by decide +kernel
theorem dX2_person_119 : decode cX2_person 119 = .ok (.getfield 63, 3) := by decide +kernel
theorem dX2_person_122 : decode cX2_person 122 = .ok (.iload_n 3, 1) := by decide +kernel
theorem dX2_person_123 : decode cX2_person 123 = .ok (.iconst 0, 1) := by decide +kernel
theorem dX2_person_124 : decode cX2_person 124 = .ok (.iastore, 1) := by decide +kernel
theorem dX2_person_125 : decode cX2_person 125 = .ok (.aload_n 0, 1) := by decide +kernel
theorem dX2_person_126 : decode cX2_person 126 = .ok (.getfield 66, 3) := by decide +kernel
theorem dX2_person_129 : decode cX2_person 129 = .ok (.iload_n 3, 1) := by decide +kernel
theorem dX2_person_130 : decode cX2_person 130 = .ok (.iconst 0, 1) := by decide +kernel
theorem dX2_person_131 : decode cX2_person 131 = .ok (.iastore, 1) := by decide +kernel
theorem dX2_person_132 : decode cX2_person 132 = .ok (.aload_n 0, 1) := by decide +kernel
theorem dX2_person_133 : decode cX2_person 133 = .ok (.getfield 69, 3) := by decide +kernel
theorem dX2_person_136 : decode cX2_person 136 = .ok (.iload_n 3, 1) := by decide +kernel
theorem dX2_person_137 : decode cX2_person 137 = .ok (.iconst 0, 1) := by decide +kernel
theorem dX2_person_138 : decode cX2_person 138 = .ok (.bastore, 1) := by decide +kernel
theorem dX2_person_139 : decode cX2_person 139 = .ok (.aload_n 0, 1) := by decide +kernel
theorem dX2_person_140 : decode cX2_person 140 = .ok (.getfield 72, 3) := by decide +kernel
theorem dX2_person_143 : decode cX2_person 143 = .ok (.iload_n 3, 1) := by decide +kernel
theorem dX2_person_144 : decode cX2_person 144 = .ok (.iconst 0, 1) := by decide +kernel
theorem dX2_person_145 : decode cX2_person 145 = .ok (.iastore, 1) := by decide +kernel
theorem dX2_person_146 : decode cX2_person 146 = .ok (.aload_n 0, 1) := by decide +kernel
theorem dX2_person_147 : decode cX2_person 147 = .ok (.getfield 75, 3) := by decide +kernel
theorem dX2_person_150 : decode cX2_person 150 = .ok (.iload_n 3, 1) := by decide +kernel
theorem dX2_person_151 : decode cX2_person 151 = .ok (.iconst 0, 1) := by decide +kernel
theorem dX2_person_152 : decode cX2_person 152 = .ok (.iastore, 1) := by decide +kernel
theorem dX2_person_153 : decode cX2_person 153 = .ok (.iconst 0, 1) := by decide +kernel
theorem dX2_person_154 : decode cX2_person 154 = .ok (.istore 4, 2) := by decide +kernel
theorem dX2_person_156 : decode cX2_person 156 = .ok (.iload 4, 2) := by decide +kernel
theorem dX2_person_158 : decode cX2_person 158 = .ok (.bipush 12, 2) := by decide +kernel
theorem dX2_person_160 : decode cX2_person 160 = .ok (.if_icmp .ge 39, 3) := by decide +kernel
theorem dX2_person_163 : decode cX2_person 163 = .ok (.aload_n 0, 1) := by decide +kernel
theorem dX2_person_164 : decode cX2_person 164 = .ok (.getfield 81, 3) := by decide +kernel
theorem dX2_person_167 : decode cX2_person 167 = .ok (.bipush 12, 2) := by decide +kernel
theorem dX2_person_169 : decode cX2_person 169 = .ok (.iload_n 3, 1) := by decide +kernel
theorem dX2_person_170 : decode cX2_person 170 = .ok (.imul, 1) := by decide +kernel
theorem dX2_person_171 : decode cX2_person 171 = .ok (.iload 4, 2) := by decide +kernel
theorem dX2_person_173 : decode cX2_person 173 = .ok (.iadd, 1) := by decide +kernel
theorem dX2_person_174 : decode cX2_person 174 = .ok (.sipush 1000, 3) := by decide +kernel
theorem dX2_person_177 : decode cX2_person 177 = .ok (.iastore, 1) := by decide +kernel
theorem dX2_person_178 : decode cX2_person 178 = .ok (.aload_n 0, 1) := by decide +kernel
theorem dX2_person_179 : decode cX2_person 179 = .ok (.getfield 81, 3) := by decide +kernel
theorem dX2_person_182 : decode cX2_person 182 = .ok (.bipush 12, 2) := by decide +kernel
theorem dX2_person_184 : decode cX2_person 184 = .ok (.iload 4, 2) := by decide +kernel
theorem dX2_person_186 : decode cX2_person 186 = .ok (.imul, 1) := by decide +kernel
theorem dX2_person_187 : decode cX2_person 187 = .ok (.iload_n 3, 1) := by decide +kernel
theorem dX2_person_188 : decode cX2_person 188 = .ok (.iadd, 1) := by decide +kernel
theorem dX2_person_189 : decode cX2_person 189 = .ok (.sipush 1000, 3) := by decide +kernel
theorem dX2_person_192 : decode cX2_person 192 = .ok (.iastore, 1) := by decide +kernel
theorem dX2_person_193 : decode cX2_person 193 = .ok (.iinc 4 1, 3) := by decide +kernel
theorem dX2_person_196 : decode cX2_person 196 = .ok (.goto (-40), 3) := by decide +kernel
theorem dX2_person_199 : decode cX2_person 199 = .ok (.iload_n 3, 1) := by decide +kernel
theorem dX2_person_200 : decode cX2_person 200 = .ok (.ireturn, 1) := by decide +kernel
abbrev cX2_in : ByteArray := prog_15_method_3_code
def yX2_in : MethodName := ⟨RX2, "in", "(III)Z"⟩
theorem dX2_in_0 : decode cX2_in 0 = .ok (.iload_n 0, 1) := by decide +kernel
theorem dX2_in_1 : decode cX2_in 1 = .ok (.iload_n 1, 1) := by decide +kernel
theorem dX2_in_2 : decode cX2_in 2 = .ok (.if_icmp .lt 12, 3) := by decide +kernel
theorem dX2_in_5 : decode cX2_in 5 = .ok (.iload_n 0, 1) := by decide +kernel
theorem dX2_in_6 : decode cX2_in 6 = .ok (.iload_n 2, 1) := by decide +kernel
theorem dX2_in_7 : decode cX2_in 7 = .ok (.if_icmp .gt 7, 3) := by decide +kernel
theorem dX2_in_10 : decode cX2_in 10 = .ok (.iconst 1, 1) := by decide +kernel
theorem dX2_in_11 : decode cX2_in 11 = .ok (.goto 4, 3) := by decide +kernel
theorem dX2_in_14 : decode cX2_in 14 = .ok (.iconst 0, 1) := by decide +kernel
theorem dX2_in_15 : decode cX2_in 15 = .ok (.ireturn, 1) := by decide +kernel
abbrev cX2_debt : ByteArray := prog_15_method_14_code
def yX2_debt : MethodName := ⟨RX2, "debt", "(IIIIII)I"⟩
theorem dX2_debt_0 : decode cX2_debt 0 = .ok (.aload_n 0, 1) := by decide +kernel
theorem dX2_debt_1 : decode cX2_debt 1 = .ok (.iconst 0, 1) := by decide +kernel
theorem dX2_debt_2 : decode cX2_debt 2 = .ok (.putfield 220, 3) := by decide +kernel
theorem dX2_debt_5 : decode cX2_debt 5 = .ok (.aload_n 0, 1) := by decide +kernel
theorem dX2_debt_6 : decode cX2_debt 6 = .ok (.getfield 84, 3) := by decide +kernel
theorem dX2_debt_9 : decode cX2_debt 9 = .ok (.iconst 0, 1) := by decide +kernel
theorem dX2_debt_10 : decode cX2_debt 10 = .ok (.iaload, 1) := by decide +kernel
theorem dX2_debt_11 : decode cX2_debt 11 = .ok (.bipush 40, 2) := by decide +kernel
theorem dX2_debt_13 : decode cX2_debt 13 = .ok (.if_icmp .eq 59, 3) := by decide +kernel
theorem dX2_debt_16 : decode cX2_debt 16 = .ok (.aload_n 0, 1) := by decide +kernel
theorem dX2_debt_17 : decode cX2_debt 17 = .ok (.iload_n 1, 1) := by decide +kernel
theorem dX2_debt_18 : decode cX2_debt 18 = .ok (.iload_n 2, 1) := by decide +kernel
theorem dX2_debt_19 : decode cX2_debt 19 = .ok (.invokevirtual 248, 3) := by decide +kernel
theorem dX2_debt_22 : decode cX2_debt 22 = .ok (.ifCond .eq 50, 3) := by decide +kernel
theorem dX2_debt_25 : decode cX2_debt 25 = .ok (.iload_n 3, 1) := by decide +kernel
theorem dX2_debt_26 : decode cX2_debt 26 = .ok (.iconst 1, 1) := by decide +kernel
theorem dX2_debt_27 : decode cX2_debt 27 = .ok (.ldc 252, 2) := by decide +kernel
theorem dX2_debt_29 : decode cX2_debt 29 = .ok (.invokestatic 236, 3) := by decide +kernel
theorem dX2_debt_32 : decode cX2_debt 32 = .ok (.ifCond .eq 40, 3) := by decide +kernel
theorem dX2_debt_35 : decode cX2_debt 35 = .ok (.iload 4, 2) := by decide +kernel
theorem dX2_debt_37 : decode cX2_debt 37 = .ok (.iconst 0, 1) := by decide +kernel
theorem dX2_debt_38 : decode cX2_debt 38 = .ok (.iconst 3, 1) := by decide +kernel
theorem dX2_debt_39 : decode cX2_debt 39 = .ok (.invokestatic 236, 3) := by decide +kernel
theorem dX2_debt_42 : decode cX2_debt 42 = .ok (.ifCond .eq 30, 3) := by decide +kernel
theorem dX2_debt_45 : decode cX2_debt 45 = .ok (.iload 5, 2) := by decide +kernel
theorem dX2_debt_47 : decode cX2_debt 47 = .ok (.iconst 0, 1) := by decide +kernel
theorem dX2_debt_48 : decode cX2_debt 48 = .ok (.sipush 200, 3) := by decide +kernel
theorem dX2_debt_51 : decode cX2_debt 51 = .ok (.invokestatic 236, 3) := by decide +kernel
theorem dX2_debt_54 : decode cX2_debt 54 = .ok (.ifCond .eq 18, 3) := by decide +kernel
theorem dX2_debt_57 : decode cX2_debt 57 = .ok (.iload 6, 2) := by decide +kernel
theorem dX2_debt_59 : decode cX2_debt 59 = .ok (.iconst 0, 1) := by decide +kernel
theorem dX2_debt_60 : decode cX2_debt 60 = .ok (.aload_n 0, 1) := by decide +kernel
theorem dX2_debt_61 : decode cX2_debt 61 = .ok (.getfield 23, 3) := by decide +kernel
theorem dX2_debt_64 : decode cX2_debt 64 = .ok (.iconst 0, 1) := by decide +kernel
theorem dX2_debt_65 : decode cX2_debt 65 = .ok (.iaload, 1) := by decide +kernel
theorem dX2_debt_66 : decode cX2_debt 66 = .ok (.invokestatic 236, 3) := by decide +kernel
theorem dX2_debt_69 : decode cX2_debt 69 = .ok (.ifCond .ne 5, 3) := by decide +kernel
theorem dX2_debt_72 : decode cX2_debt 72 = .ok (.iconst (-1), 1) := by decide +kernel
theorem dX2_debt_73 : decode cX2_debt 73 = .ok (.ireturn, 1) := by decide +kernel
theorem dX2_debt_74 : decode cX2_debt 74 = .ok (.aload_n 0, 1) := by decide +kernel
theorem dX2_debt_75 : decode cX2_debt 75 = .ok (.getfield 84, 3) := by decide +kernel
theorem dX2_debt_78 : decode cX2_debt 78 = .ok (.iconst 0, 1) := by decide +kernel
theorem dX2_debt_79 : decode cX2_debt 79 = .ok (.iaload, 1) := by decide +kernel
theorem dX2_debt_80 : decode cX2_debt 80 = .ok (.istore 7, 2) := by decide +kernel
theorem dX2_debt_82 : decode cX2_debt 82 = .ok (.aload_n 0, 1) := by decide +kernel
theorem dX2_debt_83 : decode cX2_debt 83 = .ok (.getfield 84, 3) := by decide +kernel
theorem dX2_debt_86 : decode cX2_debt 86 = .ok (.iconst 0, 1) := by decide +kernel
theorem dX2_debt_87 : decode cX2_debt 87 = .ok (.dup2, 1) := by decide +kernel
theorem dX2_debt_88 : decode cX2_debt 88 = .ok (.iaload, 1) := by decide +kernel
theorem dX2_debt_89 : decode cX2_debt 89 = .ok (.iconst 1, 1) := by decide +kernel
theorem dX2_debt_90 : decode cX2_debt 90 = .ok (.iadd, 1) := by decide +kernel
theorem dX2_debt_91 : decode cX2_debt 91 = .ok (.iastore, 1) := by decide +kernel
theorem dX2_debt_92 : decode cX2_debt 92 = .ok (.aload_n 0, 1) := by decide +kernel
theorem dX2_debt_93 : decode cX2_debt 93 = .ok (.getfield 87, 3) := by decide +kernel
theorem dX2_debt_96 : decode cX2_debt 96 = .ok (.iload 7, 2) := by decide +kernel
theorem dX2_debt_98 : decode cX2_debt 98 = .ok (.iload_n 1, 1) := by decide +kernel
theorem dX2_debt_99 : decode cX2_debt 99 = .ok (.iastore, 1) := by decide +kernel
theorem dX2_debt_100 : decode cX2_debt 100 = .ok (.aload_n 0, 1) := by decide +kernel
theorem dX2_debt_101 : decode cX2_debt 101 = .ok (.getfield 90, 3) := by decide +kernel
theorem dX2_debt_104 : decode cX2_debt 104 = .ok (.iload 7, 2) := by decide +kernel
theorem dX2_debt_106 : decode cX2_debt 106 = .ok (.iload_n 2, 1) := by decide +kernel
theorem dX2_debt_107 : decode cX2_debt 107 = .ok (.iastore, 1) := by decide +kernel
theorem dX2_debt_108 : decode cX2_debt 108 = .ok (.aload_n 0, 1) := by decide +kernel
theorem dX2_debt_109 : decode cX2_debt 109 = .ok (.getfield 93, 3) := by decide +kernel
theorem dX2_debt_112 : decode cX2_debt 112 = .ok (.iload 7, 2) := by decide +kernel
theorem dX2_debt_114 : decode cX2_debt 114 = .ok (.iload_n 3, 1) := by decide +kernel
theorem dX2_debt_115 : decode cX2_debt 115 = .ok (.iastore, 1) := by decide +kernel
theorem dX2_debt_116 : decode cX2_debt 116 = .ok (.aload_n 0, 1) := by decide +kernel
theorem dX2_debt_117 : decode cX2_debt 117 = .ok (.getfield 96, 3) := by decide +kernel
theorem dX2_debt_120 : decode cX2_debt 120 = .ok (.iload 7, 2) := by decide +kernel
theorem dX2_debt_122 : decode cX2_debt 122 = .ok (.iload 4, 2) := by decide +kernel
theorem dX2_debt_124 : decode cX2_debt 124 = .ok (.iastore, 1) := by decide +kernel
theorem dX2_debt_125 : decode cX2_debt 125 = .ok (.aload_n 0, 1) := by decide +kernel
theorem dX2_debt_126 : decode cX2_debt 126 = .ok (.getfield 99, 3) := by decide +kernel
theorem dX2_debt_129 : decode cX2_debt 129 = .ok (.iload 7, 2) := by decide +kernel
theorem dX2_debt_131 : decode cX2_debt 131 = .ok (.iload 5, 2) := by decide +kernel
theorem dX2_debt_133 : decode cX2_debt 133 = .ok (.iastore, 1) := by decide +kernel
theorem dX2_debt_134 : decode cX2_debt 134 = .ok (.aload_n 0, 1) := by decide +kernel
theorem dX2_debt_135 : decode cX2_debt 135 = .ok (.getfield 102, 3) := by decide +kernel
theorem dX2_debt_138 : decode cX2_debt 138 = .ok (.iload 7, 2) := by decide +kernel
theorem dX2_debt_140 : decode cX2_debt 140 = .ok (.iload 6, 2) := by decide +kernel
theorem dX2_debt_142 : decode cX2_debt 142 = .ok (.iastore, 1) := by decide +kernel
theorem dX2_debt_143 : decode cX2_debt 143 = .ok (.aload_n 0, 1) := by decide +kernel
theorem dX2_debt_144 : decode cX2_debt 144 = .ok (.getfield 105, 3) := by decide +kernel
theorem dX2_debt_147 : decode cX2_debt 147 = .ok (.iload 7, 2) := by decide +kernel
theorem dX2_debt_149 : decode cX2_debt 149 = .ok (.aload_n 0, 1) := by decide +kernel
theorem dX2_debt_150 : decode cX2_debt 150 = .ok (.getfield 23, 3) := by decide +kernel
theorem dX2_debt_153 : decode cX2_debt 153 = .ok (.iconst 0, 1) := by decide +kernel
theorem dX2_debt_154 : decode cX2_debt 154 = .ok (.iaload, 1) := by decide +kernel
theorem dX2_debt_155 : decode cX2_debt 155 = .ok (.iastore, 1) := by decide +kernel
theorem dX2_debt_156 : decode cX2_debt 156 = .ok (.aload_n 0, 1) := by decide +kernel
theorem dX2_debt_157 : decode cX2_debt 157 = .ok (.getfield 108, 3) := by decide +kernel
theorem dX2_debt_160 : decode cX2_debt 160 = .ok (.iload 7, 2) := by decide +kernel
theorem dX2_debt_162 : decode cX2_debt 162 = .ok (.iconst 0, 1) := by decide +kernel
theorem dX2_debt_163 : decode cX2_debt 163 = .ok (.iastore, 1) := by decide +kernel
theorem dX2_debt_164 : decode cX2_debt 164 = .ok (.aload_n 0, 1) := by decide +kernel
theorem dX2_debt_165 : decode cX2_debt 165 = .ok (.getfield 111, 3) := by decide +kernel
theorem dX2_debt_168 : decode cX2_debt 168 = .ok (.iload 7, 2) := by decide +kernel
theorem dX2_debt_170 : decode cX2_debt 170 = .ok (.iload_n 3, 1) := by decide +kernel
theorem dX2_debt_171 : decode cX2_debt 171 = .ok (.iastore, 1) := by decide +kernel
theorem dX2_debt_172 : decode cX2_debt 172 = .ok (.aload_n 0, 1) := by decide +kernel
theorem dX2_debt_173 : decode cX2_debt 173 = .ok (.getfield 114, 3) := by decide +kernel
theorem dX2_debt_176 : decode cX2_debt 176 = .ok (.iload 7, 2) := by decide +kernel
theorem dX2_debt_178 : decode cX2_debt 178 = .ok (.iconst 0, 1) := by decide +kernel
theorem dX2_debt_179 : decode cX2_debt 179 = .ok (.iastore, 1) := by decide +kernel
theorem dX2_debt_180 : decode cX2_debt 180 = .ok (.aload_n 0, 1) := by decide +kernel
theorem dX2_debt_181 : decode cX2_debt 181 = .ok (.getfield 117, 3) := by decide +kernel
theorem dX2_debt_184 : decode cX2_debt 184 = .ok (.iload 7, 2) := by decide +kernel
theorem dX2_debt_186 : decode cX2_debt 186 = .ok (.iload 6, 2) := by decide +kernel
theorem dX2_debt_188 : decode cX2_debt 188 = .ok (.iastore, 1) := by decide +kernel
theorem dX2_debt_189 : decode cX2_debt 189 = .ok (.aload_n 0, 1) := by decide +kernel
theorem dX2_debt_190 : decode cX2_debt 190 = .ok (.getfield 120, 3) := by decide +kernel
theorem dX2_debt_193 : decode cX2_debt 193 = .ok (.iload 7, 2) := by decide +kernel
theorem dX2_debt_195 : decode cX2_debt 195 = .ok (.iconst 0, 1) := by decide +kernel
theorem dX2_debt_196 : decode cX2_debt 196 = .ok (.iastore, 1) := by decide +kernel
theorem dX2_debt_197 : decode cX2_debt 197 = .ok (.aload_n 0, 1) := by decide +kernel
theorem dX2_debt_198 : decode cX2_debt 198 = .ok (.getfield 123, 3) := by decide +kernel
theorem dX2_debt_201 : decode cX2_debt 201 = .ok (.iload 7, 2) := by decide +kernel
theorem dX2_debt_203 : decode cX2_debt 203 = .ok (.iconst 0, 1) := by decide +kernel
theorem dX2_debt_204 : decode cX2_debt 204 = .ok (.bastore, 1) := by decide +kernel
theorem dX2_debt_205 : decode cX2_debt 205 = .ok (.aload_n 0, 1) := by decide +kernel
theorem dX2_debt_206 : decode cX2_debt 206 = .ok (.getfield 126, 3) := by decide +kernel
theorem dX2_debt_209 : decode cX2_debt 209 = .ok (.iload 7, 2) := by decide +kernel
theorem dX2_debt_211 : decode cX2_debt 211 = .ok (.iconst 0, 1) := by decide +kernel
theorem dX2_debt_212 : decode cX2_debt 212 = .ok (.iastore, 1) := by decide +kernel
theorem dX2_debt_213 : decode cX2_debt 213 = .ok (.aload_n 0, 1) := by decide +kernel
theorem dX2_debt_214 : decode cX2_debt 214 = .ok (.getfield 129, 3) := by decide +kernel
theorem dX2_debt_217 : decode cX2_debt 217 = .ok (.iload 7, 2) := by decide +kernel
theorem dX2_debt_219 : decode cX2_debt 219 = .ok (.iconst (-1), 1) := by decide +kernel
theorem dX2_debt_220 : decode cX2_debt 220 = .ok (.iastore, 1) := by decide +kernel
theorem dX2_debt_221 : decode cX2_debt 221 = .ok (.iload 7, 2) := by decide +kernel
theorem dX2_debt_223 : decode cX2_debt 223 = .ok (.ireturn, 1) := by decide +kernel
abbrev cX2_areTwo : ByteArray := prog_15_method_9_code
def yX2_areTwo : MethodName := ⟨RX2, "areTwo", "(II)Z"⟩
theorem dX2_areTwo_0 : decode cX2_areTwo 0 = .ok (.aload_n 0, 1) := by decide +kernel
theorem dX2_areTwo_1 : decode cX2_areTwo 1 = .ok (.iload_n 1, 1) := by decide +kernel
theorem dX2_areTwo_2 : decode cX2_areTwo 2 = .ok (.invokevirtual 240, 3) := by decide +kernel
theorem dX2_areTwo_5 : decode cX2_areTwo 5 = .ok (.ifCond .eq 20, 3) := by decide +kernel
theorem dX2_areTwo_8 : decode cX2_areTwo 8 = .ok (.aload_n 0, 1) := by decide +kernel
theorem dX2_areTwo_9 : decode cX2_areTwo 9 = .ok (.iload_n 2, 1) := by decide +kernel
theorem dX2_areTwo_10 : decode cX2_areTwo 10 = .ok (.invokevirtual 240, 3) := by decide +kernel
theorem dX2_areTwo_13 : decode cX2_areTwo 13 = .ok (.ifCond .eq 12, 3) := by decide +kernel
theorem dX2_areTwo_16 : decode cX2_areTwo 16 = .ok (.iload_n 1, 1) := by decide +kernel
theorem dX2_areTwo_17 : decode cX2_areTwo 17 = .ok (.iload_n 2, 1) := by decide +kernel
theorem dX2_areTwo_18 : decode cX2_areTwo 18 = .ok (.if_icmp .eq 7, 3) := by decide +kernel
theorem dX2_areTwo_21 : decode cX2_areTwo 21 = .ok (.iconst 1, 1) := by decide +kernel
theorem dX2_areTwo_22 : decode cX2_areTwo 22 = .ok (.goto 4, 3) := by decide +kernel
theorem dX2_areTwo_25 : decode cX2_areTwo 25 = .ok (.iconst 0, 1) := by decide +kernel
theorem dX2_areTwo_26 : decode cX2_areTwo 26 = .ok (.ireturn, 1) := by decide +kernel
abbrev cX2_isPerson : ByteArray := prog_15_method_8_code
def yX2_isPerson : MethodName := ⟨RX2, "isPerson", "(I)Z"⟩
theorem dX2_isPerson_0 : decode cX2_isPerson 0 = .ok (.iload_n 1, 1) := by decide +kernel
theorem dX2_isPerson_1 : decode cX2_isPerson 1 = .ok (.iconst 0, 1) := by decide +kernel
theorem dX2_isPerson_2 : decode cX2_isPerson 2 = .ok (.aload_n 0, 1) := by decide +kernel
theorem dX2_isPerson_3 : decode cX2_isPerson 3 = .ok (.getfield 32, 3) := by decide +kernel
theorem dX2_isPerson_6 : decode cX2_isPerson 6 = .ok (.iconst 0, 1) := by decide +kernel
theorem dX2_isPerson_7 : decode cX2_isPerson 7 = .ok (.iaload, 1) := by decide +kernel
theorem dX2_isPerson_8 : decode cX2_isPerson 8 = .ok (.iconst 1, 1) := by decide +kernel
theorem dX2_isPerson_9 : decode cX2_isPerson 9 = .ok (.isub, 1) := by decide +kernel
theorem dX2_isPerson_10 : decode cX2_isPerson 10 = .ok (.invokestatic 236, 3) := by decide +kernel
theorem dX2_isPerson_13 : decode cX2_isPerson 13 = .ok (.ireturn, 1) := by decide +kernel
abbrev cX2_costs : ByteArray := prog_15_method_20_code
def yX2_costs : MethodName := ⟨RX2, "costs", "(II)I"⟩
theorem dX2_costs_0 : decode cX2_costs 0 = .ok (.aload_n 0, 1) := by decide +kernel
theorem dX2_costs_1 : decode cX2_costs 1 = .ok (.iconst 0, 1) := by decide +kernel
theorem dX2_costs_2 : decode cX2_costs 2 = .ok (.putfield 220, 3) := by decide +kernel
theorem dX2_costs_5 : decode cX2_costs 5 = .ok (.aload_n 0, 1) := by decide +kernel
theorem dX2_costs_6 : decode cX2_costs 6 = .ok (.iload_n 1, 1) := by decide +kernel
theorem dX2_costs_7 : decode cX2_costs 7 = .ok (.invokevirtual 262, 3) := by decide +kernel
theorem dX2_costs_10 : decode cX2_costs 10 = .ok (.ifCond .eq 14, 3) := by decide +kernel
theorem dX2_costs_13 : decode cX2_costs 13 = .ok (.iload_n 2, 1) := by decide +kernel
theorem dX2_costs_14 : decode cX2_costs 14 = .ok (.iconst 1, 1) := by decide +kernel
theorem dX2_costs_15 : decode cX2_costs 15 = .ok (.sipush 10000, 3) := by decide +kernel
theorem dX2_costs_18 : decode cX2_costs 18 = .ok (.invokestatic 236, 3) := by decide +kernel
theorem dX2_costs_21 : decode cX2_costs 21 = .ok (.ifCond .ne 5, 3) := by decide +kernel
theorem dX2_costs_24 : decode cX2_costs 24 = .ok (.iconst (-1), 1) := by decide +kernel
theorem dX2_costs_25 : decode cX2_costs 25 = .ok (.ireturn, 1) := by decide +kernel
theorem dX2_costs_26 : decode cX2_costs 26 = .ok (.aload_n 0, 1) := by decide +kernel
theorem dX2_costs_27 : decode cX2_costs 27 = .ok (.getfield 120, 3) := by decide +kernel
theorem dX2_costs_30 : decode cX2_costs 30 = .ok (.iload_n 1, 1) := by decide +kernel
theorem dX2_costs_31 : decode cX2_costs 31 = .ok (.dup2, 1) := by decide +kernel
theorem dX2_costs_32 : decode cX2_costs 32 = .ok (.iaload, 1) := by decide +kernel
theorem dX2_costs_33 : decode cX2_costs 33 = .ok (.iload_n 2, 1) := by decide +kernel
theorem dX2_costs_34 : decode cX2_costs 34 = .ok (.iadd, 1) := by decide +kernel
theorem dX2_costs_35 : decode cX2_costs 35 = .ok (.iastore, 1) := by decide +kernel
theorem dX2_costs_36 : decode cX2_costs 36 = .ok (.aload_n 0, 1) := by decide +kernel
theorem dX2_costs_37 : decode cX2_costs 37 = .ok (.iload_n 1, 1) := by decide +kernel
theorem dX2_costs_38 : decode cX2_costs 38 = .ok (.invokevirtual 265, 3) := by decide +kernel
theorem dX2_costs_41 : decode cX2_costs 41 = .ok (.ireturn, 1) := by decide +kernel
abbrev cX2_isLive : ByteArray := prog_15_method_11_code
def yX2_isLive : MethodName := ⟨RX2, "isLive", "(I)Z"⟩
theorem dX2_isLive_0 : decode cX2_isLive 0 = .ok (.aload_n 0, 1) := by decide +kernel
theorem dX2_isLive_1 : decode cX2_isLive 1 = .ok (.iload_n 1, 1) := by decide +kernel
theorem dX2_isLive_2 : decode cX2_isLive 2 = .ok (.invokevirtual 244, 3) := by decide +kernel
theorem dX2_isLive_5 : decode cX2_isLive 5 = .ok (.ifCond .eq 16, 3) := by decide +kernel
theorem dX2_isLive_8 : decode cX2_isLive 8 = .ok (.aload_n 0, 1) := by decide +kernel
theorem dX2_isLive_9 : decode cX2_isLive 9 = .ok (.getfield 108, 3) := by decide +kernel
theorem dX2_isLive_12 : decode cX2_isLive 12 = .ok (.iload_n 1, 1) := by decide +kernel
theorem dX2_isLive_13 : decode cX2_isLive 13 = .ok (.iaload, 1) := by decide +kernel
theorem dX2_isLive_14 : decode cX2_isLive 14 = .ok (.ifCond .ne 7, 3) := by decide +kernel
theorem dX2_isLive_17 : decode cX2_isLive 17 = .ok (.iconst 1, 1) := by decide +kernel
theorem dX2_isLive_18 : decode cX2_isLive 18 = .ok (.goto 4, 3) := by decide +kernel
theorem dX2_isLive_21 : decode cX2_isLive 21 = .ok (.iconst 0, 1) := by decide +kernel
theorem dX2_isLive_22 : decode cX2_isLive 22 = .ok (.ireturn, 1) := by decide +kernel
abbrev cX2_isDebt : ByteArray := prog_15_method_10_code
def yX2_isDebt : MethodName := ⟨RX2, "isDebt", "(I)Z"⟩
theorem dX2_isDebt_0 : decode cX2_isDebt 0 = .ok (.iload_n 1, 1) := by decide +kernel
theorem dX2_isDebt_1 : decode cX2_isDebt 1 = .ok (.iconst 0, 1) := by decide +kernel
theorem dX2_isDebt_2 : decode cX2_isDebt 2 = .ok (.aload_n 0, 1) := by decide +kernel
theorem dX2_isDebt_3 : decode cX2_isDebt 3 = .ok (.getfield 84, 3) := by decide +kernel
theorem dX2_isDebt_6 : decode cX2_isDebt 6 = .ok (.iconst 0, 1) := by decide +kernel
theorem dX2_isDebt_7 : decode cX2_isDebt 7 = .ok (.iaload, 1) := by decide +kernel
theorem dX2_isDebt_8 : decode cX2_isDebt 8 = .ok (.iconst 1, 1) := by decide +kernel
theorem dX2_isDebt_9 : decode cX2_isDebt 9 = .ok (.isub, 1) := by decide +kernel
theorem dX2_isDebt_10 : decode cX2_isDebt 10 = .ok (.invokestatic 236, 3) := by decide +kernel
theorem dX2_isDebt_13 : decode cX2_isDebt 13 = .ok (.ireturn, 1) := by decide +kernel
abbrev cX2_dueOf : ByteArray := prog_15_method_16_code
def yX2_dueOf : MethodName := ⟨RX2, "dueOf", "(I)I"⟩
theorem dX2_dueOf_0 : decode cX2_dueOf 0 = .ok (.aload_n 0, 1) := by decide +kernel
theorem dX2_dueOf_1 : decode cX2_dueOf 1 = .ok (.getfield 108, 3) := by decide +kernel
theorem dX2_dueOf_4 : decode cX2_dueOf 4 = .ok (.iload_n 1, 1) := by decide +kernel
theorem dX2_dueOf_5 : decode cX2_dueOf 5 = .ok (.iaload, 1) := by decide +kernel
theorem dX2_dueOf_6 : decode cX2_dueOf 6 = .ok (.ifCond .ne 25, 3) := by decide +kernel
theorem dX2_dueOf_9 : decode cX2_dueOf 9 = .ok (.aload_n 0, 1) := by decide +kernel
theorem dX2_dueOf_10 : decode cX2_dueOf 10 = .ok (.getfield 120, 3) := by decide +kernel
theorem dX2_dueOf_13 : decode cX2_dueOf 13 = .ok (.iload_n 1, 1) := by decide +kernel
theorem dX2_dueOf_14 : decode cX2_dueOf 14 = .ok (.iaload, 1) := by decide +kernel
theorem dX2_dueOf_15 : decode cX2_dueOf 15 = .ok (.aload_n 0, 1) := by decide +kernel
theorem dX2_dueOf_16 : decode cX2_dueOf 16 = .ok (.iload_n 1, 1) := by decide +kernel
theorem dX2_dueOf_17 : decode cX2_dueOf 17 = .ok (.invokevirtual 255, 3) := by decide +kernel
theorem dX2_dueOf_20 : decode cX2_dueOf 20 = .ok (.iadd, 1) := by decide +kernel
theorem dX2_dueOf_21 : decode cX2_dueOf 21 = .ok (.aload_n 0, 1) := by decide +kernel
theorem dX2_dueOf_22 : decode cX2_dueOf 22 = .ok (.getfield 111, 3) := by decide +kernel
theorem dX2_dueOf_25 : decode cX2_dueOf 25 = .ok (.iload_n 1, 1) := by decide +kernel
theorem dX2_dueOf_26 : decode cX2_dueOf 26 = .ok (.iaload, 1) := by decide +kernel
theorem dX2_dueOf_27 : decode cX2_dueOf 27 = .ok (.iadd, 1) := by decide +kernel
theorem dX2_dueOf_28 : decode cX2_dueOf 28 = .ok (.goto 4, 3) := by decide +kernel
theorem dX2_dueOf_31 : decode cX2_dueOf 31 = .ok (.iconst 0, 1) := by decide +kernel
theorem dX2_dueOf_32 : decode cX2_dueOf 32 = .ok (.ireturn, 1) := by decide +kernel
abbrev cX2_interestOf : ByteArray := prog_15_method_15_code
def yX2_interestOf : MethodName := ⟨RX2, "interestOf", "(I)I"⟩
theorem dX2_interestOf_0 : decode cX2_interestOf 0 = .ok (.aload_n 0, 1) := by decide +kernel
theorem dX2_interestOf_1 : decode cX2_interestOf 1 = .ok (.getfield 114, 3) := by decide +kernel
theorem dX2_interestOf_4 : decode cX2_interestOf 4 = .ok (.iload_n 1, 1) := by decide +kernel
theorem dX2_interestOf_5 : decode cX2_interestOf 5 = .ok (.iaload, 1) := by decide +kernel
theorem dX2_interestOf_6 : decode cX2_interestOf 6 = .ok (.aload_n 0, 1) := by decide +kernel
theorem dX2_interestOf_7 : decode cX2_interestOf 7 = .ok (.getfield 111, 3) := by decide +kernel
theorem dX2_interestOf_10 : decode cX2_interestOf 10 = .ok (.iload_n 1, 1) := by decide +kernel
theorem dX2_interestOf_11 : decode cX2_interestOf 11 = .ok (.iaload, 1) := by decide +kernel
theorem dX2_interestOf_12 : decode cX2_interestOf 12 = .ok (.i2l, 1) := by decide +kernel
theorem dX2_interestOf_13 : decode cX2_interestOf 13 = .ok (.aload_n 0, 1) := by decide +kernel
theorem dX2_interestOf_14 : decode cX2_interestOf 14 = .ok (.getfield 99, 3) := by decide +kernel
theorem dX2_interestOf_17 : decode cX2_interestOf 17 = .ok (.iload_n 1, 1) := by decide +kernel
theorem dX2_interestOf_18 : decode cX2_interestOf 18 = .ok (.iaload, 1) := by decide +kernel
theorem dX2_interestOf_19 : decode cX2_interestOf 19 = .ok (.i2l, 1) := by decide +kernel
theorem dX2_interestOf_20 : decode cX2_interestOf 20 = .ok (.lmul, 1) := by decide +kernel
theorem dX2_interestOf_21 : decode cX2_interestOf 21 = .ok (.aload_n 0, 1) := by decide +kernel
theorem dX2_interestOf_22 : decode cX2_interestOf 22 = .ok (.getfield 23, 3) := by decide +kernel
theorem dX2_interestOf_25 : decode cX2_interestOf 25 = .ok (.iconst 0, 1) := by decide +kernel
theorem dX2_interestOf_26 : decode cX2_interestOf 26 = .ok (.iaload, 1) := by decide +kernel
theorem dX2_interestOf_27 : decode cX2_interestOf 27 = .ok (.aload_n 0, 1) := by decide +kernel
theorem dX2_interestOf_28 : decode cX2_interestOf 28 = .ok (.getfield 117, 3) := by decide +kernel
theorem dX2_interestOf_31 : decode cX2_interestOf 31 = .ok (.iload_n 1, 1) := by decide +kernel
theorem dX2_interestOf_32 : decode cX2_interestOf 32 = .ok (.iaload, 1) := by decide +kernel
theorem dX2_interestOf_33 : decode cX2_interestOf 33 = .ok (.isub, 1) := by decide +kernel
theorem dX2_interestOf_34 : decode cX2_interestOf 34 = .ok (.i2l, 1) := by decide +kernel
theorem dX2_interestOf_35 : decode cX2_interestOf 35 = .ok (.lmul, 1) := by decide +kernel
theorem dX2_interestOf_36 : decode cX2_interestOf 36 = .ok (.ldc2_w 253, 3) := by decide +kernel
theorem dX2_interestOf_39 : decode cX2_interestOf 39 = .ok (.ldiv, 1) := by decide +kernel
theorem dX2_interestOf_40 : decode cX2_interestOf 40 = .ok (.l2i, 1) := by decide +kernel
theorem dX2_interestOf_41 : decode cX2_interestOf 41 = .ok (.iadd, 1) := by decide +kernel
theorem dX2_interestOf_42 : decode cX2_interestOf 42 = .ok (.ireturn, 1) := by decide +kernel
abbrev cX2_pay : ByteArray := prog_15_method_21_code
def yX2_pay : MethodName := ⟨RX2, "pay", "(II)I"⟩
theorem dX2_pay_0 : decode cX2_pay 0 = .ok (.aload_n 0, 1) := by decide +kernel
theorem dX2_pay_1 : decode cX2_pay 1 = .ok (.iconst 0, 1) := by decide +kernel
theorem dX2_pay_2 : decode cX2_pay 2 = .ok (.putfield 220, 3) := by decide +kernel
theorem dX2_pay_5 : decode cX2_pay 5 = .ok (.aload_n 0, 1) := by decide +kernel
theorem dX2_pay_6 : decode cX2_pay 6 = .ok (.iload_n 1, 1) := by decide +kernel
theorem dX2_pay_7 : decode cX2_pay 7 = .ok (.invokevirtual 262, 3) := by decide +kernel
theorem dX2_pay_10 : decode cX2_pay 10 = .ok (.ifCond .eq 32, 3) := by decide +kernel
theorem dX2_pay_13 : decode cX2_pay 13 = .ok (.iload_n 2, 1) := by decide +kernel
theorem dX2_pay_14 : decode cX2_pay 14 = .ok (.iconst 1, 1) := by decide +kernel
theorem dX2_pay_15 : decode cX2_pay 15 = .ok (.if_icmp .lt 27, 3) := by decide +kernel
theorem dX2_pay_18 : decode cX2_pay 18 = .ok (.iload_n 2, 1) := by decide +kernel
theorem dX2_pay_19 : decode cX2_pay 19 = .ok (.aload_n 0, 1) := by decide +kernel
theorem dX2_pay_20 : decode cX2_pay 20 = .ok (.getfield 35, 3) := by decide +kernel
theorem dX2_pay_23 : decode cX2_pay 23 = .ok (.aload_n 0, 1) := by decide +kernel
theorem dX2_pay_24 : decode cX2_pay 24 = .ok (.getfield 87, 3) := by decide +kernel
theorem dX2_pay_27 : decode cX2_pay 27 = .ok (.iload_n 1, 1) := by decide +kernel
theorem dX2_pay_28 : decode cX2_pay 28 = .ok (.iaload, 1) := by decide +kernel
theorem dX2_pay_29 : decode cX2_pay 29 = .ok (.iaload, 1) := by decide +kernel
theorem dX2_pay_30 : decode cX2_pay 30 = .ok (.if_icmp .gt 12, 3) := by decide +kernel
theorem dX2_pay_33 : decode cX2_pay 33 = .ok (.iload_n 2, 1) := by decide +kernel
theorem dX2_pay_34 : decode cX2_pay 34 = .ok (.aload_n 0, 1) := by decide +kernel
theorem dX2_pay_35 : decode cX2_pay 35 = .ok (.iload_n 1, 1) := by decide +kernel
theorem dX2_pay_36 : decode cX2_pay 36 = .ok (.invokevirtual 265, 3) := by decide +kernel
theorem dX2_pay_39 : decode cX2_pay 39 = .ok (.if_icmp .le 5, 3) := by decide +kernel
theorem dX2_pay_42 : decode cX2_pay 42 = .ok (.iconst (-1), 1) := by decide +kernel
theorem dX2_pay_43 : decode cX2_pay 43 = .ok (.ireturn, 1) := by decide +kernel
theorem dX2_pay_44 : decode cX2_pay 44 = .ok (.aload_n 0, 1) := by decide +kernel
theorem dX2_pay_45 : decode cX2_pay 45 = .ok (.getfield 35, 3) := by decide +kernel
theorem dX2_pay_48 : decode cX2_pay 48 = .ok (.aload_n 0, 1) := by decide +kernel
theorem dX2_pay_49 : decode cX2_pay 49 = .ok (.getfield 87, 3) := by decide +kernel
theorem dX2_pay_52 : decode cX2_pay 52 = .ok (.iload_n 1, 1) := by decide +kernel
theorem dX2_pay_53 : decode cX2_pay 53 = .ok (.iaload, 1) := by decide +kernel
theorem dX2_pay_54 : decode cX2_pay 54 = .ok (.dup2, 1) := by decide +kernel
theorem dX2_pay_55 : decode cX2_pay 55 = .ok (.iaload, 1) := by decide +kernel
theorem dX2_pay_56 : decode cX2_pay 56 = .ok (.iload_n 2, 1) := by decide +kernel
theorem dX2_pay_57 : decode cX2_pay 57 = .ok (.isub, 1) := by decide +kernel
theorem dX2_pay_58 : decode cX2_pay 58 = .ok (.iastore, 1) := by decide +kernel
theorem dX2_pay_59 : decode cX2_pay 59 = .ok (.aload_n 0, 1) := by decide +kernel
theorem dX2_pay_60 : decode cX2_pay 60 = .ok (.getfield 35, 3) := by decide +kernel
theorem dX2_pay_63 : decode cX2_pay 63 = .ok (.aload_n 0, 1) := by decide +kernel
theorem dX2_pay_64 : decode cX2_pay 64 = .ok (.getfield 90, 3) := by decide +kernel
theorem dX2_pay_67 : decode cX2_pay 67 = .ok (.iload_n 1, 1) := by decide +kernel
theorem dX2_pay_68 : decode cX2_pay 68 = .ok (.iaload, 1) := by decide +kernel
theorem dX2_pay_69 : decode cX2_pay 69 = .ok (.dup2, 1) := by decide +kernel
theorem dX2_pay_70 : decode cX2_pay 70 = .ok (.iaload, 1) := by decide +kernel
theorem dX2_pay_71 : decode cX2_pay 71 = .ok (.iload_n 2, 1) := by decide +kernel
theorem dX2_pay_72 : decode cX2_pay 72 = .ok (.iadd, 1) := by decide +kernel
theorem dX2_pay_73 : decode cX2_pay 73 = .ok (.iastore, 1) := by decide +kernel
theorem dX2_pay_74 : decode cX2_pay 74 = .ok (.aload_n 0, 1) := by decide +kernel
theorem dX2_pay_75 : decode cX2_pay 75 = .ok (.iload_n 1, 1) := by decide +kernel
theorem dX2_pay_76 : decode cX2_pay 76 = .ok (.iload_n 2, 1) := by decide +kernel
theorem dX2_pay_77 : decode cX2_pay 77 = .ok (.invokevirtual 268, 3) := by decide +kernel
theorem dX2_pay_80 : decode cX2_pay 80 = .ok (.aload_n 0, 1) := by decide +kernel
theorem dX2_pay_81 : decode cX2_pay 81 = .ok (.invokevirtual 271, 3) := by decide +kernel
theorem dX2_pay_84 : decode cX2_pay 84 = .ok (.aload_n 0, 1) := by decide +kernel
theorem dX2_pay_85 : decode cX2_pay 85 = .ok (.iload_n 1, 1) := by decide +kernel
theorem dX2_pay_86 : decode cX2_pay 86 = .ok (.invokevirtual 265, 3) := by decide +kernel
theorem dX2_pay_89 : decode cX2_pay 89 = .ok (.ireturn, 1) := by decide +kernel
abbrev cX2_takeOff : ByteArray := prog_15_method_18_code
def yX2_takeOff : MethodName := ⟨RX2, "takeOff", "(II)V"⟩
theorem dX2_takeOff_0 : decode cX2_takeOff 0 = .ok (.aload_n 0, 1) := by decide +kernel
theorem dX2_takeOff_1 : decode cX2_takeOff 1 = .ok (.iload_n 1, 1) := by decide +kernel
theorem dX2_takeOff_2 : decode cX2_takeOff 2 = .ok (.invokevirtual 255, 3) := by decide +kernel
theorem dX2_takeOff_5 : decode cX2_takeOff 5 = .ok (.istore_n 3, 1) := by decide +kernel
theorem dX2_takeOff_6 : decode cX2_takeOff 6 = .ok (.aload_n 0, 1) := by decide +kernel
theorem dX2_takeOff_7 : decode cX2_takeOff 7 = .ok (.getfield 117, 3) := by decide +kernel
theorem dX2_takeOff_10 : decode cX2_takeOff 10 = .ok (.iload_n 1, 1) := by decide +kernel
theorem dX2_takeOff_11 : decode cX2_takeOff 11 = .ok (.aload_n 0, 1) := by decide +kernel
theorem dX2_takeOff_12 : decode cX2_takeOff 12 = .ok (.getfield 23, 3) := by decide +kernel
theorem dX2_takeOff_15 : decode cX2_takeOff 15 = .ok (.iconst 0, 1) := by decide +kernel
theorem dX2_takeOff_16 : decode cX2_takeOff 16 = .ok (.iaload, 1) := by decide +kernel
theorem dX2_takeOff_17 : decode cX2_takeOff 17 = .ok (.iastore, 1) := by decide +kernel
theorem dX2_takeOff_18 : decode cX2_takeOff 18 = .ok (.iload_n 2, 1) := by decide +kernel
theorem dX2_takeOff_19 : decode cX2_takeOff 19 = .ok (.istore 4, 2) := by decide +kernel
theorem dX2_takeOff_21 : decode cX2_takeOff 21 = .ok (.iload 4, 2) := by decide +kernel
theorem dX2_takeOff_23 : decode cX2_takeOff 23 = .ok (.aload_n 0, 1) := by decide +kernel
theorem dX2_takeOff_24 : decode cX2_takeOff 24 = .ok (.getfield 120, 3) := by decide +kernel
theorem dX2_takeOff_27 : decode cX2_takeOff 27 = .ok (.iload_n 1, 1) := by decide +kernel
theorem dX2_takeOff_28 : decode cX2_takeOff 28 = .ok (.iaload, 1) := by decide +kernel
theorem dX2_takeOff_29 : decode cX2_takeOff 29 = .ok (.if_icmp .ge 8, 3) := by decide +kernel
theorem dX2_takeOff_32 : decode cX2_takeOff 32 = .ok (.iload 4, 2) := by decide +kernel
theorem dX2_takeOff_34 : decode cX2_takeOff 34 = .ok (.goto 9, 3) := by decide +kernel
theorem dX2_takeOff_37 : decode cX2_takeOff 37 = .ok (.aload_n 0, 1) := by decide +kernel
theorem dX2_takeOff_38 : decode cX2_takeOff 38 = .ok (.getfield 120, 3) := by decide +kernel
theorem dX2_takeOff_41 : decode cX2_takeOff 41 = .ok (.iload_n 1, 1) := by decide +kernel
theorem dX2_takeOff_42 : decode cX2_takeOff 42 = .ok (.iaload, 1) := by decide +kernel
theorem dX2_takeOff_43 : decode cX2_takeOff 43 = .ok (.istore 5, 2) := by decide +kernel
theorem dX2_takeOff_45 : decode cX2_takeOff 45 = .ok (.aload_n 0, 1) := by decide +kernel
theorem dX2_takeOff_46 : decode cX2_takeOff 46 = .ok (.getfield 120, 3) := by decide +kernel
theorem dX2_takeOff_49 : decode cX2_takeOff 49 = .ok (.iload_n 1, 1) := by decide +kernel
theorem dX2_takeOff_50 : decode cX2_takeOff 50 = .ok (.dup2, 1) := by decide +kernel
theorem dX2_takeOff_51 : decode cX2_takeOff 51 = .ok (.iaload, 1) := by decide +kernel
theorem dX2_takeOff_52 : decode cX2_takeOff 52 = .ok (.iload 5, 2) := by decide +kernel
theorem dX2_takeOff_54 : decode cX2_takeOff 54 = .ok (.isub, 1) := by decide +kernel
theorem dX2_takeOff_55 : decode cX2_takeOff 55 = .ok (.iastore, 1) := by decide +kernel
theorem dX2_takeOff_56 : decode cX2_takeOff 56 = .ok (.iload 4, 2) := by decide +kernel
theorem dX2_takeOff_58 : decode cX2_takeOff 58 = .ok (.iload 5, 2) := by decide +kernel
theorem dX2_takeOff_60 : decode cX2_takeOff 60 = .ok (.isub, 1) := by decide +kernel
theorem dX2_takeOff_61 : decode cX2_takeOff 61 = .ok (.istore 4, 2) := by decide +kernel
theorem dX2_takeOff_63 : decode cX2_takeOff 63 = .ok (.iload 4, 2) := by decide +kernel
theorem dX2_takeOff_65 : decode cX2_takeOff 65 = .ok (.iload_n 3, 1) := by decide +kernel
theorem dX2_takeOff_66 : decode cX2_takeOff 66 = .ok (.if_icmp .ge 8, 3) := by decide +kernel
theorem dX2_takeOff_69 : decode cX2_takeOff 69 = .ok (.iload 4, 2) := by decide +kernel
theorem dX2_takeOff_71 : decode cX2_takeOff 71 = .ok (.goto 4, 3) := by decide +kernel
theorem dX2_takeOff_74 : decode cX2_takeOff 74 = .ok (.iload_n 3, 1) := by decide +kernel
theorem dX2_takeOff_75 : decode cX2_takeOff 75 = .ok (.istore 6, 2) := by decide +kernel
theorem dX2_takeOff_77 : decode cX2_takeOff 77 = .ok (.aload_n 0, 1) := by decide +kernel
theorem dX2_takeOff_78 : decode cX2_takeOff 78 = .ok (.getfield 114, 3) := by decide +kernel
theorem dX2_takeOff_81 : decode cX2_takeOff 81 = .ok (.iload_n 1, 1) := by decide +kernel
theorem dX2_takeOff_82 : decode cX2_takeOff 82 = .ok (.iload_n 3, 1) := by decide +kernel
theorem dX2_takeOff_83 : decode cX2_takeOff 83 = .ok (.iload 6, 2) := by decide +kernel
theorem dX2_takeOff_85 : decode cX2_takeOff 85 = .ok (.isub, 1) := by decide +kernel
theorem dX2_takeOff_86 : decode cX2_takeOff 86 = .ok (.iastore, 1) := by decide +kernel
theorem dX2_takeOff_87 : decode cX2_takeOff 87 = .ok (.iload 4, 2) := by decide +kernel
theorem dX2_takeOff_89 : decode cX2_takeOff 89 = .ok (.iload 6, 2) := by decide +kernel
theorem dX2_takeOff_91 : decode cX2_takeOff 91 = .ok (.isub, 1) := by decide +kernel
theorem dX2_takeOff_92 : decode cX2_takeOff 92 = .ok (.istore 4, 2) := by decide +kernel
theorem dX2_takeOff_94 : decode cX2_takeOff 94 = .ok (.aload_n 0, 1) := by decide +kernel
theorem dX2_takeOff_95 : decode cX2_takeOff 95 = .ok (.getfield 111, 3) := by decide +kernel
theorem dX2_takeOff_98 : decode cX2_takeOff 98 = .ok (.iload_n 1, 1) := by decide +kernel
theorem dX2_takeOff_99 : decode cX2_takeOff 99 = .ok (.dup2, 1) := by decide +kernel
theorem dX2_takeOff_100 : decode cX2_takeOff 100 = .ok (.iaload, 1) := by decide +kernel
theorem dX2_takeOff_101 : decode cX2_takeOff 101 = .ok (.iload 4, 2) := by decide +kernel
theorem dX2_takeOff_103 : decode cX2_takeOff 103 = .ok (.isub, 1) := by decide +kernel
theorem dX2_takeOff_104 : decode cX2_takeOff 104 = .ok (.iastore, 1) := by decide +kernel
theorem dX2_takeOff_105 : decode cX2_takeOff 105 = .ok (.aload_n 0, 1) := by decide +kernel
theorem dX2_takeOff_106 : decode cX2_takeOff 106 = .ok (.getfield 120, 3) := by decide +kernel
theorem dX2_takeOff_109 : decode cX2_takeOff 109 = .ok (.iload_n 1, 1) := by decide +kernel
theorem dX2_takeOff_110 : decode cX2_takeOff 110 = .ok (.iaload, 1) := by decide +kernel
theorem dX2_takeOff_111 : decode cX2_takeOff 111 = .ok (.ifCond .ne 27, 3) := by decide +kernel
theorem dX2_takeOff_114 : decode cX2_takeOff 114 = .ok (.aload_n 0, 1) := by decide +kernel
theorem dX2_takeOff_115 : decode cX2_takeOff 115 = .ok (.getfield 114, 3) := by decide +kernel
theorem dX2_takeOff_118 : decode cX2_takeOff 118 = .ok (.iload_n 1, 1) := by decide +kernel
theorem dX2_takeOff_119 : decode cX2_takeOff 119 = .ok (.iaload, 1) := by decide +kernel
theorem dX2_takeOff_120 : decode cX2_takeOff 120 = .ok (.ifCond .ne 18, 3) := by decide +kernel
theorem dX2_takeOff_123 : decode cX2_takeOff 123 = .ok (.aload_n 0, 1) := by decide +kernel
theorem dX2_takeOff_124 : decode cX2_takeOff 124 = .ok (.getfield 111, 3) := by decide +kernel
theorem dX2_takeOff_127 : decode cX2_takeOff 127 = .ok (.iload_n 1, 1) := by decide +kernel
theorem dX2_takeOff_128 : decode cX2_takeOff 128 = .ok (.iaload, 1) := by decide +kernel
theorem dX2_takeOff_129 : decode cX2_takeOff 129 = .ok (.ifCond .ne 9, 3) := by decide +kernel
theorem dX2_takeOff_132 : decode cX2_takeOff 132 = .ok (.aload_n 0, 1) := by decide +kernel
theorem dX2_takeOff_133 : decode cX2_takeOff 133 = .ok (.iload_n 1, 1) := by decide +kernel
theorem dX2_takeOff_134 : decode cX2_takeOff 134 = .ok (.iconst 1, 1) := by decide +kernel
theorem dX2_takeOff_135 : decode cX2_takeOff 135 = .ok (.invokevirtual 259, 3) := by decide +kernel
theorem dX2_takeOff_138 : decode cX2_takeOff 138 = .ok (.return_, 1) := by decide +kernel
abbrev cX2_ends : ByteArray := prog_15_method_17_code
def yX2_ends : MethodName := ⟨RX2, "ends", "(II)V"⟩
theorem dX2_ends_0 : decode cX2_ends 0 = .ok (.aload_n 0, 1) := by decide +kernel
theorem dX2_ends_1 : decode cX2_ends 1 = .ok (.getfield 108, 3) := by decide +kernel
theorem dX2_ends_4 : decode cX2_ends 4 = .ok (.iload_n 1, 1) := by decide +kernel
theorem dX2_ends_5 : decode cX2_ends 5 = .ok (.iload_n 2, 1) := by decide +kernel
theorem dX2_ends_6 : decode cX2_ends 6 = .ok (.iastore, 1) := by decide +kernel
theorem dX2_ends_7 : decode cX2_ends 7 = .ok (.aload_n 0, 1) := by decide +kernel
theorem dX2_ends_8 : decode cX2_ends 8 = .ok (.getfield 129, 3) := by decide +kernel
theorem dX2_ends_11 : decode cX2_ends 11 = .ok (.iload_n 1, 1) := by decide +kernel
theorem dX2_ends_12 : decode cX2_ends 12 = .ok (.aload_n 0, 1) := by decide +kernel
theorem dX2_ends_13 : decode cX2_ends 13 = .ok (.getfield 23, 3) := by decide +kernel
theorem dX2_ends_16 : decode cX2_ends 16 = .ok (.iconst 0, 1) := by decide +kernel
theorem dX2_ends_17 : decode cX2_ends 17 = .ok (.iaload, 1) := by decide +kernel
theorem dX2_ends_18 : decode cX2_ends 18 = .ok (.iastore, 1) := by decide +kernel
theorem dX2_ends_19 : decode cX2_ends 19 = .ok (.return_, 1) := by decide +kernel
abbrev cX2_letGo : ByteArray := prog_15_method_19_code
def yX2_letGo : MethodName := ⟨RX2, "letGo", "()V"⟩
theorem dX2_letGo_0 : decode cX2_letGo 0 = .ok (.iconst 0, 1) := by decide +kernel
theorem dX2_letGo_1 : decode cX2_letGo 1 = .ok (.istore_n 1, 1) := by decide +kernel
theorem dX2_letGo_2 : decode cX2_letGo 2 = .ok (.iload_n 1, 1) := by decide +kernel
theorem dX2_letGo_3 : decode cX2_letGo 3 = .ok (.aload_n 0, 1) := by decide +kernel
theorem dX2_letGo_4 : decode cX2_letGo 4 = .ok (.getfield 32, 3) := by decide +kernel
theorem dX2_letGo_7 : decode cX2_letGo 7 = .ok (.iconst 0, 1) := by decide +kernel
theorem dX2_letGo_8 : decode cX2_letGo 8 = .ok (.iaload, 1) := by decide +kernel
theorem dX2_letGo_9 : decode cX2_letGo 9 = .ok (.if_icmp .ge 73, 3) := by decide +kernel
theorem dX2_letGo_12 : decode cX2_letGo 12 = .ok (.iconst 0, 1) := by decide +kernel
theorem dX2_letGo_13 : decode cX2_letGo 13 = .ok (.istore_n 2, 1) := by decide +kernel
theorem dX2_letGo_14 : decode cX2_letGo 14 = .ok (.iconst 0, 1) := by decide +kernel
theorem dX2_letGo_15 : decode cX2_letGo 15 = .ok (.istore_n 3, 1) := by decide +kernel
theorem dX2_letGo_16 : decode cX2_letGo 16 = .ok (.iload_n 3, 1) := by decide +kernel
theorem dX2_letGo_17 : decode cX2_letGo 17 = .ok (.aload_n 0, 1) := by decide +kernel
theorem dX2_letGo_18 : decode cX2_letGo 18 = .ok (.getfield 84, 3) := by decide +kernel
theorem dX2_letGo_21 : decode cX2_letGo 21 = .ok (.iconst 0, 1) := by decide +kernel
theorem dX2_letGo_22 : decode cX2_letGo 22 = .ok (.iaload, 1) := by decide +kernel
theorem dX2_letGo_23 : decode cX2_letGo 23 = .ok (.if_icmp .ge 43, 3) := by decide +kernel
theorem dX2_letGo_26 : decode cX2_letGo 26 = .ok (.iload_n 2, 1) := by decide +kernel
theorem dX2_letGo_27 : decode cX2_letGo 27 = .ok (.aload_n 0, 1) := by decide +kernel
theorem dX2_letGo_28 : decode cX2_letGo 28 = .ok (.getfield 108, 3) := by decide +kernel
theorem dX2_letGo_31 : decode cX2_letGo 31 = .ok (.iload_n 3, 1) := by decide +kernel
theorem dX2_letGo_32 : decode cX2_letGo 32 = .ok (.iaload, 1) := by decide +kernel
theorem dX2_letGo_33 : decode cX2_letGo 33 = .ok (.ifCond .ne 24, 3) := by decide +kernel
theorem dX2_letGo_36 : decode cX2_letGo 36 = .ok (.aload_n 0, 1) := by decide +kernel
theorem dX2_letGo_37 : decode cX2_letGo 37 = .ok (.getfield 87, 3) := by decide +kernel
theorem dX2_letGo_40 : decode cX2_letGo 40 = .ok (.iload_n 3, 1) := by decide +kernel
theorem dX2_letGo_41 : decode cX2_letGo 41 = .ok (.iaload, 1) := by decide +kernel
theorem dX2_letGo_42 : decode cX2_letGo 42 = .ok (.iload_n 1, 1) := by decide +kernel
theorem dX2_letGo_43 : decode cX2_letGo 43 = .ok (.if_icmp .ne 14, 3) := by decide +kernel
theorem dX2_letGo_46 : decode cX2_letGo 46 = .ok (.iconst 1, 1) := by decide +kernel
theorem dX2_letGo_47 : decode cX2_letGo 47 = .ok (.aload_n 0, 1) := by decide +kernel
theorem dX2_letGo_48 : decode cX2_letGo 48 = .ok (.getfield 90, 3) := by decide +kernel
theorem dX2_letGo_51 : decode cX2_letGo 51 = .ok (.iload_n 3, 1) := by decide +kernel
theorem dX2_letGo_52 : decode cX2_letGo 52 = .ok (.iaload, 1) := by decide +kernel
theorem dX2_letGo_53 : decode cX2_letGo 53 = .ok (.ishl, 1) := by decide +kernel
theorem dX2_letGo_54 : decode cX2_letGo 54 = .ok (.goto 4, 3) := by decide +kernel
theorem dX2_letGo_57 : decode cX2_letGo 57 = .ok (.iconst 0, 1) := by decide +kernel
theorem dX2_letGo_58 : decode cX2_letGo 58 = .ok (.ior, 1) := by decide +kernel
theorem dX2_letGo_59 : decode cX2_letGo 59 = .ok (.istore_n 2, 1) := by decide +kernel
theorem dX2_letGo_60 : decode cX2_letGo 60 = .ok (.iinc 3 1, 3) := by decide +kernel
theorem dX2_letGo_63 : decode cX2_letGo 63 = .ok (.goto (-47), 3) := by decide +kernel
theorem dX2_letGo_66 : decode cX2_letGo 66 = .ok (.aload_n 0, 1) := by decide +kernel
theorem dX2_letGo_67 : decode cX2_letGo 67 = .ok (.getfield 66, 3) := by decide +kernel
theorem dX2_letGo_70 : decode cX2_letGo 70 = .ok (.iload_n 1, 1) := by decide +kernel
theorem dX2_letGo_71 : decode cX2_letGo 71 = .ok (.dup2, 1) := by decide +kernel
theorem dX2_letGo_72 : decode cX2_letGo 72 = .ok (.iaload, 1) := by decide +kernel
theorem dX2_letGo_73 : decode cX2_letGo 73 = .ok (.iload_n 2, 1) := by decide +kernel
theorem dX2_letGo_74 : decode cX2_letGo 74 = .ok (.iand, 1) := by decide +kernel
theorem dX2_letGo_75 : decode cX2_letGo 75 = .ok (.iastore, 1) := by decide +kernel
theorem dX2_letGo_76 : decode cX2_letGo 76 = .ok (.iinc 1 1, 3) := by decide +kernel
theorem dX2_letGo_79 : decode cX2_letGo 79 = .ok (.goto (-77), 3) := by decide +kernel
theorem dX2_letGo_82 : decode cX2_letGo 82 = .ok (.return_, 1) := by decide +kernel
abbrev cX2_about : ByteArray := prog_15_method_22_code
def yX2_about : MethodName := ⟨RX2, "about", "(II)I"⟩
theorem dX2_about_0 : decode cX2_about 0 = .ok (.aload_n 0, 1) := by decide +kernel
theorem dX2_about_1 : decode cX2_about 1 = .ok (.iconst 0, 1) := by decide +kernel
theorem dX2_about_2 : decode cX2_about 2 = .ok (.putfield 220, 3) := by decide +kernel
theorem dX2_about_5 : decode cX2_about 5 = .ok (.aload_n 0, 1) := by decide +kernel
theorem dX2_about_6 : decode cX2_about 6 = .ok (.iload_n 1, 1) := by decide +kernel
theorem dX2_about_7 : decode cX2_about 7 = .ok (.invokevirtual 244, 3) := by decide +kernel
theorem dX2_about_10 : decode cX2_about 10 = .ok (.ifCond .ne 6, 3) := by decide +kernel
theorem dX2_about_13 : decode cX2_about 13 = .ok (.bipush (-100), 2) := by decide +kernel
theorem dX2_about_15 : decode cX2_about 15 = .ok (.ireturn, 1) := by decide +kernel
theorem dX2_about_16 : decode cX2_about 16 = .ok (.aload_n 0, 1) := by decide +kernel
theorem dX2_about_17 : decode cX2_about 17 = .ok (.getfield 108, 3) := by decide +kernel
theorem dX2_about_20 : decode cX2_about 20 = .ok (.iload_n 1, 1) := by decide +kernel
theorem dX2_about_21 : decode cX2_about 21 = .ok (.iaload, 1) := by decide +kernel
theorem dX2_about_22 : decode cX2_about 22 = .ok (.ifCond .ne 7, 3) := by decide +kernel
theorem dX2_about_25 : decode cX2_about 25 = .ok (.iconst 1, 1) := by decide +kernel
theorem dX2_about_26 : decode cX2_about 26 = .ok (.goto 4, 3) := by decide +kernel
theorem dX2_about_29 : decode cX2_about 29 = .ok (.iconst 0, 1) := by decide +kernel
theorem dX2_about_30 : decode cX2_about 30 = .ok (.istore_n 3, 1) := by decide +kernel
theorem dX2_about_31 : decode cX2_about 31 = .ok (.iload_n 2, 1) := by decide +kernel
theorem dX2_about_32 : decode cX2_about 32 = .ok (.tableswitch 211 0 14 #[76, 83, 90, 97, 104, 111, 118, 125, 132, 147, 161, 176, 182, 197, 204], 76) := by decide +kernel
theorem dX2_about_108 : decode cX2_about 108 = .ok (.aload_n 0, 1) := by decide +kernel
theorem dX2_about_109 : decode cX2_about 109 = .ok (.getfield 87, 3) := by decide +kernel
theorem dX2_about_112 : decode cX2_about 112 = .ok (.iload_n 1, 1) := by decide +kernel
theorem dX2_about_113 : decode cX2_about 113 = .ok (.iaload, 1) := by decide +kernel
theorem dX2_about_114 : decode cX2_about 114 = .ok (.ireturn, 1) := by decide +kernel
theorem dX2_about_115 : decode cX2_about 115 = .ok (.aload_n 0, 1) := by decide +kernel
theorem dX2_about_116 : decode cX2_about 116 = .ok (.getfield 90, 3) := by decide +kernel
theorem dX2_about_119 : decode cX2_about 119 = .ok (.iload_n 1, 1) := by decide +kernel
theorem dX2_about_120 : decode cX2_about 120 = .ok (.iaload, 1) := by decide +kernel
theorem dX2_about_121 : decode cX2_about 121 = .ok (.ireturn, 1) := by decide +kernel
theorem dX2_about_122 : decode cX2_about 122 = .ok (.aload_n 0, 1) := by decide +kernel
theorem dX2_about_123 : decode cX2_about 123 = .ok (.getfield 93, 3) := by decide +kernel
theorem dX2_about_126 : decode cX2_about 126 = .ok (.iload_n 1, 1) := by decide +kernel
theorem dX2_about_127 : decode cX2_about 127 = .ok (.iaload, 1) := by decide +kernel
theorem dX2_about_128 : decode cX2_about 128 = .ok (.ireturn, 1) := by decide +kernel
theorem dX2_about_129 : decode cX2_about 129 = .ok (.aload_n 0, 1) := by decide +kernel
theorem dX2_about_130 : decode cX2_about 130 = .ok (.getfield 96, 3) := by decide +kernel
theorem dX2_about_133 : decode cX2_about 133 = .ok (.iload_n 1, 1) := by decide +kernel
theorem dX2_about_134 : decode cX2_about 134 = .ok (.iaload, 1) := by decide +kernel
theorem dX2_about_135 : decode cX2_about 135 = .ok (.ireturn, 1) := by decide +kernel
theorem dX2_about_136 : decode cX2_about 136 = .ok (.aload_n 0, 1) := by decide +kernel
theorem dX2_about_137 : decode cX2_about 137 = .ok (.getfield 99, 3) := by decide +kernel
theorem dX2_about_140 : decode cX2_about 140 = .ok (.iload_n 1, 1) := by decide +kernel
theorem dX2_about_141 : decode cX2_about 141 = .ok (.iaload, 1) := by decide +kernel
theorem dX2_about_142 : decode cX2_about 142 = .ok (.ireturn, 1) := by decide +kernel
theorem dX2_about_143 : decode cX2_about 143 = .ok (.aload_n 0, 1) := by decide +kernel
theorem dX2_about_144 : decode cX2_about 144 = .ok (.getfield 102, 3) := by decide +kernel
theorem dX2_about_147 : decode cX2_about 147 = .ok (.iload_n 1, 1) := by decide +kernel
theorem dX2_about_148 : decode cX2_about 148 = .ok (.iaload, 1) := by decide +kernel
theorem dX2_about_149 : decode cX2_about 149 = .ok (.ireturn, 1) := by decide +kernel
theorem dX2_about_150 : decode cX2_about 150 = .ok (.aload_n 0, 1) := by decide +kernel
theorem dX2_about_151 : decode cX2_about 151 = .ok (.getfield 105, 3) := by decide +kernel
theorem dX2_about_154 : decode cX2_about 154 = .ok (.iload_n 1, 1) := by decide +kernel
theorem dX2_about_155 : decode cX2_about 155 = .ok (.iaload, 1) := by decide +kernel
theorem dX2_about_156 : decode cX2_about 156 = .ok (.ireturn, 1) := by decide +kernel
theorem dX2_about_157 : decode cX2_about 157 = .ok (.aload_n 0, 1) := by decide +kernel
theorem dX2_about_158 : decode cX2_about 158 = .ok (.getfield 108, 3) := by decide +kernel
theorem dX2_about_161 : decode cX2_about 161 = .ok (.iload_n 1, 1) := by decide +kernel
theorem dX2_about_162 : decode cX2_about 162 = .ok (.iaload, 1) := by decide +kernel
theorem dX2_about_163 : decode cX2_about 163 = .ok (.ireturn, 1) := by decide +kernel
theorem dX2_about_164 : decode cX2_about 164 = .ok (.iload_n 3, 1) := by decide +kernel
theorem dX2_about_165 : decode cX2_about 165 = .ok (.ifCond .eq 12, 3) := by decide +kernel
theorem dX2_about_168 : decode cX2_about 168 = .ok (.aload_n 0, 1) := by decide +kernel
theorem dX2_about_169 : decode cX2_about 169 = .ok (.getfield 111, 3) := by decide +kernel
theorem dX2_about_172 : decode cX2_about 172 = .ok (.iload_n 1, 1) := by decide +kernel
theorem dX2_about_173 : decode cX2_about 173 = .ok (.iaload, 1) := by decide +kernel
theorem dX2_about_174 : decode cX2_about 174 = .ok (.goto 4, 3) := by decide +kernel
theorem dX2_about_177 : decode cX2_about 177 = .ok (.iconst 0, 1) := by decide +kernel
theorem dX2_about_178 : decode cX2_about 178 = .ok (.ireturn, 1) := by decide +kernel
theorem dX2_about_179 : decode cX2_about 179 = .ok (.iload_n 3, 1) := by decide +kernel
theorem dX2_about_180 : decode cX2_about 180 = .ok (.ifCond .eq 11, 3) := by decide +kernel
theorem dX2_about_183 : decode cX2_about 183 = .ok (.aload_n 0, 1) := by decide +kernel
theorem dX2_about_184 : decode cX2_about 184 = .ok (.iload_n 1, 1) := by decide +kernel
theorem dX2_about_185 : decode cX2_about 185 = .ok (.invokevirtual 255, 3) := by decide +kernel
theorem dX2_about_188 : decode cX2_about 188 = .ok (.goto 4, 3) := by decide +kernel
theorem dX2_about_191 : decode cX2_about 191 = .ok (.iconst 0, 1) := by decide +kernel
theorem dX2_about_192 : decode cX2_about 192 = .ok (.ireturn, 1) := by decide +kernel
theorem dX2_about_193 : decode cX2_about 193 = .ok (.iload_n 3, 1) := by decide +kernel
theorem dX2_about_194 : decode cX2_about 194 = .ok (.ifCond .eq 12, 3) := by decide +kernel
theorem dX2_about_197 : decode cX2_about 197 = .ok (.aload_n 0, 1) := by decide +kernel
theorem dX2_about_198 : decode cX2_about 198 = .ok (.getfield 120, 3) := by decide +kernel
theorem dX2_about_201 : decode cX2_about 201 = .ok (.iload_n 1, 1) := by decide +kernel
theorem dX2_about_202 : decode cX2_about 202 = .ok (.iaload, 1) := by decide +kernel
theorem dX2_about_203 : decode cX2_about 203 = .ok (.goto 4, 3) := by decide +kernel
theorem dX2_about_206 : decode cX2_about 206 = .ok (.iconst 0, 1) := by decide +kernel
theorem dX2_about_207 : decode cX2_about 207 = .ok (.ireturn, 1) := by decide +kernel
theorem dX2_about_208 : decode cX2_about 208 = .ok (.aload_n 0, 1) := by decide +kernel
theorem dX2_about_209 : decode cX2_about 209 = .ok (.iload_n 1, 1) := by decide +kernel
theorem dX2_about_210 : decode cX2_about 210 = .ok (.invokevirtual 265, 3) := by decide +kernel
theorem dX2_about_213 : decode cX2_about 213 = .ok (.ireturn, 1) := by decide +kernel
theorem dX2_about_214 : decode cX2_about 214 = .ok (.aload_n 0, 1) := by decide +kernel
theorem dX2_about_215 : decode cX2_about 215 = .ok (.getfield 123, 3) := by decide +kernel
theorem dX2_about_218 : decode cX2_about 218 = .ok (.iload_n 1, 1) := by decide +kernel
theorem dX2_about_219 : decode cX2_about 219 = .ok (.baload, 1) := by decide +kernel
theorem dX2_about_220 : decode cX2_about 220 = .ok (.ifCond .eq 7, 3) := by decide +kernel
theorem dX2_about_223 : decode cX2_about 223 = .ok (.iconst 1, 1) := by decide +kernel
theorem dX2_about_224 : decode cX2_about 224 = .ok (.goto 4, 3) := by decide +kernel
theorem dX2_about_227 : decode cX2_about 227 = .ok (.iconst 0, 1) := by decide +kernel
theorem dX2_about_228 : decode cX2_about 228 = .ok (.ireturn, 1) := by decide +kernel
theorem dX2_about_229 : decode cX2_about 229 = .ok (.aload_n 0, 1) := by decide +kernel
theorem dX2_about_230 : decode cX2_about 230 = .ok (.getfield 126, 3) := by decide +kernel
theorem dX2_about_233 : decode cX2_about 233 = .ok (.iload_n 1, 1) := by decide +kernel
theorem dX2_about_234 : decode cX2_about 234 = .ok (.iaload, 1) := by decide +kernel
theorem dX2_about_235 : decode cX2_about 235 = .ok (.ireturn, 1) := by decide +kernel
theorem dX2_about_236 : decode cX2_about 236 = .ok (.aload_n 0, 1) := by decide +kernel
theorem dX2_about_237 : decode cX2_about 237 = .ok (.getfield 129, 3) := by decide +kernel
theorem dX2_about_240 : decode cX2_about 240 = .ok (.iload_n 1, 1) := by decide +kernel
theorem dX2_about_241 : decode cX2_about 241 = .ok (.iaload, 1) := by decide +kernel
theorem dX2_about_242 : decode cX2_about 242 = .ok (.ireturn, 1) := by decide +kernel
theorem dX2_about_243 : decode cX2_about 243 = .ok (.bipush (-100), 2) := by decide +kernel
theorem dX2_about_245 : decode cX2_about 245 = .ok (.ireturn, 1) := by decide +kernel
abbrev cX2_ring : ByteArray := prog_15_method_26_code
def yX2_ring : MethodName := ⟨RX2, "ring", "()I"⟩
theorem dX2_ring_0 : decode cX2_ring 0 = .ok (.aload_n 0, 1) := by decide +kernel
theorem dX2_ring_1 : decode cX2_ring 1 = .ok (.iconst 0, 1) := by decide +kernel
theorem dX2_ring_2 : decode cX2_ring 2 = .ok (.putfield 220, 3) := by decide +kernel
theorem dX2_ring_5 : decode cX2_ring 5 = .ok (.aload_n 0, 1) := by decide +kernel
theorem dX2_ring_6 : decode cX2_ring 6 = .ok (.invokevirtual 280, 3) := by decide +kernel
theorem dX2_ring_9 : decode cX2_ring 9 = .ok (.ifCond .eq 12, 3) := by decide +kernel
theorem dX2_ring_12 : decode cX2_ring 12 = .ok (.aload_n 0, 1) := by decide +kernel
theorem dX2_ring_13 : decode cX2_ring 13 = .ok (.getfield 132, 3) := by decide +kernel
theorem dX2_ring_16 : decode cX2_ring 16 = .ok (.iconst 0, 1) := by decide +kernel
theorem dX2_ring_17 : decode cX2_ring 17 = .ok (.iaload, 1) := by decide +kernel
theorem dX2_ring_18 : decode cX2_ring 18 = .ok (.goto 4, 3) := by decide +kernel
theorem dX2_ring_21 : decode cX2_ring 21 = .ok (.iconst (-1), 1) := by decide +kernel
theorem dX2_ring_22 : decode cX2_ring 22 = .ok (.ireturn, 1) := by decide +kernel
abbrev cX2_findTheRing : ByteArray := prog_15_method_25_code
def yX2_findTheRing : MethodName := ⟨RX2, "findTheRing", "()Z"⟩
theorem dX2_findTheRing_0 : decode cX2_findTheRing 0 = .ok (.iconst 2, 1) := by decide +kernel
theorem dX2_findTheRing_1 : decode cX2_findTheRing 1 = .ok (.istore_n 1, 1) := by decide +kernel
theorem dX2_findTheRing_2 : decode cX2_findTheRing 2 = .ok (.iload_n 1, 1) := by decide +kernel
theorem dX2_findTheRing_3 : decode cX2_findTheRing 3 = .ok (.aload_n 0, 1) := by decide +kernel
theorem dX2_findTheRing_4 : decode cX2_findTheRing 4 = .ok (.getfield 32, 3) := by decide +kernel
theorem dX2_findTheRing_7 : decode cX2_findTheRing 7 = .ok (.iconst 0, 1) := by decide +kernel
theorem dX2_findTheRing_8 : decode cX2_findTheRing 8 = .ok (.iaload, 1) := by decide +kernel
theorem dX2_findTheRing_9 : decode cX2_findTheRing 9 = .ok (.if_icmp .gt 79, 3) := by decide +kernel
theorem dX2_findTheRing_12 : decode cX2_findTheRing 12 = .ok (.iconst 0, 1) := by decide +kernel
theorem dX2_findTheRing_13 : decode cX2_findTheRing 13 = .ok (.istore_n 2, 1) := by decide +kernel
theorem dX2_findTheRing_14 : decode cX2_findTheRing 14 = .ok (.iload_n 2, 1) := by decide +kernel
theorem dX2_findTheRing_15 : decode cX2_findTheRing 15 = .ok (.aload_n 0, 1) := by decide +kernel
theorem dX2_findTheRing_16 : decode cX2_findTheRing 16 = .ok (.getfield 84, 3) := by decide +kernel
theorem dX2_findTheRing_19 : decode cX2_findTheRing 19 = .ok (.iconst 0, 1) := by decide +kernel
theorem dX2_findTheRing_20 : decode cX2_findTheRing 20 = .ok (.iaload, 1) := by decide +kernel
theorem dX2_findTheRing_21 : decode cX2_findTheRing 21 = .ok (.if_icmp .ge 61, 3) := by decide +kernel
theorem dX2_findTheRing_24 : decode cX2_findTheRing 24 = .ok (.aload_n 0, 1) := by decide +kernel
theorem dX2_findTheRing_25 : decode cX2_findTheRing 25 = .ok (.getfield 108, 3) := by decide +kernel
theorem dX2_findTheRing_28 : decode cX2_findTheRing 28 = .ok (.iload_n 2, 1) := by decide +kernel
theorem dX2_findTheRing_29 : decode cX2_findTheRing 29 = .ok (.iaload, 1) := by decide +kernel
theorem dX2_findTheRing_30 : decode cX2_findTheRing 30 = .ok (.ifCond .ne 46, 3) := by decide +kernel
theorem dX2_findTheRing_33 : decode cX2_findTheRing 33 = .ok (.aload_n 0, 1) := by decide +kernel
theorem dX2_findTheRing_34 : decode cX2_findTheRing 34 = .ok (.iload_n 2, 1) := by decide +kernel
theorem dX2_findTheRing_35 : decode cX2_findTheRing 35 = .ok (.iload_n 1, 1) := by decide +kernel
theorem dX2_findTheRing_36 : decode cX2_findTheRing 36 = .ok (.invokevirtual 277, 3) := by decide +kernel
theorem dX2_findTheRing_39 : decode cX2_findTheRing 39 = .ok (.ifCond .eq 37, 3) := by decide +kernel
theorem dX2_findTheRing_42 : decode cX2_findTheRing 42 = .ok (.aload_n 0, 1) := by decide +kernel
theorem dX2_findTheRing_43 : decode cX2_findTheRing 43 = .ok (.getfield 132, 3) := by decide +kernel
theorem dX2_findTheRing_46 : decode cX2_findTheRing 46 = .ok (.iconst 0, 1) := by decide +kernel
theorem dX2_findTheRing_47 : decode cX2_findTheRing 47 = .ok (.iload_n 1, 1) := by decide +kernel
theorem dX2_findTheRing_48 : decode cX2_findTheRing 48 = .ok (.iastore, 1) := by decide +kernel
theorem dX2_findTheRing_49 : decode cX2_findTheRing 49 = .ok (.iconst 0, 1) := by decide +kernel
theorem dX2_findTheRing_50 : decode cX2_findTheRing 50 = .ok (.istore_n 3, 1) := by decide +kernel
theorem dX2_findTheRing_51 : decode cX2_findTheRing 51 = .ok (.iload_n 3, 1) := by decide +kernel
theorem dX2_findTheRing_52 : decode cX2_findTheRing 52 = .ok (.iload_n 1, 1) := by decide +kernel
theorem dX2_findTheRing_53 : decode cX2_findTheRing 53 = .ok (.if_icmp .ge 21, 3) := by decide +kernel
theorem dX2_findTheRing_56 : decode cX2_findTheRing 56 = .ok (.aload_n 0, 1) := by decide +kernel
theorem dX2_findTheRing_57 : decode cX2_findTheRing 57 = .ok (.getfield 135, 3) := by decide +kernel
theorem dX2_findTheRing_60 : decode cX2_findTheRing 60 = .ok (.iload_n 3, 1) := by decide +kernel
theorem dX2_findTheRing_61 : decode cX2_findTheRing 61 = .ok (.aload_n 0, 1) := by decide +kernel
theorem dX2_findTheRing_62 : decode cX2_findTheRing 62 = .ok (.getfield 168, 3) := by decide +kernel
theorem dX2_findTheRing_65 : decode cX2_findTheRing 65 = .ok (.iload_n 3, 1) := by decide +kernel
theorem dX2_findTheRing_66 : decode cX2_findTheRing 66 = .ok (.iaload, 1) := by decide +kernel
theorem dX2_findTheRing_67 : decode cX2_findTheRing 67 = .ok (.iastore, 1) := by decide +kernel
theorem dX2_findTheRing_68 : decode cX2_findTheRing 68 = .ok (.iinc 3 1, 3) := by decide +kernel
theorem dX2_findTheRing_71 : decode cX2_findTheRing 71 = .ok (.goto (-20), 3) := by decide +kernel
theorem dX2_findTheRing_74 : decode cX2_findTheRing 74 = .ok (.iconst 1, 1) := by decide +kernel
theorem dX2_findTheRing_75 : decode cX2_findTheRing 75 = .ok (.ireturn, 1) := by decide +kernel
theorem dX2_findTheRing_76 : decode cX2_findTheRing 76 = .ok (.iinc 2 1, 3) := by decide +kernel
theorem dX2_findTheRing_79 : decode cX2_findTheRing 79 = .ok (.goto (-65), 3) := by decide +kernel
theorem dX2_findTheRing_82 : decode cX2_findTheRing 82 = .ok (.iinc 1 1, 3) := by decide +kernel
theorem dX2_findTheRing_85 : decode cX2_findTheRing 85 = .ok (.goto (-83), 3) := by decide +kernel
theorem dX2_findTheRing_88 : decode cX2_findTheRing 88 = .ok (.aload_n 0, 1) := by decide +kernel
theorem dX2_findTheRing_89 : decode cX2_findTheRing 89 = .ok (.getfield 132, 3) := by decide +kernel
theorem dX2_findTheRing_92 : decode cX2_findTheRing 92 = .ok (.iconst 0, 1) := by decide +kernel
theorem dX2_findTheRing_93 : decode cX2_findTheRing 93 = .ok (.iconst 0, 1) := by decide +kernel
theorem dX2_findTheRing_94 : decode cX2_findTheRing 94 = .ok (.iastore, 1) := by decide +kernel
theorem dX2_findTheRing_95 : decode cX2_findTheRing 95 = .ok (.iconst 0, 1) := by decide +kernel
theorem dX2_findTheRing_96 : decode cX2_findTheRing 96 = .ok (.ireturn, 1) := by decide +kernel
abbrev cX2_findRing : ByteArray := prog_15_method_24_code
def yX2_findRing : MethodName := ⟨RX2, "findRing", "(II)Z"⟩
theorem dX2_findRing_0 : decode cX2_findRing 0 = .ok (.aload_n 0, 1) := by decide +kernel
theorem dX2_findRing_1 : decode cX2_findRing 1 = .ok (.getfield 168, 3) := by decide +kernel
theorem dX2_findRing_4 : decode cX2_findRing 4 = .ok (.iconst 0, 1) := by decide +kernel
theorem dX2_findRing_5 : decode cX2_findRing 5 = .ok (.iload_n 1, 1) := by decide +kernel
theorem dX2_findRing_6 : decode cX2_findRing 6 = .ok (.iastore, 1) := by decide +kernel
theorem dX2_findRing_7 : decode cX2_findRing 7 = .ok (.iconst 1, 1) := by decide +kernel
theorem dX2_findRing_8 : decode cX2_findRing 8 = .ok (.istore_n 3, 1) := by decide +kernel
theorem dX2_findRing_9 : decode cX2_findRing 9 = .ok (.iload_n 1, 1) := by decide +kernel
theorem dX2_findRing_10 : decode cX2_findRing 10 = .ok (.iconst 1, 1) := by decide +kernel
theorem dX2_findRing_11 : decode cX2_findRing 11 = .ok (.iadd, 1) := by decide +kernel
theorem dX2_findRing_12 : decode cX2_findRing 12 = .ok (.istore 4, 2) := by decide +kernel
theorem dX2_findRing_14 : decode cX2_findRing 14 = .ok (.iload_n 3, 1) := by decide +kernel
theorem dX2_findRing_15 : decode cX2_findRing 15 = .ok (.ifCond .le 120, 3) := by decide +kernel
theorem dX2_findRing_18 : decode cX2_findRing 18 = .ok (.iload_n 3, 1) := by decide +kernel
theorem dX2_findRing_19 : decode cX2_findRing 19 = .ok (.iload_n 2, 1) := by decide +kernel
theorem dX2_findRing_20 : decode cX2_findRing 20 = .ok (.if_icmp .ne 27, 3) := by decide +kernel
theorem dX2_findRing_23 : decode cX2_findRing 23 = .ok (.aload_n 0, 1) := by decide +kernel
theorem dX2_findRing_24 : decode cX2_findRing 24 = .ok (.getfield 90, 3) := by decide +kernel
theorem dX2_findRing_27 : decode cX2_findRing 27 = .ok (.aload_n 0, 1) := by decide +kernel
theorem dX2_findRing_28 : decode cX2_findRing 28 = .ok (.getfield 168, 3) := by decide +kernel
theorem dX2_findRing_31 : decode cX2_findRing 31 = .ok (.iload_n 3, 1) := by decide +kernel
theorem dX2_findRing_32 : decode cX2_findRing 32 = .ok (.iconst 1, 1) := by decide +kernel
theorem dX2_findRing_33 : decode cX2_findRing 33 = .ok (.isub, 1) := by decide +kernel
theorem dX2_findRing_34 : decode cX2_findRing 34 = .ok (.iaload, 1) := by decide +kernel
theorem dX2_findRing_35 : decode cX2_findRing 35 = .ok (.iaload, 1) := by decide +kernel
theorem dX2_findRing_36 : decode cX2_findRing 36 = .ok (.aload_n 0, 1) := by decide +kernel
theorem dX2_findRing_37 : decode cX2_findRing 37 = .ok (.getfield 87, 3) := by decide +kernel
theorem dX2_findRing_40 : decode cX2_findRing 40 = .ok (.iload_n 1, 1) := by decide +kernel
theorem dX2_findRing_41 : decode cX2_findRing 41 = .ok (.iaload, 1) := by decide +kernel
theorem dX2_findRing_42 : decode cX2_findRing 42 = .ok (.if_icmp .ne 5, 3) := by decide +kernel
theorem dX2_findRing_45 : decode cX2_findRing 45 = .ok (.iconst 1, 1) := by decide +kernel
theorem dX2_findRing_46 : decode cX2_findRing 46 = .ok (.ireturn, 1) := by decide +kernel
theorem dX2_findRing_47 : decode cX2_findRing 47 = .ok (.iload 4, 2) := by decide +kernel
theorem dX2_findRing_49 : decode cX2_findRing 49 = .ok (.istore 5, 2) := by decide +kernel
theorem dX2_findRing_51 : decode cX2_findRing 51 = .ok (.iload_n 3, 1) := by decide +kernel
theorem dX2_findRing_52 : decode cX2_findRing 52 = .ok (.iload_n 2, 1) := by decide +kernel
theorem dX2_findRing_53 : decode cX2_findRing 53 = .ok (.if_icmp .ge 31, 3) := by decide +kernel
theorem dX2_findRing_56 : decode cX2_findRing 56 = .ok (.iload 5, 2) := by decide +kernel
theorem dX2_findRing_58 : decode cX2_findRing 58 = .ok (.aload_n 0, 1) := by decide +kernel
theorem dX2_findRing_59 : decode cX2_findRing 59 = .ok (.getfield 84, 3) := by decide +kernel
theorem dX2_findRing_62 : decode cX2_findRing 62 = .ok (.iconst 0, 1) := by decide +kernel
theorem dX2_findRing_63 : decode cX2_findRing 63 = .ok (.iaload, 1) := by decide +kernel
theorem dX2_findRing_64 : decode cX2_findRing 64 = .ok (.if_icmp .ge 20, 3) := by decide +kernel
theorem dX2_findRing_67 : decode cX2_findRing 67 = .ok (.aload_n 0, 1) := by decide +kernel
theorem dX2_findRing_68 : decode cX2_findRing 68 = .ok (.iload_n 3, 1) := by decide +kernel
theorem dX2_findRing_69 : decode cX2_findRing 69 = .ok (.iload 5, 2) := by decide +kernel
theorem dX2_findRing_71 : decode cX2_findRing 71 = .ok (.iload_n 1, 1) := by decide +kernel
theorem dX2_findRing_72 : decode cX2_findRing 72 = .ok (.invokevirtual 274, 3) := by decide +kernel
theorem dX2_findRing_75 : decode cX2_findRing 75 = .ok (.ifCond .ne 9, 3) := by decide +kernel
theorem dX2_findRing_78 : decode cX2_findRing 78 = .ok (.iinc 5 1, 3) := by decide +kernel
theorem dX2_findRing_81 : decode cX2_findRing 81 = .ok (.goto (-30), 3) := by decide +kernel
theorem dX2_findRing_84 : decode cX2_findRing 84 = .ok (.iload_n 3, 1) := by decide +kernel
theorem dX2_findRing_85 : decode cX2_findRing 85 = .ok (.iload_n 2, 1) := by decide +kernel
theorem dX2_findRing_86 : decode cX2_findRing 86 = .ok (.if_icmp .ge 33, 3) := by decide +kernel
theorem dX2_findRing_89 : decode cX2_findRing 89 = .ok (.iload 5, 2) := by decide +kernel
theorem dX2_findRing_91 : decode cX2_findRing 91 = .ok (.aload_n 0, 1) := by decide +kernel
theorem dX2_findRing_92 : decode cX2_findRing 92 = .ok (.getfield 84, 3) := by decide +kernel
theorem dX2_findRing_95 : decode cX2_findRing 95 = .ok (.iconst 0, 1) := by decide +kernel
theorem dX2_findRing_96 : decode cX2_findRing 96 = .ok (.iaload, 1) := by decide +kernel
theorem dX2_findRing_97 : decode cX2_findRing 97 = .ok (.if_icmp .ge 22, 3) := by decide +kernel
theorem dX2_findRing_100 : decode cX2_findRing 100 = .ok (.aload_n 0, 1) := by decide +kernel
theorem dX2_findRing_101 : decode cX2_findRing 101 = .ok (.getfield 168, 3) := by decide +kernel
theorem dX2_findRing_104 : decode cX2_findRing 104 = .ok (.iload_n 3, 1) := by decide +kernel
theorem dX2_findRing_105 : decode cX2_findRing 105 = .ok (.iload 5, 2) := by decide +kernel
theorem dX2_findRing_107 : decode cX2_findRing 107 = .ok (.iastore, 1) := by decide +kernel
theorem dX2_findRing_108 : decode cX2_findRing 108 = .ok (.iinc 3 1, 3) := by decide +kernel
theorem dX2_findRing_111 : decode cX2_findRing 111 = .ok (.iload_n 1, 1) := by decide +kernel
theorem dX2_findRing_112 : decode cX2_findRing 112 = .ok (.iconst 1, 1) := by decide +kernel
theorem dX2_findRing_113 : decode cX2_findRing 113 = .ok (.iadd, 1) := by decide +kernel
theorem dX2_findRing_114 : decode cX2_findRing 114 = .ok (.istore 4, 2) := by decide +kernel
theorem dX2_findRing_116 : decode cX2_findRing 116 = .ok (.goto 16, 3) := by decide +kernel
theorem dX2_findRing_119 : decode cX2_findRing 119 = .ok (.iinc 3 (-1), 3) := by decide +kernel
theorem dX2_findRing_122 : decode cX2_findRing 122 = .ok (.aload_n 0, 1) := by decide +kernel
theorem dX2_findRing_123 : decode cX2_findRing 123 = .ok (.getfield 168, 3) := by decide +kernel
theorem dX2_findRing_126 : decode cX2_findRing 126 = .ok (.iload_n 3, 1) := by decide +kernel
theorem dX2_findRing_127 : decode cX2_findRing 127 = .ok (.iaload, 1) := by decide +kernel
theorem dX2_findRing_128 : decode cX2_findRing 128 = .ok (.iconst 1, 1) := by decide +kernel
theorem dX2_findRing_129 : decode cX2_findRing 129 = .ok (.iadd, 1) := by decide +kernel
theorem dX2_findRing_130 : decode cX2_findRing 130 = .ok (.istore 4, 2) := by decide +kernel
theorem dX2_findRing_132 : decode cX2_findRing 132 = .ok (.goto (-118), 3) := by decide +kernel
theorem dX2_findRing_135 : decode cX2_findRing 135 = .ok (.iconst 0, 1) := by decide +kernel
theorem dX2_findRing_136 : decode cX2_findRing 136 = .ok (.ireturn, 1) := by decide +kernel
abbrev cX2_goesOn : ByteArray := prog_15_method_23_code
def yX2_goesOn : MethodName := ⟨RX2, "goesOn", "(III)Z"⟩
theorem dX2_goesOn_0 : decode cX2_goesOn 0 = .ok (.aload_n 0, 1) := by decide +kernel
theorem dX2_goesOn_1 : decode cX2_goesOn 1 = .ok (.getfield 108, 3) := by decide +kernel
theorem dX2_goesOn_4 : decode cX2_goesOn 4 = .ok (.iload_n 2, 1) := by decide +kernel
theorem dX2_goesOn_5 : decode cX2_goesOn 5 = .ok (.iaload, 1) := by decide +kernel
theorem dX2_goesOn_6 : decode cX2_goesOn 6 = .ok (.ifCond .ne 30, 3) := by decide +kernel
theorem dX2_goesOn_9 : decode cX2_goesOn 9 = .ok (.iload_n 2, 1) := by decide +kernel
theorem dX2_goesOn_10 : decode cX2_goesOn 10 = .ok (.iload_n 3, 1) := by decide +kernel
theorem dX2_goesOn_11 : decode cX2_goesOn 11 = .ok (.if_icmp .lt 25, 3) := by decide +kernel
theorem dX2_goesOn_14 : decode cX2_goesOn 14 = .ok (.aload_n 0, 1) := by decide +kernel
theorem dX2_goesOn_15 : decode cX2_goesOn 15 = .ok (.getfield 87, 3) := by decide +kernel
theorem dX2_goesOn_18 : decode cX2_goesOn 18 = .ok (.iload_n 2, 1) := by decide +kernel
theorem dX2_goesOn_19 : decode cX2_goesOn 19 = .ok (.iaload, 1) := by decide +kernel
theorem dX2_goesOn_20 : decode cX2_goesOn 20 = .ok (.aload_n 0, 1) := by decide +kernel
theorem dX2_goesOn_21 : decode cX2_goesOn 21 = .ok (.getfield 90, 3) := by decide +kernel
theorem dX2_goesOn_24 : decode cX2_goesOn 24 = .ok (.aload_n 0, 1) := by decide +kernel
theorem dX2_goesOn_25 : decode cX2_goesOn 25 = .ok (.getfield 168, 3) := by decide +kernel
theorem dX2_goesOn_28 : decode cX2_goesOn 28 = .ok (.iload_n 1, 1) := by decide +kernel
theorem dX2_goesOn_29 : decode cX2_goesOn 29 = .ok (.iconst 1, 1) := by decide +kernel
theorem dX2_goesOn_30 : decode cX2_goesOn 30 = .ok (.isub, 1) := by decide +kernel
theorem dX2_goesOn_31 : decode cX2_goesOn 31 = .ok (.iaload, 1) := by decide +kernel
theorem dX2_goesOn_32 : decode cX2_goesOn 32 = .ok (.iaload, 1) := by decide +kernel
theorem dX2_goesOn_33 : decode cX2_goesOn 33 = .ok (.if_icmp .eq 5, 3) := by decide +kernel
theorem dX2_goesOn_36 : decode cX2_goesOn 36 = .ok (.iconst 0, 1) := by decide +kernel
theorem dX2_goesOn_37 : decode cX2_goesOn 37 = .ok (.ireturn, 1) := by decide +kernel
theorem dX2_goesOn_38 : decode cX2_goesOn 38 = .ok (.iconst 0, 1) := by decide +kernel
theorem dX2_goesOn_39 : decode cX2_goesOn 39 = .ok (.istore 4, 2) := by decide +kernel
theorem dX2_goesOn_41 : decode cX2_goesOn 41 = .ok (.iload 4, 2) := by decide +kernel
theorem dX2_goesOn_43 : decode cX2_goesOn 43 = .ok (.iload_n 1, 1) := by decide +kernel
theorem dX2_goesOn_44 : decode cX2_goesOn 44 = .ok (.if_icmp .ge 32, 3) := by decide +kernel
theorem dX2_goesOn_47 : decode cX2_goesOn 47 = .ok (.aload_n 0, 1) := by decide +kernel
theorem dX2_goesOn_48 : decode cX2_goesOn 48 = .ok (.getfield 87, 3) := by decide +kernel
theorem dX2_goesOn_51 : decode cX2_goesOn 51 = .ok (.aload_n 0, 1) := by decide +kernel
theorem dX2_goesOn_52 : decode cX2_goesOn 52 = .ok (.getfield 168, 3) := by decide +kernel
theorem dX2_goesOn_55 : decode cX2_goesOn 55 = .ok (.iload 4, 2) := by decide +kernel
theorem dX2_goesOn_57 : decode cX2_goesOn 57 = .ok (.iaload, 1) := by decide +kernel
theorem dX2_goesOn_58 : decode cX2_goesOn 58 = .ok (.iaload, 1) := by decide +kernel
theorem dX2_goesOn_59 : decode cX2_goesOn 59 = .ok (.aload_n 0, 1) := by decide +kernel
theorem dX2_goesOn_60 : decode cX2_goesOn 60 = .ok (.getfield 87, 3) := by decide +kernel
theorem dX2_goesOn_63 : decode cX2_goesOn 63 = .ok (.iload_n 2, 1) := by decide +kernel
theorem dX2_goesOn_64 : decode cX2_goesOn 64 = .ok (.iaload, 1) := by decide +kernel
theorem dX2_goesOn_65 : decode cX2_goesOn 65 = .ok (.if_icmp .ne 5, 3) := by decide +kernel
theorem dX2_goesOn_68 : decode cX2_goesOn 68 = .ok (.iconst 0, 1) := by decide +kernel
theorem dX2_goesOn_69 : decode cX2_goesOn 69 = .ok (.ireturn, 1) := by decide +kernel
theorem dX2_goesOn_70 : decode cX2_goesOn 70 = .ok (.iinc 4 1, 3) := by decide +kernel
theorem dX2_goesOn_73 : decode cX2_goesOn 73 = .ok (.goto (-32), 3) := by decide +kernel
theorem dX2_goesOn_76 : decode cX2_goesOn 76 = .ok (.iconst 1, 1) := by decide +kernel
theorem dX2_goesOn_77 : decode cX2_goesOn 77 = .ok (.ireturn, 1) := by decide +kernel
abbrev cX2_row : ByteArray := prog_15_method_27_code
def yX2_row : MethodName := ⟨RX2, "row", "(I)I"⟩
theorem dX2_row_0 : decode cX2_row 0 = .ok (.aload_n 0, 1) := by decide +kernel
theorem dX2_row_1 : decode cX2_row 1 = .ok (.iconst 0, 1) := by decide +kernel
theorem dX2_row_2 : decode cX2_row 2 = .ok (.putfield 220, 3) := by decide +kernel
theorem dX2_row_5 : decode cX2_row 5 = .ok (.iload_n 1, 1) := by decide +kernel
theorem dX2_row_6 : decode cX2_row 6 = .ok (.iconst 0, 1) := by decide +kernel
theorem dX2_row_7 : decode cX2_row 7 = .ok (.aload_n 0, 1) := by decide +kernel
theorem dX2_row_8 : decode cX2_row 8 = .ok (.getfield 132, 3) := by decide +kernel
theorem dX2_row_11 : decode cX2_row 11 = .ok (.iconst 0, 1) := by decide +kernel
theorem dX2_row_12 : decode cX2_row 12 = .ok (.iaload, 1) := by decide +kernel
theorem dX2_row_13 : decode cX2_row 13 = .ok (.iconst 1, 1) := by decide +kernel
theorem dX2_row_14 : decode cX2_row 14 = .ok (.isub, 1) := by decide +kernel
theorem dX2_row_15 : decode cX2_row 15 = .ok (.invokestatic 236, 3) := by decide +kernel
theorem dX2_row_18 : decode cX2_row 18 = .ok (.ifCond .eq 12, 3) := by decide +kernel
theorem dX2_row_21 : decode cX2_row 21 = .ok (.aload_n 0, 1) := by decide +kernel
theorem dX2_row_22 : decode cX2_row 22 = .ok (.getfield 135, 3) := by decide +kernel
theorem dX2_row_25 : decode cX2_row 25 = .ok (.iload_n 1, 1) := by decide +kernel
theorem dX2_row_26 : decode cX2_row 26 = .ok (.iaload, 1) := by decide +kernel
theorem dX2_row_27 : decode cX2_row 27 = .ok (.goto 4, 3) := by decide +kernel
theorem dX2_row_30 : decode cX2_row 30 = .ok (.iconst (-1), 1) := by decide +kernel
theorem dX2_row_31 : decode cX2_row 31 = .ok (.ireturn, 1) := by decide +kernel
abbrev cX2_net : ByteArray := prog_15_method_28_code
def yX2_net : MethodName := ⟨RX2, "net", "()I"⟩
theorem dX2_net_0 : decode cX2_net 0 = .ok (.aload_n 0, 1) := by decide +kernel
theorem dX2_net_1 : decode cX2_net 1 = .ok (.iconst 0, 1) := by decide +kernel
theorem dX2_net_2 : decode cX2_net 2 = .ok (.putfield 220, 3) := by decide +kernel
theorem dX2_net_5 : decode cX2_net 5 = .ok (.aload_n 0, 1) := by decide +kernel
theorem dX2_net_6 : decode cX2_net 6 = .ok (.invokevirtual 280, 3) := by decide +kernel
theorem dX2_net_9 : decode cX2_net 9 = .ok (.ifCond .ne 5, 3) := by decide +kernel
theorem dX2_net_12 : decode cX2_net 12 = .ok (.iconst (-1), 1) := by decide +kernel
theorem dX2_net_13 : decode cX2_net 13 = .ok (.ireturn, 1) := by decide +kernel
theorem dX2_net_14 : decode cX2_net 14 = .ok (.aload_n 0, 1) := by decide +kernel
theorem dX2_net_15 : decode cX2_net 15 = .ok (.aload_n 0, 1) := by decide +kernel
theorem dX2_net_16 : decode cX2_net 16 = .ok (.getfield 135, 3) := by decide +kernel
theorem dX2_net_19 : decode cX2_net 19 = .ok (.iconst 0, 1) := by decide +kernel
theorem dX2_net_20 : decode cX2_net 20 = .ok (.iaload, 1) := by decide +kernel
theorem dX2_net_21 : decode cX2_net 21 = .ok (.invokevirtual 265, 3) := by decide +kernel
theorem dX2_net_24 : decode cX2_net 24 = .ok (.istore_n 1, 1) := by decide +kernel
theorem dX2_net_25 : decode cX2_net 25 = .ok (.iconst 1, 1) := by decide +kernel
theorem dX2_net_26 : decode cX2_net 26 = .ok (.istore_n 2, 1) := by decide +kernel
theorem dX2_net_27 : decode cX2_net 27 = .ok (.iload_n 2, 1) := by decide +kernel
theorem dX2_net_28 : decode cX2_net 28 = .ok (.aload_n 0, 1) := by decide +kernel
theorem dX2_net_29 : decode cX2_net 29 = .ok (.getfield 132, 3) := by decide +kernel
theorem dX2_net_32 : decode cX2_net 32 = .ok (.iconst 0, 1) := by decide +kernel
theorem dX2_net_33 : decode cX2_net 33 = .ok (.iaload, 1) := by decide +kernel
theorem dX2_net_34 : decode cX2_net 34 = .ok (.if_icmp .ge 38, 3) := by decide +kernel
theorem dX2_net_37 : decode cX2_net 37 = .ok (.aload_n 0, 1) := by decide +kernel
theorem dX2_net_38 : decode cX2_net 38 = .ok (.aload_n 0, 1) := by decide +kernel
theorem dX2_net_39 : decode cX2_net 39 = .ok (.getfield 135, 3) := by decide +kernel
theorem dX2_net_42 : decode cX2_net 42 = .ok (.iload_n 2, 1) := by decide +kernel
theorem dX2_net_43 : decode cX2_net 43 = .ok (.iaload, 1) := by decide +kernel
theorem dX2_net_44 : decode cX2_net 44 = .ok (.invokevirtual 265, 3) := by decide +kernel
theorem dX2_net_47 : decode cX2_net 47 = .ok (.iload_n 1, 1) := by decide +kernel
theorem dX2_net_48 : decode cX2_net 48 = .ok (.if_icmp .ge 16, 3) := by decide +kernel
theorem dX2_net_51 : decode cX2_net 51 = .ok (.aload_n 0, 1) := by decide +kernel
theorem dX2_net_52 : decode cX2_net 52 = .ok (.aload_n 0, 1) := by decide +kernel
theorem dX2_net_53 : decode cX2_net 53 = .ok (.getfield 135, 3) := by decide +kernel
theorem dX2_net_56 : decode cX2_net 56 = .ok (.iload_n 2, 1) := by decide +kernel
theorem dX2_net_57 : decode cX2_net 57 = .ok (.iaload, 1) := by decide +kernel
theorem dX2_net_58 : decode cX2_net 58 = .ok (.invokevirtual 265, 3) := by decide +kernel
theorem dX2_net_61 : decode cX2_net 61 = .ok (.goto 4, 3) := by decide +kernel
theorem dX2_net_64 : decode cX2_net 64 = .ok (.iload_n 1, 1) := by decide +kernel
theorem dX2_net_65 : decode cX2_net 65 = .ok (.istore_n 1, 1) := by decide +kernel
theorem dX2_net_66 : decode cX2_net 66 = .ok (.iinc 2 1, 3) := by decide +kernel
theorem dX2_net_69 : decode cX2_net 69 = .ok (.goto (-42), 3) := by decide +kernel
theorem dX2_net_72 : decode cX2_net 72 = .ok (.iconst 0, 1) := by decide +kernel
theorem dX2_net_73 : decode cX2_net 73 = .ok (.istore_n 2, 1) := by decide +kernel
theorem dX2_net_74 : decode cX2_net 74 = .ok (.iload_n 2, 1) := by decide +kernel
theorem dX2_net_75 : decode cX2_net 75 = .ok (.aload_n 0, 1) := by decide +kernel
theorem dX2_net_76 : decode cX2_net 76 = .ok (.getfield 132, 3) := by decide +kernel
theorem dX2_net_79 : decode cX2_net 79 = .ok (.iconst 0, 1) := by decide +kernel
theorem dX2_net_80 : decode cX2_net 80 = .ok (.iaload, 1) := by decide +kernel
theorem dX2_net_81 : decode cX2_net 81 = .ok (.if_icmp .ge 20, 3) := by decide +kernel
theorem dX2_net_84 : decode cX2_net 84 = .ok (.aload_n 0, 1) := by decide +kernel
theorem dX2_net_85 : decode cX2_net 85 = .ok (.aload_n 0, 1) := by decide +kernel
theorem dX2_net_86 : decode cX2_net 86 = .ok (.getfield 135, 3) := by decide +kernel
theorem dX2_net_89 : decode cX2_net 89 = .ok (.iload_n 2, 1) := by decide +kernel
theorem dX2_net_90 : decode cX2_net 90 = .ok (.iaload, 1) := by decide +kernel
theorem dX2_net_91 : decode cX2_net 91 = .ok (.iload_n 1, 1) := by decide +kernel
theorem dX2_net_92 : decode cX2_net 92 = .ok (.invokevirtual 268, 3) := by decide +kernel
theorem dX2_net_95 : decode cX2_net 95 = .ok (.iinc 2 1, 3) := by decide +kernel
theorem dX2_net_98 : decode cX2_net 98 = .ok (.goto (-24), 3) := by decide +kernel
theorem dX2_net_101 : decode cX2_net 101 = .ok (.aload_n 0, 1) := by decide +kernel
theorem dX2_net_102 : decode cX2_net 102 = .ok (.invokevirtual 271, 3) := by decide +kernel
theorem dX2_net_105 : decode cX2_net 105 = .ok (.iload_n 1, 1) := by decide +kernel
theorem dX2_net_106 : decode cX2_net 106 = .ok (.ireturn, 1) := by decide +kernel
abbrev cX2_feed : ByteArray := prog_15_method_29_code
def yX2_feed : MethodName := ⟨RX2, "feed", "(IIIII)I"⟩
theorem dX2_feed_0 : decode cX2_feed 0 = .ok (.aload_n 0, 1) := by decide +kernel
theorem dX2_feed_1 : decode cX2_feed 1 = .ok (.iconst 0, 1) := by decide +kernel
theorem dX2_feed_2 : decode cX2_feed 2 = .ok (.putfield 220, 3) := by decide +kernel
theorem dX2_feed_5 : decode cX2_feed 5 = .ok (.aload_n 0, 1) := by decide +kernel
theorem dX2_feed_6 : decode cX2_feed 6 = .ok (.getfield 13, 3) := by decide +kernel
theorem dX2_feed_9 : decode cX2_feed 9 = .ok (.iconst 0, 1) := by decide +kernel
theorem dX2_feed_10 : decode cX2_feed 10 = .ok (.iaload, 1) := by decide +kernel
theorem dX2_feed_11 : decode cX2_feed 11 = .ok (.bipush 20, 2) := by decide +kernel
theorem dX2_feed_13 : decode cX2_feed 13 = .ok (.iadd, 1) := by decide +kernel
theorem dX2_feed_14 : decode cX2_feed 14 = .ok (.sipush 600, 3) := by decide +kernel
theorem dX2_feed_17 : decode cX2_feed 17 = .ok (.if_icmp .le 5, 3) := by decide +kernel
theorem dX2_feed_20 : decode cX2_feed 20 = .ok (.iconst (-1), 1) := by decide +kernel
theorem dX2_feed_21 : decode cX2_feed 21 = .ok (.ireturn, 1) := by decide +kernel
theorem dX2_feed_22 : decode cX2_feed 22 = .ok (.aload_n 0, 1) := by decide +kernel
theorem dX2_feed_23 : decode cX2_feed 23 = .ok (.iload_n 1, 1) := by decide +kernel
theorem dX2_feed_24 : decode cX2_feed 24 = .ok (.invokevirtual 284, 3) := by decide +kernel
theorem dX2_feed_27 : decode cX2_feed 27 = .ok (.aload_n 0, 1) := by decide +kernel
theorem dX2_feed_28 : decode cX2_feed 28 = .ok (.iload_n 2, 1) := by decide +kernel
theorem dX2_feed_29 : decode cX2_feed 29 = .ok (.invokevirtual 284, 3) := by decide +kernel
theorem dX2_feed_32 : decode cX2_feed 32 = .ok (.aload_n 0, 1) := by decide +kernel
theorem dX2_feed_33 : decode cX2_feed 33 = .ok (.iload_n 3, 1) := by decide +kernel
theorem dX2_feed_34 : decode cX2_feed 34 = .ok (.invokevirtual 284, 3) := by decide +kernel
theorem dX2_feed_37 : decode cX2_feed 37 = .ok (.aload_n 0, 1) := by decide +kernel
theorem dX2_feed_38 : decode cX2_feed 38 = .ok (.iload 4, 2) := by decide +kernel
theorem dX2_feed_40 : decode cX2_feed 40 = .ok (.invokevirtual 284, 3) := by decide +kernel
theorem dX2_feed_43 : decode cX2_feed 43 = .ok (.aload_n 0, 1) := by decide +kernel
theorem dX2_feed_44 : decode cX2_feed 44 = .ok (.iload 5, 2) := by decide +kernel
theorem dX2_feed_46 : decode cX2_feed 46 = .ok (.invokevirtual 284, 3) := by decide +kernel
theorem dX2_feed_49 : decode cX2_feed 49 = .ok (.aload_n 0, 1) := by decide +kernel
theorem dX2_feed_50 : decode cX2_feed 50 = .ok (.getfield 13, 3) := by decide +kernel
theorem dX2_feed_53 : decode cX2_feed 53 = .ok (.iconst 0, 1) := by decide +kernel
theorem dX2_feed_54 : decode cX2_feed 54 = .ok (.iaload, 1) := by decide +kernel
theorem dX2_feed_55 : decode cX2_feed 55 = .ok (.ireturn, 1) := by decide +kernel
abbrev cX2_four : ByteArray := prog_15_method_30_code
def yX2_four : MethodName := ⟨RX2, "four", "(I)V"⟩
theorem dX2_four_0 : decode cX2_four 0 = .ok (.bipush 24, 2) := by decide +kernel
theorem dX2_four_2 : decode cX2_four 2 = .ok (.istore_n 2, 1) := by decide +kernel
theorem dX2_four_3 : decode cX2_four 3 = .ok (.iload_n 2, 1) := by decide +kernel
theorem dX2_four_4 : decode cX2_four 4 = .ok (.ifCond .lt 34, 3) := by decide +kernel
theorem dX2_four_7 : decode cX2_four 7 = .ok (.aload_n 0, 1) := by decide +kernel
theorem dX2_four_8 : decode cX2_four 8 = .ok (.getfield 7, 3) := by decide +kernel
theorem dX2_four_11 : decode cX2_four 11 = .ok (.aload_n 0, 1) := by decide +kernel
theorem dX2_four_12 : decode cX2_four 12 = .ok (.getfield 13, 3) := by decide +kernel
theorem dX2_four_15 : decode cX2_four 15 = .ok (.iconst 0, 1) := by decide +kernel
theorem dX2_four_16 : decode cX2_four 16 = .ok (.iaload, 1) := by decide +kernel
theorem dX2_four_17 : decode cX2_four 17 = .ok (.iload_n 1, 1) := by decide +kernel
theorem dX2_four_18 : decode cX2_four 18 = .ok (.iload_n 2, 1) := by decide +kernel
theorem dX2_four_19 : decode cX2_four 19 = .ok (.ishr, 1) := by decide +kernel
theorem dX2_four_20 : decode cX2_four 20 = .ok (.i2b, 1) := by decide +kernel
theorem dX2_four_21 : decode cX2_four 21 = .ok (.bastore, 1) := by decide +kernel
theorem dX2_four_22 : decode cX2_four 22 = .ok (.aload_n 0, 1) := by decide +kernel
theorem dX2_four_23 : decode cX2_four 23 = .ok (.getfield 13, 3) := by decide +kernel
theorem dX2_four_26 : decode cX2_four 26 = .ok (.iconst 0, 1) := by decide +kernel
theorem dX2_four_27 : decode cX2_four 27 = .ok (.dup2, 1) := by decide +kernel
theorem dX2_four_28 : decode cX2_four 28 = .ok (.iaload, 1) := by decide +kernel
theorem dX2_four_29 : decode cX2_four 29 = .ok (.iconst 1, 1) := by decide +kernel
theorem dX2_four_30 : decode cX2_four 30 = .ok (.iadd, 1) := by decide +kernel
theorem dX2_four_31 : decode cX2_four 31 = .ok (.iastore, 1) := by decide +kernel
theorem dX2_four_32 : decode cX2_four 32 = .ok (.iinc 2 (-8), 3) := by decide +kernel
theorem dX2_four_35 : decode cX2_four 35 = .ok (.goto (-32), 3) := by decide +kernel
theorem dX2_four_38 : decode cX2_four 38 = .ok (.return_, 1) := by decide +kernel
abbrev cX2_end : ByteArray := prog_15_method_31_code
def yX2_end : MethodName := ⟨RX2, "end", "(I)I"⟩
theorem dX2_end_0 : decode cX2_end 0 = .ok (.aload_n 0, 1) := by decide +kernel
theorem dX2_end_1 : decode cX2_end 1 = .ok (.iconst 0, 1) := by decide +kernel
theorem dX2_end_2 : decode cX2_end 2 = .ok (.putfield 220, 3) := by decide +kernel
theorem dX2_end_5 : decode cX2_end 5 = .ok (.iload_n 1, 1) := by decide +kernel
theorem dX2_end_6 : decode cX2_end 6 = .ok (.iconst 0, 1) := by decide +kernel
theorem dX2_end_7 : decode cX2_end 7 = .ok (.aload_n 0, 1) := by decide +kernel
theorem dX2_end_8 : decode cX2_end 8 = .ok (.getfield 13, 3) := by decide +kernel
theorem dX2_end_11 : decode cX2_end 11 = .ok (.iconst 0, 1) := by decide +kernel
theorem dX2_end_12 : decode cX2_end 12 = .ok (.iaload, 1) := by decide +kernel
theorem dX2_end_13 : decode cX2_end 13 = .ok (.invokestatic 236, 3) := by decide +kernel
theorem dX2_end_16 : decode cX2_end 16 = .ok (.ifCond .ne 5, 3) := by decide +kernel
theorem dX2_end_19 : decode cX2_end 19 = .ok (.iconst (-1), 1) := by decide +kernel
theorem dX2_end_20 : decode cX2_end 20 = .ok (.ireturn, 1) := by decide +kernel
theorem dX2_end_21 : decode cX2_end 21 = .ok (.aload_n 0, 1) := by decide +kernel
theorem dX2_end_22 : decode cX2_end 22 = .ok (.getfield 13, 3) := by decide +kernel
theorem dX2_end_25 : decode cX2_end 25 = .ok (.iconst 0, 1) := by decide +kernel
theorem dX2_end_26 : decode cX2_end 26 = .ok (.iload_n 1, 1) := by decide +kernel
theorem dX2_end_27 : decode cX2_end 27 = .ok (.iastore, 1) := by decide +kernel
theorem dX2_end_28 : decode cX2_end 28 = .ok (.iload_n 1, 1) := by decide +kernel
theorem dX2_end_29 : decode cX2_end 29 = .ok (.ireturn, 1) := by decide +kernel
abbrev cX2_act : ByteArray := prog_15_method_43_code
def yX2_act : MethodName := ⟨RX2, "act", "(I)I"⟩
theorem dX2_act_0 : decode cX2_act 0 = .ok (.aload_n 0, 1) := by decide +kernel
theorem dX2_act_1 : decode cX2_act 1 = .ok (.iconst 0, 1) := by decide +kernel
theorem dX2_act_2 : decode cX2_act 2 = .ok (.putfield 220, 3) := by decide +kernel
theorem dX2_act_5 : decode cX2_act 5 = .ok (.aload_n 0, 1) := by decide +kernel
theorem dX2_act_6 : decode cX2_act 6 = .ok (.aload_n 0, 1) := by decide +kernel
theorem dX2_act_7 : decode cX2_act 7 = .ok (.getfield 13, 3) := by decide +kernel
theorem dX2_act_10 : decode cX2_act 10 = .ok (.iconst 0, 1) := by decide +kernel
theorem dX2_act_11 : decode cX2_act 11 = .ok (.iaload, 1) := by decide +kernel
theorem dX2_act_12 : decode cX2_act 12 = .ok (.putfield 291, 3) := by decide +kernel
theorem dX2_act_15 : decode cX2_act 15 = .ok (.aload_n 0, 1) := by decide +kernel
theorem dX2_act_16 : decode cX2_act 16 = .ok (.getfield 13, 3) := by decide +kernel
theorem dX2_act_19 : decode cX2_act 19 = .ok (.iconst 0, 1) := by decide +kernel
theorem dX2_act_20 : decode cX2_act 20 = .ok (.iconst 0, 1) := by decide +kernel
theorem dX2_act_21 : decode cX2_act 21 = .ok (.iastore, 1) := by decide +kernel
theorem dX2_act_22 : decode cX2_act 22 = .ok (.aload_n 0, 1) := by decide +kernel
theorem dX2_act_23 : decode cX2_act 23 = .ok (.getfield 17, 3) := by decide +kernel
theorem dX2_act_26 : decode cX2_act 26 = .ok (.iconst 0, 1) := by decide +kernel
theorem dX2_act_27 : decode cX2_act 27 = .ok (.iconst 0, 1) := by decide +kernel
theorem dX2_act_28 : decode cX2_act 28 = .ok (.iastore, 1) := by decide +kernel
theorem dX2_act_29 : decode cX2_act 29 = .ok (.aload_n 0, 1) := by decide +kernel
theorem dX2_act_30 : decode cX2_act 30 = .ok (.getfield 20, 3) := by decide +kernel
theorem dX2_act_33 : decode cX2_act 33 = .ok (.iconst 0, 1) := by decide +kernel
theorem dX2_act_34 : decode cX2_act 34 = .ok (.iconst (-1), 1) := by decide +kernel
theorem dX2_act_35 : decode cX2_act 35 = .ok (.iastore, 1) := by decide +kernel
theorem dX2_act_36 : decode cX2_act 36 = .ok (.aload_n 0, 1) := by decide +kernel
theorem dX2_act_37 : decode cX2_act 37 = .ok (.getfield 138, 3) := by decide +kernel
theorem dX2_act_40 : decode cX2_act 40 = .ok (.iconst 0, 1) := by decide +kernel
theorem dX2_act_41 : decode cX2_act 41 = .ok (.iaload, 1) := by decide +kernel
theorem dX2_act_42 : decode cX2_act 42 = .ok (.iconst 4, 1) := by decide +kernel
theorem dX2_act_43 : decode cX2_act 43 = .ok (.if_icmp .eq 10, 3) := by decide +kernel
theorem dX2_act_46 : decode cX2_act 46 = .ok (.iload_n 1, 1) := by decide +kernel
theorem dX2_act_47 : decode cX2_act 47 = .ok (.invokestatic 395, 3) := by decide +kernel
theorem dX2_act_50 : decode cX2_act 50 = .ok (.ifCond .ne 6, 3) := by decide +kernel
theorem dX2_act_53 : decode cX2_act 53 = .ok (.bipush (-2), 2) := by decide +kernel
theorem dX2_act_55 : decode cX2_act 55 = .ok (.ireturn, 1) := by decide +kernel
theorem dX2_act_56 : decode cX2_act 56 = .ok (.aload_n 0, 1) := by decide +kernel
theorem dX2_act_57 : decode cX2_act 57 = .ok (.iconst 0, 1) := by decide +kernel
theorem dX2_act_58 : decode cX2_act 58 = .ok (.putfield 288, 3) := by decide +kernel
theorem dX2_act_61 : decode cX2_act 61 = .ok (.aload_n 0, 1) := by decide +kernel
theorem dX2_act_62 : decode cX2_act 62 = .ok (.iconst (-1), 1) := by decide +kernel
theorem dX2_act_63 : decode cX2_act 63 = .ok (.putfield 311, 3) := by decide +kernel
theorem dX2_act_66 : decode cX2_act 66 = .ok (.aload_n 0, 1) := by decide +kernel
theorem dX2_act_67 : decode cX2_act 67 = .ok (.iconst 0, 1) := by decide +kernel
theorem dX2_act_68 : decode cX2_act 68 = .ok (.putfield 314, 3) := by decide +kernel
theorem dX2_act_71 : decode cX2_act 71 = .ok (.aload_n 0, 1) := by decide +kernel
theorem dX2_act_72 : decode cX2_act 72 = .ok (.iconst 0, 1) := by decide +kernel
theorem dX2_act_73 : decode cX2_act 73 = .ok (.putfield 375, 3) := by decide +kernel
theorem dX2_act_76 : decode cX2_act 76 = .ok (.iconst 1, 1) := by decide +kernel
theorem dX2_act_77 : decode cX2_act 77 = .ok (.istore_n 2, 1) := by decide +kernel
theorem dX2_act_78 : decode cX2_act 78 = .ok (.aload_n 0, 1) := by decide +kernel
theorem dX2_act_79 : decode cX2_act 79 = .ok (.invokevirtual 326, 3) := by decide +kernel
theorem dX2_act_82 : decode cX2_act 82 = .ok (.iload_n 2, 1) := by decide +kernel
theorem dX2_act_83 : decode cX2_act 83 = .ok (.ifCond .eq 18, 3) := by decide +kernel
theorem dX2_act_86 : decode cX2_act 86 = .ok (.aload_n 0, 1) := by decide +kernel
theorem dX2_act_87 : decode cX2_act 87 = .ok (.getfield 308, 3) := by decide +kernel
theorem dX2_act_90 : decode cX2_act 90 = .ok (.ifCond .eq 11, 3) := by decide +kernel
theorem dX2_act_93 : decode cX2_act 93 = .ok (.aload_n 0, 1) := by decide +kernel
theorem dX2_act_94 : decode cX2_act 94 = .ok (.invokevirtual 398, 3) := by decide +kernel
theorem dX2_act_97 : decode cX2_act 97 = .ok (.istore_n 2, 1) := by decide +kernel
theorem dX2_act_98 : decode cX2_act 98 = .ok (.goto (-16), 3) := by decide +kernel
theorem dX2_act_101 : decode cX2_act 101 = .ok (.iload_n 2, 1) := by decide +kernel
theorem dX2_act_102 : decode cX2_act 102 = .ok (.ifCond .eq 10, 3) := by decide +kernel
theorem dX2_act_105 : decode cX2_act 105 = .ok (.aload_n 0, 1) := by decide +kernel
theorem dX2_act_106 : decode cX2_act 106 = .ok (.getfield 314, 3) := by decide +kernel
theorem dX2_act_109 : decode cX2_act 109 = .ok (.ifCond .le 44, 3) := by decide +kernel
theorem dX2_act_112 : decode cX2_act 112 = .ok (.aload_n 0, 1) := by decide +kernel
theorem dX2_act_113 : decode cX2_act 113 = .ok (.getfield 17, 3) := by decide +kernel
theorem dX2_act_116 : decode cX2_act 116 = .ok (.iconst 0, 1) := by decide +kernel
theorem dX2_act_117 : decode cX2_act 117 = .ok (.iload_n 2, 1) := by decide +kernel
theorem dX2_act_118 : decode cX2_act 118 = .ok (.ifCond .eq 10, 3) := by decide +kernel
theorem dX2_act_121 : decode cX2_act 121 = .ok (.aload_n 0, 1) := by decide +kernel
theorem dX2_act_122 : decode cX2_act 122 = .ok (.getfield 314, 3) := by decide +kernel
theorem dX2_act_125 : decode cX2_act 125 = .ok (.goto 4, 3) := by decide +kernel
theorem dX2_act_128 : decode cX2_act 128 = .ok (.iconst 1, 1) := by decide +kernel
theorem dX2_act_129 : decode cX2_act 129 = .ok (.iastore, 1) := by decide +kernel
theorem dX2_act_130 : decode cX2_act 130 = .ok (.aload_n 0, 1) := by decide +kernel
theorem dX2_act_131 : decode cX2_act 131 = .ok (.getfield 20, 3) := by decide +kernel
theorem dX2_act_134 : decode cX2_act 134 = .ok (.iconst 0, 1) := by decide +kernel
theorem dX2_act_135 : decode cX2_act 135 = .ok (.iload_n 2, 1) := by decide +kernel
theorem dX2_act_136 : decode cX2_act 136 = .ok (.ifCond .eq 10, 3) := by decide +kernel
theorem dX2_act_139 : decode cX2_act 139 = .ok (.aload_n 0, 1) := by decide +kernel
theorem dX2_act_140 : decode cX2_act 140 = .ok (.getfield 317, 3) := by decide +kernel
theorem dX2_act_143 : decode cX2_act 143 = .ok (.goto 7, 3) := by decide +kernel
theorem dX2_act_146 : decode cX2_act 146 = .ok (.aload_n 0, 1) := by decide +kernel
theorem dX2_act_147 : decode cX2_act 147 = .ok (.getfield 311, 3) := by decide +kernel
theorem dX2_act_150 : decode cX2_act 150 = .ok (.iastore, 1) := by decide +kernel
theorem dX2_act_151 : decode cX2_act 151 = .ok (.iconst (-1), 1) := by decide +kernel
theorem dX2_act_152 : decode cX2_act 152 = .ok (.ireturn, 1) := by decide +kernel
theorem dX2_act_153 : decode cX2_act 153 = .ok (.aload_n 0, 1) := by decide +kernel
theorem dX2_act_154 : decode cX2_act 154 = .ok (.getfield 138, 3) := by decide +kernel
theorem dX2_act_157 : decode cX2_act 157 = .ok (.iconst 0, 1) := by decide +kernel
theorem dX2_act_158 : decode cX2_act 158 = .ok (.iaload, 1) := by decide +kernel
theorem dX2_act_159 : decode cX2_act 159 = .ok (.istore_n 3, 1) := by decide +kernel
theorem dX2_act_160 : decode cX2_act 160 = .ok (.aload_n 0, 1) := by decide +kernel
theorem dX2_act_161 : decode cX2_act 161 = .ok (.getfield 138, 3) := by decide +kernel
theorem dX2_act_164 : decode cX2_act 164 = .ok (.iconst 0, 1) := by decide +kernel
theorem dX2_act_165 : decode cX2_act 165 = .ok (.dup2, 1) := by decide +kernel
theorem dX2_act_166 : decode cX2_act 166 = .ok (.iaload, 1) := by decide +kernel
theorem dX2_act_167 : decode cX2_act 167 = .ok (.iconst 1, 1) := by decide +kernel
theorem dX2_act_168 : decode cX2_act 168 = .ok (.iadd, 1) := by decide +kernel
theorem dX2_act_169 : decode cX2_act 169 = .ok (.iastore, 1) := by decide +kernel
theorem dX2_act_170 : decode cX2_act 170 = .ok (.aload_n 0, 1) := by decide +kernel
theorem dX2_act_171 : decode cX2_act 171 = .ok (.getfield 141, 3) := by decide +kernel
theorem dX2_act_174 : decode cX2_act 174 = .ok (.iload_n 3, 1) := by decide +kernel
theorem dX2_act_175 : decode cX2_act 175 = .ok (.iload_n 1, 1) := by decide +kernel
theorem dX2_act_176 : decode cX2_act 176 = .ok (.iastore, 1) := by decide +kernel
theorem dX2_act_177 : decode cX2_act 177 = .ok (.aload_n 0, 1) := by decide +kernel
theorem dX2_act_178 : decode cX2_act 178 = .ok (.getfield 144, 3) := by decide +kernel
theorem dX2_act_181 : decode cX2_act 181 = .ok (.iload_n 3, 1) := by decide +kernel
theorem dX2_act_182 : decode cX2_act 182 = .ok (.aload_n 0, 1) := by decide +kernel
theorem dX2_act_183 : decode cX2_act 183 = .ok (.getfield 23, 3) := by decide +kernel
theorem dX2_act_186 : decode cX2_act 186 = .ok (.iconst 0, 1) := by decide +kernel
theorem dX2_act_187 : decode cX2_act 187 = .ok (.iaload, 1) := by decide +kernel
theorem dX2_act_188 : decode cX2_act 188 = .ok (.iastore, 1) := by decide +kernel
theorem dX2_act_189 : decode cX2_act 189 = .ok (.aload_n 0, 1) := by decide +kernel
theorem dX2_act_190 : decode cX2_act 190 = .ok (.getfield 147, 3) := by decide +kernel
theorem dX2_act_193 : decode cX2_act 193 = .ok (.iload_n 3, 1) := by decide +kernel
theorem dX2_act_194 : decode cX2_act 194 = .ok (.aload_n 0, 1) := by decide +kernel
theorem dX2_act_195 : decode cX2_act 195 = .ok (.getfield 375, 3) := by decide +kernel
theorem dX2_act_198 : decode cX2_act 198 = .ok (.iastore, 1) := by decide +kernel
theorem dX2_act_199 : decode cX2_act 199 = .ok (.iconst 0, 1) := by decide +kernel
theorem dX2_act_200 : decode cX2_act 200 = .ok (.istore 4, 2) := by decide +kernel
theorem dX2_act_202 : decode cX2_act 202 = .ok (.iload 4, 2) := by decide +kernel
theorem dX2_act_204 : decode cX2_act 204 = .ok (.aload_n 0, 1) := by decide +kernel
theorem dX2_act_205 : decode cX2_act 205 = .ok (.getfield 375, 3) := by decide +kernel
theorem dX2_act_208 : decode cX2_act 208 = .ok (.if_icmp .ge 153, 3) := by decide +kernel
theorem dX2_act_211 : decode cX2_act 211 = .ok (.bipush 20, 2) := by decide +kernel
theorem dX2_act_213 : decode cX2_act 213 = .ok (.iload_n 3, 1) := by decide +kernel
theorem dX2_act_214 : decode cX2_act 214 = .ok (.imul, 1) := by decide +kernel
theorem dX2_act_215 : decode cX2_act 215 = .ok (.iload 4, 2) := by decide +kernel
theorem dX2_act_217 : decode cX2_act 217 = .ok (.iadd, 1) := by decide +kernel
theorem dX2_act_218 : decode cX2_act 218 = .ok (.istore 5, 2) := by decide +kernel
theorem dX2_act_220 : decode cX2_act 220 = .ok (.aload_n 0, 1) := by decide +kernel
theorem dX2_act_221 : decode cX2_act 221 = .ok (.getfield 150, 3) := by decide +kernel
theorem dX2_act_224 : decode cX2_act 224 = .ok (.iload 5, 2) := by decide +kernel
theorem dX2_act_226 : decode cX2_act 226 = .ok (.aload_n 0, 1) := by decide +kernel
theorem dX2_act_227 : decode cX2_act 227 = .ok (.getfield 171, 3) := by decide +kernel
theorem dX2_act_230 : decode cX2_act 230 = .ok (.iload 4, 2) := by decide +kernel
theorem dX2_act_232 : decode cX2_act 232 = .ok (.iaload, 1) := by decide +kernel
theorem dX2_act_233 : decode cX2_act 233 = .ok (.iastore, 1) := by decide +kernel
theorem dX2_act_234 : decode cX2_act 234 = .ok (.aload_n 0, 1) := by decide +kernel
theorem dX2_act_235 : decode cX2_act 235 = .ok (.getfield 153, 3) := by decide +kernel
theorem dX2_act_238 : decode cX2_act 238 = .ok (.iload 5, 2) := by decide +kernel
theorem dX2_act_240 : decode cX2_act 240 = .ok (.aload_n 0, 1) := by decide +kernel
theorem dX2_act_241 : decode cX2_act 241 = .ok (.getfield 174, 3) := by decide +kernel
theorem dX2_act_244 : decode cX2_act 244 = .ok (.iload 4, 2) := by decide +kernel
theorem dX2_act_246 : decode cX2_act 246 = .ok (.iaload, 1) := by decide +kernel
theorem dX2_act_247 : decode cX2_act 247 = .ok (.iastore, 1) := by decide +kernel
theorem dX2_act_248 : decode cX2_act 248 = .ok (.aload_n 0, 1) := by decide +kernel
theorem dX2_act_249 : decode cX2_act 249 = .ok (.getfield 156, 3) := by decide +kernel
theorem dX2_act_252 : decode cX2_act 252 = .ok (.iload 5, 2) := by decide +kernel
theorem dX2_act_254 : decode cX2_act 254 = .ok (.aload_n 0, 1) := by decide +kernel
theorem dX2_act_255 : decode cX2_act 255 = .ok (.getfield 177, 3) := by decide +kernel
theorem dX2_act_258 : decode cX2_act 258 = .ok (.iload 4, 2) := by decide +kernel
theorem dX2_act_260 : decode cX2_act 260 = .ok (.iaload, 1) := by decide +kernel
theorem dX2_act_261 : decode cX2_act 261 = .ok (.iastore, 1) := by decide +kernel
theorem dX2_act_262 : decode cX2_act 262 = .ok (.iconst 0, 1) := by decide +kernel
theorem dX2_act_263 : decode cX2_act 263 = .ok (.istore 6, 2) := by decide +kernel
theorem dX2_act_265 : decode cX2_act 265 = .ok (.iload 6, 2) := by decide +kernel
theorem dX2_act_267 : decode cX2_act 267 = .ok (.aload_n 0, 1) := by decide +kernel
theorem dX2_act_268 : decode cX2_act 268 = .ok (.getfield 174, 3) := by decide +kernel
theorem dX2_act_271 : decode cX2_act 271 = .ok (.iload 4, 2) := by decide +kernel
theorem dX2_act_273 : decode cX2_act 273 = .ok (.iaload, 1) := by decide +kernel
theorem dX2_act_274 : decode cX2_act 274 = .ok (.if_icmp .ge 81, 3) := by decide +kernel
theorem dX2_act_277 : decode cX2_act 277 = .ok (.aload_n 0, 1) := by decide +kernel
theorem dX2_act_278 : decode cX2_act 278 = .ok (.getfield 159, 3) := by decide +kernel
theorem dX2_act_281 : decode cX2_act 281 = .ok (.iconst 4, 1) := by decide +kernel
theorem dX2_act_282 : decode cX2_act 282 = .ok (.iload 5, 2) := by decide +kernel
theorem dX2_act_284 : decode cX2_act 284 = .ok (.imul, 1) := by decide +kernel
theorem dX2_act_285 : decode cX2_act 285 = .ok (.iload 6, 2) := by decide +kernel
theorem dX2_act_287 : decode cX2_act 287 = .ok (.iadd, 1) := by decide +kernel
theorem dX2_act_288 : decode cX2_act 288 = .ok (.aload_n 0, 1) := by decide +kernel
theorem dX2_act_289 : decode cX2_act 289 = .ok (.getfield 180, 3) := by decide +kernel
theorem dX2_act_292 : decode cX2_act 292 = .ok (.iconst 4, 1) := by decide +kernel
theorem dX2_act_293 : decode cX2_act 293 = .ok (.iload 4, 2) := by decide +kernel
theorem dX2_act_295 : decode cX2_act 295 = .ok (.imul, 1) := by decide +kernel
theorem dX2_act_296 : decode cX2_act 296 = .ok (.iload 6, 2) := by decide +kernel
theorem dX2_act_298 : decode cX2_act 298 = .ok (.iadd, 1) := by decide +kernel
theorem dX2_act_299 : decode cX2_act 299 = .ok (.iaload, 1) := by decide +kernel
theorem dX2_act_300 : decode cX2_act 300 = .ok (.iastore, 1) := by decide +kernel
theorem dX2_act_301 : decode cX2_act 301 = .ok (.aload_n 0, 1) := by decide +kernel
theorem dX2_act_302 : decode cX2_act 302 = .ok (.getfield 162, 3) := by decide +kernel
theorem dX2_act_305 : decode cX2_act 305 = .ok (.iconst 4, 1) := by decide +kernel
theorem dX2_act_306 : decode cX2_act 306 = .ok (.iload 5, 2) := by decide +kernel
theorem dX2_act_308 : decode cX2_act 308 = .ok (.imul, 1) := by decide +kernel
theorem dX2_act_309 : decode cX2_act 309 = .ok (.iload 6, 2) := by decide +kernel
theorem dX2_act_311 : decode cX2_act 311 = .ok (.iadd, 1) := by decide +kernel
theorem dX2_act_312 : decode cX2_act 312 = .ok (.aload_n 0, 1) := by decide +kernel
theorem dX2_act_313 : decode cX2_act 313 = .ok (.getfield 183, 3) := by decide +kernel
theorem dX2_act_316 : decode cX2_act 316 = .ok (.iconst 4, 1) := by decide +kernel
theorem dX2_act_317 : decode cX2_act 317 = .ok (.iload 4, 2) := by decide +kernel
theorem dX2_act_319 : decode cX2_act 319 = .ok (.imul, 1) := by decide +kernel
theorem dX2_act_320 : decode cX2_act 320 = .ok (.iload 6, 2) := by decide +kernel
theorem dX2_act_322 : decode cX2_act 322 = .ok (.iadd, 1) := by decide +kernel
theorem dX2_act_323 : decode cX2_act 323 = .ok (.iaload, 1) := by decide +kernel
theorem dX2_act_324 : decode cX2_act 324 = .ok (.iastore, 1) := by decide +kernel
theorem dX2_act_325 : decode cX2_act 325 = .ok (.aload_n 0, 1) := by decide +kernel
theorem dX2_act_326 : decode cX2_act 326 = .ok (.getfield 165, 3) := by decide +kernel
theorem dX2_act_329 : decode cX2_act 329 = .ok (.iconst 4, 1) := by decide +kernel
theorem dX2_act_330 : decode cX2_act 330 = .ok (.iload 5, 2) := by decide +kernel
theorem dX2_act_332 : decode cX2_act 332 = .ok (.imul, 1) := by decide +kernel
theorem dX2_act_333 : decode cX2_act 333 = .ok (.iload 6, 2) := by decide +kernel
theorem dX2_act_335 : decode cX2_act 335 = .ok (.iadd, 1) := by decide +kernel
theorem dX2_act_336 : decode cX2_act 336 = .ok (.aload_n 0, 1) := by decide +kernel
theorem dX2_act_337 : decode cX2_act 337 = .ok (.getfield 186, 3) := by decide +kernel
theorem dX2_act_340 : decode cX2_act 340 = .ok (.iconst 4, 1) := by decide +kernel
theorem dX2_act_341 : decode cX2_act 341 = .ok (.iload 4, 2) := by decide +kernel
theorem dX2_act_343 : decode cX2_act 343 = .ok (.imul, 1) := by decide +kernel
theorem dX2_act_344 : decode cX2_act 344 = .ok (.iload 6, 2) := by decide +kernel
theorem dX2_act_346 : decode cX2_act 346 = .ok (.iadd, 1) := by decide +kernel
theorem dX2_act_347 : decode cX2_act 347 = .ok (.iaload, 1) := by decide +kernel
theorem dX2_act_348 : decode cX2_act 348 = .ok (.iastore, 1) := by decide +kernel
theorem dX2_act_349 : decode cX2_act 349 = .ok (.iinc 6 1, 3) := by decide +kernel
theorem dX2_act_352 : decode cX2_act 352 = .ok (.goto (-87), 3) := by decide +kernel
theorem dX2_act_355 : decode cX2_act 355 = .ok (.iinc 4 1, 3) := by decide +kernel
theorem dX2_act_358 : decode cX2_act 358 = .ok (.goto (-156), 3) := by decide +kernel
theorem dX2_act_361 : decode cX2_act 361 = .ok (.iload_n 3, 1) := by decide +kernel
theorem dX2_act_362 : decode cX2_act 362 = .ok (.ireturn, 1) := by decide +kernel
abbrev cX2_isDay : ByteArray := prog_15_method_12_code
def yX2_isDay : MethodName := ⟨RX2, "isDay", "(I)Z"⟩
theorem dX2_isDay_0 : decode cX2_isDay 0 = .ok (.iload_n 0, 1) := by decide +kernel
theorem dX2_isDay_1 : decode cX2_isDay 1 = .ok (.iconst 0, 1) := by decide +kernel
theorem dX2_isDay_2 : decode cX2_isDay 2 = .ok (.sipush 9999, 3) := by decide +kernel
theorem dX2_isDay_5 : decode cX2_isDay 5 = .ok (.invokestatic 236, 3) := by decide +kernel
theorem dX2_isDay_8 : decode cX2_isDay 8 = .ok (.ireturn, 1) := by decide +kernel
abbrev cX2_next : ByteArray := prog_15_method_33_code
def yX2_next : MethodName := ⟨RX2, "next", "()V"⟩
theorem dX2_next_0 : decode cX2_next 0 = .ok (.aload_n 0, 1) := by decide +kernel
theorem dX2_next_1 : decode cX2_next 1 = .ok (.invokevirtual 294, 3) := by decide +kernel
theorem dX2_next_4 : decode cX2_next 4 = .ok (.bipush 10, 2) := by decide +kernel
theorem dX2_next_6 : decode cX2_next 6 = .ok (.if_icmp .eq 12, 3) := by decide +kernel
theorem dX2_next_9 : decode cX2_next 9 = .ok (.aload_n 0, 1) := by decide +kernel
theorem dX2_next_10 : decode cX2_next 10 = .ok (.invokevirtual 294, 3) := by decide +kernel
theorem dX2_next_13 : decode cX2_next 13 = .ok (.bipush 32, 2) := by decide +kernel
theorem dX2_next_15 : decode cX2_next 15 = .ok (.if_icmp .ne 16, 3) := by decide +kernel
theorem dX2_next_18 : decode cX2_next 18 = .ok (.aload_n 0, 1) := by decide +kernel
theorem dX2_next_19 : decode cX2_next 19 = .ok (.dup, 1) := by decide +kernel
theorem dX2_next_20 : decode cX2_next 20 = .ok (.getfield 288, 3) := by decide +kernel
theorem dX2_next_23 : decode cX2_next 23 = .ok (.iconst 1, 1) := by decide +kernel
theorem dX2_next_24 : decode cX2_next 24 = .ok (.iadd, 1) := by decide +kernel
theorem dX2_next_25 : decode cX2_next 25 = .ok (.putfield 288, 3) := by decide +kernel
theorem dX2_next_28 : decode cX2_next 28 = .ok (.goto (-28), 3) := by decide +kernel
theorem dX2_next_31 : decode cX2_next 31 = .ok (.aload_n 0, 1) := by decide +kernel
theorem dX2_next_32 : decode cX2_next 32 = .ok (.aload_n 0, 1) := by decide +kernel
theorem dX2_next_33 : decode cX2_next 33 = .ok (.getfield 288, 3) := by decide +kernel
theorem dX2_next_36 : decode cX2_next 36 = .ok (.putfield 298, 3) := by decide +kernel
theorem dX2_next_39 : decode cX2_next 39 = .ok (.aload_n 0, 1) := by decide +kernel
theorem dX2_next_40 : decode cX2_next 40 = .ok (.invokevirtual 294, 3) := by decide +kernel
theorem dX2_next_43 : decode cX2_next 43 = .ok (.istore_n 1, 1) := by decide +kernel
theorem dX2_next_44 : decode cX2_next 44 = .ok (.aload_n 0, 1) := by decide +kernel
theorem dX2_next_45 : decode cX2_next 45 = .ok (.iload_n 1, 1) := by decide +kernel
theorem dX2_next_46 : decode cX2_next 46 = .ok (.putfield 301, 3) := by decide +kernel
theorem dX2_next_49 : decode cX2_next 49 = .ok (.aload_n 0, 1) := by decide +kernel
theorem dX2_next_50 : decode cX2_next 50 = .ok (.lconst 0, 1) := by decide +kernel
theorem dX2_next_51 : decode cX2_next 51 = .ok (.putfield 304, 3) := by decide +kernel
theorem dX2_next_54 : decode cX2_next 54 = .ok (.iconst 0, 1) := by decide +kernel
theorem dX2_next_55 : decode cX2_next 55 = .ok (.istore_n 2, 1) := by decide +kernel
theorem dX2_next_56 : decode cX2_next 56 = .ok (.iload_n 1, 1) := by decide +kernel
theorem dX2_next_57 : decode cX2_next 57 = .ok (.ifCond .ge 11, 3) := by decide +kernel
theorem dX2_next_60 : decode cX2_next 60 = .ok (.aload_n 0, 1) := by decide +kernel
theorem dX2_next_61 : decode cX2_next 61 = .ok (.iconst 0, 1) := by decide +kernel
theorem dX2_next_62 : decode cX2_next 62 = .ok (.putfield 308, 3) := by decide +kernel
theorem dX2_next_65 : decode cX2_next 65 = .ok (.goto 230, 3) := by decide +kernel
theorem dX2_next_68 : decode cX2_next 68 = .ok (.iload_n 1, 1) := by decide +kernel
theorem dX2_next_69 : decode cX2_next 69 = .ok (.bipush 97, 2) := by decide +kernel
theorem dX2_next_71 : decode cX2_next 71 = .ok (.bipush 122, 2) := by decide +kernel
theorem dX2_next_73 : decode cX2_next 73 = .ok (.invokestatic 236, 3) := by decide +kernel
theorem dX2_next_76 : decode cX2_next 76 = .ok (.ifCond .eq 76, 3) := by decide +kernel
theorem dX2_next_79 : decode cX2_next 79 = .ok (.aload_n 0, 1) := by decide +kernel
theorem dX2_next_80 : decode cX2_next 80 = .ok (.invokevirtual 294, 3) := by decide +kernel
theorem dX2_next_83 : decode cX2_next 83 = .ok (.bipush 97, 2) := by decide +kernel
theorem dX2_next_85 : decode cX2_next 85 = .ok (.bipush 122, 2) := by decide +kernel
theorem dX2_next_87 : decode cX2_next 87 = .ok (.invokestatic 236, 3) := by decide +kernel
theorem dX2_next_90 : decode cX2_next 90 = .ok (.ifCond .eq 36, 3) := by decide +kernel
theorem dX2_next_93 : decode cX2_next 93 = .ok (.aload_n 0, 1) := by decide +kernel
theorem dX2_next_94 : decode cX2_next 94 = .ok (.aload_n 0, 1) := by decide +kernel
theorem dX2_next_95 : decode cX2_next 95 = .ok (.getfield 304, 3) := by decide +kernel
theorem dX2_next_98 : decode cX2_next 98 = .ok (.bipush 8, 2) := by decide +kernel
theorem dX2_next_100 : decode cX2_next 100 = .ok (.lshl, 1) := by decide +kernel
theorem dX2_next_101 : decode cX2_next 101 = .ok (.aload_n 0, 1) := by decide +kernel
theorem dX2_next_102 : decode cX2_next 102 = .ok (.invokevirtual 294, 3) := by decide +kernel
theorem dX2_next_105 : decode cX2_next 105 = .ok (.i2l, 1) := by decide +kernel
theorem dX2_next_106 : decode cX2_next 106 = .ok (.lor, 1) := by decide +kernel
theorem dX2_next_107 : decode cX2_next 107 = .ok (.putfield 304, 3) := by decide +kernel
theorem dX2_next_110 : decode cX2_next 110 = .ok (.aload_n 0, 1) := by decide +kernel
theorem dX2_next_111 : decode cX2_next 111 = .ok (.dup, 1) := by decide +kernel
theorem dX2_next_112 : decode cX2_next 112 = .ok (.getfield 288, 3) := by decide +kernel
theorem dX2_next_115 : decode cX2_next 115 = .ok (.iconst 1, 1) := by decide +kernel
theorem dX2_next_116 : decode cX2_next 116 = .ok (.iadd, 1) := by decide +kernel
theorem dX2_next_117 : decode cX2_next 117 = .ok (.putfield 288, 3) := by decide +kernel
theorem dX2_next_120 : decode cX2_next 120 = .ok (.iinc 2 1, 3) := by decide +kernel
theorem dX2_next_123 : decode cX2_next 123 = .ok (.goto (-44), 3) := by decide +kernel
theorem dX2_next_126 : decode cX2_next 126 = .ok (.aload_n 0, 1) := by decide +kernel
theorem dX2_next_127 : decode cX2_next 127 = .ok (.iload_n 2, 1) := by decide +kernel
theorem dX2_next_128 : decode cX2_next 128 = .ok (.bipush 8, 2) := by decide +kernel
theorem dX2_next_130 : decode cX2_next 130 = .ok (.if_icmp .le 7, 3) := by decide +kernel
theorem dX2_next_133 : decode cX2_next 133 = .ok (.lconst 0, 1) := by decide +kernel
theorem dX2_next_134 : decode cX2_next 134 = .ok (.goto 7, 3) := by decide +kernel
theorem dX2_next_137 : decode cX2_next 137 = .ok (.aload_n 0, 1) := by decide +kernel
theorem dX2_next_138 : decode cX2_next 138 = .ok (.getfield 304, 3) := by decide +kernel
theorem dX2_next_141 : decode cX2_next 141 = .ok (.putfield 304, 3) := by decide +kernel
theorem dX2_next_144 : decode cX2_next 144 = .ok (.aload_n 0, 1) := by decide +kernel
theorem dX2_next_145 : decode cX2_next 145 = .ok (.iconst 2, 1) := by decide +kernel
theorem dX2_next_146 : decode cX2_next 146 = .ok (.putfield 308, 3) := by decide +kernel
theorem dX2_next_149 : decode cX2_next 149 = .ok (.goto 146, 3) := by decide +kernel
theorem dX2_next_152 : decode cX2_next 152 = .ok (.iload_n 1, 1) := by decide +kernel
theorem dX2_next_153 : decode cX2_next 153 = .ok (.bipush 48, 2) := by decide +kernel
theorem dX2_next_155 : decode cX2_next 155 = .ok (.bipush 57, 2) := by decide +kernel
theorem dX2_next_157 : decode cX2_next 157 = .ok (.invokestatic 236, 3) := by decide +kernel
theorem dX2_next_160 : decode cX2_next 160 = .ok (.ifCond .eq 86, 3) := by decide +kernel
theorem dX2_next_163 : decode cX2_next 163 = .ok (.aload_n 0, 1) := by decide +kernel
theorem dX2_next_164 : decode cX2_next 164 = .ok (.iconst 0, 1) := by decide +kernel
theorem dX2_next_165 : decode cX2_next 165 = .ok (.putfield 301, 3) := by decide +kernel
theorem dX2_next_168 : decode cX2_next 168 = .ok (.aload_n 0, 1) := by decide +kernel
theorem dX2_next_169 : decode cX2_next 169 = .ok (.invokevirtual 294, 3) := by decide +kernel
theorem dX2_next_172 : decode cX2_next 172 = .ok (.bipush 48, 2) := by decide +kernel
theorem dX2_next_174 : decode cX2_next 174 = .ok (.bipush 57, 2) := by decide +kernel
theorem dX2_next_176 : decode cX2_next 176 = .ok (.invokestatic 236, 3) := by decide +kernel
theorem dX2_next_179 : decode cX2_next 179 = .ok (.ifCond .eq 50, 3) := by decide +kernel
theorem dX2_next_182 : decode cX2_next 182 = .ok (.aload_n 0, 1) := by decide +kernel
theorem dX2_next_183 : decode cX2_next 183 = .ok (.iload_n 2, 1) := by decide +kernel
theorem dX2_next_184 : decode cX2_next 184 = .ok (.iconst 5, 1) := by decide +kernel
theorem dX2_next_185 : decode cX2_next 185 = .ok (.if_icmp .ge 21, 3) := by decide +kernel
theorem dX2_next_188 : decode cX2_next 188 = .ok (.bipush 10, 2) := by decide +kernel
theorem dX2_next_190 : decode cX2_next 190 = .ok (.aload_n 0, 1) := by decide +kernel
theorem dX2_next_191 : decode cX2_next 191 = .ok (.getfield 301, 3) := by decide +kernel
theorem dX2_next_194 : decode cX2_next 194 = .ok (.imul, 1) := by decide +kernel
theorem dX2_next_195 : decode cX2_next 195 = .ok (.aload_n 0, 1) := by decide +kernel
theorem dX2_next_196 : decode cX2_next 196 = .ok (.invokevirtual 294, 3) := by decide +kernel
theorem dX2_next_199 : decode cX2_next 199 = .ok (.iadd, 1) := by decide +kernel
theorem dX2_next_200 : decode cX2_next 200 = .ok (.bipush 48, 2) := by decide +kernel
theorem dX2_next_202 : decode cX2_next 202 = .ok (.isub, 1) := by decide +kernel
theorem dX2_next_203 : decode cX2_next 203 = .ok (.goto 7, 3) := by decide +kernel
theorem dX2_next_206 : decode cX2_next 206 = .ok (.aload_n 0, 1) := by decide +kernel
theorem dX2_next_207 : decode cX2_next 207 = .ok (.getfield 301, 3) := by decide +kernel
theorem dX2_next_210 : decode cX2_next 210 = .ok (.putfield 301, 3) := by decide +kernel
theorem dX2_next_213 : decode cX2_next 213 = .ok (.aload_n 0, 1) := by decide +kernel
theorem dX2_next_214 : decode cX2_next 214 = .ok (.dup, 1) := by decide +kernel
theorem dX2_next_215 : decode cX2_next 215 = .ok (.getfield 288, 3) := by decide +kernel
theorem dX2_next_218 : decode cX2_next 218 = .ok (.iconst 1, 1) := by decide +kernel
theorem dX2_next_219 : decode cX2_next 219 = .ok (.iadd, 1) := by decide +kernel
theorem dX2_next_220 : decode cX2_next 220 = .ok (.putfield 288, 3) := by decide +kernel
theorem dX2_next_223 : decode cX2_next 223 = .ok (.iinc 2 1, 3) := by decide +kernel
theorem dX2_next_226 : decode cX2_next 226 = .ok (.goto (-58), 3) := by decide +kernel
theorem dX2_next_229 : decode cX2_next 229 = .ok (.aload_n 0, 1) := by decide +kernel
theorem dX2_next_230 : decode cX2_next 230 = .ok (.iload_n 2, 1) := by decide +kernel
theorem dX2_next_231 : decode cX2_next 231 = .ok (.iconst 5, 1) := by decide +kernel
theorem dX2_next_232 : decode cX2_next 232 = .ok (.if_icmp .le 7, 3) := by decide +kernel
theorem dX2_next_235 : decode cX2_next 235 = .ok (.iconst 1, 1) := by decide +kernel
theorem dX2_next_236 : decode cX2_next 236 = .ok (.goto 4, 3) := by decide +kernel
theorem dX2_next_239 : decode cX2_next 239 = .ok (.iconst 3, 1) := by decide +kernel
theorem dX2_next_240 : decode cX2_next 240 = .ok (.putfield 308, 3) := by decide +kernel
theorem dX2_next_243 : decode cX2_next 243 = .ok (.goto 52, 3) := by decide +kernel
theorem dX2_next_246 : decode cX2_next 246 = .ok (.aload_n 0, 1) := by decide +kernel
theorem dX2_next_247 : decode cX2_next 247 = .ok (.dup, 1) := by decide +kernel
theorem dX2_next_248 : decode cX2_next 248 = .ok (.getfield 288, 3) := by decide +kernel
theorem dX2_next_251 : decode cX2_next 251 = .ok (.iconst 1, 1) := by decide +kernel
theorem dX2_next_252 : decode cX2_next 252 = .ok (.iadd, 1) := by decide +kernel
theorem dX2_next_253 : decode cX2_next 253 = .ok (.putfield 288, 3) := by decide +kernel
theorem dX2_next_256 : decode cX2_next 256 = .ok (.aload_n 0, 1) := by decide +kernel
theorem dX2_next_257 : decode cX2_next 257 = .ok (.iload_n 1, 1) := by decide +kernel
theorem dX2_next_258 : decode cX2_next 258 = .ok (.bipush 58, 2) := by decide +kernel
theorem dX2_next_260 : decode cX2_next 260 = .ok (.if_icmp .eq 27, 3) := by decide +kernel
theorem dX2_next_263 : decode cX2_next 263 = .ok (.iload_n 1, 1) := by decide +kernel
theorem dX2_next_264 : decode cX2_next 264 = .ok (.bipush 59, 2) := by decide +kernel
theorem dX2_next_266 : decode cX2_next 266 = .ok (.if_icmp .eq 21, 3) := by decide +kernel
theorem dX2_next_269 : decode cX2_next 269 = .ok (.iload_n 1, 1) := by decide +kernel
theorem dX2_next_270 : decode cX2_next 270 = .ok (.bipush 60, 2) := by decide +kernel
theorem dX2_next_272 : decode cX2_next 272 = .ok (.if_icmp .eq 15, 3) := by decide +kernel
theorem dX2_next_275 : decode cX2_next 275 = .ok (.iload_n 1, 1) := by decide +kernel
theorem dX2_next_276 : decode cX2_next 276 = .ok (.bipush 62, 2) := by decide +kernel
theorem dX2_next_278 : decode cX2_next 278 = .ok (.if_icmp .eq 9, 3) := by decide +kernel
theorem dX2_next_281 : decode cX2_next 281 = .ok (.iload_n 1, 1) := by decide +kernel
theorem dX2_next_282 : decode cX2_next 282 = .ok (.bipush 61, 2) := by decide +kernel
theorem dX2_next_284 : decode cX2_next 284 = .ok (.if_icmp .ne 7, 3) := by decide +kernel
theorem dX2_next_287 : decode cX2_next 287 = .ok (.iconst 4, 1) := by decide +kernel
theorem dX2_next_288 : decode cX2_next 288 = .ok (.goto 4, 3) := by decide +kernel
theorem dX2_next_291 : decode cX2_next 291 = .ok (.iconst 1, 1) := by decide +kernel
theorem dX2_next_292 : decode cX2_next 292 = .ok (.putfield 308, 3) := by decide +kernel
theorem dX2_next_295 : decode cX2_next 295 = .ok (.return_, 1) := by decide +kernel
abbrev cX2_see : ByteArray := prog_15_method_32_code
def yX2_see : MethodName := ⟨RX2, "see", "()I"⟩
theorem dX2_see_0 : decode cX2_see 0 = .ok (.aload_n 0, 1) := by decide +kernel
theorem dX2_see_1 : decode cX2_see 1 = .ok (.getfield 288, 3) := by decide +kernel
theorem dX2_see_4 : decode cX2_see 4 = .ok (.aload_n 0, 1) := by decide +kernel
theorem dX2_see_5 : decode cX2_see 5 = .ok (.getfield 291, 3) := by decide +kernel
theorem dX2_see_8 : decode cX2_see 8 = .ok (.if_icmp .ge 19, 3) := by decide +kernel
theorem dX2_see_11 : decode cX2_see 11 = .ok (.aload_n 0, 1) := by decide +kernel
theorem dX2_see_12 : decode cX2_see 12 = .ok (.getfield 7, 3) := by decide +kernel
theorem dX2_see_15 : decode cX2_see 15 = .ok (.aload_n 0, 1) := by decide +kernel
theorem dX2_see_16 : decode cX2_see 16 = .ok (.getfield 288, 3) := by decide +kernel
theorem dX2_see_19 : decode cX2_see 19 = .ok (.baload, 1) := by decide +kernel
theorem dX2_see_20 : decode cX2_see 20 = .ok (.sipush 255, 3) := by decide +kernel
theorem dX2_see_23 : decode cX2_see 23 = .ok (.iand, 1) := by decide +kernel
theorem dX2_see_24 : decode cX2_see 24 = .ok (.goto 4, 3) := by decide +kernel
theorem dX2_see_27 : decode cX2_see 27 = .ok (.iconst (-1), 1) := by decide +kernel
theorem dX2_see_28 : decode cX2_see 28 = .ok (.ireturn, 1) := by decide +kernel
abbrev cX2_oneLine : ByteArray := prog_15_method_42_code
def yX2_oneLine : MethodName := ⟨RX2, "oneLine", "()Z"⟩
theorem dX2_oneLine_0 : decode cX2_oneLine 0 = .ok (.aload_n 0, 1) := by decide +kernel
theorem dX2_oneLine_1 : decode cX2_oneLine 1 = .ok (.getfield 375, 3) := by decide +kernel
theorem dX2_oneLine_4 : decode cX2_oneLine 4 = .ok (.bipush 20, 2) := by decide +kernel
theorem dX2_oneLine_6 : decode cX2_oneLine 6 = .ok (.if_icmp .ge 10, 3) := by decide +kernel
theorem dX2_oneLine_9 : decode cX2_oneLine 9 = .ok (.aload_n 0, 1) := by decide +kernel
theorem dX2_oneLine_10 : decode cX2_oneLine 10 = .ok (.getfield 375, 3) := by decide +kernel
theorem dX2_oneLine_13 : decode cX2_oneLine 13 = .ok (.goto 5, 3) := by decide +kernel
theorem dX2_oneLine_16 : decode cX2_oneLine 16 = .ok (.bipush 20, 2) := by decide +kernel
theorem dX2_oneLine_18 : decode cX2_oneLine 18 = .ok (.istore_n 1, 1) := by decide +kernel
theorem dX2_oneLine_19 : decode cX2_oneLine 19 = .ok (.aload_n 0, 1) := by decide +kernel
theorem dX2_oneLine_20 : decode cX2_oneLine 20 = .ok (.getfield 375, 3) := by decide +kernel
theorem dX2_oneLine_23 : decode cX2_oneLine 23 = .ok (.bipush 20, 2) := by decide +kernel
theorem dX2_oneLine_25 : decode cX2_oneLine 25 = .ok (.if_icmp .ne 12, 3) := by decide +kernel
theorem dX2_oneLine_28 : decode cX2_oneLine 28 = .ok (.aload_n 0, 1) := by decide +kernel
theorem dX2_oneLine_29 : decode cX2_oneLine 29 = .ok (.iconst 3, 1) := by decide +kernel
theorem dX2_oneLine_30 : decode cX2_oneLine 30 = .ok (.aload_n 0, 1) := by decide +kernel
theorem dX2_oneLine_31 : decode cX2_oneLine 31 = .ok (.getfield 298, 3) := by decide +kernel
theorem dX2_oneLine_34 : decode cX2_oneLine 34 = .ok (.invokevirtual 367, 3) := by decide +kernel
theorem dX2_oneLine_37 : decode cX2_oneLine 37 = .ok (.aload_n 0, 1) := by decide +kernel
theorem dX2_oneLine_38 : decode cX2_oneLine 38 = .ok (.getfield 174, 3) := by decide +kernel
theorem dX2_oneLine_41 : decode cX2_oneLine 41 = .ok (.iload_n 1, 1) := by decide +kernel
theorem dX2_oneLine_42 : decode cX2_oneLine 42 = .ok (.iconst 0, 1) := by decide +kernel
theorem dX2_oneLine_43 : decode cX2_oneLine 43 = .ok (.iastore, 1) := by decide +kernel
theorem dX2_oneLine_44 : decode cX2_oneLine 44 = .ok (.aload_n 0, 1) := by decide +kernel
theorem dX2_oneLine_45 : decode cX2_oneLine 45 = .ok (.getfield 171, 3) := by decide +kernel
theorem dX2_oneLine_48 : decode cX2_oneLine 48 = .ok (.iload_n 1, 1) := by decide +kernel
theorem dX2_oneLine_49 : decode cX2_oneLine 49 = .ok (.aload_n 0, 1) := by decide +kernel
theorem dX2_oneLine_50 : decode cX2_oneLine 50 = .ok (.invokevirtual 378, 3) := by decide +kernel
theorem dX2_oneLine_53 : decode cX2_oneLine 53 = .ok (.iastore, 1) := by decide +kernel
theorem dX2_oneLine_54 : decode cX2_oneLine 54 = .ok (.aload_n 0, 1) := by decide +kernel
theorem dX2_oneLine_55 : decode cX2_oneLine 55 = .ok (.getfield 171, 3) := by decide +kernel
theorem dX2_oneLine_58 : decode cX2_oneLine 58 = .ok (.iload_n 1, 1) := by decide +kernel
theorem dX2_oneLine_59 : decode cX2_oneLine 59 = .ok (.iaload, 1) := by decide +kernel
theorem dX2_oneLine_60 : decode cX2_oneLine 60 = .ok (.iconst (-1), 1) := by decide +kernel
theorem dX2_oneLine_61 : decode cX2_oneLine 61 = .ok (.if_icmp .ne 8, 3) := by decide +kernel
theorem dX2_oneLine_64 : decode cX2_oneLine 64 = .ok (.aload_n 0, 1) := by decide +kernel
theorem dX2_oneLine_65 : decode cX2_oneLine 65 = .ok (.invokevirtual 323, 3) := by decide +kernel
theorem dX2_oneLine_68 : decode cX2_oneLine 68 = .ok (.ireturn, 1) := by decide +kernel
theorem dX2_oneLine_69 : decode cX2_oneLine 69 = .ok (.aload_n 0, 1) := by decide +kernel
theorem dX2_oneLine_70 : decode cX2_oneLine 70 = .ok (.invokevirtual 326, 3) := by decide +kernel
theorem dX2_oneLine_73 : decode cX2_oneLine 73 = .ok (.aload_n 0, 1) := by decide +kernel
theorem dX2_oneLine_74 : decode cX2_oneLine 74 = .ok (.ldc2_w 381, 3) := by decide +kernel
theorem dX2_oneLine_77 : decode cX2_oneLine 77 = .ok (.invokevirtual 331, 3) := by decide +kernel
theorem dX2_oneLine_80 : decode cX2_oneLine 80 = .ok (.ifCond .eq 40, 3) := by decide +kernel
theorem dX2_oneLine_83 : decode cX2_oneLine 83 = .ok (.iconst 1, 1) := by decide +kernel
theorem dX2_oneLine_84 : decode cX2_oneLine 84 = .ok (.istore_n 2, 1) := by decide +kernel
theorem dX2_oneLine_85 : decode cX2_oneLine 85 = .ok (.iconst 0, 1) := by decide +kernel
theorem dX2_oneLine_86 : decode cX2_oneLine 86 = .ok (.istore_n 3, 1) := by decide +kernel
theorem dX2_oneLine_87 : decode cX2_oneLine 87 = .ok (.iload_n 2, 1) := by decide +kernel
theorem dX2_oneLine_88 : decode cX2_oneLine 88 = .ok (.ifCond .eq 32, 3) := by decide +kernel
theorem dX2_oneLine_91 : decode cX2_oneLine 91 = .ok (.aload_n 0, 1) := by decide +kernel
theorem dX2_oneLine_92 : decode cX2_oneLine 92 = .ok (.invokevirtual 326, 3) := by decide +kernel
theorem dX2_oneLine_95 : decode cX2_oneLine 95 = .ok (.aload_n 0, 1) := by decide +kernel
theorem dX2_oneLine_96 : decode cX2_oneLine 96 = .ok (.iload_n 1, 1) := by decide +kernel
theorem dX2_oneLine_97 : decode cX2_oneLine 97 = .ok (.iload_n 3, 1) := by decide +kernel
theorem dX2_oneLine_98 : decode cX2_oneLine 98 = .ok (.invokevirtual 383, 3) := by decide +kernel
theorem dX2_oneLine_101 : decode cX2_oneLine 101 = .ok (.ifCond .ne 5, 3) := by decide +kernel
theorem dX2_oneLine_104 : decode cX2_oneLine 104 = .ok (.iconst 0, 1) := by decide +kernel
theorem dX2_oneLine_105 : decode cX2_oneLine 105 = .ok (.ireturn, 1) := by decide +kernel
theorem dX2_oneLine_106 : decode cX2_oneLine 106 = .ok (.aload_n 0, 1) := by decide +kernel
theorem dX2_oneLine_107 : decode cX2_oneLine 107 = .ok (.ldc2_w 386, 3) := by decide +kernel
theorem dX2_oneLine_110 : decode cX2_oneLine 110 = .ok (.invokevirtual 331, 3) := by decide +kernel
theorem dX2_oneLine_113 : decode cX2_oneLine 113 = .ok (.istore_n 2, 1) := by decide +kernel
theorem dX2_oneLine_114 : decode cX2_oneLine 114 = .ok (.iinc 3 1, 3) := by decide +kernel
theorem dX2_oneLine_117 : decode cX2_oneLine 117 = .ok (.goto (-30), 3) := by decide +kernel
theorem dX2_oneLine_120 : decode cX2_oneLine 120 = .ok (.aload_n 0, 1) := by decide +kernel
theorem dX2_oneLine_121 : decode cX2_oneLine 121 = .ok (.bipush 58, 2) := by decide +kernel
theorem dX2_oneLine_123 : decode cX2_oneLine 123 = .ok (.invokevirtual 388, 3) := by decide +kernel
theorem dX2_oneLine_126 : decode cX2_oneLine 126 = .ok (.ifCond .ne 5, 3) := by decide +kernel
theorem dX2_oneLine_129 : decode cX2_oneLine 129 = .ok (.iconst 0, 1) := by decide +kernel
theorem dX2_oneLine_130 : decode cX2_oneLine 130 = .ok (.ireturn, 1) := by decide +kernel
theorem dX2_oneLine_131 : decode cX2_oneLine 131 = .ok (.aload_n 0, 1) := by decide +kernel
theorem dX2_oneLine_132 : decode cX2_oneLine 132 = .ok (.getfield 308, 3) := by decide +kernel
theorem dX2_oneLine_135 : decode cX2_oneLine 135 = .ok (.iconst 3, 1) := by decide +kernel
theorem dX2_oneLine_136 : decode cX2_oneLine 136 = .ok (.if_icmp .ne 75, 3) := by decide +kernel
theorem dX2_oneLine_139 : decode cX2_oneLine 139 = .ok (.aload_n 0, 1) := by decide +kernel
theorem dX2_oneLine_140 : decode cX2_oneLine 140 = .ok (.getfield 171, 3) := by decide +kernel
theorem dX2_oneLine_143 : decode cX2_oneLine 143 = .ok (.iload_n 1, 1) := by decide +kernel
theorem dX2_oneLine_144 : decode cX2_oneLine 144 = .ok (.iaload, 1) := by decide +kernel
theorem dX2_oneLine_145 : decode cX2_oneLine 145 = .ok (.iconst 4, 1) := by decide +kernel
theorem dX2_oneLine_146 : decode cX2_oneLine 146 = .ok (.if_icmp .eq 24, 3) := by decide +kernel
theorem dX2_oneLine_149 : decode cX2_oneLine 149 = .ok (.aload_n 0, 1) := by decide +kernel
theorem dX2_oneLine_150 : decode cX2_oneLine 150 = .ok (.getfield 171, 3) := by decide +kernel
theorem dX2_oneLine_153 : decode cX2_oneLine 153 = .ok (.iload_n 1, 1) := by decide +kernel
theorem dX2_oneLine_154 : decode cX2_oneLine 154 = .ok (.iaload, 1) := by decide +kernel
theorem dX2_oneLine_155 : decode cX2_oneLine 155 = .ok (.iconst 5, 1) := by decide +kernel
theorem dX2_oneLine_156 : decode cX2_oneLine 156 = .ok (.if_icmp .eq 14, 3) := by decide +kernel
theorem dX2_oneLine_159 : decode cX2_oneLine 159 = .ok (.aload_n 0, 1) := by decide +kernel
theorem dX2_oneLine_160 : decode cX2_oneLine 160 = .ok (.getfield 171, 3) := by decide +kernel
theorem dX2_oneLine_163 : decode cX2_oneLine 163 = .ok (.iload_n 1, 1) := by decide +kernel
theorem dX2_oneLine_164 : decode cX2_oneLine 164 = .ok (.iaload, 1) := by decide +kernel
theorem dX2_oneLine_165 : decode cX2_oneLine 165 = .ok (.bipush 7, 2) := by decide +kernel
theorem dX2_oneLine_167 : decode cX2_oneLine 167 = .ok (.if_icmp .ne 7, 3) := by decide +kernel
theorem dX2_oneLine_170 : decode cX2_oneLine 170 = .ok (.iconst 1, 1) := by decide +kernel
theorem dX2_oneLine_171 : decode cX2_oneLine 171 = .ok (.goto 4, 3) := by decide +kernel
theorem dX2_oneLine_174 : decode cX2_oneLine 174 = .ok (.iconst 0, 1) := by decide +kernel
theorem dX2_oneLine_175 : decode cX2_oneLine 175 = .ok (.istore_n 2, 1) := by decide +kernel
theorem dX2_oneLine_176 : decode cX2_oneLine 176 = .ok (.iload_n 2, 1) := by decide +kernel
theorem dX2_oneLine_177 : decode cX2_oneLine 177 = .ok (.ifCond .eq 21, 3) := by decide +kernel
theorem dX2_oneLine_180 : decode cX2_oneLine 180 = .ok (.aload_n 0, 1) := by decide +kernel
theorem dX2_oneLine_181 : decode cX2_oneLine 181 = .ok (.getfield 301, 3) := by decide +kernel
theorem dX2_oneLine_184 : decode cX2_oneLine 184 = .ok (.bipush 100, 2) := by decide +kernel
theorem dX2_oneLine_186 : decode cX2_oneLine 186 = .ok (.if_icmp .le 12, 3) := by decide +kernel
theorem dX2_oneLine_189 : decode cX2_oneLine 189 = .ok (.aload_n 0, 1) := by decide +kernel
theorem dX2_oneLine_190 : decode cX2_oneLine 190 = .ok (.iconst 2, 1) := by decide +kernel
theorem dX2_oneLine_191 : decode cX2_oneLine 191 = .ok (.aload_n 0, 1) := by decide +kernel
theorem dX2_oneLine_192 : decode cX2_oneLine 192 = .ok (.getfield 298, 3) := by decide +kernel
theorem dX2_oneLine_195 : decode cX2_oneLine 195 = .ok (.invokevirtual 367, 3) := by decide +kernel
theorem dX2_oneLine_198 : decode cX2_oneLine 198 = .ok (.aload_n 0, 1) := by decide +kernel
theorem dX2_oneLine_199 : decode cX2_oneLine 199 = .ok (.getfield 177, 3) := by decide +kernel
theorem dX2_oneLine_202 : decode cX2_oneLine 202 = .ok (.iload_n 1, 1) := by decide +kernel
theorem dX2_oneLine_203 : decode cX2_oneLine 203 = .ok (.aload_n 0, 1) := by decide +kernel
theorem dX2_oneLine_204 : decode cX2_oneLine 204 = .ok (.getfield 301, 3) := by decide +kernel
theorem dX2_oneLine_207 : decode cX2_oneLine 207 = .ok (.iastore, 1) := by decide +kernel
theorem dX2_oneLine_208 : decode cX2_oneLine 208 = .ok (.goto 52, 3) := by decide +kernel
theorem dX2_oneLine_211 : decode cX2_oneLine 211 = .ok (.aload_n 0, 1) := by decide +kernel
theorem dX2_oneLine_212 : decode cX2_oneLine 212 = .ok (.ldc2_w 391, 3) := by decide +kernel
theorem dX2_oneLine_215 : decode cX2_oneLine 215 = .ok (.invokevirtual 331, 3) := by decide +kernel
theorem dX2_oneLine_218 : decode cX2_oneLine 218 = .ok (.ifCond .ne 13, 3) := by decide +kernel
theorem dX2_oneLine_221 : decode cX2_oneLine 221 = .ok (.aload_n 0, 1) := by decide +kernel
theorem dX2_oneLine_222 : decode cX2_oneLine 222 = .ok (.ldc2_w 393, 3) := by decide +kernel
theorem dX2_oneLine_225 : decode cX2_oneLine 225 = .ok (.invokevirtual 331, 3) := by decide +kernel
theorem dX2_oneLine_228 : decode cX2_oneLine 228 = .ok (.ifCond .eq 27, 3) := by decide +kernel
theorem dX2_oneLine_231 : decode cX2_oneLine 231 = .ok (.aload_n 0, 1) := by decide +kernel
theorem dX2_oneLine_232 : decode cX2_oneLine 232 = .ok (.getfield 177, 3) := by decide +kernel
theorem dX2_oneLine_235 : decode cX2_oneLine 235 = .ok (.iload_n 1, 1) := by decide +kernel
theorem dX2_oneLine_236 : decode cX2_oneLine 236 = .ok (.aload_n 0, 1) := by decide +kernel
theorem dX2_oneLine_237 : decode cX2_oneLine 237 = .ok (.ldc2_w 391, 3) := by decide +kernel
theorem dX2_oneLine_240 : decode cX2_oneLine 240 = .ok (.invokevirtual 331, 3) := by decide +kernel
theorem dX2_oneLine_243 : decode cX2_oneLine 243 = .ok (.ifCond .eq 7, 3) := by decide +kernel
theorem dX2_oneLine_246 : decode cX2_oneLine 246 = .ok (.iconst 1, 1) := by decide +kernel
theorem dX2_oneLine_247 : decode cX2_oneLine 247 = .ok (.goto 4, 3) := by decide +kernel
theorem dX2_oneLine_250 : decode cX2_oneLine 250 = .ok (.iconst 0, 1) := by decide +kernel
theorem dX2_oneLine_251 : decode cX2_oneLine 251 = .ok (.iastore, 1) := by decide +kernel
theorem dX2_oneLine_252 : decode cX2_oneLine 252 = .ok (.goto 8, 3) := by decide +kernel
theorem dX2_oneLine_255 : decode cX2_oneLine 255 = .ok (.aload_n 0, 1) := by decide +kernel
theorem dX2_oneLine_256 : decode cX2_oneLine 256 = .ok (.invokevirtual 323, 3) := by decide +kernel
theorem dX2_oneLine_259 : decode cX2_oneLine 259 = .ok (.ireturn, 1) := by decide +kernel
theorem dX2_oneLine_260 : decode cX2_oneLine 260 = .ok (.aload_n 0, 1) := by decide +kernel
theorem dX2_oneLine_261 : decode cX2_oneLine 261 = .ok (.invokevirtual 326, 3) := by decide +kernel
theorem dX2_oneLine_264 : decode cX2_oneLine 264 = .ok (.aload_n 0, 1) := by decide +kernel
theorem dX2_oneLine_265 : decode cX2_oneLine 265 = .ok (.dup, 1) := by decide +kernel
theorem dX2_oneLine_266 : decode cX2_oneLine 266 = .ok (.getfield 375, 3) := by decide +kernel
theorem dX2_oneLine_269 : decode cX2_oneLine 269 = .ok (.iconst 1, 1) := by decide +kernel
theorem dX2_oneLine_270 : decode cX2_oneLine 270 = .ok (.iadd, 1) := by decide +kernel
theorem dX2_oneLine_271 : decode cX2_oneLine 271 = .ok (.putfield 375, 3) := by decide +kernel
theorem dX2_oneLine_274 : decode cX2_oneLine 274 = .ok (.aload_n 0, 1) := by decide +kernel
theorem dX2_oneLine_275 : decode cX2_oneLine 275 = .ok (.bipush 59, 2) := by decide +kernel
theorem dX2_oneLine_277 : decode cX2_oneLine 277 = .ok (.invokevirtual 388, 3) := by decide +kernel
theorem dX2_oneLine_280 : decode cX2_oneLine 280 = .ok (.ireturn, 1) := by decide +kernel
abbrev cX2_later : ByteArray := prog_15_method_37_code
def yX2_later : MethodName := ⟨RX2, "later", "(II)V"⟩
theorem dX2_later_0 : decode cX2_later 0 = .ok (.aload_n 0, 1) := by decide +kernel
theorem dX2_later_1 : decode cX2_later 1 = .ok (.getfield 314, 3) := by decide +kernel
theorem dX2_later_4 : decode cX2_later 4 = .ok (.ifCond .ne 13, 3) := by decide +kernel
theorem dX2_later_7 : decode cX2_later 7 = .ok (.aload_n 0, 1) := by decide +kernel
theorem dX2_later_8 : decode cX2_later 8 = .ok (.iload_n 1, 1) := by decide +kernel
theorem dX2_later_9 : decode cX2_later 9 = .ok (.putfield 314, 3) := by decide +kernel
theorem dX2_later_12 : decode cX2_later 12 = .ok (.aload_n 0, 1) := by decide +kernel
theorem dX2_later_13 : decode cX2_later 13 = .ok (.iload_n 2, 1) := by decide +kernel
theorem dX2_later_14 : decode cX2_later 14 = .ok (.putfield 317, 3) := by decide +kernel
theorem dX2_later_17 : decode cX2_later 17 = .ok (.return_, 1) := by decide +kernel
abbrev cX2_topicWord : ByteArray := prog_15_method_39_code
def yX2_topicWord : MethodName := ⟨RX2, "topicWord", "()I"⟩
theorem dX2_topicWord_0 : decode cX2_topicWord 0 = .ok (.aload_n 0, 1) := by decide +kernel
theorem dX2_topicWord_1 : decode cX2_topicWord 1 = .ok (.ldc2_w 329, 3) := by decide +kernel
theorem dX2_topicWord_4 : decode cX2_topicWord 4 = .ok (.invokevirtual 331, 3) := by decide +kernel
theorem dX2_topicWord_7 : decode cX2_topicWord 7 = .ok (.ifCond .eq 7, 3) := by decide +kernel
theorem dX2_topicWord_10 : decode cX2_topicWord 10 = .ok (.iconst 0, 1) := by decide +kernel
theorem dX2_topicWord_11 : decode cX2_topicWord 11 = .ok (.goto 119, 3) := by decide +kernel
theorem dX2_topicWord_14 : decode cX2_topicWord 14 = .ok (.aload_n 0, 1) := by decide +kernel
theorem dX2_topicWord_15 : decode cX2_topicWord 15 = .ok (.ldc2_w 335, 3) := by decide +kernel
theorem dX2_topicWord_18 : decode cX2_topicWord 18 = .ok (.invokevirtual 331, 3) := by decide +kernel
theorem dX2_topicWord_21 : decode cX2_topicWord 21 = .ok (.ifCond .eq 7, 3) := by decide +kernel
theorem dX2_topicWord_24 : decode cX2_topicWord 24 = .ok (.iconst 1, 1) := by decide +kernel
theorem dX2_topicWord_25 : decode cX2_topicWord 25 = .ok (.goto 105, 3) := by decide +kernel
theorem dX2_topicWord_28 : decode cX2_topicWord 28 = .ok (.aload_n 0, 1) := by decide +kernel
theorem dX2_topicWord_29 : decode cX2_topicWord 29 = .ok (.ldc2_w 337, 3) := by decide +kernel
theorem dX2_topicWord_32 : decode cX2_topicWord 32 = .ok (.invokevirtual 331, 3) := by decide +kernel
theorem dX2_topicWord_35 : decode cX2_topicWord 35 = .ok (.ifCond .eq 7, 3) := by decide +kernel
theorem dX2_topicWord_38 : decode cX2_topicWord 38 = .ok (.iconst 2, 1) := by decide +kernel
theorem dX2_topicWord_39 : decode cX2_topicWord 39 = .ok (.goto 91, 3) := by decide +kernel
theorem dX2_topicWord_42 : decode cX2_topicWord 42 = .ok (.aload_n 0, 1) := by decide +kernel
theorem dX2_topicWord_43 : decode cX2_topicWord 43 = .ok (.ldc2_w 339, 3) := by decide +kernel
theorem dX2_topicWord_46 : decode cX2_topicWord 46 = .ok (.invokevirtual 331, 3) := by decide +kernel
theorem dX2_topicWord_49 : decode cX2_topicWord 49 = .ok (.ifCond .eq 7, 3) := by decide +kernel
theorem dX2_topicWord_52 : decode cX2_topicWord 52 = .ok (.iconst 3, 1) := by decide +kernel
theorem dX2_topicWord_53 : decode cX2_topicWord 53 = .ok (.goto 77, 3) := by decide +kernel
theorem dX2_topicWord_56 : decode cX2_topicWord 56 = .ok (.aload_n 0, 1) := by decide +kernel
theorem dX2_topicWord_57 : decode cX2_topicWord 57 = .ok (.ldc2_w 341, 3) := by decide +kernel
theorem dX2_topicWord_60 : decode cX2_topicWord 60 = .ok (.invokevirtual 331, 3) := by decide +kernel
theorem dX2_topicWord_63 : decode cX2_topicWord 63 = .ok (.ifCond .eq 7, 3) := by decide +kernel
theorem dX2_topicWord_66 : decode cX2_topicWord 66 = .ok (.iconst 4, 1) := by decide +kernel
theorem dX2_topicWord_67 : decode cX2_topicWord 67 = .ok (.goto 63, 3) := by decide +kernel
theorem dX2_topicWord_70 : decode cX2_topicWord 70 = .ok (.aload_n 0, 1) := by decide +kernel
theorem dX2_topicWord_71 : decode cX2_topicWord 71 = .ok (.ldc2_w 343, 3) := by decide +kernel
theorem dX2_topicWord_74 : decode cX2_topicWord 74 = .ok (.invokevirtual 331, 3) := by decide +kernel
theorem dX2_topicWord_77 : decode cX2_topicWord 77 = .ok (.ifCond .eq 7, 3) := by decide +kernel
theorem dX2_topicWord_80 : decode cX2_topicWord 80 = .ok (.iconst 5, 1) := by decide +kernel
theorem dX2_topicWord_81 : decode cX2_topicWord 81 = .ok (.goto 49, 3) := by decide +kernel
theorem dX2_topicWord_84 : decode cX2_topicWord 84 = .ok (.aload_n 0, 1) := by decide +kernel
theorem dX2_topicWord_85 : decode cX2_topicWord 85 = .ok (.ldc2_w 345, 3) := by decide +kernel
theorem dX2_topicWord_88 : decode cX2_topicWord 88 = .ok (.invokevirtual 331, 3) := by decide +kernel
theorem dX2_topicWord_91 : decode cX2_topicWord 91 = .ok (.ifCond .eq 8, 3) := by decide +kernel
theorem dX2_topicWord_94 : decode cX2_topicWord 94 = .ok (.bipush 6, 2) := by decide +kernel
theorem dX2_topicWord_96 : decode cX2_topicWord 96 = .ok (.goto 34, 3) := by decide +kernel
theorem dX2_topicWord_99 : decode cX2_topicWord 99 = .ok (.aload_n 0, 1) := by decide +kernel
theorem dX2_topicWord_100 : decode cX2_topicWord 100 = .ok (.ldc2_w 347, 3) := by decide +kernel
theorem dX2_topicWord_103 : decode cX2_topicWord 103 = .ok (.invokevirtual 331, 3) := by decide +kernel
theorem dX2_topicWord_106 : decode cX2_topicWord 106 = .ok (.ifCond .eq 8, 3) := by decide +kernel
theorem dX2_topicWord_109 : decode cX2_topicWord 109 = .ok (.bipush 7, 2) := by decide +kernel
theorem dX2_topicWord_111 : decode cX2_topicWord 111 = .ok (.goto 19, 3) := by decide +kernel
theorem dX2_topicWord_114 : decode cX2_topicWord 114 = .ok (.aload_n 0, 1) := by decide +kernel
theorem dX2_topicWord_115 : decode cX2_topicWord 115 = .ok (.ldc2_w 349, 3) := by decide +kernel
theorem dX2_topicWord_118 : decode cX2_topicWord 118 = .ok (.invokevirtual 331, 3) := by decide +kernel
theorem dX2_topicWord_121 : decode cX2_topicWord 121 = .ok (.ifCond .eq 8, 3) := by decide +kernel
theorem dX2_topicWord_124 : decode cX2_topicWord 124 = .ok (.bipush 8, 2) := by decide +kernel
theorem dX2_topicWord_126 : decode cX2_topicWord 126 = .ok (.goto 4, 3) := by decide +kernel
theorem dX2_topicWord_129 : decode cX2_topicWord 129 = .ok (.iconst (-1), 1) := by decide +kernel
theorem dX2_topicWord_130 : decode cX2_topicWord 130 = .ok (.ireturn, 1) := by decide +kernel
abbrev cX2_isWord : ByteArray := prog_15_method_34_code
def yX2_isWord : MethodName := ⟨RX2, "isWord", "(J)Z"⟩
theorem dX2_isWord_0 : decode cX2_isWord 0 = .ok (.aload_n 0, 1) := by decide +kernel
theorem dX2_isWord_1 : decode cX2_isWord 1 = .ok (.getfield 308, 3) := by decide +kernel
theorem dX2_isWord_4 : decode cX2_isWord 4 = .ok (.iconst 2, 1) := by decide +kernel
theorem dX2_isWord_5 : decode cX2_isWord 5 = .ok (.if_icmp .ne 16, 3) := by decide +kernel
theorem dX2_isWord_8 : decode cX2_isWord 8 = .ok (.aload_n 0, 1) := by decide +kernel
theorem dX2_isWord_9 : decode cX2_isWord 9 = .ok (.getfield 304, 3) := by decide +kernel
theorem dX2_isWord_12 : decode cX2_isWord 12 = .ok (.lload_n 1, 1) := by decide +kernel
theorem dX2_isWord_13 : decode cX2_isWord 13 = .ok (.lcmp, 1) := by decide +kernel
theorem dX2_isWord_14 : decode cX2_isWord 14 = .ok (.ifCond .ne 7, 3) := by decide +kernel
theorem dX2_isWord_17 : decode cX2_isWord 17 = .ok (.iconst 1, 1) := by decide +kernel
theorem dX2_isWord_18 : decode cX2_isWord 18 = .ok (.goto 4, 3) := by decide +kernel
theorem dX2_isWord_21 : decode cX2_isWord 21 = .ok (.iconst 0, 1) := by decide +kernel
theorem dX2_isWord_22 : decode cX2_isWord 22 = .ok (.ireturn, 1) := by decide +kernel
abbrev cX2_wrong : ByteArray := prog_15_method_36_code
def yX2_wrong : MethodName := ⟨RX2, "wrong", "()Z"⟩
theorem dX2_wrong_0 : decode cX2_wrong 0 = .ok (.aload_n 0, 1) := by decide +kernel
theorem dX2_wrong_1 : decode cX2_wrong 1 = .ok (.aload_n 0, 1) := by decide +kernel
theorem dX2_wrong_2 : decode cX2_wrong 2 = .ok (.getfield 298, 3) := by decide +kernel
theorem dX2_wrong_5 : decode cX2_wrong 5 = .ok (.putfield 311, 3) := by decide +kernel
theorem dX2_wrong_8 : decode cX2_wrong 8 = .ok (.iconst 0, 1) := by decide +kernel
theorem dX2_wrong_9 : decode cX2_wrong 9 = .ok (.ireturn, 1) := by decide +kernel
abbrev cX2_test : ByteArray := prog_15_method_41_code
def yX2_test : MethodName := ⟨RX2, "test", "(II)Z"⟩
theorem dX2_test_0 : decode cX2_test 0 = .ok (.iload_n 2, 1) := by decide +kernel
theorem dX2_test_1 : decode cX2_test 1 = .ok (.iconst 4, 1) := by decide +kernel
theorem dX2_test_2 : decode cX2_test 2 = .ok (.if_icmp .ne 12, 3) := by decide +kernel
theorem dX2_test_5 : decode cX2_test 5 = .ok (.aload_n 0, 1) := by decide +kernel
theorem dX2_test_6 : decode cX2_test 6 = .ok (.iconst 3, 1) := by decide +kernel
theorem dX2_test_7 : decode cX2_test 7 = .ok (.aload_n 0, 1) := by decide +kernel
theorem dX2_test_8 : decode cX2_test 8 = .ok (.getfield 298, 3) := by decide +kernel
theorem dX2_test_11 : decode cX2_test 11 = .ok (.invokevirtual 367, 3) := by decide +kernel
theorem dX2_test_14 : decode cX2_test 14 = .ok (.aload_n 0, 1) := by decide +kernel
theorem dX2_test_15 : decode cX2_test 15 = .ok (.ldc2_w 370, 3) := by decide +kernel
theorem dX2_test_18 : decode cX2_test 18 = .ok (.invokevirtual 331, 3) := by decide +kernel
theorem dX2_test_21 : decode cX2_test 21 = .ok (.istore_n 3, 1) := by decide +kernel
theorem dX2_test_22 : decode cX2_test 22 = .ok (.iload_n 3, 1) := by decide +kernel
theorem dX2_test_23 : decode cX2_test 23 = .ok (.ifCond .eq 7, 3) := by decide +kernel
theorem dX2_test_26 : decode cX2_test 26 = .ok (.aload_n 0, 1) := by decide +kernel
theorem dX2_test_27 : decode cX2_test 27 = .ok (.invokevirtual 326, 3) := by decide +kernel
theorem dX2_test_30 : decode cX2_test 30 = .ok (.aload_n 0, 1) := by decide +kernel
theorem dX2_test_31 : decode cX2_test 31 = .ok (.invokevirtual 372, 3) := by decide +kernel
theorem dX2_test_34 : decode cX2_test 34 = .ok (.istore 4, 2) := by decide +kernel
theorem dX2_test_36 : decode cX2_test 36 = .ok (.iload 4, 2) := by decide +kernel
theorem dX2_test_38 : decode cX2_test 38 = .ok (.iconst (-1), 1) := by decide +kernel
theorem dX2_test_39 : decode cX2_test 39 = .ok (.if_icmp .ne 8, 3) := by decide +kernel
theorem dX2_test_42 : decode cX2_test 42 = .ok (.aload_n 0, 1) := by decide +kernel
theorem dX2_test_43 : decode cX2_test 43 = .ok (.invokevirtual 323, 3) := by decide +kernel
theorem dX2_test_46 : decode cX2_test 46 = .ok (.ireturn, 1) := by decide +kernel
theorem dX2_test_47 : decode cX2_test 47 = .ok (.aload_n 0, 1) := by decide +kernel
theorem dX2_test_48 : decode cX2_test 48 = .ok (.invokevirtual 326, 3) := by decide +kernel
theorem dX2_test_51 : decode cX2_test 51 = .ok (.aload_n 0, 1) := by decide +kernel
theorem dX2_test_52 : decode cX2_test 52 = .ok (.getfield 301, 3) := by decide +kernel
theorem dX2_test_55 : decode cX2_test 55 = .ok (.istore 5, 2) := by decide +kernel
theorem dX2_test_57 : decode cX2_test 57 = .ok (.aload_n 0, 1) := by decide +kernel
theorem dX2_test_58 : decode cX2_test 58 = .ok (.getfield 308, 3) := by decide +kernel
theorem dX2_test_61 : decode cX2_test 61 = .ok (.iconst 4, 1) := by decide +kernel
theorem dX2_test_62 : decode cX2_test 62 = .ok (.if_icmp .ne 24, 3) := by decide +kernel
theorem dX2_test_65 : decode cX2_test 65 = .ok (.iload 5, 2) := by decide +kernel
theorem dX2_test_67 : decode cX2_test 67 = .ok (.bipush 60, 2) := by decide +kernel
theorem dX2_test_69 : decode cX2_test 69 = .ok (.if_icmp .eq 22, 3) := by decide +kernel
theorem dX2_test_72 : decode cX2_test 72 = .ok (.iload 5, 2) := by decide +kernel
theorem dX2_test_74 : decode cX2_test 74 = .ok (.bipush 62, 2) := by decide +kernel
theorem dX2_test_76 : decode cX2_test 76 = .ok (.if_icmp .eq 15, 3) := by decide +kernel
theorem dX2_test_79 : decode cX2_test 79 = .ok (.iload 5, 2) := by decide +kernel
theorem dX2_test_81 : decode cX2_test 81 = .ok (.bipush 61, 2) := by decide +kernel
theorem dX2_test_83 : decode cX2_test 83 = .ok (.if_icmp .eq 8, 3) := by decide +kernel
theorem dX2_test_86 : decode cX2_test 86 = .ok (.aload_n 0, 1) := by decide +kernel
theorem dX2_test_87 : decode cX2_test 87 = .ok (.invokevirtual 323, 3) := by decide +kernel
theorem dX2_test_90 : decode cX2_test 90 = .ok (.ireturn, 1) := by decide +kernel
theorem dX2_test_91 : decode cX2_test 91 = .ok (.aload_n 0, 1) := by decide +kernel
theorem dX2_test_92 : decode cX2_test 92 = .ok (.invokevirtual 326, 3) := by decide +kernel
theorem dX2_test_95 : decode cX2_test 95 = .ok (.aload_n 0, 1) := by decide +kernel
theorem dX2_test_96 : decode cX2_test 96 = .ok (.getfield 308, 3) := by decide +kernel
theorem dX2_test_99 : decode cX2_test 99 = .ok (.iconst 3, 1) := by decide +kernel
theorem dX2_test_100 : decode cX2_test 100 = .ok (.if_icmp .eq 8, 3) := by decide +kernel
theorem dX2_test_103 : decode cX2_test 103 = .ok (.aload_n 0, 1) := by decide +kernel
theorem dX2_test_104 : decode cX2_test 104 = .ok (.invokevirtual 323, 3) := by decide +kernel
theorem dX2_test_107 : decode cX2_test 107 = .ok (.ireturn, 1) := by decide +kernel
theorem dX2_test_108 : decode cX2_test 108 = .ok (.aload_n 0, 1) := by decide +kernel
theorem dX2_test_109 : decode cX2_test 109 = .ok (.getfield 301, 3) := by decide +kernel
theorem dX2_test_112 : decode cX2_test 112 = .ok (.istore 6, 2) := by decide +kernel
theorem dX2_test_114 : decode cX2_test 114 = .ok (.aload_n 0, 1) := by decide +kernel
theorem dX2_test_115 : decode cX2_test 115 = .ok (.invokevirtual 326, 3) := by decide +kernel
theorem dX2_test_118 : decode cX2_test 118 = .ok (.iload_n 2, 1) := by decide +kernel
theorem dX2_test_119 : decode cX2_test 119 = .ok (.iconst 4, 1) := by decide +kernel
theorem dX2_test_120 : decode cX2_test 120 = .ok (.if_icmp .ge 64, 3) := by decide +kernel
theorem dX2_test_123 : decode cX2_test 123 = .ok (.iload_n 1, 1) := by decide +kernel
theorem dX2_test_124 : decode cX2_test 124 = .ok (.bipush 20, 2) := by decide +kernel
theorem dX2_test_126 : decode cX2_test 126 = .ok (.if_icmp .ge 58, 3) := by decide +kernel
theorem dX2_test_129 : decode cX2_test 129 = .ok (.iconst 4, 1) := by decide +kernel
theorem dX2_test_130 : decode cX2_test 130 = .ok (.iload_n 1, 1) := by decide +kernel
theorem dX2_test_131 : decode cX2_test 131 = .ok (.imul, 1) := by decide +kernel
theorem dX2_test_132 : decode cX2_test 132 = .ok (.iload_n 2, 1) := by decide +kernel
theorem dX2_test_133 : decode cX2_test 133 = .ok (.iadd, 1) := by decide +kernel
theorem dX2_test_134 : decode cX2_test 134 = .ok (.istore 7, 2) := by decide +kernel
theorem dX2_test_136 : decode cX2_test 136 = .ok (.aload_n 0, 1) := by decide +kernel
theorem dX2_test_137 : decode cX2_test 137 = .ok (.getfield 180, 3) := by decide +kernel
theorem dX2_test_140 : decode cX2_test 140 = .ok (.iload 7, 2) := by decide +kernel
theorem dX2_test_142 : decode cX2_test 142 = .ok (.iload_n 3, 1) := by decide +kernel
theorem dX2_test_143 : decode cX2_test 143 = .ok (.ifCond .eq 11, 3) := by decide +kernel
theorem dX2_test_146 : decode cX2_test 146 = .ok (.iload 4, 2) := by decide +kernel
theorem dX2_test_148 : decode cX2_test 148 = .ok (.bipush 8, 2) := by decide +kernel
theorem dX2_test_150 : decode cX2_test 150 = .ok (.iadd, 1) := by decide +kernel
theorem dX2_test_151 : decode cX2_test 151 = .ok (.goto 5, 3) := by decide +kernel
theorem dX2_test_154 : decode cX2_test 154 = .ok (.iload 4, 2) := by decide +kernel
theorem dX2_test_156 : decode cX2_test 156 = .ok (.iastore, 1) := by decide +kernel
theorem dX2_test_157 : decode cX2_test 157 = .ok (.aload_n 0, 1) := by decide +kernel
theorem dX2_test_158 : decode cX2_test 158 = .ok (.getfield 183, 3) := by decide +kernel
theorem dX2_test_161 : decode cX2_test 161 = .ok (.iload 7, 2) := by decide +kernel
theorem dX2_test_163 : decode cX2_test 163 = .ok (.iload 5, 2) := by decide +kernel
theorem dX2_test_165 : decode cX2_test 165 = .ok (.iastore, 1) := by decide +kernel
theorem dX2_test_166 : decode cX2_test 166 = .ok (.aload_n 0, 1) := by decide +kernel
theorem dX2_test_167 : decode cX2_test 167 = .ok (.getfield 186, 3) := by decide +kernel
theorem dX2_test_170 : decode cX2_test 170 = .ok (.iload 7, 2) := by decide +kernel
theorem dX2_test_172 : decode cX2_test 172 = .ok (.iload 6, 2) := by decide +kernel
theorem dX2_test_174 : decode cX2_test 174 = .ok (.iastore, 1) := by decide +kernel
theorem dX2_test_175 : decode cX2_test 175 = .ok (.aload_n 0, 1) := by decide +kernel
theorem dX2_test_176 : decode cX2_test 176 = .ok (.getfield 174, 3) := by decide +kernel
theorem dX2_test_179 : decode cX2_test 179 = .ok (.iload_n 1, 1) := by decide +kernel
theorem dX2_test_180 : decode cX2_test 180 = .ok (.iload_n 2, 1) := by decide +kernel
theorem dX2_test_181 : decode cX2_test 181 = .ok (.iconst 1, 1) := by decide +kernel
theorem dX2_test_182 : decode cX2_test 182 = .ok (.iadd, 1) := by decide +kernel
theorem dX2_test_183 : decode cX2_test 183 = .ok (.iastore, 1) := by decide +kernel
theorem dX2_test_184 : decode cX2_test 184 = .ok (.iconst 1, 1) := by decide +kernel
theorem dX2_test_185 : decode cX2_test 185 = .ok (.ireturn, 1) := by decide +kernel
abbrev cX2_testWord : ByteArray := prog_15_method_40_code
def yX2_testWord : MethodName := ⟨RX2, "testWord", "()I"⟩
theorem dX2_testWord_0 : decode cX2_testWord 0 = .ok (.aload_n 0, 1) := by decide +kernel
theorem dX2_testWord_1 : decode cX2_testWord 1 = .ok (.ldc2_w 351, 3) := by decide +kernel
theorem dX2_testWord_4 : decode cX2_testWord 4 = .ok (.invokevirtual 331, 3) := by decide +kernel
theorem dX2_testWord_7 : decode cX2_testWord 7 = .ok (.ifCond .eq 7, 3) := by decide +kernel
theorem dX2_testWord_10 : decode cX2_testWord 10 = .ok (.iconst 0, 1) := by decide +kernel
theorem dX2_testWord_11 : decode cX2_testWord 11 = .ok (.goto 104, 3) := by decide +kernel
theorem dX2_testWord_14 : decode cX2_testWord 14 = .ok (.aload_n 0, 1) := by decide +kernel
theorem dX2_testWord_15 : decode cX2_testWord 15 = .ok (.ldc2_w 353, 3) := by decide +kernel
theorem dX2_testWord_18 : decode cX2_testWord 18 = .ok (.invokevirtual 331, 3) := by decide +kernel
theorem dX2_testWord_21 : decode cX2_testWord 21 = .ok (.ifCond .eq 7, 3) := by decide +kernel
theorem dX2_testWord_24 : decode cX2_testWord 24 = .ok (.iconst 1, 1) := by decide +kernel
theorem dX2_testWord_25 : decode cX2_testWord 25 = .ok (.goto 90, 3) := by decide +kernel
theorem dX2_testWord_28 : decode cX2_testWord 28 = .ok (.aload_n 0, 1) := by decide +kernel
theorem dX2_testWord_29 : decode cX2_testWord 29 = .ok (.ldc2_w 355, 3) := by decide +kernel
theorem dX2_testWord_32 : decode cX2_testWord 32 = .ok (.invokevirtual 331, 3) := by decide +kernel
theorem dX2_testWord_35 : decode cX2_testWord 35 = .ok (.ifCond .eq 7, 3) := by decide +kernel
theorem dX2_testWord_38 : decode cX2_testWord 38 = .ok (.iconst 2, 1) := by decide +kernel
theorem dX2_testWord_39 : decode cX2_testWord 39 = .ok (.goto 76, 3) := by decide +kernel
theorem dX2_testWord_42 : decode cX2_testWord 42 = .ok (.aload_n 0, 1) := by decide +kernel
theorem dX2_testWord_43 : decode cX2_testWord 43 = .ok (.ldc2_w 357, 3) := by decide +kernel
theorem dX2_testWord_46 : decode cX2_testWord 46 = .ok (.invokevirtual 331, 3) := by decide +kernel
theorem dX2_testWord_49 : decode cX2_testWord 49 = .ok (.ifCond .eq 7, 3) := by decide +kernel
theorem dX2_testWord_52 : decode cX2_testWord 52 = .ok (.iconst 3, 1) := by decide +kernel
theorem dX2_testWord_53 : decode cX2_testWord 53 = .ok (.goto 62, 3) := by decide +kernel
theorem dX2_testWord_56 : decode cX2_testWord 56 = .ok (.aload_n 0, 1) := by decide +kernel
theorem dX2_testWord_57 : decode cX2_testWord 57 = .ok (.ldc2_w 359, 3) := by decide +kernel
theorem dX2_testWord_60 : decode cX2_testWord 60 = .ok (.invokevirtual 331, 3) := by decide +kernel
theorem dX2_testWord_63 : decode cX2_testWord 63 = .ok (.ifCond .eq 7, 3) := by decide +kernel
theorem dX2_testWord_66 : decode cX2_testWord 66 = .ok (.iconst 4, 1) := by decide +kernel
theorem dX2_testWord_67 : decode cX2_testWord 67 = .ok (.goto 48, 3) := by decide +kernel
theorem dX2_testWord_70 : decode cX2_testWord 70 = .ok (.aload_n 0, 1) := by decide +kernel
theorem dX2_testWord_71 : decode cX2_testWord 71 = .ok (.ldc2_w 361, 3) := by decide +kernel
theorem dX2_testWord_74 : decode cX2_testWord 74 = .ok (.invokevirtual 331, 3) := by decide +kernel
theorem dX2_testWord_77 : decode cX2_testWord 77 = .ok (.ifCond .eq 7, 3) := by decide +kernel
theorem dX2_testWord_80 : decode cX2_testWord 80 = .ok (.iconst 5, 1) := by decide +kernel
theorem dX2_testWord_81 : decode cX2_testWord 81 = .ok (.goto 34, 3) := by decide +kernel
theorem dX2_testWord_84 : decode cX2_testWord 84 = .ok (.aload_n 0, 1) := by decide +kernel
theorem dX2_testWord_85 : decode cX2_testWord 85 = .ok (.ldc2_w 363, 3) := by decide +kernel
theorem dX2_testWord_88 : decode cX2_testWord 88 = .ok (.invokevirtual 331, 3) := by decide +kernel
theorem dX2_testWord_91 : decode cX2_testWord 91 = .ok (.ifCond .eq 8, 3) := by decide +kernel
theorem dX2_testWord_94 : decode cX2_testWord 94 = .ok (.bipush 6, 2) := by decide +kernel
theorem dX2_testWord_96 : decode cX2_testWord 96 = .ok (.goto 19, 3) := by decide +kernel
theorem dX2_testWord_99 : decode cX2_testWord 99 = .ok (.aload_n 0, 1) := by decide +kernel
theorem dX2_testWord_100 : decode cX2_testWord 100 = .ok (.ldc2_w 365, 3) := by decide +kernel
theorem dX2_testWord_103 : decode cX2_testWord 103 = .ok (.invokevirtual 331, 3) := by decide +kernel
theorem dX2_testWord_106 : decode cX2_testWord 106 = .ok (.ifCond .eq 8, 3) := by decide +kernel
theorem dX2_testWord_109 : decode cX2_testWord 109 = .ok (.bipush 7, 2) := by decide +kernel
theorem dX2_testWord_111 : decode cX2_testWord 111 = .ok (.goto 4, 3) := by decide +kernel
theorem dX2_testWord_114 : decode cX2_testWord 114 = .ok (.iconst (-1), 1) := by decide +kernel
theorem dX2_testWord_115 : decode cX2_testWord 115 = .ok (.ireturn, 1) := by decide +kernel
abbrev cX2_need : ByteArray := prog_15_method_38_code
def yX2_need : MethodName := ⟨RX2, "need", "(I)Z"⟩
theorem dX2_need_0 : decode cX2_need 0 = .ok (.aload_n 0, 1) := by decide +kernel
theorem dX2_need_1 : decode cX2_need 1 = .ok (.iload_n 1, 1) := by decide +kernel
theorem dX2_need_2 : decode cX2_need 2 = .ok (.invokevirtual 320, 3) := by decide +kernel
theorem dX2_need_5 : decode cX2_need 5 = .ok (.ifCond .ne 8, 3) := by decide +kernel
theorem dX2_need_8 : decode cX2_need 8 = .ok (.aload_n 0, 1) := by decide +kernel
theorem dX2_need_9 : decode cX2_need 9 = .ok (.invokevirtual 323, 3) := by decide +kernel
theorem dX2_need_12 : decode cX2_need 12 = .ok (.ireturn, 1) := by decide +kernel
theorem dX2_need_13 : decode cX2_need 13 = .ok (.aload_n 0, 1) := by decide +kernel
theorem dX2_need_14 : decode cX2_need 14 = .ok (.invokevirtual 326, 3) := by decide +kernel
theorem dX2_need_17 : decode cX2_need 17 = .ok (.iconst 1, 1) := by decide +kernel
theorem dX2_need_18 : decode cX2_need 18 = .ok (.ireturn, 1) := by decide +kernel
abbrev cX2_isSign : ByteArray := prog_15_method_35_code
def yX2_isSign : MethodName := ⟨RX2, "isSign", "(I)Z"⟩
theorem dX2_isSign_0 : decode cX2_isSign 0 = .ok (.aload_n 0, 1) := by decide +kernel
theorem dX2_isSign_1 : decode cX2_isSign 1 = .ok (.getfield 308, 3) := by decide +kernel
theorem dX2_isSign_4 : decode cX2_isSign 4 = .ok (.iconst 4, 1) := by decide +kernel
theorem dX2_isSign_5 : decode cX2_isSign 5 = .ok (.if_icmp .ne 15, 3) := by decide +kernel
theorem dX2_isSign_8 : decode cX2_isSign 8 = .ok (.aload_n 0, 1) := by decide +kernel
theorem dX2_isSign_9 : decode cX2_isSign 9 = .ok (.getfield 301, 3) := by decide +kernel
theorem dX2_isSign_12 : decode cX2_isSign 12 = .ok (.iload_n 1, 1) := by decide +kernel
theorem dX2_isSign_13 : decode cX2_isSign 13 = .ok (.if_icmp .ne 7, 3) := by decide +kernel
theorem dX2_isSign_16 : decode cX2_isSign 16 = .ok (.iconst 1, 1) := by decide +kernel
theorem dX2_isSign_17 : decode cX2_isSign 17 = .ok (.goto 4, 3) := by decide +kernel
theorem dX2_isSign_20 : decode cX2_isSign 20 = .ok (.iconst 0, 1) := by decide +kernel
theorem dX2_isSign_21 : decode cX2_isSign 21 = .ok (.ireturn, 1) := by decide +kernel
abbrev cX2_fault : ByteArray := prog_15_method_44_code
def yX2_fault : MethodName := ⟨RX2, "fault", "(I)I"⟩
theorem dX2_fault_0 : decode cX2_fault 0 = .ok (.aload_n 0, 1) := by decide +kernel
theorem dX2_fault_1 : decode cX2_fault 1 = .ok (.iconst 0, 1) := by decide +kernel
theorem dX2_fault_2 : decode cX2_fault 2 = .ok (.putfield 220, 3) := by decide +kernel
theorem dX2_fault_5 : decode cX2_fault 5 = .ok (.iload_n 1, 1) := by decide +kernel
theorem dX2_fault_6 : decode cX2_fault 6 = .ok (.ifCond .ne 12, 3) := by decide +kernel
theorem dX2_fault_9 : decode cX2_fault 9 = .ok (.aload_n 0, 1) := by decide +kernel
theorem dX2_fault_10 : decode cX2_fault 10 = .ok (.getfield 17, 3) := by decide +kernel
theorem dX2_fault_13 : decode cX2_fault 13 = .ok (.iconst 0, 1) := by decide +kernel
theorem dX2_fault_14 : decode cX2_fault 14 = .ok (.iaload, 1) := by decide +kernel
theorem dX2_fault_15 : decode cX2_fault 15 = .ok (.goto 18, 3) := by decide +kernel
theorem dX2_fault_18 : decode cX2_fault 18 = .ok (.iload_n 1, 1) := by decide +kernel
theorem dX2_fault_19 : decode cX2_fault 19 = .ok (.iconst 1, 1) := by decide +kernel
theorem dX2_fault_20 : decode cX2_fault 20 = .ok (.if_icmp .ne 12, 3) := by decide +kernel
theorem dX2_fault_23 : decode cX2_fault 23 = .ok (.aload_n 0, 1) := by decide +kernel
theorem dX2_fault_24 : decode cX2_fault 24 = .ok (.getfield 20, 3) := by decide +kernel
theorem dX2_fault_27 : decode cX2_fault 27 = .ok (.iconst 0, 1) := by decide +kernel
theorem dX2_fault_28 : decode cX2_fault 28 = .ok (.iaload, 1) := by decide +kernel
theorem dX2_fault_29 : decode cX2_fault 29 = .ok (.goto 4, 3) := by decide +kernel
theorem dX2_fault_32 : decode cX2_fault 32 = .ok (.iconst (-1), 1) := by decide +kernel
theorem dX2_fault_33 : decode cX2_fault 33 = .ok (.ireturn, 1) := by decide +kernel
abbrev cX2_good : ByteArray := prog_15_method_46_code
def yX2_good : MethodName := ⟨RX2, "good", "(II)I"⟩
theorem dX2_good_0 : decode cX2_good 0 = .ok (.aload_n 0, 1) := by decide +kernel
theorem dX2_good_1 : decode cX2_good 1 = .ok (.iconst 0, 1) := by decide +kernel
theorem dX2_good_2 : decode cX2_good 2 = .ok (.putfield 220, 3) := by decide +kernel
theorem dX2_good_5 : decode cX2_good 5 = .ok (.iload_n 1, 1) := by decide +kernel
theorem dX2_good_6 : decode cX2_good 6 = .ok (.invokestatic 395, 3) := by decide +kernel
theorem dX2_good_9 : decode cX2_good 9 = .ok (.ifCond .eq 19, 3) := by decide +kernel
theorem dX2_good_12 : decode cX2_good 12 = .ok (.iload_n 2, 1) := by decide +kernel
theorem dX2_good_13 : decode cX2_good 13 = .ok (.invokestatic 395, 3) := by decide +kernel
theorem dX2_good_16 : decode cX2_good 16 = .ok (.ifCond .eq 12, 3) := by decide +kernel
theorem dX2_good_19 : decode cX2_good 19 = .ok (.aload_n 0, 1) := by decide +kernel
theorem dX2_good_20 : decode cX2_good 20 = .ok (.iload_n 1, 1) := by decide +kernel
theorem dX2_good_21 : decode cX2_good 21 = .ok (.iload_n 2, 1) := by decide +kernel
theorem dX2_good_22 : decode cX2_good 22 = .ok (.invokevirtual 401, 3) := by decide +kernel
theorem dX2_good_25 : decode cX2_good 25 = .ok (.goto 4, 3) := by decide +kernel
theorem dX2_good_28 : decode cX2_good 28 = .ok (.iconst (-1), 1) := by decide +kernel
theorem dX2_good_29 : decode cX2_good 29 = .ok (.ireturn, 1) := by decide +kernel
abbrev cX2_goodOn : ByteArray := prog_15_method_45_code
def yX2_goodOn : MethodName := ⟨RX2, "goodOn", "(II)I"⟩
theorem dX2_goodOn_0 : decode cX2_goodOn 0 = .ok (.iconst (-1), 1) := by decide +kernel
theorem dX2_goodOn_1 : decode cX2_goodOn 1 = .ok (.istore_n 3, 1) := by decide +kernel
theorem dX2_goodOn_2 : decode cX2_goodOn 2 = .ok (.iconst 0, 1) := by decide +kernel
theorem dX2_goodOn_3 : decode cX2_goodOn 3 = .ok (.istore 4, 2) := by decide +kernel
theorem dX2_goodOn_5 : decode cX2_goodOn 5 = .ok (.iload 4, 2) := by decide +kernel
theorem dX2_goodOn_7 : decode cX2_goodOn 7 = .ok (.aload_n 0, 1) := by decide +kernel
theorem dX2_goodOn_8 : decode cX2_goodOn 8 = .ok (.getfield 138, 3) := by decide +kernel
theorem dX2_goodOn_11 : decode cX2_goodOn 11 = .ok (.iconst 0, 1) := by decide +kernel
theorem dX2_goodOn_12 : decode cX2_goodOn 12 = .ok (.iaload, 1) := by decide +kernel
theorem dX2_goodOn_13 : decode cX2_goodOn 13 = .ok (.if_icmp .ge 38, 3) := by decide +kernel
theorem dX2_goodOn_16 : decode cX2_goodOn 16 = .ok (.aload_n 0, 1) := by decide +kernel
theorem dX2_goodOn_17 : decode cX2_goodOn 17 = .ok (.getfield 144, 3) := by decide +kernel
theorem dX2_goodOn_20 : decode cX2_goodOn 20 = .ok (.iload 4, 2) := by decide +kernel
theorem dX2_goodOn_22 : decode cX2_goodOn 22 = .ok (.iaload, 1) := by decide +kernel
theorem dX2_goodOn_23 : decode cX2_goodOn 23 = .ok (.iload_n 2, 1) := by decide +kernel
theorem dX2_goodOn_24 : decode cX2_goodOn 24 = .ok (.if_icmp .gt 19, 3) := by decide +kernel
theorem dX2_goodOn_27 : decode cX2_goodOn 27 = .ok (.aload_n 0, 1) := by decide +kernel
theorem dX2_goodOn_28 : decode cX2_goodOn 28 = .ok (.getfield 141, 3) := by decide +kernel
theorem dX2_goodOn_31 : decode cX2_goodOn 31 = .ok (.iload 4, 2) := by decide +kernel
theorem dX2_goodOn_33 : decode cX2_goodOn 33 = .ok (.iaload, 1) := by decide +kernel
theorem dX2_goodOn_34 : decode cX2_goodOn 34 = .ok (.iload_n 1, 1) := by decide +kernel
theorem dX2_goodOn_35 : decode cX2_goodOn 35 = .ok (.if_icmp .gt 8, 3) := by decide +kernel
theorem dX2_goodOn_38 : decode cX2_goodOn 38 = .ok (.iload 4, 2) := by decide +kernel
theorem dX2_goodOn_40 : decode cX2_goodOn 40 = .ok (.goto 4, 3) := by decide +kernel
theorem dX2_goodOn_43 : decode cX2_goodOn 43 = .ok (.iload_n 3, 1) := by decide +kernel
theorem dX2_goodOn_44 : decode cX2_goodOn 44 = .ok (.istore_n 3, 1) := by decide +kernel
theorem dX2_goodOn_45 : decode cX2_goodOn 45 = .ok (.iinc 4 1, 3) := by decide +kernel
theorem dX2_goodOn_48 : decode cX2_goodOn 48 = .ok (.goto (-43), 3) := by decide +kernel
theorem dX2_goodOn_51 : decode cX2_goodOn 51 = .ok (.iload_n 3, 1) := by decide +kernel
theorem dX2_goodOn_52 : decode cX2_goodOn 52 = .ok (.ireturn, 1) := by decide +kernel
abbrev cX2_tells : ByteArray := prog_15_method_52_code
def yX2_tells : MethodName := ⟨RX2, "tells", "(III)I"⟩
theorem dX2_tells_0 : decode cX2_tells 0 = .ok (.aload_n 0, 1) := by decide +kernel
theorem dX2_tells_1 : decode cX2_tells 1 = .ok (.iconst 0, 1) := by decide +kernel
theorem dX2_tells_2 : decode cX2_tells 2 = .ok (.putfield 220, 3) := by decide +kernel
theorem dX2_tells_5 : decode cX2_tells 5 = .ok (.aload_n 0, 1) := by decide +kernel
theorem dX2_tells_6 : decode cX2_tells 6 = .ok (.iload_n 1, 1) := by decide +kernel
theorem dX2_tells_7 : decode cX2_tells 7 = .ok (.invokevirtual 240, 3) := by decide +kernel
theorem dX2_tells_10 : decode cX2_tells 10 = .ok (.ifCond .eq 29, 3) := by decide +kernel
theorem dX2_tells_13 : decode cX2_tells 13 = .ok (.iload_n 2, 1) := by decide +kernel
theorem dX2_tells_14 : decode cX2_tells 14 = .ok (.iconst 0, 1) := by decide +kernel
theorem dX2_tells_15 : decode cX2_tells 15 = .ok (.bipush 8, 2) := by decide +kernel
theorem dX2_tells_17 : decode cX2_tells 17 = .ok (.invokestatic 236, 3) := by decide +kernel
theorem dX2_tells_20 : decode cX2_tells 20 = .ok (.ifCond .eq 19, 3) := by decide +kernel
theorem dX2_tells_23 : decode cX2_tells 23 = .ok (.iload_n 3, 1) := by decide +kernel
theorem dX2_tells_24 : decode cX2_tells 24 = .ok (.iconst (-1), 1) := by decide +kernel
theorem dX2_tells_25 : decode cX2_tells 25 = .ok (.aload_n 0, 1) := by decide +kernel
theorem dX2_tells_26 : decode cX2_tells 26 = .ok (.getfield 138, 3) := by decide +kernel
theorem dX2_tells_29 : decode cX2_tells 29 = .ok (.iconst 0, 1) := by decide +kernel
theorem dX2_tells_30 : decode cX2_tells 30 = .ok (.iaload, 1) := by decide +kernel
theorem dX2_tells_31 : decode cX2_tells 31 = .ok (.iconst 1, 1) := by decide +kernel
theorem dX2_tells_32 : decode cX2_tells 32 = .ok (.isub, 1) := by decide +kernel
theorem dX2_tells_33 : decode cX2_tells 33 = .ok (.invokestatic 236, 3) := by decide +kernel
theorem dX2_tells_36 : decode cX2_tells 36 = .ok (.ifCond .ne 5, 3) := by decide +kernel
theorem dX2_tells_39 : decode cX2_tells 39 = .ok (.iconst (-1), 1) := by decide +kernel
theorem dX2_tells_40 : decode cX2_tells 40 = .ok (.ireturn, 1) := by decide +kernel
theorem dX2_tells_41 : decode cX2_tells 41 = .ok (.aload_n 0, 1) := by decide +kernel
theorem dX2_tells_42 : decode cX2_tells 42 = .ok (.iload_n 1, 1) := by decide +kernel
theorem dX2_tells_43 : decode cX2_tells 43 = .ok (.invokevirtual 411, 3) := by decide +kernel
theorem dX2_tells_46 : decode cX2_tells 46 = .ok (.aload_n 0, 1) := by decide +kernel
theorem dX2_tells_47 : decode cX2_tells 47 = .ok (.iload_n 2, 1) := by decide +kernel
theorem dX2_tells_48 : decode cX2_tells 48 = .ok (.iload_n 3, 1) := by decide +kernel
theorem dX2_tells_49 : decode cX2_tells 49 = .ok (.iconst (-1), 1) := by decide +kernel
theorem dX2_tells_50 : decode cX2_tells 50 = .ok (.if_icmp .ne 22, 3) := by decide +kernel
theorem dX2_tells_53 : decode cX2_tells 53 = .ok (.aload_n 0, 1) := by decide +kernel
theorem dX2_tells_54 : decode cX2_tells 54 = .ok (.aload_n 0, 1) := by decide +kernel
theorem dX2_tells_55 : decode cX2_tells 55 = .ok (.getfield 23, 3) := by decide +kernel
theorem dX2_tells_58 : decode cX2_tells 58 = .ok (.iconst 0, 1) := by decide +kernel
theorem dX2_tells_59 : decode cX2_tells 59 = .ok (.iaload, 1) := by decide +kernel
theorem dX2_tells_60 : decode cX2_tells 60 = .ok (.aload_n 0, 1) := by decide +kernel
theorem dX2_tells_61 : decode cX2_tells 61 = .ok (.getfield 23, 3) := by decide +kernel
theorem dX2_tells_64 : decode cX2_tells 64 = .ok (.iconst 0, 1) := by decide +kernel
theorem dX2_tells_65 : decode cX2_tells 65 = .ok (.iaload, 1) := by decide +kernel
theorem dX2_tells_66 : decode cX2_tells 66 = .ok (.invokevirtual 401, 3) := by decide +kernel
theorem dX2_tells_69 : decode cX2_tells 69 = .ok (.goto 4, 3) := by decide +kernel
theorem dX2_tells_72 : decode cX2_tells 72 = .ok (.iload_n 3, 1) := by decide +kernel
theorem dX2_tells_73 : decode cX2_tells 73 = .ok (.invokevirtual 414, 3) := by decide +kernel
theorem dX2_tells_76 : decode cX2_tells 76 = .ok (.ireturn, 1) := by decide +kernel
abbrev cX2_lookAt : ByteArray := prog_15_method_47_code
def yX2_lookAt : MethodName := ⟨RX2, "lookAt", "(I)V"⟩
theorem dX2_lookAt_0 : decode cX2_lookAt 0 = .ok (.aload_n 0, 1) := by decide +kernel
theorem dX2_lookAt_1 : decode cX2_lookAt 1 = .ok (.getfield 189, 3) := by decide +kernel
theorem dX2_lookAt_4 : decode cX2_lookAt 4 = .ok (.iconst 0, 1) := by decide +kernel
theorem dX2_lookAt_5 : decode cX2_lookAt 5 = .ok (.iconst 0, 1) := by decide +kernel
theorem dX2_lookAt_6 : decode cX2_lookAt 6 = .ok (.iastore, 1) := by decide +kernel
theorem dX2_lookAt_7 : decode cX2_lookAt 7 = .ok (.aload_n 0, 1) := by decide +kernel
theorem dX2_lookAt_8 : decode cX2_lookAt 8 = .ok (.getfield 189, 3) := by decide +kernel
theorem dX2_lookAt_11 : decode cX2_lookAt 11 = .ok (.iconst 1, 1) := by decide +kernel
theorem dX2_lookAt_12 : decode cX2_lookAt 12 = .ok (.iconst 0, 1) := by decide +kernel
theorem dX2_lookAt_13 : decode cX2_lookAt 13 = .ok (.iastore, 1) := by decide +kernel
theorem dX2_lookAt_14 : decode cX2_lookAt 14 = .ok (.aload_n 0, 1) := by decide +kernel
theorem dX2_lookAt_15 : decode cX2_lookAt 15 = .ok (.getfield 189, 3) := by decide +kernel
theorem dX2_lookAt_18 : decode cX2_lookAt 18 = .ok (.iconst 2, 1) := by decide +kernel
theorem dX2_lookAt_19 : decode cX2_lookAt 19 = .ok (.bipush 9, 2) := by decide +kernel
theorem dX2_lookAt_21 : decode cX2_lookAt 21 = .ok (.iastore, 1) := by decide +kernel
theorem dX2_lookAt_22 : decode cX2_lookAt 22 = .ok (.iconst 0, 1) := by decide +kernel
theorem dX2_lookAt_23 : decode cX2_lookAt 23 = .ok (.istore_n 2, 1) := by decide +kernel
theorem dX2_lookAt_24 : decode cX2_lookAt 24 = .ok (.iload_n 2, 1) := by decide +kernel
theorem dX2_lookAt_25 : decode cX2_lookAt 25 = .ok (.aload_n 0, 1) := by decide +kernel
theorem dX2_lookAt_26 : decode cX2_lookAt 26 = .ok (.getfield 84, 3) := by decide +kernel
theorem dX2_lookAt_29 : decode cX2_lookAt 29 = .ok (.iconst 0, 1) := by decide +kernel
theorem dX2_lookAt_30 : decode cX2_lookAt 30 = .ok (.iaload, 1) := by decide +kernel
theorem dX2_lookAt_31 : decode cX2_lookAt 31 = .ok (.if_icmp .ge 88, 3) := by decide +kernel
theorem dX2_lookAt_34 : decode cX2_lookAt 34 = .ok (.aload_n 0, 1) := by decide +kernel
theorem dX2_lookAt_35 : decode cX2_lookAt 35 = .ok (.getfield 108, 3) := by decide +kernel
theorem dX2_lookAt_38 : decode cX2_lookAt 38 = .ok (.iload_n 2, 1) := by decide +kernel
theorem dX2_lookAt_39 : decode cX2_lookAt 39 = .ok (.iaload, 1) := by decide +kernel
theorem dX2_lookAt_40 : decode cX2_lookAt 40 = .ok (.ifCond .ne 73, 3) := by decide +kernel
theorem dX2_lookAt_43 : decode cX2_lookAt 43 = .ok (.aload_n 0, 1) := by decide +kernel
theorem dX2_lookAt_44 : decode cX2_lookAt 44 = .ok (.getfield 87, 3) := by decide +kernel
theorem dX2_lookAt_47 : decode cX2_lookAt 47 = .ok (.iload_n 2, 1) := by decide +kernel
theorem dX2_lookAt_48 : decode cX2_lookAt 48 = .ok (.iaload, 1) := by decide +kernel
theorem dX2_lookAt_49 : decode cX2_lookAt 49 = .ok (.iload_n 1, 1) := by decide +kernel
theorem dX2_lookAt_50 : decode cX2_lookAt 50 = .ok (.if_icmp .ne 63, 3) := by decide +kernel
theorem dX2_lookAt_53 : decode cX2_lookAt 53 = .ok (.aload_n 0, 1) := by decide +kernel
theorem dX2_lookAt_54 : decode cX2_lookAt 54 = .ok (.getfield 189, 3) := by decide +kernel
theorem dX2_lookAt_57 : decode cX2_lookAt 57 = .ok (.iconst 0, 1) := by decide +kernel
theorem dX2_lookAt_58 : decode cX2_lookAt 58 = .ok (.dup2, 1) := by decide +kernel
theorem dX2_lookAt_59 : decode cX2_lookAt 59 = .ok (.iaload, 1) := by decide +kernel
theorem dX2_lookAt_60 : decode cX2_lookAt 60 = .ok (.aload_n 0, 1) := by decide +kernel
theorem dX2_lookAt_61 : decode cX2_lookAt 61 = .ok (.iload_n 2, 1) := by decide +kernel
theorem dX2_lookAt_62 : decode cX2_lookAt 62 = .ok (.invokevirtual 265, 3) := by decide +kernel
theorem dX2_lookAt_65 : decode cX2_lookAt 65 = .ok (.iadd, 1) := by decide +kernel
theorem dX2_lookAt_66 : decode cX2_lookAt 66 = .ok (.iastore, 1) := by decide +kernel
theorem dX2_lookAt_67 : decode cX2_lookAt 67 = .ok (.aload_n 0, 1) := by decide +kernel
theorem dX2_lookAt_68 : decode cX2_lookAt 68 = .ok (.getfield 189, 3) := by decide +kernel
theorem dX2_lookAt_71 : decode cX2_lookAt 71 = .ok (.iconst 1, 1) := by decide +kernel
theorem dX2_lookAt_72 : decode cX2_lookAt 72 = .ok (.dup2, 1) := by decide +kernel
theorem dX2_lookAt_73 : decode cX2_lookAt 73 = .ok (.iaload, 1) := by decide +kernel
theorem dX2_lookAt_74 : decode cX2_lookAt 74 = .ok (.iconst 1, 1) := by decide +kernel
theorem dX2_lookAt_75 : decode cX2_lookAt 75 = .ok (.iadd, 1) := by decide +kernel
theorem dX2_lookAt_76 : decode cX2_lookAt 76 = .ok (.iastore, 1) := by decide +kernel
theorem dX2_lookAt_77 : decode cX2_lookAt 77 = .ok (.aload_n 0, 1) := by decide +kernel
theorem dX2_lookAt_78 : decode cX2_lookAt 78 = .ok (.getfield 189, 3) := by decide +kernel
theorem dX2_lookAt_81 : decode cX2_lookAt 81 = .ok (.iconst 2, 1) := by decide +kernel
theorem dX2_lookAt_82 : decode cX2_lookAt 82 = .ok (.aload_n 0, 1) := by decide +kernel
theorem dX2_lookAt_83 : decode cX2_lookAt 83 = .ok (.getfield 96, 3) := by decide +kernel
theorem dX2_lookAt_86 : decode cX2_lookAt 86 = .ok (.iload_n 2, 1) := by decide +kernel
theorem dX2_lookAt_87 : decode cX2_lookAt 87 = .ok (.iaload, 1) := by decide +kernel
theorem dX2_lookAt_88 : decode cX2_lookAt 88 = .ok (.aload_n 0, 1) := by decide +kernel
theorem dX2_lookAt_89 : decode cX2_lookAt 89 = .ok (.getfield 189, 3) := by decide +kernel
theorem dX2_lookAt_92 : decode cX2_lookAt 92 = .ok (.iconst 2, 1) := by decide +kernel
theorem dX2_lookAt_93 : decode cX2_lookAt 93 = .ok (.iaload, 1) := by decide +kernel
theorem dX2_lookAt_94 : decode cX2_lookAt 94 = .ok (.if_icmp .ge 12, 3) := by decide +kernel
theorem dX2_lookAt_97 : decode cX2_lookAt 97 = .ok (.aload_n 0, 1) := by decide +kernel
theorem dX2_lookAt_98 : decode cX2_lookAt 98 = .ok (.getfield 96, 3) := by decide +kernel
theorem dX2_lookAt_101 : decode cX2_lookAt 101 = .ok (.iload_n 2, 1) := by decide +kernel
theorem dX2_lookAt_102 : decode cX2_lookAt 102 = .ok (.iaload, 1) := by decide +kernel
theorem dX2_lookAt_103 : decode cX2_lookAt 103 = .ok (.goto 9, 3) := by decide +kernel
theorem dX2_lookAt_106 : decode cX2_lookAt 106 = .ok (.aload_n 0, 1) := by decide +kernel
theorem dX2_lookAt_107 : decode cX2_lookAt 107 = .ok (.getfield 189, 3) := by decide +kernel
theorem dX2_lookAt_110 : decode cX2_lookAt 110 = .ok (.iconst 2, 1) := by decide +kernel
theorem dX2_lookAt_111 : decode cX2_lookAt 111 = .ok (.iaload, 1) := by decide +kernel
theorem dX2_lookAt_112 : decode cX2_lookAt 112 = .ok (.iastore, 1) := by decide +kernel
theorem dX2_lookAt_113 : decode cX2_lookAt 113 = .ok (.iinc 2 1, 3) := by decide +kernel
theorem dX2_lookAt_116 : decode cX2_lookAt 116 = .ok (.goto (-92), 3) := by decide +kernel
theorem dX2_lookAt_119 : decode cX2_lookAt 119 = .ok (.aload_n 0, 1) := by decide +kernel
theorem dX2_lookAt_120 : decode cX2_lookAt 120 = .ok (.getfield 189, 3) := by decide +kernel
theorem dX2_lookAt_123 : decode cX2_lookAt 123 = .ok (.iconst 3, 1) := by decide +kernel
theorem dX2_lookAt_124 : decode cX2_lookAt 124 = .ok (.aload_n 0, 1) := by decide +kernel
theorem dX2_lookAt_125 : decode cX2_lookAt 125 = .ok (.getfield 41, 3) := by decide +kernel
theorem dX2_lookAt_128 : decode cX2_lookAt 128 = .ok (.iload_n 1, 1) := by decide +kernel
theorem dX2_lookAt_129 : decode cX2_lookAt 129 = .ok (.baload, 1) := by decide +kernel
theorem dX2_lookAt_130 : decode cX2_lookAt 130 = .ok (.ifCond .eq 19, 3) := by decide +kernel
theorem dX2_lookAt_133 : decode cX2_lookAt 133 = .ok (.aload_n 0, 1) := by decide +kernel
theorem dX2_lookAt_134 : decode cX2_lookAt 134 = .ok (.getfield 23, 3) := by decide +kernel
theorem dX2_lookAt_137 : decode cX2_lookAt 137 = .ok (.iconst 0, 1) := by decide +kernel
theorem dX2_lookAt_138 : decode cX2_lookAt 138 = .ok (.iaload, 1) := by decide +kernel
theorem dX2_lookAt_139 : decode cX2_lookAt 139 = .ok (.aload_n 0, 1) := by decide +kernel
theorem dX2_lookAt_140 : decode cX2_lookAt 140 = .ok (.getfield 45, 3) := by decide +kernel
theorem dX2_lookAt_143 : decode cX2_lookAt 143 = .ok (.iload_n 1, 1) := by decide +kernel
theorem dX2_lookAt_144 : decode cX2_lookAt 144 = .ok (.iaload, 1) := by decide +kernel
theorem dX2_lookAt_145 : decode cX2_lookAt 145 = .ok (.isub, 1) := by decide +kernel
theorem dX2_lookAt_146 : decode cX2_lookAt 146 = .ok (.goto 4, 3) := by decide +kernel
theorem dX2_lookAt_149 : decode cX2_lookAt 149 = .ok (.iconst 0, 1) := by decide +kernel
theorem dX2_lookAt_150 : decode cX2_lookAt 150 = .ok (.iastore, 1) := by decide +kernel
theorem dX2_lookAt_151 : decode cX2_lookAt 151 = .ok (.aload_n 0, 1) := by decide +kernel
theorem dX2_lookAt_152 : decode cX2_lookAt 152 = .ok (.getfield 189, 3) := by decide +kernel
theorem dX2_lookAt_155 : decode cX2_lookAt 155 = .ok (.iconst 4, 1) := by decide +kernel
theorem dX2_lookAt_156 : decode cX2_lookAt 156 = .ok (.aload_n 0, 1) := by decide +kernel
theorem dX2_lookAt_157 : decode cX2_lookAt 157 = .ok (.getfield 38, 3) := by decide +kernel
theorem dX2_lookAt_160 : decode cX2_lookAt 160 = .ok (.iload_n 1, 1) := by decide +kernel
theorem dX2_lookAt_161 : decode cX2_lookAt 161 = .ok (.iaload, 1) := by decide +kernel
theorem dX2_lookAt_162 : decode cX2_lookAt 162 = .ok (.iastore, 1) := by decide +kernel
theorem dX2_lookAt_163 : decode cX2_lookAt 163 = .ok (.aload_n 0, 1) := by decide +kernel
theorem dX2_lookAt_164 : decode cX2_lookAt 164 = .ok (.getfield 189, 3) := by decide +kernel
theorem dX2_lookAt_167 : decode cX2_lookAt 167 = .ok (.iconst 5, 1) := by decide +kernel
theorem dX2_lookAt_168 : decode cX2_lookAt 168 = .ok (.aload_n 0, 1) := by decide +kernel
theorem dX2_lookAt_169 : decode cX2_lookAt 169 = .ok (.getfield 41, 3) := by decide +kernel
theorem dX2_lookAt_172 : decode cX2_lookAt 172 = .ok (.iload_n 1, 1) := by decide +kernel
theorem dX2_lookAt_173 : decode cX2_lookAt 173 = .ok (.baload, 1) := by decide +kernel
theorem dX2_lookAt_174 : decode cX2_lookAt 174 = .ok (.ifCond .eq 12, 3) := by decide +kernel
theorem dX2_lookAt_177 : decode cX2_lookAt 177 = .ok (.aload_n 0, 1) := by decide +kernel
theorem dX2_lookAt_178 : decode cX2_lookAt 178 = .ok (.getfield 48, 3) := by decide +kernel
theorem dX2_lookAt_181 : decode cX2_lookAt 181 = .ok (.iload_n 1, 1) := by decide +kernel
theorem dX2_lookAt_182 : decode cX2_lookAt 182 = .ok (.iaload, 1) := by decide +kernel
theorem dX2_lookAt_183 : decode cX2_lookAt 183 = .ok (.goto 4, 3) := by decide +kernel
theorem dX2_lookAt_186 : decode cX2_lookAt 186 = .ok (.iconst 0, 1) := by decide +kernel
theorem dX2_lookAt_187 : decode cX2_lookAt 187 = .ok (.iastore, 1) := by decide +kernel
theorem dX2_lookAt_188 : decode cX2_lookAt 188 = .ok (.aload_n 0, 1) := by decide +kernel
theorem dX2_lookAt_189 : decode cX2_lookAt 189 = .ok (.getfield 189, 3) := by decide +kernel
theorem dX2_lookAt_192 : decode cX2_lookAt 192 = .ok (.bipush 6, 2) := by decide +kernel
theorem dX2_lookAt_194 : decode cX2_lookAt 194 = .ok (.aload_n 0, 1) := by decide +kernel
theorem dX2_lookAt_195 : decode cX2_lookAt 195 = .ok (.getfield 26, 3) := by decide +kernel
theorem dX2_lookAt_198 : decode cX2_lookAt 198 = .ok (.iconst 0, 1) := by decide +kernel
theorem dX2_lookAt_199 : decode cX2_lookAt 199 = .ok (.iaload, 1) := by decide +kernel
theorem dX2_lookAt_200 : decode cX2_lookAt 200 = .ok (.iastore, 1) := by decide +kernel
theorem dX2_lookAt_201 : decode cX2_lookAt 201 = .ok (.aload_n 0, 1) := by decide +kernel
theorem dX2_lookAt_202 : decode cX2_lookAt 202 = .ok (.getfield 189, 3) := by decide +kernel
theorem dX2_lookAt_205 : decode cX2_lookAt 205 = .ok (.bipush 7, 2) := by decide +kernel
theorem dX2_lookAt_207 : decode cX2_lookAt 207 = .ok (.aload_n 0, 1) := by decide +kernel
theorem dX2_lookAt_208 : decode cX2_lookAt 208 = .ok (.getfield 35, 3) := by decide +kernel
theorem dX2_lookAt_211 : decode cX2_lookAt 211 = .ok (.iload_n 1, 1) := by decide +kernel
theorem dX2_lookAt_212 : decode cX2_lookAt 212 = .ok (.iaload, 1) := by decide +kernel
theorem dX2_lookAt_213 : decode cX2_lookAt 213 = .ok (.iastore, 1) := by decide +kernel
theorem dX2_lookAt_214 : decode cX2_lookAt 214 = .ok (.return_, 1) := by decide +kernel
abbrev cX2_tellsBy : ByteArray := prog_15_method_50_code
def yX2_tellsBy : MethodName := ⟨RX2, "tellsBy", "(II)I"⟩
theorem dX2_tellsBy_0 : decode cX2_tellsBy 0 = .ok (.iload_n 2, 1) := by decide +kernel
theorem dX2_tellsBy_1 : decode cX2_tellsBy 1 = .ok (.iconst (-1), 1) := by decide +kernel
theorem dX2_tellsBy_2 : decode cX2_tellsBy 2 = .ok (.if_icmp .eq 54, 3) := by decide +kernel
theorem dX2_tellsBy_5 : decode cX2_tellsBy 5 = .ok (.bipush 20, 2) := by decide +kernel
theorem dX2_tellsBy_7 : decode cX2_tellsBy 7 = .ok (.iload_n 2, 1) := by decide +kernel
theorem dX2_tellsBy_8 : decode cX2_tellsBy 8 = .ok (.imul, 1) := by decide +kernel
theorem dX2_tellsBy_9 : decode cX2_tellsBy 9 = .ok (.istore_n 3, 1) := by decide +kernel
theorem dX2_tellsBy_10 : decode cX2_tellsBy 10 = .ok (.iload_n 3, 1) := by decide +kernel
theorem dX2_tellsBy_11 : decode cX2_tellsBy 11 = .ok (.bipush 20, 2) := by decide +kernel
theorem dX2_tellsBy_13 : decode cX2_tellsBy 13 = .ok (.iload_n 2, 1) := by decide +kernel
theorem dX2_tellsBy_14 : decode cX2_tellsBy 14 = .ok (.imul, 1) := by decide +kernel
theorem dX2_tellsBy_15 : decode cX2_tellsBy 15 = .ok (.aload_n 0, 1) := by decide +kernel
theorem dX2_tellsBy_16 : decode cX2_tellsBy 16 = .ok (.getfield 147, 3) := by decide +kernel
theorem dX2_tellsBy_19 : decode cX2_tellsBy 19 = .ok (.iload_n 2, 1) := by decide +kernel
theorem dX2_tellsBy_20 : decode cX2_tellsBy 20 = .ok (.iaload, 1) := by decide +kernel
theorem dX2_tellsBy_21 : decode cX2_tellsBy 21 = .ok (.iadd, 1) := by decide +kernel
theorem dX2_tellsBy_22 : decode cX2_tellsBy 22 = .ok (.if_icmp .ge 34, 3) := by decide +kernel
theorem dX2_tellsBy_25 : decode cX2_tellsBy 25 = .ok (.aload_n 0, 1) := by decide +kernel
theorem dX2_tellsBy_26 : decode cX2_tellsBy 26 = .ok (.getfield 150, 3) := by decide +kernel
theorem dX2_tellsBy_29 : decode cX2_tellsBy 29 = .ok (.iload_n 3, 1) := by decide +kernel
theorem dX2_tellsBy_30 : decode cX2_tellsBy 30 = .ok (.iaload, 1) := by decide +kernel
theorem dX2_tellsBy_31 : decode cX2_tellsBy 31 = .ok (.iload_n 1, 1) := by decide +kernel
theorem dX2_tellsBy_32 : decode cX2_tellsBy 32 = .ok (.if_icmp .ne 18, 3) := by decide +kernel
theorem dX2_tellsBy_35 : decode cX2_tellsBy 35 = .ok (.aload_n 0, 1) := by decide +kernel
theorem dX2_tellsBy_36 : decode cX2_tellsBy 36 = .ok (.iload_n 3, 1) := by decide +kernel
theorem dX2_tellsBy_37 : decode cX2_tellsBy 37 = .ok (.invokevirtual 405, 3) := by decide +kernel
theorem dX2_tellsBy_40 : decode cX2_tellsBy 40 = .ok (.ifCond .eq 10, 3) := by decide +kernel
theorem dX2_tellsBy_43 : decode cX2_tellsBy 43 = .ok (.aload_n 0, 1) := by decide +kernel
theorem dX2_tellsBy_44 : decode cX2_tellsBy 44 = .ok (.getfield 156, 3) := by decide +kernel
theorem dX2_tellsBy_47 : decode cX2_tellsBy 47 = .ok (.iload_n 3, 1) := by decide +kernel
theorem dX2_tellsBy_48 : decode cX2_tellsBy 48 = .ok (.iaload, 1) := by decide +kernel
theorem dX2_tellsBy_49 : decode cX2_tellsBy 49 = .ok (.ireturn, 1) := by decide +kernel
theorem dX2_tellsBy_50 : decode cX2_tellsBy 50 = .ok (.iinc 3 1, 3) := by decide +kernel
theorem dX2_tellsBy_53 : decode cX2_tellsBy 53 = .ok (.goto (-43), 3) := by decide +kernel
theorem dX2_tellsBy_56 : decode cX2_tellsBy 56 = .ok (.iload_n 1, 1) := by decide +kernel
theorem dX2_tellsBy_57 : decode cX2_tellsBy 57 = .ok (.invokestatic 408, 3) := by decide +kernel
theorem dX2_tellsBy_60 : decode cX2_tellsBy 60 = .ok (.ireturn, 1) := by decide +kernel
abbrev cX2_holds : ByteArray := prog_15_method_48_code
def yX2_holds : MethodName := ⟨RX2, "holds", "(I)Z"⟩
theorem dX2_holds_0 : decode cX2_holds 0 = .ok (.iconst 4, 1) := by decide +kernel
theorem dX2_holds_1 : decode cX2_holds 1 = .ok (.iload_n 1, 1) := by decide +kernel
theorem dX2_holds_2 : decode cX2_holds 2 = .ok (.imul, 1) := by decide +kernel
theorem dX2_holds_3 : decode cX2_holds 3 = .ok (.istore_n 2, 1) := by decide +kernel
theorem dX2_holds_4 : decode cX2_holds 4 = .ok (.iload_n 2, 1) := by decide +kernel
theorem dX2_holds_5 : decode cX2_holds 5 = .ok (.iconst 4, 1) := by decide +kernel
theorem dX2_holds_6 : decode cX2_holds 6 = .ok (.iload_n 1, 1) := by decide +kernel
theorem dX2_holds_7 : decode cX2_holds 7 = .ok (.imul, 1) := by decide +kernel
theorem dX2_holds_8 : decode cX2_holds 8 = .ok (.aload_n 0, 1) := by decide +kernel
theorem dX2_holds_9 : decode cX2_holds 9 = .ok (.getfield 153, 3) := by decide +kernel
theorem dX2_holds_12 : decode cX2_holds 12 = .ok (.iload_n 1, 1) := by decide +kernel
theorem dX2_holds_13 : decode cX2_holds 13 = .ok (.iaload, 1) := by decide +kernel
theorem dX2_holds_14 : decode cX2_holds 14 = .ok (.iadd, 1) := by decide +kernel
theorem dX2_holds_15 : decode cX2_holds 15 = .ok (.if_icmp .ge 118, 3) := by decide +kernel
theorem dX2_holds_18 : decode cX2_holds 18 = .ok (.aload_n 0, 1) := by decide +kernel
theorem dX2_holds_19 : decode cX2_holds 19 = .ok (.getfield 189, 3) := by decide +kernel
theorem dX2_holds_22 : decode cX2_holds 22 = .ok (.aload_n 0, 1) := by decide +kernel
theorem dX2_holds_23 : decode cX2_holds 23 = .ok (.getfield 159, 3) := by decide +kernel
theorem dX2_holds_26 : decode cX2_holds 26 = .ok (.iload_n 2, 1) := by decide +kernel
theorem dX2_holds_27 : decode cX2_holds 27 = .ok (.iaload, 1) := by decide +kernel
theorem dX2_holds_28 : decode cX2_holds 28 = .ok (.bipush 7, 2) := by decide +kernel
theorem dX2_holds_30 : decode cX2_holds 30 = .ok (.iand, 1) := by decide +kernel
theorem dX2_holds_31 : decode cX2_holds 31 = .ok (.iaload, 1) := by decide +kernel
theorem dX2_holds_32 : decode cX2_holds 32 = .ok (.istore_n 3, 1) := by decide +kernel
theorem dX2_holds_33 : decode cX2_holds 33 = .ok (.aload_n 0, 1) := by decide +kernel
theorem dX2_holds_34 : decode cX2_holds 34 = .ok (.getfield 165, 3) := by decide +kernel
theorem dX2_holds_37 : decode cX2_holds 37 = .ok (.iload_n 2, 1) := by decide +kernel
theorem dX2_holds_38 : decode cX2_holds 38 = .ok (.iaload, 1) := by decide +kernel
theorem dX2_holds_39 : decode cX2_holds 39 = .ok (.istore 4, 2) := by decide +kernel
theorem dX2_holds_41 : decode cX2_holds 41 = .ok (.aload_n 0, 1) := by decide +kernel
theorem dX2_holds_42 : decode cX2_holds 42 = .ok (.getfield 162, 3) := by decide +kernel
theorem dX2_holds_45 : decode cX2_holds 45 = .ok (.iload_n 2, 1) := by decide +kernel
theorem dX2_holds_46 : decode cX2_holds 46 = .ok (.iaload, 1) := by decide +kernel
theorem dX2_holds_47 : decode cX2_holds 47 = .ok (.bipush 60, 2) := by decide +kernel
theorem dX2_holds_49 : decode cX2_holds 49 = .ok (.if_icmp .ne 17, 3) := by decide +kernel
theorem dX2_holds_52 : decode cX2_holds 52 = .ok (.iload_n 3, 1) := by decide +kernel
theorem dX2_holds_53 : decode cX2_holds 53 = .ok (.iload 4, 2) := by decide +kernel
theorem dX2_holds_55 : decode cX2_holds 55 = .ok (.if_icmp .ge 7, 3) := by decide +kernel
theorem dX2_holds_58 : decode cX2_holds 58 = .ok (.iconst 1, 1) := by decide +kernel
theorem dX2_holds_59 : decode cX2_holds 59 = .ok (.goto 43, 3) := by decide +kernel
theorem dX2_holds_62 : decode cX2_holds 62 = .ok (.iconst 0, 1) := by decide +kernel
theorem dX2_holds_63 : decode cX2_holds 63 = .ok (.goto 39, 3) := by decide +kernel
theorem dX2_holds_66 : decode cX2_holds 66 = .ok (.aload_n 0, 1) := by decide +kernel
theorem dX2_holds_67 : decode cX2_holds 67 = .ok (.getfield 162, 3) := by decide +kernel
theorem dX2_holds_70 : decode cX2_holds 70 = .ok (.iload_n 2, 1) := by decide +kernel
theorem dX2_holds_71 : decode cX2_holds 71 = .ok (.iaload, 1) := by decide +kernel
theorem dX2_holds_72 : decode cX2_holds 72 = .ok (.bipush 62, 2) := by decide +kernel
theorem dX2_holds_74 : decode cX2_holds 74 = .ok (.if_icmp .ne 17, 3) := by decide +kernel
theorem dX2_holds_77 : decode cX2_holds 77 = .ok (.iload_n 3, 1) := by decide +kernel
theorem dX2_holds_78 : decode cX2_holds 78 = .ok (.iload 4, 2) := by decide +kernel
theorem dX2_holds_80 : decode cX2_holds 80 = .ok (.if_icmp .le 7, 3) := by decide +kernel
theorem dX2_holds_83 : decode cX2_holds 83 = .ok (.iconst 1, 1) := by decide +kernel
theorem dX2_holds_84 : decode cX2_holds 84 = .ok (.goto 18, 3) := by decide +kernel
theorem dX2_holds_87 : decode cX2_holds 87 = .ok (.iconst 0, 1) := by decide +kernel
theorem dX2_holds_88 : decode cX2_holds 88 = .ok (.goto 14, 3) := by decide +kernel
theorem dX2_holds_91 : decode cX2_holds 91 = .ok (.iload_n 3, 1) := by decide +kernel
theorem dX2_holds_92 : decode cX2_holds 92 = .ok (.iload 4, 2) := by decide +kernel
theorem dX2_holds_94 : decode cX2_holds 94 = .ok (.if_icmp .ne 7, 3) := by decide +kernel
theorem dX2_holds_97 : decode cX2_holds 97 = .ok (.iconst 1, 1) := by decide +kernel
theorem dX2_holds_98 : decode cX2_holds 98 = .ok (.goto 4, 3) := by decide +kernel
theorem dX2_holds_101 : decode cX2_holds 101 = .ok (.iconst 0, 1) := by decide +kernel
theorem dX2_holds_102 : decode cX2_holds 102 = .ok (.istore 5, 2) := by decide +kernel
theorem dX2_holds_104 : decode cX2_holds 104 = .ok (.iload 5, 2) := by decide +kernel
theorem dX2_holds_106 : decode cX2_holds 106 = .ok (.aload_n 0, 1) := by decide +kernel
theorem dX2_holds_107 : decode cX2_holds 107 = .ok (.getfield 159, 3) := by decide +kernel
theorem dX2_holds_110 : decode cX2_holds 110 = .ok (.iload_n 2, 1) := by decide +kernel
theorem dX2_holds_111 : decode cX2_holds 111 = .ok (.iaload, 1) := by decide +kernel
theorem dX2_holds_112 : decode cX2_holds 112 = .ok (.bipush 7, 2) := by decide +kernel
theorem dX2_holds_114 : decode cX2_holds 114 = .ok (.if_icmp .le 7, 3) := by decide +kernel
theorem dX2_holds_117 : decode cX2_holds 117 = .ok (.iconst 1, 1) := by decide +kernel
theorem dX2_holds_118 : decode cX2_holds 118 = .ok (.goto 4, 3) := by decide +kernel
theorem dX2_holds_121 : decode cX2_holds 121 = .ok (.iconst 0, 1) := by decide +kernel
theorem dX2_holds_122 : decode cX2_holds 122 = .ok (.if_icmp .ne 5, 3) := by decide +kernel
theorem dX2_holds_125 : decode cX2_holds 125 = .ok (.iconst 0, 1) := by decide +kernel
theorem dX2_holds_126 : decode cX2_holds 126 = .ok (.ireturn, 1) := by decide +kernel
theorem dX2_holds_127 : decode cX2_holds 127 = .ok (.iinc 2 1, 3) := by decide +kernel
theorem dX2_holds_130 : decode cX2_holds 130 = .ok (.goto (-126), 3) := by decide +kernel
theorem dX2_holds_133 : decode cX2_holds 133 = .ok (.iconst 1, 1) := by decide +kernel
theorem dX2_holds_134 : decode cX2_holds 134 = .ok (.ireturn, 1) := by decide +kernel
abbrev cX2_plain : ByteArray := prog_15_method_49_code
def yX2_plain : MethodName := ⟨RX2, "plain", "(I)I"⟩
theorem dX2_plain_0 : decode cX2_plain 0 = .ok (.iload_n 0, 1) := by decide +kernel
theorem dX2_plain_1 : decode cX2_plain 1 = .ok (.iconst 4, 1) := by decide +kernel
theorem dX2_plain_2 : decode cX2_plain 2 = .ok (.if_icmp .ne 8, 3) := by decide +kernel
theorem dX2_plain_5 : decode cX2_plain 5 = .ok (.bipush 50, 2) := by decide +kernel
theorem dX2_plain_7 : decode cX2_plain 7 = .ok (.goto 34, 3) := by decide +kernel
theorem dX2_plain_10 : decode cX2_plain 10 = .ok (.iload_n 0, 1) := by decide +kernel
theorem dX2_plain_11 : decode cX2_plain 11 = .ok (.iconst 5, 1) := by decide +kernel
theorem dX2_plain_12 : decode cX2_plain 12 = .ok (.if_icmp .ne 8, 3) := by decide +kernel
theorem dX2_plain_15 : decode cX2_plain 15 = .ok (.bipush 75, 2) := by decide +kernel
theorem dX2_plain_17 : decode cX2_plain 17 = .ok (.goto 24, 3) := by decide +kernel
theorem dX2_plain_20 : decode cX2_plain 20 = .ok (.iload_n 0, 1) := by decide +kernel
theorem dX2_plain_21 : decode cX2_plain 21 = .ok (.ifCond .eq 15, 3) := by decide +kernel
theorem dX2_plain_24 : decode cX2_plain 24 = .ok (.iload_n 0, 1) := by decide +kernel
theorem dX2_plain_25 : decode cX2_plain 25 = .ok (.bipush 6, 2) := by decide +kernel
theorem dX2_plain_27 : decode cX2_plain 27 = .ok (.if_icmp .eq 9, 3) := by decide +kernel
theorem dX2_plain_30 : decode cX2_plain 30 = .ok (.iload_n 0, 1) := by decide +kernel
theorem dX2_plain_31 : decode cX2_plain 31 = .ok (.bipush 8, 2) := by decide +kernel
theorem dX2_plain_33 : decode cX2_plain 33 = .ok (.if_icmp .ne 7, 3) := by decide +kernel
theorem dX2_plain_36 : decode cX2_plain 36 = .ok (.iconst 1, 1) := by decide +kernel
theorem dX2_plain_37 : decode cX2_plain 37 = .ok (.goto 4, 3) := by decide +kernel
theorem dX2_plain_40 : decode cX2_plain 40 = .ok (.iconst 0, 1) := by decide +kernel
theorem dX2_plain_41 : decode cX2_plain 41 = .ok (.ireturn, 1) := by decide +kernel
abbrev cX2_lawful : ByteArray := prog_15_method_53_code
def yX2_lawful : MethodName := ⟨RX2, "lawful", "(III)Z"⟩
theorem dX2_lawful_0 : decode cX2_lawful 0 = .ok (.aload_n 0, 1) := by decide +kernel
theorem dX2_lawful_1 : decode cX2_lawful 1 = .ok (.iconst 0, 1) := by decide +kernel
theorem dX2_lawful_2 : decode cX2_lawful 2 = .ok (.putfield 220, 3) := by decide +kernel
theorem dX2_lawful_5 : decode cX2_lawful 5 = .ok (.aload_n 0, 1) := by decide +kernel
theorem dX2_lawful_6 : decode cX2_lawful 6 = .ok (.iload_n 1, 1) := by decide +kernel
theorem dX2_lawful_7 : decode cX2_lawful 7 = .ok (.invokevirtual 240, 3) := by decide +kernel
theorem dX2_lawful_10 : decode cX2_lawful 10 = .ok (.ifCond .eq 17, 3) := by decide +kernel
theorem dX2_lawful_13 : decode cX2_lawful 13 = .ok (.iload_n 2, 1) := by decide +kernel
theorem dX2_lawful_14 : decode cX2_lawful 14 = .ok (.invokestatic 395, 3) := by decide +kernel
theorem dX2_lawful_17 : decode cX2_lawful 17 = .ok (.ifCond .eq 10, 3) := by decide +kernel
theorem dX2_lawful_20 : decode cX2_lawful 20 = .ok (.iload_n 3, 1) := by decide +kernel
theorem dX2_lawful_21 : decode cX2_lawful 21 = .ok (.invokestatic 395, 3) := by decide +kernel
theorem dX2_lawful_24 : decode cX2_lawful 24 = .ok (.ifCond .ne 5, 3) := by decide +kernel
theorem dX2_lawful_27 : decode cX2_lawful 27 = .ok (.iconst 0, 1) := by decide +kernel
theorem dX2_lawful_28 : decode cX2_lawful 28 = .ok (.ireturn, 1) := by decide +kernel
theorem dX2_lawful_29 : decode cX2_lawful 29 = .ok (.iload_n 2, 1) := by decide +kernel
theorem dX2_lawful_30 : decode cX2_lawful 30 = .ok (.iload_n 3, 1) := by decide +kernel
theorem dX2_lawful_31 : decode cX2_lawful 31 = .ok (.if_icmp .ge 7, 3) := by decide +kernel
theorem dX2_lawful_34 : decode cX2_lawful 34 = .ok (.iload_n 2, 1) := by decide +kernel
theorem dX2_lawful_35 : decode cX2_lawful 35 = .ok (.goto 4, 3) := by decide +kernel
theorem dX2_lawful_38 : decode cX2_lawful 38 = .ok (.iload_n 3, 1) := by decide +kernel
theorem dX2_lawful_39 : decode cX2_lawful 39 = .ok (.istore 4, 2) := by decide +kernel
theorem dX2_lawful_41 : decode cX2_lawful 41 = .ok (.iconst 0, 1) := by decide +kernel
theorem dX2_lawful_42 : decode cX2_lawful 42 = .ok (.istore 5, 2) := by decide +kernel
theorem dX2_lawful_44 : decode cX2_lawful 44 = .ok (.iload 5, 2) := by decide +kernel
theorem dX2_lawful_46 : decode cX2_lawful 46 = .ok (.bipush 8, 2) := by decide +kernel
theorem dX2_lawful_48 : decode cX2_lawful 48 = .ok (.if_icmp .ge 17, 3) := by decide +kernel
theorem dX2_lawful_51 : decode cX2_lawful 51 = .ok (.aload_n 0, 1) := by decide +kernel
theorem dX2_lawful_52 : decode cX2_lawful 52 = .ok (.getfield 189, 3) := by decide +kernel
theorem dX2_lawful_55 : decode cX2_lawful 55 = .ok (.iload 5, 2) := by decide +kernel
theorem dX2_lawful_57 : decode cX2_lawful 57 = .ok (.iconst 0, 1) := by decide +kernel
theorem dX2_lawful_58 : decode cX2_lawful 58 = .ok (.iastore, 1) := by decide +kernel
theorem dX2_lawful_59 : decode cX2_lawful 59 = .ok (.iinc 5 1, 3) := by decide +kernel
theorem dX2_lawful_62 : decode cX2_lawful 62 = .ok (.goto (-18), 3) := by decide +kernel
theorem dX2_lawful_65 : decode cX2_lawful 65 = .ok (.aload_n 0, 1) := by decide +kernel
theorem dX2_lawful_66 : decode cX2_lawful 66 = .ok (.getfield 189, 3) := by decide +kernel
theorem dX2_lawful_69 : decode cX2_lawful 69 = .ok (.iconst 2, 1) := by decide +kernel
theorem dX2_lawful_70 : decode cX2_lawful 70 = .ok (.bipush 9, 2) := by decide +kernel
theorem dX2_lawful_72 : decode cX2_lawful 72 = .ok (.iastore, 1) := by decide +kernel
theorem dX2_lawful_73 : decode cX2_lawful 73 = .ok (.iconst 0, 1) := by decide +kernel
theorem dX2_lawful_74 : decode cX2_lawful 74 = .ok (.istore 5, 2) := by decide +kernel
theorem dX2_lawful_76 : decode cX2_lawful 76 = .ok (.iload 5, 2) := by decide +kernel
theorem dX2_lawful_78 : decode cX2_lawful 78 = .ok (.aload_n 0, 1) := by decide +kernel
theorem dX2_lawful_79 : decode cX2_lawful 79 = .ok (.getfield 84, 3) := by decide +kernel
theorem dX2_lawful_82 : decode cX2_lawful 82 = .ok (.iconst 0, 1) := by decide +kernel
theorem dX2_lawful_83 : decode cX2_lawful 83 = .ok (.iaload, 1) := by decide +kernel
theorem dX2_lawful_84 : decode cX2_lawful 84 = .ok (.if_icmp .ge 141, 3) := by decide +kernel
theorem dX2_lawful_87 : decode cX2_lawful 87 = .ok (.aload_n 0, 1) := by decide +kernel
theorem dX2_lawful_88 : decode cX2_lawful 88 = .ok (.getfield 129, 3) := by decide +kernel
theorem dX2_lawful_91 : decode cX2_lawful 91 = .ok (.iload 5, 2) := by decide +kernel
theorem dX2_lawful_93 : decode cX2_lawful 93 = .ok (.iaload, 1) := by decide +kernel
theorem dX2_lawful_94 : decode cX2_lawful 94 = .ok (.iconst (-1), 1) := by decide +kernel
theorem dX2_lawful_95 : decode cX2_lawful 95 = .ok (.if_icmp .eq 15, 3) := by decide +kernel
theorem dX2_lawful_98 : decode cX2_lawful 98 = .ok (.aload_n 0, 1) := by decide +kernel
theorem dX2_lawful_99 : decode cX2_lawful 99 = .ok (.getfield 129, 3) := by decide +kernel
theorem dX2_lawful_102 : decode cX2_lawful 102 = .ok (.iload 5, 2) := by decide +kernel
theorem dX2_lawful_104 : decode cX2_lawful 104 = .ok (.iaload, 1) := by decide +kernel
theorem dX2_lawful_105 : decode cX2_lawful 105 = .ok (.iload 4, 2) := by decide +kernel
theorem dX2_lawful_107 : decode cX2_lawful 107 = .ok (.if_icmp .le 7, 3) := by decide +kernel
theorem dX2_lawful_110 : decode cX2_lawful 110 = .ok (.iconst 1, 1) := by decide +kernel
theorem dX2_lawful_111 : decode cX2_lawful 111 = .ok (.goto 4, 3) := by decide +kernel
theorem dX2_lawful_114 : decode cX2_lawful 114 = .ok (.iconst 0, 1) := by decide +kernel
theorem dX2_lawful_115 : decode cX2_lawful 115 = .ok (.istore 6, 2) := by decide +kernel
theorem dX2_lawful_117 : decode cX2_lawful 117 = .ok (.aload_n 0, 1) := by decide +kernel
theorem dX2_lawful_118 : decode cX2_lawful 118 = .ok (.getfield 87, 3) := by decide +kernel
theorem dX2_lawful_121 : decode cX2_lawful 121 = .ok (.iload 5, 2) := by decide +kernel
theorem dX2_lawful_123 : decode cX2_lawful 123 = .ok (.iaload, 1) := by decide +kernel
theorem dX2_lawful_124 : decode cX2_lawful 124 = .ok (.iload_n 1, 1) := by decide +kernel
theorem dX2_lawful_125 : decode cX2_lawful 125 = .ok (.if_icmp .ne 94, 3) := by decide +kernel
theorem dX2_lawful_128 : decode cX2_lawful 128 = .ok (.aload_n 0, 1) := by decide +kernel
theorem dX2_lawful_129 : decode cX2_lawful 129 = .ok (.getfield 102, 3) := by decide +kernel
theorem dX2_lawful_132 : decode cX2_lawful 132 = .ok (.iload 5, 2) := by decide +kernel
theorem dX2_lawful_134 : decode cX2_lawful 134 = .ok (.iaload, 1) := by decide +kernel
theorem dX2_lawful_135 : decode cX2_lawful 135 = .ok (.iload_n 2, 1) := by decide +kernel
theorem dX2_lawful_136 : decode cX2_lawful 136 = .ok (.if_icmp .gt 83, 3) := by decide +kernel
theorem dX2_lawful_139 : decode cX2_lawful 139 = .ok (.aload_n 0, 1) := by decide +kernel
theorem dX2_lawful_140 : decode cX2_lawful 140 = .ok (.getfield 105, 3) := by decide +kernel
theorem dX2_lawful_143 : decode cX2_lawful 143 = .ok (.iload 5, 2) := by decide +kernel
theorem dX2_lawful_145 : decode cX2_lawful 145 = .ok (.iaload, 1) := by decide +kernel
theorem dX2_lawful_146 : decode cX2_lawful 146 = .ok (.iload_n 3, 1) := by decide +kernel
theorem dX2_lawful_147 : decode cX2_lawful 147 = .ok (.if_icmp .gt 72, 3) := by decide +kernel
theorem dX2_lawful_150 : decode cX2_lawful 150 = .ok (.iload 6, 2) := by decide +kernel
theorem dX2_lawful_152 : decode cX2_lawful 152 = .ok (.ifCond .eq 67, 3) := by decide +kernel
theorem dX2_lawful_155 : decode cX2_lawful 155 = .ok (.aload_n 0, 1) := by decide +kernel
theorem dX2_lawful_156 : decode cX2_lawful 156 = .ok (.getfield 189, 3) := by decide +kernel
theorem dX2_lawful_159 : decode cX2_lawful 159 = .ok (.iconst 0, 1) := by decide +kernel
theorem dX2_lawful_160 : decode cX2_lawful 160 = .ok (.dup2, 1) := by decide +kernel
theorem dX2_lawful_161 : decode cX2_lawful 161 = .ok (.iaload, 1) := by decide +kernel
theorem dX2_lawful_162 : decode cX2_lawful 162 = .ok (.aload_n 0, 1) := by decide +kernel
theorem dX2_lawful_163 : decode cX2_lawful 163 = .ok (.getfield 93, 3) := by decide +kernel
theorem dX2_lawful_166 : decode cX2_lawful 166 = .ok (.iload 5, 2) := by decide +kernel
theorem dX2_lawful_168 : decode cX2_lawful 168 = .ok (.iaload, 1) := by decide +kernel
theorem dX2_lawful_169 : decode cX2_lawful 169 = .ok (.iadd, 1) := by decide +kernel
theorem dX2_lawful_170 : decode cX2_lawful 170 = .ok (.iastore, 1) := by decide +kernel
theorem dX2_lawful_171 : decode cX2_lawful 171 = .ok (.aload_n 0, 1) := by decide +kernel
theorem dX2_lawful_172 : decode cX2_lawful 172 = .ok (.getfield 189, 3) := by decide +kernel
theorem dX2_lawful_175 : decode cX2_lawful 175 = .ok (.iconst 1, 1) := by decide +kernel
theorem dX2_lawful_176 : decode cX2_lawful 176 = .ok (.dup2, 1) := by decide +kernel
theorem dX2_lawful_177 : decode cX2_lawful 177 = .ok (.iaload, 1) := by decide +kernel
theorem dX2_lawful_178 : decode cX2_lawful 178 = .ok (.iconst 1, 1) := by decide +kernel
theorem dX2_lawful_179 : decode cX2_lawful 179 = .ok (.iadd, 1) := by decide +kernel
theorem dX2_lawful_180 : decode cX2_lawful 180 = .ok (.iastore, 1) := by decide +kernel
theorem dX2_lawful_181 : decode cX2_lawful 181 = .ok (.aload_n 0, 1) := by decide +kernel
theorem dX2_lawful_182 : decode cX2_lawful 182 = .ok (.getfield 189, 3) := by decide +kernel
theorem dX2_lawful_185 : decode cX2_lawful 185 = .ok (.iconst 2, 1) := by decide +kernel
theorem dX2_lawful_186 : decode cX2_lawful 186 = .ok (.aload_n 0, 1) := by decide +kernel
theorem dX2_lawful_187 : decode cX2_lawful 187 = .ok (.getfield 96, 3) := by decide +kernel
theorem dX2_lawful_190 : decode cX2_lawful 190 = .ok (.iload 5, 2) := by decide +kernel
theorem dX2_lawful_192 : decode cX2_lawful 192 = .ok (.iaload, 1) := by decide +kernel
theorem dX2_lawful_193 : decode cX2_lawful 193 = .ok (.aload_n 0, 1) := by decide +kernel
theorem dX2_lawful_194 : decode cX2_lawful 194 = .ok (.getfield 189, 3) := by decide +kernel
theorem dX2_lawful_197 : decode cX2_lawful 197 = .ok (.iconst 2, 1) := by decide +kernel
theorem dX2_lawful_198 : decode cX2_lawful 198 = .ok (.iaload, 1) := by decide +kernel
theorem dX2_lawful_199 : decode cX2_lawful 199 = .ok (.if_icmp .ge 13, 3) := by decide +kernel
theorem dX2_lawful_202 : decode cX2_lawful 202 = .ok (.aload_n 0, 1) := by decide +kernel
theorem dX2_lawful_203 : decode cX2_lawful 203 = .ok (.getfield 96, 3) := by decide +kernel
theorem dX2_lawful_206 : decode cX2_lawful 206 = .ok (.iload 5, 2) := by decide +kernel
theorem dX2_lawful_208 : decode cX2_lawful 208 = .ok (.iaload, 1) := by decide +kernel
theorem dX2_lawful_209 : decode cX2_lawful 209 = .ok (.goto 9, 3) := by decide +kernel
theorem dX2_lawful_212 : decode cX2_lawful 212 = .ok (.aload_n 0, 1) := by decide +kernel
theorem dX2_lawful_213 : decode cX2_lawful 213 = .ok (.getfield 189, 3) := by decide +kernel
theorem dX2_lawful_216 : decode cX2_lawful 216 = .ok (.iconst 2, 1) := by decide +kernel
theorem dX2_lawful_217 : decode cX2_lawful 217 = .ok (.iaload, 1) := by decide +kernel
theorem dX2_lawful_218 : decode cX2_lawful 218 = .ok (.iastore, 1) := by decide +kernel
theorem dX2_lawful_219 : decode cX2_lawful 219 = .ok (.iinc 5 1, 3) := by decide +kernel
theorem dX2_lawful_222 : decode cX2_lawful 222 = .ok (.goto (-146), 3) := by decide +kernel
theorem dX2_lawful_225 : decode cX2_lawful 225 = .ok (.aload_n 0, 1) := by decide +kernel
theorem dX2_lawful_226 : decode cX2_lawful 226 = .ok (.getfield 189, 3) := by decide +kernel
theorem dX2_lawful_229 : decode cX2_lawful 229 = .ok (.iconst 4, 1) := by decide +kernel
theorem dX2_lawful_230 : decode cX2_lawful 230 = .ok (.aload_n 0, 1) := by decide +kernel
theorem dX2_lawful_231 : decode cX2_lawful 231 = .ok (.getfield 38, 3) := by decide +kernel
theorem dX2_lawful_234 : decode cX2_lawful 234 = .ok (.iload_n 1, 1) := by decide +kernel
theorem dX2_lawful_235 : decode cX2_lawful 235 = .ok (.iaload, 1) := by decide +kernel
theorem dX2_lawful_236 : decode cX2_lawful 236 = .ok (.iastore, 1) := by decide +kernel
theorem dX2_lawful_237 : decode cX2_lawful 237 = .ok (.aload_n 0, 1) := by decide +kernel
theorem dX2_lawful_238 : decode cX2_lawful 238 = .ok (.getfield 189, 3) := by decide +kernel
theorem dX2_lawful_241 : decode cX2_lawful 241 = .ok (.bipush 7, 2) := by decide +kernel
theorem dX2_lawful_243 : decode cX2_lawful 243 = .ok (.aload_n 0, 1) := by decide +kernel
theorem dX2_lawful_244 : decode cX2_lawful 244 = .ok (.getfield 35, 3) := by decide +kernel
theorem dX2_lawful_247 : decode cX2_lawful 247 = .ok (.iload_n 1, 1) := by decide +kernel
theorem dX2_lawful_248 : decode cX2_lawful 248 = .ok (.iaload, 1) := by decide +kernel
theorem dX2_lawful_249 : decode cX2_lawful 249 = .ok (.iastore, 1) := by decide +kernel
theorem dX2_lawful_250 : decode cX2_lawful 250 = .ok (.aload_n 0, 1) := by decide +kernel
theorem dX2_lawful_251 : decode cX2_lawful 251 = .ok (.getfield 189, 3) := by decide +kernel
theorem dX2_lawful_254 : decode cX2_lawful 254 = .ok (.iconst 1, 1) := by decide +kernel
theorem dX2_lawful_255 : decode cX2_lawful 255 = .ok (.iaload, 1) := by decide +kernel
theorem dX2_lawful_256 : decode cX2_lawful 256 = .ok (.ifCond .le 21, 3) := by decide +kernel
theorem dX2_lawful_259 : decode cX2_lawful 259 = .ok (.aload_n 0, 1) := by decide +kernel
theorem dX2_lawful_260 : decode cX2_lawful 260 = .ok (.iconst 0, 1) := by decide +kernel
theorem dX2_lawful_261 : decode cX2_lawful 261 = .ok (.aload_n 0, 1) := by decide +kernel
theorem dX2_lawful_262 : decode cX2_lawful 262 = .ok (.iload_n 2, 1) := by decide +kernel
theorem dX2_lawful_263 : decode cX2_lawful 263 = .ok (.iload_n 3, 1) := by decide +kernel
theorem dX2_lawful_264 : decode cX2_lawful 264 = .ok (.invokevirtual 401, 3) := by decide +kernel
theorem dX2_lawful_267 : decode cX2_lawful 267 = .ok (.invokevirtual 414, 3) := by decide +kernel
theorem dX2_lawful_270 : decode cX2_lawful 270 = .ok (.ifCond .eq 7, 3) := by decide +kernel
theorem dX2_lawful_273 : decode cX2_lawful 273 = .ok (.iconst 1, 1) := by decide +kernel
theorem dX2_lawful_274 : decode cX2_lawful 274 = .ok (.goto 4, 3) := by decide +kernel
theorem dX2_lawful_277 : decode cX2_lawful 277 = .ok (.iconst 0, 1) := by decide +kernel
theorem dX2_lawful_278 : decode cX2_lawful 278 = .ok (.ireturn, 1) := by decide +kernel
abbrev cX2_hold : ByteArray := prog_15_method_55_code
def yX2_hold : MethodName := ⟨RX2, "hold", "(II)Z"⟩
theorem dX2_hold_0 : decode cX2_hold 0 = .ok (.aload_n 0, 1) := by decide +kernel
theorem dX2_hold_1 : decode cX2_hold 1 = .ok (.iconst 0, 1) := by decide +kernel
theorem dX2_hold_2 : decode cX2_hold 2 = .ok (.putfield 220, 3) := by decide +kernel
theorem dX2_hold_5 : decode cX2_hold 5 = .ok (.aload_n 0, 1) := by decide +kernel
theorem dX2_hold_6 : decode cX2_hold 6 = .ok (.iload_n 1, 1) := by decide +kernel
theorem dX2_hold_7 : decode cX2_hold 7 = .ok (.iload_n 2, 1) := by decide +kernel
theorem dX2_hold_8 : decode cX2_hold 8 = .ok (.invokevirtual 248, 3) := by decide +kernel
theorem dX2_hold_11 : decode cX2_hold 11 = .ok (.ifCond .eq 34, 3) := by decide +kernel
theorem dX2_hold_14 : decode cX2_hold 14 = .ok (.aload_n 0, 1) := by decide +kernel
theorem dX2_hold_15 : decode cX2_hold 15 = .ok (.iload_n 2, 1) := by decide +kernel
theorem dX2_hold_16 : decode cX2_hold 16 = .ok (.iload_n 1, 1) := by decide +kernel
theorem dX2_hold_17 : decode cX2_hold 17 = .ok (.invokevirtual 417, 3) := by decide +kernel
theorem dX2_hold_20 : decode cX2_hold 20 = .ok (.ifCond .eq 25, 3) := by decide +kernel
theorem dX2_hold_23 : decode cX2_hold 23 = .ok (.aload_n 0, 1) := by decide +kernel
theorem dX2_hold_24 : decode cX2_hold 24 = .ok (.getfield 66, 3) := by decide +kernel
theorem dX2_hold_27 : decode cX2_hold 27 = .ok (.iload_n 2, 1) := by decide +kernel
theorem dX2_hold_28 : decode cX2_hold 28 = .ok (.iaload, 1) := by decide +kernel
theorem dX2_hold_29 : decode cX2_hold 29 = .ok (.iload_n 1, 1) := by decide +kernel
theorem dX2_hold_30 : decode cX2_hold 30 = .ok (.ishr, 1) := by decide +kernel
theorem dX2_hold_31 : decode cX2_hold 31 = .ok (.iconst 1, 1) := by decide +kernel
theorem dX2_hold_32 : decode cX2_hold 32 = .ok (.iand, 1) := by decide +kernel
theorem dX2_hold_33 : decode cX2_hold 33 = .ok (.ifCond .ne 12, 3) := by decide +kernel
theorem dX2_hold_36 : decode cX2_hold 36 = .ok (.aload_n 0, 1) := by decide +kernel
theorem dX2_hold_37 : decode cX2_hold 37 = .ok (.iload_n 2, 1) := by decide +kernel
theorem dX2_hold_38 : decode cX2_hold 38 = .ok (.iconst 0, 1) := by decide +kernel
theorem dX2_hold_39 : decode cX2_hold 39 = .ok (.invokevirtual 420, 3) := by decide +kernel
theorem dX2_hold_42 : decode cX2_hold 42 = .ok (.ifCond .ne 5, 3) := by decide +kernel
theorem dX2_hold_45 : decode cX2_hold 45 = .ok (.iconst 0, 1) := by decide +kernel
theorem dX2_hold_46 : decode cX2_hold 46 = .ok (.ireturn, 1) := by decide +kernel
theorem dX2_hold_47 : decode cX2_hold 47 = .ok (.aload_n 0, 1) := by decide +kernel
theorem dX2_hold_48 : decode cX2_hold 48 = .ok (.getfield 41, 3) := by decide +kernel
theorem dX2_hold_51 : decode cX2_hold 51 = .ok (.iload_n 2, 1) := by decide +kernel
theorem dX2_hold_52 : decode cX2_hold 52 = .ok (.baload, 1) := by decide +kernel
theorem dX2_hold_53 : decode cX2_hold 53 = .ok (.ifCond .ne 48, 3) := by decide +kernel
theorem dX2_hold_56 : decode cX2_hold 56 = .ok (.aload_n 0, 1) := by decide +kernel
theorem dX2_hold_57 : decode cX2_hold 57 = .ok (.getfield 51, 3) := by decide +kernel
theorem dX2_hold_60 : decode cX2_hold 60 = .ok (.iload_n 2, 1) := by decide +kernel
theorem dX2_hold_61 : decode cX2_hold 61 = .ok (.aload_n 0, 1) := by decide +kernel
theorem dX2_hold_62 : decode cX2_hold 62 = .ok (.iload_n 2, 1) := by decide +kernel
theorem dX2_hold_63 : decode cX2_hold 63 = .ok (.iconst 1, 1) := by decide +kernel
theorem dX2_hold_64 : decode cX2_hold 64 = .ok (.invokevirtual 420, 3) := by decide +kernel
theorem dX2_hold_67 : decode cX2_hold 67 = .ok (.iastore, 1) := by decide +kernel
theorem dX2_hold_68 : decode cX2_hold 68 = .ok (.aload_n 0, 1) := by decide +kernel
theorem dX2_hold_69 : decode cX2_hold 69 = .ok (.getfield 41, 3) := by decide +kernel
theorem dX2_hold_72 : decode cX2_hold 72 = .ok (.iload_n 2, 1) := by decide +kernel
theorem dX2_hold_73 : decode cX2_hold 73 = .ok (.iconst 1, 1) := by decide +kernel
theorem dX2_hold_74 : decode cX2_hold 74 = .ok (.bastore, 1) := by decide +kernel
theorem dX2_hold_75 : decode cX2_hold 75 = .ok (.aload_n 0, 1) := by decide +kernel
theorem dX2_hold_76 : decode cX2_hold 76 = .ok (.getfield 45, 3) := by decide +kernel
theorem dX2_hold_79 : decode cX2_hold 79 = .ok (.iload_n 2, 1) := by decide +kernel
theorem dX2_hold_80 : decode cX2_hold 80 = .ok (.aload_n 0, 1) := by decide +kernel
theorem dX2_hold_81 : decode cX2_hold 81 = .ok (.getfield 23, 3) := by decide +kernel
theorem dX2_hold_84 : decode cX2_hold 84 = .ok (.iconst 0, 1) := by decide +kernel
theorem dX2_hold_85 : decode cX2_hold 85 = .ok (.iaload, 1) := by decide +kernel
theorem dX2_hold_86 : decode cX2_hold 86 = .ok (.iastore, 1) := by decide +kernel
theorem dX2_hold_87 : decode cX2_hold 87 = .ok (.aload_n 0, 1) := by decide +kernel
theorem dX2_hold_88 : decode cX2_hold 88 = .ok (.getfield 48, 3) := by decide +kernel
theorem dX2_hold_91 : decode cX2_hold 91 = .ok (.iload_n 2, 1) := by decide +kernel
theorem dX2_hold_92 : decode cX2_hold 92 = .ok (.iconst 0, 1) := by decide +kernel
theorem dX2_hold_93 : decode cX2_hold 93 = .ok (.iastore, 1) := by decide +kernel
theorem dX2_hold_94 : decode cX2_hold 94 = .ok (.aload_n 0, 1) := by decide +kernel
theorem dX2_hold_95 : decode cX2_hold 95 = .ok (.getfield 54, 3) := by decide +kernel
theorem dX2_hold_98 : decode cX2_hold 98 = .ok (.iload_n 2, 1) := by decide +kernel
theorem dX2_hold_99 : decode cX2_hold 99 = .ok (.iconst 0, 1) := by decide +kernel
theorem dX2_hold_100 : decode cX2_hold 100 = .ok (.bastore, 1) := by decide +kernel
theorem dX2_hold_101 : decode cX2_hold 101 = .ok (.aload_n 0, 1) := by decide +kernel
theorem dX2_hold_102 : decode cX2_hold 102 = .ok (.getfield 66, 3) := by decide +kernel
theorem dX2_hold_105 : decode cX2_hold 105 = .ok (.iload_n 2, 1) := by decide +kernel
theorem dX2_hold_106 : decode cX2_hold 106 = .ok (.dup2, 1) := by decide +kernel
theorem dX2_hold_107 : decode cX2_hold 107 = .ok (.iaload, 1) := by decide +kernel
theorem dX2_hold_108 : decode cX2_hold 108 = .ok (.iconst 1, 1) := by decide +kernel
theorem dX2_hold_109 : decode cX2_hold 109 = .ok (.iload_n 1, 1) := by decide +kernel
theorem dX2_hold_110 : decode cX2_hold 110 = .ok (.ishl, 1) := by decide +kernel
theorem dX2_hold_111 : decode cX2_hold 111 = .ok (.ior, 1) := by decide +kernel
theorem dX2_hold_112 : decode cX2_hold 112 = .ok (.iastore, 1) := by decide +kernel
theorem dX2_hold_113 : decode cX2_hold 113 = .ok (.iconst 1, 1) := by decide +kernel
theorem dX2_hold_114 : decode cX2_hold 114 = .ok (.ireturn, 1) := by decide +kernel
abbrev cX2_owes : ByteArray := prog_15_method_54_code
def yX2_owes : MethodName := ⟨RX2, "owes", "(II)Z"⟩
theorem dX2_owes_0 : decode cX2_owes 0 = .ok (.iconst 0, 1) := by decide +kernel
theorem dX2_owes_1 : decode cX2_owes 1 = .ok (.istore_n 3, 1) := by decide +kernel
theorem dX2_owes_2 : decode cX2_owes 2 = .ok (.iload_n 3, 1) := by decide +kernel
theorem dX2_owes_3 : decode cX2_owes 3 = .ok (.aload_n 0, 1) := by decide +kernel
theorem dX2_owes_4 : decode cX2_owes 4 = .ok (.getfield 84, 3) := by decide +kernel
theorem dX2_owes_7 : decode cX2_owes 7 = .ok (.iconst 0, 1) := by decide +kernel
theorem dX2_owes_8 : decode cX2_owes 8 = .ok (.iaload, 1) := by decide +kernel
theorem dX2_owes_9 : decode cX2_owes 9 = .ok (.if_icmp .ge 40, 3) := by decide +kernel
theorem dX2_owes_12 : decode cX2_owes 12 = .ok (.aload_n 0, 1) := by decide +kernel
theorem dX2_owes_13 : decode cX2_owes 13 = .ok (.getfield 108, 3) := by decide +kernel
theorem dX2_owes_16 : decode cX2_owes 16 = .ok (.iload_n 3, 1) := by decide +kernel
theorem dX2_owes_17 : decode cX2_owes 17 = .ok (.iaload, 1) := by decide +kernel
theorem dX2_owes_18 : decode cX2_owes 18 = .ok (.ifCond .ne 25, 3) := by decide +kernel
theorem dX2_owes_21 : decode cX2_owes 21 = .ok (.aload_n 0, 1) := by decide +kernel
theorem dX2_owes_22 : decode cX2_owes 22 = .ok (.getfield 87, 3) := by decide +kernel
theorem dX2_owes_25 : decode cX2_owes 25 = .ok (.iload_n 3, 1) := by decide +kernel
theorem dX2_owes_26 : decode cX2_owes 26 = .ok (.iaload, 1) := by decide +kernel
theorem dX2_owes_27 : decode cX2_owes 27 = .ok (.iload_n 1, 1) := by decide +kernel
theorem dX2_owes_28 : decode cX2_owes 28 = .ok (.if_icmp .ne 15, 3) := by decide +kernel
theorem dX2_owes_31 : decode cX2_owes 31 = .ok (.aload_n 0, 1) := by decide +kernel
theorem dX2_owes_32 : decode cX2_owes 32 = .ok (.getfield 90, 3) := by decide +kernel
theorem dX2_owes_35 : decode cX2_owes 35 = .ok (.iload_n 3, 1) := by decide +kernel
theorem dX2_owes_36 : decode cX2_owes 36 = .ok (.iaload, 1) := by decide +kernel
theorem dX2_owes_37 : decode cX2_owes 37 = .ok (.iload_n 2, 1) := by decide +kernel
theorem dX2_owes_38 : decode cX2_owes 38 = .ok (.if_icmp .ne 5, 3) := by decide +kernel
theorem dX2_owes_41 : decode cX2_owes 41 = .ok (.iconst 1, 1) := by decide +kernel
theorem dX2_owes_42 : decode cX2_owes 42 = .ok (.ireturn, 1) := by decide +kernel
theorem dX2_owes_43 : decode cX2_owes 43 = .ok (.iinc 3 1, 3) := by decide +kernel
theorem dX2_owes_46 : decode cX2_owes 46 = .ok (.goto (-44), 3) := by decide +kernel
theorem dX2_owes_49 : decode cX2_owes 49 = .ok (.iconst 0, 1) := by decide +kernel
theorem dX2_owes_50 : decode cX2_owes 50 = .ok (.ireturn, 1) := by decide +kernel
abbrev cX2_tellsNow : ByteArray := prog_15_method_51_code
def yX2_tellsNow : MethodName := ⟨RX2, "tellsNow", "(II)I"⟩
theorem dX2_tellsNow_0 : decode cX2_tellsNow 0 = .ok (.aload_n 0, 1) := by decide +kernel
theorem dX2_tellsNow_1 : decode cX2_tellsNow 1 = .ok (.iload_n 1, 1) := by decide +kernel
theorem dX2_tellsNow_2 : decode cX2_tellsNow 2 = .ok (.invokevirtual 411, 3) := by decide +kernel
theorem dX2_tellsNow_5 : decode cX2_tellsNow 5 = .ok (.aload_n 0, 1) := by decide +kernel
theorem dX2_tellsNow_6 : decode cX2_tellsNow 6 = .ok (.iload_n 2, 1) := by decide +kernel
theorem dX2_tellsNow_7 : decode cX2_tellsNow 7 = .ok (.aload_n 0, 1) := by decide +kernel
theorem dX2_tellsNow_8 : decode cX2_tellsNow 8 = .ok (.aload_n 0, 1) := by decide +kernel
theorem dX2_tellsNow_9 : decode cX2_tellsNow 9 = .ok (.getfield 23, 3) := by decide +kernel
theorem dX2_tellsNow_12 : decode cX2_tellsNow 12 = .ok (.iconst 0, 1) := by decide +kernel
theorem dX2_tellsNow_13 : decode cX2_tellsNow 13 = .ok (.iaload, 1) := by decide +kernel
theorem dX2_tellsNow_14 : decode cX2_tellsNow 14 = .ok (.aload_n 0, 1) := by decide +kernel
theorem dX2_tellsNow_15 : decode cX2_tellsNow 15 = .ok (.getfield 23, 3) := by decide +kernel
theorem dX2_tellsNow_18 : decode cX2_tellsNow 18 = .ok (.iconst 0, 1) := by decide +kernel
theorem dX2_tellsNow_19 : decode cX2_tellsNow 19 = .ok (.iaload, 1) := by decide +kernel
theorem dX2_tellsNow_20 : decode cX2_tellsNow 20 = .ok (.invokevirtual 401, 3) := by decide +kernel
theorem dX2_tellsNow_23 : decode cX2_tellsNow 23 = .ok (.invokevirtual 414, 3) := by decide +kernel
theorem dX2_tellsNow_26 : decode cX2_tellsNow 26 = .ok (.ireturn, 1) := by decide +kernel
abbrev cX2_tire : ByteArray := prog_15_method_56_code
def yX2_tire : MethodName := ⟨RX2, "tire", "(II)Z"⟩
theorem dX2_tire_0 : decode cX2_tire 0 = .ok (.aload_n 0, 1) := by decide +kernel
theorem dX2_tire_1 : decode cX2_tire 1 = .ok (.iconst 0, 1) := by decide +kernel
theorem dX2_tire_2 : decode cX2_tire 2 = .ok (.putfield 220, 3) := by decide +kernel
theorem dX2_tire_5 : decode cX2_tire 5 = .ok (.aload_n 0, 1) := by decide +kernel
theorem dX2_tire_6 : decode cX2_tire 6 = .ok (.iload_n 1, 1) := by decide +kernel
theorem dX2_tire_7 : decode cX2_tire 7 = .ok (.iload_n 2, 1) := by decide +kernel
theorem dX2_tire_8 : decode cX2_tire 8 = .ok (.invokevirtual 248, 3) := by decide +kernel
theorem dX2_tire_11 : decode cX2_tire 11 = .ok (.ifCond .eq 16, 3) := by decide +kernel
theorem dX2_tire_14 : decode cX2_tire 14 = .ok (.aload_n 0, 1) := by decide +kernel
theorem dX2_tire_15 : decode cX2_tire 15 = .ok (.getfield 66, 3) := by decide +kernel
theorem dX2_tire_18 : decode cX2_tire 18 = .ok (.iload_n 2, 1) := by decide +kernel
theorem dX2_tire_19 : decode cX2_tire 19 = .ok (.iaload, 1) := by decide +kernel
theorem dX2_tire_20 : decode cX2_tire 20 = .ok (.iload_n 1, 1) := by decide +kernel
theorem dX2_tire_21 : decode cX2_tire 21 = .ok (.ishr, 1) := by decide +kernel
theorem dX2_tire_22 : decode cX2_tire 22 = .ok (.iconst 1, 1) := by decide +kernel
theorem dX2_tire_23 : decode cX2_tire 23 = .ok (.iand, 1) := by decide +kernel
theorem dX2_tire_24 : decode cX2_tire 24 = .ok (.ifCond .ne 5, 3) := by decide +kernel
theorem dX2_tire_27 : decode cX2_tire 27 = .ok (.iconst 0, 1) := by decide +kernel
theorem dX2_tire_28 : decode cX2_tire 28 = .ok (.ireturn, 1) := by decide +kernel
theorem dX2_tire_29 : decode cX2_tire 29 = .ok (.aload_n 0, 1) := by decide +kernel
theorem dX2_tire_30 : decode cX2_tire 30 = .ok (.getfield 66, 3) := by decide +kernel
theorem dX2_tire_33 : decode cX2_tire 33 = .ok (.iload_n 2, 1) := by decide +kernel
theorem dX2_tire_34 : decode cX2_tire 34 = .ok (.dup2, 1) := by decide +kernel
theorem dX2_tire_35 : decode cX2_tire 35 = .ok (.iaload, 1) := by decide +kernel
theorem dX2_tire_36 : decode cX2_tire 36 = .ok (.iconst 1, 1) := by decide +kernel
theorem dX2_tire_37 : decode cX2_tire 37 = .ok (.iload_n 1, 1) := by decide +kernel
theorem dX2_tire_38 : decode cX2_tire 38 = .ok (.ishl, 1) := by decide +kernel
theorem dX2_tire_39 : decode cX2_tire 39 = .ok (.iconst (-1), 1) := by decide +kernel
theorem dX2_tire_40 : decode cX2_tire 40 = .ok (.ixor, 1) := by decide +kernel
theorem dX2_tire_41 : decode cX2_tire 41 = .ok (.iand, 1) := by decide +kernel
theorem dX2_tire_42 : decode cX2_tire 42 = .ok (.iastore, 1) := by decide +kernel
theorem dX2_tire_43 : decode cX2_tire 43 = .ok (.iconst 1, 1) := by decide +kernel
theorem dX2_tire_44 : decode cX2_tire 44 = .ok (.ireturn, 1) := by decide +kernel
abbrev cX2_leave : ByteArray := prog_15_method_58_code
def yX2_leave : MethodName := ⟨RX2, "leave", "(I)Z"⟩
theorem dX2_leave_0 : decode cX2_leave 0 = .ok (.aload_n 0, 1) := by decide +kernel
theorem dX2_leave_1 : decode cX2_leave 1 = .ok (.iconst 0, 1) := by decide +kernel
theorem dX2_leave_2 : decode cX2_leave 2 = .ok (.putfield 220, 3) := by decide +kernel
theorem dX2_leave_5 : decode cX2_leave 5 = .ok (.aload_n 0, 1) := by decide +kernel
theorem dX2_leave_6 : decode cX2_leave 6 = .ok (.iload_n 1, 1) := by decide +kernel
theorem dX2_leave_7 : decode cX2_leave 7 = .ok (.invokevirtual 240, 3) := by decide +kernel
theorem dX2_leave_10 : decode cX2_leave 10 = .ok (.ifCond .eq 45, 3) := by decide +kernel
theorem dX2_leave_13 : decode cX2_leave 13 = .ok (.aload_n 0, 1) := by decide +kernel
theorem dX2_leave_14 : decode cX2_leave 14 = .ok (.getfield 41, 3) := by decide +kernel
theorem dX2_leave_17 : decode cX2_leave 17 = .ok (.iload_n 1, 1) := by decide +kernel
theorem dX2_leave_18 : decode cX2_leave 18 = .ok (.baload, 1) := by decide +kernel
theorem dX2_leave_19 : decode cX2_leave 19 = .ok (.ifCond .eq 36, 3) := by decide +kernel
theorem dX2_leave_22 : decode cX2_leave 22 = .ok (.aload_n 0, 1) := by decide +kernel
theorem dX2_leave_23 : decode cX2_leave 23 = .ok (.getfield 66, 3) := by decide +kernel
theorem dX2_leave_26 : decode cX2_leave 26 = .ok (.iload_n 1, 1) := by decide +kernel
theorem dX2_leave_27 : decode cX2_leave 27 = .ok (.iaload, 1) := by decide +kernel
theorem dX2_leave_28 : decode cX2_leave 28 = .ok (.ifCond .ne 27, 3) := by decide +kernel
theorem dX2_leave_31 : decode cX2_leave 31 = .ok (.aload_n 0, 1) := by decide +kernel
theorem dX2_leave_32 : decode cX2_leave 32 = .ok (.getfield 54, 3) := by decide +kernel
theorem dX2_leave_35 : decode cX2_leave 35 = .ok (.iload_n 1, 1) := by decide +kernel
theorem dX2_leave_36 : decode cX2_leave 36 = .ok (.baload, 1) := by decide +kernel
theorem dX2_leave_37 : decode cX2_leave 37 = .ok (.ifCond .ne 18, 3) := by decide +kernel
theorem dX2_leave_40 : decode cX2_leave 40 = .ok (.aload_n 0, 1) := by decide +kernel
theorem dX2_leave_41 : decode cX2_leave 41 = .ok (.getfield 35, 3) := by decide +kernel
theorem dX2_leave_44 : decode cX2_leave 44 = .ok (.iload_n 1, 1) := by decide +kernel
theorem dX2_leave_45 : decode cX2_leave 45 = .ok (.iaload, 1) := by decide +kernel
theorem dX2_leave_46 : decode cX2_leave 46 = .ok (.aload_n 0, 1) := by decide +kernel
theorem dX2_leave_47 : decode cX2_leave 47 = .ok (.getfield 51, 3) := by decide +kernel
theorem dX2_leave_50 : decode cX2_leave 50 = .ok (.iload_n 1, 1) := by decide +kernel
theorem dX2_leave_51 : decode cX2_leave 51 = .ok (.iaload, 1) := by decide +kernel
theorem dX2_leave_52 : decode cX2_leave 52 = .ok (.if_icmp .ge 5, 3) := by decide +kernel
theorem dX2_leave_55 : decode cX2_leave 55 = .ok (.iconst 0, 1) := by decide +kernel
theorem dX2_leave_56 : decode cX2_leave 56 = .ok (.ireturn, 1) := by decide +kernel
theorem dX2_leave_57 : decode cX2_leave 57 = .ok (.aload_n 0, 1) := by decide +kernel
theorem dX2_leave_58 : decode cX2_leave 58 = .ok (.getfield 35, 3) := by decide +kernel
theorem dX2_leave_61 : decode cX2_leave 61 = .ok (.iload_n 1, 1) := by decide +kernel
theorem dX2_leave_62 : decode cX2_leave 62 = .ok (.dup2, 1) := by decide +kernel
theorem dX2_leave_63 : decode cX2_leave 63 = .ok (.iaload, 1) := by decide +kernel
theorem dX2_leave_64 : decode cX2_leave 64 = .ok (.aload_n 0, 1) := by decide +kernel
theorem dX2_leave_65 : decode cX2_leave 65 = .ok (.getfield 51, 3) := by decide +kernel
theorem dX2_leave_68 : decode cX2_leave 68 = .ok (.iload_n 1, 1) := by decide +kernel
theorem dX2_leave_69 : decode cX2_leave 69 = .ok (.iaload, 1) := by decide +kernel
theorem dX2_leave_70 : decode cX2_leave 70 = .ok (.isub, 1) := by decide +kernel
theorem dX2_leave_71 : decode cX2_leave 71 = .ok (.iastore, 1) := by decide +kernel
theorem dX2_leave_72 : decode cX2_leave 72 = .ok (.aload_n 0, 1) := by decide +kernel
theorem dX2_leave_73 : decode cX2_leave 73 = .ok (.getfield 29, 3) := by decide +kernel
theorem dX2_leave_76 : decode cX2_leave 76 = .ok (.iconst 0, 1) := by decide +kernel
theorem dX2_leave_77 : decode cX2_leave 77 = .ok (.dup2, 1) := by decide +kernel
theorem dX2_leave_78 : decode cX2_leave 78 = .ok (.iaload, 1) := by decide +kernel
theorem dX2_leave_79 : decode cX2_leave 79 = .ok (.aload_n 0, 1) := by decide +kernel
theorem dX2_leave_80 : decode cX2_leave 80 = .ok (.getfield 51, 3) := by decide +kernel
theorem dX2_leave_83 : decode cX2_leave 83 = .ok (.iload_n 1, 1) := by decide +kernel
theorem dX2_leave_84 : decode cX2_leave 84 = .ok (.iaload, 1) := by decide +kernel
theorem dX2_leave_85 : decode cX2_leave 85 = .ok (.iadd, 1) := by decide +kernel
theorem dX2_leave_86 : decode cX2_leave 86 = .ok (.iastore, 1) := by decide +kernel
theorem dX2_leave_87 : decode cX2_leave 87 = .ok (.aload_n 0, 1) := by decide +kernel
theorem dX2_leave_88 : decode cX2_leave 88 = .ok (.iload_n 1, 1) := by decide +kernel
theorem dX2_leave_89 : decode cX2_leave 89 = .ok (.invokevirtual 423, 3) := by decide +kernel
theorem dX2_leave_92 : decode cX2_leave 92 = .ok (.iconst 1, 1) := by decide +kernel
theorem dX2_leave_93 : decode cX2_leave 93 = .ok (.ireturn, 1) := by decide +kernel
abbrev cX2_goes : ByteArray := prog_15_method_57_code
def yX2_goes : MethodName := ⟨RX2, "goes", "(I)V"⟩
theorem dX2_goes_0 : decode cX2_goes 0 = .ok (.aload_n 0, 1) := by decide +kernel
theorem dX2_goes_1 : decode cX2_goes 1 = .ok (.getfield 41, 3) := by decide +kernel
theorem dX2_goes_4 : decode cX2_goes 4 = .ok (.iload_n 1, 1) := by decide +kernel
theorem dX2_goes_5 : decode cX2_goes 5 = .ok (.iconst 0, 1) := by decide +kernel
theorem dX2_goes_6 : decode cX2_goes 6 = .ok (.bastore, 1) := by decide +kernel
theorem dX2_goes_7 : decode cX2_goes 7 = .ok (.aload_n 0, 1) := by decide +kernel
theorem dX2_goes_8 : decode cX2_goes 8 = .ok (.getfield 45, 3) := by decide +kernel
theorem dX2_goes_11 : decode cX2_goes 11 = .ok (.iload_n 1, 1) := by decide +kernel
theorem dX2_goes_12 : decode cX2_goes 12 = .ok (.iconst (-1), 1) := by decide +kernel
theorem dX2_goes_13 : decode cX2_goes 13 = .ok (.iastore, 1) := by decide +kernel
theorem dX2_goes_14 : decode cX2_goes 14 = .ok (.aload_n 0, 1) := by decide +kernel
theorem dX2_goes_15 : decode cX2_goes 15 = .ok (.getfield 48, 3) := by decide +kernel
theorem dX2_goes_18 : decode cX2_goes 18 = .ok (.iload_n 1, 1) := by decide +kernel
theorem dX2_goes_19 : decode cX2_goes 19 = .ok (.iconst (-1), 1) := by decide +kernel
theorem dX2_goes_20 : decode cX2_goes 20 = .ok (.iastore, 1) := by decide +kernel
theorem dX2_goes_21 : decode cX2_goes 21 = .ok (.aload_n 0, 1) := by decide +kernel
theorem dX2_goes_22 : decode cX2_goes 22 = .ok (.getfield 51, 3) := by decide +kernel
theorem dX2_goes_25 : decode cX2_goes 25 = .ok (.iload_n 1, 1) := by decide +kernel
theorem dX2_goes_26 : decode cX2_goes 26 = .ok (.iconst 0, 1) := by decide +kernel
theorem dX2_goes_27 : decode cX2_goes 27 = .ok (.iastore, 1) := by decide +kernel
theorem dX2_goes_28 : decode cX2_goes 28 = .ok (.aload_n 0, 1) := by decide +kernel
theorem dX2_goes_29 : decode cX2_goes 29 = .ok (.getfield 54, 3) := by decide +kernel
theorem dX2_goes_32 : decode cX2_goes 32 = .ok (.iload_n 1, 1) := by decide +kernel
theorem dX2_goes_33 : decode cX2_goes 33 = .ok (.iconst 0, 1) := by decide +kernel
theorem dX2_goes_34 : decode cX2_goes 34 = .ok (.bastore, 1) := by decide +kernel
theorem dX2_goes_35 : decode cX2_goes 35 = .ok (.aload_n 0, 1) := by decide +kernel
theorem dX2_goes_36 : decode cX2_goes 36 = .ok (.getfield 66, 3) := by decide +kernel
theorem dX2_goes_39 : decode cX2_goes 39 = .ok (.iload_n 1, 1) := by decide +kernel
theorem dX2_goes_40 : decode cX2_goes 40 = .ok (.iconst 0, 1) := by decide +kernel
theorem dX2_goes_41 : decode cX2_goes 41 = .ok (.iastore, 1) := by decide +kernel
theorem dX2_goes_42 : decode cX2_goes 42 = .ok (.return_, 1) := by decide +kernel
abbrev cX2_room : ByteArray := prog_15_method_59_code
def yX2_room : MethodName := ⟨RX2, "room", "(II)Z"⟩
theorem dX2_room_0 : decode cX2_room 0 = .ok (.aload_n 0, 1) := by decide +kernel
theorem dX2_room_1 : decode cX2_room 1 = .ok (.iconst 0, 1) := by decide +kernel
theorem dX2_room_2 : decode cX2_room 2 = .ok (.putfield 220, 3) := by decide +kernel
theorem dX2_room_5 : decode cX2_room 5 = .ok (.aload_n 0, 1) := by decide +kernel
theorem dX2_room_6 : decode cX2_room 6 = .ok (.iload_n 1, 1) := by decide +kernel
theorem dX2_room_7 : decode cX2_room 7 = .ok (.invokevirtual 240, 3) := by decide +kernel
theorem dX2_room_10 : decode cX2_room 10 = .ok (.ifCond .eq 21, 3) := by decide +kernel
theorem dX2_room_13 : decode cX2_room 13 = .ok (.aload_n 0, 1) := by decide +kernel
theorem dX2_room_14 : decode cX2_room 14 = .ok (.getfield 41, 3) := by decide +kernel
theorem dX2_room_17 : decode cX2_room 17 = .ok (.iload_n 1, 1) := by decide +kernel
theorem dX2_room_18 : decode cX2_room 18 = .ok (.baload, 1) := by decide +kernel
theorem dX2_room_19 : decode cX2_room 19 = .ok (.ifCond .eq 12, 3) := by decide +kernel
theorem dX2_room_22 : decode cX2_room 22 = .ok (.iload_n 2, 1) := by decide +kernel
theorem dX2_room_23 : decode cX2_room 23 = .ok (.iconst 0, 1) := by decide +kernel
theorem dX2_room_24 : decode cX2_room 24 = .ok (.iconst 3, 1) := by decide +kernel
theorem dX2_room_25 : decode cX2_room 25 = .ok (.invokestatic 236, 3) := by decide +kernel
theorem dX2_room_28 : decode cX2_room 28 = .ok (.ifCond .ne 5, 3) := by decide +kernel
theorem dX2_room_31 : decode cX2_room 31 = .ok (.iconst 0, 1) := by decide +kernel
theorem dX2_room_32 : decode cX2_room 32 = .ok (.ireturn, 1) := by decide +kernel
theorem dX2_room_33 : decode cX2_room 33 = .ok (.aload_n 0, 1) := by decide +kernel
theorem dX2_room_34 : decode cX2_room 34 = .ok (.getfield 48, 3) := by decide +kernel
theorem dX2_room_37 : decode cX2_room 37 = .ok (.iload_n 1, 1) := by decide +kernel
theorem dX2_room_38 : decode cX2_room 38 = .ok (.iload_n 2, 1) := by decide +kernel
theorem dX2_room_39 : decode cX2_room 39 = .ok (.iastore, 1) := by decide +kernel
theorem dX2_room_40 : decode cX2_room 40 = .ok (.iconst 1, 1) := by decide +kernel
theorem dX2_room_41 : decode cX2_room 41 = .ok (.ireturn, 1) := by decide +kernel
abbrev cX2_walk : ByteArray := prog_15_method_60_code
def yX2_walk : MethodName := ⟨RX2, "walk", "(IZ)Z"⟩
theorem dX2_walk_0 : decode cX2_walk 0 = .ok (.aload_n 0, 1) := by decide +kernel
theorem dX2_walk_1 : decode cX2_walk 1 = .ok (.iconst 0, 1) := by decide +kernel
theorem dX2_walk_2 : decode cX2_walk 2 = .ok (.putfield 220, 3) := by decide +kernel
theorem dX2_walk_5 : decode cX2_walk 5 = .ok (.aload_n 0, 1) := by decide +kernel
theorem dX2_walk_6 : decode cX2_walk 6 = .ok (.iload_n 1, 1) := by decide +kernel
theorem dX2_walk_7 : decode cX2_walk 7 = .ok (.invokevirtual 240, 3) := by decide +kernel
theorem dX2_walk_10 : decode cX2_walk 10 = .ok (.ifCond .eq 35, 3) := by decide +kernel
theorem dX2_walk_13 : decode cX2_walk 13 = .ok (.aload_n 0, 1) := by decide +kernel
theorem dX2_walk_14 : decode cX2_walk 14 = .ok (.getfield 41, 3) := by decide +kernel
theorem dX2_walk_17 : decode cX2_walk 17 = .ok (.iload_n 1, 1) := by decide +kernel
theorem dX2_walk_18 : decode cX2_walk 18 = .ok (.baload, 1) := by decide +kernel
theorem dX2_walk_19 : decode cX2_walk 19 = .ok (.ifCond .eq 26, 3) := by decide +kernel
theorem dX2_walk_22 : decode cX2_walk 22 = .ok (.aload_n 0, 1) := by decide +kernel
theorem dX2_walk_23 : decode cX2_walk 23 = .ok (.getfield 54, 3) := by decide +kernel
theorem dX2_walk_26 : decode cX2_walk 26 = .ok (.iload_n 1, 1) := by decide +kernel
theorem dX2_walk_27 : decode cX2_walk 27 = .ok (.baload, 1) := by decide +kernel
theorem dX2_walk_28 : decode cX2_walk 28 = .ok (.iload_n 2, 1) := by decide +kernel
theorem dX2_walk_29 : decode cX2_walk 29 = .ok (.if_icmp .eq 16, 3) := by decide +kernel
theorem dX2_walk_32 : decode cX2_walk 32 = .ok (.iload_n 2, 1) := by decide +kernel
theorem dX2_walk_33 : decode cX2_walk 33 = .ok (.ifCond .eq 14, 3) := by decide +kernel
theorem dX2_walk_36 : decode cX2_walk 36 = .ok (.aload_n 0, 1) := by decide +kernel
theorem dX2_walk_37 : decode cX2_walk 37 = .ok (.iload_n 1, 1) := by decide +kernel
theorem dX2_walk_38 : decode cX2_walk 38 = .ok (.iconst 3, 1) := by decide +kernel
theorem dX2_walk_39 : decode cX2_walk 39 = .ok (.invokevirtual 420, 3) := by decide +kernel
theorem dX2_walk_42 : decode cX2_walk 42 = .ok (.ifCond .ne 5, 3) := by decide +kernel
theorem dX2_walk_45 : decode cX2_walk 45 = .ok (.iconst 0, 1) := by decide +kernel
theorem dX2_walk_46 : decode cX2_walk 46 = .ok (.ireturn, 1) := by decide +kernel
theorem dX2_walk_47 : decode cX2_walk 47 = .ok (.aload_n 0, 1) := by decide +kernel
theorem dX2_walk_48 : decode cX2_walk 48 = .ok (.getfield 54, 3) := by decide +kernel
theorem dX2_walk_51 : decode cX2_walk 51 = .ok (.iload_n 1, 1) := by decide +kernel
theorem dX2_walk_52 : decode cX2_walk 52 = .ok (.iload_n 2, 1) := by decide +kernel
theorem dX2_walk_53 : decode cX2_walk 53 = .ok (.bastore, 1) := by decide +kernel
theorem dX2_walk_54 : decode cX2_walk 54 = .ok (.iconst 1, 1) := by decide +kernel
theorem dX2_walk_55 : decode cX2_walk 55 = .ok (.ireturn, 1) := by decide +kernel
abbrev cX2_hour : ByteArray := prog_15_method_61_code
def yX2_hour : MethodName := ⟨RX2, "hour", "()I"⟩
theorem dX2_hour_0 : decode cX2_hour 0 = .ok (.aload_n 0, 1) := by decide +kernel
theorem dX2_hour_1 : decode cX2_hour 1 = .ok (.iconst 0, 1) := by decide +kernel
theorem dX2_hour_2 : decode cX2_hour 2 = .ok (.putfield 220, 3) := by decide +kernel
theorem dX2_hour_5 : decode cX2_hour 5 = .ok (.aload_n 0, 1) := by decide +kernel
theorem dX2_hour_6 : decode cX2_hour 6 = .ok (.getfield 26, 3) := by decide +kernel
theorem dX2_hour_9 : decode cX2_hour 9 = .ok (.iconst 0, 1) := by decide +kernel
theorem dX2_hour_10 : decode cX2_hour 10 = .ok (.iaload, 1) := by decide +kernel
theorem dX2_hour_11 : decode cX2_hour 11 = .ok (.bipush 23, 2) := by decide +kernel
theorem dX2_hour_13 : decode cX2_hour 13 = .ok (.if_icmp .ne 5, 3) := by decide +kernel
theorem dX2_hour_16 : decode cX2_hour 16 = .ok (.iconst (-1), 1) := by decide +kernel
theorem dX2_hour_17 : decode cX2_hour 17 = .ok (.ireturn, 1) := by decide +kernel
theorem dX2_hour_18 : decode cX2_hour 18 = .ok (.iconst 0, 1) := by decide +kernel
theorem dX2_hour_19 : decode cX2_hour 19 = .ok (.istore_n 1, 1) := by decide +kernel
theorem dX2_hour_20 : decode cX2_hour 20 = .ok (.iload_n 1, 1) := by decide +kernel
theorem dX2_hour_21 : decode cX2_hour 21 = .ok (.aload_n 0, 1) := by decide +kernel
theorem dX2_hour_22 : decode cX2_hour 22 = .ok (.getfield 32, 3) := by decide +kernel
theorem dX2_hour_25 : decode cX2_hour 25 = .ok (.iconst 0, 1) := by decide +kernel
theorem dX2_hour_26 : decode cX2_hour 26 = .ok (.iaload, 1) := by decide +kernel
theorem dX2_hour_27 : decode cX2_hour 27 = .ok (.if_icmp .ge 50, 3) := by decide +kernel
theorem dX2_hour_30 : decode cX2_hour 30 = .ok (.aload_n 0, 1) := by decide +kernel
theorem dX2_hour_31 : decode cX2_hour 31 = .ok (.getfield 57, 3) := by decide +kernel
theorem dX2_hour_34 : decode cX2_hour 34 = .ok (.iload_n 1, 1) := by decide +kernel
theorem dX2_hour_35 : decode cX2_hour 35 = .ok (.dup2, 1) := by decide +kernel
theorem dX2_hour_36 : decode cX2_hour 36 = .ok (.iaload, 1) := by decide +kernel
theorem dX2_hour_37 : decode cX2_hour 37 = .ok (.aload_n 0, 1) := by decide +kernel
theorem dX2_hour_38 : decode cX2_hour 38 = .ok (.getfield 41, 3) := by decide +kernel
theorem dX2_hour_41 : decode cX2_hour 41 = .ok (.iload_n 1, 1) := by decide +kernel
theorem dX2_hour_42 : decode cX2_hour 42 = .ok (.baload, 1) := by decide +kernel
theorem dX2_hour_43 : decode cX2_hour 43 = .ok (.ifCond .eq 25, 3) := by decide +kernel
theorem dX2_hour_46 : decode cX2_hour 46 = .ok (.aload_n 0, 1) := by decide +kernel
theorem dX2_hour_47 : decode cX2_hour 47 = .ok (.getfield 54, 3) := by decide +kernel
theorem dX2_hour_50 : decode cX2_hour 50 = .ok (.iload_n 1, 1) := by decide +kernel
theorem dX2_hour_51 : decode cX2_hour 51 = .ok (.baload, 1) := by decide +kernel
theorem dX2_hour_52 : decode cX2_hour 52 = .ok (.ifCond .eq 16, 3) := by decide +kernel
theorem dX2_hour_55 : decode cX2_hour 55 = .ok (.aload_n 0, 1) := by decide +kernel
theorem dX2_hour_56 : decode cX2_hour 56 = .ok (.iload_n 1, 1) := by decide +kernel
theorem dX2_hour_57 : decode cX2_hour 57 = .ok (.iconst 3, 1) := by decide +kernel
theorem dX2_hour_58 : decode cX2_hour 58 = .ok (.invokevirtual 420, 3) := by decide +kernel
theorem dX2_hour_61 : decode cX2_hour 61 = .ok (.ifCond .ne 7, 3) := by decide +kernel
theorem dX2_hour_64 : decode cX2_hour 64 = .ok (.iconst 1, 1) := by decide +kernel
theorem dX2_hour_65 : decode cX2_hour 65 = .ok (.goto 4, 3) := by decide +kernel
theorem dX2_hour_68 : decode cX2_hour 68 = .ok (.iconst 0, 1) := by decide +kernel
theorem dX2_hour_69 : decode cX2_hour 69 = .ok (.iadd, 1) := by decide +kernel
theorem dX2_hour_70 : decode cX2_hour 70 = .ok (.iastore, 1) := by decide +kernel
theorem dX2_hour_71 : decode cX2_hour 71 = .ok (.iinc 1 1, 3) := by decide +kernel
theorem dX2_hour_74 : decode cX2_hour 74 = .ok (.goto (-54), 3) := by decide +kernel
theorem dX2_hour_77 : decode cX2_hour 77 = .ok (.aload_n 0, 1) := by decide +kernel
theorem dX2_hour_78 : decode cX2_hour 78 = .ok (.getfield 26, 3) := by decide +kernel
theorem dX2_hour_81 : decode cX2_hour 81 = .ok (.iconst 0, 1) := by decide +kernel
theorem dX2_hour_82 : decode cX2_hour 82 = .ok (.dup2, 1) := by decide +kernel
theorem dX2_hour_83 : decode cX2_hour 83 = .ok (.iaload, 1) := by decide +kernel
theorem dX2_hour_84 : decode cX2_hour 84 = .ok (.iconst 1, 1) := by decide +kernel
theorem dX2_hour_85 : decode cX2_hour 85 = .ok (.iadd, 1) := by decide +kernel
theorem dX2_hour_86 : decode cX2_hour 86 = .ok (.iastore, 1) := by decide +kernel
theorem dX2_hour_87 : decode cX2_hour 87 = .ok (.aload_n 0, 1) := by decide +kernel
theorem dX2_hour_88 : decode cX2_hour 88 = .ok (.getfield 26, 3) := by decide +kernel
theorem dX2_hour_91 : decode cX2_hour 91 = .ok (.iconst 0, 1) := by decide +kernel
theorem dX2_hour_92 : decode cX2_hour 92 = .ok (.iaload, 1) := by decide +kernel
theorem dX2_hour_93 : decode cX2_hour 93 = .ok (.ireturn, 1) := by decide +kernel
abbrev cX2_day : ByteArray := prog_15_method_63_code
def yX2_day : MethodName := ⟨RX2, "day", "()I"⟩
theorem dX2_day_0 : decode cX2_day 0 = .ok (.aload_n 0, 1) := by decide +kernel
theorem dX2_day_1 : decode cX2_day 1 = .ok (.iconst 0, 1) := by decide +kernel
theorem dX2_day_2 : decode cX2_day 2 = .ok (.putfield 220, 3) := by decide +kernel
theorem dX2_day_5 : decode cX2_day 5 = .ok (.aload_n 0, 1) := by decide +kernel
theorem dX2_day_6 : decode cX2_day 6 = .ok (.getfield 23, 3) := by decide +kernel
theorem dX2_day_9 : decode cX2_day 9 = .ok (.iconst 0, 1) := by decide +kernel
theorem dX2_day_10 : decode cX2_day 10 = .ok (.iaload, 1) := by decide +kernel
theorem dX2_day_11 : decode cX2_day 11 = .ok (.sipush 9999, 3) := by decide +kernel
theorem dX2_day_14 : decode cX2_day 14 = .ok (.if_icmp .ne 5, 3) := by decide +kernel
theorem dX2_day_17 : decode cX2_day 17 = .ok (.iconst (-1), 1) := by decide +kernel
theorem dX2_day_18 : decode cX2_day 18 = .ok (.ireturn, 1) := by decide +kernel
theorem dX2_day_19 : decode cX2_day 19 = .ok (.aload_n 0, 1) := by decide +kernel
theorem dX2_day_20 : decode cX2_day 20 = .ok (.invokevirtual 426, 3) := by decide +kernel
theorem dX2_day_23 : decode cX2_day 23 = .ok (.istore_n 1, 1) := by decide +kernel
theorem dX2_day_24 : decode cX2_day 24 = .ok (.iload_n 1, 1) := by decide +kernel
theorem dX2_day_25 : decode cX2_day 25 = .ok (.iconst (-1), 1) := by decide +kernel
theorem dX2_day_26 : decode cX2_day 26 = .ok (.if_icmp .eq 13, 3) := by decide +kernel
theorem dX2_day_29 : decode cX2_day 29 = .ok (.aload_n 0, 1) := by decide +kernel
theorem dX2_day_30 : decode cX2_day 30 = .ok (.getfield 60, 3) := by decide +kernel
theorem dX2_day_33 : decode cX2_day 33 = .ok (.iload_n 1, 1) := by decide +kernel
theorem dX2_day_34 : decode cX2_day 34 = .ok (.dup2, 1) := by decide +kernel
theorem dX2_day_35 : decode cX2_day 35 = .ok (.iaload, 1) := by decide +kernel
theorem dX2_day_36 : decode cX2_day 36 = .ok (.iconst 1, 1) := by decide +kernel
theorem dX2_day_37 : decode cX2_day 37 = .ok (.iadd, 1) := by decide +kernel
theorem dX2_day_38 : decode cX2_day 38 = .ok (.iastore, 1) := by decide +kernel
theorem dX2_day_39 : decode cX2_day 39 = .ok (.iconst 0, 1) := by decide +kernel
theorem dX2_day_40 : decode cX2_day 40 = .ok (.istore_n 2, 1) := by decide +kernel
theorem dX2_day_41 : decode cX2_day 41 = .ok (.iload_n 2, 1) := by decide +kernel
theorem dX2_day_42 : decode cX2_day 42 = .ok (.aload_n 0, 1) := by decide +kernel
theorem dX2_day_43 : decode cX2_day 43 = .ok (.getfield 32, 3) := by decide +kernel
theorem dX2_day_46 : decode cX2_day 46 = .ok (.iconst 0, 1) := by decide +kernel
theorem dX2_day_47 : decode cX2_day 47 = .ok (.iaload, 1) := by decide +kernel
theorem dX2_day_48 : decode cX2_day 48 = .ok (.if_icmp .ge 42, 3) := by decide +kernel
theorem dX2_day_51 : decode cX2_day 51 = .ok (.aload_n 0, 1) := by decide +kernel
theorem dX2_day_52 : decode cX2_day 52 = .ok (.getfield 41, 3) := by decide +kernel
theorem dX2_day_55 : decode cX2_day 55 = .ok (.iload_n 2, 1) := by decide +kernel
theorem dX2_day_56 : decode cX2_day 56 = .ok (.baload, 1) := by decide +kernel
theorem dX2_day_57 : decode cX2_day 57 = .ok (.ifCond .eq 27, 3) := by decide +kernel
theorem dX2_day_60 : decode cX2_day 60 = .ok (.aload_n 0, 1) := by decide +kernel
theorem dX2_day_61 : decode cX2_day 61 = .ok (.getfield 54, 3) := by decide +kernel
theorem dX2_day_64 : decode cX2_day 64 = .ok (.iload_n 2, 1) := by decide +kernel
theorem dX2_day_65 : decode cX2_day 65 = .ok (.baload, 1) := by decide +kernel
theorem dX2_day_66 : decode cX2_day 66 = .ok (.ifCond .eq 18, 3) := by decide +kernel
theorem dX2_day_69 : decode cX2_day 69 = .ok (.aload_n 0, 1) := by decide +kernel
theorem dX2_day_70 : decode cX2_day 70 = .ok (.iload_n 2, 1) := by decide +kernel
theorem dX2_day_71 : decode cX2_day 71 = .ok (.invokevirtual 423, 3) := by decide +kernel
theorem dX2_day_74 : decode cX2_day 74 = .ok (.aload_n 0, 1) := by decide +kernel
theorem dX2_day_75 : decode cX2_day 75 = .ok (.getfield 63, 3) := by decide +kernel
theorem dX2_day_78 : decode cX2_day 78 = .ok (.iload_n 2, 1) := by decide +kernel
theorem dX2_day_79 : decode cX2_day 79 = .ok (.dup2, 1) := by decide +kernel
theorem dX2_day_80 : decode cX2_day 80 = .ok (.iaload, 1) := by decide +kernel
theorem dX2_day_81 : decode cX2_day 81 = .ok (.iconst 1, 1) := by decide +kernel
theorem dX2_day_82 : decode cX2_day 82 = .ok (.iadd, 1) := by decide +kernel
theorem dX2_day_83 : decode cX2_day 83 = .ok (.iastore, 1) := by decide +kernel
theorem dX2_day_84 : decode cX2_day 84 = .ok (.iinc 2 1, 3) := by decide +kernel
theorem dX2_day_87 : decode cX2_day 87 = .ok (.goto (-46), 3) := by decide +kernel
theorem dX2_day_90 : decode cX2_day 90 = .ok (.iconst 0, 1) := by decide +kernel
theorem dX2_day_91 : decode cX2_day 91 = .ok (.istore_n 2, 1) := by decide +kernel
theorem dX2_day_92 : decode cX2_day 92 = .ok (.iload_n 2, 1) := by decide +kernel
theorem dX2_day_93 : decode cX2_day 93 = .ok (.aload_n 0, 1) := by decide +kernel
theorem dX2_day_94 : decode cX2_day 94 = .ok (.getfield 32, 3) := by decide +kernel
theorem dX2_day_97 : decode cX2_day 97 = .ok (.iconst 0, 1) := by decide +kernel
theorem dX2_day_98 : decode cX2_day 98 = .ok (.iaload, 1) := by decide +kernel
theorem dX2_day_99 : decode cX2_day 99 = .ok (.if_icmp .ge 37, 3) := by decide +kernel
theorem dX2_day_102 : decode cX2_day 102 = .ok (.aload_n 0, 1) := by decide +kernel
theorem dX2_day_103 : decode cX2_day 103 = .ok (.getfield 51, 3) := by decide +kernel
theorem dX2_day_106 : decode cX2_day 106 = .ok (.iload_n 2, 1) := by decide +kernel
theorem dX2_day_107 : decode cX2_day 107 = .ok (.dup2, 1) := by decide +kernel
theorem dX2_day_108 : decode cX2_day 108 = .ok (.iaload, 1) := by decide +kernel
theorem dX2_day_109 : decode cX2_day 109 = .ok (.aload_n 0, 1) := by decide +kernel
theorem dX2_day_110 : decode cX2_day 110 = .ok (.getfield 41, 3) := by decide +kernel
theorem dX2_day_113 : decode cX2_day 113 = .ok (.iload_n 2, 1) := by decide +kernel
theorem dX2_day_114 : decode cX2_day 114 = .ok (.baload, 1) := by decide +kernel
theorem dX2_day_115 : decode cX2_day 115 = .ok (.ifCond .eq 12, 3) := by decide +kernel
theorem dX2_day_118 : decode cX2_day 118 = .ok (.aload_n 0, 1) := by decide +kernel
theorem dX2_day_119 : decode cX2_day 119 = .ok (.iload_n 2, 1) := by decide +kernel
theorem dX2_day_120 : decode cX2_day 120 = .ok (.iconst 2, 1) := by decide +kernel
theorem dX2_day_121 : decode cX2_day 121 = .ok (.invokevirtual 420, 3) := by decide +kernel
theorem dX2_day_124 : decode cX2_day 124 = .ok (.goto 4, 3) := by decide +kernel
theorem dX2_day_127 : decode cX2_day 127 = .ok (.iconst 0, 1) := by decide +kernel
theorem dX2_day_128 : decode cX2_day 128 = .ok (.iadd, 1) := by decide +kernel
theorem dX2_day_129 : decode cX2_day 129 = .ok (.iastore, 1) := by decide +kernel
theorem dX2_day_130 : decode cX2_day 130 = .ok (.iinc 2 1, 3) := by decide +kernel
theorem dX2_day_133 : decode cX2_day 133 = .ok (.goto (-41), 3) := by decide +kernel
theorem dX2_day_136 : decode cX2_day 136 = .ok (.aload_n 0, 1) := by decide +kernel
theorem dX2_day_137 : decode cX2_day 137 = .ok (.getfield 23, 3) := by decide +kernel
theorem dX2_day_140 : decode cX2_day 140 = .ok (.iconst 0, 1) := by decide +kernel
theorem dX2_day_141 : decode cX2_day 141 = .ok (.dup2, 1) := by decide +kernel
theorem dX2_day_142 : decode cX2_day 142 = .ok (.iaload, 1) := by decide +kernel
theorem dX2_day_143 : decode cX2_day 143 = .ok (.iconst 1, 1) := by decide +kernel
theorem dX2_day_144 : decode cX2_day 144 = .ok (.iadd, 1) := by decide +kernel
theorem dX2_day_145 : decode cX2_day 145 = .ok (.iastore, 1) := by decide +kernel
theorem dX2_day_146 : decode cX2_day 146 = .ok (.aload_n 0, 1) := by decide +kernel
theorem dX2_day_147 : decode cX2_day 147 = .ok (.getfield 26, 3) := by decide +kernel
theorem dX2_day_150 : decode cX2_day 150 = .ok (.iconst 0, 1) := by decide +kernel
theorem dX2_day_151 : decode cX2_day 151 = .ok (.iconst 0, 1) := by decide +kernel
theorem dX2_day_152 : decode cX2_day 152 = .ok (.iastore, 1) := by decide +kernel
theorem dX2_day_153 : decode cX2_day 153 = .ok (.aload_n 0, 1) := by decide +kernel
theorem dX2_day_154 : decode cX2_day 154 = .ok (.getfield 23, 3) := by decide +kernel
theorem dX2_day_157 : decode cX2_day 157 = .ok (.iconst 0, 1) := by decide +kernel
theorem dX2_day_158 : decode cX2_day 158 = .ok (.iaload, 1) := by decide +kernel
theorem dX2_day_159 : decode cX2_day 159 = .ok (.ireturn, 1) := by decide +kernel
abbrev cX2_theTurn : ByteArray := prog_15_method_62_code
def yX2_theTurn : MethodName := ⟨RX2, "theTurn", "()I"⟩
theorem dX2_theTurn_0 : decode cX2_theTurn 0 = .ok (.iconst (-1), 1) := by decide +kernel
theorem dX2_theTurn_1 : decode cX2_theTurn 1 = .ok (.istore_n 1, 1) := by decide +kernel
theorem dX2_theTurn_2 : decode cX2_theTurn 2 = .ok (.iconst 0, 1) := by decide +kernel
theorem dX2_theTurn_3 : decode cX2_theTurn 3 = .ok (.istore_n 2, 1) := by decide +kernel
theorem dX2_theTurn_4 : decode cX2_theTurn 4 = .ok (.iload_n 2, 1) := by decide +kernel
theorem dX2_theTurn_5 : decode cX2_theTurn 5 = .ok (.aload_n 0, 1) := by decide +kernel
theorem dX2_theTurn_6 : decode cX2_theTurn 6 = .ok (.getfield 32, 3) := by decide +kernel
theorem dX2_theTurn_9 : decode cX2_theTurn 9 = .ok (.iconst 0, 1) := by decide +kernel
theorem dX2_theTurn_10 : decode cX2_theTurn 10 = .ok (.iaload, 1) := by decide +kernel
theorem dX2_theTurn_11 : decode cX2_theTurn 11 = .ok (.if_icmp .ge 87, 3) := by decide +kernel
theorem dX2_theTurn_14 : decode cX2_theTurn 14 = .ok (.aload_n 0, 1) := by decide +kernel
theorem dX2_theTurn_15 : decode cX2_theTurn 15 = .ok (.getfield 41, 3) := by decide +kernel
theorem dX2_theTurn_18 : decode cX2_theTurn 18 = .ok (.iload_n 2, 1) := by decide +kernel
theorem dX2_theTurn_19 : decode cX2_theTurn 19 = .ok (.baload, 1) := by decide +kernel
theorem dX2_theTurn_20 : decode cX2_theTurn 20 = .ok (.ifCond .ne 6, 3) := by decide +kernel
theorem dX2_theTurn_23 : decode cX2_theTurn 23 = .ok (.goto 69, 3) := by decide +kernel
theorem dX2_theTurn_26 : decode cX2_theTurn 26 = .ok (.iload_n 1, 1) := by decide +kernel
theorem dX2_theTurn_27 : decode cX2_theTurn 27 = .ok (.iconst (-1), 1) := by decide +kernel
theorem dX2_theTurn_28 : decode cX2_theTurn 28 = .ok (.if_icmp .eq 48, 3) := by decide +kernel
theorem dX2_theTurn_31 : decode cX2_theTurn 31 = .ok (.aload_n 0, 1) := by decide +kernel
theorem dX2_theTurn_32 : decode cX2_theTurn 32 = .ok (.getfield 60, 3) := by decide +kernel
theorem dX2_theTurn_35 : decode cX2_theTurn 35 = .ok (.iload_n 2, 1) := by decide +kernel
theorem dX2_theTurn_36 : decode cX2_theTurn 36 = .ok (.iaload, 1) := by decide +kernel
theorem dX2_theTurn_37 : decode cX2_theTurn 37 = .ok (.aload_n 0, 1) := by decide +kernel
theorem dX2_theTurn_38 : decode cX2_theTurn 38 = .ok (.getfield 60, 3) := by decide +kernel
theorem dX2_theTurn_41 : decode cX2_theTurn 41 = .ok (.iload_n 1, 1) := by decide +kernel
theorem dX2_theTurn_42 : decode cX2_theTurn 42 = .ok (.iaload, 1) := by decide +kernel
theorem dX2_theTurn_43 : decode cX2_theTurn 43 = .ok (.if_icmp .lt 33, 3) := by decide +kernel
theorem dX2_theTurn_46 : decode cX2_theTurn 46 = .ok (.aload_n 0, 1) := by decide +kernel
theorem dX2_theTurn_47 : decode cX2_theTurn 47 = .ok (.getfield 60, 3) := by decide +kernel
theorem dX2_theTurn_50 : decode cX2_theTurn 50 = .ok (.iload_n 2, 1) := by decide +kernel
theorem dX2_theTurn_51 : decode cX2_theTurn 51 = .ok (.iaload, 1) := by decide +kernel
theorem dX2_theTurn_52 : decode cX2_theTurn 52 = .ok (.aload_n 0, 1) := by decide +kernel
theorem dX2_theTurn_53 : decode cX2_theTurn 53 = .ok (.getfield 60, 3) := by decide +kernel
theorem dX2_theTurn_56 : decode cX2_theTurn 56 = .ok (.iload_n 1, 1) := by decide +kernel
theorem dX2_theTurn_57 : decode cX2_theTurn 57 = .ok (.iaload, 1) := by decide +kernel
theorem dX2_theTurn_58 : decode cX2_theTurn 58 = .ok (.if_icmp .ne 22, 3) := by decide +kernel
theorem dX2_theTurn_61 : decode cX2_theTurn 61 = .ok (.aload_n 0, 1) := by decide +kernel
theorem dX2_theTurn_62 : decode cX2_theTurn 62 = .ok (.getfield 45, 3) := by decide +kernel
theorem dX2_theTurn_65 : decode cX2_theTurn 65 = .ok (.iload_n 2, 1) := by decide +kernel
theorem dX2_theTurn_66 : decode cX2_theTurn 66 = .ok (.iaload, 1) := by decide +kernel
theorem dX2_theTurn_67 : decode cX2_theTurn 67 = .ok (.aload_n 0, 1) := by decide +kernel
theorem dX2_theTurn_68 : decode cX2_theTurn 68 = .ok (.getfield 45, 3) := by decide +kernel
theorem dX2_theTurn_71 : decode cX2_theTurn 71 = .ok (.iload_n 1, 1) := by decide +kernel
theorem dX2_theTurn_72 : decode cX2_theTurn 72 = .ok (.iaload, 1) := by decide +kernel
theorem dX2_theTurn_73 : decode cX2_theTurn 73 = .ok (.if_icmp .ge 7, 3) := by decide +kernel
theorem dX2_theTurn_76 : decode cX2_theTurn 76 = .ok (.iconst 1, 1) := by decide +kernel
theorem dX2_theTurn_77 : decode cX2_theTurn 77 = .ok (.goto 4, 3) := by decide +kernel
theorem dX2_theTurn_80 : decode cX2_theTurn 80 = .ok (.iconst 0, 1) := by decide +kernel
theorem dX2_theTurn_81 : decode cX2_theTurn 81 = .ok (.istore_n 3, 1) := by decide +kernel
theorem dX2_theTurn_82 : decode cX2_theTurn 82 = .ok (.iload_n 3, 1) := by decide +kernel
theorem dX2_theTurn_83 : decode cX2_theTurn 83 = .ok (.ifCond .eq 7, 3) := by decide +kernel
theorem dX2_theTurn_86 : decode cX2_theTurn 86 = .ok (.iload_n 2, 1) := by decide +kernel
theorem dX2_theTurn_87 : decode cX2_theTurn 87 = .ok (.goto 4, 3) := by decide +kernel
theorem dX2_theTurn_90 : decode cX2_theTurn 90 = .ok (.iload_n 1, 1) := by decide +kernel
theorem dX2_theTurn_91 : decode cX2_theTurn 91 = .ok (.istore_n 1, 1) := by decide +kernel
theorem dX2_theTurn_92 : decode cX2_theTurn 92 = .ok (.iinc 2 1, 3) := by decide +kernel
theorem dX2_theTurn_95 : decode cX2_theTurn 95 = .ok (.goto (-91), 3) := by decide +kernel
theorem dX2_theTurn_98 : decode cX2_theTurn 98 = .ok (.iload_n 1, 1) := by decide +kernel
theorem dX2_theTurn_99 : decode cX2_theTurn 99 = .ok (.ireturn, 1) := by decide +kernel
abbrev cX2_turn : ByteArray := prog_15_method_64_code
def yX2_turn : MethodName := ⟨RX2, "turn", "()I"⟩
theorem dX2_turn_0 : decode cX2_turn 0 = .ok (.aload_n 0, 1) := by decide +kernel
theorem dX2_turn_1 : decode cX2_turn 1 = .ok (.iconst 0, 1) := by decide +kernel
theorem dX2_turn_2 : decode cX2_turn 2 = .ok (.putfield 220, 3) := by decide +kernel
theorem dX2_turn_5 : decode cX2_turn 5 = .ok (.aload_n 0, 1) := by decide +kernel
theorem dX2_turn_6 : decode cX2_turn 6 = .ok (.invokevirtual 426, 3) := by decide +kernel
theorem dX2_turn_9 : decode cX2_turn 9 = .ok (.ireturn, 1) := by decide +kernel
abbrev cX2_alms : ByteArray := prog_15_method_65_code
def yX2_alms : MethodName := ⟨RX2, "alms", "(I)I"⟩
theorem dX2_alms_0 : decode cX2_alms 0 = .ok (.aload_n 0, 1) := by decide +kernel
theorem dX2_alms_1 : decode cX2_alms 1 = .ok (.iconst 0, 1) := by decide +kernel
theorem dX2_alms_2 : decode cX2_alms 2 = .ok (.putfield 220, 3) := by decide +kernel
theorem dX2_alms_5 : decode cX2_alms 5 = .ok (.aload_n 0, 1) := by decide +kernel
theorem dX2_alms_6 : decode cX2_alms 6 = .ok (.invokevirtual 426, 3) := by decide +kernel
theorem dX2_alms_9 : decode cX2_alms 9 = .ok (.istore_n 2, 1) := by decide +kernel
theorem dX2_alms_10 : decode cX2_alms 10 = .ok (.iload_n 2, 1) := by decide +kernel
theorem dX2_alms_11 : decode cX2_alms 11 = .ok (.iconst (-1), 1) := by decide +kernel
theorem dX2_alms_12 : decode cX2_alms 12 = .ok (.if_icmp .eq 14, 3) := by decide +kernel
theorem dX2_alms_15 : decode cX2_alms 15 = .ok (.iload_n 1, 1) := by decide +kernel
theorem dX2_alms_16 : decode cX2_alms 16 = .ok (.iconst 1, 1) := by decide +kernel
theorem dX2_alms_17 : decode cX2_alms 17 = .ok (.sipush 10000, 3) := by decide +kernel
theorem dX2_alms_20 : decode cX2_alms 20 = .ok (.invokestatic 236, 3) := by decide +kernel
theorem dX2_alms_23 : decode cX2_alms 23 = .ok (.ifCond .ne 5, 3) := by decide +kernel
theorem dX2_alms_26 : decode cX2_alms 26 = .ok (.iconst (-1), 1) := by decide +kernel
theorem dX2_alms_27 : decode cX2_alms 27 = .ok (.ireturn, 1) := by decide +kernel
theorem dX2_alms_28 : decode cX2_alms 28 = .ok (.aload_n 0, 1) := by decide +kernel
theorem dX2_alms_29 : decode cX2_alms 29 = .ok (.getfield 35, 3) := by decide +kernel
theorem dX2_alms_32 : decode cX2_alms 32 = .ok (.iload_n 2, 1) := by decide +kernel
theorem dX2_alms_33 : decode cX2_alms 33 = .ok (.dup2, 1) := by decide +kernel
theorem dX2_alms_34 : decode cX2_alms 34 = .ok (.iaload, 1) := by decide +kernel
theorem dX2_alms_35 : decode cX2_alms 35 = .ok (.iload_n 1, 1) := by decide +kernel
theorem dX2_alms_36 : decode cX2_alms 36 = .ok (.iadd, 1) := by decide +kernel
theorem dX2_alms_37 : decode cX2_alms 37 = .ok (.iastore, 1) := by decide +kernel
theorem dX2_alms_38 : decode cX2_alms 38 = .ok (.iload_n 2, 1) := by decide +kernel
theorem dX2_alms_39 : decode cX2_alms 39 = .ok (.ireturn, 1) := by decide +kernel
abbrev cX2_tell : ByteArray := prog_15_method_68_code
def yX2_tell : MethodName := ⟨RX2, "tell", "(II)I"⟩
theorem dX2_tell_0 : decode cX2_tell 0 = .ok (.aload_n 0, 1) := by decide +kernel
theorem dX2_tell_1 : decode cX2_tell 1 = .ok (.iconst 0, 1) := by decide +kernel
theorem dX2_tell_2 : decode cX2_tell 2 = .ok (.putfield 220, 3) := by decide +kernel
theorem dX2_tell_5 : decode cX2_tell 5 = .ok (.aload_n 0, 1) := by decide +kernel
theorem dX2_tell_6 : decode cX2_tell 6 = .ok (.iload_n 1, 1) := by decide +kernel
theorem dX2_tell_7 : decode cX2_tell 7 = .ok (.invokevirtual 240, 3) := by decide +kernel
theorem dX2_tell_10 : decode cX2_tell 10 = .ok (.ifCond .ne 6, 3) := by decide +kernel
theorem dX2_tell_13 : decode cX2_tell 13 = .ok (.bipush (-100), 2) := by decide +kernel
theorem dX2_tell_15 : decode cX2_tell 15 = .ok (.ireturn, 1) := by decide +kernel
theorem dX2_tell_16 : decode cX2_tell 16 = .ok (.iload_n 2, 1) := by decide +kernel
theorem dX2_tell_17 : decode cX2_tell 17 = .ok (.tableswitch 203 0 14 #[75, 82, 89, 104, 111, 118, 125, 140, 147, 154, 161, 168, 174, 180, 195], 75) := by decide +kernel
theorem dX2_tell_92 : decode cX2_tell 92 = .ok (.aload_n 0, 1) := by decide +kernel
theorem dX2_tell_93 : decode cX2_tell 93 = .ok (.getfield 35, 3) := by decide +kernel
theorem dX2_tell_96 : decode cX2_tell 96 = .ok (.iload_n 1, 1) := by decide +kernel
theorem dX2_tell_97 : decode cX2_tell 97 = .ok (.iaload, 1) := by decide +kernel
theorem dX2_tell_98 : decode cX2_tell 98 = .ok (.ireturn, 1) := by decide +kernel
theorem dX2_tell_99 : decode cX2_tell 99 = .ok (.aload_n 0, 1) := by decide +kernel
theorem dX2_tell_100 : decode cX2_tell 100 = .ok (.getfield 38, 3) := by decide +kernel
theorem dX2_tell_103 : decode cX2_tell 103 = .ok (.iload_n 1, 1) := by decide +kernel
theorem dX2_tell_104 : decode cX2_tell 104 = .ok (.iaload, 1) := by decide +kernel
theorem dX2_tell_105 : decode cX2_tell 105 = .ok (.ireturn, 1) := by decide +kernel
theorem dX2_tell_106 : decode cX2_tell 106 = .ok (.aload_n 0, 1) := by decide +kernel
theorem dX2_tell_107 : decode cX2_tell 107 = .ok (.getfield 41, 3) := by decide +kernel
theorem dX2_tell_110 : decode cX2_tell 110 = .ok (.iload_n 1, 1) := by decide +kernel
theorem dX2_tell_111 : decode cX2_tell 111 = .ok (.baload, 1) := by decide +kernel
theorem dX2_tell_112 : decode cX2_tell 112 = .ok (.ifCond .eq 7, 3) := by decide +kernel
theorem dX2_tell_115 : decode cX2_tell 115 = .ok (.iconst 1, 1) := by decide +kernel
theorem dX2_tell_116 : decode cX2_tell 116 = .ok (.goto 4, 3) := by decide +kernel
theorem dX2_tell_119 : decode cX2_tell 119 = .ok (.iconst 0, 1) := by decide +kernel
theorem dX2_tell_120 : decode cX2_tell 120 = .ok (.ireturn, 1) := by decide +kernel
theorem dX2_tell_121 : decode cX2_tell 121 = .ok (.aload_n 0, 1) := by decide +kernel
theorem dX2_tell_122 : decode cX2_tell 122 = .ok (.getfield 45, 3) := by decide +kernel
theorem dX2_tell_125 : decode cX2_tell 125 = .ok (.iload_n 1, 1) := by decide +kernel
theorem dX2_tell_126 : decode cX2_tell 126 = .ok (.iaload, 1) := by decide +kernel
theorem dX2_tell_127 : decode cX2_tell 127 = .ok (.ireturn, 1) := by decide +kernel
theorem dX2_tell_128 : decode cX2_tell 128 = .ok (.aload_n 0, 1) := by decide +kernel
theorem dX2_tell_129 : decode cX2_tell 129 = .ok (.getfield 48, 3) := by decide +kernel
theorem dX2_tell_132 : decode cX2_tell 132 = .ok (.iload_n 1, 1) := by decide +kernel
theorem dX2_tell_133 : decode cX2_tell 133 = .ok (.iaload, 1) := by decide +kernel
theorem dX2_tell_134 : decode cX2_tell 134 = .ok (.ireturn, 1) := by decide +kernel
theorem dX2_tell_135 : decode cX2_tell 135 = .ok (.aload_n 0, 1) := by decide +kernel
theorem dX2_tell_136 : decode cX2_tell 136 = .ok (.getfield 51, 3) := by decide +kernel
theorem dX2_tell_139 : decode cX2_tell 139 = .ok (.iload_n 1, 1) := by decide +kernel
theorem dX2_tell_140 : decode cX2_tell 140 = .ok (.iaload, 1) := by decide +kernel
theorem dX2_tell_141 : decode cX2_tell 141 = .ok (.ireturn, 1) := by decide +kernel
theorem dX2_tell_142 : decode cX2_tell 142 = .ok (.aload_n 0, 1) := by decide +kernel
theorem dX2_tell_143 : decode cX2_tell 143 = .ok (.getfield 54, 3) := by decide +kernel
theorem dX2_tell_146 : decode cX2_tell 146 = .ok (.iload_n 1, 1) := by decide +kernel
theorem dX2_tell_147 : decode cX2_tell 147 = .ok (.baload, 1) := by decide +kernel
theorem dX2_tell_148 : decode cX2_tell 148 = .ok (.ifCond .eq 7, 3) := by decide +kernel
theorem dX2_tell_151 : decode cX2_tell 151 = .ok (.iconst 1, 1) := by decide +kernel
theorem dX2_tell_152 : decode cX2_tell 152 = .ok (.goto 4, 3) := by decide +kernel
theorem dX2_tell_155 : decode cX2_tell 155 = .ok (.iconst 0, 1) := by decide +kernel
theorem dX2_tell_156 : decode cX2_tell 156 = .ok (.ireturn, 1) := by decide +kernel
theorem dX2_tell_157 : decode cX2_tell 157 = .ok (.aload_n 0, 1) := by decide +kernel
theorem dX2_tell_158 : decode cX2_tell 158 = .ok (.getfield 57, 3) := by decide +kernel
theorem dX2_tell_161 : decode cX2_tell 161 = .ok (.iload_n 1, 1) := by decide +kernel
theorem dX2_tell_162 : decode cX2_tell 162 = .ok (.iaload, 1) := by decide +kernel
theorem dX2_tell_163 : decode cX2_tell 163 = .ok (.ireturn, 1) := by decide +kernel
theorem dX2_tell_164 : decode cX2_tell 164 = .ok (.aload_n 0, 1) := by decide +kernel
theorem dX2_tell_165 : decode cX2_tell 165 = .ok (.getfield 60, 3) := by decide +kernel
theorem dX2_tell_168 : decode cX2_tell 168 = .ok (.iload_n 1, 1) := by decide +kernel
theorem dX2_tell_169 : decode cX2_tell 169 = .ok (.iaload, 1) := by decide +kernel
theorem dX2_tell_170 : decode cX2_tell 170 = .ok (.ireturn, 1) := by decide +kernel
theorem dX2_tell_171 : decode cX2_tell 171 = .ok (.aload_n 0, 1) := by decide +kernel
theorem dX2_tell_172 : decode cX2_tell 172 = .ok (.getfield 63, 3) := by decide +kernel
theorem dX2_tell_175 : decode cX2_tell 175 = .ok (.iload_n 1, 1) := by decide +kernel
theorem dX2_tell_176 : decode cX2_tell 176 = .ok (.iaload, 1) := by decide +kernel
theorem dX2_tell_177 : decode cX2_tell 177 = .ok (.ireturn, 1) := by decide +kernel
theorem dX2_tell_178 : decode cX2_tell 178 = .ok (.aload_n 0, 1) := by decide +kernel
theorem dX2_tell_179 : decode cX2_tell 179 = .ok (.getfield 66, 3) := by decide +kernel
theorem dX2_tell_182 : decode cX2_tell 182 = .ok (.iload_n 1, 1) := by decide +kernel
theorem dX2_tell_183 : decode cX2_tell 183 = .ok (.iaload, 1) := by decide +kernel
theorem dX2_tell_184 : decode cX2_tell 184 = .ok (.ireturn, 1) := by decide +kernel
theorem dX2_tell_185 : decode cX2_tell 185 = .ok (.aload_n 0, 1) := by decide +kernel
theorem dX2_tell_186 : decode cX2_tell 186 = .ok (.iload_n 1, 1) := by decide +kernel
theorem dX2_tell_187 : decode cX2_tell 187 = .ok (.invokevirtual 429, 3) := by decide +kernel
theorem dX2_tell_190 : decode cX2_tell 190 = .ok (.ireturn, 1) := by decide +kernel
theorem dX2_tell_191 : decode cX2_tell 191 = .ok (.aload_n 0, 1) := by decide +kernel
theorem dX2_tell_192 : decode cX2_tell 192 = .ok (.iload_n 1, 1) := by decide +kernel
theorem dX2_tell_193 : decode cX2_tell 193 = .ok (.invokevirtual 432, 3) := by decide +kernel
theorem dX2_tell_196 : decode cX2_tell 196 = .ok (.ireturn, 1) := by decide +kernel
theorem dX2_tell_197 : decode cX2_tell 197 = .ok (.aload_n 0, 1) := by decide +kernel
theorem dX2_tell_198 : decode cX2_tell 198 = .ok (.getfield 69, 3) := by decide +kernel
theorem dX2_tell_201 : decode cX2_tell 201 = .ok (.iload_n 1, 1) := by decide +kernel
theorem dX2_tell_202 : decode cX2_tell 202 = .ok (.baload, 1) := by decide +kernel
theorem dX2_tell_203 : decode cX2_tell 203 = .ok (.ifCond .eq 7, 3) := by decide +kernel
theorem dX2_tell_206 : decode cX2_tell 206 = .ok (.iconst 1, 1) := by decide +kernel
theorem dX2_tell_207 : decode cX2_tell 207 = .ok (.goto 4, 3) := by decide +kernel
theorem dX2_tell_210 : decode cX2_tell 210 = .ok (.iconst 0, 1) := by decide +kernel
theorem dX2_tell_211 : decode cX2_tell 211 = .ok (.ireturn, 1) := by decide +kernel
theorem dX2_tell_212 : decode cX2_tell 212 = .ok (.aload_n 0, 1) := by decide +kernel
theorem dX2_tell_213 : decode cX2_tell 213 = .ok (.getfield 75, 3) := by decide +kernel
theorem dX2_tell_216 : decode cX2_tell 216 = .ok (.iload_n 1, 1) := by decide +kernel
theorem dX2_tell_217 : decode cX2_tell 217 = .ok (.iaload, 1) := by decide +kernel
theorem dX2_tell_218 : decode cX2_tell 218 = .ok (.ineg, 1) := by decide +kernel
theorem dX2_tell_219 : decode cX2_tell 219 = .ok (.ireturn, 1) := by decide +kernel
theorem dX2_tell_220 : decode cX2_tell 220 = .ok (.bipush (-100), 2) := by decide +kernel
theorem dX2_tell_222 : decode cX2_tell 222 = .ok (.ireturn, 1) := by decide +kernel
abbrev cX2_dueFrom : ByteArray := prog_15_method_66_code
def yX2_dueFrom : MethodName := ⟨RX2, "dueFrom", "(I)I"⟩
theorem dX2_dueFrom_0 : decode cX2_dueFrom 0 = .ok (.iconst 0, 1) := by decide +kernel
theorem dX2_dueFrom_1 : decode cX2_dueFrom 1 = .ok (.istore_n 2, 1) := by decide +kernel
theorem dX2_dueFrom_2 : decode cX2_dueFrom 2 = .ok (.iconst 0, 1) := by decide +kernel
theorem dX2_dueFrom_3 : decode cX2_dueFrom 3 = .ok (.istore_n 3, 1) := by decide +kernel
theorem dX2_dueFrom_4 : decode cX2_dueFrom 4 = .ok (.iload_n 3, 1) := by decide +kernel
theorem dX2_dueFrom_5 : decode cX2_dueFrom 5 = .ok (.aload_n 0, 1) := by decide +kernel
theorem dX2_dueFrom_6 : decode cX2_dueFrom 6 = .ok (.getfield 84, 3) := by decide +kernel
theorem dX2_dueFrom_9 : decode cX2_dueFrom 9 = .ok (.iconst 0, 1) := by decide +kernel
theorem dX2_dueFrom_10 : decode cX2_dueFrom 10 = .ok (.iaload, 1) := by decide +kernel
theorem dX2_dueFrom_11 : decode cX2_dueFrom 11 = .ok (.if_icmp .ge 31, 3) := by decide +kernel
theorem dX2_dueFrom_14 : decode cX2_dueFrom 14 = .ok (.iload_n 2, 1) := by decide +kernel
theorem dX2_dueFrom_15 : decode cX2_dueFrom 15 = .ok (.aload_n 0, 1) := by decide +kernel
theorem dX2_dueFrom_16 : decode cX2_dueFrom 16 = .ok (.getfield 87, 3) := by decide +kernel
theorem dX2_dueFrom_19 : decode cX2_dueFrom 19 = .ok (.iload_n 3, 1) := by decide +kernel
theorem dX2_dueFrom_20 : decode cX2_dueFrom 20 = .ok (.iaload, 1) := by decide +kernel
theorem dX2_dueFrom_21 : decode cX2_dueFrom 21 = .ok (.iload_n 1, 1) := by decide +kernel
theorem dX2_dueFrom_22 : decode cX2_dueFrom 22 = .ok (.if_icmp .ne 11, 3) := by decide +kernel
theorem dX2_dueFrom_25 : decode cX2_dueFrom 25 = .ok (.aload_n 0, 1) := by decide +kernel
theorem dX2_dueFrom_26 : decode cX2_dueFrom 26 = .ok (.iload_n 3, 1) := by decide +kernel
theorem dX2_dueFrom_27 : decode cX2_dueFrom 27 = .ok (.invokevirtual 265, 3) := by decide +kernel
theorem dX2_dueFrom_30 : decode cX2_dueFrom 30 = .ok (.goto 4, 3) := by decide +kernel
theorem dX2_dueFrom_33 : decode cX2_dueFrom 33 = .ok (.iconst 0, 1) := by decide +kernel
theorem dX2_dueFrom_34 : decode cX2_dueFrom 34 = .ok (.iadd, 1) := by decide +kernel
theorem dX2_dueFrom_35 : decode cX2_dueFrom 35 = .ok (.istore_n 2, 1) := by decide +kernel
theorem dX2_dueFrom_36 : decode cX2_dueFrom 36 = .ok (.iinc 3 1, 3) := by decide +kernel
theorem dX2_dueFrom_39 : decode cX2_dueFrom 39 = .ok (.goto (-35), 3) := by decide +kernel
theorem dX2_dueFrom_42 : decode cX2_dueFrom 42 = .ok (.iload_n 2, 1) := by decide +kernel
theorem dX2_dueFrom_43 : decode cX2_dueFrom 43 = .ok (.ireturn, 1) := by decide +kernel
abbrev cX2_dueTo : ByteArray := prog_15_method_67_code
def yX2_dueTo : MethodName := ⟨RX2, "dueTo", "(I)I"⟩
theorem dX2_dueTo_0 : decode cX2_dueTo 0 = .ok (.iconst 0, 1) := by decide +kernel
theorem dX2_dueTo_1 : decode cX2_dueTo 1 = .ok (.istore_n 2, 1) := by decide +kernel
theorem dX2_dueTo_2 : decode cX2_dueTo 2 = .ok (.iconst 0, 1) := by decide +kernel
theorem dX2_dueTo_3 : decode cX2_dueTo 3 = .ok (.istore_n 3, 1) := by decide +kernel
theorem dX2_dueTo_4 : decode cX2_dueTo 4 = .ok (.iload_n 3, 1) := by decide +kernel
theorem dX2_dueTo_5 : decode cX2_dueTo 5 = .ok (.aload_n 0, 1) := by decide +kernel
theorem dX2_dueTo_6 : decode cX2_dueTo 6 = .ok (.getfield 84, 3) := by decide +kernel
theorem dX2_dueTo_9 : decode cX2_dueTo 9 = .ok (.iconst 0, 1) := by decide +kernel
theorem dX2_dueTo_10 : decode cX2_dueTo 10 = .ok (.iaload, 1) := by decide +kernel
theorem dX2_dueTo_11 : decode cX2_dueTo 11 = .ok (.if_icmp .ge 31, 3) := by decide +kernel
theorem dX2_dueTo_14 : decode cX2_dueTo 14 = .ok (.iload_n 2, 1) := by decide +kernel
theorem dX2_dueTo_15 : decode cX2_dueTo 15 = .ok (.aload_n 0, 1) := by decide +kernel
theorem dX2_dueTo_16 : decode cX2_dueTo 16 = .ok (.getfield 90, 3) := by decide +kernel
theorem dX2_dueTo_19 : decode cX2_dueTo 19 = .ok (.iload_n 3, 1) := by decide +kernel
theorem dX2_dueTo_20 : decode cX2_dueTo 20 = .ok (.iaload, 1) := by decide +kernel
theorem dX2_dueTo_21 : decode cX2_dueTo 21 = .ok (.iload_n 1, 1) := by decide +kernel
theorem dX2_dueTo_22 : decode cX2_dueTo 22 = .ok (.if_icmp .ne 11, 3) := by decide +kernel
theorem dX2_dueTo_25 : decode cX2_dueTo 25 = .ok (.aload_n 0, 1) := by decide +kernel
theorem dX2_dueTo_26 : decode cX2_dueTo 26 = .ok (.iload_n 3, 1) := by decide +kernel
theorem dX2_dueTo_27 : decode cX2_dueTo 27 = .ok (.invokevirtual 265, 3) := by decide +kernel
theorem dX2_dueTo_30 : decode cX2_dueTo 30 = .ok (.goto 4, 3) := by decide +kernel
theorem dX2_dueTo_33 : decode cX2_dueTo 33 = .ok (.iconst 0, 1) := by decide +kernel
theorem dX2_dueTo_34 : decode cX2_dueTo 34 = .ok (.iadd, 1) := by decide +kernel
theorem dX2_dueTo_35 : decode cX2_dueTo 35 = .ok (.istore_n 2, 1) := by decide +kernel
theorem dX2_dueTo_36 : decode cX2_dueTo 36 = .ok (.iinc 3 1, 3) := by decide +kernel
theorem dX2_dueTo_39 : decode cX2_dueTo 39 = .ok (.goto (-35), 3) := by decide +kernel
theorem dX2_dueTo_42 : decode cX2_dueTo 42 = .ok (.iload_n 2, 1) := by decide +kernel
theorem dX2_dueTo_43 : decode cX2_dueTo 43 = .ok (.ireturn, 1) := by decide +kernel
abbrev cX2_least : ByteArray := prog_15_method_69_code
def yX2_least : MethodName := ⟨RX2, "least", "(III)Z"⟩
theorem dX2_least_0 : decode cX2_least 0 = .ok (.aload_n 0, 1) := by decide +kernel
theorem dX2_least_1 : decode cX2_least 1 = .ok (.iconst 0, 1) := by decide +kernel
theorem dX2_least_2 : decode cX2_least 2 = .ok (.putfield 220, 3) := by decide +kernel
theorem dX2_least_5 : decode cX2_least 5 = .ok (.aload_n 0, 1) := by decide +kernel
theorem dX2_least_6 : decode cX2_least 6 = .ok (.iload_n 1, 1) := by decide +kernel
theorem dX2_least_7 : decode cX2_least 7 = .ok (.iload_n 2, 1) := by decide +kernel
theorem dX2_least_8 : decode cX2_least 8 = .ok (.invokevirtual 248, 3) := by decide +kernel
theorem dX2_least_11 : decode cX2_least 11 = .ok (.ifCond .eq 14, 3) := by decide +kernel
theorem dX2_least_14 : decode cX2_least 14 = .ok (.iload_n 3, 1) := by decide +kernel
theorem dX2_least_15 : decode cX2_least 15 = .ok (.iconst 0, 1) := by decide +kernel
theorem dX2_least_16 : decode cX2_least 16 = .ok (.sipush 1000, 3) := by decide +kernel
theorem dX2_least_19 : decode cX2_least 19 = .ok (.invokestatic 236, 3) := by decide +kernel
theorem dX2_least_22 : decode cX2_least 22 = .ok (.ifCond .ne 5, 3) := by decide +kernel
theorem dX2_least_25 : decode cX2_least 25 = .ok (.iconst 0, 1) := by decide +kernel
theorem dX2_least_26 : decode cX2_least 26 = .ok (.ireturn, 1) := by decide +kernel
theorem dX2_least_27 : decode cX2_least 27 = .ok (.aload_n 0, 1) := by decide +kernel
theorem dX2_least_28 : decode cX2_least 28 = .ok (.getfield 81, 3) := by decide +kernel
theorem dX2_least_31 : decode cX2_least 31 = .ok (.bipush 12, 2) := by decide +kernel
theorem dX2_least_33 : decode cX2_least 33 = .ok (.iload_n 1, 1) := by decide +kernel
theorem dX2_least_34 : decode cX2_least 34 = .ok (.imul, 1) := by decide +kernel
theorem dX2_least_35 : decode cX2_least 35 = .ok (.iload_n 2, 1) := by decide +kernel
theorem dX2_least_36 : decode cX2_least 36 = .ok (.iadd, 1) := by decide +kernel
theorem dX2_least_37 : decode cX2_least 37 = .ok (.iload_n 3, 1) := by decide +kernel
theorem dX2_least_38 : decode cX2_least 38 = .ok (.iastore, 1) := by decide +kernel
theorem dX2_least_39 : decode cX2_least 39 = .ok (.iconst 1, 1) := by decide +kernel
theorem dX2_least_40 : decode cX2_least 40 = .ok (.ireturn, 1) := by decide +kernel
abbrev cX2_binds : ByteArray := prog_15_method_73_code
def yX2_binds : MethodName := ⟨RX2, "binds", "(II)Z"⟩
theorem dX2_binds_0 : decode cX2_binds 0 = .ok (.aload_n 0, 1) := by decide +kernel
theorem dX2_binds_1 : decode cX2_binds 1 = .ok (.iconst 0, 1) := by decide +kernel
theorem dX2_binds_2 : decode cX2_binds 2 = .ok (.putfield 220, 3) := by decide +kernel
theorem dX2_binds_5 : decode cX2_binds 5 = .ok (.aload_n 0, 1) := by decide +kernel
theorem dX2_binds_6 : decode cX2_binds 6 = .ok (.iload_n 1, 1) := by decide +kernel
theorem dX2_binds_7 : decode cX2_binds 7 = .ok (.invokevirtual 240, 3) := by decide +kernel
theorem dX2_binds_10 : decode cX2_binds 10 = .ok (.ifCond .eq 27, 3) := by decide +kernel
theorem dX2_binds_13 : decode cX2_binds 13 = .ok (.iload_n 2, 1) := by decide +kernel
theorem dX2_binds_14 : decode cX2_binds 14 = .ok (.iconst 0, 1) := by decide +kernel
theorem dX2_binds_15 : decode cX2_binds 15 = .ok (.sipush 1000, 3) := by decide +kernel
theorem dX2_binds_18 : decode cX2_binds 18 = .ok (.invokestatic 236, 3) := by decide +kernel
theorem dX2_binds_21 : decode cX2_binds 21 = .ok (.ifCond .eq 16, 3) := by decide +kernel
theorem dX2_binds_24 : decode cX2_binds 24 = .ok (.aload_n 0, 1) := by decide +kernel
theorem dX2_binds_25 : decode cX2_binds 25 = .ok (.iload_n 1, 1) := by decide +kernel
theorem dX2_binds_26 : decode cX2_binds 26 = .ok (.iload_n 2, 1) := by decide +kernel
theorem dX2_binds_27 : decode cX2_binds 27 = .ok (.invokevirtual 443, 3) := by decide +kernel
theorem dX2_binds_30 : decode cX2_binds 30 = .ok (.ifCond .eq 7, 3) := by decide +kernel
theorem dX2_binds_33 : decode cX2_binds 33 = .ok (.iconst 1, 1) := by decide +kernel
theorem dX2_binds_34 : decode cX2_binds 34 = .ok (.goto 4, 3) := by decide +kernel
theorem dX2_binds_37 : decode cX2_binds 37 = .ok (.iconst 0, 1) := by decide +kernel
theorem dX2_binds_38 : decode cX2_binds 38 = .ok (.ireturn, 1) := by decide +kernel
abbrev cX2_bindsNow : ByteArray := prog_15_method_72_code
def yX2_bindsNow : MethodName := ⟨RX2, "bindsNow", "(II)Z"⟩
theorem dX2_bindsNow_0 : decode cX2_bindsNow 0 = .ok (.aload_n 0, 1) := by decide +kernel
theorem dX2_bindsNow_1 : decode cX2_bindsNow 1 = .ok (.iload_n 1, 1) := by decide +kernel
theorem dX2_bindsNow_2 : decode cX2_bindsNow 2 = .ok (.invokevirtual 437, 3) := by decide +kernel
theorem dX2_bindsNow_5 : decode cX2_bindsNow 5 = .ok (.aload_n 0, 1) := by decide +kernel
theorem dX2_bindsNow_6 : decode cX2_bindsNow 6 = .ok (.iload_n 1, 1) := by decide +kernel
theorem dX2_bindsNow_7 : decode cX2_bindsNow 7 = .ok (.iload_n 2, 1) := by decide +kernel
theorem dX2_bindsNow_8 : decode cX2_bindsNow 8 = .ok (.iconst (-1), 1) := by decide +kernel
theorem dX2_bindsNow_9 : decode cX2_bindsNow 9 = .ok (.invokevirtual 440, 3) := by decide +kernel
theorem dX2_bindsNow_12 : decode cX2_bindsNow 12 = .ok (.ireturn, 1) := by decide +kernel
abbrev cX2_asItIs : ByteArray := prog_15_method_70_code
def yX2_asItIs : MethodName := ⟨RX2, "asItIs", "(I)V"⟩
theorem dX2_asItIs_0 : decode cX2_asItIs 0 = .ok (.aload_n 0, 1) := by decide +kernel
theorem dX2_asItIs_1 : decode cX2_asItIs 1 = .ok (.iload_n 1, 1) := by decide +kernel
theorem dX2_asItIs_2 : decode cX2_asItIs 2 = .ok (.bipush 6, 2) := by decide +kernel
theorem dX2_asItIs_4 : decode cX2_asItIs 4 = .ok (.invokevirtual 420, 3) := by decide +kernel
theorem dX2_asItIs_7 : decode cX2_asItIs 7 = .ok (.ifCond .eq 7, 3) := by decide +kernel
theorem dX2_asItIs_10 : decode cX2_asItIs 10 = .ok (.iconst 1, 1) := by decide +kernel
theorem dX2_asItIs_11 : decode cX2_asItIs 11 = .ok (.goto 4, 3) := by decide +kernel
theorem dX2_asItIs_14 : decode cX2_asItIs 14 = .ok (.iconst 0, 1) := by decide +kernel
theorem dX2_asItIs_15 : decode cX2_asItIs 15 = .ok (.istore_n 2, 1) := by decide +kernel
theorem dX2_asItIs_16 : decode cX2_asItIs 16 = .ok (.iconst 0, 1) := by decide +kernel
theorem dX2_asItIs_17 : decode cX2_asItIs 17 = .ok (.istore_n 3, 1) := by decide +kernel
theorem dX2_asItIs_18 : decode cX2_asItIs 18 = .ok (.iload_n 3, 1) := by decide +kernel
theorem dX2_asItIs_19 : decode cX2_asItIs 19 = .ok (.aload_n 0, 1) := by decide +kernel
theorem dX2_asItIs_20 : decode cX2_asItIs 20 = .ok (.getfield 84, 3) := by decide +kernel
theorem dX2_asItIs_23 : decode cX2_asItIs 23 = .ok (.iconst 0, 1) := by decide +kernel
theorem dX2_asItIs_24 : decode cX2_asItIs 24 = .ok (.iaload, 1) := by decide +kernel
theorem dX2_asItIs_25 : decode cX2_asItIs 25 = .ok (.if_icmp .ge 64, 3) := by decide +kernel
theorem dX2_asItIs_28 : decode cX2_asItIs 28 = .ok (.aload_n 0, 1) := by decide +kernel
theorem dX2_asItIs_29 : decode cX2_asItIs 29 = .ok (.getfield 192, 3) := by decide +kernel
theorem dX2_asItIs_32 : decode cX2_asItIs 32 = .ok (.iload_n 3, 1) := by decide +kernel
theorem dX2_asItIs_33 : decode cX2_asItIs 33 = .ok (.aload_n 0, 1) := by decide +kernel
theorem dX2_asItIs_34 : decode cX2_asItIs 34 = .ok (.getfield 90, 3) := by decide +kernel
theorem dX2_asItIs_37 : decode cX2_asItIs 37 = .ok (.iload_n 3, 1) := by decide +kernel
theorem dX2_asItIs_38 : decode cX2_asItIs 38 = .ok (.iaload, 1) := by decide +kernel
theorem dX2_asItIs_39 : decode cX2_asItIs 39 = .ok (.iastore, 1) := by decide +kernel
theorem dX2_asItIs_40 : decode cX2_asItIs 40 = .ok (.aload_n 0, 1) := by decide +kernel
theorem dX2_asItIs_41 : decode cX2_asItIs 41 = .ok (.getfield 195, 3) := by decide +kernel
theorem dX2_asItIs_44 : decode cX2_asItIs 44 = .ok (.iload_n 3, 1) := by decide +kernel
theorem dX2_asItIs_45 : decode cX2_asItIs 45 = .ok (.aload_n 0, 1) := by decide +kernel
theorem dX2_asItIs_46 : decode cX2_asItIs 46 = .ok (.getfield 108, 3) := by decide +kernel
theorem dX2_asItIs_49 : decode cX2_asItIs 49 = .ok (.iload_n 3, 1) := by decide +kernel
theorem dX2_asItIs_50 : decode cX2_asItIs 50 = .ok (.iaload, 1) := by decide +kernel
theorem dX2_asItIs_51 : decode cX2_asItIs 51 = .ok (.ifCond .ne 30, 3) := by decide +kernel
theorem dX2_asItIs_54 : decode cX2_asItIs 54 = .ok (.aload_n 0, 1) := by decide +kernel
theorem dX2_asItIs_55 : decode cX2_asItIs 55 = .ok (.getfield 87, 3) := by decide +kernel
theorem dX2_asItIs_58 : decode cX2_asItIs 58 = .ok (.iload_n 3, 1) := by decide +kernel
theorem dX2_asItIs_59 : decode cX2_asItIs 59 = .ok (.iaload, 1) := by decide +kernel
theorem dX2_asItIs_60 : decode cX2_asItIs 60 = .ok (.iload_n 1, 1) := by decide +kernel
theorem dX2_asItIs_61 : decode cX2_asItIs 61 = .ok (.if_icmp .ne 20, 3) := by decide +kernel
theorem dX2_asItIs_64 : decode cX2_asItIs 64 = .ok (.iload_n 2, 1) := by decide +kernel
theorem dX2_asItIs_65 : decode cX2_asItIs 65 = .ok (.ifCond .ne 12, 3) := by decide +kernel
theorem dX2_asItIs_68 : decode cX2_asItIs 68 = .ok (.aload_n 0, 1) := by decide +kernel
theorem dX2_asItIs_69 : decode cX2_asItIs 69 = .ok (.getfield 123, 3) := by decide +kernel
theorem dX2_asItIs_72 : decode cX2_asItIs 72 = .ok (.iload_n 3, 1) := by decide +kernel
theorem dX2_asItIs_73 : decode cX2_asItIs 73 = .ok (.baload, 1) := by decide +kernel
theorem dX2_asItIs_74 : decode cX2_asItIs 74 = .ok (.ifCond .ne 7, 3) := by decide +kernel
theorem dX2_asItIs_77 : decode cX2_asItIs 77 = .ok (.iconst 1, 1) := by decide +kernel
theorem dX2_asItIs_78 : decode cX2_asItIs 78 = .ok (.goto 4, 3) := by decide +kernel
theorem dX2_asItIs_81 : decode cX2_asItIs 81 = .ok (.iconst 0, 1) := by decide +kernel
theorem dX2_asItIs_82 : decode cX2_asItIs 82 = .ok (.bastore, 1) := by decide +kernel
theorem dX2_asItIs_83 : decode cX2_asItIs 83 = .ok (.iinc 3 1, 3) := by decide +kernel
theorem dX2_asItIs_86 : decode cX2_asItIs 86 = .ok (.goto (-68), 3) := by decide +kernel
theorem dX2_asItIs_89 : decode cX2_asItIs 89 = .ok (.return_, 1) := by decide +kernel
abbrev cX2_bindsSo : ByteArray := prog_15_method_71_code
def yX2_bindsSo : MethodName := ⟨RX2, "bindsSo", "(III)Z"⟩
theorem dX2_bindsSo_0 : decode cX2_bindsSo 0 = .ok (.aload_n 0, 1) := by decide +kernel
theorem dX2_bindsSo_1 : decode cX2_bindsSo 1 = .ok (.iload_n 1, 1) := by decide +kernel
theorem dX2_bindsSo_2 : decode cX2_bindsSo 2 = .ok (.iconst 4, 1) := by decide +kernel
theorem dX2_bindsSo_3 : decode cX2_bindsSo 3 = .ok (.invokevirtual 420, 3) := by decide +kernel
theorem dX2_bindsSo_6 : decode cX2_bindsSo 6 = .ok (.istore 4, 2) := by decide +kernel
theorem dX2_bindsSo_8 : decode cX2_bindsSo 8 = .ok (.aload_n 0, 1) := by decide +kernel
theorem dX2_bindsSo_9 : decode cX2_bindsSo 9 = .ok (.iload_n 1, 1) := by decide +kernel
theorem dX2_bindsSo_10 : decode cX2_bindsSo 10 = .ok (.iconst 5, 1) := by decide +kernel
theorem dX2_bindsSo_11 : decode cX2_bindsSo 11 = .ok (.invokevirtual 420, 3) := by decide +kernel
theorem dX2_bindsSo_14 : decode cX2_bindsSo 14 = .ok (.istore 5, 2) := by decide +kernel
theorem dX2_bindsSo_16 : decode cX2_bindsSo 16 = .ok (.iconst 0, 1) := by decide +kernel
theorem dX2_bindsSo_17 : decode cX2_bindsSo 17 = .ok (.istore 6, 2) := by decide +kernel
theorem dX2_bindsSo_19 : decode cX2_bindsSo 19 = .ok (.iconst 0, 1) := by decide +kernel
theorem dX2_bindsSo_20 : decode cX2_bindsSo 20 = .ok (.istore 7, 2) := by decide +kernel
theorem dX2_bindsSo_22 : decode cX2_bindsSo 22 = .ok (.lconst 0, 1) := by decide +kernel
theorem dX2_bindsSo_23 : decode cX2_bindsSo 23 = .ok (.lstore 8, 2) := by decide +kernel
theorem dX2_bindsSo_25 : decode cX2_bindsSo 25 = .ok (.lconst 0, 1) := by decide +kernel
theorem dX2_bindsSo_26 : decode cX2_bindsSo 26 = .ok (.lstore 10, 2) := by decide +kernel
theorem dX2_bindsSo_28 : decode cX2_bindsSo 28 = .ok (.iconst 0, 1) := by decide +kernel
theorem dX2_bindsSo_29 : decode cX2_bindsSo 29 = .ok (.istore 12, 2) := by decide +kernel
theorem dX2_bindsSo_31 : decode cX2_bindsSo 31 = .ok (.iload 12, 2) := by decide +kernel
theorem dX2_bindsSo_33 : decode cX2_bindsSo 33 = .ok (.aload_n 0, 1) := by decide +kernel
theorem dX2_bindsSo_34 : decode cX2_bindsSo 34 = .ok (.getfield 32, 3) := by decide +kernel
theorem dX2_bindsSo_37 : decode cX2_bindsSo 37 = .ok (.iconst 0, 1) := by decide +kernel
theorem dX2_bindsSo_38 : decode cX2_bindsSo 38 = .ok (.iaload, 1) := by decide +kernel
theorem dX2_bindsSo_39 : decode cX2_bindsSo 39 = .ok (.if_icmp .ge 147, 3) := by decide +kernel
theorem dX2_bindsSo_42 : decode cX2_bindsSo 42 = .ok (.lconst 0, 1) := by decide +kernel
theorem dX2_bindsSo_43 : decode cX2_bindsSo 43 = .ok (.lstore 13, 2) := by decide +kernel
theorem dX2_bindsSo_45 : decode cX2_bindsSo 45 = .ok (.iconst 0, 1) := by decide +kernel
theorem dX2_bindsSo_46 : decode cX2_bindsSo 46 = .ok (.istore 15, 2) := by decide +kernel
theorem dX2_bindsSo_48 : decode cX2_bindsSo 48 = .ok (.iconst 0, 1) := by decide +kernel
theorem dX2_bindsSo_49 : decode cX2_bindsSo 49 = .ok (.istore 16, 2) := by decide +kernel
theorem dX2_bindsSo_51 : decode cX2_bindsSo 51 = .ok (.iload 16, 2) := by decide +kernel
theorem dX2_bindsSo_53 : decode cX2_bindsSo 53 = .ok (.aload_n 0, 1) := by decide +kernel
theorem dX2_bindsSo_54 : decode cX2_bindsSo 54 = .ok (.getfield 84, 3) := by decide +kernel
theorem dX2_bindsSo_57 : decode cX2_bindsSo 57 = .ok (.iconst 0, 1) := by decide +kernel
theorem dX2_bindsSo_58 : decode cX2_bindsSo 58 = .ok (.iaload, 1) := by decide +kernel
theorem dX2_bindsSo_59 : decode cX2_bindsSo 59 = .ok (.if_icmp .ge 46, 3) := by decide +kernel
theorem dX2_bindsSo_62 : decode cX2_bindsSo 62 = .ok (.aload_n 0, 1) := by decide +kernel
theorem dX2_bindsSo_63 : decode cX2_bindsSo 63 = .ok (.getfield 195, 3) := by decide +kernel
theorem dX2_bindsSo_66 : decode cX2_bindsSo 66 = .ok (.iload 16, 2) := by decide +kernel
theorem dX2_bindsSo_68 : decode cX2_bindsSo 68 = .ok (.baload, 1) := by decide +kernel
theorem dX2_bindsSo_69 : decode cX2_bindsSo 69 = .ok (.ifCond .eq 30, 3) := by decide +kernel
theorem dX2_bindsSo_72 : decode cX2_bindsSo 72 = .ok (.aload_n 0, 1) := by decide +kernel
theorem dX2_bindsSo_73 : decode cX2_bindsSo 73 = .ok (.getfield 192, 3) := by decide +kernel
theorem dX2_bindsSo_76 : decode cX2_bindsSo 76 = .ok (.iload 16, 2) := by decide +kernel
theorem dX2_bindsSo_78 : decode cX2_bindsSo 78 = .ok (.iaload, 1) := by decide +kernel
theorem dX2_bindsSo_79 : decode cX2_bindsSo 79 = .ok (.iload 12, 2) := by decide +kernel
theorem dX2_bindsSo_81 : decode cX2_bindsSo 81 = .ok (.if_icmp .ne 18, 3) := by decide +kernel
theorem dX2_bindsSo_84 : decode cX2_bindsSo 84 = .ok (.iconst 1, 1) := by decide +kernel
theorem dX2_bindsSo_85 : decode cX2_bindsSo 85 = .ok (.istore 15, 2) := by decide +kernel
theorem dX2_bindsSo_87 : decode cX2_bindsSo 87 = .ok (.lload 13, 2) := by decide +kernel
theorem dX2_bindsSo_89 : decode cX2_bindsSo 89 = .ok (.aload_n 0, 1) := by decide +kernel
theorem dX2_bindsSo_90 : decode cX2_bindsSo 90 = .ok (.iload 16, 2) := by decide +kernel
theorem dX2_bindsSo_92 : decode cX2_bindsSo 92 = .ok (.invokevirtual 265, 3) := by decide +kernel
theorem dX2_bindsSo_95 : decode cX2_bindsSo 95 = .ok (.i2l, 1) := by decide +kernel
theorem dX2_bindsSo_96 : decode cX2_bindsSo 96 = .ok (.ladd, 1) := by decide +kernel
theorem dX2_bindsSo_97 : decode cX2_bindsSo 97 = .ok (.lstore 13, 2) := by decide +kernel
theorem dX2_bindsSo_99 : decode cX2_bindsSo 99 = .ok (.iinc 16 1, 3) := by decide +kernel
theorem dX2_bindsSo_102 : decode cX2_bindsSo 102 = .ok (.goto (-51), 3) := by decide +kernel
theorem dX2_bindsSo_105 : decode cX2_bindsSo 105 = .ok (.iload 15, 2) := by decide +kernel
theorem dX2_bindsSo_107 : decode cX2_bindsSo 107 = .ok (.ifCond .eq 73, 3) := by decide +kernel
theorem dX2_bindsSo_110 : decode cX2_bindsSo 110 = .ok (.iload 12, 2) := by decide +kernel
theorem dX2_bindsSo_112 : decode cX2_bindsSo 112 = .ok (.iload_n 3, 1) := by decide +kernel
theorem dX2_bindsSo_113 : decode cX2_bindsSo 113 = .ok (.if_icmp .eq 19, 3) := by decide +kernel
theorem dX2_bindsSo_116 : decode cX2_bindsSo 116 = .ok (.iload_n 2, 1) := by decide +kernel
theorem dX2_bindsSo_117 : decode cX2_bindsSo 117 = .ok (.aload_n 0, 1) := by decide +kernel
theorem dX2_bindsSo_118 : decode cX2_bindsSo 118 = .ok (.getfield 81, 3) := by decide +kernel
theorem dX2_bindsSo_121 : decode cX2_bindsSo 121 = .ok (.bipush 12, 2) := by decide +kernel
theorem dX2_bindsSo_123 : decode cX2_bindsSo 123 = .ok (.iload 12, 2) := by decide +kernel
theorem dX2_bindsSo_125 : decode cX2_bindsSo 125 = .ok (.imul, 1) := by decide +kernel
theorem dX2_bindsSo_126 : decode cX2_bindsSo 126 = .ok (.iload_n 1, 1) := by decide +kernel
theorem dX2_bindsSo_127 : decode cX2_bindsSo 127 = .ok (.iadd, 1) := by decide +kernel
theorem dX2_bindsSo_128 : decode cX2_bindsSo 128 = .ok (.iaload, 1) := by decide +kernel
theorem dX2_bindsSo_129 : decode cX2_bindsSo 129 = .ok (.if_icmp .lt 7, 3) := by decide +kernel
theorem dX2_bindsSo_132 : decode cX2_bindsSo 132 = .ok (.iconst 1, 1) := by decide +kernel
theorem dX2_bindsSo_133 : decode cX2_bindsSo 133 = .ok (.goto 4, 3) := by decide +kernel
theorem dX2_bindsSo_136 : decode cX2_bindsSo 136 = .ok (.iconst 0, 1) := by decide +kernel
theorem dX2_bindsSo_137 : decode cX2_bindsSo 137 = .ok (.istore 16, 2) := by decide +kernel
theorem dX2_bindsSo_139 : decode cX2_bindsSo 139 = .ok (.iinc 6 1, 3) := by decide +kernel
theorem dX2_bindsSo_142 : decode cX2_bindsSo 142 = .ok (.lload 8, 2) := by decide +kernel
theorem dX2_bindsSo_144 : decode cX2_bindsSo 144 = .ok (.lload 13, 2) := by decide +kernel
theorem dX2_bindsSo_146 : decode cX2_bindsSo 146 = .ok (.ladd, 1) := by decide +kernel
theorem dX2_bindsSo_147 : decode cX2_bindsSo 147 = .ok (.lstore 8, 2) := by decide +kernel
theorem dX2_bindsSo_149 : decode cX2_bindsSo 149 = .ok (.iload 7, 2) := by decide +kernel
theorem dX2_bindsSo_151 : decode cX2_bindsSo 151 = .ok (.iload 16, 2) := by decide +kernel
theorem dX2_bindsSo_153 : decode cX2_bindsSo 153 = .ok (.ifCond .eq 7, 3) := by decide +kernel
theorem dX2_bindsSo_156 : decode cX2_bindsSo 156 = .ok (.iconst 1, 1) := by decide +kernel
theorem dX2_bindsSo_157 : decode cX2_bindsSo 157 = .ok (.goto 4, 3) := by decide +kernel
theorem dX2_bindsSo_160 : decode cX2_bindsSo 160 = .ok (.iconst 0, 1) := by decide +kernel
theorem dX2_bindsSo_161 : decode cX2_bindsSo 161 = .ok (.iadd, 1) := by decide +kernel
theorem dX2_bindsSo_162 : decode cX2_bindsSo 162 = .ok (.istore 7, 2) := by decide +kernel
theorem dX2_bindsSo_164 : decode cX2_bindsSo 164 = .ok (.lload 10, 2) := by decide +kernel
theorem dX2_bindsSo_166 : decode cX2_bindsSo 166 = .ok (.iload 16, 2) := by decide +kernel
theorem dX2_bindsSo_168 : decode cX2_bindsSo 168 = .ok (.ifCond .eq 8, 3) := by decide +kernel
theorem dX2_bindsSo_171 : decode cX2_bindsSo 171 = .ok (.lload 13, 2) := by decide +kernel
theorem dX2_bindsSo_173 : decode cX2_bindsSo 173 = .ok (.goto 4, 3) := by decide +kernel
theorem dX2_bindsSo_176 : decode cX2_bindsSo 176 = .ok (.lconst 0, 1) := by decide +kernel
theorem dX2_bindsSo_177 : decode cX2_bindsSo 177 = .ok (.ladd, 1) := by decide +kernel
theorem dX2_bindsSo_178 : decode cX2_bindsSo 178 = .ok (.lstore 10, 2) := by decide +kernel
theorem dX2_bindsSo_180 : decode cX2_bindsSo 180 = .ok (.iinc 12 1, 3) := by decide +kernel
theorem dX2_bindsSo_183 : decode cX2_bindsSo 183 = .ok (.goto (-152), 3) := by decide +kernel
theorem dX2_bindsSo_186 : decode cX2_bindsSo 186 = .ok (.iload 6, 2) := by decide +kernel
theorem dX2_bindsSo_188 : decode cX2_bindsSo 188 = .ok (.ifCond .le 36, 3) := by decide +kernel
theorem dX2_bindsSo_191 : decode cX2_bindsSo 191 = .ok (.bipush 100, 2) := by decide +kernel
theorem dX2_bindsSo_193 : decode cX2_bindsSo 193 = .ok (.iload 7, 2) := by decide +kernel
theorem dX2_bindsSo_195 : decode cX2_bindsSo 195 = .ok (.imul, 1) := by decide +kernel
theorem dX2_bindsSo_196 : decode cX2_bindsSo 196 = .ok (.iload 4, 2) := by decide +kernel
theorem dX2_bindsSo_198 : decode cX2_bindsSo 198 = .ok (.iload 6, 2) := by decide +kernel
theorem dX2_bindsSo_200 : decode cX2_bindsSo 200 = .ok (.imul, 1) := by decide +kernel
theorem dX2_bindsSo_201 : decode cX2_bindsSo 201 = .ok (.if_icmp .lt 23, 3) := by decide +kernel
theorem dX2_bindsSo_204 : decode cX2_bindsSo 204 = .ok (.ldc2_w 435, 3) := by decide +kernel
theorem dX2_bindsSo_207 : decode cX2_bindsSo 207 = .ok (.lload 10, 2) := by decide +kernel
theorem dX2_bindsSo_209 : decode cX2_bindsSo 209 = .ok (.lmul, 1) := by decide +kernel
theorem dX2_bindsSo_210 : decode cX2_bindsSo 210 = .ok (.iload 5, 2) := by decide +kernel
theorem dX2_bindsSo_212 : decode cX2_bindsSo 212 = .ok (.i2l, 1) := by decide +kernel
theorem dX2_bindsSo_213 : decode cX2_bindsSo 213 = .ok (.lload 8, 2) := by decide +kernel
theorem dX2_bindsSo_215 : decode cX2_bindsSo 215 = .ok (.lmul, 1) := by decide +kernel
theorem dX2_bindsSo_216 : decode cX2_bindsSo 216 = .ok (.lcmp, 1) := by decide +kernel
theorem dX2_bindsSo_217 : decode cX2_bindsSo 217 = .ok (.ifCond .lt 7, 3) := by decide +kernel
theorem dX2_bindsSo_220 : decode cX2_bindsSo 220 = .ok (.iconst 1, 1) := by decide +kernel
theorem dX2_bindsSo_221 : decode cX2_bindsSo 221 = .ok (.goto 4, 3) := by decide +kernel
theorem dX2_bindsSo_224 : decode cX2_bindsSo 224 = .ok (.iconst 0, 1) := by decide +kernel
theorem dX2_bindsSo_225 : decode cX2_bindsSo 225 = .ok (.ireturn, 1) := by decide +kernel
abbrev cX2_offer : ByteArray := prog_15_method_74_code
def yX2_offer : MethodName := ⟨RX2, "offer", "(I)I"⟩
theorem dX2_offer_0 : decode cX2_offer 0 = .ok (.aload_n 0, 1) := by decide +kernel
theorem dX2_offer_1 : decode cX2_offer 1 = .ok (.iconst 0, 1) := by decide +kernel
theorem dX2_offer_2 : decode cX2_offer 2 = .ok (.putfield 220, 3) := by decide +kernel
theorem dX2_offer_5 : decode cX2_offer 5 = .ok (.aload_n 0, 1) := by decide +kernel
theorem dX2_offer_6 : decode cX2_offer 6 = .ok (.iload_n 1, 1) := by decide +kernel
theorem dX2_offer_7 : decode cX2_offer 7 = .ok (.invokevirtual 240, 3) := by decide +kernel
theorem dX2_offer_10 : decode cX2_offer 10 = .ok (.ifCond .ne 5, 3) := by decide +kernel
theorem dX2_offer_13 : decode cX2_offer 13 = .ok (.iconst (-1), 1) := by decide +kernel
theorem dX2_offer_14 : decode cX2_offer 14 = .ok (.ireturn, 1) := by decide +kernel
theorem dX2_offer_15 : decode cX2_offer 15 = .ok (.iconst 0, 1) := by decide +kernel
theorem dX2_offer_16 : decode cX2_offer 16 = .ok (.istore_n 2, 1) := by decide +kernel
theorem dX2_offer_17 : decode cX2_offer 17 = .ok (.iload_n 2, 1) := by decide +kernel
theorem dX2_offer_18 : decode cX2_offer 18 = .ok (.sipush 1000, 3) := by decide +kernel
theorem dX2_offer_21 : decode cX2_offer 21 = .ok (.if_icmp .gt 20, 3) := by decide +kernel
theorem dX2_offer_24 : decode cX2_offer 24 = .ok (.aload_n 0, 1) := by decide +kernel
theorem dX2_offer_25 : decode cX2_offer 25 = .ok (.iload_n 1, 1) := by decide +kernel
theorem dX2_offer_26 : decode cX2_offer 26 = .ok (.iload_n 2, 1) := by decide +kernel
theorem dX2_offer_27 : decode cX2_offer 27 = .ok (.invokevirtual 443, 3) := by decide +kernel
theorem dX2_offer_30 : decode cX2_offer 30 = .ok (.ifCond .eq 5, 3) := by decide +kernel
theorem dX2_offer_33 : decode cX2_offer 33 = .ok (.iload_n 2, 1) := by decide +kernel
theorem dX2_offer_34 : decode cX2_offer 34 = .ok (.ireturn, 1) := by decide +kernel
theorem dX2_offer_35 : decode cX2_offer 35 = .ok (.iinc 2 1, 3) := by decide +kernel
theorem dX2_offer_38 : decode cX2_offer 38 = .ok (.goto (-21), 3) := by decide +kernel
theorem dX2_offer_41 : decode cX2_offer 41 = .ok (.iconst (-1), 1) := by decide +kernel
theorem dX2_offer_42 : decode cX2_offer 42 = .ok (.ireturn, 1) := by decide +kernel
abbrev cX2_compose : ByteArray := prog_15_method_75_code
def yX2_compose : MethodName := ⟨RX2, "compose", "(II)I"⟩
theorem dX2_compose_0 : decode cX2_compose 0 = .ok (.aload_n 0, 1) := by decide +kernel
theorem dX2_compose_1 : decode cX2_compose 1 = .ok (.iconst 0, 1) := by decide +kernel
theorem dX2_compose_2 : decode cX2_compose 2 = .ok (.putfield 220, 3) := by decide +kernel
theorem dX2_compose_5 : decode cX2_compose 5 = .ok (.aload_n 0, 1) := by decide +kernel
theorem dX2_compose_6 : decode cX2_compose 6 = .ok (.iload_n 1, 1) := by decide +kernel
theorem dX2_compose_7 : decode cX2_compose 7 = .ok (.invokevirtual 240, 3) := by decide +kernel
theorem dX2_compose_10 : decode cX2_compose 10 = .ok (.ifCond .eq 23, 3) := by decide +kernel
theorem dX2_compose_13 : decode cX2_compose 13 = .ok (.iload_n 2, 1) := by decide +kernel
theorem dX2_compose_14 : decode cX2_compose 14 = .ok (.iconst 0, 1) := by decide +kernel
theorem dX2_compose_15 : decode cX2_compose 15 = .ok (.sipush 1000, 3) := by decide +kernel
theorem dX2_compose_18 : decode cX2_compose 18 = .ok (.invokestatic 236, 3) := by decide +kernel
theorem dX2_compose_21 : decode cX2_compose 21 = .ok (.ifCond .eq 12, 3) := by decide +kernel
theorem dX2_compose_24 : decode cX2_compose 24 = .ok (.aload_n 0, 1) := by decide +kernel
theorem dX2_compose_25 : decode cX2_compose 25 = .ok (.iload_n 1, 1) := by decide +kernel
theorem dX2_compose_26 : decode cX2_compose 26 = .ok (.iload_n 2, 1) := by decide +kernel
theorem dX2_compose_27 : decode cX2_compose 27 = .ok (.invokevirtual 443, 3) := by decide +kernel
theorem dX2_compose_30 : decode cX2_compose 30 = .ok (.ifCond .ne 5, 3) := by decide +kernel
theorem dX2_compose_33 : decode cX2_compose 33 = .ok (.iconst (-1), 1) := by decide +kernel
theorem dX2_compose_34 : decode cX2_compose 34 = .ok (.ireturn, 1) := by decide +kernel
theorem dX2_compose_35 : decode cX2_compose 35 = .ok (.lconst 0, 1) := by decide +kernel
theorem dX2_compose_36 : decode cX2_compose 36 = .ok (.lstore_n 3, 1) := by decide +kernel
theorem dX2_compose_37 : decode cX2_compose 37 = .ok (.iconst 0, 1) := by decide +kernel
theorem dX2_compose_38 : decode cX2_compose 38 = .ok (.istore 5, 2) := by decide +kernel
theorem dX2_compose_40 : decode cX2_compose 40 = .ok (.iload 5, 2) := by decide +kernel
theorem dX2_compose_42 : decode cX2_compose 42 = .ok (.aload_n 0, 1) := by decide +kernel
theorem dX2_compose_43 : decode cX2_compose 43 = .ok (.getfield 84, 3) := by decide +kernel
theorem dX2_compose_46 : decode cX2_compose 46 = .ok (.iconst 0, 1) := by decide +kernel
theorem dX2_compose_47 : decode cX2_compose 47 = .ok (.iaload, 1) := by decide +kernel
theorem dX2_compose_48 : decode cX2_compose 48 = .ok (.if_icmp .ge 41, 3) := by decide +kernel
theorem dX2_compose_51 : decode cX2_compose 51 = .ok (.lload_n 3, 1) := by decide +kernel
theorem dX2_compose_52 : decode cX2_compose 52 = .ok (.aload_n 0, 1) := by decide +kernel
theorem dX2_compose_53 : decode cX2_compose 53 = .ok (.getfield 87, 3) := by decide +kernel
theorem dX2_compose_56 : decode cX2_compose 56 = .ok (.iload 5, 2) := by decide +kernel
theorem dX2_compose_58 : decode cX2_compose 58 = .ok (.iaload, 1) := by decide +kernel
theorem dX2_compose_59 : decode cX2_compose 59 = .ok (.iload_n 1, 1) := by decide +kernel
theorem dX2_compose_60 : decode cX2_compose 60 = .ok (.if_icmp .ne 20, 3) := by decide +kernel
theorem dX2_compose_63 : decode cX2_compose 63 = .ok (.aload_n 0, 1) := by decide +kernel
theorem dX2_compose_64 : decode cX2_compose 64 = .ok (.iload 5, 2) := by decide +kernel
theorem dX2_compose_66 : decode cX2_compose 66 = .ok (.invokevirtual 265, 3) := by decide +kernel
theorem dX2_compose_69 : decode cX2_compose 69 = .ok (.i2l, 1) := by decide +kernel
theorem dX2_compose_70 : decode cX2_compose 70 = .ok (.iload_n 2, 1) := by decide +kernel
theorem dX2_compose_71 : decode cX2_compose 71 = .ok (.i2l, 1) := by decide +kernel
theorem dX2_compose_72 : decode cX2_compose 72 = .ok (.lmul, 1) := by decide +kernel
theorem dX2_compose_73 : decode cX2_compose 73 = .ok (.ldc2_w 446, 3) := by decide +kernel
theorem dX2_compose_76 : decode cX2_compose 76 = .ok (.ldiv, 1) := by decide +kernel
theorem dX2_compose_77 : decode cX2_compose 77 = .ok (.goto 4, 3) := by decide +kernel
theorem dX2_compose_80 : decode cX2_compose 80 = .ok (.lconst 0, 1) := by decide +kernel
theorem dX2_compose_81 : decode cX2_compose 81 = .ok (.ladd, 1) := by decide +kernel
theorem dX2_compose_82 : decode cX2_compose 82 = .ok (.lstore_n 3, 1) := by decide +kernel
theorem dX2_compose_83 : decode cX2_compose 83 = .ok (.iinc 5 1, 3) := by decide +kernel
theorem dX2_compose_86 : decode cX2_compose 86 = .ok (.goto (-46), 3) := by decide +kernel
theorem dX2_compose_89 : decode cX2_compose 89 = .ok (.lload_n 3, 1) := by decide +kernel
theorem dX2_compose_90 : decode cX2_compose 90 = .ok (.aload_n 0, 1) := by decide +kernel
theorem dX2_compose_91 : decode cX2_compose 91 = .ok (.getfield 35, 3) := by decide +kernel
theorem dX2_compose_94 : decode cX2_compose 94 = .ok (.iload_n 1, 1) := by decide +kernel
theorem dX2_compose_95 : decode cX2_compose 95 = .ok (.iaload, 1) := by decide +kernel
theorem dX2_compose_96 : decode cX2_compose 96 = .ok (.i2l, 1) := by decide +kernel
theorem dX2_compose_97 : decode cX2_compose 97 = .ok (.lcmp, 1) := by decide +kernel
theorem dX2_compose_98 : decode cX2_compose 98 = .ok (.ifCond .le 5, 3) := by decide +kernel
theorem dX2_compose_101 : decode cX2_compose 101 = .ok (.iconst (-1), 1) := by decide +kernel
theorem dX2_compose_102 : decode cX2_compose 102 = .ok (.ireturn, 1) := by decide +kernel
theorem dX2_compose_103 : decode cX2_compose 103 = .ok (.iconst 0, 1) := by decide +kernel
theorem dX2_compose_104 : decode cX2_compose 104 = .ok (.istore 5, 2) := by decide +kernel
theorem dX2_compose_106 : decode cX2_compose 106 = .ok (.iload 5, 2) := by decide +kernel
theorem dX2_compose_108 : decode cX2_compose 108 = .ok (.aload_n 0, 1) := by decide +kernel
theorem dX2_compose_109 : decode cX2_compose 109 = .ok (.getfield 84, 3) := by decide +kernel
theorem dX2_compose_112 : decode cX2_compose 112 = .ok (.iconst 0, 1) := by decide +kernel
theorem dX2_compose_113 : decode cX2_compose 113 = .ok (.iaload, 1) := by decide +kernel
theorem dX2_compose_114 : decode cX2_compose 114 = .ok (.if_icmp .ge 97, 3) := by decide +kernel
theorem dX2_compose_117 : decode cX2_compose 117 = .ok (.aload_n 0, 1) := by decide +kernel
theorem dX2_compose_118 : decode cX2_compose 118 = .ok (.getfield 108, 3) := by decide +kernel
theorem dX2_compose_121 : decode cX2_compose 121 = .ok (.iload 5, 2) := by decide +kernel
theorem dX2_compose_123 : decode cX2_compose 123 = .ok (.iaload, 1) := by decide +kernel
theorem dX2_compose_124 : decode cX2_compose 124 = .ok (.ifCond .ne 81, 3) := by decide +kernel
theorem dX2_compose_127 : decode cX2_compose 127 = .ok (.aload_n 0, 1) := by decide +kernel
theorem dX2_compose_128 : decode cX2_compose 128 = .ok (.getfield 87, 3) := by decide +kernel
theorem dX2_compose_131 : decode cX2_compose 131 = .ok (.iload 5, 2) := by decide +kernel
theorem dX2_compose_133 : decode cX2_compose 133 = .ok (.iaload, 1) := by decide +kernel
theorem dX2_compose_134 : decode cX2_compose 134 = .ok (.iload_n 1, 1) := by decide +kernel
theorem dX2_compose_135 : decode cX2_compose 135 = .ok (.if_icmp .ne 70, 3) := by decide +kernel
theorem dX2_compose_138 : decode cX2_compose 138 = .ok (.aload_n 0, 1) := by decide +kernel
theorem dX2_compose_139 : decode cX2_compose 139 = .ok (.iload 5, 2) := by decide +kernel
theorem dX2_compose_141 : decode cX2_compose 141 = .ok (.invokevirtual 265, 3) := by decide +kernel
theorem dX2_compose_144 : decode cX2_compose 144 = .ok (.i2l, 1) := by decide +kernel
theorem dX2_compose_145 : decode cX2_compose 145 = .ok (.iload_n 2, 1) := by decide +kernel
theorem dX2_compose_146 : decode cX2_compose 146 = .ok (.i2l, 1) := by decide +kernel
theorem dX2_compose_147 : decode cX2_compose 147 = .ok (.lmul, 1) := by decide +kernel
theorem dX2_compose_148 : decode cX2_compose 148 = .ok (.ldc2_w 446, 3) := by decide +kernel
theorem dX2_compose_151 : decode cX2_compose 151 = .ok (.ldiv, 1) := by decide +kernel
theorem dX2_compose_152 : decode cX2_compose 152 = .ok (.l2i, 1) := by decide +kernel
theorem dX2_compose_153 : decode cX2_compose 153 = .ok (.istore 6, 2) := by decide +kernel
theorem dX2_compose_155 : decode cX2_compose 155 = .ok (.aload_n 0, 1) := by decide +kernel
theorem dX2_compose_156 : decode cX2_compose 156 = .ok (.getfield 35, 3) := by decide +kernel
theorem dX2_compose_159 : decode cX2_compose 159 = .ok (.iload_n 1, 1) := by decide +kernel
theorem dX2_compose_160 : decode cX2_compose 160 = .ok (.dup2, 1) := by decide +kernel
theorem dX2_compose_161 : decode cX2_compose 161 = .ok (.iaload, 1) := by decide +kernel
theorem dX2_compose_162 : decode cX2_compose 162 = .ok (.iload 6, 2) := by decide +kernel
theorem dX2_compose_164 : decode cX2_compose 164 = .ok (.isub, 1) := by decide +kernel
theorem dX2_compose_165 : decode cX2_compose 165 = .ok (.iastore, 1) := by decide +kernel
theorem dX2_compose_166 : decode cX2_compose 166 = .ok (.aload_n 0, 1) := by decide +kernel
theorem dX2_compose_167 : decode cX2_compose 167 = .ok (.getfield 35, 3) := by decide +kernel
theorem dX2_compose_170 : decode cX2_compose 170 = .ok (.aload_n 0, 1) := by decide +kernel
theorem dX2_compose_171 : decode cX2_compose 171 = .ok (.getfield 90, 3) := by decide +kernel
theorem dX2_compose_174 : decode cX2_compose 174 = .ok (.iload 5, 2) := by decide +kernel
theorem dX2_compose_176 : decode cX2_compose 176 = .ok (.iaload, 1) := by decide +kernel
theorem dX2_compose_177 : decode cX2_compose 177 = .ok (.dup2, 1) := by decide +kernel
theorem dX2_compose_178 : decode cX2_compose 178 = .ok (.iaload, 1) := by decide +kernel
theorem dX2_compose_179 : decode cX2_compose 179 = .ok (.iload 6, 2) := by decide +kernel
theorem dX2_compose_181 : decode cX2_compose 181 = .ok (.iadd, 1) := by decide +kernel
theorem dX2_compose_182 : decode cX2_compose 182 = .ok (.iastore, 1) := by decide +kernel
theorem dX2_compose_183 : decode cX2_compose 183 = .ok (.aload_n 0, 1) := by decide +kernel
theorem dX2_compose_184 : decode cX2_compose 184 = .ok (.iload 5, 2) := by decide +kernel
theorem dX2_compose_186 : decode cX2_compose 186 = .ok (.iload 6, 2) := by decide +kernel
theorem dX2_compose_188 : decode cX2_compose 188 = .ok (.aload_n 0, 1) := by decide +kernel
theorem dX2_compose_189 : decode cX2_compose 189 = .ok (.iload 5, 2) := by decide +kernel
theorem dX2_compose_191 : decode cX2_compose 191 = .ok (.invokevirtual 265, 3) := by decide +kernel
theorem dX2_compose_194 : decode cX2_compose 194 = .ok (.if_icmp .ne 7, 3) := by decide +kernel
theorem dX2_compose_197 : decode cX2_compose 197 = .ok (.iconst 1, 1) := by decide +kernel
theorem dX2_compose_198 : decode cX2_compose 198 = .ok (.goto 4, 3) := by decide +kernel
theorem dX2_compose_201 : decode cX2_compose 201 = .ok (.iconst 2, 1) := by decide +kernel
theorem dX2_compose_202 : decode cX2_compose 202 = .ok (.invokevirtual 259, 3) := by decide +kernel
theorem dX2_compose_205 : decode cX2_compose 205 = .ok (.iinc 5 1, 3) := by decide +kernel
theorem dX2_compose_208 : decode cX2_compose 208 = .ok (.goto (-102), 3) := by decide +kernel
theorem dX2_compose_211 : decode cX2_compose 211 = .ok (.aload_n 0, 1) := by decide +kernel
theorem dX2_compose_212 : decode cX2_compose 212 = .ok (.invokevirtual 271, 3) := by decide +kernel
theorem dX2_compose_215 : decode cX2_compose 215 = .ok (.lload_n 3, 1) := by decide +kernel
theorem dX2_compose_216 : decode cX2_compose 216 = .ok (.l2i, 1) := by decide +kernel
theorem dX2_compose_217 : decode cX2_compose 217 = .ok (.ireturn, 1) := by decide +kernel
abbrev cX2_buy : ByteArray := prog_15_method_76_code
def yX2_buy : MethodName := ⟨RX2, "buy", "(III)Z"⟩
theorem dX2_buy_0 : decode cX2_buy 0 = .ok (.aload_n 0, 1) := by decide +kernel
theorem dX2_buy_1 : decode cX2_buy 1 = .ok (.iconst 0, 1) := by decide +kernel
theorem dX2_buy_2 : decode cX2_buy 2 = .ok (.putfield 220, 3) := by decide +kernel
theorem dX2_buy_5 : decode cX2_buy 5 = .ok (.aload_n 0, 1) := by decide +kernel
theorem dX2_buy_6 : decode cX2_buy 6 = .ok (.iload_n 1, 1) := by decide +kernel
theorem dX2_buy_7 : decode cX2_buy 7 = .ok (.invokevirtual 262, 3) := by decide +kernel
theorem dX2_buy_10 : decode cX2_buy 10 = .ok (.ifCond .eq 51, 3) := by decide +kernel
theorem dX2_buy_13 : decode cX2_buy 13 = .ok (.aload_n 0, 1) := by decide +kernel
theorem dX2_buy_14 : decode cX2_buy 14 = .ok (.iload_n 2, 1) := by decide +kernel
theorem dX2_buy_15 : decode cX2_buy 15 = .ok (.invokevirtual 240, 3) := by decide +kernel
theorem dX2_buy_18 : decode cX2_buy 18 = .ok (.ifCond .eq 43, 3) := by decide +kernel
theorem dX2_buy_21 : decode cX2_buy 21 = .ok (.iload_n 2, 1) := by decide +kernel
theorem dX2_buy_22 : decode cX2_buy 22 = .ok (.aload_n 0, 1) := by decide +kernel
theorem dX2_buy_23 : decode cX2_buy 23 = .ok (.getfield 87, 3) := by decide +kernel
theorem dX2_buy_26 : decode cX2_buy 26 = .ok (.iload_n 1, 1) := by decide +kernel
theorem dX2_buy_27 : decode cX2_buy 27 = .ok (.iaload, 1) := by decide +kernel
theorem dX2_buy_28 : decode cX2_buy 28 = .ok (.if_icmp .eq 33, 3) := by decide +kernel
theorem dX2_buy_31 : decode cX2_buy 31 = .ok (.iload_n 2, 1) := by decide +kernel
theorem dX2_buy_32 : decode cX2_buy 32 = .ok (.aload_n 0, 1) := by decide +kernel
theorem dX2_buy_33 : decode cX2_buy 33 = .ok (.getfield 90, 3) := by decide +kernel
theorem dX2_buy_36 : decode cX2_buy 36 = .ok (.iload_n 1, 1) := by decide +kernel
theorem dX2_buy_37 : decode cX2_buy 37 = .ok (.iaload, 1) := by decide +kernel
theorem dX2_buy_38 : decode cX2_buy 38 = .ok (.if_icmp .eq 23, 3) := by decide +kernel
theorem dX2_buy_41 : decode cX2_buy 41 = .ok (.iload_n 3, 1) := by decide +kernel
theorem dX2_buy_42 : decode cX2_buy 42 = .ok (.iconst 0, 1) := by decide +kernel
theorem dX2_buy_43 : decode cX2_buy 43 = .ok (.ldc 252, 2) := by decide +kernel
theorem dX2_buy_45 : decode cX2_buy 45 = .ok (.invokestatic 236, 3) := by decide +kernel
theorem dX2_buy_48 : decode cX2_buy 48 = .ok (.ifCond .eq 13, 3) := by decide +kernel
theorem dX2_buy_51 : decode cX2_buy 51 = .ok (.iload_n 3, 1) := by decide +kernel
theorem dX2_buy_52 : decode cX2_buy 52 = .ok (.aload_n 0, 1) := by decide +kernel
theorem dX2_buy_53 : decode cX2_buy 53 = .ok (.getfield 35, 3) := by decide +kernel
theorem dX2_buy_56 : decode cX2_buy 56 = .ok (.iload_n 2, 1) := by decide +kernel
theorem dX2_buy_57 : decode cX2_buy 57 = .ok (.iaload, 1) := by decide +kernel
theorem dX2_buy_58 : decode cX2_buy 58 = .ok (.if_icmp .le 5, 3) := by decide +kernel
theorem dX2_buy_61 : decode cX2_buy 61 = .ok (.iconst 0, 1) := by decide +kernel
theorem dX2_buy_62 : decode cX2_buy 62 = .ok (.ireturn, 1) := by decide +kernel
theorem dX2_buy_63 : decode cX2_buy 63 = .ok (.aload_n 0, 1) := by decide +kernel
theorem dX2_buy_64 : decode cX2_buy 64 = .ok (.getfield 35, 3) := by decide +kernel
theorem dX2_buy_67 : decode cX2_buy 67 = .ok (.iload_n 2, 1) := by decide +kernel
theorem dX2_buy_68 : decode cX2_buy 68 = .ok (.dup2, 1) := by decide +kernel
theorem dX2_buy_69 : decode cX2_buy 69 = .ok (.iaload, 1) := by decide +kernel
theorem dX2_buy_70 : decode cX2_buy 70 = .ok (.iload_n 3, 1) := by decide +kernel
theorem dX2_buy_71 : decode cX2_buy 71 = .ok (.isub, 1) := by decide +kernel
theorem dX2_buy_72 : decode cX2_buy 72 = .ok (.iastore, 1) := by decide +kernel
theorem dX2_buy_73 : decode cX2_buy 73 = .ok (.aload_n 0, 1) := by decide +kernel
theorem dX2_buy_74 : decode cX2_buy 74 = .ok (.getfield 35, 3) := by decide +kernel
theorem dX2_buy_77 : decode cX2_buy 77 = .ok (.aload_n 0, 1) := by decide +kernel
theorem dX2_buy_78 : decode cX2_buy 78 = .ok (.getfield 90, 3) := by decide +kernel
theorem dX2_buy_81 : decode cX2_buy 81 = .ok (.iload_n 1, 1) := by decide +kernel
theorem dX2_buy_82 : decode cX2_buy 82 = .ok (.iaload, 1) := by decide +kernel
theorem dX2_buy_83 : decode cX2_buy 83 = .ok (.dup2, 1) := by decide +kernel
theorem dX2_buy_84 : decode cX2_buy 84 = .ok (.iaload, 1) := by decide +kernel
theorem dX2_buy_85 : decode cX2_buy 85 = .ok (.iload_n 3, 1) := by decide +kernel
theorem dX2_buy_86 : decode cX2_buy 86 = .ok (.iadd, 1) := by decide +kernel
theorem dX2_buy_87 : decode cX2_buy 87 = .ok (.iastore, 1) := by decide +kernel
theorem dX2_buy_88 : decode cX2_buy 88 = .ok (.aload_n 0, 1) := by decide +kernel
theorem dX2_buy_89 : decode cX2_buy 89 = .ok (.getfield 90, 3) := by decide +kernel
theorem dX2_buy_92 : decode cX2_buy 92 = .ok (.iload_n 1, 1) := by decide +kernel
theorem dX2_buy_93 : decode cX2_buy 93 = .ok (.iload_n 2, 1) := by decide +kernel
theorem dX2_buy_94 : decode cX2_buy 94 = .ok (.iastore, 1) := by decide +kernel
theorem dX2_buy_95 : decode cX2_buy 95 = .ok (.aload_n 0, 1) := by decide +kernel
theorem dX2_buy_96 : decode cX2_buy 96 = .ok (.getfield 123, 3) := by decide +kernel
theorem dX2_buy_99 : decode cX2_buy 99 = .ok (.iload_n 1, 1) := by decide +kernel
theorem dX2_buy_100 : decode cX2_buy 100 = .ok (.iconst 1, 1) := by decide +kernel
theorem dX2_buy_101 : decode cX2_buy 101 = .ok (.bastore, 1) := by decide +kernel
theorem dX2_buy_102 : decode cX2_buy 102 = .ok (.aload_n 0, 1) := by decide +kernel
theorem dX2_buy_103 : decode cX2_buy 103 = .ok (.invokevirtual 271, 3) := by decide +kernel
theorem dX2_buy_106 : decode cX2_buy 106 = .ok (.iconst 1, 1) := by decide +kernel
theorem dX2_buy_107 : decode cX2_buy 107 = .ok (.ireturn, 1) := by decide +kernel
abbrev cX2_swing : ByteArray := prog_15_method_77_code
def yX2_swing : MethodName := ⟨RX2, "swing", "(IIII)I"⟩
theorem dX2_swing_0 : decode cX2_swing 0 = .ok (.aload_n 0, 1) := by decide +kernel
theorem dX2_swing_1 : decode cX2_swing 1 = .ok (.iconst 0, 1) := by decide +kernel
theorem dX2_swing_2 : decode cX2_swing 2 = .ok (.putfield 220, 3) := by decide +kernel
theorem dX2_swing_5 : decode cX2_swing 5 = .ok (.aload_n 0, 1) := by decide +kernel
theorem dX2_swing_6 : decode cX2_swing 6 = .ok (.iload_n 1, 1) := by decide +kernel
theorem dX2_swing_7 : decode cX2_swing 7 = .ok (.iload_n 2, 1) := by decide +kernel
theorem dX2_swing_8 : decode cX2_swing 8 = .ok (.invokevirtual 248, 3) := by decide +kernel
theorem dX2_swing_11 : decode cX2_swing 11 = .ok (.ifCond .eq 24, 3) := by decide +kernel
theorem dX2_swing_14 : decode cX2_swing 14 = .ok (.iload_n 3, 1) := by decide +kernel
theorem dX2_swing_15 : decode cX2_swing 15 = .ok (.iconst 0, 1) := by decide +kernel
theorem dX2_swing_16 : decode cX2_swing 16 = .ok (.sipush 1000, 3) := by decide +kernel
theorem dX2_swing_19 : decode cX2_swing 19 = .ok (.invokestatic 236, 3) := by decide +kernel
theorem dX2_swing_22 : decode cX2_swing 22 = .ok (.ifCond .eq 13, 3) := by decide +kernel
theorem dX2_swing_25 : decode cX2_swing 25 = .ok (.iload 4, 2) := by decide +kernel
theorem dX2_swing_27 : decode cX2_swing 27 = .ok (.iconst 0, 1) := by decide +kernel
theorem dX2_swing_28 : decode cX2_swing 28 = .ok (.iconst 1, 1) := by decide +kernel
theorem dX2_swing_29 : decode cX2_swing 29 = .ok (.invokestatic 236, 3) := by decide +kernel
theorem dX2_swing_32 : decode cX2_swing 32 = .ok (.ifCond .ne 5, 3) := by decide +kernel
theorem dX2_swing_35 : decode cX2_swing 35 = .ok (.iconst (-1), 1) := by decide +kernel
theorem dX2_swing_36 : decode cX2_swing 36 = .ok (.ireturn, 1) := by decide +kernel
theorem dX2_swing_37 : decode cX2_swing 37 = .ok (.iconst 0, 1) := by decide +kernel
theorem dX2_swing_38 : decode cX2_swing 38 = .ok (.istore 5, 2) := by decide +kernel
theorem dX2_swing_40 : decode cX2_swing 40 = .ok (.iconst 0, 1) := by decide +kernel
theorem dX2_swing_41 : decode cX2_swing 41 = .ok (.istore 6, 2) := by decide +kernel
theorem dX2_swing_43 : decode cX2_swing 43 = .ok (.iload 6, 2) := by decide +kernel
theorem dX2_swing_45 : decode cX2_swing 45 = .ok (.aload_n 0, 1) := by decide +kernel
theorem dX2_swing_46 : decode cX2_swing 46 = .ok (.getfield 84, 3) := by decide +kernel
theorem dX2_swing_49 : decode cX2_swing 49 = .ok (.iconst 0, 1) := by decide +kernel
theorem dX2_swing_50 : decode cX2_swing 50 = .ok (.iaload, 1) := by decide +kernel
theorem dX2_swing_51 : decode cX2_swing 51 = .ok (.if_icmp .ge 60, 3) := by decide +kernel
theorem dX2_swing_54 : decode cX2_swing 54 = .ok (.iload 5, 2) := by decide +kernel
theorem dX2_swing_56 : decode cX2_swing 56 = .ok (.bipush 10, 2) := by decide +kernel
theorem dX2_swing_58 : decode cX2_swing 58 = .ok (.if_icmp .ge 53, 3) := by decide +kernel
theorem dX2_swing_61 : decode cX2_swing 61 = .ok (.aload_n 0, 1) := by decide +kernel
theorem dX2_swing_62 : decode cX2_swing 62 = .ok (.getfield 108, 3) := by decide +kernel
theorem dX2_swing_65 : decode cX2_swing 65 = .ok (.iload 6, 2) := by decide +kernel
theorem dX2_swing_67 : decode cX2_swing 67 = .ok (.iaload, 1) := by decide +kernel
theorem dX2_swing_68 : decode cX2_swing 68 = .ok (.ifCond .ne 37, 3) := by decide +kernel
theorem dX2_swing_71 : decode cX2_swing 71 = .ok (.aload_n 0, 1) := by decide +kernel
theorem dX2_swing_72 : decode cX2_swing 72 = .ok (.getfield 87, 3) := by decide +kernel
theorem dX2_swing_75 : decode cX2_swing 75 = .ok (.iload 6, 2) := by decide +kernel
theorem dX2_swing_77 : decode cX2_swing 77 = .ok (.iaload, 1) := by decide +kernel
theorem dX2_swing_78 : decode cX2_swing 78 = .ok (.iload_n 1, 1) := by decide +kernel
theorem dX2_swing_79 : decode cX2_swing 79 = .ok (.if_icmp .ne 26, 3) := by decide +kernel
theorem dX2_swing_82 : decode cX2_swing 82 = .ok (.aload_n 0, 1) := by decide +kernel
theorem dX2_swing_83 : decode cX2_swing 83 = .ok (.getfield 90, 3) := by decide +kernel
theorem dX2_swing_86 : decode cX2_swing 86 = .ok (.iload 6, 2) := by decide +kernel
theorem dX2_swing_88 : decode cX2_swing 88 = .ok (.iaload, 1) := by decide +kernel
theorem dX2_swing_89 : decode cX2_swing 89 = .ok (.iload_n 2, 1) := by decide +kernel
theorem dX2_swing_90 : decode cX2_swing 90 = .ok (.if_icmp .eq 15, 3) := by decide +kernel
theorem dX2_swing_93 : decode cX2_swing 93 = .ok (.aload_n 0, 1) := by decide +kernel
theorem dX2_swing_94 : decode cX2_swing 94 = .ok (.getfield 198, 3) := by decide +kernel
theorem dX2_swing_97 : decode cX2_swing 97 = .ok (.iload 5, 2) := by decide +kernel
theorem dX2_swing_99 : decode cX2_swing 99 = .ok (.iload 6, 2) := by decide +kernel
theorem dX2_swing_101 : decode cX2_swing 101 = .ok (.iastore, 1) := by decide +kernel
theorem dX2_swing_102 : decode cX2_swing 102 = .ok (.iinc 5 1, 3) := by decide +kernel
theorem dX2_swing_105 : decode cX2_swing 105 = .ok (.iinc 6 1, 3) := by decide +kernel
theorem dX2_swing_108 : decode cX2_swing 108 = .ok (.goto (-65), 3) := by decide +kernel
theorem dX2_swing_111 : decode cX2_swing 111 = .ok (.aload_n 0, 1) := by decide +kernel
theorem dX2_swing_112 : decode cX2_swing 112 = .ok (.iload_n 1, 1) := by decide +kernel
theorem dX2_swing_113 : decode cX2_swing 113 = .ok (.bipush 6, 2) := by decide +kernel
theorem dX2_swing_115 : decode cX2_swing 115 = .ok (.invokevirtual 420, 3) := by decide +kernel
theorem dX2_swing_118 : decode cX2_swing 118 = .ok (.ifCond .eq 7, 3) := by decide +kernel
theorem dX2_swing_121 : decode cX2_swing 121 = .ok (.iconst 1, 1) := by decide +kernel
theorem dX2_swing_122 : decode cX2_swing 122 = .ok (.goto 4, 3) := by decide +kernel
theorem dX2_swing_125 : decode cX2_swing 125 = .ok (.iconst 0, 1) := by decide +kernel
theorem dX2_swing_126 : decode cX2_swing 126 = .ok (.istore 6, 2) := by decide +kernel
theorem dX2_swing_128 : decode cX2_swing 128 = .ok (.iconst (-1), 1) := by decide +kernel
theorem dX2_swing_129 : decode cX2_swing 129 = .ok (.istore 7, 2) := by decide +kernel
theorem dX2_swing_131 : decode cX2_swing 131 = .ok (.lconst 0, 1) := by decide +kernel
theorem dX2_swing_132 : decode cX2_swing 132 = .ok (.lstore 8, 2) := by decide +kernel
theorem dX2_swing_134 : decode cX2_swing 134 = .ok (.iconst 0, 1) := by decide +kernel
theorem dX2_swing_135 : decode cX2_swing 135 = .ok (.istore 10, 2) := by decide +kernel
theorem dX2_swing_137 : decode cX2_swing 137 = .ok (.iload 10, 2) := by decide +kernel
theorem dX2_swing_139 : decode cX2_swing 139 = .ok (.iconst 1, 1) := by decide +kernel
theorem dX2_swing_140 : decode cX2_swing 140 = .ok (.iload 5, 2) := by decide +kernel
theorem dX2_swing_142 : decode cX2_swing 142 = .ok (.ishl, 1) := by decide +kernel
theorem dX2_swing_143 : decode cX2_swing 143 = .ok (.if_icmp .ge 136, 3) := by decide +kernel
theorem dX2_swing_146 : decode cX2_swing 146 = .ok (.lconst 0, 1) := by decide +kernel
theorem dX2_swing_147 : decode cX2_swing 147 = .ok (.lstore 11, 2) := by decide +kernel
theorem dX2_swing_149 : decode cX2_swing 149 = .ok (.aload_n 0, 1) := by decide +kernel
theorem dX2_swing_150 : decode cX2_swing 150 = .ok (.iload_n 1, 1) := by decide +kernel
theorem dX2_swing_151 : decode cX2_swing 151 = .ok (.invokevirtual 437, 3) := by decide +kernel
theorem dX2_swing_154 : decode cX2_swing 154 = .ok (.iconst 0, 1) := by decide +kernel
theorem dX2_swing_155 : decode cX2_swing 155 = .ok (.istore 13, 2) := by decide +kernel
theorem dX2_swing_157 : decode cX2_swing 157 = .ok (.iload 13, 2) := by decide +kernel
theorem dX2_swing_159 : decode cX2_swing 159 = .ok (.iload 5, 2) := by decide +kernel
theorem dX2_swing_161 : decode cX2_swing 161 = .ok (.if_icmp .ge 80, 3) := by decide +kernel
theorem dX2_swing_164 : decode cX2_swing 164 = .ok (.iload 10, 2) := by decide +kernel
theorem dX2_swing_166 : decode cX2_swing 166 = .ok (.iload 13, 2) := by decide +kernel
theorem dX2_swing_168 : decode cX2_swing 168 = .ok (.ishr, 1) := by decide +kernel
theorem dX2_swing_169 : decode cX2_swing 169 = .ok (.iconst 1, 1) := by decide +kernel
theorem dX2_swing_170 : decode cX2_swing 170 = .ok (.iand, 1) := by decide +kernel
theorem dX2_swing_171 : decode cX2_swing 171 = .ok (.ifCond .eq 64, 3) := by decide +kernel
theorem dX2_swing_174 : decode cX2_swing 174 = .ok (.aload_n 0, 1) := by decide +kernel
theorem dX2_swing_175 : decode cX2_swing 175 = .ok (.getfield 198, 3) := by decide +kernel
theorem dX2_swing_178 : decode cX2_swing 178 = .ok (.iload 13, 2) := by decide +kernel
theorem dX2_swing_180 : decode cX2_swing 180 = .ok (.iaload, 1) := by decide +kernel
theorem dX2_swing_181 : decode cX2_swing 181 = .ok (.istore 14, 2) := by decide +kernel
theorem dX2_swing_183 : decode cX2_swing 183 = .ok (.lload 11, 2) := by decide +kernel
theorem dX2_swing_185 : decode cX2_swing 185 = .ok (.aload_n 0, 1) := by decide +kernel
theorem dX2_swing_186 : decode cX2_swing 186 = .ok (.iload 14, 2) := by decide +kernel
theorem dX2_swing_188 : decode cX2_swing 188 = .ok (.invokevirtual 265, 3) := by decide +kernel
theorem dX2_swing_191 : decode cX2_swing 191 = .ok (.i2l, 1) := by decide +kernel
theorem dX2_swing_192 : decode cX2_swing 192 = .ok (.aload_n 0, 1) := by decide +kernel
theorem dX2_swing_193 : decode cX2_swing 193 = .ok (.getfield 81, 3) := by decide +kernel
theorem dX2_swing_196 : decode cX2_swing 196 = .ok (.bipush 12, 2) := by decide +kernel
theorem dX2_swing_198 : decode cX2_swing 198 = .ok (.aload_n 0, 1) := by decide +kernel
theorem dX2_swing_199 : decode cX2_swing 199 = .ok (.getfield 90, 3) := by decide +kernel
theorem dX2_swing_202 : decode cX2_swing 202 = .ok (.iload 14, 2) := by decide +kernel
theorem dX2_swing_204 : decode cX2_swing 204 = .ok (.iaload, 1) := by decide +kernel
theorem dX2_swing_205 : decode cX2_swing 205 = .ok (.imul, 1) := by decide +kernel
theorem dX2_swing_206 : decode cX2_swing 206 = .ok (.iload_n 1, 1) := by decide +kernel
theorem dX2_swing_207 : decode cX2_swing 207 = .ok (.iadd, 1) := by decide +kernel
theorem dX2_swing_208 : decode cX2_swing 208 = .ok (.iaload, 1) := by decide +kernel
theorem dX2_swing_209 : decode cX2_swing 209 = .ok (.i2l, 1) := by decide +kernel
theorem dX2_swing_210 : decode cX2_swing 210 = .ok (.lmul, 1) := by decide +kernel
theorem dX2_swing_211 : decode cX2_swing 211 = .ok (.ldc2_w 446, 3) := by decide +kernel
theorem dX2_swing_214 : decode cX2_swing 214 = .ok (.ldiv, 1) := by decide +kernel
theorem dX2_swing_215 : decode cX2_swing 215 = .ok (.ladd, 1) := by decide +kernel
theorem dX2_swing_216 : decode cX2_swing 216 = .ok (.lstore 11, 2) := by decide +kernel
theorem dX2_swing_218 : decode cX2_swing 218 = .ok (.aload_n 0, 1) := by decide +kernel
theorem dX2_swing_219 : decode cX2_swing 219 = .ok (.getfield 192, 3) := by decide +kernel
theorem dX2_swing_222 : decode cX2_swing 222 = .ok (.iload 14, 2) := by decide +kernel
theorem dX2_swing_224 : decode cX2_swing 224 = .ok (.iload_n 2, 1) := by decide +kernel
theorem dX2_swing_225 : decode cX2_swing 225 = .ok (.iastore, 1) := by decide +kernel
theorem dX2_swing_226 : decode cX2_swing 226 = .ok (.aload_n 0, 1) := by decide +kernel
theorem dX2_swing_227 : decode cX2_swing 227 = .ok (.getfield 195, 3) := by decide +kernel
theorem dX2_swing_230 : decode cX2_swing 230 = .ok (.iload 14, 2) := by decide +kernel
theorem dX2_swing_232 : decode cX2_swing 232 = .ok (.iload 6, 2) := by decide +kernel
theorem dX2_swing_234 : decode cX2_swing 234 = .ok (.bastore, 1) := by decide +kernel
theorem dX2_swing_235 : decode cX2_swing 235 = .ok (.iinc 13 1, 3) := by decide +kernel
theorem dX2_swing_238 : decode cX2_swing 238 = .ok (.goto (-81), 3) := by decide +kernel
theorem dX2_swing_241 : decode cX2_swing 241 = .ok (.iload 7, 2) := by decide +kernel
theorem dX2_swing_243 : decode cX2_swing 243 = .ok (.iconst (-1), 1) := by decide +kernel
theorem dX2_swing_244 : decode cX2_swing 244 = .ok (.if_icmp .eq 11, 3) := by decide +kernel
theorem dX2_swing_247 : decode cX2_swing 247 = .ok (.lload 11, 2) := by decide +kernel
theorem dX2_swing_249 : decode cX2_swing 249 = .ok (.lload 8, 2) := by decide +kernel
theorem dX2_swing_251 : decode cX2_swing 251 = .ok (.lcmp, 1) := by decide +kernel
theorem dX2_swing_252 : decode cX2_swing 252 = .ok (.ifCond .ge 21, 3) := by decide +kernel
theorem dX2_swing_255 : decode cX2_swing 255 = .ok (.aload_n 0, 1) := by decide +kernel
theorem dX2_swing_256 : decode cX2_swing 256 = .ok (.iload_n 1, 1) := by decide +kernel
theorem dX2_swing_257 : decode cX2_swing 257 = .ok (.iload_n 3, 1) := by decide +kernel
theorem dX2_swing_258 : decode cX2_swing 258 = .ok (.iload_n 2, 1) := by decide +kernel
theorem dX2_swing_259 : decode cX2_swing 259 = .ok (.invokevirtual 440, 3) := by decide +kernel
theorem dX2_swing_262 : decode cX2_swing 262 = .ok (.ifCond .eq 11, 3) := by decide +kernel
theorem dX2_swing_265 : decode cX2_swing 265 = .ok (.iload 10, 2) := by decide +kernel
theorem dX2_swing_267 : decode cX2_swing 267 = .ok (.istore 7, 2) := by decide +kernel
theorem dX2_swing_269 : decode cX2_swing 269 = .ok (.lload 11, 2) := by decide +kernel
theorem dX2_swing_271 : decode cX2_swing 271 = .ok (.lstore 8, 2) := by decide +kernel
theorem dX2_swing_273 : decode cX2_swing 273 = .ok (.iinc 10 1, 3) := by decide +kernel
theorem dX2_swing_276 : decode cX2_swing 276 = .ok (.goto (-139), 3) := by decide +kernel
theorem dX2_swing_279 : decode cX2_swing 279 = .ok (.iload 7, 2) := by decide +kernel
theorem dX2_swing_281 : decode cX2_swing 281 = .ok (.iconst (-1), 1) := by decide +kernel
theorem dX2_swing_282 : decode cX2_swing 282 = .ok (.if_icmp .ne 7, 3) := by decide +kernel
theorem dX2_swing_285 : decode cX2_swing 285 = .ok (.iconst (-1), 1) := by decide +kernel
theorem dX2_swing_286 : decode cX2_swing 286 = .ok (.goto 16, 3) := by decide +kernel
theorem dX2_swing_289 : decode cX2_swing 289 = .ok (.iload 4, 2) := by decide +kernel
theorem dX2_swing_291 : decode cX2_swing 291 = .ok (.ifCond .ne 9, 3) := by decide +kernel
theorem dX2_swing_294 : decode cX2_swing 294 = .ok (.lload 8, 2) := by decide +kernel
theorem dX2_swing_296 : decode cX2_swing 296 = .ok (.l2i, 1) := by decide +kernel
theorem dX2_swing_297 : decode cX2_swing 297 = .ok (.goto 5, 3) := by decide +kernel
theorem dX2_swing_300 : decode cX2_swing 300 = .ok (.iload 7, 2) := by decide +kernel
theorem dX2_swing_302 : decode cX2_swing 302 = .ok (.ireturn, 1) := by decide +kernel
abbrev cX2_surrender : ByteArray := prog_15_method_80_code
def yX2_surrender : MethodName := ⟨RX2, "surrender", "(I)I"⟩
theorem dX2_surrender_0 : decode cX2_surrender 0 = .ok (.aload_n 0, 1) := by decide +kernel
theorem dX2_surrender_1 : decode cX2_surrender 1 = .ok (.iconst 0, 1) := by decide +kernel
theorem dX2_surrender_2 : decode cX2_surrender 2 = .ok (.putfield 220, 3) := by decide +kernel
theorem dX2_surrender_5 : decode cX2_surrender 5 = .ok (.aload_n 0, 1) := by decide +kernel
theorem dX2_surrender_6 : decode cX2_surrender 6 = .ok (.iload_n 1, 1) := by decide +kernel
theorem dX2_surrender_7 : decode cX2_surrender 7 = .ok (.invokevirtual 240, 3) := by decide +kernel
theorem dX2_surrender_10 : decode cX2_surrender 10 = .ok (.ifCond .ne 5, 3) := by decide +kernel
theorem dX2_surrender_13 : decode cX2_surrender 13 = .ok (.iconst (-1), 1) := by decide +kernel
theorem dX2_surrender_14 : decode cX2_surrender 14 = .ok (.ireturn, 1) := by decide +kernel
theorem dX2_surrender_15 : decode cX2_surrender 15 = .ok (.iconst 0, 1) := by decide +kernel
theorem dX2_surrender_16 : decode cX2_surrender 16 = .ok (.istore_n 2, 1) := by decide +kernel
theorem dX2_surrender_17 : decode cX2_surrender 17 = .ok (.iconst 0, 1) := by decide +kernel
theorem dX2_surrender_18 : decode cX2_surrender 18 = .ok (.istore_n 3, 1) := by decide +kernel
theorem dX2_surrender_19 : decode cX2_surrender 19 = .ok (.iload_n 3, 1) := by decide +kernel
theorem dX2_surrender_20 : decode cX2_surrender 20 = .ok (.aload_n 0, 1) := by decide +kernel
theorem dX2_surrender_21 : decode cX2_surrender 21 = .ok (.getfield 84, 3) := by decide +kernel
theorem dX2_surrender_24 : decode cX2_surrender 24 = .ok (.iconst 0, 1) := by decide +kernel
theorem dX2_surrender_25 : decode cX2_surrender 25 = .ok (.iaload, 1) := by decide +kernel
theorem dX2_surrender_26 : decode cX2_surrender 26 = .ok (.if_icmp .ge 51, 3) := by decide +kernel
theorem dX2_surrender_29 : decode cX2_surrender 29 = .ok (.aload_n 0, 1) := by decide +kernel
theorem dX2_surrender_30 : decode cX2_surrender 30 = .ok (.getfield 201, 3) := by decide +kernel
theorem dX2_surrender_33 : decode cX2_surrender 33 = .ok (.iload_n 3, 1) := by decide +kernel
theorem dX2_surrender_34 : decode cX2_surrender 34 = .ok (.aload_n 0, 1) := by decide +kernel
theorem dX2_surrender_35 : decode cX2_surrender 35 = .ok (.getfield 87, 3) := by decide +kernel
theorem dX2_surrender_38 : decode cX2_surrender 38 = .ok (.iload_n 3, 1) := by decide +kernel
theorem dX2_surrender_39 : decode cX2_surrender 39 = .ok (.iaload, 1) := by decide +kernel
theorem dX2_surrender_40 : decode cX2_surrender 40 = .ok (.iload_n 1, 1) := by decide +kernel
theorem dX2_surrender_41 : decode cX2_surrender 41 = .ok (.if_icmp .ne 11, 3) := by decide +kernel
theorem dX2_surrender_44 : decode cX2_surrender 44 = .ok (.aload_n 0, 1) := by decide +kernel
theorem dX2_surrender_45 : decode cX2_surrender 45 = .ok (.iload_n 3, 1) := by decide +kernel
theorem dX2_surrender_46 : decode cX2_surrender 46 = .ok (.invokevirtual 265, 3) := by decide +kernel
theorem dX2_surrender_49 : decode cX2_surrender 49 = .ok (.goto 4, 3) := by decide +kernel
theorem dX2_surrender_52 : decode cX2_surrender 52 = .ok (.iconst 0, 1) := by decide +kernel
theorem dX2_surrender_53 : decode cX2_surrender 53 = .ok (.iastore, 1) := by decide +kernel
theorem dX2_surrender_54 : decode cX2_surrender 54 = .ok (.iload_n 2, 1) := by decide +kernel
theorem dX2_surrender_55 : decode cX2_surrender 55 = .ok (.aload_n 0, 1) := by decide +kernel
theorem dX2_surrender_56 : decode cX2_surrender 56 = .ok (.getfield 201, 3) := by decide +kernel
theorem dX2_surrender_59 : decode cX2_surrender 59 = .ok (.iload_n 3, 1) := by decide +kernel
theorem dX2_surrender_60 : decode cX2_surrender 60 = .ok (.iaload, 1) := by decide +kernel
theorem dX2_surrender_61 : decode cX2_surrender 61 = .ok (.ifCond .le 7, 3) := by decide +kernel
theorem dX2_surrender_64 : decode cX2_surrender 64 = .ok (.iconst 1, 1) := by decide +kernel
theorem dX2_surrender_65 : decode cX2_surrender 65 = .ok (.goto 4, 3) := by decide +kernel
theorem dX2_surrender_68 : decode cX2_surrender 68 = .ok (.iconst 0, 1) := by decide +kernel
theorem dX2_surrender_69 : decode cX2_surrender 69 = .ok (.ior, 1) := by decide +kernel
theorem dX2_surrender_70 : decode cX2_surrender 70 = .ok (.istore_n 2, 1) := by decide +kernel
theorem dX2_surrender_71 : decode cX2_surrender 71 = .ok (.iinc 3 1, 3) := by decide +kernel
theorem dX2_surrender_74 : decode cX2_surrender 74 = .ok (.goto (-55), 3) := by decide +kernel
theorem dX2_surrender_77 : decode cX2_surrender 77 = .ok (.iload_n 2, 1) := by decide +kernel
theorem dX2_surrender_78 : decode cX2_surrender 78 = .ok (.ifCond .ne 5, 3) := by decide +kernel
theorem dX2_surrender_81 : decode cX2_surrender 81 = .ok (.iconst (-1), 1) := by decide +kernel
theorem dX2_surrender_82 : decode cX2_surrender 82 = .ok (.ireturn, 1) := by decide +kernel
theorem dX2_surrender_83 : decode cX2_surrender 83 = .ok (.aload_n 0, 1) := by decide +kernel
theorem dX2_surrender_84 : decode cX2_surrender 84 = .ok (.getfield 35, 3) := by decide +kernel
theorem dX2_surrender_87 : decode cX2_surrender 87 = .ok (.iload_n 1, 1) := by decide +kernel
theorem dX2_surrender_88 : decode cX2_surrender 88 = .ok (.iaload, 1) := by decide +kernel
theorem dX2_surrender_89 : decode cX2_surrender 89 = .ok (.i2l, 1) := by decide +kernel
theorem dX2_surrender_90 : decode cX2_surrender 90 = .ok (.aload_n 0, 1) := by decide +kernel
theorem dX2_surrender_91 : decode cX2_surrender 91 = .ok (.iload_n 1, 1) := by decide +kernel
theorem dX2_surrender_92 : decode cX2_surrender 92 = .ok (.bipush 7, 2) := by decide +kernel
theorem dX2_surrender_94 : decode cX2_surrender 94 = .ok (.invokevirtual 420, 3) := by decide +kernel
theorem dX2_surrender_97 : decode cX2_surrender 97 = .ok (.i2l, 1) := by decide +kernel
theorem dX2_surrender_98 : decode cX2_surrender 98 = .ok (.lmul, 1) := by decide +kernel
theorem dX2_surrender_99 : decode cX2_surrender 99 = .ok (.ldc2_w 435, 3) := by decide +kernel
theorem dX2_surrender_102 : decode cX2_surrender 102 = .ok (.ldiv, 1) := by decide +kernel
theorem dX2_surrender_103 : decode cX2_surrender 103 = .ok (.l2i, 1) := by decide +kernel
theorem dX2_surrender_104 : decode cX2_surrender 104 = .ok (.istore_n 3, 1) := by decide +kernel
theorem dX2_surrender_105 : decode cX2_surrender 105 = .ok (.aload_n 0, 1) := by decide +kernel
theorem dX2_surrender_106 : decode cX2_surrender 106 = .ok (.aload_n 0, 1) := by decide +kernel
theorem dX2_surrender_107 : decode cX2_surrender 107 = .ok (.getfield 35, 3) := by decide +kernel
theorem dX2_surrender_110 : decode cX2_surrender 110 = .ok (.iload_n 1, 1) := by decide +kernel
theorem dX2_surrender_111 : decode cX2_surrender 111 = .ok (.iaload, 1) := by decide +kernel
theorem dX2_surrender_112 : decode cX2_surrender 112 = .ok (.iload_n 3, 1) := by decide +kernel
theorem dX2_surrender_113 : decode cX2_surrender 113 = .ok (.isub, 1) := by decide +kernel
theorem dX2_surrender_114 : decode cX2_surrender 114 = .ok (.invokevirtual 453, 3) := by decide +kernel
theorem dX2_surrender_117 : decode cX2_surrender 117 = .ok (.istore 4, 2) := by decide +kernel
theorem dX2_surrender_119 : decode cX2_surrender 119 = .ok (.aload_n 0, 1) := by decide +kernel
theorem dX2_surrender_120 : decode cX2_surrender 120 = .ok (.getfield 35, 3) := by decide +kernel
theorem dX2_surrender_123 : decode cX2_surrender 123 = .ok (.iload_n 1, 1) := by decide +kernel
theorem dX2_surrender_124 : decode cX2_surrender 124 = .ok (.dup2, 1) := by decide +kernel
theorem dX2_surrender_125 : decode cX2_surrender 125 = .ok (.iaload, 1) := by decide +kernel
theorem dX2_surrender_126 : decode cX2_surrender 126 = .ok (.iload 4, 2) := by decide +kernel
theorem dX2_surrender_128 : decode cX2_surrender 128 = .ok (.isub, 1) := by decide +kernel
theorem dX2_surrender_129 : decode cX2_surrender 129 = .ok (.iastore, 1) := by decide +kernel
theorem dX2_surrender_130 : decode cX2_surrender 130 = .ok (.aload_n 0, 1) := by decide +kernel
theorem dX2_surrender_131 : decode cX2_surrender 131 = .ok (.getfield 69, 3) := by decide +kernel
theorem dX2_surrender_134 : decode cX2_surrender 134 = .ok (.iload_n 1, 1) := by decide +kernel
theorem dX2_surrender_135 : decode cX2_surrender 135 = .ok (.iconst 1, 1) := by decide +kernel
theorem dX2_surrender_136 : decode cX2_surrender 136 = .ok (.bastore, 1) := by decide +kernel
theorem dX2_surrender_137 : decode cX2_surrender 137 = .ok (.iconst 0, 1) := by decide +kernel
theorem dX2_surrender_138 : decode cX2_surrender 138 = .ok (.istore 5, 2) := by decide +kernel
theorem dX2_surrender_140 : decode cX2_surrender 140 = .ok (.iload 5, 2) := by decide +kernel
theorem dX2_surrender_142 : decode cX2_surrender 142 = .ok (.aload_n 0, 1) := by decide +kernel
theorem dX2_surrender_143 : decode cX2_surrender 143 = .ok (.getfield 84, 3) := by decide +kernel
theorem dX2_surrender_146 : decode cX2_surrender 146 = .ok (.iconst 0, 1) := by decide +kernel
theorem dX2_surrender_147 : decode cX2_surrender 147 = .ok (.iaload, 1) := by decide +kernel
theorem dX2_surrender_148 : decode cX2_surrender 148 = .ok (.if_icmp .ge 62, 3) := by decide +kernel
theorem dX2_surrender_151 : decode cX2_surrender 151 = .ok (.aload_n 0, 1) := by decide +kernel
theorem dX2_surrender_152 : decode cX2_surrender 152 = .ok (.getfield 201, 3) := by decide +kernel
theorem dX2_surrender_155 : decode cX2_surrender 155 = .ok (.iload 5, 2) := by decide +kernel
theorem dX2_surrender_157 : decode cX2_surrender 157 = .ok (.iaload, 1) := by decide +kernel
theorem dX2_surrender_158 : decode cX2_surrender 158 = .ok (.ifCond .le 46, 3) := by decide +kernel
theorem dX2_surrender_161 : decode cX2_surrender 161 = .ok (.aload_n 0, 1) := by decide +kernel
theorem dX2_surrender_162 : decode cX2_surrender 162 = .ok (.getfield 126, 3) := by decide +kernel
theorem dX2_surrender_165 : decode cX2_surrender 165 = .ok (.iload 5, 2) := by decide +kernel
theorem dX2_surrender_167 : decode cX2_surrender 167 = .ok (.aload_n 0, 1) := by decide +kernel
theorem dX2_surrender_168 : decode cX2_surrender 168 = .ok (.getfield 201, 3) := by decide +kernel
theorem dX2_surrender_171 : decode cX2_surrender 171 = .ok (.iload 5, 2) := by decide +kernel
theorem dX2_surrender_173 : decode cX2_surrender 173 = .ok (.iaload, 1) := by decide +kernel
theorem dX2_surrender_174 : decode cX2_surrender 174 = .ok (.aload_n 0, 1) := by decide +kernel
theorem dX2_surrender_175 : decode cX2_surrender 175 = .ok (.getfield 204, 3) := by decide +kernel
theorem dX2_surrender_178 : decode cX2_surrender 178 = .ok (.iload 5, 2) := by decide +kernel
theorem dX2_surrender_180 : decode cX2_surrender 180 = .ok (.iaload, 1) := by decide +kernel
theorem dX2_surrender_181 : decode cX2_surrender 181 = .ok (.isub, 1) := by decide +kernel
theorem dX2_surrender_182 : decode cX2_surrender 182 = .ok (.iastore, 1) := by decide +kernel
theorem dX2_surrender_183 : decode cX2_surrender 183 = .ok (.aload_n 0, 1) := by decide +kernel
theorem dX2_surrender_184 : decode cX2_surrender 184 = .ok (.iload 5, 2) := by decide +kernel
theorem dX2_surrender_186 : decode cX2_surrender 186 = .ok (.aload_n 0, 1) := by decide +kernel
theorem dX2_surrender_187 : decode cX2_surrender 187 = .ok (.getfield 126, 3) := by decide +kernel
theorem dX2_surrender_190 : decode cX2_surrender 190 = .ok (.iload 5, 2) := by decide +kernel
theorem dX2_surrender_192 : decode cX2_surrender 192 = .ok (.iaload, 1) := by decide +kernel
theorem dX2_surrender_193 : decode cX2_surrender 193 = .ok (.ifCond .ne 7, 3) := by decide +kernel
theorem dX2_surrender_196 : decode cX2_surrender 196 = .ok (.iconst 1, 1) := by decide +kernel
theorem dX2_surrender_197 : decode cX2_surrender 197 = .ok (.goto 4, 3) := by decide +kernel
theorem dX2_surrender_200 : decode cX2_surrender 200 = .ok (.iconst 3, 1) := by decide +kernel
theorem dX2_surrender_201 : decode cX2_surrender 201 = .ok (.invokevirtual 259, 3) := by decide +kernel
theorem dX2_surrender_204 : decode cX2_surrender 204 = .ok (.iinc 5 1, 3) := by decide +kernel
theorem dX2_surrender_207 : decode cX2_surrender 207 = .ok (.goto (-67), 3) := by decide +kernel
theorem dX2_surrender_210 : decode cX2_surrender 210 = .ok (.aload_n 0, 1) := by decide +kernel
theorem dX2_surrender_211 : decode cX2_surrender 211 = .ok (.invokevirtual 271, 3) := by decide +kernel
theorem dX2_surrender_214 : decode cX2_surrender 214 = .ok (.iload 4, 2) := by decide +kernel
theorem dX2_surrender_216 : decode cX2_surrender 216 = .ok (.ireturn, 1) := by decide +kernel
abbrev cX2_part : ByteArray := prog_15_method_79_code
def yX2_part : MethodName := ⟨RX2, "part", "(I)I"⟩
theorem dX2_part_0 : decode cX2_part 0 = .ok (.iload_n 1, 1) := by decide +kernel
theorem dX2_part_1 : decode cX2_part 1 = .ok (.istore_n 2, 1) := by decide +kernel
theorem dX2_part_2 : decode cX2_part 2 = .ok (.iconst 0, 1) := by decide +kernel
theorem dX2_part_3 : decode cX2_part 3 = .ok (.istore_n 3, 1) := by decide +kernel
theorem dX2_part_4 : decode cX2_part 4 = .ok (.iload_n 3, 1) := by decide +kernel
theorem dX2_part_5 : decode cX2_part 5 = .ok (.aload_n 0, 1) := by decide +kernel
theorem dX2_part_6 : decode cX2_part 6 = .ok (.getfield 84, 3) := by decide +kernel
theorem dX2_part_9 : decode cX2_part 9 = .ok (.iconst 0, 1) := by decide +kernel
theorem dX2_part_10 : decode cX2_part 10 = .ok (.iaload, 1) := by decide +kernel
theorem dX2_part_11 : decode cX2_part 11 = .ok (.if_icmp .ge 16, 3) := by decide +kernel
theorem dX2_part_14 : decode cX2_part 14 = .ok (.aload_n 0, 1) := by decide +kernel
theorem dX2_part_15 : decode cX2_part 15 = .ok (.getfield 204, 3) := by decide +kernel
theorem dX2_part_18 : decode cX2_part 18 = .ok (.iload_n 3, 1) := by decide +kernel
theorem dX2_part_19 : decode cX2_part 19 = .ok (.iconst 0, 1) := by decide +kernel
theorem dX2_part_20 : decode cX2_part 20 = .ok (.iastore, 1) := by decide +kernel
theorem dX2_part_21 : decode cX2_part 21 = .ok (.iinc 3 1, 3) := by decide +kernel
theorem dX2_part_24 : decode cX2_part 24 = .ok (.goto (-20), 3) := by decide +kernel
theorem dX2_part_27 : decode cX2_part 27 = .ok (.iconst 0, 1) := by decide +kernel
theorem dX2_part_28 : decode cX2_part 28 = .ok (.istore_n 3, 1) := by decide +kernel
theorem dX2_part_29 : decode cX2_part 29 = .ok (.iload_n 3, 1) := by decide +kernel
theorem dX2_part_30 : decode cX2_part 30 = .ok (.iconst 4, 1) := by decide +kernel
theorem dX2_part_31 : decode cX2_part 31 = .ok (.if_icmp .ge 60, 3) := by decide +kernel
theorem dX2_part_34 : decode cX2_part 34 = .ok (.aload_n 0, 1) := by decide +kernel
theorem dX2_part_35 : decode cX2_part 35 = .ok (.iload_n 3, 1) := by decide +kernel
theorem dX2_part_36 : decode cX2_part 36 = .ok (.iload_n 2, 1) := by decide +kernel
theorem dX2_part_37 : decode cX2_part 37 = .ok (.invokevirtual 450, 3) := by decide +kernel
theorem dX2_part_40 : decode cX2_part 40 = .ok (.iconst 0, 1) := by decide +kernel
theorem dX2_part_41 : decode cX2_part 41 = .ok (.istore 4, 2) := by decide +kernel
theorem dX2_part_43 : decode cX2_part 43 = .ok (.iload 4, 2) := by decide +kernel
theorem dX2_part_45 : decode cX2_part 45 = .ok (.aload_n 0, 1) := by decide +kernel
theorem dX2_part_46 : decode cX2_part 46 = .ok (.getfield 84, 3) := by decide +kernel
theorem dX2_part_49 : decode cX2_part 49 = .ok (.iconst 0, 1) := by decide +kernel
theorem dX2_part_50 : decode cX2_part 50 = .ok (.iaload, 1) := by decide +kernel
theorem dX2_part_51 : decode cX2_part 51 = .ok (.if_icmp .ge 34, 3) := by decide +kernel
theorem dX2_part_54 : decode cX2_part 54 = .ok (.iload_n 2, 1) := by decide +kernel
theorem dX2_part_55 : decode cX2_part 55 = .ok (.aload_n 0, 1) := by decide +kernel
theorem dX2_part_56 : decode cX2_part 56 = .ok (.getfield 96, 3) := by decide +kernel
theorem dX2_part_59 : decode cX2_part 59 = .ok (.iload 4, 2) := by decide +kernel
theorem dX2_part_61 : decode cX2_part 61 = .ok (.iaload, 1) := by decide +kernel
theorem dX2_part_62 : decode cX2_part 62 = .ok (.iload_n 3, 1) := by decide +kernel
theorem dX2_part_63 : decode cX2_part 63 = .ok (.if_icmp .ne 13, 3) := by decide +kernel
theorem dX2_part_66 : decode cX2_part 66 = .ok (.aload_n 0, 1) := by decide +kernel
theorem dX2_part_67 : decode cX2_part 67 = .ok (.getfield 204, 3) := by decide +kernel
theorem dX2_part_70 : decode cX2_part 70 = .ok (.iload 4, 2) := by decide +kernel
theorem dX2_part_72 : decode cX2_part 72 = .ok (.iaload, 1) := by decide +kernel
theorem dX2_part_73 : decode cX2_part 73 = .ok (.goto 4, 3) := by decide +kernel
theorem dX2_part_76 : decode cX2_part 76 = .ok (.iconst 0, 1) := by decide +kernel
theorem dX2_part_77 : decode cX2_part 77 = .ok (.isub, 1) := by decide +kernel
theorem dX2_part_78 : decode cX2_part 78 = .ok (.istore_n 2, 1) := by decide +kernel
theorem dX2_part_79 : decode cX2_part 79 = .ok (.iinc 4 1, 3) := by decide +kernel
theorem dX2_part_82 : decode cX2_part 82 = .ok (.goto (-39), 3) := by decide +kernel
theorem dX2_part_85 : decode cX2_part 85 = .ok (.iinc 3 1, 3) := by decide +kernel
theorem dX2_part_88 : decode cX2_part 88 = .ok (.goto (-59), 3) := by decide +kernel
theorem dX2_part_91 : decode cX2_part 91 = .ok (.iconst 0, 1) := by decide +kernel
theorem dX2_part_92 : decode cX2_part 92 = .ok (.istore_n 3, 1) := by decide +kernel
theorem dX2_part_93 : decode cX2_part 93 = .ok (.iload_n 3, 1) := by decide +kernel
theorem dX2_part_94 : decode cX2_part 94 = .ok (.aload_n 0, 1) := by decide +kernel
theorem dX2_part_95 : decode cX2_part 95 = .ok (.getfield 84, 3) := by decide +kernel
theorem dX2_part_98 : decode cX2_part 98 = .ok (.iconst 0, 1) := by decide +kernel
theorem dX2_part_99 : decode cX2_part 99 = .ok (.iaload, 1) := by decide +kernel
theorem dX2_part_100 : decode cX2_part 100 = .ok (.if_icmp .ge 29, 3) := by decide +kernel
theorem dX2_part_103 : decode cX2_part 103 = .ok (.aload_n 0, 1) := by decide +kernel
theorem dX2_part_104 : decode cX2_part 104 = .ok (.getfield 35, 3) := by decide +kernel
theorem dX2_part_107 : decode cX2_part 107 = .ok (.aload_n 0, 1) := by decide +kernel
theorem dX2_part_108 : decode cX2_part 108 = .ok (.getfield 90, 3) := by decide +kernel
theorem dX2_part_111 : decode cX2_part 111 = .ok (.iload_n 3, 1) := by decide +kernel
theorem dX2_part_112 : decode cX2_part 112 = .ok (.iaload, 1) := by decide +kernel
theorem dX2_part_113 : decode cX2_part 113 = .ok (.dup2, 1) := by decide +kernel
theorem dX2_part_114 : decode cX2_part 114 = .ok (.iaload, 1) := by decide +kernel
theorem dX2_part_115 : decode cX2_part 115 = .ok (.aload_n 0, 1) := by decide +kernel
theorem dX2_part_116 : decode cX2_part 116 = .ok (.getfield 204, 3) := by decide +kernel
theorem dX2_part_119 : decode cX2_part 119 = .ok (.iload_n 3, 1) := by decide +kernel
theorem dX2_part_120 : decode cX2_part 120 = .ok (.iaload, 1) := by decide +kernel
theorem dX2_part_121 : decode cX2_part 121 = .ok (.iadd, 1) := by decide +kernel
theorem dX2_part_122 : decode cX2_part 122 = .ok (.iastore, 1) := by decide +kernel
theorem dX2_part_123 : decode cX2_part 123 = .ok (.iinc 3 1, 3) := by decide +kernel
theorem dX2_part_126 : decode cX2_part 126 = .ok (.goto (-33), 3) := by decide +kernel
theorem dX2_part_129 : decode cX2_part 129 = .ok (.iload_n 1, 1) := by decide +kernel
theorem dX2_part_130 : decode cX2_part 130 = .ok (.iload_n 2, 1) := by decide +kernel
theorem dX2_part_131 : decode cX2_part 131 = .ok (.isub, 1) := by decide +kernel
theorem dX2_part_132 : decode cX2_part 132 = .ok (.ireturn, 1) := by decide +kernel
abbrev cX2_partRank : ByteArray := prog_15_method_78_code
def yX2_partRank : MethodName := ⟨RX2, "partRank", "(II)V"⟩
theorem dX2_partRank_0 : decode cX2_partRank 0 = .ok (.lconst 0, 1) := by decide +kernel
theorem dX2_partRank_1 : decode cX2_partRank 1 = .ok (.lstore_n 3, 1) := by decide +kernel
theorem dX2_partRank_2 : decode cX2_partRank 2 = .ok (.iconst 0, 1) := by decide +kernel
theorem dX2_partRank_3 : decode cX2_partRank 3 = .ok (.istore 5, 2) := by decide +kernel
theorem dX2_partRank_5 : decode cX2_partRank 5 = .ok (.iload 5, 2) := by decide +kernel
theorem dX2_partRank_7 : decode cX2_partRank 7 = .ok (.aload_n 0, 1) := by decide +kernel
theorem dX2_partRank_8 : decode cX2_partRank 8 = .ok (.getfield 84, 3) := by decide +kernel
theorem dX2_partRank_11 : decode cX2_partRank 11 = .ok (.iconst 0, 1) := by decide +kernel
theorem dX2_partRank_12 : decode cX2_partRank 12 = .ok (.iaload, 1) := by decide +kernel
theorem dX2_partRank_13 : decode cX2_partRank 13 = .ok (.if_icmp .ge 35, 3) := by decide +kernel
theorem dX2_partRank_16 : decode cX2_partRank 16 = .ok (.lload_n 3, 1) := by decide +kernel
theorem dX2_partRank_17 : decode cX2_partRank 17 = .ok (.aload_n 0, 1) := by decide +kernel
theorem dX2_partRank_18 : decode cX2_partRank 18 = .ok (.getfield 96, 3) := by decide +kernel
theorem dX2_partRank_21 : decode cX2_partRank 21 = .ok (.iload 5, 2) := by decide +kernel
theorem dX2_partRank_23 : decode cX2_partRank 23 = .ok (.iaload, 1) := by decide +kernel
theorem dX2_partRank_24 : decode cX2_partRank 24 = .ok (.iload_n 1, 1) := by decide +kernel
theorem dX2_partRank_25 : decode cX2_partRank 25 = .ok (.if_icmp .ne 14, 3) := by decide +kernel
theorem dX2_partRank_28 : decode cX2_partRank 28 = .ok (.aload_n 0, 1) := by decide +kernel
theorem dX2_partRank_29 : decode cX2_partRank 29 = .ok (.getfield 201, 3) := by decide +kernel
theorem dX2_partRank_32 : decode cX2_partRank 32 = .ok (.iload 5, 2) := by decide +kernel
theorem dX2_partRank_34 : decode cX2_partRank 34 = .ok (.iaload, 1) := by decide +kernel
theorem dX2_partRank_35 : decode cX2_partRank 35 = .ok (.i2l, 1) := by decide +kernel
theorem dX2_partRank_36 : decode cX2_partRank 36 = .ok (.goto 4, 3) := by decide +kernel
theorem dX2_partRank_39 : decode cX2_partRank 39 = .ok (.lconst 0, 1) := by decide +kernel
theorem dX2_partRank_40 : decode cX2_partRank 40 = .ok (.ladd, 1) := by decide +kernel
theorem dX2_partRank_41 : decode cX2_partRank 41 = .ok (.lstore_n 3, 1) := by decide +kernel
theorem dX2_partRank_42 : decode cX2_partRank 42 = .ok (.iinc 5 1, 3) := by decide +kernel
theorem dX2_partRank_45 : decode cX2_partRank 45 = .ok (.goto (-40), 3) := by decide +kernel
theorem dX2_partRank_48 : decode cX2_partRank 48 = .ok (.iload_n 2, 1) := by decide +kernel
theorem dX2_partRank_49 : decode cX2_partRank 49 = .ok (.istore 5, 2) := by decide +kernel
theorem dX2_partRank_51 : decode cX2_partRank 51 = .ok (.iconst 0, 1) := by decide +kernel
theorem dX2_partRank_52 : decode cX2_partRank 52 = .ok (.istore 6, 2) := by decide +kernel
theorem dX2_partRank_54 : decode cX2_partRank 54 = .ok (.iload 6, 2) := by decide +kernel
theorem dX2_partRank_56 : decode cX2_partRank 56 = .ok (.aload_n 0, 1) := by decide +kernel
theorem dX2_partRank_57 : decode cX2_partRank 57 = .ok (.getfield 84, 3) := by decide +kernel
theorem dX2_partRank_60 : decode cX2_partRank 60 = .ok (.iconst 0, 1) := by decide +kernel
theorem dX2_partRank_61 : decode cX2_partRank 61 = .ok (.iaload, 1) := by decide +kernel
theorem dX2_partRank_62 : decode cX2_partRank 62 = .ok (.if_icmp .ge 133, 3) := by decide +kernel
theorem dX2_partRank_65 : decode cX2_partRank 65 = .ok (.aload_n 0, 1) := by decide +kernel
theorem dX2_partRank_66 : decode cX2_partRank 66 = .ok (.getfield 207, 3) := by decide +kernel
theorem dX2_partRank_69 : decode cX2_partRank 69 = .ok (.iload 6, 2) := by decide +kernel
theorem dX2_partRank_71 : decode cX2_partRank 71 = .ok (.ldc2_w 448, 3) := by decide +kernel
theorem dX2_partRank_74 : decode cX2_partRank 74 = .ok (.lastore, 1) := by decide +kernel
theorem dX2_partRank_75 : decode cX2_partRank 75 = .ok (.aload_n 0, 1) := by decide +kernel
theorem dX2_partRank_76 : decode cX2_partRank 76 = .ok (.getfield 96, 3) := by decide +kernel
theorem dX2_partRank_79 : decode cX2_partRank 79 = .ok (.iload 6, 2) := by decide +kernel
theorem dX2_partRank_81 : decode cX2_partRank 81 = .ok (.iaload, 1) := by decide +kernel
theorem dX2_partRank_82 : decode cX2_partRank 82 = .ok (.iload_n 1, 1) := by decide +kernel
theorem dX2_partRank_83 : decode cX2_partRank 83 = .ok (.if_icmp .ne 106, 3) := by decide +kernel
theorem dX2_partRank_86 : decode cX2_partRank 86 = .ok (.aload_n 0, 1) := by decide +kernel
theorem dX2_partRank_87 : decode cX2_partRank 87 = .ok (.getfield 201, 3) := by decide +kernel
theorem dX2_partRank_90 : decode cX2_partRank 90 = .ok (.iload 6, 2) := by decide +kernel
theorem dX2_partRank_92 : decode cX2_partRank 92 = .ok (.iaload, 1) := by decide +kernel
theorem dX2_partRank_93 : decode cX2_partRank 93 = .ok (.ifCond .le 96, 3) := by decide +kernel
theorem dX2_partRank_96 : decode cX2_partRank 96 = .ok (.iload_n 2, 1) := by decide +kernel
theorem dX2_partRank_97 : decode cX2_partRank 97 = .ok (.i2l, 1) := by decide +kernel
theorem dX2_partRank_98 : decode cX2_partRank 98 = .ok (.lload_n 3, 1) := by decide +kernel
theorem dX2_partRank_99 : decode cX2_partRank 99 = .ok (.lcmp, 1) := by decide +kernel
theorem dX2_partRank_100 : decode cX2_partRank 100 = .ok (.ifCond .lt 7, 3) := by decide +kernel
theorem dX2_partRank_103 : decode cX2_partRank 103 = .ok (.iconst 1, 1) := by decide +kernel
theorem dX2_partRank_104 : decode cX2_partRank 104 = .ok (.goto 4, 3) := by decide +kernel
theorem dX2_partRank_107 : decode cX2_partRank 107 = .ok (.iconst 0, 1) := by decide +kernel
theorem dX2_partRank_108 : decode cX2_partRank 108 = .ok (.istore 7, 2) := by decide +kernel
theorem dX2_partRank_110 : decode cX2_partRank 110 = .ok (.aload_n 0, 1) := by decide +kernel
theorem dX2_partRank_111 : decode cX2_partRank 111 = .ok (.getfield 204, 3) := by decide +kernel
theorem dX2_partRank_114 : decode cX2_partRank 114 = .ok (.iload 6, 2) := by decide +kernel
theorem dX2_partRank_116 : decode cX2_partRank 116 = .ok (.iload 7, 2) := by decide +kernel
theorem dX2_partRank_118 : decode cX2_partRank 118 = .ok (.ifCond .eq 13, 3) := by decide +kernel
theorem dX2_partRank_121 : decode cX2_partRank 121 = .ok (.aload_n 0, 1) := by decide +kernel
theorem dX2_partRank_122 : decode cX2_partRank 122 = .ok (.getfield 201, 3) := by decide +kernel
theorem dX2_partRank_125 : decode cX2_partRank 125 = .ok (.iload 6, 2) := by decide +kernel
theorem dX2_partRank_127 : decode cX2_partRank 127 = .ok (.iaload, 1) := by decide +kernel
theorem dX2_partRank_128 : decode cX2_partRank 128 = .ok (.goto 17, 3) := by decide +kernel
theorem dX2_partRank_131 : decode cX2_partRank 131 = .ok (.aload_n 0, 1) := by decide +kernel
theorem dX2_partRank_132 : decode cX2_partRank 132 = .ok (.getfield 201, 3) := by decide +kernel
theorem dX2_partRank_135 : decode cX2_partRank 135 = .ok (.iload 6, 2) := by decide +kernel
theorem dX2_partRank_137 : decode cX2_partRank 137 = .ok (.iaload, 1) := by decide +kernel
theorem dX2_partRank_138 : decode cX2_partRank 138 = .ok (.i2l, 1) := by decide +kernel
theorem dX2_partRank_139 : decode cX2_partRank 139 = .ok (.iload_n 2, 1) := by decide +kernel
theorem dX2_partRank_140 : decode cX2_partRank 140 = .ok (.i2l, 1) := by decide +kernel
theorem dX2_partRank_141 : decode cX2_partRank 141 = .ok (.lmul, 1) := by decide +kernel
theorem dX2_partRank_142 : decode cX2_partRank 142 = .ok (.lload_n 3, 1) := by decide +kernel
theorem dX2_partRank_143 : decode cX2_partRank 143 = .ok (.ldiv, 1) := by decide +kernel
theorem dX2_partRank_144 : decode cX2_partRank 144 = .ok (.l2i, 1) := by decide +kernel
theorem dX2_partRank_145 : decode cX2_partRank 145 = .ok (.iastore, 1) := by decide +kernel
theorem dX2_partRank_146 : decode cX2_partRank 146 = .ok (.aload_n 0, 1) := by decide +kernel
theorem dX2_partRank_147 : decode cX2_partRank 147 = .ok (.getfield 207, 3) := by decide +kernel
theorem dX2_partRank_150 : decode cX2_partRank 150 = .ok (.iload 6, 2) := by decide +kernel
theorem dX2_partRank_152 : decode cX2_partRank 152 = .ok (.iload 7, 2) := by decide +kernel
theorem dX2_partRank_154 : decode cX2_partRank 154 = .ok (.ifCond .eq 9, 3) := by decide +kernel
theorem dX2_partRank_157 : decode cX2_partRank 157 = .ok (.ldc2_w 448, 3) := by decide +kernel
theorem dX2_partRank_160 : decode cX2_partRank 160 = .ok (.goto 16, 3) := by decide +kernel
theorem dX2_partRank_163 : decode cX2_partRank 163 = .ok (.aload_n 0, 1) := by decide +kernel
theorem dX2_partRank_164 : decode cX2_partRank 164 = .ok (.getfield 201, 3) := by decide +kernel
theorem dX2_partRank_167 : decode cX2_partRank 167 = .ok (.iload 6, 2) := by decide +kernel
theorem dX2_partRank_169 : decode cX2_partRank 169 = .ok (.iaload, 1) := by decide +kernel
theorem dX2_partRank_170 : decode cX2_partRank 170 = .ok (.i2l, 1) := by decide +kernel
theorem dX2_partRank_171 : decode cX2_partRank 171 = .ok (.iload_n 2, 1) := by decide +kernel
theorem dX2_partRank_172 : decode cX2_partRank 172 = .ok (.i2l, 1) := by decide +kernel
theorem dX2_partRank_173 : decode cX2_partRank 173 = .ok (.lmul, 1) := by decide +kernel
theorem dX2_partRank_174 : decode cX2_partRank 174 = .ok (.lload_n 3, 1) := by decide +kernel
theorem dX2_partRank_175 : decode cX2_partRank 175 = .ok (.lrem, 1) := by decide +kernel
theorem dX2_partRank_176 : decode cX2_partRank 176 = .ok (.lastore, 1) := by decide +kernel
theorem dX2_partRank_177 : decode cX2_partRank 177 = .ok (.iload 5, 2) := by decide +kernel
theorem dX2_partRank_179 : decode cX2_partRank 179 = .ok (.aload_n 0, 1) := by decide +kernel
theorem dX2_partRank_180 : decode cX2_partRank 180 = .ok (.getfield 204, 3) := by decide +kernel
theorem dX2_partRank_183 : decode cX2_partRank 183 = .ok (.iload 6, 2) := by decide +kernel
theorem dX2_partRank_185 : decode cX2_partRank 185 = .ok (.iaload, 1) := by decide +kernel
theorem dX2_partRank_186 : decode cX2_partRank 186 = .ok (.isub, 1) := by decide +kernel
theorem dX2_partRank_187 : decode cX2_partRank 187 = .ok (.istore 5, 2) := by decide +kernel
theorem dX2_partRank_189 : decode cX2_partRank 189 = .ok (.iinc 6 1, 3) := by decide +kernel
theorem dX2_partRank_192 : decode cX2_partRank 192 = .ok (.goto (-138), 3) := by decide +kernel
theorem dX2_partRank_195 : decode cX2_partRank 195 = .ok (.lload_n 3, 1) := by decide +kernel
theorem dX2_partRank_196 : decode cX2_partRank 196 = .ok (.iload_n 2, 1) := by decide +kernel
theorem dX2_partRank_197 : decode cX2_partRank 197 = .ok (.i2l, 1) := by decide +kernel
theorem dX2_partRank_198 : decode cX2_partRank 198 = .ok (.lcmp, 1) := by decide +kernel
theorem dX2_partRank_199 : decode cX2_partRank 199 = .ok (.ifCond .le 103, 3) := by decide +kernel
theorem dX2_partRank_202 : decode cX2_partRank 202 = .ok (.iload 5, 2) := by decide +kernel
theorem dX2_partRank_204 : decode cX2_partRank 204 = .ok (.ifCond .le 98, 3) := by decide +kernel
theorem dX2_partRank_207 : decode cX2_partRank 207 = .ok (.iconst (-1), 1) := by decide +kernel
theorem dX2_partRank_208 : decode cX2_partRank 208 = .ok (.istore 6, 2) := by decide +kernel
theorem dX2_partRank_210 : decode cX2_partRank 210 = .ok (.iconst 0, 1) := by decide +kernel
theorem dX2_partRank_211 : decode cX2_partRank 211 = .ok (.istore 7, 2) := by decide +kernel
theorem dX2_partRank_213 : decode cX2_partRank 213 = .ok (.iload 7, 2) := by decide +kernel
theorem dX2_partRank_215 : decode cX2_partRank 215 = .ok (.aload_n 0, 1) := by decide +kernel
theorem dX2_partRank_216 : decode cX2_partRank 216 = .ok (.getfield 84, 3) := by decide +kernel
theorem dX2_partRank_219 : decode cX2_partRank 219 = .ok (.iconst 0, 1) := by decide +kernel
theorem dX2_partRank_220 : decode cX2_partRank 220 = .ok (.iaload, 1) := by decide +kernel
theorem dX2_partRank_221 : decode cX2_partRank 221 = .ok (.if_icmp .ge 54, 3) := by decide +kernel
theorem dX2_partRank_224 : decode cX2_partRank 224 = .ok (.aload_n 0, 1) := by decide +kernel
theorem dX2_partRank_225 : decode cX2_partRank 225 = .ok (.getfield 207, 3) := by decide +kernel
theorem dX2_partRank_228 : decode cX2_partRank 228 = .ok (.iload 7, 2) := by decide +kernel
theorem dX2_partRank_230 : decode cX2_partRank 230 = .ok (.laload, 1) := by decide +kernel
theorem dX2_partRank_231 : decode cX2_partRank 231 = .ok (.lconst 0, 1) := by decide +kernel
theorem dX2_partRank_232 : decode cX2_partRank 232 = .ok (.lcmp, 1) := by decide +kernel
theorem dX2_partRank_233 : decode cX2_partRank 233 = .ok (.ifCond .lt 32, 3) := by decide +kernel
theorem dX2_partRank_236 : decode cX2_partRank 236 = .ok (.iload 6, 2) := by decide +kernel
theorem dX2_partRank_238 : decode cX2_partRank 238 = .ok (.iconst (-1), 1) := by decide +kernel
theorem dX2_partRank_239 : decode cX2_partRank 239 = .ok (.if_icmp .eq 21, 3) := by decide +kernel
theorem dX2_partRank_242 : decode cX2_partRank 242 = .ok (.aload_n 0, 1) := by decide +kernel
theorem dX2_partRank_243 : decode cX2_partRank 243 = .ok (.getfield 207, 3) := by decide +kernel
theorem dX2_partRank_246 : decode cX2_partRank 246 = .ok (.iload 7, 2) := by decide +kernel
theorem dX2_partRank_248 : decode cX2_partRank 248 = .ok (.laload, 1) := by decide +kernel
theorem dX2_partRank_249 : decode cX2_partRank 249 = .ok (.aload_n 0, 1) := by decide +kernel
theorem dX2_partRank_250 : decode cX2_partRank 250 = .ok (.getfield 207, 3) := by decide +kernel
theorem dX2_partRank_253 : decode cX2_partRank 253 = .ok (.iload 6, 2) := by decide +kernel
theorem dX2_partRank_255 : decode cX2_partRank 255 = .ok (.laload, 1) := by decide +kernel
theorem dX2_partRank_256 : decode cX2_partRank 256 = .ok (.lcmp, 1) := by decide +kernel
theorem dX2_partRank_257 : decode cX2_partRank 257 = .ok (.ifCond .le 8, 3) := by decide +kernel
theorem dX2_partRank_260 : decode cX2_partRank 260 = .ok (.iload 7, 2) := by decide +kernel
theorem dX2_partRank_262 : decode cX2_partRank 262 = .ok (.goto 5, 3) := by decide +kernel
theorem dX2_partRank_265 : decode cX2_partRank 265 = .ok (.iload 6, 2) := by decide +kernel
theorem dX2_partRank_267 : decode cX2_partRank 267 = .ok (.istore 6, 2) := by decide +kernel
theorem dX2_partRank_269 : decode cX2_partRank 269 = .ok (.iinc 7 1, 3) := by decide +kernel
theorem dX2_partRank_272 : decode cX2_partRank 272 = .ok (.goto (-59), 3) := by decide +kernel
theorem dX2_partRank_275 : decode cX2_partRank 275 = .ok (.aload_n 0, 1) := by decide +kernel
theorem dX2_partRank_276 : decode cX2_partRank 276 = .ok (.getfield 204, 3) := by decide +kernel
theorem dX2_partRank_279 : decode cX2_partRank 279 = .ok (.iload 6, 2) := by decide +kernel
theorem dX2_partRank_281 : decode cX2_partRank 281 = .ok (.dup2, 1) := by decide +kernel
theorem dX2_partRank_282 : decode cX2_partRank 282 = .ok (.iaload, 1) := by decide +kernel
theorem dX2_partRank_283 : decode cX2_partRank 283 = .ok (.iconst 1, 1) := by decide +kernel
theorem dX2_partRank_284 : decode cX2_partRank 284 = .ok (.iadd, 1) := by decide +kernel
theorem dX2_partRank_285 : decode cX2_partRank 285 = .ok (.iastore, 1) := by decide +kernel
theorem dX2_partRank_286 : decode cX2_partRank 286 = .ok (.aload_n 0, 1) := by decide +kernel
theorem dX2_partRank_287 : decode cX2_partRank 287 = .ok (.getfield 207, 3) := by decide +kernel
theorem dX2_partRank_290 : decode cX2_partRank 290 = .ok (.iload 6, 2) := by decide +kernel
theorem dX2_partRank_292 : decode cX2_partRank 292 = .ok (.ldc2_w 448, 3) := by decide +kernel
theorem dX2_partRank_295 : decode cX2_partRank 295 = .ok (.lastore, 1) := by decide +kernel
theorem dX2_partRank_296 : decode cX2_partRank 296 = .ok (.iinc 5 (-1), 3) := by decide +kernel
theorem dX2_partRank_299 : decode cX2_partRank 299 = .ok (.goto (-104), 3) := by decide +kernel
theorem dX2_partRank_302 : decode cX2_partRank 302 = .ok (.return_, 1) := by decide +kernel
abbrev cX2_found : ByteArray := prog_15_method_81_code
def yX2_found : MethodName := ⟨RX2, "found", "(II)I"⟩
theorem dX2_found_0 : decode cX2_found 0 = .ok (.aload_n 0, 1) := by decide +kernel
theorem dX2_found_1 : decode cX2_found 1 = .ok (.iconst 0, 1) := by decide +kernel
theorem dX2_found_2 : decode cX2_found 2 = .ok (.putfield 220, 3) := by decide +kernel
theorem dX2_found_5 : decode cX2_found 5 = .ok (.aload_n 0, 1) := by decide +kernel
theorem dX2_found_6 : decode cX2_found 6 = .ok (.iload_n 1, 1) := by decide +kernel
theorem dX2_found_7 : decode cX2_found 7 = .ok (.invokevirtual 240, 3) := by decide +kernel
theorem dX2_found_10 : decode cX2_found 10 = .ok (.ifCond .eq 13, 3) := by decide +kernel
theorem dX2_found_13 : decode cX2_found 13 = .ok (.iload_n 2, 1) := by decide +kernel
theorem dX2_found_14 : decode cX2_found 14 = .ok (.iconst 1, 1) := by decide +kernel
theorem dX2_found_15 : decode cX2_found 15 = .ok (.ldc 247, 2) := by decide +kernel
theorem dX2_found_17 : decode cX2_found 17 = .ok (.invokestatic 236, 3) := by decide +kernel
theorem dX2_found_20 : decode cX2_found 20 = .ok (.ifCond .ne 5, 3) := by decide +kernel
theorem dX2_found_23 : decode cX2_found 23 = .ok (.iconst (-1), 1) := by decide +kernel
theorem dX2_found_24 : decode cX2_found 24 = .ok (.ireturn, 1) := by decide +kernel
theorem dX2_found_25 : decode cX2_found 25 = .ok (.iconst 0, 1) := by decide +kernel
theorem dX2_found_26 : decode cX2_found 26 = .ok (.istore_n 3, 1) := by decide +kernel
theorem dX2_found_27 : decode cX2_found 27 = .ok (.aload_n 0, 1) := by decide +kernel
theorem dX2_found_28 : decode cX2_found 28 = .ok (.getfield 69, 3) := by decide +kernel
theorem dX2_found_31 : decode cX2_found 31 = .ok (.iload_n 1, 1) := by decide +kernel
theorem dX2_found_32 : decode cX2_found 32 = .ok (.baload, 1) := by decide +kernel
theorem dX2_found_33 : decode cX2_found 33 = .ok (.ifCond .eq 105, 3) := by decide +kernel
theorem dX2_found_36 : decode cX2_found 36 = .ok (.aload_n 0, 1) := by decide +kernel
theorem dX2_found_37 : decode cX2_found 37 = .ok (.iload_n 1, 1) := by decide +kernel
theorem dX2_found_38 : decode cX2_found 38 = .ok (.bipush 8, 2) := by decide +kernel
theorem dX2_found_40 : decode cX2_found 40 = .ok (.invokevirtual 420, 3) := by decide +kernel
theorem dX2_found_43 : decode cX2_found 43 = .ok (.ifCond .eq 95, 3) := by decide +kernel
theorem dX2_found_46 : decode cX2_found 46 = .ok (.iconst 0, 1) := by decide +kernel
theorem dX2_found_47 : decode cX2_found 47 = .ok (.istore 4, 2) := by decide +kernel
theorem dX2_found_49 : decode cX2_found 49 = .ok (.iload 4, 2) := by decide +kernel
theorem dX2_found_51 : decode cX2_found 51 = .ok (.aload_n 0, 1) := by decide +kernel
theorem dX2_found_52 : decode cX2_found 52 = .ok (.getfield 84, 3) := by decide +kernel
theorem dX2_found_55 : decode cX2_found 55 = .ok (.iconst 0, 1) := by decide +kernel
theorem dX2_found_56 : decode cX2_found 56 = .ok (.iaload, 1) := by decide +kernel
theorem dX2_found_57 : decode cX2_found 57 = .ok (.if_icmp .ge 38, 3) := by decide +kernel
theorem dX2_found_60 : decode cX2_found 60 = .ok (.aload_n 0, 1) := by decide +kernel
theorem dX2_found_61 : decode cX2_found 61 = .ok (.getfield 201, 3) := by decide +kernel
theorem dX2_found_64 : decode cX2_found 64 = .ok (.iload 4, 2) := by decide +kernel
theorem dX2_found_66 : decode cX2_found 66 = .ok (.aload_n 0, 1) := by decide +kernel
theorem dX2_found_67 : decode cX2_found 67 = .ok (.getfield 87, 3) := by decide +kernel
theorem dX2_found_70 : decode cX2_found 70 = .ok (.iload 4, 2) := by decide +kernel
theorem dX2_found_72 : decode cX2_found 72 = .ok (.iaload, 1) := by decide +kernel
theorem dX2_found_73 : decode cX2_found 73 = .ok (.iload_n 1, 1) := by decide +kernel
theorem dX2_found_74 : decode cX2_found 74 = .ok (.if_icmp .ne 13, 3) := by decide +kernel
theorem dX2_found_77 : decode cX2_found 77 = .ok (.aload_n 0, 1) := by decide +kernel
theorem dX2_found_78 : decode cX2_found 78 = .ok (.getfield 126, 3) := by decide +kernel
theorem dX2_found_81 : decode cX2_found 81 = .ok (.iload 4, 2) := by decide +kernel
theorem dX2_found_83 : decode cX2_found 83 = .ok (.iaload, 1) := by decide +kernel
theorem dX2_found_84 : decode cX2_found 84 = .ok (.goto 4, 3) := by decide +kernel
theorem dX2_found_87 : decode cX2_found 87 = .ok (.iconst 0, 1) := by decide +kernel
theorem dX2_found_88 : decode cX2_found 88 = .ok (.iastore, 1) := by decide +kernel
theorem dX2_found_89 : decode cX2_found 89 = .ok (.iinc 4 1, 3) := by decide +kernel
theorem dX2_found_92 : decode cX2_found 92 = .ok (.goto (-43), 3) := by decide +kernel
theorem dX2_found_95 : decode cX2_found 95 = .ok (.aload_n 0, 1) := by decide +kernel
theorem dX2_found_96 : decode cX2_found 96 = .ok (.iload_n 2, 1) := by decide +kernel
theorem dX2_found_97 : decode cX2_found 97 = .ok (.invokevirtual 453, 3) := by decide +kernel
theorem dX2_found_100 : decode cX2_found 100 = .ok (.istore_n 3, 1) := by decide +kernel
theorem dX2_found_101 : decode cX2_found 101 = .ok (.iconst 0, 1) := by decide +kernel
theorem dX2_found_102 : decode cX2_found 102 = .ok (.istore 4, 2) := by decide +kernel
theorem dX2_found_104 : decode cX2_found 104 = .ok (.iload 4, 2) := by decide +kernel
theorem dX2_found_106 : decode cX2_found 106 = .ok (.aload_n 0, 1) := by decide +kernel
theorem dX2_found_107 : decode cX2_found 107 = .ok (.getfield 84, 3) := by decide +kernel
theorem dX2_found_110 : decode cX2_found 110 = .ok (.iconst 0, 1) := by decide +kernel
theorem dX2_found_111 : decode cX2_found 111 = .ok (.iaload, 1) := by decide +kernel
theorem dX2_found_112 : decode cX2_found 112 = .ok (.if_icmp .ge 26, 3) := by decide +kernel
theorem dX2_found_115 : decode cX2_found 115 = .ok (.aload_n 0, 1) := by decide +kernel
theorem dX2_found_116 : decode cX2_found 116 = .ok (.getfield 126, 3) := by decide +kernel
theorem dX2_found_119 : decode cX2_found 119 = .ok (.iload 4, 2) := by decide +kernel
theorem dX2_found_121 : decode cX2_found 121 = .ok (.dup2, 1) := by decide +kernel
theorem dX2_found_122 : decode cX2_found 122 = .ok (.iaload, 1) := by decide +kernel
theorem dX2_found_123 : decode cX2_found 123 = .ok (.aload_n 0, 1) := by decide +kernel
theorem dX2_found_124 : decode cX2_found 124 = .ok (.getfield 204, 3) := by decide +kernel
theorem dX2_found_127 : decode cX2_found 127 = .ok (.iload 4, 2) := by decide +kernel
theorem dX2_found_129 : decode cX2_found 129 = .ok (.iaload, 1) := by decide +kernel
theorem dX2_found_130 : decode cX2_found 130 = .ok (.isub, 1) := by decide +kernel
theorem dX2_found_131 : decode cX2_found 131 = .ok (.iastore, 1) := by decide +kernel
theorem dX2_found_132 : decode cX2_found 132 = .ok (.iinc 4 1, 3) := by decide +kernel
theorem dX2_found_135 : decode cX2_found 135 = .ok (.goto (-31), 3) := by decide +kernel
theorem dX2_found_138 : decode cX2_found 138 = .ok (.aload_n 0, 1) := by decide +kernel
theorem dX2_found_139 : decode cX2_found 139 = .ok (.getfield 35, 3) := by decide +kernel
theorem dX2_found_142 : decode cX2_found 142 = .ok (.iload_n 1, 1) := by decide +kernel
theorem dX2_found_143 : decode cX2_found 143 = .ok (.dup2, 1) := by decide +kernel
theorem dX2_found_144 : decode cX2_found 144 = .ok (.iaload, 1) := by decide +kernel
theorem dX2_found_145 : decode cX2_found 145 = .ok (.iload_n 2, 1) := by decide +kernel
theorem dX2_found_146 : decode cX2_found 146 = .ok (.iload_n 3, 1) := by decide +kernel
theorem dX2_found_147 : decode cX2_found 147 = .ok (.isub, 1) := by decide +kernel
theorem dX2_found_148 : decode cX2_found 148 = .ok (.iadd, 1) := by decide +kernel
theorem dX2_found_149 : decode cX2_found 149 = .ok (.iastore, 1) := by decide +kernel
theorem dX2_found_150 : decode cX2_found 150 = .ok (.iload_n 3, 1) := by decide +kernel
theorem dX2_found_151 : decode cX2_found 151 = .ok (.ireturn, 1) := by decide +kernel
abbrev cX2_book : ByteArray := prog_15_method_82_code
def yX2_book : MethodName := ⟨RX2, "book", "(II)I"⟩
theorem dX2_book_0 : decode cX2_book 0 = .ok (.aload_n 0, 1) := by decide +kernel
theorem dX2_book_1 : decode cX2_book 1 = .ok (.iconst 0, 1) := by decide +kernel
theorem dX2_book_2 : decode cX2_book 2 = .ok (.putfield 220, 3) := by decide +kernel
theorem dX2_book_5 : decode cX2_book 5 = .ok (.aload_n 0, 1) := by decide +kernel
theorem dX2_book_6 : decode cX2_book 6 = .ok (.iload_n 1, 1) := by decide +kernel
theorem dX2_book_7 : decode cX2_book 7 = .ok (.invokevirtual 240, 3) := by decide +kernel
theorem dX2_book_10 : decode cX2_book 10 = .ok (.ifCond .eq 30, 3) := by decide +kernel
theorem dX2_book_13 : decode cX2_book 13 = .ok (.aload_n 0, 1) := by decide +kernel
theorem dX2_book_14 : decode cX2_book 14 = .ok (.getfield 78, 3) := by decide +kernel
theorem dX2_book_17 : decode cX2_book 17 = .ok (.iconst 0, 1) := by decide +kernel
theorem dX2_book_18 : decode cX2_book 18 = .ok (.iaload, 1) := by decide +kernel
theorem dX2_book_19 : decode cX2_book 19 = .ok (.bipush 60, 2) := by decide +kernel
theorem dX2_book_21 : decode cX2_book 21 = .ok (.if_icmp .eq 19, 3) := by decide +kernel
theorem dX2_book_24 : decode cX2_book 24 = .ok (.iload_n 2, 1) := by decide +kernel
theorem dX2_book_25 : decode cX2_book 25 = .ok (.ifCond .eq 15, 3) := by decide +kernel
theorem dX2_book_28 : decode cX2_book 28 = .ok (.iload_n 2, 1) := by decide +kernel
theorem dX2_book_29 : decode cX2_book 29 = .ok (.ldc_w 456, 3) := by decide +kernel
theorem dX2_book_32 : decode cX2_book 32 = .ok (.ldc 252, 2) := by decide +kernel
theorem dX2_book_34 : decode cX2_book 34 = .ok (.invokestatic 236, 3) := by decide +kernel
theorem dX2_book_37 : decode cX2_book 37 = .ok (.ifCond .ne 5, 3) := by decide +kernel
theorem dX2_book_40 : decode cX2_book 40 = .ok (.iconst (-1), 1) := by decide +kernel
theorem dX2_book_41 : decode cX2_book 41 = .ok (.ireturn, 1) := by decide +kernel
theorem dX2_book_42 : decode cX2_book 42 = .ok (.aload_n 0, 1) := by decide +kernel
theorem dX2_book_43 : decode cX2_book 43 = .ok (.getfield 78, 3) := by decide +kernel
theorem dX2_book_46 : decode cX2_book 46 = .ok (.iconst 0, 1) := by decide +kernel
theorem dX2_book_47 : decode cX2_book 47 = .ok (.dup2, 1) := by decide +kernel
theorem dX2_book_48 : decode cX2_book 48 = .ok (.iaload, 1) := by decide +kernel
theorem dX2_book_49 : decode cX2_book 49 = .ok (.iconst 1, 1) := by decide +kernel
theorem dX2_book_50 : decode cX2_book 50 = .ok (.iadd, 1) := by decide +kernel
theorem dX2_book_51 : decode cX2_book 51 = .ok (.iastore, 1) := by decide +kernel
theorem dX2_book_52 : decode cX2_book 52 = .ok (.aload_n 0, 1) := by decide +kernel
theorem dX2_book_53 : decode cX2_book 53 = .ok (.getfield 72, 3) := by decide +kernel
theorem dX2_book_56 : decode cX2_book 56 = .ok (.iload_n 1, 1) := by decide +kernel
theorem dX2_book_57 : decode cX2_book 57 = .ok (.dup2, 1) := by decide +kernel
theorem dX2_book_58 : decode cX2_book 58 = .ok (.iaload, 1) := by decide +kernel
theorem dX2_book_59 : decode cX2_book 59 = .ok (.iload_n 2, 1) := by decide +kernel
theorem dX2_book_60 : decode cX2_book 60 = .ok (.iadd, 1) := by decide +kernel
theorem dX2_book_61 : decode cX2_book 61 = .ok (.iastore, 1) := by decide +kernel
theorem dX2_book_62 : decode cX2_book 62 = .ok (.aload_n 0, 1) := by decide +kernel
theorem dX2_book_63 : decode cX2_book 63 = .ok (.getfield 75, 3) := by decide +kernel
theorem dX2_book_66 : decode cX2_book 66 = .ok (.iload_n 1, 1) := by decide +kernel
theorem dX2_book_67 : decode cX2_book 67 = .ok (.aload_n 0, 1) := by decide +kernel
theorem dX2_book_68 : decode cX2_book 68 = .ok (.getfield 72, 3) := by decide +kernel
theorem dX2_book_71 : decode cX2_book 71 = .ok (.iload_n 1, 1) := by decide +kernel
theorem dX2_book_72 : decode cX2_book 72 = .ok (.iaload, 1) := by decide +kernel
theorem dX2_book_73 : decode cX2_book 73 = .ok (.aload_n 0, 1) := by decide +kernel
theorem dX2_book_74 : decode cX2_book 74 = .ok (.getfield 75, 3) := by decide +kernel
theorem dX2_book_77 : decode cX2_book 77 = .ok (.iload_n 1, 1) := by decide +kernel
theorem dX2_book_78 : decode cX2_book 78 = .ok (.iaload, 1) := by decide +kernel
theorem dX2_book_79 : decode cX2_book 79 = .ok (.if_icmp .ge 12, 3) := by decide +kernel
theorem dX2_book_82 : decode cX2_book 82 = .ok (.aload_n 0, 1) := by decide +kernel
theorem dX2_book_83 : decode cX2_book 83 = .ok (.getfield 72, 3) := by decide +kernel
theorem dX2_book_86 : decode cX2_book 86 = .ok (.iload_n 1, 1) := by decide +kernel
theorem dX2_book_87 : decode cX2_book 87 = .ok (.iaload, 1) := by decide +kernel
theorem dX2_book_88 : decode cX2_book 88 = .ok (.goto 9, 3) := by decide +kernel
theorem dX2_book_91 : decode cX2_book 91 = .ok (.aload_n 0, 1) := by decide +kernel
theorem dX2_book_92 : decode cX2_book 92 = .ok (.getfield 75, 3) := by decide +kernel
theorem dX2_book_95 : decode cX2_book 95 = .ok (.iload_n 1, 1) := by decide +kernel
theorem dX2_book_96 : decode cX2_book 96 = .ok (.iaload, 1) := by decide +kernel
theorem dX2_book_97 : decode cX2_book 97 = .ok (.iastore, 1) := by decide +kernel
theorem dX2_book_98 : decode cX2_book 98 = .ok (.aload_n 0, 1) := by decide +kernel
theorem dX2_book_99 : decode cX2_book 99 = .ok (.getfield 75, 3) := by decide +kernel
theorem dX2_book_102 : decode cX2_book 102 = .ok (.iload_n 1, 1) := by decide +kernel
theorem dX2_book_103 : decode cX2_book 103 = .ok (.iaload, 1) := by decide +kernel
theorem dX2_book_104 : decode cX2_book 104 = .ok (.ineg, 1) := by decide +kernel
theorem dX2_book_105 : decode cX2_book 105 = .ok (.ireturn, 1) := by decide +kernel
abbrev cX2_free : ByteArray := prog_15_method_84_code
def yX2_free : MethodName := ⟨RX2, "free", "(II)I"⟩
theorem dX2_free_0 : decode cX2_free 0 = .ok (.aload_n 0, 1) := by decide +kernel
theorem dX2_free_1 : decode cX2_free 1 = .ok (.iconst 0, 1) := by decide +kernel
theorem dX2_free_2 : decode cX2_free 2 = .ok (.putfield 220, 3) := by decide +kernel
theorem dX2_free_5 : decode cX2_free 5 = .ok (.iload_n 1, 1) := by decide +kernel
theorem dX2_free_6 : decode cX2_free 6 = .ok (.iconst 0, 1) := by decide +kernel
theorem dX2_free_7 : decode cX2_free 7 = .ok (.ldc 247, 2) := by decide +kernel
theorem dX2_free_9 : decode cX2_free 9 = .ok (.invokestatic 236, 3) := by decide +kernel
theorem dX2_free_12 : decode cX2_free 12 = .ok (.ifCond .eq 12, 3) := by decide +kernel
theorem dX2_free_15 : decode cX2_free 15 = .ok (.iload_n 2, 1) := by decide +kernel
theorem dX2_free_16 : decode cX2_free 16 = .ok (.iconst 0, 1) := by decide +kernel
theorem dX2_free_17 : decode cX2_free 17 = .ok (.iconst 2, 1) := by decide +kernel
theorem dX2_free_18 : decode cX2_free 18 = .ok (.invokestatic 236, 3) := by decide +kernel
theorem dX2_free_21 : decode cX2_free 21 = .ok (.ifCond .ne 5, 3) := by decide +kernel
theorem dX2_free_24 : decode cX2_free 24 = .ok (.iconst (-1), 1) := by decide +kernel
theorem dX2_free_25 : decode cX2_free 25 = .ok (.ireturn, 1) := by decide +kernel
theorem dX2_free_26 : decode cX2_free 26 = .ok (.iconst 0, 1) := by decide +kernel
theorem dX2_free_27 : decode cX2_free 27 = .ok (.istore_n 3, 1) := by decide +kernel
theorem dX2_free_28 : decode cX2_free 28 = .ok (.iconst 0, 1) := by decide +kernel
theorem dX2_free_29 : decode cX2_free 29 = .ok (.istore 4, 2) := by decide +kernel
theorem dX2_free_31 : decode cX2_free 31 = .ok (.iload 4, 2) := by decide +kernel
theorem dX2_free_33 : decode cX2_free 33 = .ok (.aload_n 0, 1) := by decide +kernel
theorem dX2_free_34 : decode cX2_free 34 = .ok (.getfield 32, 3) := by decide +kernel
theorem dX2_free_37 : decode cX2_free 37 = .ok (.iconst 0, 1) := by decide +kernel
theorem dX2_free_38 : decode cX2_free 38 = .ok (.iaload, 1) := by decide +kernel
theorem dX2_free_39 : decode cX2_free 39 = .ok (.if_icmp .ge 36, 3) := by decide +kernel
theorem dX2_free_42 : decode cX2_free 42 = .ok (.iload_n 3, 1) := by decide +kernel
theorem dX2_free_43 : decode cX2_free 43 = .ok (.bipush 8, 2) := by decide +kernel
theorem dX2_free_45 : decode cX2_free 45 = .ok (.if_icmp .ge 30, 3) := by decide +kernel
theorem dX2_free_48 : decode cX2_free 48 = .ok (.aload_n 0, 1) := by decide +kernel
theorem dX2_free_49 : decode cX2_free 49 = .ok (.getfield 41, 3) := by decide +kernel
theorem dX2_free_52 : decode cX2_free 52 = .ok (.iload 4, 2) := by decide +kernel
theorem dX2_free_54 : decode cX2_free 54 = .ok (.baload, 1) := by decide +kernel
theorem dX2_free_55 : decode cX2_free 55 = .ok (.ifCond .eq 14, 3) := by decide +kernel
theorem dX2_free_58 : decode cX2_free 58 = .ok (.aload_n 0, 1) := by decide +kernel
theorem dX2_free_59 : decode cX2_free 59 = .ok (.getfield 211, 3) := by decide +kernel
theorem dX2_free_62 : decode cX2_free 62 = .ok (.iload_n 3, 1) := by decide +kernel
theorem dX2_free_63 : decode cX2_free 63 = .ok (.iload 4, 2) := by decide +kernel
theorem dX2_free_65 : decode cX2_free 65 = .ok (.iastore, 1) := by decide +kernel
theorem dX2_free_66 : decode cX2_free 66 = .ok (.iinc 3 1, 3) := by decide +kernel
theorem dX2_free_69 : decode cX2_free 69 = .ok (.iinc 4 1, 3) := by decide +kernel
theorem dX2_free_72 : decode cX2_free 72 = .ok (.goto (-41), 3) := by decide +kernel
theorem dX2_free_75 : decode cX2_free 75 = .ok (.iconst 0, 1) := by decide +kernel
theorem dX2_free_76 : decode cX2_free 76 = .ok (.istore 4, 2) := by decide +kernel
theorem dX2_free_78 : decode cX2_free 78 = .ok (.iconst 0, 1) := by decide +kernel
theorem dX2_free_79 : decode cX2_free 79 = .ok (.istore 5, 2) := by decide +kernel
theorem dX2_free_81 : decode cX2_free 81 = .ok (.aload_n 0, 1) := by decide +kernel
theorem dX2_free_82 : decode cX2_free 82 = .ok (.getfield 214, 3) := by decide +kernel
theorem dX2_free_85 : decode cX2_free 85 = .ok (.iconst 0, 1) := by decide +kernel
theorem dX2_free_86 : decode cX2_free 86 = .ok (.iconst 0, 1) := by decide +kernel
theorem dX2_free_87 : decode cX2_free 87 = .ok (.iastore, 1) := by decide +kernel
theorem dX2_free_88 : decode cX2_free 88 = .ok (.iconst 1, 1) := by decide +kernel
theorem dX2_free_89 : decode cX2_free 89 = .ok (.istore 6, 2) := by decide +kernel
theorem dX2_free_91 : decode cX2_free 91 = .ok (.iload 6, 2) := by decide +kernel
theorem dX2_free_93 : decode cX2_free 93 = .ok (.iconst 1, 1) := by decide +kernel
theorem dX2_free_94 : decode cX2_free 94 = .ok (.iload_n 3, 1) := by decide +kernel
theorem dX2_free_95 : decode cX2_free 95 = .ok (.ishl, 1) := by decide +kernel
theorem dX2_free_96 : decode cX2_free 96 = .ok (.if_icmp .ge 176, 3) := by decide +kernel
theorem dX2_free_99 : decode cX2_free 99 = .ok (.iconst 0, 1) := by decide +kernel
theorem dX2_free_100 : decode cX2_free 100 = .ok (.istore 7, 2) := by decide +kernel
theorem dX2_free_102 : decode cX2_free 102 = .ok (.aload_n 0, 1) := by decide +kernel
theorem dX2_free_103 : decode cX2_free 103 = .ok (.getfield 214, 3) := by decide +kernel
theorem dX2_free_106 : decode cX2_free 106 = .ok (.iload 6, 2) := by decide +kernel
theorem dX2_free_108 : decode cX2_free 108 = .ok (.ldc_w 457, 3) := by decide +kernel
theorem dX2_free_111 : decode cX2_free 111 = .ok (.iastore, 1) := by decide +kernel
theorem dX2_free_112 : decode cX2_free 112 = .ok (.iconst 0, 1) := by decide +kernel
theorem dX2_free_113 : decode cX2_free 113 = .ok (.istore 8, 2) := by decide +kernel
theorem dX2_free_115 : decode cX2_free 115 = .ok (.iload 8, 2) := by decide +kernel
theorem dX2_free_117 : decode cX2_free 117 = .ok (.iload_n 3, 1) := by decide +kernel
theorem dX2_free_118 : decode cX2_free 118 = .ok (.if_icmp .ge 98, 3) := by decide +kernel
theorem dX2_free_121 : decode cX2_free 121 = .ok (.iload 6, 2) := by decide +kernel
theorem dX2_free_123 : decode cX2_free 123 = .ok (.iload 8, 2) := by decide +kernel
theorem dX2_free_125 : decode cX2_free 125 = .ok (.ishr, 1) := by decide +kernel
theorem dX2_free_126 : decode cX2_free 126 = .ok (.iconst 1, 1) := by decide +kernel
theorem dX2_free_127 : decode cX2_free 127 = .ok (.iand, 1) := by decide +kernel
theorem dX2_free_128 : decode cX2_free 128 = .ok (.ifCond .eq 82, 3) := by decide +kernel
theorem dX2_free_131 : decode cX2_free 131 = .ok (.iinc 7 1, 3) := by decide +kernel
theorem dX2_free_134 : decode cX2_free 134 = .ok (.aload_n 0, 1) := by decide +kernel
theorem dX2_free_135 : decode cX2_free 135 = .ok (.getfield 214, 3) := by decide +kernel
theorem dX2_free_138 : decode cX2_free 138 = .ok (.iload 6, 2) := by decide +kernel
theorem dX2_free_140 : decode cX2_free 140 = .ok (.iconst 1, 1) := by decide +kernel
theorem dX2_free_141 : decode cX2_free 141 = .ok (.iload 8, 2) := by decide +kernel
theorem dX2_free_143 : decode cX2_free 143 = .ok (.ishl, 1) := by decide +kernel
theorem dX2_free_144 : decode cX2_free 144 = .ok (.isub, 1) := by decide +kernel
theorem dX2_free_145 : decode cX2_free 145 = .ok (.iaload, 1) := by decide +kernel
theorem dX2_free_146 : decode cX2_free 146 = .ok (.istore 9, 2) := by decide +kernel
theorem dX2_free_148 : decode cX2_free 148 = .ok (.iload 9, 2) := by decide +kernel
theorem dX2_free_150 : decode cX2_free 150 = .ok (.iload_n 1, 1) := by decide +kernel
theorem dX2_free_151 : decode cX2_free 151 = .ok (.if_icmp .le 9, 3) := by decide +kernel
theorem dX2_free_154 : decode cX2_free 154 = .ok (.ldc_w 457, 3) := by decide +kernel
theorem dX2_free_157 : decode cX2_free 157 = .ok (.goto 20, 3) := by decide +kernel
theorem dX2_free_160 : decode cX2_free 160 = .ok (.iload 9, 2) := by decide +kernel
theorem dX2_free_162 : decode cX2_free 162 = .ok (.aload_n 0, 1) := by decide +kernel
theorem dX2_free_163 : decode cX2_free 163 = .ok (.iload 8, 2) := by decide +kernel
theorem dX2_free_165 : decode cX2_free 165 = .ok (.iload 6, 2) := by decide +kernel
theorem dX2_free_167 : decode cX2_free 167 = .ok (.iconst 1, 1) := by decide +kernel
theorem dX2_free_168 : decode cX2_free 168 = .ok (.iload 8, 2) := by decide +kernel
theorem dX2_free_170 : decode cX2_free 170 = .ok (.ishl, 1) := by decide +kernel
theorem dX2_free_171 : decode cX2_free 171 = .ok (.isub, 1) := by decide +kernel
theorem dX2_free_172 : decode cX2_free 172 = .ok (.iload_n 3, 1) := by decide +kernel
theorem dX2_free_173 : decode cX2_free 173 = .ok (.invokevirtual 458, 3) := by decide +kernel
theorem dX2_free_176 : decode cX2_free 176 = .ok (.iadd, 1) := by decide +kernel
theorem dX2_free_177 : decode cX2_free 177 = .ok (.istore 10, 2) := by decide +kernel
theorem dX2_free_179 : decode cX2_free 179 = .ok (.aload_n 0, 1) := by decide +kernel
theorem dX2_free_180 : decode cX2_free 180 = .ok (.getfield 214, 3) := by decide +kernel
theorem dX2_free_183 : decode cX2_free 183 = .ok (.iload 6, 2) := by decide +kernel
theorem dX2_free_185 : decode cX2_free 185 = .ok (.iload 10, 2) := by decide +kernel
theorem dX2_free_187 : decode cX2_free 187 = .ok (.aload_n 0, 1) := by decide +kernel
theorem dX2_free_188 : decode cX2_free 188 = .ok (.getfield 214, 3) := by decide +kernel
theorem dX2_free_191 : decode cX2_free 191 = .ok (.iload 6, 2) := by decide +kernel
theorem dX2_free_193 : decode cX2_free 193 = .ok (.iaload, 1) := by decide +kernel
theorem dX2_free_194 : decode cX2_free 194 = .ok (.if_icmp .ge 8, 3) := by decide +kernel
theorem dX2_free_197 : decode cX2_free 197 = .ok (.iload 10, 2) := by decide +kernel
theorem dX2_free_199 : decode cX2_free 199 = .ok (.goto 10, 3) := by decide +kernel
theorem dX2_free_202 : decode cX2_free 202 = .ok (.aload_n 0, 1) := by decide +kernel
theorem dX2_free_203 : decode cX2_free 203 = .ok (.getfield 214, 3) := by decide +kernel
theorem dX2_free_206 : decode cX2_free 206 = .ok (.iload 6, 2) := by decide +kernel
theorem dX2_free_208 : decode cX2_free 208 = .ok (.iaload, 1) := by decide +kernel
theorem dX2_free_209 : decode cX2_free 209 = .ok (.iastore, 1) := by decide +kernel
theorem dX2_free_210 : decode cX2_free 210 = .ok (.iinc 8 1, 3) := by decide +kernel
theorem dX2_free_213 : decode cX2_free 213 = .ok (.goto (-98), 3) := by decide +kernel
theorem dX2_free_216 : decode cX2_free 216 = .ok (.aload_n 0, 1) := by decide +kernel
theorem dX2_free_217 : decode cX2_free 217 = .ok (.getfield 214, 3) := by decide +kernel
theorem dX2_free_220 : decode cX2_free 220 = .ok (.iload 6, 2) := by decide +kernel
theorem dX2_free_222 : decode cX2_free 222 = .ok (.iaload, 1) := by decide +kernel
theorem dX2_free_223 : decode cX2_free 223 = .ok (.iload_n 1, 1) := by decide +kernel
theorem dX2_free_224 : decode cX2_free 224 = .ok (.if_icmp .gt 42, 3) := by decide +kernel
theorem dX2_free_227 : decode cX2_free 227 = .ok (.iload 7, 2) := by decide +kernel
theorem dX2_free_229 : decode cX2_free 229 = .ok (.iload 5, 2) := by decide +kernel
theorem dX2_free_231 : decode cX2_free 231 = .ok (.if_icmp .gt 27, 3) := by decide +kernel
theorem dX2_free_234 : decode cX2_free 234 = .ok (.iload 7, 2) := by decide +kernel
theorem dX2_free_236 : decode cX2_free 236 = .ok (.iload 5, 2) := by decide +kernel
theorem dX2_free_238 : decode cX2_free 238 = .ok (.if_icmp .ne 28, 3) := by decide +kernel
theorem dX2_free_241 : decode cX2_free 241 = .ok (.aload_n 0, 1) := by decide +kernel
theorem dX2_free_242 : decode cX2_free 242 = .ok (.getfield 214, 3) := by decide +kernel
theorem dX2_free_245 : decode cX2_free 245 = .ok (.iload 6, 2) := by decide +kernel
theorem dX2_free_247 : decode cX2_free 247 = .ok (.iaload, 1) := by decide +kernel
theorem dX2_free_248 : decode cX2_free 248 = .ok (.aload_n 0, 1) := by decide +kernel
theorem dX2_free_249 : decode cX2_free 249 = .ok (.getfield 214, 3) := by decide +kernel
theorem dX2_free_252 : decode cX2_free 252 = .ok (.iload 4, 2) := by decide +kernel
theorem dX2_free_254 : decode cX2_free 254 = .ok (.iaload, 1) := by decide +kernel
theorem dX2_free_255 : decode cX2_free 255 = .ok (.if_icmp .ge 11, 3) := by decide +kernel
theorem dX2_free_258 : decode cX2_free 258 = .ok (.iload 6, 2) := by decide +kernel
theorem dX2_free_260 : decode cX2_free 260 = .ok (.istore 4, 2) := by decide +kernel
theorem dX2_free_262 : decode cX2_free 262 = .ok (.iload 7, 2) := by decide +kernel
theorem dX2_free_264 : decode cX2_free 264 = .ok (.istore 5, 2) := by decide +kernel
theorem dX2_free_266 : decode cX2_free 266 = .ok (.iinc 6 1, 3) := by decide +kernel
theorem dX2_free_269 : decode cX2_free 269 = .ok (.goto (-178), 3) := by decide +kernel
theorem dX2_free_272 : decode cX2_free 272 = .ok (.iconst 0, 1) := by decide +kernel
theorem dX2_free_273 : decode cX2_free 273 = .ok (.istore 6, 2) := by decide +kernel
theorem dX2_free_275 : decode cX2_free 275 = .ok (.iconst 0, 1) := by decide +kernel
theorem dX2_free_276 : decode cX2_free 276 = .ok (.istore 7, 2) := by decide +kernel
theorem dX2_free_278 : decode cX2_free 278 = .ok (.iload 7, 2) := by decide +kernel
theorem dX2_free_280 : decode cX2_free 280 = .ok (.iload_n 3, 1) := by decide +kernel
theorem dX2_free_281 : decode cX2_free 281 = .ok (.if_icmp .ge 37, 3) := by decide +kernel
theorem dX2_free_284 : decode cX2_free 284 = .ok (.iload 6, 2) := by decide +kernel
theorem dX2_free_286 : decode cX2_free 286 = .ok (.iload 4, 2) := by decide +kernel
theorem dX2_free_288 : decode cX2_free 288 = .ok (.iload 7, 2) := by decide +kernel
theorem dX2_free_290 : decode cX2_free 290 = .ok (.ishr, 1) := by decide +kernel
theorem dX2_free_291 : decode cX2_free 291 = .ok (.iconst 1, 1) := by decide +kernel
theorem dX2_free_292 : decode cX2_free 292 = .ok (.iand, 1) := by decide +kernel
theorem dX2_free_293 : decode cX2_free 293 = .ok (.ifCond .eq 15, 3) := by decide +kernel
theorem dX2_free_296 : decode cX2_free 296 = .ok (.iconst 1, 1) := by decide +kernel
theorem dX2_free_297 : decode cX2_free 297 = .ok (.aload_n 0, 1) := by decide +kernel
theorem dX2_free_298 : decode cX2_free 298 = .ok (.getfield 211, 3) := by decide +kernel
theorem dX2_free_301 : decode cX2_free 301 = .ok (.iload 7, 2) := by decide +kernel
theorem dX2_free_303 : decode cX2_free 303 = .ok (.iaload, 1) := by decide +kernel
theorem dX2_free_304 : decode cX2_free 304 = .ok (.ishl, 1) := by decide +kernel
theorem dX2_free_305 : decode cX2_free 305 = .ok (.goto 4, 3) := by decide +kernel
theorem dX2_free_308 : decode cX2_free 308 = .ok (.iconst 0, 1) := by decide +kernel
theorem dX2_free_309 : decode cX2_free 309 = .ok (.ior, 1) := by decide +kernel
theorem dX2_free_310 : decode cX2_free 310 = .ok (.istore 6, 2) := by decide +kernel
theorem dX2_free_312 : decode cX2_free 312 = .ok (.iinc 7 1, 3) := by decide +kernel
theorem dX2_free_315 : decode cX2_free 315 = .ok (.goto (-37), 3) := by decide +kernel
theorem dX2_free_318 : decode cX2_free 318 = .ok (.iload_n 2, 1) := by decide +kernel
theorem dX2_free_319 : decode cX2_free 319 = .ok (.ifCond .ne 8, 3) := by decide +kernel
theorem dX2_free_322 : decode cX2_free 322 = .ok (.iload 5, 2) := by decide +kernel
theorem dX2_free_324 : decode cX2_free 324 = .ok (.goto 20, 3) := by decide +kernel
theorem dX2_free_327 : decode cX2_free 327 = .ok (.iload_n 2, 1) := by decide +kernel
theorem dX2_free_328 : decode cX2_free 328 = .ok (.iconst 1, 1) := by decide +kernel
theorem dX2_free_329 : decode cX2_free 329 = .ok (.if_icmp .ne 8, 3) := by decide +kernel
theorem dX2_free_332 : decode cX2_free 332 = .ok (.iload 6, 2) := by decide +kernel
theorem dX2_free_334 : decode cX2_free 334 = .ok (.goto 10, 3) := by decide +kernel
theorem dX2_free_337 : decode cX2_free 337 = .ok (.aload_n 0, 1) := by decide +kernel
theorem dX2_free_338 : decode cX2_free 338 = .ok (.getfield 214, 3) := by decide +kernel
theorem dX2_free_341 : decode cX2_free 341 = .ok (.iload 4, 2) := by decide +kernel
theorem dX2_free_343 : decode cX2_free 343 = .ok (.iaload, 1) := by decide +kernel
theorem dX2_free_344 : decode cX2_free 344 = .ok (.ireturn, 1) := by decide +kernel
abbrev cX2_lacks : ByteArray := prog_15_method_83_code
def yX2_lacks : MethodName := ⟨RX2, "lacks", "(III)I"⟩
theorem dX2_lacks_0 : decode cX2_lacks 0 = .ok (.aload_n 0, 1) := by decide +kernel
theorem dX2_lacks_1 : decode cX2_lacks 1 = .ok (.getfield 211, 3) := by decide +kernel
theorem dX2_lacks_4 : decode cX2_lacks 4 = .ok (.iload_n 1, 1) := by decide +kernel
theorem dX2_lacks_5 : decode cX2_lacks 5 = .ok (.iaload, 1) := by decide +kernel
theorem dX2_lacks_6 : decode cX2_lacks 6 = .ok (.istore 4, 2) := by decide +kernel
theorem dX2_lacks_8 : decode cX2_lacks 8 = .ok (.aload_n 0, 1) := by decide +kernel
theorem dX2_lacks_9 : decode cX2_lacks 9 = .ok (.getfield 35, 3) := by decide +kernel
theorem dX2_lacks_12 : decode cX2_lacks 12 = .ok (.iload 4, 2) := by decide +kernel
theorem dX2_lacks_14 : decode cX2_lacks 14 = .ok (.iaload, 1) := by decide +kernel
theorem dX2_lacks_15 : decode cX2_lacks 15 = .ok (.i2l, 1) := by decide +kernel
theorem dX2_lacks_16 : decode cX2_lacks 16 = .ok (.lstore 5, 2) := by decide +kernel
theorem dX2_lacks_18 : decode cX2_lacks 18 = .ok (.iconst 0, 1) := by decide +kernel
theorem dX2_lacks_19 : decode cX2_lacks 19 = .ok (.istore 7, 2) := by decide +kernel
theorem dX2_lacks_21 : decode cX2_lacks 21 = .ok (.iload 7, 2) := by decide +kernel
theorem dX2_lacks_23 : decode cX2_lacks 23 = .ok (.iload_n 3, 1) := by decide +kernel
theorem dX2_lacks_24 : decode cX2_lacks 24 = .ok (.if_icmp .ge 83, 3) := by decide +kernel
theorem dX2_lacks_27 : decode cX2_lacks 27 = .ok (.iconst 0, 1) := by decide +kernel
theorem dX2_lacks_28 : decode cX2_lacks 28 = .ok (.istore 8, 2) := by decide +kernel
theorem dX2_lacks_30 : decode cX2_lacks 30 = .ok (.iload 8, 2) := by decide +kernel
theorem dX2_lacks_32 : decode cX2_lacks 32 = .ok (.aload_n 0, 1) := by decide +kernel
theorem dX2_lacks_33 : decode cX2_lacks 33 = .ok (.getfield 84, 3) := by decide +kernel
theorem dX2_lacks_36 : decode cX2_lacks 36 = .ok (.iconst 0, 1) := by decide +kernel
theorem dX2_lacks_37 : decode cX2_lacks 37 = .ok (.iaload, 1) := by decide +kernel
theorem dX2_lacks_38 : decode cX2_lacks 38 = .ok (.if_icmp .ge 63, 3) := by decide +kernel
theorem dX2_lacks_41 : decode cX2_lacks 41 = .ok (.iload_n 2, 1) := by decide +kernel
theorem dX2_lacks_42 : decode cX2_lacks 42 = .ok (.iload 7, 2) := by decide +kernel
theorem dX2_lacks_44 : decode cX2_lacks 44 = .ok (.ishr, 1) := by decide +kernel
theorem dX2_lacks_45 : decode cX2_lacks 45 = .ok (.iconst 1, 1) := by decide +kernel
theorem dX2_lacks_46 : decode cX2_lacks 46 = .ok (.iand, 1) := by decide +kernel
theorem dX2_lacks_47 : decode cX2_lacks 47 = .ok (.ifCond .eq 54, 3) := by decide +kernel
theorem dX2_lacks_50 : decode cX2_lacks 50 = .ok (.lload 5, 2) := by decide +kernel
theorem dX2_lacks_52 : decode cX2_lacks 52 = .ok (.aload_n 0, 1) := by decide +kernel
theorem dX2_lacks_53 : decode cX2_lacks 53 = .ok (.getfield 87, 3) := by decide +kernel
theorem dX2_lacks_56 : decode cX2_lacks 56 = .ok (.iload 8, 2) := by decide +kernel
theorem dX2_lacks_58 : decode cX2_lacks 58 = .ok (.iaload, 1) := by decide +kernel
theorem dX2_lacks_59 : decode cX2_lacks 59 = .ok (.aload_n 0, 1) := by decide +kernel
theorem dX2_lacks_60 : decode cX2_lacks 60 = .ok (.getfield 211, 3) := by decide +kernel
theorem dX2_lacks_63 : decode cX2_lacks 63 = .ok (.iload 7, 2) := by decide +kernel
theorem dX2_lacks_65 : decode cX2_lacks 65 = .ok (.iaload, 1) := by decide +kernel
theorem dX2_lacks_66 : decode cX2_lacks 66 = .ok (.if_icmp .ne 25, 3) := by decide +kernel
theorem dX2_lacks_69 : decode cX2_lacks 69 = .ok (.aload_n 0, 1) := by decide +kernel
theorem dX2_lacks_70 : decode cX2_lacks 70 = .ok (.getfield 90, 3) := by decide +kernel
theorem dX2_lacks_73 : decode cX2_lacks 73 = .ok (.iload 8, 2) := by decide +kernel
theorem dX2_lacks_75 : decode cX2_lacks 75 = .ok (.iaload, 1) := by decide +kernel
theorem dX2_lacks_76 : decode cX2_lacks 76 = .ok (.iload 4, 2) := by decide +kernel
theorem dX2_lacks_78 : decode cX2_lacks 78 = .ok (.if_icmp .ne 13, 3) := by decide +kernel
theorem dX2_lacks_81 : decode cX2_lacks 81 = .ok (.aload_n 0, 1) := by decide +kernel
theorem dX2_lacks_82 : decode cX2_lacks 82 = .ok (.iload 8, 2) := by decide +kernel
theorem dX2_lacks_84 : decode cX2_lacks 84 = .ok (.invokevirtual 265, 3) := by decide +kernel
theorem dX2_lacks_87 : decode cX2_lacks 87 = .ok (.i2l, 1) := by decide +kernel
theorem dX2_lacks_88 : decode cX2_lacks 88 = .ok (.goto 4, 3) := by decide +kernel
theorem dX2_lacks_91 : decode cX2_lacks 91 = .ok (.lconst 0, 1) := by decide +kernel
theorem dX2_lacks_92 : decode cX2_lacks 92 = .ok (.ladd, 1) := by decide +kernel
theorem dX2_lacks_93 : decode cX2_lacks 93 = .ok (.lstore 5, 2) := by decide +kernel
theorem dX2_lacks_95 : decode cX2_lacks 95 = .ok (.iinc 8 1, 3) := by decide +kernel
theorem dX2_lacks_98 : decode cX2_lacks 98 = .ok (.goto (-68), 3) := by decide +kernel
theorem dX2_lacks_101 : decode cX2_lacks 101 = .ok (.iinc 7 1, 3) := by decide +kernel
theorem dX2_lacks_104 : decode cX2_lacks 104 = .ok (.goto (-83), 3) := by decide +kernel
theorem dX2_lacks_107 : decode cX2_lacks 107 = .ok (.aload_n 0, 1) := by decide +kernel
theorem dX2_lacks_108 : decode cX2_lacks 108 = .ok (.iload 4, 2) := by decide +kernel
theorem dX2_lacks_110 : decode cX2_lacks 110 = .ok (.invokevirtual 429, 3) := by decide +kernel
theorem dX2_lacks_113 : decode cX2_lacks 113 = .ok (.i2l, 1) := by decide +kernel
theorem dX2_lacks_114 : decode cX2_lacks 114 = .ok (.aload_n 0, 1) := by decide +kernel
theorem dX2_lacks_115 : decode cX2_lacks 115 = .ok (.getfield 51, 3) := by decide +kernel
theorem dX2_lacks_118 : decode cX2_lacks 118 = .ok (.iload 4, 2) := by decide +kernel
theorem dX2_lacks_120 : decode cX2_lacks 120 = .ok (.iaload, 1) := by decide +kernel
theorem dX2_lacks_121 : decode cX2_lacks 121 = .ok (.i2l, 1) := by decide +kernel
theorem dX2_lacks_122 : decode cX2_lacks 122 = .ok (.ladd, 1) := by decide +kernel
theorem dX2_lacks_123 : decode cX2_lacks 123 = .ok (.lstore 7, 2) := by decide +kernel
theorem dX2_lacks_125 : decode cX2_lacks 125 = .ok (.lload 7, 2) := by decide +kernel
theorem dX2_lacks_127 : decode cX2_lacks 127 = .ok (.lload 5, 2) := by decide +kernel
theorem dX2_lacks_129 : decode cX2_lacks 129 = .ok (.lcmp, 1) := by decide +kernel
theorem dX2_lacks_130 : decode cX2_lacks 130 = .ok (.ifCond .le 12, 3) := by decide +kernel
theorem dX2_lacks_133 : decode cX2_lacks 133 = .ok (.lload 7, 2) := by decide +kernel
theorem dX2_lacks_135 : decode cX2_lacks 135 = .ok (.lload 5, 2) := by decide +kernel
theorem dX2_lacks_137 : decode cX2_lacks 137 = .ok (.lsub, 1) := by decide +kernel
theorem dX2_lacks_138 : decode cX2_lacks 138 = .ok (.l2i, 1) := by decide +kernel
theorem dX2_lacks_139 : decode cX2_lacks 139 = .ok (.goto 4, 3) := by decide +kernel
theorem dX2_lacks_142 : decode cX2_lacks 142 = .ok (.iconst 0, 1) := by decide +kernel
theorem dX2_lacks_143 : decode cX2_lacks 143 = .ok (.ireturn, 1) := by decide +kernel
abbrev cX2_count : ByteArray := prog_15_method_85_code
def yX2_count : MethodName := ⟨RX2, "count", "(I)I"⟩
theorem dX2_count_0 : decode cX2_count 0 = .ok (.aload_n 0, 1) := by decide +kernel
theorem dX2_count_1 : decode cX2_count 1 = .ok (.iconst 0, 1) := by decide +kernel
theorem dX2_count_2 : decode cX2_count 2 = .ok (.putfield 220, 3) := by decide +kernel
theorem dX2_count_5 : decode cX2_count 5 = .ok (.iconst 0, 1) := by decide +kernel
theorem dX2_count_6 : decode cX2_count 6 = .ok (.istore_n 2, 1) := by decide +kernel
theorem dX2_count_7 : decode cX2_count 7 = .ok (.iload_n 1, 1) := by decide +kernel
theorem dX2_count_8 : decode cX2_count 8 = .ok (.tableswitch 251 0 11 #[64, 71, 78, 115, 122, 129, 136, 173, 180, 187, 216, 244], 64) := by decide +kernel
theorem dX2_count_72 : decode cX2_count 72 = .ok (.aload_n 0, 1) := by decide +kernel
theorem dX2_count_73 : decode cX2_count 73 = .ok (.getfield 32, 3) := by decide +kernel
theorem dX2_count_76 : decode cX2_count 76 = .ok (.iconst 0, 1) := by decide +kernel
theorem dX2_count_77 : decode cX2_count 77 = .ok (.iaload, 1) := by decide +kernel
theorem dX2_count_78 : decode cX2_count 78 = .ok (.ireturn, 1) := by decide +kernel
theorem dX2_count_79 : decode cX2_count 79 = .ok (.aload_n 0, 1) := by decide +kernel
theorem dX2_count_80 : decode cX2_count 80 = .ok (.getfield 84, 3) := by decide +kernel
theorem dX2_count_83 : decode cX2_count 83 = .ok (.iconst 0, 1) := by decide +kernel
theorem dX2_count_84 : decode cX2_count 84 = .ok (.iaload, 1) := by decide +kernel
theorem dX2_count_85 : decode cX2_count 85 = .ok (.ireturn, 1) := by decide +kernel
theorem dX2_count_86 : decode cX2_count 86 = .ok (.iconst 0, 1) := by decide +kernel
theorem dX2_count_87 : decode cX2_count 87 = .ok (.istore_n 3, 1) := by decide +kernel
theorem dX2_count_88 : decode cX2_count 88 = .ok (.iload_n 3, 1) := by decide +kernel
theorem dX2_count_89 : decode cX2_count 89 = .ok (.aload_n 0, 1) := by decide +kernel
theorem dX2_count_90 : decode cX2_count 90 = .ok (.getfield 84, 3) := by decide +kernel
theorem dX2_count_93 : decode cX2_count 93 = .ok (.iconst 0, 1) := by decide +kernel
theorem dX2_count_94 : decode cX2_count 94 = .ok (.iaload, 1) := by decide +kernel
theorem dX2_count_95 : decode cX2_count 95 = .ok (.if_icmp .ge 26, 3) := by decide +kernel
theorem dX2_count_98 : decode cX2_count 98 = .ok (.iload_n 2, 1) := by decide +kernel
theorem dX2_count_99 : decode cX2_count 99 = .ok (.aload_n 0, 1) := by decide +kernel
theorem dX2_count_100 : decode cX2_count 100 = .ok (.getfield 108, 3) := by decide +kernel
theorem dX2_count_103 : decode cX2_count 103 = .ok (.iload_n 3, 1) := by decide +kernel
theorem dX2_count_104 : decode cX2_count 104 = .ok (.iaload, 1) := by decide +kernel
theorem dX2_count_105 : decode cX2_count 105 = .ok (.ifCond .ne 7, 3) := by decide +kernel
theorem dX2_count_108 : decode cX2_count 108 = .ok (.iconst 1, 1) := by decide +kernel
theorem dX2_count_109 : decode cX2_count 109 = .ok (.goto 4, 3) := by decide +kernel
theorem dX2_count_112 : decode cX2_count 112 = .ok (.iconst 0, 1) := by decide +kernel
theorem dX2_count_113 : decode cX2_count 113 = .ok (.iadd, 1) := by decide +kernel
theorem dX2_count_114 : decode cX2_count 114 = .ok (.istore_n 2, 1) := by decide +kernel
theorem dX2_count_115 : decode cX2_count 115 = .ok (.iinc 3 1, 3) := by decide +kernel
theorem dX2_count_118 : decode cX2_count 118 = .ok (.goto (-30), 3) := by decide +kernel
theorem dX2_count_121 : decode cX2_count 121 = .ok (.iload_n 2, 1) := by decide +kernel
theorem dX2_count_122 : decode cX2_count 122 = .ok (.ireturn, 1) := by decide +kernel
theorem dX2_count_123 : decode cX2_count 123 = .ok (.aload_n 0, 1) := by decide +kernel
theorem dX2_count_124 : decode cX2_count 124 = .ok (.getfield 138, 3) := by decide +kernel
theorem dX2_count_127 : decode cX2_count 127 = .ok (.iconst 0, 1) := by decide +kernel
theorem dX2_count_128 : decode cX2_count 128 = .ok (.iaload, 1) := by decide +kernel
theorem dX2_count_129 : decode cX2_count 129 = .ok (.ireturn, 1) := by decide +kernel
theorem dX2_count_130 : decode cX2_count 130 = .ok (.aload_n 0, 1) := by decide +kernel
theorem dX2_count_131 : decode cX2_count 131 = .ok (.getfield 23, 3) := by decide +kernel
theorem dX2_count_134 : decode cX2_count 134 = .ok (.iconst 0, 1) := by decide +kernel
theorem dX2_count_135 : decode cX2_count 135 = .ok (.iaload, 1) := by decide +kernel
theorem dX2_count_136 : decode cX2_count 136 = .ok (.ireturn, 1) := by decide +kernel
theorem dX2_count_137 : decode cX2_count 137 = .ok (.aload_n 0, 1) := by decide +kernel
theorem dX2_count_138 : decode cX2_count 138 = .ok (.getfield 26, 3) := by decide +kernel
theorem dX2_count_141 : decode cX2_count 141 = .ok (.iconst 0, 1) := by decide +kernel
theorem dX2_count_142 : decode cX2_count 142 = .ok (.iaload, 1) := by decide +kernel
theorem dX2_count_143 : decode cX2_count 143 = .ok (.ireturn, 1) := by decide +kernel
theorem dX2_count_144 : decode cX2_count 144 = .ok (.iconst 0, 1) := by decide +kernel
theorem dX2_count_145 : decode cX2_count 145 = .ok (.istore_n 3, 1) := by decide +kernel
theorem dX2_count_146 : decode cX2_count 146 = .ok (.iload_n 3, 1) := by decide +kernel
theorem dX2_count_147 : decode cX2_count 147 = .ok (.aload_n 0, 1) := by decide +kernel
theorem dX2_count_148 : decode cX2_count 148 = .ok (.getfield 32, 3) := by decide +kernel
theorem dX2_count_151 : decode cX2_count 151 = .ok (.iconst 0, 1) := by decide +kernel
theorem dX2_count_152 : decode cX2_count 152 = .ok (.iaload, 1) := by decide +kernel
theorem dX2_count_153 : decode cX2_count 153 = .ok (.if_icmp .ge 26, 3) := by decide +kernel
theorem dX2_count_156 : decode cX2_count 156 = .ok (.iload_n 2, 1) := by decide +kernel
theorem dX2_count_157 : decode cX2_count 157 = .ok (.aload_n 0, 1) := by decide +kernel
theorem dX2_count_158 : decode cX2_count 158 = .ok (.getfield 41, 3) := by decide +kernel
theorem dX2_count_161 : decode cX2_count 161 = .ok (.iload_n 3, 1) := by decide +kernel
theorem dX2_count_162 : decode cX2_count 162 = .ok (.baload, 1) := by decide +kernel
theorem dX2_count_163 : decode cX2_count 163 = .ok (.ifCond .eq 7, 3) := by decide +kernel
theorem dX2_count_166 : decode cX2_count 166 = .ok (.iconst 1, 1) := by decide +kernel
theorem dX2_count_167 : decode cX2_count 167 = .ok (.goto 4, 3) := by decide +kernel
theorem dX2_count_170 : decode cX2_count 170 = .ok (.iconst 0, 1) := by decide +kernel
theorem dX2_count_171 : decode cX2_count 171 = .ok (.iadd, 1) := by decide +kernel
theorem dX2_count_172 : decode cX2_count 172 = .ok (.istore_n 2, 1) := by decide +kernel
theorem dX2_count_173 : decode cX2_count 173 = .ok (.iinc 3 1, 3) := by decide +kernel
theorem dX2_count_176 : decode cX2_count 176 = .ok (.goto (-30), 3) := by decide +kernel
theorem dX2_count_179 : decode cX2_count 179 = .ok (.iload_n 2, 1) := by decide +kernel
theorem dX2_count_180 : decode cX2_count 180 = .ok (.ireturn, 1) := by decide +kernel
theorem dX2_count_181 : decode cX2_count 181 = .ok (.aload_n 0, 1) := by decide +kernel
theorem dX2_count_182 : decode cX2_count 182 = .ok (.getfield 132, 3) := by decide +kernel
theorem dX2_count_185 : decode cX2_count 185 = .ok (.iconst 0, 1) := by decide +kernel
theorem dX2_count_186 : decode cX2_count 186 = .ok (.iaload, 1) := by decide +kernel
theorem dX2_count_187 : decode cX2_count 187 = .ok (.ireturn, 1) := by decide +kernel
theorem dX2_count_188 : decode cX2_count 188 = .ok (.aload_n 0, 1) := by decide +kernel
theorem dX2_count_189 : decode cX2_count 189 = .ok (.getfield 29, 3) := by decide +kernel
theorem dX2_count_192 : decode cX2_count 192 = .ok (.iconst 0, 1) := by decide +kernel
theorem dX2_count_193 : decode cX2_count 193 = .ok (.iaload, 1) := by decide +kernel
theorem dX2_count_194 : decode cX2_count 194 = .ok (.ireturn, 1) := by decide +kernel
theorem dX2_count_195 : decode cX2_count 195 = .ok (.iconst 0, 1) := by decide +kernel
theorem dX2_count_196 : decode cX2_count 196 = .ok (.istore_n 3, 1) := by decide +kernel
theorem dX2_count_197 : decode cX2_count 197 = .ok (.iload_n 3, 1) := by decide +kernel
theorem dX2_count_198 : decode cX2_count 198 = .ok (.aload_n 0, 1) := by decide +kernel
theorem dX2_count_199 : decode cX2_count 199 = .ok (.getfield 32, 3) := by decide +kernel
theorem dX2_count_202 : decode cX2_count 202 = .ok (.iconst 0, 1) := by decide +kernel
theorem dX2_count_203 : decode cX2_count 203 = .ok (.iaload, 1) := by decide +kernel
theorem dX2_count_204 : decode cX2_count 204 = .ok (.if_icmp .ge 18, 3) := by decide +kernel
theorem dX2_count_207 : decode cX2_count 207 = .ok (.iload_n 2, 1) := by decide +kernel
theorem dX2_count_208 : decode cX2_count 208 = .ok (.aload_n 0, 1) := by decide +kernel
theorem dX2_count_209 : decode cX2_count 209 = .ok (.getfield 35, 3) := by decide +kernel
theorem dX2_count_212 : decode cX2_count 212 = .ok (.iload_n 3, 1) := by decide +kernel
theorem dX2_count_213 : decode cX2_count 213 = .ok (.iaload, 1) := by decide +kernel
theorem dX2_count_214 : decode cX2_count 214 = .ok (.iadd, 1) := by decide +kernel
theorem dX2_count_215 : decode cX2_count 215 = .ok (.istore_n 2, 1) := by decide +kernel
theorem dX2_count_216 : decode cX2_count 216 = .ok (.iinc 3 1, 3) := by decide +kernel
theorem dX2_count_219 : decode cX2_count 219 = .ok (.goto (-22), 3) := by decide +kernel
theorem dX2_count_222 : decode cX2_count 222 = .ok (.iload_n 2, 1) := by decide +kernel
theorem dX2_count_223 : decode cX2_count 223 = .ok (.ireturn, 1) := by decide +kernel
theorem dX2_count_224 : decode cX2_count 224 = .ok (.iconst 0, 1) := by decide +kernel
theorem dX2_count_225 : decode cX2_count 225 = .ok (.istore_n 3, 1) := by decide +kernel
theorem dX2_count_226 : decode cX2_count 226 = .ok (.iload_n 3, 1) := by decide +kernel
theorem dX2_count_227 : decode cX2_count 227 = .ok (.aload_n 0, 1) := by decide +kernel
theorem dX2_count_228 : decode cX2_count 228 = .ok (.getfield 84, 3) := by decide +kernel
theorem dX2_count_231 : decode cX2_count 231 = .ok (.iconst 0, 1) := by decide +kernel
theorem dX2_count_232 : decode cX2_count 232 = .ok (.iaload, 1) := by decide +kernel
theorem dX2_count_233 : decode cX2_count 233 = .ok (.if_icmp .ge 17, 3) := by decide +kernel
theorem dX2_count_236 : decode cX2_count 236 = .ok (.iload_n 2, 1) := by decide +kernel
theorem dX2_count_237 : decode cX2_count 237 = .ok (.aload_n 0, 1) := by decide +kernel
theorem dX2_count_238 : decode cX2_count 238 = .ok (.iload_n 3, 1) := by decide +kernel
theorem dX2_count_239 : decode cX2_count 239 = .ok (.invokevirtual 265, 3) := by decide +kernel
theorem dX2_count_242 : decode cX2_count 242 = .ok (.iadd, 1) := by decide +kernel
theorem dX2_count_243 : decode cX2_count 243 = .ok (.istore_n 2, 1) := by decide +kernel
theorem dX2_count_244 : decode cX2_count 244 = .ok (.iinc 3 1, 3) := by decide +kernel
theorem dX2_count_247 : decode cX2_count 247 = .ok (.goto (-21), 3) := by decide +kernel
theorem dX2_count_250 : decode cX2_count 250 = .ok (.iload_n 2, 1) := by decide +kernel
theorem dX2_count_251 : decode cX2_count 251 = .ok (.ireturn, 1) := by decide +kernel
theorem dX2_count_252 : decode cX2_count 252 = .ok (.aload_n 0, 1) := by decide +kernel
theorem dX2_count_253 : decode cX2_count 253 = .ok (.getfield 78, 3) := by decide +kernel
theorem dX2_count_256 : decode cX2_count 256 = .ok (.iconst 0, 1) := by decide +kernel
theorem dX2_count_257 : decode cX2_count 257 = .ok (.iaload, 1) := by decide +kernel
theorem dX2_count_258 : decode cX2_count 258 = .ok (.ireturn, 1) := by decide +kernel
theorem dX2_count_259 : decode cX2_count 259 = .ok (.iconst (-1), 1) := by decide +kernel
theorem dX2_count_260 : decode cX2_count 260 = .ok (.ireturn, 1) := by decide +kernel
abbrev cX2_image : ByteArray := prog_15_method_86_code
def yX2_image : MethodName := ⟨RX2, "image", "(I)Z"⟩
theorem dX2_image_0 : decode cX2_image 0 = .ok (.aload_n 0, 1) := by decide +kernel
theorem dX2_image_1 : decode cX2_image 1 = .ok (.iconst 0, 1) := by decide +kernel
theorem dX2_image_2 : decode cX2_image 2 = .ok (.putfield 220, 3) := by decide +kernel
theorem dX2_image_5 : decode cX2_image 5 = .ok (.iload_n 1, 1) := by decide +kernel
theorem dX2_image_6 : decode cX2_image 6 = .ok (.iconst 0, 1) := by decide +kernel
theorem dX2_image_7 : decode cX2_image 7 = .ok (.iconst 2, 1) := by decide +kernel
theorem dX2_image_8 : decode cX2_image 8 = .ok (.invokestatic 236, 3) := by decide +kernel
theorem dX2_image_11 : decode cX2_image 11 = .ok (.ifCond .ne 5, 3) := by decide +kernel
theorem dX2_image_14 : decode cX2_image 14 = .ok (.iconst 0, 1) := by decide +kernel
theorem dX2_image_15 : decode cX2_image 15 = .ok (.ireturn, 1) := by decide +kernel
theorem dX2_image_16 : decode cX2_image 16 = .ok (.aload_n 0, 1) := by decide +kernel
theorem dX2_image_17 : decode cX2_image 17 = .ok (.iconst 0, 1) := by decide +kernel
theorem dX2_image_18 : decode cX2_image 18 = .ok (.iload_n 1, 1) := by decide +kernel
theorem dX2_image_19 : decode cX2_image 19 = .ok (.iconst 1, 1) := by decide +kernel
theorem dX2_image_20 : decode cX2_image 20 = .ok (.iadd, 1) := by decide +kernel
theorem dX2_image_21 : decode cX2_image 21 = .ok (.invokevirtual 462, 3) := by decide +kernel
theorem dX2_image_24 : decode cX2_image 24 = .ok (.aload_n 0, 1) := by decide +kernel
theorem dX2_image_25 : decode cX2_image 25 = .ok (.getfield 217, 3) := by decide +kernel
theorem dX2_image_28 : decode cX2_image 28 = .ok (.iload_n 1, 1) := by decide +kernel
theorem dX2_image_29 : decode cX2_image 29 = .ok (.iconst 1, 1) := by decide +kernel
theorem dX2_image_30 : decode cX2_image 30 = .ok (.bastore, 1) := by decide +kernel
theorem dX2_image_31 : decode cX2_image 31 = .ok (.iconst 1, 1) := by decide +kernel
theorem dX2_image_32 : decode cX2_image 32 = .ok (.ireturn, 1) := by decide +kernel
abbrev cX2_copy : ByteArray := prog_15_method_6_code
def yX2_copy : MethodName := ⟨RX2, "copy", "(II)V"⟩
theorem dX2_copy_0 : decode cX2_copy 0 = .ok (.iconst 0, 1) := by decide +kernel
theorem dX2_copy_1 : decode cX2_copy 1 = .ok (.istore_n 3, 1) := by decide +kernel
theorem dX2_copy_2 : decode cX2_copy 2 = .ok (.iload_n 3, 1) := by decide +kernel
theorem dX2_copy_3 : decode cX2_copy 3 = .ok (.sipush 600, 3) := by decide +kernel
theorem dX2_copy_6 : decode cX2_copy 6 = .ok (.if_icmp .ge 33, 3) := by decide +kernel
theorem dX2_copy_9 : decode cX2_copy 9 = .ok (.aload_n 0, 1) := by decide +kernel
theorem dX2_copy_10 : decode cX2_copy 10 = .ok (.getfield 7, 3) := by decide +kernel
theorem dX2_copy_13 : decode cX2_copy 13 = .ok (.sipush 600, 3) := by decide +kernel
theorem dX2_copy_16 : decode cX2_copy 16 = .ok (.iload_n 2, 1) := by decide +kernel
theorem dX2_copy_17 : decode cX2_copy 17 = .ok (.imul, 1) := by decide +kernel
theorem dX2_copy_18 : decode cX2_copy 18 = .ok (.iload_n 3, 1) := by decide +kernel
theorem dX2_copy_19 : decode cX2_copy 19 = .ok (.iadd, 1) := by decide +kernel
theorem dX2_copy_20 : decode cX2_copy 20 = .ok (.aload_n 0, 1) := by decide +kernel
theorem dX2_copy_21 : decode cX2_copy 21 = .ok (.getfield 7, 3) := by decide +kernel
theorem dX2_copy_24 : decode cX2_copy 24 = .ok (.sipush 600, 3) := by decide +kernel
theorem dX2_copy_27 : decode cX2_copy 27 = .ok (.iload_n 1, 1) := by decide +kernel
theorem dX2_copy_28 : decode cX2_copy 28 = .ok (.imul, 1) := by decide +kernel
theorem dX2_copy_29 : decode cX2_copy 29 = .ok (.iload_n 3, 1) := by decide +kernel
theorem dX2_copy_30 : decode cX2_copy 30 = .ok (.iadd, 1) := by decide +kernel
theorem dX2_copy_31 : decode cX2_copy 31 = .ok (.baload, 1) := by decide +kernel
theorem dX2_copy_32 : decode cX2_copy 32 = .ok (.bastore, 1) := by decide +kernel
theorem dX2_copy_33 : decode cX2_copy 33 = .ok (.iinc 3 1, 3) := by decide +kernel
theorem dX2_copy_36 : decode cX2_copy 36 = .ok (.goto (-34), 3) := by decide +kernel
theorem dX2_copy_39 : decode cX2_copy 39 = .ok (.aload_n 0, 1) := by decide +kernel
theorem dX2_copy_40 : decode cX2_copy 40 = .ok (.getfield 13, 3) := by decide +kernel
theorem dX2_copy_43 : decode cX2_copy 43 = .ok (.iconst 1, 1) := by decide +kernel
theorem dX2_copy_44 : decode cX2_copy 44 = .ok (.iload_n 1, 1) := by decide +kernel
theorem dX2_copy_45 : decode cX2_copy 45 = .ok (.iload_n 2, 1) := by decide +kernel
theorem dX2_copy_46 : decode cX2_copy 46 = .ok (.invokestatic 224, 3) := by decide +kernel
theorem dX2_copy_49 : decode cX2_copy 49 = .ok (.aload_n 0, 1) := by decide +kernel
theorem dX2_copy_50 : decode cX2_copy 50 = .ok (.getfield 17, 3) := by decide +kernel
theorem dX2_copy_53 : decode cX2_copy 53 = .ok (.iconst 1, 1) := by decide +kernel
theorem dX2_copy_54 : decode cX2_copy 54 = .ok (.iload_n 1, 1) := by decide +kernel
theorem dX2_copy_55 : decode cX2_copy 55 = .ok (.iload_n 2, 1) := by decide +kernel
theorem dX2_copy_56 : decode cX2_copy 56 = .ok (.invokestatic 224, 3) := by decide +kernel
theorem dX2_copy_59 : decode cX2_copy 59 = .ok (.aload_n 0, 1) := by decide +kernel
theorem dX2_copy_60 : decode cX2_copy 60 = .ok (.getfield 20, 3) := by decide +kernel
theorem dX2_copy_63 : decode cX2_copy 63 = .ok (.iconst 1, 1) := by decide +kernel
theorem dX2_copy_64 : decode cX2_copy 64 = .ok (.iload_n 1, 1) := by decide +kernel
theorem dX2_copy_65 : decode cX2_copy 65 = .ok (.iload_n 2, 1) := by decide +kernel
theorem dX2_copy_66 : decode cX2_copy 66 = .ok (.invokestatic 224, 3) := by decide +kernel
theorem dX2_copy_69 : decode cX2_copy 69 = .ok (.aload_n 0, 1) := by decide +kernel
theorem dX2_copy_70 : decode cX2_copy 70 = .ok (.getfield 23, 3) := by decide +kernel
theorem dX2_copy_73 : decode cX2_copy 73 = .ok (.iconst 1, 1) := by decide +kernel
theorem dX2_copy_74 : decode cX2_copy 74 = .ok (.iload_n 1, 1) := by decide +kernel
theorem dX2_copy_75 : decode cX2_copy 75 = .ok (.iload_n 2, 1) := by decide +kernel
theorem dX2_copy_76 : decode cX2_copy 76 = .ok (.invokestatic 224, 3) := by decide +kernel
theorem dX2_copy_79 : decode cX2_copy 79 = .ok (.aload_n 0, 1) := by decide +kernel
theorem dX2_copy_80 : decode cX2_copy 80 = .ok (.getfield 26, 3) := by decide +kernel
theorem dX2_copy_83 : decode cX2_copy 83 = .ok (.iconst 1, 1) := by decide +kernel
theorem dX2_copy_84 : decode cX2_copy 84 = .ok (.iload_n 1, 1) := by decide +kernel
theorem dX2_copy_85 : decode cX2_copy 85 = .ok (.iload_n 2, 1) := by decide +kernel
theorem dX2_copy_86 : decode cX2_copy 86 = .ok (.invokestatic 224, 3) := by decide +kernel
theorem dX2_copy_89 : decode cX2_copy 89 = .ok (.aload_n 0, 1) := by decide +kernel
theorem dX2_copy_90 : decode cX2_copy 90 = .ok (.getfield 29, 3) := by decide +kernel
theorem dX2_copy_93 : decode cX2_copy 93 = .ok (.iconst 1, 1) := by decide +kernel
theorem dX2_copy_94 : decode cX2_copy 94 = .ok (.iload_n 1, 1) := by decide +kernel
theorem dX2_copy_95 : decode cX2_copy 95 = .ok (.iload_n 2, 1) := by decide +kernel
theorem dX2_copy_96 : decode cX2_copy 96 = .ok (.invokestatic 224, 3) := by decide +kernel
theorem dX2_copy_99 : decode cX2_copy 99 = .ok (.aload_n 0, 1) := by decide +kernel
theorem dX2_copy_100 : decode cX2_copy 100 = .ok (.getfield 32, 3) := by decide +kernel
theorem dX2_copy_103 : decode cX2_copy 103 = .ok (.iconst 1, 1) := by decide +kernel
theorem dX2_copy_104 : decode cX2_copy 104 = .ok (.iload_n 1, 1) := by decide +kernel
theorem dX2_copy_105 : decode cX2_copy 105 = .ok (.iload_n 2, 1) := by decide +kernel
theorem dX2_copy_106 : decode cX2_copy 106 = .ok (.invokestatic 224, 3) := by decide +kernel
theorem dX2_copy_109 : decode cX2_copy 109 = .ok (.aload_n 0, 1) := by decide +kernel
theorem dX2_copy_110 : decode cX2_copy 110 = .ok (.getfield 35, 3) := by decide +kernel
theorem dX2_copy_113 : decode cX2_copy 113 = .ok (.bipush 12, 2) := by decide +kernel
theorem dX2_copy_115 : decode cX2_copy 115 = .ok (.iload_n 1, 1) := by decide +kernel
theorem dX2_copy_116 : decode cX2_copy 116 = .ok (.iload_n 2, 1) := by decide +kernel
theorem dX2_copy_117 : decode cX2_copy 117 = .ok (.invokestatic 224, 3) := by decide +kernel
theorem dX2_copy_120 : decode cX2_copy 120 = .ok (.aload_n 0, 1) := by decide +kernel
theorem dX2_copy_121 : decode cX2_copy 121 = .ok (.getfield 38, 3) := by decide +kernel
theorem dX2_copy_124 : decode cX2_copy 124 = .ok (.bipush 12, 2) := by decide +kernel
theorem dX2_copy_126 : decode cX2_copy 126 = .ok (.iload_n 1, 1) := by decide +kernel
theorem dX2_copy_127 : decode cX2_copy 127 = .ok (.iload_n 2, 1) := by decide +kernel
theorem dX2_copy_128 : decode cX2_copy 128 = .ok (.invokestatic 224, 3) := by decide +kernel
theorem dX2_copy_131 : decode cX2_copy 131 = .ok (.aload_n 0, 1) := by decide +kernel
theorem dX2_copy_132 : decode cX2_copy 132 = .ok (.getfield 41, 3) := by decide +kernel
theorem dX2_copy_135 : decode cX2_copy 135 = .ok (.bipush 12, 2) := by decide +kernel
theorem dX2_copy_137 : decode cX2_copy 137 = .ok (.iload_n 1, 1) := by decide +kernel
theorem dX2_copy_138 : decode cX2_copy 138 = .ok (.iload_n 2, 1) := by decide +kernel
theorem dX2_copy_139 : decode cX2_copy 139 = .ok (.invokestatic 228, 3) := by decide +kernel
theorem dX2_copy_142 : decode cX2_copy 142 = .ok (.aload_n 0, 1) := by decide +kernel
theorem dX2_copy_143 : decode cX2_copy 143 = .ok (.getfield 45, 3) := by decide +kernel
theorem dX2_copy_146 : decode cX2_copy 146 = .ok (.bipush 12, 2) := by decide +kernel
theorem dX2_copy_148 : decode cX2_copy 148 = .ok (.iload_n 1, 1) := by decide +kernel
theorem dX2_copy_149 : decode cX2_copy 149 = .ok (.iload_n 2, 1) := by decide +kernel
theorem dX2_copy_150 : decode cX2_copy 150 = .ok (.invokestatic 224, 3) := by decide +kernel
theorem dX2_copy_153 : decode cX2_copy 153 = .ok (.aload_n 0, 1) := by decide +kernel
theorem dX2_copy_154 : decode cX2_copy 154 = .ok (.getfield 48, 3) := by decide +kernel
theorem dX2_copy_157 : decode cX2_copy 157 = .ok (.bipush 12, 2) := by decide +kernel
theorem dX2_copy_159 : decode cX2_copy 159 = .ok (.iload_n 1, 1) := by decide +kernel
theorem dX2_copy_160 : decode cX2_copy 160 = .ok (.iload_n 2, 1) := by decide +kernel
theorem dX2_copy_161 : decode cX2_copy 161 = .ok (.invokestatic 224, 3) := by decide +kernel
theorem dX2_copy_164 : decode cX2_copy 164 = .ok (.aload_n 0, 1) := by decide +kernel
theorem dX2_copy_165 : decode cX2_copy 165 = .ok (.getfield 51, 3) := by decide +kernel
theorem dX2_copy_168 : decode cX2_copy 168 = .ok (.bipush 12, 2) := by decide +kernel
theorem dX2_copy_170 : decode cX2_copy 170 = .ok (.iload_n 1, 1) := by decide +kernel
theorem dX2_copy_171 : decode cX2_copy 171 = .ok (.iload_n 2, 1) := by decide +kernel
theorem dX2_copy_172 : decode cX2_copy 172 = .ok (.invokestatic 224, 3) := by decide +kernel
theorem dX2_copy_175 : decode cX2_copy 175 = .ok (.aload_n 0, 1) := by decide +kernel
theorem dX2_copy_176 : decode cX2_copy 176 = .ok (.getfield 54, 3) := by decide +kernel
theorem dX2_copy_179 : decode cX2_copy 179 = .ok (.bipush 12, 2) := by decide +kernel
theorem dX2_copy_181 : decode cX2_copy 181 = .ok (.iload_n 1, 1) := by decide +kernel
theorem dX2_copy_182 : decode cX2_copy 182 = .ok (.iload_n 2, 1) := by decide +kernel
theorem dX2_copy_183 : decode cX2_copy 183 = .ok (.invokestatic 228, 3) := by decide +kernel
theorem dX2_copy_186 : decode cX2_copy 186 = .ok (.aload_n 0, 1) := by decide +kernel
theorem dX2_copy_187 : decode cX2_copy 187 = .ok (.getfield 57, 3) := by decide +kernel
theorem dX2_copy_190 : decode cX2_copy 190 = .ok (.bipush 12, 2) := by decide +kernel
theorem dX2_copy_192 : decode cX2_copy 192 = .ok (.iload_n 1, 1) := by decide +kernel
theorem dX2_copy_193 : decode cX2_copy 193 = .ok (.iload_n 2, 1) := by decide +kernel
theorem dX2_copy_194 : decode cX2_copy 194 = .ok (.invokestatic 224, 3) := by decide +kernel
theorem dX2_copy_197 : decode cX2_copy 197 = .ok (.aload_n 0, 1) := by decide +kernel
theorem dX2_copy_198 : decode cX2_copy 198 = .ok (.getfield 60, 3) := by decide +kernel
theorem dX2_copy_201 : decode cX2_copy 201 = .ok (.bipush 12, 2) := by decide +kernel
theorem dX2_copy_203 : decode cX2_copy 203 = .ok (.iload_n 1, 1) := by decide +kernel
theorem dX2_copy_204 : decode cX2_copy 204 = .ok (.iload_n 2, 1) := by decide +kernel
theorem dX2_copy_205 : decode cX2_copy 205 = .ok (.invokestatic 224, 3) := by decide +kernel
theorem dX2_copy_208 : decode cX2_copy 208 = .ok (.aload_n 0, 1) := by decide +kernel
theorem dX2_copy_209 : decode cX2_copy 209 = .ok (.getfield 63, 3) := by decide +kernel
theorem dX2_copy_212 : decode cX2_copy 212 = .ok (.bipush 12, 2) := by decide +kernel
theorem dX2_copy_214 : decode cX2_copy 214 = .ok (.iload_n 1, 1) := by decide +kernel
theorem dX2_copy_215 : decode cX2_copy 215 = .ok (.iload_n 2, 1) := by decide +kernel
theorem dX2_copy_216 : decode cX2_copy 216 = .ok (.invokestatic 224, 3) := by decide +kernel
theorem dX2_copy_219 : decode cX2_copy 219 = .ok (.aload_n 0, 1) := by decide +kernel
theorem dX2_copy_220 : decode cX2_copy 220 = .ok (.getfield 66, 3) := by decide +kernel
theorem dX2_copy_223 : decode cX2_copy 223 = .ok (.bipush 12, 2) := by decide +kernel
theorem dX2_copy_225 : decode cX2_copy 225 = .ok (.iload_n 1, 1) := by decide +kernel
theorem dX2_copy_226 : decode cX2_copy 226 = .ok (.iload_n 2, 1) := by decide +kernel
theorem dX2_copy_227 : decode cX2_copy 227 = .ok (.invokestatic 224, 3) := by decide +kernel
theorem dX2_copy_230 : decode cX2_copy 230 = .ok (.aload_n 0, 1) := by decide +kernel
theorem dX2_copy_231 : decode cX2_copy 231 = .ok (.getfield 69, 3) := by decide +kernel
theorem dX2_copy_234 : decode cX2_copy 234 = .ok (.bipush 12, 2) := by decide +kernel
theorem dX2_copy_236 : decode cX2_copy 236 = .ok (.iload_n 1, 1) := by decide +kernel
theorem dX2_copy_237 : decode cX2_copy 237 = .ok (.iload_n 2, 1) := by decide +kernel
theorem dX2_copy_238 : decode cX2_copy 238 = .ok (.invokestatic 228, 3) := by decide +kernel
theorem dX2_copy_241 : decode cX2_copy 241 = .ok (.aload_n 0, 1) := by decide +kernel
theorem dX2_copy_242 : decode cX2_copy 242 = .ok (.getfield 72, 3) := by decide +kernel
theorem dX2_copy_245 : decode cX2_copy 245 = .ok (.bipush 12, 2) := by decide +kernel
theorem dX2_copy_247 : decode cX2_copy 247 = .ok (.iload_n 1, 1) := by decide +kernel
theorem dX2_copy_248 : decode cX2_copy 248 = .ok (.iload_n 2, 1) := by decide +kernel
theorem dX2_copy_249 : decode cX2_copy 249 = .ok (.invokestatic 224, 3) := by decide +kernel
theorem dX2_copy_252 : decode cX2_copy 252 = .ok (.aload_n 0, 1) := by decide +kernel
theorem dX2_copy_253 : decode cX2_copy 253 = .ok (.getfield 75, 3) := by decide +kernel
theorem dX2_copy_256 : decode cX2_copy 256 = .ok (.bipush 12, 2) := by decide +kernel
theorem dX2_copy_258 : decode cX2_copy 258 = .ok (.iload_n 1, 1) := by decide +kernel
theorem dX2_copy_259 : decode cX2_copy 259 = .ok (.iload_n 2, 1) := by decide +kernel
theorem dX2_copy_260 : decode cX2_copy 260 = .ok (.invokestatic 224, 3) := by decide +kernel
theorem dX2_copy_263 : decode cX2_copy 263 = .ok (.aload_n 0, 1) := by decide +kernel
theorem dX2_copy_264 : decode cX2_copy 264 = .ok (.getfield 78, 3) := by decide +kernel
theorem dX2_copy_267 : decode cX2_copy 267 = .ok (.iconst 1, 1) := by decide +kernel
theorem dX2_copy_268 : decode cX2_copy 268 = .ok (.iload_n 1, 1) := by decide +kernel
theorem dX2_copy_269 : decode cX2_copy 269 = .ok (.iload_n 2, 1) := by decide +kernel
theorem dX2_copy_270 : decode cX2_copy 270 = .ok (.invokestatic 224, 3) := by decide +kernel
theorem dX2_copy_273 : decode cX2_copy 273 = .ok (.aload_n 0, 1) := by decide +kernel
theorem dX2_copy_274 : decode cX2_copy 274 = .ok (.getfield 81, 3) := by decide +kernel
theorem dX2_copy_277 : decode cX2_copy 277 = .ok (.sipush 144, 3) := by decide +kernel
theorem dX2_copy_280 : decode cX2_copy 280 = .ok (.iload_n 1, 1) := by decide +kernel
theorem dX2_copy_281 : decode cX2_copy 281 = .ok (.iload_n 2, 1) := by decide +kernel
theorem dX2_copy_282 : decode cX2_copy 282 = .ok (.invokestatic 224, 3) := by decide +kernel
theorem dX2_copy_285 : decode cX2_copy 285 = .ok (.aload_n 0, 1) := by decide +kernel
theorem dX2_copy_286 : decode cX2_copy 286 = .ok (.iload_n 1, 1) := by decide +kernel
theorem dX2_copy_287 : decode cX2_copy 287 = .ok (.iload_n 2, 1) := by decide +kernel
theorem dX2_copy_288 : decode cX2_copy 288 = .ok (.invokevirtual 232, 3) := by decide +kernel
theorem dX2_copy_291 : decode cX2_copy 291 = .ok (.aload_n 0, 1) := by decide +kernel
theorem dX2_copy_292 : decode cX2_copy 292 = .ok (.getfield 132, 3) := by decide +kernel
theorem dX2_copy_295 : decode cX2_copy 295 = .ok (.iconst 1, 1) := by decide +kernel
theorem dX2_copy_296 : decode cX2_copy 296 = .ok (.iload_n 1, 1) := by decide +kernel
theorem dX2_copy_297 : decode cX2_copy 297 = .ok (.iload_n 2, 1) := by decide +kernel
theorem dX2_copy_298 : decode cX2_copy 298 = .ok (.invokestatic 224, 3) := by decide +kernel
theorem dX2_copy_301 : decode cX2_copy 301 = .ok (.aload_n 0, 1) := by decide +kernel
theorem dX2_copy_302 : decode cX2_copy 302 = .ok (.getfield 135, 3) := by decide +kernel
theorem dX2_copy_305 : decode cX2_copy 305 = .ok (.bipush 12, 2) := by decide +kernel
theorem dX2_copy_307 : decode cX2_copy 307 = .ok (.iload_n 1, 1) := by decide +kernel
theorem dX2_copy_308 : decode cX2_copy 308 = .ok (.iload_n 2, 1) := by decide +kernel
theorem dX2_copy_309 : decode cX2_copy 309 = .ok (.invokestatic 224, 3) := by decide +kernel
theorem dX2_copy_312 : decode cX2_copy 312 = .ok (.aload_n 0, 1) := by decide +kernel
theorem dX2_copy_313 : decode cX2_copy 313 = .ok (.getfield 138, 3) := by decide +kernel
theorem dX2_copy_316 : decode cX2_copy 316 = .ok (.iconst 1, 1) := by decide +kernel
theorem dX2_copy_317 : decode cX2_copy 317 = .ok (.iload_n 1, 1) := by decide +kernel
theorem dX2_copy_318 : decode cX2_copy 318 = .ok (.iload_n 2, 1) := by decide +kernel
theorem dX2_copy_319 : decode cX2_copy 319 = .ok (.invokestatic 224, 3) := by decide +kernel
theorem dX2_copy_322 : decode cX2_copy 322 = .ok (.aload_n 0, 1) := by decide +kernel
theorem dX2_copy_323 : decode cX2_copy 323 = .ok (.getfield 141, 3) := by decide +kernel
theorem dX2_copy_326 : decode cX2_copy 326 = .ok (.iconst 4, 1) := by decide +kernel
theorem dX2_copy_327 : decode cX2_copy 327 = .ok (.iload_n 1, 1) := by decide +kernel
theorem dX2_copy_328 : decode cX2_copy 328 = .ok (.iload_n 2, 1) := by decide +kernel
theorem dX2_copy_329 : decode cX2_copy 329 = .ok (.invokestatic 224, 3) := by decide +kernel
theorem dX2_copy_332 : decode cX2_copy 332 = .ok (.aload_n 0, 1) := by decide +kernel
theorem dX2_copy_333 : decode cX2_copy 333 = .ok (.getfield 144, 3) := by decide +kernel
theorem dX2_copy_336 : decode cX2_copy 336 = .ok (.iconst 4, 1) := by decide +kernel
theorem dX2_copy_337 : decode cX2_copy 337 = .ok (.iload_n 1, 1) := by decide +kernel
theorem dX2_copy_338 : decode cX2_copy 338 = .ok (.iload_n 2, 1) := by decide +kernel
theorem dX2_copy_339 : decode cX2_copy 339 = .ok (.invokestatic 224, 3) := by decide +kernel
theorem dX2_copy_342 : decode cX2_copy 342 = .ok (.aload_n 0, 1) := by decide +kernel
theorem dX2_copy_343 : decode cX2_copy 343 = .ok (.getfield 147, 3) := by decide +kernel
theorem dX2_copy_346 : decode cX2_copy 346 = .ok (.iconst 4, 1) := by decide +kernel
theorem dX2_copy_347 : decode cX2_copy 347 = .ok (.iload_n 1, 1) := by decide +kernel
theorem dX2_copy_348 : decode cX2_copy 348 = .ok (.iload_n 2, 1) := by decide +kernel
theorem dX2_copy_349 : decode cX2_copy 349 = .ok (.invokestatic 224, 3) := by decide +kernel
theorem dX2_copy_352 : decode cX2_copy 352 = .ok (.aload_n 0, 1) := by decide +kernel
theorem dX2_copy_353 : decode cX2_copy 353 = .ok (.getfield 150, 3) := by decide +kernel
theorem dX2_copy_356 : decode cX2_copy 356 = .ok (.bipush 80, 2) := by decide +kernel
theorem dX2_copy_358 : decode cX2_copy 358 = .ok (.iload_n 1, 1) := by decide +kernel
theorem dX2_copy_359 : decode cX2_copy 359 = .ok (.iload_n 2, 1) := by decide +kernel
theorem dX2_copy_360 : decode cX2_copy 360 = .ok (.invokestatic 224, 3) := by decide +kernel
theorem dX2_copy_363 : decode cX2_copy 363 = .ok (.aload_n 0, 1) := by decide +kernel
theorem dX2_copy_364 : decode cX2_copy 364 = .ok (.getfield 153, 3) := by decide +kernel
theorem dX2_copy_367 : decode cX2_copy 367 = .ok (.bipush 80, 2) := by decide +kernel
theorem dX2_copy_369 : decode cX2_copy 369 = .ok (.iload_n 1, 1) := by decide +kernel
theorem dX2_copy_370 : decode cX2_copy 370 = .ok (.iload_n 2, 1) := by decide +kernel
theorem dX2_copy_371 : decode cX2_copy 371 = .ok (.invokestatic 224, 3) := by decide +kernel
theorem dX2_copy_374 : decode cX2_copy 374 = .ok (.aload_n 0, 1) := by decide +kernel
theorem dX2_copy_375 : decode cX2_copy 375 = .ok (.getfield 156, 3) := by decide +kernel
theorem dX2_copy_378 : decode cX2_copy 378 = .ok (.bipush 80, 2) := by decide +kernel
theorem dX2_copy_380 : decode cX2_copy 380 = .ok (.iload_n 1, 1) := by decide +kernel
theorem dX2_copy_381 : decode cX2_copy 381 = .ok (.iload_n 2, 1) := by decide +kernel
theorem dX2_copy_382 : decode cX2_copy 382 = .ok (.invokestatic 224, 3) := by decide +kernel
theorem dX2_copy_385 : decode cX2_copy 385 = .ok (.aload_n 0, 1) := by decide +kernel
theorem dX2_copy_386 : decode cX2_copy 386 = .ok (.getfield 159, 3) := by decide +kernel
theorem dX2_copy_389 : decode cX2_copy 389 = .ok (.sipush 320, 3) := by decide +kernel
theorem dX2_copy_392 : decode cX2_copy 392 = .ok (.iload_n 1, 1) := by decide +kernel
theorem dX2_copy_393 : decode cX2_copy 393 = .ok (.iload_n 2, 1) := by decide +kernel
theorem dX2_copy_394 : decode cX2_copy 394 = .ok (.invokestatic 224, 3) := by decide +kernel
theorem dX2_copy_397 : decode cX2_copy 397 = .ok (.aload_n 0, 1) := by decide +kernel
theorem dX2_copy_398 : decode cX2_copy 398 = .ok (.getfield 162, 3) := by decide +kernel
theorem dX2_copy_401 : decode cX2_copy 401 = .ok (.sipush 320, 3) := by decide +kernel
theorem dX2_copy_404 : decode cX2_copy 404 = .ok (.iload_n 1, 1) := by decide +kernel
theorem dX2_copy_405 : decode cX2_copy 405 = .ok (.iload_n 2, 1) := by decide +kernel
theorem dX2_copy_406 : decode cX2_copy 406 = .ok (.invokestatic 224, 3) := by decide +kernel
theorem dX2_copy_409 : decode cX2_copy 409 = .ok (.aload_n 0, 1) := by decide +kernel
theorem dX2_copy_410 : decode cX2_copy 410 = .ok (.getfield 165, 3) := by decide +kernel
theorem dX2_copy_413 : decode cX2_copy 413 = .ok (.sipush 320, 3) := by decide +kernel
theorem dX2_copy_416 : decode cX2_copy 416 = .ok (.iload_n 1, 1) := by decide +kernel
theorem dX2_copy_417 : decode cX2_copy 417 = .ok (.iload_n 2, 1) := by decide +kernel
theorem dX2_copy_418 : decode cX2_copy 418 = .ok (.invokestatic 224, 3) := by decide +kernel
theorem dX2_copy_421 : decode cX2_copy 421 = .ok (.return_, 1) := by decide +kernel
abbrev cX2_move : ByteArray := prog_15_method_4_code
def yX2_move : MethodName := ⟨RX2, "move", "([IIII)V"⟩
theorem dX2_move_0 : decode cX2_move 0 = .ok (.iconst 0, 1) := by decide +kernel
theorem dX2_move_1 : decode cX2_move 1 = .ok (.istore 4, 2) := by decide +kernel
theorem dX2_move_3 : decode cX2_move 3 = .ok (.iload 4, 2) := by decide +kernel
theorem dX2_move_5 : decode cX2_move 5 = .ok (.iload_n 1, 1) := by decide +kernel
theorem dX2_move_6 : decode cX2_move 6 = .ok (.if_icmp .ge 25, 3) := by decide +kernel
theorem dX2_move_9 : decode cX2_move 9 = .ok (.aload_n 0, 1) := by decide +kernel
theorem dX2_move_10 : decode cX2_move 10 = .ok (.iload_n 1, 1) := by decide +kernel
theorem dX2_move_11 : decode cX2_move 11 = .ok (.iload_n 3, 1) := by decide +kernel
theorem dX2_move_12 : decode cX2_move 12 = .ok (.imul, 1) := by decide +kernel
theorem dX2_move_13 : decode cX2_move 13 = .ok (.iload 4, 2) := by decide +kernel
theorem dX2_move_15 : decode cX2_move 15 = .ok (.iadd, 1) := by decide +kernel
theorem dX2_move_16 : decode cX2_move 16 = .ok (.aload_n 0, 1) := by decide +kernel
theorem dX2_move_17 : decode cX2_move 17 = .ok (.iload_n 1, 1) := by decide +kernel
theorem dX2_move_18 : decode cX2_move 18 = .ok (.iload_n 2, 1) := by decide +kernel
theorem dX2_move_19 : decode cX2_move 19 = .ok (.imul, 1) := by decide +kernel
theorem dX2_move_20 : decode cX2_move 20 = .ok (.iload 4, 2) := by decide +kernel
theorem dX2_move_22 : decode cX2_move 22 = .ok (.iadd, 1) := by decide +kernel
theorem dX2_move_23 : decode cX2_move 23 = .ok (.iaload, 1) := by decide +kernel
theorem dX2_move_24 : decode cX2_move 24 = .ok (.iastore, 1) := by decide +kernel
theorem dX2_move_25 : decode cX2_move 25 = .ok (.iinc 4 1, 3) := by decide +kernel
theorem dX2_move_28 : decode cX2_move 28 = .ok (.goto (-25), 3) := by decide +kernel
theorem dX2_move_31 : decode cX2_move 31 = .ok (.return_, 1) := by decide +kernel
abbrev cX2_moveBits : ByteArray := prog_15_method_5_code
def yX2_moveBits : MethodName := ⟨RX2, "moveBits", "([ZIII)V"⟩
theorem dX2_moveBits_0 : decode cX2_moveBits 0 = .ok (.iconst 0, 1) := by decide +kernel
theorem dX2_moveBits_1 : decode cX2_moveBits 1 = .ok (.istore 4, 2) := by decide +kernel
theorem dX2_moveBits_3 : decode cX2_moveBits 3 = .ok (.iload 4, 2) := by decide +kernel
theorem dX2_moveBits_5 : decode cX2_moveBits 5 = .ok (.iload_n 1, 1) := by decide +kernel
theorem dX2_moveBits_6 : decode cX2_moveBits 6 = .ok (.if_icmp .ge 25, 3) := by decide +kernel
theorem dX2_moveBits_9 : decode cX2_moveBits 9 = .ok (.aload_n 0, 1) := by decide +kernel
theorem dX2_moveBits_10 : decode cX2_moveBits 10 = .ok (.iload_n 1, 1) := by decide +kernel
theorem dX2_moveBits_11 : decode cX2_moveBits 11 = .ok (.iload_n 3, 1) := by decide +kernel
theorem dX2_moveBits_12 : decode cX2_moveBits 12 = .ok (.imul, 1) := by decide +kernel
theorem dX2_moveBits_13 : decode cX2_moveBits 13 = .ok (.iload 4, 2) := by decide +kernel
theorem dX2_moveBits_15 : decode cX2_moveBits 15 = .ok (.iadd, 1) := by decide +kernel
theorem dX2_moveBits_16 : decode cX2_moveBits 16 = .ok (.aload_n 0, 1) := by decide +kernel
theorem dX2_moveBits_17 : decode cX2_moveBits 17 = .ok (.iload_n 1, 1) := by decide +kernel
theorem dX2_moveBits_18 : decode cX2_moveBits 18 = .ok (.iload_n 2, 1) := by decide +kernel
theorem dX2_moveBits_19 : decode cX2_moveBits 19 = .ok (.imul, 1) := by decide +kernel
theorem dX2_moveBits_20 : decode cX2_moveBits 20 = .ok (.iload 4, 2) := by decide +kernel
theorem dX2_moveBits_22 : decode cX2_moveBits 22 = .ok (.iadd, 1) := by decide +kernel
theorem dX2_moveBits_23 : decode cX2_moveBits 23 = .ok (.baload, 1) := by decide +kernel
theorem dX2_moveBits_24 : decode cX2_moveBits 24 = .ok (.bastore, 1) := by decide +kernel
theorem dX2_moveBits_25 : decode cX2_moveBits 25 = .ok (.iinc 4 1, 3) := by decide +kernel
theorem dX2_moveBits_28 : decode cX2_moveBits 28 = .ok (.goto (-25), 3) := by decide +kernel
theorem dX2_moveBits_31 : decode cX2_moveBits 31 = .ok (.return_, 1) := by decide +kernel
abbrev cX2_copyDebts : ByteArray := prog_15_method_7_code
def yX2_copyDebts : MethodName := ⟨RX2, "copyDebts", "(II)V"⟩
theorem dX2_copyDebts_0 : decode cX2_copyDebts 0 = .ok (.aload_n 0, 1) := by decide +kernel
theorem dX2_copyDebts_1 : decode cX2_copyDebts 1 = .ok (.getfield 84, 3) := by decide +kernel
theorem dX2_copyDebts_4 : decode cX2_copyDebts 4 = .ok (.iconst 1, 1) := by decide +kernel
theorem dX2_copyDebts_5 : decode cX2_copyDebts 5 = .ok (.iload_n 1, 1) := by decide +kernel
theorem dX2_copyDebts_6 : decode cX2_copyDebts 6 = .ok (.iload_n 2, 1) := by decide +kernel
theorem dX2_copyDebts_7 : decode cX2_copyDebts 7 = .ok (.invokestatic 224, 3) := by decide +kernel
theorem dX2_copyDebts_10 : decode cX2_copyDebts 10 = .ok (.aload_n 0, 1) := by decide +kernel
theorem dX2_copyDebts_11 : decode cX2_copyDebts 11 = .ok (.getfield 87, 3) := by decide +kernel
theorem dX2_copyDebts_14 : decode cX2_copyDebts 14 = .ok (.bipush 40, 2) := by decide +kernel
theorem dX2_copyDebts_16 : decode cX2_copyDebts 16 = .ok (.iload_n 1, 1) := by decide +kernel
theorem dX2_copyDebts_17 : decode cX2_copyDebts 17 = .ok (.iload_n 2, 1) := by decide +kernel
theorem dX2_copyDebts_18 : decode cX2_copyDebts 18 = .ok (.invokestatic 224, 3) := by decide +kernel
theorem dX2_copyDebts_21 : decode cX2_copyDebts 21 = .ok (.aload_n 0, 1) := by decide +kernel
theorem dX2_copyDebts_22 : decode cX2_copyDebts 22 = .ok (.getfield 90, 3) := by decide +kernel
theorem dX2_copyDebts_25 : decode cX2_copyDebts 25 = .ok (.bipush 40, 2) := by decide +kernel
theorem dX2_copyDebts_27 : decode cX2_copyDebts 27 = .ok (.iload_n 1, 1) := by decide +kernel
theorem dX2_copyDebts_28 : decode cX2_copyDebts 28 = .ok (.iload_n 2, 1) := by decide +kernel
theorem dX2_copyDebts_29 : decode cX2_copyDebts 29 = .ok (.invokestatic 224, 3) := by decide +kernel
theorem dX2_copyDebts_32 : decode cX2_copyDebts 32 = .ok (.aload_n 0, 1) := by decide +kernel
theorem dX2_copyDebts_33 : decode cX2_copyDebts 33 = .ok (.getfield 93, 3) := by decide +kernel
theorem dX2_copyDebts_36 : decode cX2_copyDebts 36 = .ok (.bipush 40, 2) := by decide +kernel
theorem dX2_copyDebts_38 : decode cX2_copyDebts 38 = .ok (.iload_n 1, 1) := by decide +kernel
theorem dX2_copyDebts_39 : decode cX2_copyDebts 39 = .ok (.iload_n 2, 1) := by decide +kernel
theorem dX2_copyDebts_40 : decode cX2_copyDebts 40 = .ok (.invokestatic 224, 3) := by decide +kernel
theorem dX2_copyDebts_43 : decode cX2_copyDebts 43 = .ok (.aload_n 0, 1) := by decide +kernel
theorem dX2_copyDebts_44 : decode cX2_copyDebts 44 = .ok (.getfield 96, 3) := by decide +kernel
theorem dX2_copyDebts_47 : decode cX2_copyDebts 47 = .ok (.bipush 40, 2) := by decide +kernel
theorem dX2_copyDebts_49 : decode cX2_copyDebts 49 = .ok (.iload_n 1, 1) := by decide +kernel
theorem dX2_copyDebts_50 : decode cX2_copyDebts 50 = .ok (.iload_n 2, 1) := by decide +kernel
theorem dX2_copyDebts_51 : decode cX2_copyDebts 51 = .ok (.invokestatic 224, 3) := by decide +kernel
theorem dX2_copyDebts_54 : decode cX2_copyDebts 54 = .ok (.aload_n 0, 1) := by decide +kernel
theorem dX2_copyDebts_55 : decode cX2_copyDebts 55 = .ok (.getfield 99, 3) := by decide +kernel
theorem dX2_copyDebts_58 : decode cX2_copyDebts 58 = .ok (.bipush 40, 2) := by decide +kernel
theorem dX2_copyDebts_60 : decode cX2_copyDebts 60 = .ok (.iload_n 1, 1) := by decide +kernel
theorem dX2_copyDebts_61 : decode cX2_copyDebts 61 = .ok (.iload_n 2, 1) := by decide +kernel
theorem dX2_copyDebts_62 : decode cX2_copyDebts 62 = .ok (.invokestatic 224, 3) := by decide +kernel
theorem dX2_copyDebts_65 : decode cX2_copyDebts 65 = .ok (.aload_n 0, 1) := by decide +kernel
theorem dX2_copyDebts_66 : decode cX2_copyDebts 66 = .ok (.getfield 102, 3) := by decide +kernel
theorem dX2_copyDebts_69 : decode cX2_copyDebts 69 = .ok (.bipush 40, 2) := by decide +kernel
theorem dX2_copyDebts_71 : decode cX2_copyDebts 71 = .ok (.iload_n 1, 1) := by decide +kernel
theorem dX2_copyDebts_72 : decode cX2_copyDebts 72 = .ok (.iload_n 2, 1) := by decide +kernel
theorem dX2_copyDebts_73 : decode cX2_copyDebts 73 = .ok (.invokestatic 224, 3) := by decide +kernel
theorem dX2_copyDebts_76 : decode cX2_copyDebts 76 = .ok (.aload_n 0, 1) := by decide +kernel
theorem dX2_copyDebts_77 : decode cX2_copyDebts 77 = .ok (.getfield 105, 3) := by decide +kernel
theorem dX2_copyDebts_80 : decode cX2_copyDebts 80 = .ok (.bipush 40, 2) := by decide +kernel
theorem dX2_copyDebts_82 : decode cX2_copyDebts 82 = .ok (.iload_n 1, 1) := by decide +kernel
theorem dX2_copyDebts_83 : decode cX2_copyDebts 83 = .ok (.iload_n 2, 1) := by decide +kernel
theorem dX2_copyDebts_84 : decode cX2_copyDebts 84 = .ok (.invokestatic 224, 3) := by decide +kernel
theorem dX2_copyDebts_87 : decode cX2_copyDebts 87 = .ok (.aload_n 0, 1) := by decide +kernel
theorem dX2_copyDebts_88 : decode cX2_copyDebts 88 = .ok (.getfield 108, 3) := by decide +kernel
theorem dX2_copyDebts_91 : decode cX2_copyDebts 91 = .ok (.bipush 40, 2) := by decide +kernel
theorem dX2_copyDebts_93 : decode cX2_copyDebts 93 = .ok (.iload_n 1, 1) := by decide +kernel
theorem dX2_copyDebts_94 : decode cX2_copyDebts 94 = .ok (.iload_n 2, 1) := by decide +kernel
theorem dX2_copyDebts_95 : decode cX2_copyDebts 95 = .ok (.invokestatic 224, 3) := by decide +kernel
theorem dX2_copyDebts_98 : decode cX2_copyDebts 98 = .ok (.aload_n 0, 1) := by decide +kernel
theorem dX2_copyDebts_99 : decode cX2_copyDebts 99 = .ok (.getfield 111, 3) := by decide +kernel
theorem dX2_copyDebts_102 : decode cX2_copyDebts 102 = .ok (.bipush 40, 2) := by decide +kernel
theorem dX2_copyDebts_104 : decode cX2_copyDebts 104 = .ok (.iload_n 1, 1) := by decide +kernel
theorem dX2_copyDebts_105 : decode cX2_copyDebts 105 = .ok (.iload_n 2, 1) := by decide +kernel
theorem dX2_copyDebts_106 : decode cX2_copyDebts 106 = .ok (.invokestatic 224, 3) := by decide +kernel
theorem dX2_copyDebts_109 : decode cX2_copyDebts 109 = .ok (.aload_n 0, 1) := by decide +kernel
theorem dX2_copyDebts_110 : decode cX2_copyDebts 110 = .ok (.getfield 114, 3) := by decide +kernel
theorem dX2_copyDebts_113 : decode cX2_copyDebts 113 = .ok (.bipush 40, 2) := by decide +kernel
theorem dX2_copyDebts_115 : decode cX2_copyDebts 115 = .ok (.iload_n 1, 1) := by decide +kernel
theorem dX2_copyDebts_116 : decode cX2_copyDebts 116 = .ok (.iload_n 2, 1) := by decide +kernel
theorem dX2_copyDebts_117 : decode cX2_copyDebts 117 = .ok (.invokestatic 224, 3) := by decide +kernel
theorem dX2_copyDebts_120 : decode cX2_copyDebts 120 = .ok (.aload_n 0, 1) := by decide +kernel
theorem dX2_copyDebts_121 : decode cX2_copyDebts 121 = .ok (.getfield 117, 3) := by decide +kernel
theorem dX2_copyDebts_124 : decode cX2_copyDebts 124 = .ok (.bipush 40, 2) := by decide +kernel
theorem dX2_copyDebts_126 : decode cX2_copyDebts 126 = .ok (.iload_n 1, 1) := by decide +kernel
theorem dX2_copyDebts_127 : decode cX2_copyDebts 127 = .ok (.iload_n 2, 1) := by decide +kernel
theorem dX2_copyDebts_128 : decode cX2_copyDebts 128 = .ok (.invokestatic 224, 3) := by decide +kernel
theorem dX2_copyDebts_131 : decode cX2_copyDebts 131 = .ok (.aload_n 0, 1) := by decide +kernel
theorem dX2_copyDebts_132 : decode cX2_copyDebts 132 = .ok (.getfield 120, 3) := by decide +kernel
theorem dX2_copyDebts_135 : decode cX2_copyDebts 135 = .ok (.bipush 40, 2) := by decide +kernel
theorem dX2_copyDebts_137 : decode cX2_copyDebts 137 = .ok (.iload_n 1, 1) := by decide +kernel
theorem dX2_copyDebts_138 : decode cX2_copyDebts 138 = .ok (.iload_n 2, 1) := by decide +kernel
theorem dX2_copyDebts_139 : decode cX2_copyDebts 139 = .ok (.invokestatic 224, 3) := by decide +kernel
theorem dX2_copyDebts_142 : decode cX2_copyDebts 142 = .ok (.aload_n 0, 1) := by decide +kernel
theorem dX2_copyDebts_143 : decode cX2_copyDebts 143 = .ok (.getfield 123, 3) := by decide +kernel
theorem dX2_copyDebts_146 : decode cX2_copyDebts 146 = .ok (.bipush 40, 2) := by decide +kernel
theorem dX2_copyDebts_148 : decode cX2_copyDebts 148 = .ok (.iload_n 1, 1) := by decide +kernel
theorem dX2_copyDebts_149 : decode cX2_copyDebts 149 = .ok (.iload_n 2, 1) := by decide +kernel
theorem dX2_copyDebts_150 : decode cX2_copyDebts 150 = .ok (.invokestatic 228, 3) := by decide +kernel
theorem dX2_copyDebts_153 : decode cX2_copyDebts 153 = .ok (.aload_n 0, 1) := by decide +kernel
theorem dX2_copyDebts_154 : decode cX2_copyDebts 154 = .ok (.getfield 126, 3) := by decide +kernel
theorem dX2_copyDebts_157 : decode cX2_copyDebts 157 = .ok (.bipush 40, 2) := by decide +kernel
theorem dX2_copyDebts_159 : decode cX2_copyDebts 159 = .ok (.iload_n 1, 1) := by decide +kernel
theorem dX2_copyDebts_160 : decode cX2_copyDebts 160 = .ok (.iload_n 2, 1) := by decide +kernel
theorem dX2_copyDebts_161 : decode cX2_copyDebts 161 = .ok (.invokestatic 224, 3) := by decide +kernel
theorem dX2_copyDebts_164 : decode cX2_copyDebts 164 = .ok (.aload_n 0, 1) := by decide +kernel
theorem dX2_copyDebts_165 : decode cX2_copyDebts 165 = .ok (.getfield 129, 3) := by decide +kernel
theorem dX2_copyDebts_168 : decode cX2_copyDebts 168 = .ok (.bipush 40, 2) := by decide +kernel
theorem dX2_copyDebts_170 : decode cX2_copyDebts 170 = .ok (.iload_n 1, 1) := by decide +kernel
theorem dX2_copyDebts_171 : decode cX2_copyDebts 171 = .ok (.iload_n 2, 1) := by decide +kernel
theorem dX2_copyDebts_172 : decode cX2_copyDebts 172 = .ok (.invokestatic 224, 3) := by decide +kernel
theorem dX2_copyDebts_175 : decode cX2_copyDebts 175 = .ok (.return_, 1) := by decide +kernel
abbrev cX2_again : ByteArray := prog_15_method_87_code
def yX2_again : MethodName := ⟨RX2, "again", "(I)Z"⟩
theorem dX2_again_0 : decode cX2_again 0 = .ok (.aload_n 0, 1) := by decide +kernel
theorem dX2_again_1 : decode cX2_again 1 = .ok (.iconst 0, 1) := by decide +kernel
theorem dX2_again_2 : decode cX2_again 2 = .ok (.putfield 220, 3) := by decide +kernel
theorem dX2_again_5 : decode cX2_again 5 = .ok (.iload_n 1, 1) := by decide +kernel
theorem dX2_again_6 : decode cX2_again 6 = .ok (.iconst 0, 1) := by decide +kernel
theorem dX2_again_7 : decode cX2_again 7 = .ok (.iconst 2, 1) := by decide +kernel
theorem dX2_again_8 : decode cX2_again 8 = .ok (.invokestatic 236, 3) := by decide +kernel
theorem dX2_again_11 : decode cX2_again 11 = .ok (.ifCond .eq 12, 3) := by decide +kernel
theorem dX2_again_14 : decode cX2_again 14 = .ok (.aload_n 0, 1) := by decide +kernel
theorem dX2_again_15 : decode cX2_again 15 = .ok (.getfield 217, 3) := by decide +kernel
theorem dX2_again_18 : decode cX2_again 18 = .ok (.iload_n 1, 1) := by decide +kernel
theorem dX2_again_19 : decode cX2_again 19 = .ok (.baload, 1) := by decide +kernel
theorem dX2_again_20 : decode cX2_again 20 = .ok (.ifCond .ne 5, 3) := by decide +kernel
theorem dX2_again_23 : decode cX2_again 23 = .ok (.iconst 0, 1) := by decide +kernel
theorem dX2_again_24 : decode cX2_again 24 = .ok (.ireturn, 1) := by decide +kernel
theorem dX2_again_25 : decode cX2_again 25 = .ok (.aload_n 0, 1) := by decide +kernel
theorem dX2_again_26 : decode cX2_again 26 = .ok (.iload_n 1, 1) := by decide +kernel
theorem dX2_again_27 : decode cX2_again 27 = .ok (.iconst 1, 1) := by decide +kernel
theorem dX2_again_28 : decode cX2_again 28 = .ok (.iadd, 1) := by decide +kernel
theorem dX2_again_29 : decode cX2_again 29 = .ok (.iconst 0, 1) := by decide +kernel
theorem dX2_again_30 : decode cX2_again 30 = .ok (.invokevirtual 462, 3) := by decide +kernel
theorem dX2_again_33 : decode cX2_again 33 = .ok (.iconst 1, 1) := by decide +kernel
theorem dX2_again_34 : decode cX2_again 34 = .ok (.ireturn, 1) := by decide +kernel
theorem q87 : (Jvm.Cond.initialized "DebtorsHouseModel") ∈ lw_all := lw_g (lw_at lw_m1 7 rfl) rfl
theorem q377 : (Jvm.Cond.selects "DebtorsHouseModel" ({ cls := "java/lang/Object", name := "getClass", desc := "()Ljava/lang/Class;" } : Jvm.MethodName) ({ cls := "java/lang/Object", name := "getClass", desc := "()Ljava/lang/Class;" } : Jvm.MethodName)) ∈ lw_all := lw_g (lw_at lw_m2 57 rfl) rfl
theorem q1388 : (Jvm.Cond.instantiable "DebtorsHouseModel" (80 : Nat)) ∈ lw_all := lw_g (lw_at lw_m6 108 rfl) rfl
theorem q1390 : (Jvm.Cond.instanceMethod ({ cls := "DebtorsHouseModel", name := "<init>", desc := "()V" } : Jvm.MethodName)) ∈ lw_all := lw_g (lw_at lw_m6 110 rfl) rfl
theorem q1391 : (Jvm.Cond.code ({ cls := "DebtorsHouseModel", name := "<init>", desc := "()V" } : Jvm.MethodName) prog_15_method_1_code (1 : Nat) (Option.none : Option Jvm.ClassFile.FieldType)) ∈ lw_all := lw_g (lw_at lw_m6 111 rfl) rfl
theorem q1392 : (Jvm.Cond.methodLink "DebtorsHouseModel" (1 : Nat) ({ cls := "java/lang/Object", name := "<init>", desc := "()V" } : Jvm.MethodName)) ∈ lw_all := lw_g (lw_at lw_m6 112 rfl) rfl
theorem q1393 : (Jvm.Cond.fieldLink "DebtorsHouseModel" (220 : Nat) "DebtorsHouseModel" "code" "I") ∈ lw_all := lw_g (lw_at lw_m6 113 rfl) rfl
theorem q1394 : (Jvm.Cond.fieldLink "DebtorsHouseModel" (7 : Nat) "DebtorsHouseModel" "tape" "[B") ∈ lw_all := lw_g (lw_at lw_m6 114 rfl) rfl
theorem q1395 : (Jvm.Cond.fieldLink "DebtorsHouseModel" (13 : Nat) "DebtorsHouseModel" "size" "[I") ∈ lw_all := lw_g (lw_at lw_m6 115 rfl) rfl
theorem q1396 : (Jvm.Cond.fieldLink "DebtorsHouseModel" (17 : Nat) "DebtorsHouseModel" "fault" "[I") ∈ lw_all := lw_g (lw_at lw_m6 116 rfl) rfl
theorem q1397 : (Jvm.Cond.fieldLink "DebtorsHouseModel" (20 : Nat) "DebtorsHouseModel" "faultPlace" "[I") ∈ lw_all := lw_g (lw_at lw_m6 117 rfl) rfl
theorem q1398 : (Jvm.Cond.fieldLink "DebtorsHouseModel" (23 : Nat) "DebtorsHouseModel" "days" "[I") ∈ lw_all := lw_g (lw_at lw_m6 118 rfl) rfl
theorem q1399 : (Jvm.Cond.fieldLink "DebtorsHouseModel" (26 : Nat) "DebtorsHouseModel" "hours" "[I") ∈ lw_all := lw_g (lw_at lw_m6 119 rfl) rfl
theorem q1400 : (Jvm.Cond.fieldLink "DebtorsHouseModel" (29 : Nat) "DebtorsHouseModel" "feesPaid" "[I") ∈ lw_all := lw_g (lw_at lw_m6 120 rfl) rfl
theorem q1401 : (Jvm.Cond.fieldLink "DebtorsHouseModel" (32 : Nat) "DebtorsHouseModel" "persons" "[I") ∈ lw_all := lw_g (lw_at lw_m6 121 rfl) rfl
theorem q1402 : (Jvm.Cond.fieldLink "DebtorsHouseModel" (35 : Nat) "DebtorsHouseModel" "coins" "[I") ∈ lw_all := lw_g (lw_at lw_m6 122 rfl) rfl
theorem q1403 : (Jvm.Cond.fieldLink "DebtorsHouseModel" (38 : Nat) "DebtorsHouseModel" "children" "[I") ∈ lw_all := lw_g (lw_at lw_m6 123 rfl) rfl
theorem q1404 : (Jvm.Cond.fieldLink "DebtorsHouseModel" (41 : Nat) "DebtorsHouseModel" "isHeld" "[Z") ∈ lw_all := lw_g (lw_at lw_m6 124 rfl) rfl
theorem q1405 : (Jvm.Cond.fieldLink "DebtorsHouseModel" (45 : Nat) "DebtorsHouseModel" "heldSince" "[I") ∈ lw_all := lw_g (lw_at lw_m6 125 rfl) rfl
theorem q1406 : (Jvm.Cond.fieldLink "DebtorsHouseModel" (48 : Nat) "DebtorsHouseModel" "rooms" "[I") ∈ lw_all := lw_g (lw_at lw_m6 126 rfl) rfl
theorem q1407 : (Jvm.Cond.fieldLink "DebtorsHouseModel" (51 : Nat) "DebtorsHouseModel" "fees" "[I") ∈ lw_all := lw_g (lw_at lw_m6 127 rfl) rfl
theorem q1408 : (Jvm.Cond.fieldLink "DebtorsHouseModel" (54 : Nat) "DebtorsHouseModel" "isOut" "[Z") ∈ lw_all := lw_g (lw_at lw_m6 128 rfl) rfl
theorem q1409 : (Jvm.Cond.fieldLink "DebtorsHouseModel" (57 : Nat) "DebtorsHouseModel" "late" "[I") ∈ lw_all := lw_g (lw_at lw_m6 129 rfl) rfl
theorem q1410 : (Jvm.Cond.fieldLink "DebtorsHouseModel" (60 : Nat) "DebtorsHouseModel" "turns" "[I") ∈ lw_all := lw_g (lw_at lw_m6 130 rfl) rfl
theorem q1411 : (Jvm.Cond.fieldLink "DebtorsHouseModel" (63 : Nat) "DebtorsHouseModel" "escaped" "[I") ∈ lw_all := lw_g (lw_at lw_m6 131 rfl) rfl
theorem q1412 : (Jvm.Cond.fieldLink "DebtorsHouseModel" (66 : Nat) "DebtorsHouseModel" "detains" "[I") ∈ lw_all := lw_g (lw_at lw_m6 132 rfl) rfl
theorem q1413 : (Jvm.Cond.fieldLink "DebtorsHouseModel" (69 : Nat) "DebtorsHouseModel" "surrendered" "[Z") ∈ lw_all := lw_g (lw_at lw_m6 133 rfl) rfl
theorem q1414 : (Jvm.Cond.fieldLink "DebtorsHouseModel" (72 : Nat) "DebtorsHouseModel" "bookSum" "[I") ∈ lw_all := lw_g (lw_at lw_m6 134 rfl) rfl
theorem q1415 : (Jvm.Cond.fieldLink "DebtorsHouseModel" (75 : Nat) "DebtorsHouseModel" "bookLow" "[I") ∈ lw_all := lw_g (lw_at lw_m6 135 rfl) rfl
theorem q1416 : (Jvm.Cond.fieldLink "DebtorsHouseModel" (78 : Nat) "DebtorsHouseModel" "bookRows" "[I") ∈ lw_all := lw_g (lw_at lw_m6 136 rfl) rfl
theorem q1417 : (Jvm.Cond.fieldLink "DebtorsHouseModel" (81 : Nat) "DebtorsHouseModel" "leasts" "[I") ∈ lw_all := lw_g (lw_at lw_m6 137 rfl) rfl
theorem q1418 : (Jvm.Cond.fieldLink "DebtorsHouseModel" (84 : Nat) "DebtorsHouseModel" "debts" "[I") ∈ lw_all := lw_g (lw_at lw_m6 138 rfl) rfl
theorem q1419 : (Jvm.Cond.fieldLink "DebtorsHouseModel" (87 : Nat) "DebtorsHouseModel" "debtor" "[I") ∈ lw_all := lw_g (lw_at lw_m6 139 rfl) rfl
theorem q1420 : (Jvm.Cond.fieldLink "DebtorsHouseModel" (90 : Nat) "DebtorsHouseModel" "creditor" "[I") ∈ lw_all := lw_g (lw_at lw_m6 140 rfl) rfl
theorem q1421 : (Jvm.Cond.fieldLink "DebtorsHouseModel" (93 : Nat) "DebtorsHouseModel" "sums" "[I") ∈ lw_all := lw_g (lw_at lw_m6 141 rfl) rfl
theorem q1422 : (Jvm.Cond.fieldLink "DebtorsHouseModel" (96 : Nat) "DebtorsHouseModel" "rank" "[I") ∈ lw_all := lw_g (lw_at lw_m6 142 rfl) rfl
theorem q1423 : (Jvm.Cond.fieldLink "DebtorsHouseModel" (99 : Nat) "DebtorsHouseModel" "rate" "[I") ∈ lw_all := lw_g (lw_at lw_m6 143 rfl) rfl
theorem q1424 : (Jvm.Cond.fieldLink "DebtorsHouseModel" (102 : Nat) "DebtorsHouseModel" "since" "[I") ∈ lw_all := lw_g (lw_at lw_m6 144 rfl) rfl
theorem q1425 : (Jvm.Cond.fieldLink "DebtorsHouseModel" (105 : Nat) "DebtorsHouseModel" "toldOn" "[I") ∈ lw_all := lw_g (lw_at lw_m6 145 rfl) rfl
theorem q1426 : (Jvm.Cond.fieldLink "DebtorsHouseModel" (108 : Nat) "DebtorsHouseModel" "state" "[I") ∈ lw_all := lw_g (lw_at lw_m6 146 rfl) rfl
theorem q1427 : (Jvm.Cond.fieldLink "DebtorsHouseModel" (111 : Nat) "DebtorsHouseModel" "principal" "[I") ∈ lw_all := lw_g (lw_at lw_m6 147 rfl) rfl
theorem q1428 : (Jvm.Cond.fieldLink "DebtorsHouseModel" (114 : Nat) "DebtorsHouseModel" "keptInterest" "[I") ∈ lw_all := lw_g (lw_at lw_m6 148 rfl) rfl
theorem q1429 : (Jvm.Cond.fieldLink "DebtorsHouseModel" (117 : Nat) "DebtorsHouseModel" "reckoned" "[I") ∈ lw_all := lw_g (lw_at lw_m6 149 rfl) rfl
theorem q1430 : (Jvm.Cond.fieldLink "DebtorsHouseModel" (120 : Nat) "DebtorsHouseModel" "costs" "[I") ∈ lw_all := lw_g (lw_at lw_m6 150 rfl) rfl
theorem q1431 : (Jvm.Cond.fieldLink "DebtorsHouseModel" (123 : Nat) "DebtorsHouseModel" "bought" "[Z") ∈ lw_all := lw_g (lw_at lw_m6 151 rfl) rfl
theorem q1432 : (Jvm.Cond.fieldLink "DebtorsHouseModel" (126 : Nat) "DebtorsHouseModel" "lack" "[I") ∈ lw_all := lw_g (lw_at lw_m6 152 rfl) rfl
theorem q1433 : (Jvm.Cond.fieldLink "DebtorsHouseModel" (129 : Nat) "DebtorsHouseModel" "endedOn" "[I") ∈ lw_all := lw_g (lw_at lw_m6 153 rfl) rfl
theorem q1434 : (Jvm.Cond.fieldLink "DebtorsHouseModel" (132 : Nat) "DebtorsHouseModel" "handMany" "[I") ∈ lw_all := lw_g (lw_at lw_m6 154 rfl) rfl
theorem q1435 : (Jvm.Cond.fieldLink "DebtorsHouseModel" (135 : Nat) "DebtorsHouseModel" "hand" "[I") ∈ lw_all := lw_g (lw_at lw_m6 155 rfl) rfl
theorem q1436 : (Jvm.Cond.fieldLink "DebtorsHouseModel" (138 : Nat) "DebtorsHouseModel" "acts" "[I") ∈ lw_all := lw_g (lw_at lw_m6 156 rfl) rfl
theorem q1437 : (Jvm.Cond.fieldLink "DebtorsHouseModel" (141 : Nat) "DebtorsHouseModel" "actFrom" "[I") ∈ lw_all := lw_g (lw_at lw_m6 157 rfl) rfl
theorem q1438 : (Jvm.Cond.fieldLink "DebtorsHouseModel" (144 : Nat) "DebtorsHouseModel" "actTold" "[I") ∈ lw_all := lw_g (lw_at lw_m6 158 rfl) rfl
theorem q1439 : (Jvm.Cond.fieldLink "DebtorsHouseModel" (147 : Nat) "DebtorsHouseModel" "actLines" "[I") ∈ lw_all := lw_g (lw_at lw_m6 159 rfl) rfl
theorem q1440 : (Jvm.Cond.fieldLink "DebtorsHouseModel" (150 : Nat) "DebtorsHouseModel" "lineTopic" "[I") ∈ lw_all := lw_g (lw_at lw_m6 160 rfl) rfl
theorem q1441 : (Jvm.Cond.fieldLink "DebtorsHouseModel" (153 : Nat) "DebtorsHouseModel" "lineTests" "[I") ∈ lw_all := lw_g (lw_at lw_m6 161 rfl) rfl
theorem q1442 : (Jvm.Cond.fieldLink "DebtorsHouseModel" (156 : Nat) "DebtorsHouseModel" "lineValue" "[I") ∈ lw_all := lw_g (lw_at lw_m6 162 rfl) rfl
theorem q1443 : (Jvm.Cond.fieldLink "DebtorsHouseModel" (159 : Nat) "DebtorsHouseModel" "testWhat" "[I") ∈ lw_all := lw_g (lw_at lw_m6 163 rfl) rfl
theorem q1444 : (Jvm.Cond.fieldLink "DebtorsHouseModel" (162 : Nat) "DebtorsHouseModel" "testSign" "[I") ∈ lw_all := lw_g (lw_at lw_m6 164 rfl) rfl
theorem q1445 : (Jvm.Cond.fieldLink "DebtorsHouseModel" (165 : Nat) "DebtorsHouseModel" "testThan" "[I") ∈ lw_all := lw_g (lw_at lw_m6 165 rfl) rfl
theorem q1446 : (Jvm.Cond.fieldLink "DebtorsHouseModel" (168 : Nat) "DebtorsHouseModel" "trail" "[I") ∈ lw_all := lw_g (lw_at lw_m6 166 rfl) rfl
theorem q1447 : (Jvm.Cond.fieldLink "DebtorsHouseModel" (288 : Nat) "DebtorsHouseModel" "ahead" "I") ∈ lw_all := lw_g (lw_at lw_m6 167 rfl) rfl
theorem q1448 : (Jvm.Cond.fieldLink "DebtorsHouseModel" (291 : Nat) "DebtorsHouseModel" "length" "I") ∈ lw_all := lw_g (lw_at lw_m6 168 rfl) rfl
theorem q1449 : (Jvm.Cond.fieldLink "DebtorsHouseModel" (298 : Nat) "DebtorsHouseModel" "begins" "I") ∈ lw_all := lw_g (lw_at lw_m6 169 rfl) rfl
theorem q1450 : (Jvm.Cond.fieldLink "DebtorsHouseModel" (308 : Nat) "DebtorsHouseModel" "sort" "I") ∈ lw_all := lw_g (lw_at lw_m6 170 rfl) rfl
theorem q1451 : (Jvm.Cond.fieldLink "DebtorsHouseModel" (301 : Nat) "DebtorsHouseModel" "value" "I") ∈ lw_all := lw_g (lw_at lw_m6 171 rfl) rfl
theorem q1452 : (Jvm.Cond.fieldLink "DebtorsHouseModel" (304 : Nat) "DebtorsHouseModel" "word" "J") ∈ lw_all := lw_g (lw_at lw_m6 172 rfl) rfl
theorem q1453 : (Jvm.Cond.fieldLink "DebtorsHouseModel" (311 : Nat) "DebtorsHouseModel" "wrongAt" "I") ∈ lw_all := lw_g (lw_at lw_m6 173 rfl) rfl
theorem q1454 : (Jvm.Cond.fieldLink "DebtorsHouseModel" (314 : Nat) "DebtorsHouseModel" "laterFault" "I") ∈ lw_all := lw_g (lw_at lw_m6 174 rfl) rfl
theorem q1455 : (Jvm.Cond.fieldLink "DebtorsHouseModel" (317 : Nat) "DebtorsHouseModel" "laterPlace" "I") ∈ lw_all := lw_g (lw_at lw_m6 175 rfl) rfl
theorem q1456 : (Jvm.Cond.fieldLink "DebtorsHouseModel" (375 : Nat) "DebtorsHouseModel" "newLines" "I") ∈ lw_all := lw_g (lw_at lw_m6 176 rfl) rfl
theorem q1457 : (Jvm.Cond.fieldLink "DebtorsHouseModel" (171 : Nat) "DebtorsHouseModel" "newTopic" "[I") ∈ lw_all := lw_g (lw_at lw_m6 177 rfl) rfl
theorem q1458 : (Jvm.Cond.fieldLink "DebtorsHouseModel" (174 : Nat) "DebtorsHouseModel" "newTests" "[I") ∈ lw_all := lw_g (lw_at lw_m6 178 rfl) rfl
theorem q1459 : (Jvm.Cond.fieldLink "DebtorsHouseModel" (177 : Nat) "DebtorsHouseModel" "newValue" "[I") ∈ lw_all := lw_g (lw_at lw_m6 179 rfl) rfl
theorem q1460 : (Jvm.Cond.fieldLink "DebtorsHouseModel" (180 : Nat) "DebtorsHouseModel" "newWhat" "[I") ∈ lw_all := lw_g (lw_at lw_m6 180 rfl) rfl
theorem q1461 : (Jvm.Cond.fieldLink "DebtorsHouseModel" (183 : Nat) "DebtorsHouseModel" "newSign" "[I") ∈ lw_all := lw_g (lw_at lw_m6 181 rfl) rfl
theorem q1462 : (Jvm.Cond.fieldLink "DebtorsHouseModel" (186 : Nat) "DebtorsHouseModel" "newThan" "[I") ∈ lw_all := lw_g (lw_at lw_m6 182 rfl) rfl
theorem q1463 : (Jvm.Cond.fieldLink "DebtorsHouseModel" (189 : Nat) "DebtorsHouseModel" "seen" "[I") ∈ lw_all := lw_g (lw_at lw_m6 183 rfl) rfl
theorem q1464 : (Jvm.Cond.fieldLink "DebtorsHouseModel" (192 : Nat) "DebtorsHouseModel" "whose" "[I") ∈ lw_all := lw_g (lw_at lw_m6 184 rfl) rfl
theorem q1465 : (Jvm.Cond.fieldLink "DebtorsHouseModel" (195 : Nat) "DebtorsHouseModel" "counts" "[Z") ∈ lw_all := lw_g (lw_at lw_m6 185 rfl) rfl
theorem q1466 : (Jvm.Cond.fieldLink "DebtorsHouseModel" (198 : Nat) "DebtorsHouseModel" "might" "[I") ∈ lw_all := lw_g (lw_at lw_m6 186 rfl) rfl
theorem q1467 : (Jvm.Cond.fieldLink "DebtorsHouseModel" (201 : Nat) "DebtorsHouseModel" "wants" "[I") ∈ lw_all := lw_g (lw_at lw_m6 187 rfl) rfl
theorem q1468 : (Jvm.Cond.fieldLink "DebtorsHouseModel" (204 : Nat) "DebtorsHouseModel" "gets" "[I") ∈ lw_all := lw_g (lw_at lw_m6 188 rfl) rfl
theorem q1469 : (Jvm.Cond.fieldLink "DebtorsHouseModel" (207 : Nat) "DebtorsHouseModel" "rest" "[J") ∈ lw_all := lw_g (lw_at lw_m6 189 rfl) rfl
theorem q1470 : (Jvm.Cond.fieldLink "DebtorsHouseModel" (211 : Nat) "DebtorsHouseModel" "whom" "[I") ∈ lw_all := lw_g (lw_at lw_m6 190 rfl) rfl
theorem q1471 : (Jvm.Cond.fieldLink "DebtorsHouseModel" (214 : Nat) "DebtorsHouseModel" "given" "[I") ∈ lw_all := lw_g (lw_at lw_m6 191 rfl) rfl
theorem q1472 : (Jvm.Cond.fieldLink "DebtorsHouseModel" (217 : Nat) "DebtorsHouseModel" "kept" "[Z") ∈ lw_all := lw_g (lw_at lw_m6 192 rfl) rfl
theorem q1473 : (Jvm.Cond.lays "DebtorsHouseModel" "DebtorsHouseModel" "code" "I") ∈ lw_all := lw_g (lw_at lw_m6 193 rfl) rfl
theorem q1474 : (Jvm.Cond.soleField "DebtorsHouseModel" "code") ∈ lw_all := lw_g (lw_at lw_m6 194 rfl) rfl
theorem q1475 : (Jvm.Cond.laysFinal "DebtorsHouseModel" "DebtorsHouseModel" "tape" "[B") ∈ lw_all := lw_g (lw_at lw_m6 195 rfl) rfl
theorem q1476 : (Jvm.Cond.soleField "DebtorsHouseModel" "tape") ∈ lw_all := lw_g (lw_at lw_m6 196 rfl) rfl
theorem q1477 : (Jvm.Cond.laysFinal "DebtorsHouseModel" "DebtorsHouseModel" "size" "[I") ∈ lw_all := lw_g (lw_at lw_m6 197 rfl) rfl
theorem q1478 : (Jvm.Cond.soleField "DebtorsHouseModel" "size") ∈ lw_all := lw_g (lw_at lw_m6 198 rfl) rfl
theorem q1479 : (Jvm.Cond.laysFinal "DebtorsHouseModel" "DebtorsHouseModel" "fault" "[I") ∈ lw_all := lw_g (lw_at lw_m6 199 rfl) rfl
theorem q1480 : (Jvm.Cond.soleField "DebtorsHouseModel" "fault") ∈ lw_all := lw_g (lw_at lw_m6 200 rfl) rfl
theorem q1481 : (Jvm.Cond.laysFinal "DebtorsHouseModel" "DebtorsHouseModel" "faultPlace" "[I") ∈ lw_all := lw_g (lw_at lw_m6 201 rfl) rfl
theorem q1482 : (Jvm.Cond.soleField "DebtorsHouseModel" "faultPlace") ∈ lw_all := lw_g (lw_at lw_m6 202 rfl) rfl
theorem q1483 : (Jvm.Cond.laysFinal "DebtorsHouseModel" "DebtorsHouseModel" "days" "[I") ∈ lw_all := lw_g (lw_at lw_m6 203 rfl) rfl
theorem q1484 : (Jvm.Cond.soleField "DebtorsHouseModel" "days") ∈ lw_all := lw_g (lw_at lw_m6 204 rfl) rfl
theorem q1485 : (Jvm.Cond.laysFinal "DebtorsHouseModel" "DebtorsHouseModel" "hours" "[I") ∈ lw_all := lw_g (lw_at lw_m6 205 rfl) rfl
theorem q1486 : (Jvm.Cond.soleField "DebtorsHouseModel" "hours") ∈ lw_all := lw_g (lw_at lw_m6 206 rfl) rfl
theorem q1487 : (Jvm.Cond.laysFinal "DebtorsHouseModel" "DebtorsHouseModel" "feesPaid" "[I") ∈ lw_all := lw_g (lw_at lw_m6 207 rfl) rfl
theorem q1488 : (Jvm.Cond.soleField "DebtorsHouseModel" "feesPaid") ∈ lw_all := lw_g (lw_at lw_m6 208 rfl) rfl
theorem q1489 : (Jvm.Cond.laysFinal "DebtorsHouseModel" "DebtorsHouseModel" "persons" "[I") ∈ lw_all := lw_g (lw_at lw_m6 209 rfl) rfl
theorem q1490 : (Jvm.Cond.soleField "DebtorsHouseModel" "persons") ∈ lw_all := lw_g (lw_at lw_m6 210 rfl) rfl
theorem q1491 : (Jvm.Cond.laysFinal "DebtorsHouseModel" "DebtorsHouseModel" "coins" "[I") ∈ lw_all := lw_g (lw_at lw_m6 211 rfl) rfl
theorem q1492 : (Jvm.Cond.soleField "DebtorsHouseModel" "coins") ∈ lw_all := lw_g (lw_at lw_m6 212 rfl) rfl
theorem q1493 : (Jvm.Cond.laysFinal "DebtorsHouseModel" "DebtorsHouseModel" "children" "[I") ∈ lw_all := lw_g (lw_at lw_m6 213 rfl) rfl
theorem q1494 : (Jvm.Cond.soleField "DebtorsHouseModel" "children") ∈ lw_all := lw_g (lw_at lw_m6 214 rfl) rfl
theorem q1495 : (Jvm.Cond.laysFinal "DebtorsHouseModel" "DebtorsHouseModel" "isHeld" "[Z") ∈ lw_all := lw_g (lw_at lw_m6 215 rfl) rfl
theorem q1496 : (Jvm.Cond.soleField "DebtorsHouseModel" "isHeld") ∈ lw_all := lw_g (lw_at lw_m6 216 rfl) rfl
theorem q1497 : (Jvm.Cond.laysFinal "DebtorsHouseModel" "DebtorsHouseModel" "heldSince" "[I") ∈ lw_all := lw_g (lw_at lw_m6 217 rfl) rfl
theorem q1498 : (Jvm.Cond.soleField "DebtorsHouseModel" "heldSince") ∈ lw_all := lw_g (lw_at lw_m6 218 rfl) rfl
theorem q1499 : (Jvm.Cond.laysFinal "DebtorsHouseModel" "DebtorsHouseModel" "rooms" "[I") ∈ lw_all := lw_g (lw_at lw_m6 219 rfl) rfl
theorem q1500 : (Jvm.Cond.soleField "DebtorsHouseModel" "rooms") ∈ lw_all := lw_g (lw_at lw_m6 220 rfl) rfl
theorem q1501 : (Jvm.Cond.laysFinal "DebtorsHouseModel" "DebtorsHouseModel" "fees" "[I") ∈ lw_all := lw_g (lw_at lw_m6 221 rfl) rfl
theorem q1502 : (Jvm.Cond.soleField "DebtorsHouseModel" "fees") ∈ lw_all := lw_g (lw_at lw_m6 222 rfl) rfl
theorem q1503 : (Jvm.Cond.laysFinal "DebtorsHouseModel" "DebtorsHouseModel" "isOut" "[Z") ∈ lw_all := lw_g (lw_at lw_m6 223 rfl) rfl
theorem q1504 : (Jvm.Cond.soleField "DebtorsHouseModel" "isOut") ∈ lw_all := lw_g (lw_at lw_m6 224 rfl) rfl
theorem q1505 : (Jvm.Cond.laysFinal "DebtorsHouseModel" "DebtorsHouseModel" "late" "[I") ∈ lw_all := lw_g (lw_at lw_m6 225 rfl) rfl
theorem q1506 : (Jvm.Cond.soleField "DebtorsHouseModel" "late") ∈ lw_all := lw_g (lw_at lw_m6 226 rfl) rfl
theorem q1507 : (Jvm.Cond.laysFinal "DebtorsHouseModel" "DebtorsHouseModel" "turns" "[I") ∈ lw_all := lw_g (lw_at lw_m6 227 rfl) rfl
theorem q1508 : (Jvm.Cond.soleField "DebtorsHouseModel" "turns") ∈ lw_all := lw_g (lw_at lw_m6 228 rfl) rfl
theorem q1509 : (Jvm.Cond.laysFinal "DebtorsHouseModel" "DebtorsHouseModel" "escaped" "[I") ∈ lw_all := lw_g (lw_at lw_m6 229 rfl) rfl
theorem q1510 : (Jvm.Cond.soleField "DebtorsHouseModel" "escaped") ∈ lw_all := lw_g (lw_at lw_m6 230 rfl) rfl
theorem q1511 : (Jvm.Cond.laysFinal "DebtorsHouseModel" "DebtorsHouseModel" "detains" "[I") ∈ lw_all := lw_g (lw_at lw_m6 231 rfl) rfl
theorem q1512 : (Jvm.Cond.soleField "DebtorsHouseModel" "detains") ∈ lw_all := lw_g (lw_at lw_m6 232 rfl) rfl
theorem q1513 : (Jvm.Cond.laysFinal "DebtorsHouseModel" "DebtorsHouseModel" "surrendered" "[Z") ∈ lw_all := lw_g (lw_at lw_m6 233 rfl) rfl
theorem q1514 : (Jvm.Cond.soleField "DebtorsHouseModel" "surrendered") ∈ lw_all := lw_g (lw_at lw_m6 234 rfl) rfl
theorem q1515 : (Jvm.Cond.laysFinal "DebtorsHouseModel" "DebtorsHouseModel" "bookSum" "[I") ∈ lw_all := lw_g (lw_at lw_m6 235 rfl) rfl
theorem q1516 : (Jvm.Cond.soleField "DebtorsHouseModel" "bookSum") ∈ lw_all := lw_g (lw_at lw_m6 236 rfl) rfl
theorem q1517 : (Jvm.Cond.laysFinal "DebtorsHouseModel" "DebtorsHouseModel" "bookLow" "[I") ∈ lw_all := lw_g (lw_at lw_m6 237 rfl) rfl
theorem q1518 : (Jvm.Cond.soleField "DebtorsHouseModel" "bookLow") ∈ lw_all := lw_g (lw_at lw_m6 238 rfl) rfl
theorem q1519 : (Jvm.Cond.laysFinal "DebtorsHouseModel" "DebtorsHouseModel" "bookRows" "[I") ∈ lw_all := lw_g (lw_at lw_m6 239 rfl) rfl
theorem q1520 : (Jvm.Cond.soleField "DebtorsHouseModel" "bookRows") ∈ lw_all := lw_g (lw_at lw_m7 0 rfl) rfl
theorem q1521 : (Jvm.Cond.laysFinal "DebtorsHouseModel" "DebtorsHouseModel" "leasts" "[I") ∈ lw_all := lw_g (lw_at lw_m7 1 rfl) rfl
theorem q1522 : (Jvm.Cond.soleField "DebtorsHouseModel" "leasts") ∈ lw_all := lw_g (lw_at lw_m7 2 rfl) rfl
theorem q1523 : (Jvm.Cond.laysFinal "DebtorsHouseModel" "DebtorsHouseModel" "debts" "[I") ∈ lw_all := lw_g (lw_at lw_m7 3 rfl) rfl
theorem q1524 : (Jvm.Cond.soleField "DebtorsHouseModel" "debts") ∈ lw_all := lw_g (lw_at lw_m7 4 rfl) rfl
theorem q1525 : (Jvm.Cond.laysFinal "DebtorsHouseModel" "DebtorsHouseModel" "debtor" "[I") ∈ lw_all := lw_g (lw_at lw_m7 5 rfl) rfl
theorem q1526 : (Jvm.Cond.soleField "DebtorsHouseModel" "debtor") ∈ lw_all := lw_g (lw_at lw_m7 6 rfl) rfl
theorem q1527 : (Jvm.Cond.laysFinal "DebtorsHouseModel" "DebtorsHouseModel" "creditor" "[I") ∈ lw_all := lw_g (lw_at lw_m7 7 rfl) rfl
theorem q1528 : (Jvm.Cond.soleField "DebtorsHouseModel" "creditor") ∈ lw_all := lw_g (lw_at lw_m7 8 rfl) rfl
theorem q1529 : (Jvm.Cond.laysFinal "DebtorsHouseModel" "DebtorsHouseModel" "sums" "[I") ∈ lw_all := lw_g (lw_at lw_m7 9 rfl) rfl
theorem q1530 : (Jvm.Cond.soleField "DebtorsHouseModel" "sums") ∈ lw_all := lw_g (lw_at lw_m7 10 rfl) rfl
theorem q1531 : (Jvm.Cond.laysFinal "DebtorsHouseModel" "DebtorsHouseModel" "rank" "[I") ∈ lw_all := lw_g (lw_at lw_m7 11 rfl) rfl
theorem q1532 : (Jvm.Cond.soleField "DebtorsHouseModel" "rank") ∈ lw_all := lw_g (lw_at lw_m7 12 rfl) rfl
theorem q1533 : (Jvm.Cond.laysFinal "DebtorsHouseModel" "DebtorsHouseModel" "rate" "[I") ∈ lw_all := lw_g (lw_at lw_m7 13 rfl) rfl
theorem q1534 : (Jvm.Cond.soleField "DebtorsHouseModel" "rate") ∈ lw_all := lw_g (lw_at lw_m7 14 rfl) rfl
theorem q1535 : (Jvm.Cond.laysFinal "DebtorsHouseModel" "DebtorsHouseModel" "since" "[I") ∈ lw_all := lw_g (lw_at lw_m7 15 rfl) rfl
theorem q1536 : (Jvm.Cond.soleField "DebtorsHouseModel" "since") ∈ lw_all := lw_g (lw_at lw_m7 16 rfl) rfl
theorem q1537 : (Jvm.Cond.laysFinal "DebtorsHouseModel" "DebtorsHouseModel" "toldOn" "[I") ∈ lw_all := lw_g (lw_at lw_m7 17 rfl) rfl
theorem q1538 : (Jvm.Cond.soleField "DebtorsHouseModel" "toldOn") ∈ lw_all := lw_g (lw_at lw_m7 18 rfl) rfl
theorem q1539 : (Jvm.Cond.laysFinal "DebtorsHouseModel" "DebtorsHouseModel" "state" "[I") ∈ lw_all := lw_g (lw_at lw_m7 19 rfl) rfl
theorem q1540 : (Jvm.Cond.soleField "DebtorsHouseModel" "state") ∈ lw_all := lw_g (lw_at lw_m7 20 rfl) rfl
theorem q1541 : (Jvm.Cond.laysFinal "DebtorsHouseModel" "DebtorsHouseModel" "principal" "[I") ∈ lw_all := lw_g (lw_at lw_m7 21 rfl) rfl
theorem q1542 : (Jvm.Cond.soleField "DebtorsHouseModel" "principal") ∈ lw_all := lw_g (lw_at lw_m7 22 rfl) rfl
theorem q1543 : (Jvm.Cond.laysFinal "DebtorsHouseModel" "DebtorsHouseModel" "keptInterest" "[I") ∈ lw_all := lw_g (lw_at lw_m7 23 rfl) rfl
theorem q1544 : (Jvm.Cond.soleField "DebtorsHouseModel" "keptInterest") ∈ lw_all := lw_g (lw_at lw_m7 24 rfl) rfl
theorem q1545 : (Jvm.Cond.laysFinal "DebtorsHouseModel" "DebtorsHouseModel" "reckoned" "[I") ∈ lw_all := lw_g (lw_at lw_m7 25 rfl) rfl
theorem q1546 : (Jvm.Cond.soleField "DebtorsHouseModel" "reckoned") ∈ lw_all := lw_g (lw_at lw_m7 26 rfl) rfl
theorem q1547 : (Jvm.Cond.laysFinal "DebtorsHouseModel" "DebtorsHouseModel" "costs" "[I") ∈ lw_all := lw_g (lw_at lw_m7 27 rfl) rfl
theorem q1548 : (Jvm.Cond.soleField "DebtorsHouseModel" "costs") ∈ lw_all := lw_g (lw_at lw_m7 28 rfl) rfl
theorem q1549 : (Jvm.Cond.laysFinal "DebtorsHouseModel" "DebtorsHouseModel" "bought" "[Z") ∈ lw_all := lw_g (lw_at lw_m7 29 rfl) rfl
theorem q1550 : (Jvm.Cond.soleField "DebtorsHouseModel" "bought") ∈ lw_all := lw_g (lw_at lw_m7 30 rfl) rfl
theorem q1551 : (Jvm.Cond.laysFinal "DebtorsHouseModel" "DebtorsHouseModel" "lack" "[I") ∈ lw_all := lw_g (lw_at lw_m7 31 rfl) rfl
theorem q1552 : (Jvm.Cond.soleField "DebtorsHouseModel" "lack") ∈ lw_all := lw_g (lw_at lw_m7 32 rfl) rfl
theorem q1553 : (Jvm.Cond.laysFinal "DebtorsHouseModel" "DebtorsHouseModel" "endedOn" "[I") ∈ lw_all := lw_g (lw_at lw_m7 33 rfl) rfl
theorem q1554 : (Jvm.Cond.soleField "DebtorsHouseModel" "endedOn") ∈ lw_all := lw_g (lw_at lw_m7 34 rfl) rfl
theorem q1555 : (Jvm.Cond.laysFinal "DebtorsHouseModel" "DebtorsHouseModel" "handMany" "[I") ∈ lw_all := lw_g (lw_at lw_m7 35 rfl) rfl
theorem q1556 : (Jvm.Cond.soleField "DebtorsHouseModel" "handMany") ∈ lw_all := lw_g (lw_at lw_m7 36 rfl) rfl
theorem q1557 : (Jvm.Cond.laysFinal "DebtorsHouseModel" "DebtorsHouseModel" "hand" "[I") ∈ lw_all := lw_g (lw_at lw_m7 37 rfl) rfl
theorem q1558 : (Jvm.Cond.soleField "DebtorsHouseModel" "hand") ∈ lw_all := lw_g (lw_at lw_m7 38 rfl) rfl
theorem q1559 : (Jvm.Cond.laysFinal "DebtorsHouseModel" "DebtorsHouseModel" "acts" "[I") ∈ lw_all := lw_g (lw_at lw_m7 39 rfl) rfl
theorem q1560 : (Jvm.Cond.soleField "DebtorsHouseModel" "acts") ∈ lw_all := lw_g (lw_at lw_m7 40 rfl) rfl
theorem q1561 : (Jvm.Cond.laysFinal "DebtorsHouseModel" "DebtorsHouseModel" "actFrom" "[I") ∈ lw_all := lw_g (lw_at lw_m7 41 rfl) rfl
theorem q1562 : (Jvm.Cond.soleField "DebtorsHouseModel" "actFrom") ∈ lw_all := lw_g (lw_at lw_m7 42 rfl) rfl
theorem q1563 : (Jvm.Cond.laysFinal "DebtorsHouseModel" "DebtorsHouseModel" "actTold" "[I") ∈ lw_all := lw_g (lw_at lw_m7 43 rfl) rfl
theorem q1564 : (Jvm.Cond.soleField "DebtorsHouseModel" "actTold") ∈ lw_all := lw_g (lw_at lw_m7 44 rfl) rfl
theorem q1565 : (Jvm.Cond.laysFinal "DebtorsHouseModel" "DebtorsHouseModel" "actLines" "[I") ∈ lw_all := lw_g (lw_at lw_m7 45 rfl) rfl
theorem q1566 : (Jvm.Cond.soleField "DebtorsHouseModel" "actLines") ∈ lw_all := lw_g (lw_at lw_m7 46 rfl) rfl
theorem q1567 : (Jvm.Cond.laysFinal "DebtorsHouseModel" "DebtorsHouseModel" "lineTopic" "[I") ∈ lw_all := lw_g (lw_at lw_m7 47 rfl) rfl
theorem q1568 : (Jvm.Cond.soleField "DebtorsHouseModel" "lineTopic") ∈ lw_all := lw_g (lw_at lw_m7 48 rfl) rfl
theorem q1569 : (Jvm.Cond.laysFinal "DebtorsHouseModel" "DebtorsHouseModel" "lineTests" "[I") ∈ lw_all := lw_g (lw_at lw_m7 49 rfl) rfl
theorem q1570 : (Jvm.Cond.soleField "DebtorsHouseModel" "lineTests") ∈ lw_all := lw_g (lw_at lw_m7 50 rfl) rfl
theorem q1571 : (Jvm.Cond.laysFinal "DebtorsHouseModel" "DebtorsHouseModel" "lineValue" "[I") ∈ lw_all := lw_g (lw_at lw_m7 51 rfl) rfl
theorem q1572 : (Jvm.Cond.soleField "DebtorsHouseModel" "lineValue") ∈ lw_all := lw_g (lw_at lw_m7 52 rfl) rfl
theorem q1573 : (Jvm.Cond.laysFinal "DebtorsHouseModel" "DebtorsHouseModel" "testWhat" "[I") ∈ lw_all := lw_g (lw_at lw_m7 53 rfl) rfl
theorem q1574 : (Jvm.Cond.soleField "DebtorsHouseModel" "testWhat") ∈ lw_all := lw_g (lw_at lw_m7 54 rfl) rfl
theorem q1575 : (Jvm.Cond.laysFinal "DebtorsHouseModel" "DebtorsHouseModel" "testSign" "[I") ∈ lw_all := lw_g (lw_at lw_m7 55 rfl) rfl
theorem q1576 : (Jvm.Cond.soleField "DebtorsHouseModel" "testSign") ∈ lw_all := lw_g (lw_at lw_m7 56 rfl) rfl
theorem q1577 : (Jvm.Cond.laysFinal "DebtorsHouseModel" "DebtorsHouseModel" "testThan" "[I") ∈ lw_all := lw_g (lw_at lw_m7 57 rfl) rfl
theorem q1578 : (Jvm.Cond.soleField "DebtorsHouseModel" "testThan") ∈ lw_all := lw_g (lw_at lw_m7 58 rfl) rfl
theorem q1579 : (Jvm.Cond.laysFinal "DebtorsHouseModel" "DebtorsHouseModel" "trail" "[I") ∈ lw_all := lw_g (lw_at lw_m7 59 rfl) rfl
theorem q1580 : (Jvm.Cond.soleField "DebtorsHouseModel" "trail") ∈ lw_all := lw_g (lw_at lw_m7 60 rfl) rfl
theorem q1581 : (Jvm.Cond.lays "DebtorsHouseModel" "DebtorsHouseModel" "ahead" "I") ∈ lw_all := lw_g (lw_at lw_m7 61 rfl) rfl
theorem q1582 : (Jvm.Cond.soleField "DebtorsHouseModel" "ahead") ∈ lw_all := lw_g (lw_at lw_m7 62 rfl) rfl
theorem q1583 : (Jvm.Cond.lays "DebtorsHouseModel" "DebtorsHouseModel" "length" "I") ∈ lw_all := lw_g (lw_at lw_m7 63 rfl) rfl
theorem q1584 : (Jvm.Cond.soleField "DebtorsHouseModel" "length") ∈ lw_all := lw_g (lw_at lw_m7 64 rfl) rfl
theorem q1585 : (Jvm.Cond.lays "DebtorsHouseModel" "DebtorsHouseModel" "begins" "I") ∈ lw_all := lw_g (lw_at lw_m7 65 rfl) rfl
theorem q1586 : (Jvm.Cond.soleField "DebtorsHouseModel" "begins") ∈ lw_all := lw_g (lw_at lw_m7 66 rfl) rfl
theorem q1587 : (Jvm.Cond.lays "DebtorsHouseModel" "DebtorsHouseModel" "sort" "I") ∈ lw_all := lw_g (lw_at lw_m7 67 rfl) rfl
theorem q1588 : (Jvm.Cond.soleField "DebtorsHouseModel" "sort") ∈ lw_all := lw_g (lw_at lw_m7 68 rfl) rfl
theorem q1589 : (Jvm.Cond.lays "DebtorsHouseModel" "DebtorsHouseModel" "value" "I") ∈ lw_all := lw_g (lw_at lw_m7 69 rfl) rfl
theorem q1590 : (Jvm.Cond.soleField "DebtorsHouseModel" "value") ∈ lw_all := lw_g (lw_at lw_m7 70 rfl) rfl
theorem q1591 : (Jvm.Cond.lays "DebtorsHouseModel" "DebtorsHouseModel" "word" "J") ∈ lw_all := lw_g (lw_at lw_m7 71 rfl) rfl
theorem q1592 : (Jvm.Cond.soleField "DebtorsHouseModel" "word") ∈ lw_all := lw_g (lw_at lw_m7 72 rfl) rfl
theorem q1593 : (Jvm.Cond.lays "DebtorsHouseModel" "DebtorsHouseModel" "wrongAt" "I") ∈ lw_all := lw_g (lw_at lw_m7 73 rfl) rfl
theorem q1594 : (Jvm.Cond.soleField "DebtorsHouseModel" "wrongAt") ∈ lw_all := lw_g (lw_at lw_m7 74 rfl) rfl
theorem q1595 : (Jvm.Cond.lays "DebtorsHouseModel" "DebtorsHouseModel" "laterFault" "I") ∈ lw_all := lw_g (lw_at lw_m7 75 rfl) rfl
theorem q1596 : (Jvm.Cond.soleField "DebtorsHouseModel" "laterFault") ∈ lw_all := lw_g (lw_at lw_m7 76 rfl) rfl
theorem q1597 : (Jvm.Cond.lays "DebtorsHouseModel" "DebtorsHouseModel" "laterPlace" "I") ∈ lw_all := lw_g (lw_at lw_m7 77 rfl) rfl
theorem q1598 : (Jvm.Cond.soleField "DebtorsHouseModel" "laterPlace") ∈ lw_all := lw_g (lw_at lw_m7 78 rfl) rfl
theorem q1599 : (Jvm.Cond.lays "DebtorsHouseModel" "DebtorsHouseModel" "newLines" "I") ∈ lw_all := lw_g (lw_at lw_m7 79 rfl) rfl
theorem q1600 : (Jvm.Cond.soleField "DebtorsHouseModel" "newLines") ∈ lw_all := lw_g (lw_at lw_m7 80 rfl) rfl
theorem q1601 : (Jvm.Cond.laysFinal "DebtorsHouseModel" "DebtorsHouseModel" "newTopic" "[I") ∈ lw_all := lw_g (lw_at lw_m7 81 rfl) rfl
theorem q1602 : (Jvm.Cond.soleField "DebtorsHouseModel" "newTopic") ∈ lw_all := lw_g (lw_at lw_m7 82 rfl) rfl
theorem q1603 : (Jvm.Cond.laysFinal "DebtorsHouseModel" "DebtorsHouseModel" "newTests" "[I") ∈ lw_all := lw_g (lw_at lw_m7 83 rfl) rfl
theorem q1604 : (Jvm.Cond.soleField "DebtorsHouseModel" "newTests") ∈ lw_all := lw_g (lw_at lw_m7 84 rfl) rfl
theorem q1605 : (Jvm.Cond.laysFinal "DebtorsHouseModel" "DebtorsHouseModel" "newValue" "[I") ∈ lw_all := lw_g (lw_at lw_m7 85 rfl) rfl
theorem q1606 : (Jvm.Cond.soleField "DebtorsHouseModel" "newValue") ∈ lw_all := lw_g (lw_at lw_m7 86 rfl) rfl
theorem q1607 : (Jvm.Cond.laysFinal "DebtorsHouseModel" "DebtorsHouseModel" "newWhat" "[I") ∈ lw_all := lw_g (lw_at lw_m7 87 rfl) rfl
theorem q1608 : (Jvm.Cond.soleField "DebtorsHouseModel" "newWhat") ∈ lw_all := lw_g (lw_at lw_m7 88 rfl) rfl
theorem q1609 : (Jvm.Cond.laysFinal "DebtorsHouseModel" "DebtorsHouseModel" "newSign" "[I") ∈ lw_all := lw_g (lw_at lw_m7 89 rfl) rfl
theorem q1610 : (Jvm.Cond.soleField "DebtorsHouseModel" "newSign") ∈ lw_all := lw_g (lw_at lw_m7 90 rfl) rfl
theorem q1611 : (Jvm.Cond.laysFinal "DebtorsHouseModel" "DebtorsHouseModel" "newThan" "[I") ∈ lw_all := lw_g (lw_at lw_m7 91 rfl) rfl
theorem q1612 : (Jvm.Cond.soleField "DebtorsHouseModel" "newThan") ∈ lw_all := lw_g (lw_at lw_m7 92 rfl) rfl
theorem q1613 : (Jvm.Cond.laysFinal "DebtorsHouseModel" "DebtorsHouseModel" "seen" "[I") ∈ lw_all := lw_g (lw_at lw_m7 93 rfl) rfl
theorem q1614 : (Jvm.Cond.soleField "DebtorsHouseModel" "seen") ∈ lw_all := lw_g (lw_at lw_m7 94 rfl) rfl
theorem q1615 : (Jvm.Cond.laysFinal "DebtorsHouseModel" "DebtorsHouseModel" "whose" "[I") ∈ lw_all := lw_g (lw_at lw_m7 95 rfl) rfl
theorem q1616 : (Jvm.Cond.soleField "DebtorsHouseModel" "whose") ∈ lw_all := lw_g (lw_at lw_m7 96 rfl) rfl
theorem q1617 : (Jvm.Cond.laysFinal "DebtorsHouseModel" "DebtorsHouseModel" "counts" "[Z") ∈ lw_all := lw_g (lw_at lw_m7 97 rfl) rfl
theorem q1618 : (Jvm.Cond.soleField "DebtorsHouseModel" "counts") ∈ lw_all := lw_g (lw_at lw_m7 98 rfl) rfl
theorem q1619 : (Jvm.Cond.laysFinal "DebtorsHouseModel" "DebtorsHouseModel" "might" "[I") ∈ lw_all := lw_g (lw_at lw_m7 99 rfl) rfl
theorem q1620 : (Jvm.Cond.soleField "DebtorsHouseModel" "might") ∈ lw_all := lw_g (lw_at lw_m7 100 rfl) rfl
theorem q1621 : (Jvm.Cond.laysFinal "DebtorsHouseModel" "DebtorsHouseModel" "wants" "[I") ∈ lw_all := lw_g (lw_at lw_m7 101 rfl) rfl
theorem q1622 : (Jvm.Cond.soleField "DebtorsHouseModel" "wants") ∈ lw_all := lw_g (lw_at lw_m7 102 rfl) rfl
theorem q1623 : (Jvm.Cond.laysFinal "DebtorsHouseModel" "DebtorsHouseModel" "gets" "[I") ∈ lw_all := lw_g (lw_at lw_m7 103 rfl) rfl
theorem q1624 : (Jvm.Cond.soleField "DebtorsHouseModel" "gets") ∈ lw_all := lw_g (lw_at lw_m7 104 rfl) rfl
theorem q1625 : (Jvm.Cond.laysFinal "DebtorsHouseModel" "DebtorsHouseModel" "rest" "[J") ∈ lw_all := lw_g (lw_at lw_m7 105 rfl) rfl
theorem q1626 : (Jvm.Cond.soleField "DebtorsHouseModel" "rest") ∈ lw_all := lw_g (lw_at lw_m7 106 rfl) rfl
theorem q1627 : (Jvm.Cond.laysFinal "DebtorsHouseModel" "DebtorsHouseModel" "whom" "[I") ∈ lw_all := lw_g (lw_at lw_m7 107 rfl) rfl
theorem q1628 : (Jvm.Cond.soleField "DebtorsHouseModel" "whom") ∈ lw_all := lw_g (lw_at lw_m7 108 rfl) rfl
theorem q1629 : (Jvm.Cond.laysFinal "DebtorsHouseModel" "DebtorsHouseModel" "given" "[I") ∈ lw_all := lw_g (lw_at lw_m7 109 rfl) rfl
theorem q1630 : (Jvm.Cond.soleField "DebtorsHouseModel" "given") ∈ lw_all := lw_g (lw_at lw_m7 110 rfl) rfl
theorem q1631 : (Jvm.Cond.laysFinal "DebtorsHouseModel" "DebtorsHouseModel" "kept" "[Z") ∈ lw_all := lw_g (lw_at lw_m7 111 rfl) rfl
theorem q1632 : (Jvm.Cond.soleField "DebtorsHouseModel" "kept") ∈ lw_all := lw_g (lw_at lw_m7 112 rfl) rfl
theorem q1633 : (Jvm.Cond.superclass "DebtorsHouseModel" "java/lang/Object") ∈ lw_all := lw_g (lw_at lw_m7 113 rfl) rfl
theorem q1635 : (Jvm.Cond.instanceMethod ({ cls := "DebtorsHouseModel", name := "person", desc := "(II)I" } : Jvm.MethodName)) ∈ lw_all := lw_g (lw_at lw_m7 115 rfl) rfl
theorem q1636 : (Jvm.Cond.selects "DebtorsHouseModel" ({ cls := "DebtorsHouseModel", name := "person", desc := "(II)I" } : Jvm.MethodName) ({ cls := "DebtorsHouseModel", name := "person", desc := "(II)I" } : Jvm.MethodName)) ∈ lw_all := lw_g (lw_at lw_m7 116 rfl) rfl
theorem q1637 : (Jvm.Cond.code ({ cls := "DebtorsHouseModel", name := "person", desc := "(II)I" } : Jvm.MethodName) prog_15_method_13_code (5 : Nat) (Option.some Jvm.ClassFile.FieldType.int)) ∈ lw_all := lw_g (lw_at lw_m7 117 rfl) rfl
theorem q1638 : (Jvm.Cond.constant "DebtorsHouseModel" (247 : Nat) (1000000 : Int32)) ∈ lw_all := lw_g (lw_at lw_m7 118 rfl) rfl
theorem q1639 : (Jvm.Cond.methodLink "DebtorsHouseModel" (236 : Nat) ({ cls := "DebtorsHouseModel", name := "in", desc := "(III)Z" } : Jvm.MethodName)) ∈ lw_all := lw_g (lw_at lw_m7 119 rfl) rfl
theorem q1640 : (Jvm.Cond.static ({ cls := "DebtorsHouseModel", name := "in", desc := "(III)Z" } : Jvm.MethodName)) ∈ lw_all := lw_g (lw_at lw_m7 120 rfl) rfl
theorem q1641 : (Jvm.Cond.code ({ cls := "DebtorsHouseModel", name := "in", desc := "(III)Z" } : Jvm.MethodName) prog_15_method_3_code (3 : Nat) (Option.some Jvm.ClassFile.FieldType.boolean)) ∈ lw_all := lw_g (lw_at lw_m7 121 rfl) rfl
theorem q1643 : (Jvm.Cond.instanceMethod ({ cls := "DebtorsHouseModel", name := "debt", desc := "(IIIIII)I" } : Jvm.MethodName)) ∈ lw_all := lw_g (lw_at lw_m7 123 rfl) rfl
theorem q1644 : (Jvm.Cond.selects "DebtorsHouseModel" ({ cls := "DebtorsHouseModel", name := "debt", desc := "(IIIIII)I" } : Jvm.MethodName) ({ cls := "DebtorsHouseModel", name := "debt", desc := "(IIIIII)I" } : Jvm.MethodName)) ∈ lw_all := lw_g (lw_at lw_m7 124 rfl) rfl
theorem q1645 : (Jvm.Cond.code ({ cls := "DebtorsHouseModel", name := "debt", desc := "(IIIIII)I" } : Jvm.MethodName) prog_15_method_14_code (8 : Nat) (Option.some Jvm.ClassFile.FieldType.int)) ∈ lw_all := lw_g (lw_at lw_m7 125 rfl) rfl
theorem q1646 : (Jvm.Cond.methodLink "DebtorsHouseModel" (248 : Nat) ({ cls := "DebtorsHouseModel", name := "areTwo", desc := "(II)Z" } : Jvm.MethodName)) ∈ lw_all := lw_g (lw_at lw_m7 126 rfl) rfl
theorem q1647 : (Jvm.Cond.privateMethod ({ cls := "DebtorsHouseModel", name := "areTwo", desc := "(II)Z" } : Jvm.MethodName)) ∈ lw_tbl := lw_at lw_m7 127 rfl
theorem q1648 : (Jvm.Cond.instanceMethod ({ cls := "DebtorsHouseModel", name := "areTwo", desc := "(II)Z" } : Jvm.MethodName)) ∈ lw_all := lw_g (lw_at lw_m7 128 rfl) rfl
theorem q1649 : (Jvm.Cond.code ({ cls := "DebtorsHouseModel", name := "areTwo", desc := "(II)Z" } : Jvm.MethodName) prog_15_method_9_code (3 : Nat) (Option.some Jvm.ClassFile.FieldType.boolean)) ∈ lw_all := lw_g (lw_at lw_m7 129 rfl) rfl
theorem q1650 : (Jvm.Cond.methodLink "DebtorsHouseModel" (240 : Nat) ({ cls := "DebtorsHouseModel", name := "isPerson", desc := "(I)Z" } : Jvm.MethodName)) ∈ lw_all := lw_g (lw_at lw_m7 130 rfl) rfl
theorem q1651 : (Jvm.Cond.privateMethod ({ cls := "DebtorsHouseModel", name := "isPerson", desc := "(I)Z" } : Jvm.MethodName)) ∈ lw_tbl := lw_at lw_m7 131 rfl
theorem q1652 : (Jvm.Cond.instanceMethod ({ cls := "DebtorsHouseModel", name := "isPerson", desc := "(I)Z" } : Jvm.MethodName)) ∈ lw_all := lw_g (lw_at lw_m7 132 rfl) rfl
theorem q1653 : (Jvm.Cond.code ({ cls := "DebtorsHouseModel", name := "isPerson", desc := "(I)Z" } : Jvm.MethodName) prog_15_method_8_code (2 : Nat) (Option.some Jvm.ClassFile.FieldType.boolean)) ∈ lw_all := lw_g (lw_at lw_m7 133 rfl) rfl
theorem q1654 : (Jvm.Cond.constant "DebtorsHouseModel" (252 : Nat) (100000 : Int32)) ∈ lw_all := lw_g (lw_at lw_m7 134 rfl) rfl
theorem q1656 : (Jvm.Cond.instanceMethod ({ cls := "DebtorsHouseModel", name := "costs", desc := "(II)I" } : Jvm.MethodName)) ∈ lw_all := lw_g (lw_at lw_m7 136 rfl) rfl
theorem q1657 : (Jvm.Cond.selects "DebtorsHouseModel" ({ cls := "DebtorsHouseModel", name := "costs", desc := "(II)I" } : Jvm.MethodName) ({ cls := "DebtorsHouseModel", name := "costs", desc := "(II)I" } : Jvm.MethodName)) ∈ lw_all := lw_g (lw_at lw_m7 137 rfl) rfl
theorem q1658 : (Jvm.Cond.code ({ cls := "DebtorsHouseModel", name := "costs", desc := "(II)I" } : Jvm.MethodName) prog_15_method_20_code (3 : Nat) (Option.some Jvm.ClassFile.FieldType.int)) ∈ lw_all := lw_g (lw_at lw_m7 138 rfl) rfl
theorem q1659 : (Jvm.Cond.methodLink "DebtorsHouseModel" (262 : Nat) ({ cls := "DebtorsHouseModel", name := "isLive", desc := "(I)Z" } : Jvm.MethodName)) ∈ lw_all := lw_g (lw_at lw_m7 139 rfl) rfl
theorem q1660 : (Jvm.Cond.privateMethod ({ cls := "DebtorsHouseModel", name := "isLive", desc := "(I)Z" } : Jvm.MethodName)) ∈ lw_tbl := lw_at lw_m7 140 rfl
theorem q1661 : (Jvm.Cond.instanceMethod ({ cls := "DebtorsHouseModel", name := "isLive", desc := "(I)Z" } : Jvm.MethodName)) ∈ lw_all := lw_g (lw_at lw_m7 141 rfl) rfl
theorem q1662 : (Jvm.Cond.code ({ cls := "DebtorsHouseModel", name := "isLive", desc := "(I)Z" } : Jvm.MethodName) prog_15_method_11_code (2 : Nat) (Option.some Jvm.ClassFile.FieldType.boolean)) ∈ lw_all := lw_g (lw_at lw_m7 142 rfl) rfl
theorem q1663 : (Jvm.Cond.methodLink "DebtorsHouseModel" (244 : Nat) ({ cls := "DebtorsHouseModel", name := "isDebt", desc := "(I)Z" } : Jvm.MethodName)) ∈ lw_all := lw_g (lw_at lw_m7 143 rfl) rfl
theorem q1664 : (Jvm.Cond.privateMethod ({ cls := "DebtorsHouseModel", name := "isDebt", desc := "(I)Z" } : Jvm.MethodName)) ∈ lw_tbl := lw_at lw_m7 144 rfl
theorem q1665 : (Jvm.Cond.instanceMethod ({ cls := "DebtorsHouseModel", name := "isDebt", desc := "(I)Z" } : Jvm.MethodName)) ∈ lw_all := lw_g (lw_at lw_m7 145 rfl) rfl
theorem q1666 : (Jvm.Cond.code ({ cls := "DebtorsHouseModel", name := "isDebt", desc := "(I)Z" } : Jvm.MethodName) prog_15_method_10_code (2 : Nat) (Option.some Jvm.ClassFile.FieldType.boolean)) ∈ lw_all := lw_g (lw_at lw_m7 146 rfl) rfl
theorem q1667 : (Jvm.Cond.methodLink "DebtorsHouseModel" (265 : Nat) ({ cls := "DebtorsHouseModel", name := "dueOf", desc := "(I)I" } : Jvm.MethodName)) ∈ lw_all := lw_g (lw_at lw_m7 147 rfl) rfl
theorem q1668 : (Jvm.Cond.privateMethod ({ cls := "DebtorsHouseModel", name := "dueOf", desc := "(I)I" } : Jvm.MethodName)) ∈ lw_tbl := lw_at lw_m7 148 rfl
theorem q1669 : (Jvm.Cond.instanceMethod ({ cls := "DebtorsHouseModel", name := "dueOf", desc := "(I)I" } : Jvm.MethodName)) ∈ lw_all := lw_g (lw_at lw_m7 149 rfl) rfl
theorem q1670 : (Jvm.Cond.code ({ cls := "DebtorsHouseModel", name := "dueOf", desc := "(I)I" } : Jvm.MethodName) prog_15_method_16_code (2 : Nat) (Option.some Jvm.ClassFile.FieldType.int)) ∈ lw_all := lw_g (lw_at lw_m7 150 rfl) rfl
theorem q1671 : (Jvm.Cond.methodLink "DebtorsHouseModel" (255 : Nat) ({ cls := "DebtorsHouseModel", name := "interestOf", desc := "(I)I" } : Jvm.MethodName)) ∈ lw_all := lw_g (lw_at lw_m7 151 rfl) rfl
theorem q1672 : (Jvm.Cond.privateMethod ({ cls := "DebtorsHouseModel", name := "interestOf", desc := "(I)I" } : Jvm.MethodName)) ∈ lw_tbl := lw_at lw_m7 152 rfl
theorem q1673 : (Jvm.Cond.instanceMethod ({ cls := "DebtorsHouseModel", name := "interestOf", desc := "(I)I" } : Jvm.MethodName)) ∈ lw_all := lw_g (lw_at lw_m7 153 rfl) rfl
theorem q1674 : (Jvm.Cond.code ({ cls := "DebtorsHouseModel", name := "interestOf", desc := "(I)I" } : Jvm.MethodName) prog_15_method_15_code (2 : Nat) (Option.some Jvm.ClassFile.FieldType.int)) ∈ lw_all := lw_g (lw_at lw_m7 154 rfl) rfl
theorem q1675 : (Jvm.Cond.constantLong "DebtorsHouseModel" (253 : Nat) (360000 : Int64)) ∈ lw_all := lw_g (lw_at lw_m7 155 rfl) rfl
theorem q1677 : (Jvm.Cond.instanceMethod ({ cls := "DebtorsHouseModel", name := "pay", desc := "(II)I" } : Jvm.MethodName)) ∈ lw_all := lw_g (lw_at lw_m7 157 rfl) rfl
theorem q1678 : (Jvm.Cond.selects "DebtorsHouseModel" ({ cls := "DebtorsHouseModel", name := "pay", desc := "(II)I" } : Jvm.MethodName) ({ cls := "DebtorsHouseModel", name := "pay", desc := "(II)I" } : Jvm.MethodName)) ∈ lw_all := lw_g (lw_at lw_m7 158 rfl) rfl
theorem q1679 : (Jvm.Cond.code ({ cls := "DebtorsHouseModel", name := "pay", desc := "(II)I" } : Jvm.MethodName) prog_15_method_21_code (3 : Nat) (Option.some Jvm.ClassFile.FieldType.int)) ∈ lw_all := lw_g (lw_at lw_m7 159 rfl) rfl
theorem q1680 : (Jvm.Cond.methodLink "DebtorsHouseModel" (268 : Nat) ({ cls := "DebtorsHouseModel", name := "takeOff", desc := "(II)V" } : Jvm.MethodName)) ∈ lw_all := lw_g (lw_at lw_m7 160 rfl) rfl
theorem q1681 : (Jvm.Cond.privateMethod ({ cls := "DebtorsHouseModel", name := "takeOff", desc := "(II)V" } : Jvm.MethodName)) ∈ lw_tbl := lw_at lw_m7 161 rfl
theorem q1682 : (Jvm.Cond.instanceMethod ({ cls := "DebtorsHouseModel", name := "takeOff", desc := "(II)V" } : Jvm.MethodName)) ∈ lw_all := lw_g (lw_at lw_m7 162 rfl) rfl
theorem q1683 : (Jvm.Cond.code ({ cls := "DebtorsHouseModel", name := "takeOff", desc := "(II)V" } : Jvm.MethodName) prog_15_method_18_code (7 : Nat) (Option.none : Option Jvm.ClassFile.FieldType)) ∈ lw_all := lw_g (lw_at lw_m7 163 rfl) rfl
theorem q1684 : (Jvm.Cond.methodLink "DebtorsHouseModel" (259 : Nat) ({ cls := "DebtorsHouseModel", name := "ends", desc := "(II)V" } : Jvm.MethodName)) ∈ lw_all := lw_g (lw_at lw_m7 164 rfl) rfl
theorem q1685 : (Jvm.Cond.privateMethod ({ cls := "DebtorsHouseModel", name := "ends", desc := "(II)V" } : Jvm.MethodName)) ∈ lw_tbl := lw_at lw_m7 165 rfl
theorem q1686 : (Jvm.Cond.instanceMethod ({ cls := "DebtorsHouseModel", name := "ends", desc := "(II)V" } : Jvm.MethodName)) ∈ lw_all := lw_g (lw_at lw_m7 166 rfl) rfl
theorem q1687 : (Jvm.Cond.code ({ cls := "DebtorsHouseModel", name := "ends", desc := "(II)V" } : Jvm.MethodName) prog_15_method_17_code (3 : Nat) (Option.none : Option Jvm.ClassFile.FieldType)) ∈ lw_all := lw_g (lw_at lw_m7 167 rfl) rfl
theorem q1688 : (Jvm.Cond.methodLink "DebtorsHouseModel" (271 : Nat) ({ cls := "DebtorsHouseModel", name := "letGo", desc := "()V" } : Jvm.MethodName)) ∈ lw_all := lw_g (lw_at lw_m7 168 rfl) rfl
theorem q1689 : (Jvm.Cond.privateMethod ({ cls := "DebtorsHouseModel", name := "letGo", desc := "()V" } : Jvm.MethodName)) ∈ lw_tbl := lw_at lw_m7 169 rfl
theorem q1690 : (Jvm.Cond.instanceMethod ({ cls := "DebtorsHouseModel", name := "letGo", desc := "()V" } : Jvm.MethodName)) ∈ lw_all := lw_g (lw_at lw_m7 170 rfl) rfl
theorem q1691 : (Jvm.Cond.code ({ cls := "DebtorsHouseModel", name := "letGo", desc := "()V" } : Jvm.MethodName) prog_15_method_19_code (4 : Nat) (Option.none : Option Jvm.ClassFile.FieldType)) ∈ lw_all := lw_g (lw_at lw_m7 171 rfl) rfl
theorem q1693 : (Jvm.Cond.instanceMethod ({ cls := "DebtorsHouseModel", name := "about", desc := "(II)I" } : Jvm.MethodName)) ∈ lw_all := lw_g (lw_at lw_m7 173 rfl) rfl
theorem q1694 : (Jvm.Cond.selects "DebtorsHouseModel" ({ cls := "DebtorsHouseModel", name := "about", desc := "(II)I" } : Jvm.MethodName) ({ cls := "DebtorsHouseModel", name := "about", desc := "(II)I" } : Jvm.MethodName)) ∈ lw_all := lw_g (lw_at lw_m7 174 rfl) rfl
theorem q1695 : (Jvm.Cond.code ({ cls := "DebtorsHouseModel", name := "about", desc := "(II)I" } : Jvm.MethodName) prog_15_method_22_code (4 : Nat) (Option.some Jvm.ClassFile.FieldType.int)) ∈ lw_all := lw_g (lw_at lw_m7 175 rfl) rfl
theorem q1697 : (Jvm.Cond.instanceMethod ({ cls := "DebtorsHouseModel", name := "ring", desc := "()I" } : Jvm.MethodName)) ∈ lw_all := lw_g (lw_at lw_m7 177 rfl) rfl
theorem q1698 : (Jvm.Cond.selects "DebtorsHouseModel" ({ cls := "DebtorsHouseModel", name := "ring", desc := "()I" } : Jvm.MethodName) ({ cls := "DebtorsHouseModel", name := "ring", desc := "()I" } : Jvm.MethodName)) ∈ lw_all := lw_g (lw_at lw_m7 178 rfl) rfl
theorem q1699 : (Jvm.Cond.code ({ cls := "DebtorsHouseModel", name := "ring", desc := "()I" } : Jvm.MethodName) prog_15_method_26_code (1 : Nat) (Option.some Jvm.ClassFile.FieldType.int)) ∈ lw_all := lw_g (lw_at lw_m7 179 rfl) rfl
theorem q1700 : (Jvm.Cond.methodLink "DebtorsHouseModel" (280 : Nat) ({ cls := "DebtorsHouseModel", name := "findTheRing", desc := "()Z" } : Jvm.MethodName)) ∈ lw_all := lw_g (lw_at lw_m7 180 rfl) rfl
theorem q1701 : (Jvm.Cond.privateMethod ({ cls := "DebtorsHouseModel", name := "findTheRing", desc := "()Z" } : Jvm.MethodName)) ∈ lw_tbl := lw_at lw_m7 181 rfl
theorem q1702 : (Jvm.Cond.instanceMethod ({ cls := "DebtorsHouseModel", name := "findTheRing", desc := "()Z" } : Jvm.MethodName)) ∈ lw_all := lw_g (lw_at lw_m7 182 rfl) rfl
theorem q1703 : (Jvm.Cond.code ({ cls := "DebtorsHouseModel", name := "findTheRing", desc := "()Z" } : Jvm.MethodName) prog_15_method_25_code (4 : Nat) (Option.some Jvm.ClassFile.FieldType.boolean)) ∈ lw_all := lw_g (lw_at lw_m7 183 rfl) rfl
theorem q1704 : (Jvm.Cond.methodLink "DebtorsHouseModel" (277 : Nat) ({ cls := "DebtorsHouseModel", name := "findRing", desc := "(II)Z" } : Jvm.MethodName)) ∈ lw_all := lw_g (lw_at lw_m7 184 rfl) rfl
theorem q1705 : (Jvm.Cond.privateMethod ({ cls := "DebtorsHouseModel", name := "findRing", desc := "(II)Z" } : Jvm.MethodName)) ∈ lw_tbl := lw_at lw_m7 185 rfl
theorem q1706 : (Jvm.Cond.instanceMethod ({ cls := "DebtorsHouseModel", name := "findRing", desc := "(II)Z" } : Jvm.MethodName)) ∈ lw_all := lw_g (lw_at lw_m7 186 rfl) rfl
theorem q1707 : (Jvm.Cond.code ({ cls := "DebtorsHouseModel", name := "findRing", desc := "(II)Z" } : Jvm.MethodName) prog_15_method_24_code (6 : Nat) (Option.some Jvm.ClassFile.FieldType.boolean)) ∈ lw_all := lw_g (lw_at lw_m7 187 rfl) rfl
theorem q1708 : (Jvm.Cond.methodLink "DebtorsHouseModel" (274 : Nat) ({ cls := "DebtorsHouseModel", name := "goesOn", desc := "(III)Z" } : Jvm.MethodName)) ∈ lw_all := lw_g (lw_at lw_m7 188 rfl) rfl
theorem q1709 : (Jvm.Cond.privateMethod ({ cls := "DebtorsHouseModel", name := "goesOn", desc := "(III)Z" } : Jvm.MethodName)) ∈ lw_tbl := lw_at lw_m7 189 rfl
theorem q1710 : (Jvm.Cond.instanceMethod ({ cls := "DebtorsHouseModel", name := "goesOn", desc := "(III)Z" } : Jvm.MethodName)) ∈ lw_all := lw_g (lw_at lw_m7 190 rfl) rfl
theorem q1711 : (Jvm.Cond.code ({ cls := "DebtorsHouseModel", name := "goesOn", desc := "(III)Z" } : Jvm.MethodName) prog_15_method_23_code (5 : Nat) (Option.some Jvm.ClassFile.FieldType.boolean)) ∈ lw_all := lw_g (lw_at lw_m7 191 rfl) rfl
theorem q1713 : (Jvm.Cond.instanceMethod ({ cls := "DebtorsHouseModel", name := "row", desc := "(I)I" } : Jvm.MethodName)) ∈ lw_all := lw_g (lw_at lw_m7 193 rfl) rfl
theorem q1714 : (Jvm.Cond.selects "DebtorsHouseModel" ({ cls := "DebtorsHouseModel", name := "row", desc := "(I)I" } : Jvm.MethodName) ({ cls := "DebtorsHouseModel", name := "row", desc := "(I)I" } : Jvm.MethodName)) ∈ lw_all := lw_g (lw_at lw_m7 194 rfl) rfl
theorem q1715 : (Jvm.Cond.code ({ cls := "DebtorsHouseModel", name := "row", desc := "(I)I" } : Jvm.MethodName) prog_15_method_27_code (2 : Nat) (Option.some Jvm.ClassFile.FieldType.int)) ∈ lw_all := lw_g (lw_at lw_m7 195 rfl) rfl
theorem q1717 : (Jvm.Cond.instanceMethod ({ cls := "DebtorsHouseModel", name := "net", desc := "()I" } : Jvm.MethodName)) ∈ lw_all := lw_g (lw_at lw_m7 197 rfl) rfl
theorem q1718 : (Jvm.Cond.selects "DebtorsHouseModel" ({ cls := "DebtorsHouseModel", name := "net", desc := "()I" } : Jvm.MethodName) ({ cls := "DebtorsHouseModel", name := "net", desc := "()I" } : Jvm.MethodName)) ∈ lw_all := lw_g (lw_at lw_m7 198 rfl) rfl
theorem q1719 : (Jvm.Cond.code ({ cls := "DebtorsHouseModel", name := "net", desc := "()I" } : Jvm.MethodName) prog_15_method_28_code (3 : Nat) (Option.some Jvm.ClassFile.FieldType.int)) ∈ lw_all := lw_g (lw_at lw_m7 199 rfl) rfl
theorem q1721 : (Jvm.Cond.instanceMethod ({ cls := "DebtorsHouseModel", name := "feed", desc := "(IIIII)I" } : Jvm.MethodName)) ∈ lw_all := lw_g (lw_at lw_m7 201 rfl) rfl
theorem q1722 : (Jvm.Cond.selects "DebtorsHouseModel" ({ cls := "DebtorsHouseModel", name := "feed", desc := "(IIIII)I" } : Jvm.MethodName) ({ cls := "DebtorsHouseModel", name := "feed", desc := "(IIIII)I" } : Jvm.MethodName)) ∈ lw_all := lw_g (lw_at lw_m7 202 rfl) rfl
theorem q1723 : (Jvm.Cond.code ({ cls := "DebtorsHouseModel", name := "feed", desc := "(IIIII)I" } : Jvm.MethodName) prog_15_method_29_code (6 : Nat) (Option.some Jvm.ClassFile.FieldType.int)) ∈ lw_all := lw_g (lw_at lw_m7 203 rfl) rfl
theorem q1724 : (Jvm.Cond.methodLink "DebtorsHouseModel" (284 : Nat) ({ cls := "DebtorsHouseModel", name := "four", desc := "(I)V" } : Jvm.MethodName)) ∈ lw_all := lw_g (lw_at lw_m7 204 rfl) rfl
theorem q1725 : (Jvm.Cond.privateMethod ({ cls := "DebtorsHouseModel", name := "four", desc := "(I)V" } : Jvm.MethodName)) ∈ lw_tbl := lw_at lw_m7 205 rfl
theorem q1726 : (Jvm.Cond.instanceMethod ({ cls := "DebtorsHouseModel", name := "four", desc := "(I)V" } : Jvm.MethodName)) ∈ lw_all := lw_g (lw_at lw_m7 206 rfl) rfl
theorem q1727 : (Jvm.Cond.code ({ cls := "DebtorsHouseModel", name := "four", desc := "(I)V" } : Jvm.MethodName) prog_15_method_30_code (3 : Nat) (Option.none : Option Jvm.ClassFile.FieldType)) ∈ lw_all := lw_g (lw_at lw_m7 207 rfl) rfl
theorem q1729 : (Jvm.Cond.instanceMethod ({ cls := "DebtorsHouseModel", name := "end", desc := "(I)I" } : Jvm.MethodName)) ∈ lw_all := lw_g (lw_at lw_m7 209 rfl) rfl
theorem q1730 : (Jvm.Cond.selects "DebtorsHouseModel" ({ cls := "DebtorsHouseModel", name := "end", desc := "(I)I" } : Jvm.MethodName) ({ cls := "DebtorsHouseModel", name := "end", desc := "(I)I" } : Jvm.MethodName)) ∈ lw_all := lw_g (lw_at lw_m7 210 rfl) rfl
theorem q1731 : (Jvm.Cond.code ({ cls := "DebtorsHouseModel", name := "end", desc := "(I)I" } : Jvm.MethodName) prog_15_method_31_code (2 : Nat) (Option.some Jvm.ClassFile.FieldType.int)) ∈ lw_all := lw_g (lw_at lw_m7 211 rfl) rfl
theorem q1733 : (Jvm.Cond.instanceMethod ({ cls := "DebtorsHouseModel", name := "act", desc := "(I)I" } : Jvm.MethodName)) ∈ lw_all := lw_g (lw_at lw_m7 213 rfl) rfl
theorem q1734 : (Jvm.Cond.selects "DebtorsHouseModel" ({ cls := "DebtorsHouseModel", name := "act", desc := "(I)I" } : Jvm.MethodName) ({ cls := "DebtorsHouseModel", name := "act", desc := "(I)I" } : Jvm.MethodName)) ∈ lw_all := lw_g (lw_at lw_m7 214 rfl) rfl
theorem q1735 : (Jvm.Cond.code ({ cls := "DebtorsHouseModel", name := "act", desc := "(I)I" } : Jvm.MethodName) prog_15_method_43_code (7 : Nat) (Option.some Jvm.ClassFile.FieldType.int)) ∈ lw_all := lw_g (lw_at lw_m7 215 rfl) rfl
theorem q1736 : (Jvm.Cond.methodLink "DebtorsHouseModel" (395 : Nat) ({ cls := "DebtorsHouseModel", name := "isDay", desc := "(I)Z" } : Jvm.MethodName)) ∈ lw_all := lw_g (lw_at lw_m7 216 rfl) rfl
theorem q1737 : (Jvm.Cond.static ({ cls := "DebtorsHouseModel", name := "isDay", desc := "(I)Z" } : Jvm.MethodName)) ∈ lw_all := lw_g (lw_at lw_m7 217 rfl) rfl
theorem q1738 : (Jvm.Cond.code ({ cls := "DebtorsHouseModel", name := "isDay", desc := "(I)Z" } : Jvm.MethodName) prog_15_method_12_code (1 : Nat) (Option.some Jvm.ClassFile.FieldType.boolean)) ∈ lw_all := lw_g (lw_at lw_m7 218 rfl) rfl
theorem q1739 : (Jvm.Cond.methodLink "DebtorsHouseModel" (326 : Nat) ({ cls := "DebtorsHouseModel", name := "next", desc := "()V" } : Jvm.MethodName)) ∈ lw_all := lw_g (lw_at lw_m7 219 rfl) rfl
theorem q1740 : (Jvm.Cond.privateMethod ({ cls := "DebtorsHouseModel", name := "next", desc := "()V" } : Jvm.MethodName)) ∈ lw_tbl := lw_at lw_m7 220 rfl
theorem q1741 : (Jvm.Cond.instanceMethod ({ cls := "DebtorsHouseModel", name := "next", desc := "()V" } : Jvm.MethodName)) ∈ lw_all := lw_g (lw_at lw_m7 221 rfl) rfl
theorem q1742 : (Jvm.Cond.code ({ cls := "DebtorsHouseModel", name := "next", desc := "()V" } : Jvm.MethodName) prog_15_method_33_code (3 : Nat) (Option.none : Option Jvm.ClassFile.FieldType)) ∈ lw_all := lw_g (lw_at lw_m7 222 rfl) rfl
theorem q1743 : (Jvm.Cond.methodLink "DebtorsHouseModel" (294 : Nat) ({ cls := "DebtorsHouseModel", name := "see", desc := "()I" } : Jvm.MethodName)) ∈ lw_all := lw_g (lw_at lw_m7 223 rfl) rfl
theorem q1744 : (Jvm.Cond.privateMethod ({ cls := "DebtorsHouseModel", name := "see", desc := "()I" } : Jvm.MethodName)) ∈ lw_tbl := lw_at lw_m7 224 rfl
theorem q1745 : (Jvm.Cond.instanceMethod ({ cls := "DebtorsHouseModel", name := "see", desc := "()I" } : Jvm.MethodName)) ∈ lw_all := lw_g (lw_at lw_m7 225 rfl) rfl
theorem q1746 : (Jvm.Cond.code ({ cls := "DebtorsHouseModel", name := "see", desc := "()I" } : Jvm.MethodName) prog_15_method_32_code (1 : Nat) (Option.some Jvm.ClassFile.FieldType.int)) ∈ lw_all := lw_g (lw_at lw_m7 226 rfl) rfl
theorem q1747 : (Jvm.Cond.methodLink "DebtorsHouseModel" (398 : Nat) ({ cls := "DebtorsHouseModel", name := "oneLine", desc := "()Z" } : Jvm.MethodName)) ∈ lw_all := lw_g (lw_at lw_m7 227 rfl) rfl
theorem q1748 : (Jvm.Cond.privateMethod ({ cls := "DebtorsHouseModel", name := "oneLine", desc := "()Z" } : Jvm.MethodName)) ∈ lw_tbl := lw_at lw_m7 228 rfl
theorem q1749 : (Jvm.Cond.instanceMethod ({ cls := "DebtorsHouseModel", name := "oneLine", desc := "()Z" } : Jvm.MethodName)) ∈ lw_all := lw_g (lw_at lw_m7 229 rfl) rfl
theorem q1750 : (Jvm.Cond.code ({ cls := "DebtorsHouseModel", name := "oneLine", desc := "()Z" } : Jvm.MethodName) prog_15_method_42_code (4 : Nat) (Option.some Jvm.ClassFile.FieldType.boolean)) ∈ lw_all := lw_g (lw_at lw_m7 230 rfl) rfl
theorem q1751 : (Jvm.Cond.methodLink "DebtorsHouseModel" (367 : Nat) ({ cls := "DebtorsHouseModel", name := "later", desc := "(II)V" } : Jvm.MethodName)) ∈ lw_all := lw_g (lw_at lw_m7 231 rfl) rfl
theorem q1752 : (Jvm.Cond.privateMethod ({ cls := "DebtorsHouseModel", name := "later", desc := "(II)V" } : Jvm.MethodName)) ∈ lw_tbl := lw_at lw_m7 232 rfl
theorem q1753 : (Jvm.Cond.instanceMethod ({ cls := "DebtorsHouseModel", name := "later", desc := "(II)V" } : Jvm.MethodName)) ∈ lw_all := lw_g (lw_at lw_m7 233 rfl) rfl
theorem q1754 : (Jvm.Cond.code ({ cls := "DebtorsHouseModel", name := "later", desc := "(II)V" } : Jvm.MethodName) prog_15_method_37_code (3 : Nat) (Option.none : Option Jvm.ClassFile.FieldType)) ∈ lw_all := lw_g (lw_at lw_m7 234 rfl) rfl
theorem q1755 : (Jvm.Cond.methodLink "DebtorsHouseModel" (378 : Nat) ({ cls := "DebtorsHouseModel", name := "topicWord", desc := "()I" } : Jvm.MethodName)) ∈ lw_all := lw_g (lw_at lw_m7 235 rfl) rfl
theorem q1756 : (Jvm.Cond.privateMethod ({ cls := "DebtorsHouseModel", name := "topicWord", desc := "()I" } : Jvm.MethodName)) ∈ lw_tbl := lw_at lw_m7 236 rfl
theorem q1757 : (Jvm.Cond.instanceMethod ({ cls := "DebtorsHouseModel", name := "topicWord", desc := "()I" } : Jvm.MethodName)) ∈ lw_all := lw_g (lw_at lw_m7 237 rfl) rfl
theorem q1758 : (Jvm.Cond.code ({ cls := "DebtorsHouseModel", name := "topicWord", desc := "()I" } : Jvm.MethodName) prog_15_method_39_code (1 : Nat) (Option.some Jvm.ClassFile.FieldType.int)) ∈ lw_all := lw_g (lw_at lw_m7 238 rfl) rfl
theorem q1759 : (Jvm.Cond.constantLong "DebtorsHouseModel" (329 : Nat) (1751477348 : Int64)) ∈ lw_all := lw_g (lw_at lw_m7 239 rfl) rfl
theorem q1760 : (Jvm.Cond.methodLink "DebtorsHouseModel" (331 : Nat) ({ cls := "DebtorsHouseModel", name := "isWord", desc := "(J)Z" } : Jvm.MethodName)) ∈ lw_all := lw_g (lw_at lw_m8 0 rfl) rfl
theorem q1761 : (Jvm.Cond.privateMethod ({ cls := "DebtorsHouseModel", name := "isWord", desc := "(J)Z" } : Jvm.MethodName)) ∈ lw_tbl := lw_at lw_m8 1 rfl
theorem q1762 : (Jvm.Cond.instanceMethod ({ cls := "DebtorsHouseModel", name := "isWord", desc := "(J)Z" } : Jvm.MethodName)) ∈ lw_all := lw_g (lw_at lw_m8 2 rfl) rfl
theorem q1763 : (Jvm.Cond.code ({ cls := "DebtorsHouseModel", name := "isWord", desc := "(J)Z" } : Jvm.MethodName) prog_15_method_34_code (3 : Nat) (Option.some Jvm.ClassFile.FieldType.boolean)) ∈ lw_all := lw_g (lw_at lw_m8 3 rfl) rfl
theorem q1764 : (Jvm.Cond.constantLong "DebtorsHouseModel" (335 : Nat) (435644822137 : Int64)) ∈ lw_all := lw_g (lw_at lw_m8 4 rfl) rfl
theorem q1765 : (Jvm.Cond.constantLong "DebtorsHouseModel" (337 : Nat) (431131028601 : Int64)) ∈ lw_all := lw_g (lw_at lw_m8 5 rfl) rfl
theorem q1766 : (Jvm.Cond.constantLong "DebtorsHouseModel" (339 : Nat) (2002873451 : Int64)) ∈ lw_all := lw_g (lw_at lw_m8 6 rfl) rfl
theorem q1767 : (Jvm.Cond.constantLong "DebtorsHouseModel" (341 : Nat) (121450625394034 : Int64)) ∈ lw_all := lw_g (lw_at lw_m8 7 rfl) rfl
theorem q1768 : (Jvm.Cond.constantLong "DebtorsHouseModel" (343 : Nat) (512970880104 : Int64)) ∈ lw_all := lw_g (lw_at lw_m8 8 rfl) rfl
theorem q1769 : (Jvm.Cond.constantLong "DebtorsHouseModel" (345 : Nat) (422877685106 : Int64)) ∈ lw_all := lw_g (lw_at lw_m8 9 rfl) rfl
theorem q1770 : (Jvm.Cond.constantLong "DebtorsHouseModel" (347 : Nat) (1801807216 : Int64)) ∈ lw_all := lw_g (lw_at lw_m8 10 rfl) rfl
theorem q1771 : (Jvm.Cond.constantLong "DebtorsHouseModel" (349 : Nat) (478627065459 : Int64)) ∈ lw_all := lw_g (lw_at lw_m8 11 rfl) rfl
theorem q1772 : (Jvm.Cond.methodLink "DebtorsHouseModel" (323 : Nat) ({ cls := "DebtorsHouseModel", name := "wrong", desc := "()Z" } : Jvm.MethodName)) ∈ lw_all := lw_g (lw_at lw_m8 12 rfl) rfl
theorem q1773 : (Jvm.Cond.privateMethod ({ cls := "DebtorsHouseModel", name := "wrong", desc := "()Z" } : Jvm.MethodName)) ∈ lw_tbl := lw_at lw_m8 13 rfl
theorem q1774 : (Jvm.Cond.instanceMethod ({ cls := "DebtorsHouseModel", name := "wrong", desc := "()Z" } : Jvm.MethodName)) ∈ lw_all := lw_g (lw_at lw_m8 14 rfl) rfl
theorem q1775 : (Jvm.Cond.code ({ cls := "DebtorsHouseModel", name := "wrong", desc := "()Z" } : Jvm.MethodName) prog_15_method_36_code (1 : Nat) (Option.some Jvm.ClassFile.FieldType.boolean)) ∈ lw_all := lw_g (lw_at lw_m8 15 rfl) rfl
theorem q1776 : (Jvm.Cond.constantLong "DebtorsHouseModel" (381 : Nat) (26982 : Int64)) ∈ lw_all := lw_g (lw_at lw_m8 16 rfl) rfl
theorem q1777 : (Jvm.Cond.methodLink "DebtorsHouseModel" (383 : Nat) ({ cls := "DebtorsHouseModel", name := "test", desc := "(II)Z" } : Jvm.MethodName)) ∈ lw_all := lw_g (lw_at lw_m8 17 rfl) rfl
theorem q1778 : (Jvm.Cond.privateMethod ({ cls := "DebtorsHouseModel", name := "test", desc := "(II)Z" } : Jvm.MethodName)) ∈ lw_tbl := lw_at lw_m8 18 rfl
theorem q1779 : (Jvm.Cond.instanceMethod ({ cls := "DebtorsHouseModel", name := "test", desc := "(II)Z" } : Jvm.MethodName)) ∈ lw_all := lw_g (lw_at lw_m8 19 rfl) rfl
theorem q1780 : (Jvm.Cond.code ({ cls := "DebtorsHouseModel", name := "test", desc := "(II)Z" } : Jvm.MethodName) prog_15_method_41_code (8 : Nat) (Option.some Jvm.ClassFile.FieldType.boolean)) ∈ lw_all := lw_g (lw_at lw_m8 20 rfl) rfl
theorem q1781 : (Jvm.Cond.constantLong "DebtorsHouseModel" (370 : Nat) (7237492 : Int64)) ∈ lw_all := lw_g (lw_at lw_m8 21 rfl) rfl
theorem q1782 : (Jvm.Cond.methodLink "DebtorsHouseModel" (372 : Nat) ({ cls := "DebtorsHouseModel", name := "testWord", desc := "()I" } : Jvm.MethodName)) ∈ lw_all := lw_g (lw_at lw_m8 22 rfl) rfl
theorem q1783 : (Jvm.Cond.privateMethod ({ cls := "DebtorsHouseModel", name := "testWord", desc := "()I" } : Jvm.MethodName)) ∈ lw_tbl := lw_at lw_m8 23 rfl
theorem q1784 : (Jvm.Cond.instanceMethod ({ cls := "DebtorsHouseModel", name := "testWord", desc := "()I" } : Jvm.MethodName)) ∈ lw_all := lw_g (lw_at lw_m8 24 rfl) rfl
theorem q1785 : (Jvm.Cond.code ({ cls := "DebtorsHouseModel", name := "testWord", desc := "()I" } : Jvm.MethodName) prog_15_method_40_code (1 : Nat) (Option.some Jvm.ClassFile.FieldType.int)) ∈ lw_all := lw_g (lw_at lw_m8 25 rfl) rfl
theorem q1786 : (Jvm.Cond.constantLong "DebtorsHouseModel" (351 : Nat) (7566701 : Int64)) ∈ lw_all := lw_g (lw_at lw_m8 26 rfl) rfl
theorem q1787 : (Jvm.Cond.constantLong "DebtorsHouseModel" (353 : Nat) (431197680755 : Int64)) ∈ lw_all := lw_g (lw_at lw_m8 27 rfl) rfl
theorem q1788 : (Jvm.Cond.constantLong "DebtorsHouseModel" (355 : Nat) (1918987883 : Int64)) ∈ lw_all := lw_g (lw_at lw_m8 28 rfl) rfl
theorem q1789 : (Jvm.Cond.constantLong "DebtorsHouseModel" (357 : Nat) (1684109683 : Int64)) ∈ lw_all := lw_g (lw_at lw_m8 29 rfl) rfl
theorem q1790 : (Jvm.Cond.constantLong "DebtorsHouseModel" (359 : Nat) (7163091121595377006 : Int64)) ∈ lw_all := lw_g (lw_at lw_m8 30 rfl) rfl
theorem q1791 : (Jvm.Cond.constantLong "DebtorsHouseModel" (361 : Nat) (1919905645 : Int64)) ∈ lw_all := lw_g (lw_at lw_m8 31 rfl) rfl
theorem q1792 : (Jvm.Cond.constantLong "DebtorsHouseModel" (363 : Nat) (1752135026 : Int64)) ∈ lw_all := lw_g (lw_at lw_m8 32 rfl) rfl
theorem q1793 : (Jvm.Cond.constantLong "DebtorsHouseModel" (365 : Nat) (427070942835 : Int64)) ∈ lw_all := lw_g (lw_at lw_m8 33 rfl) rfl
theorem q1794 : (Jvm.Cond.constantLong "DebtorsHouseModel" (386 : Nat) (6385252 : Int64)) ∈ lw_all := lw_g (lw_at lw_m8 34 rfl) rfl
theorem q1795 : (Jvm.Cond.methodLink "DebtorsHouseModel" (388 : Nat) ({ cls := "DebtorsHouseModel", name := "need", desc := "(I)Z" } : Jvm.MethodName)) ∈ lw_all := lw_g (lw_at lw_m8 35 rfl) rfl
theorem q1796 : (Jvm.Cond.privateMethod ({ cls := "DebtorsHouseModel", name := "need", desc := "(I)Z" } : Jvm.MethodName)) ∈ lw_tbl := lw_at lw_m8 36 rfl
theorem q1797 : (Jvm.Cond.instanceMethod ({ cls := "DebtorsHouseModel", name := "need", desc := "(I)Z" } : Jvm.MethodName)) ∈ lw_all := lw_g (lw_at lw_m8 37 rfl) rfl
theorem q1798 : (Jvm.Cond.code ({ cls := "DebtorsHouseModel", name := "need", desc := "(I)Z" } : Jvm.MethodName) prog_15_method_38_code (2 : Nat) (Option.some Jvm.ClassFile.FieldType.boolean)) ∈ lw_all := lw_g (lw_at lw_m8 38 rfl) rfl
theorem q1799 : (Jvm.Cond.methodLink "DebtorsHouseModel" (320 : Nat) ({ cls := "DebtorsHouseModel", name := "isSign", desc := "(I)Z" } : Jvm.MethodName)) ∈ lw_all := lw_g (lw_at lw_m8 39 rfl) rfl
theorem q1800 : (Jvm.Cond.privateMethod ({ cls := "DebtorsHouseModel", name := "isSign", desc := "(I)Z" } : Jvm.MethodName)) ∈ lw_tbl := lw_at lw_m8 40 rfl
theorem q1801 : (Jvm.Cond.instanceMethod ({ cls := "DebtorsHouseModel", name := "isSign", desc := "(I)Z" } : Jvm.MethodName)) ∈ lw_all := lw_g (lw_at lw_m8 41 rfl) rfl
theorem q1802 : (Jvm.Cond.code ({ cls := "DebtorsHouseModel", name := "isSign", desc := "(I)Z" } : Jvm.MethodName) prog_15_method_35_code (2 : Nat) (Option.some Jvm.ClassFile.FieldType.boolean)) ∈ lw_all := lw_g (lw_at lw_m8 42 rfl) rfl
theorem q1803 : (Jvm.Cond.constantLong "DebtorsHouseModel" (391 : Nat) (7955827 : Int64)) ∈ lw_all := lw_g (lw_at lw_m8 43 rfl) rfl
theorem q1804 : (Jvm.Cond.constantLong "DebtorsHouseModel" (393 : Nat) (28271 : Int64)) ∈ lw_all := lw_g (lw_at lw_m8 44 rfl) rfl
theorem q1806 : (Jvm.Cond.instanceMethod ({ cls := "DebtorsHouseModel", name := "fault", desc := "(I)I" } : Jvm.MethodName)) ∈ lw_all := lw_g (lw_at lw_m8 46 rfl) rfl
theorem q1807 : (Jvm.Cond.selects "DebtorsHouseModel" ({ cls := "DebtorsHouseModel", name := "fault", desc := "(I)I" } : Jvm.MethodName) ({ cls := "DebtorsHouseModel", name := "fault", desc := "(I)I" } : Jvm.MethodName)) ∈ lw_all := lw_g (lw_at lw_m8 47 rfl) rfl
theorem q1808 : (Jvm.Cond.code ({ cls := "DebtorsHouseModel", name := "fault", desc := "(I)I" } : Jvm.MethodName) prog_15_method_44_code (2 : Nat) (Option.some Jvm.ClassFile.FieldType.int)) ∈ lw_all := lw_g (lw_at lw_m8 48 rfl) rfl
theorem q1810 : (Jvm.Cond.instanceMethod ({ cls := "DebtorsHouseModel", name := "good", desc := "(II)I" } : Jvm.MethodName)) ∈ lw_all := lw_g (lw_at lw_m8 50 rfl) rfl
theorem q1811 : (Jvm.Cond.selects "DebtorsHouseModel" ({ cls := "DebtorsHouseModel", name := "good", desc := "(II)I" } : Jvm.MethodName) ({ cls := "DebtorsHouseModel", name := "good", desc := "(II)I" } : Jvm.MethodName)) ∈ lw_all := lw_g (lw_at lw_m8 51 rfl) rfl
theorem q1812 : (Jvm.Cond.code ({ cls := "DebtorsHouseModel", name := "good", desc := "(II)I" } : Jvm.MethodName) prog_15_method_46_code (3 : Nat) (Option.some Jvm.ClassFile.FieldType.int)) ∈ lw_all := lw_g (lw_at lw_m8 52 rfl) rfl
theorem q1813 : (Jvm.Cond.methodLink "DebtorsHouseModel" (401 : Nat) ({ cls := "DebtorsHouseModel", name := "goodOn", desc := "(II)I" } : Jvm.MethodName)) ∈ lw_all := lw_g (lw_at lw_m8 53 rfl) rfl
theorem q1814 : (Jvm.Cond.privateMethod ({ cls := "DebtorsHouseModel", name := "goodOn", desc := "(II)I" } : Jvm.MethodName)) ∈ lw_tbl := lw_at lw_m8 54 rfl
theorem q1815 : (Jvm.Cond.instanceMethod ({ cls := "DebtorsHouseModel", name := "goodOn", desc := "(II)I" } : Jvm.MethodName)) ∈ lw_all := lw_g (lw_at lw_m8 55 rfl) rfl
theorem q1816 : (Jvm.Cond.code ({ cls := "DebtorsHouseModel", name := "goodOn", desc := "(II)I" } : Jvm.MethodName) prog_15_method_45_code (5 : Nat) (Option.some Jvm.ClassFile.FieldType.int)) ∈ lw_all := lw_g (lw_at lw_m8 56 rfl) rfl
theorem q1818 : (Jvm.Cond.instanceMethod ({ cls := "DebtorsHouseModel", name := "tells", desc := "(III)I" } : Jvm.MethodName)) ∈ lw_all := lw_g (lw_at lw_m8 58 rfl) rfl
theorem q1819 : (Jvm.Cond.selects "DebtorsHouseModel" ({ cls := "DebtorsHouseModel", name := "tells", desc := "(III)I" } : Jvm.MethodName) ({ cls := "DebtorsHouseModel", name := "tells", desc := "(III)I" } : Jvm.MethodName)) ∈ lw_all := lw_g (lw_at lw_m8 59 rfl) rfl
theorem q1820 : (Jvm.Cond.code ({ cls := "DebtorsHouseModel", name := "tells", desc := "(III)I" } : Jvm.MethodName) prog_15_method_52_code (4 : Nat) (Option.some Jvm.ClassFile.FieldType.int)) ∈ lw_all := lw_g (lw_at lw_m8 60 rfl) rfl
theorem q1821 : (Jvm.Cond.methodLink "DebtorsHouseModel" (411 : Nat) ({ cls := "DebtorsHouseModel", name := "lookAt", desc := "(I)V" } : Jvm.MethodName)) ∈ lw_all := lw_g (lw_at lw_m8 61 rfl) rfl
theorem q1822 : (Jvm.Cond.privateMethod ({ cls := "DebtorsHouseModel", name := "lookAt", desc := "(I)V" } : Jvm.MethodName)) ∈ lw_tbl := lw_at lw_m8 62 rfl
theorem q1823 : (Jvm.Cond.instanceMethod ({ cls := "DebtorsHouseModel", name := "lookAt", desc := "(I)V" } : Jvm.MethodName)) ∈ lw_all := lw_g (lw_at lw_m8 63 rfl) rfl
theorem q1824 : (Jvm.Cond.code ({ cls := "DebtorsHouseModel", name := "lookAt", desc := "(I)V" } : Jvm.MethodName) prog_15_method_47_code (3 : Nat) (Option.none : Option Jvm.ClassFile.FieldType)) ∈ lw_all := lw_g (lw_at lw_m8 64 rfl) rfl
theorem q1825 : (Jvm.Cond.methodLink "DebtorsHouseModel" (414 : Nat) ({ cls := "DebtorsHouseModel", name := "tellsBy", desc := "(II)I" } : Jvm.MethodName)) ∈ lw_all := lw_g (lw_at lw_m8 65 rfl) rfl
theorem q1826 : (Jvm.Cond.privateMethod ({ cls := "DebtorsHouseModel", name := "tellsBy", desc := "(II)I" } : Jvm.MethodName)) ∈ lw_tbl := lw_at lw_m8 66 rfl
theorem q1827 : (Jvm.Cond.instanceMethod ({ cls := "DebtorsHouseModel", name := "tellsBy", desc := "(II)I" } : Jvm.MethodName)) ∈ lw_all := lw_g (lw_at lw_m8 67 rfl) rfl
theorem q1828 : (Jvm.Cond.code ({ cls := "DebtorsHouseModel", name := "tellsBy", desc := "(II)I" } : Jvm.MethodName) prog_15_method_50_code (4 : Nat) (Option.some Jvm.ClassFile.FieldType.int)) ∈ lw_all := lw_g (lw_at lw_m8 68 rfl) rfl
theorem q1829 : (Jvm.Cond.methodLink "DebtorsHouseModel" (405 : Nat) ({ cls := "DebtorsHouseModel", name := "holds", desc := "(I)Z" } : Jvm.MethodName)) ∈ lw_all := lw_g (lw_at lw_m8 69 rfl) rfl
theorem q1830 : (Jvm.Cond.privateMethod ({ cls := "DebtorsHouseModel", name := "holds", desc := "(I)Z" } : Jvm.MethodName)) ∈ lw_tbl := lw_at lw_m8 70 rfl
theorem q1831 : (Jvm.Cond.instanceMethod ({ cls := "DebtorsHouseModel", name := "holds", desc := "(I)Z" } : Jvm.MethodName)) ∈ lw_all := lw_g (lw_at lw_m8 71 rfl) rfl
theorem q1832 : (Jvm.Cond.code ({ cls := "DebtorsHouseModel", name := "holds", desc := "(I)Z" } : Jvm.MethodName) prog_15_method_48_code (6 : Nat) (Option.some Jvm.ClassFile.FieldType.boolean)) ∈ lw_all := lw_g (lw_at lw_m8 72 rfl) rfl
theorem q1833 : (Jvm.Cond.methodLink "DebtorsHouseModel" (408 : Nat) ({ cls := "DebtorsHouseModel", name := "plain", desc := "(I)I" } : Jvm.MethodName)) ∈ lw_all := lw_g (lw_at lw_m8 73 rfl) rfl
theorem q1834 : (Jvm.Cond.static ({ cls := "DebtorsHouseModel", name := "plain", desc := "(I)I" } : Jvm.MethodName)) ∈ lw_all := lw_g (lw_at lw_m8 74 rfl) rfl
theorem q1835 : (Jvm.Cond.code ({ cls := "DebtorsHouseModel", name := "plain", desc := "(I)I" } : Jvm.MethodName) prog_15_method_49_code (1 : Nat) (Option.some Jvm.ClassFile.FieldType.int)) ∈ lw_all := lw_g (lw_at lw_m8 75 rfl) rfl
theorem q1837 : (Jvm.Cond.instanceMethod ({ cls := "DebtorsHouseModel", name := "lawful", desc := "(III)Z" } : Jvm.MethodName)) ∈ lw_all := lw_g (lw_at lw_m8 77 rfl) rfl
theorem q1838 : (Jvm.Cond.selects "DebtorsHouseModel" ({ cls := "DebtorsHouseModel", name := "lawful", desc := "(III)Z" } : Jvm.MethodName) ({ cls := "DebtorsHouseModel", name := "lawful", desc := "(III)Z" } : Jvm.MethodName)) ∈ lw_all := lw_g (lw_at lw_m8 78 rfl) rfl
theorem q1839 : (Jvm.Cond.code ({ cls := "DebtorsHouseModel", name := "lawful", desc := "(III)Z" } : Jvm.MethodName) prog_15_method_53_code (7 : Nat) (Option.some Jvm.ClassFile.FieldType.boolean)) ∈ lw_all := lw_g (lw_at lw_m8 79 rfl) rfl
theorem q1841 : (Jvm.Cond.instanceMethod ({ cls := "DebtorsHouseModel", name := "hold", desc := "(II)Z" } : Jvm.MethodName)) ∈ lw_all := lw_g (lw_at lw_m8 81 rfl) rfl
theorem q1842 : (Jvm.Cond.selects "DebtorsHouseModel" ({ cls := "DebtorsHouseModel", name := "hold", desc := "(II)Z" } : Jvm.MethodName) ({ cls := "DebtorsHouseModel", name := "hold", desc := "(II)Z" } : Jvm.MethodName)) ∈ lw_all := lw_g (lw_at lw_m8 82 rfl) rfl
theorem q1843 : (Jvm.Cond.code ({ cls := "DebtorsHouseModel", name := "hold", desc := "(II)Z" } : Jvm.MethodName) prog_15_method_55_code (3 : Nat) (Option.some Jvm.ClassFile.FieldType.boolean)) ∈ lw_all := lw_g (lw_at lw_m8 83 rfl) rfl
theorem q1844 : (Jvm.Cond.methodLink "DebtorsHouseModel" (417 : Nat) ({ cls := "DebtorsHouseModel", name := "owes", desc := "(II)Z" } : Jvm.MethodName)) ∈ lw_all := lw_g (lw_at lw_m8 84 rfl) rfl
theorem q1845 : (Jvm.Cond.privateMethod ({ cls := "DebtorsHouseModel", name := "owes", desc := "(II)Z" } : Jvm.MethodName)) ∈ lw_tbl := lw_at lw_m8 85 rfl
theorem q1846 : (Jvm.Cond.instanceMethod ({ cls := "DebtorsHouseModel", name := "owes", desc := "(II)Z" } : Jvm.MethodName)) ∈ lw_all := lw_g (lw_at lw_m8 86 rfl) rfl
theorem q1847 : (Jvm.Cond.code ({ cls := "DebtorsHouseModel", name := "owes", desc := "(II)Z" } : Jvm.MethodName) prog_15_method_54_code (4 : Nat) (Option.some Jvm.ClassFile.FieldType.boolean)) ∈ lw_all := lw_g (lw_at lw_m8 87 rfl) rfl
theorem q1848 : (Jvm.Cond.methodLink "DebtorsHouseModel" (420 : Nat) ({ cls := "DebtorsHouseModel", name := "tellsNow", desc := "(II)I" } : Jvm.MethodName)) ∈ lw_all := lw_g (lw_at lw_m8 88 rfl) rfl
theorem q1849 : (Jvm.Cond.privateMethod ({ cls := "DebtorsHouseModel", name := "tellsNow", desc := "(II)I" } : Jvm.MethodName)) ∈ lw_tbl := lw_at lw_m8 89 rfl
theorem q1850 : (Jvm.Cond.instanceMethod ({ cls := "DebtorsHouseModel", name := "tellsNow", desc := "(II)I" } : Jvm.MethodName)) ∈ lw_all := lw_g (lw_at lw_m8 90 rfl) rfl
theorem q1851 : (Jvm.Cond.code ({ cls := "DebtorsHouseModel", name := "tellsNow", desc := "(II)I" } : Jvm.MethodName) prog_15_method_51_code (3 : Nat) (Option.some Jvm.ClassFile.FieldType.int)) ∈ lw_all := lw_g (lw_at lw_m8 91 rfl) rfl
theorem q1853 : (Jvm.Cond.instanceMethod ({ cls := "DebtorsHouseModel", name := "tire", desc := "(II)Z" } : Jvm.MethodName)) ∈ lw_all := lw_g (lw_at lw_m8 93 rfl) rfl
theorem q1854 : (Jvm.Cond.selects "DebtorsHouseModel" ({ cls := "DebtorsHouseModel", name := "tire", desc := "(II)Z" } : Jvm.MethodName) ({ cls := "DebtorsHouseModel", name := "tire", desc := "(II)Z" } : Jvm.MethodName)) ∈ lw_all := lw_g (lw_at lw_m8 94 rfl) rfl
theorem q1855 : (Jvm.Cond.code ({ cls := "DebtorsHouseModel", name := "tire", desc := "(II)Z" } : Jvm.MethodName) prog_15_method_56_code (3 : Nat) (Option.some Jvm.ClassFile.FieldType.boolean)) ∈ lw_all := lw_g (lw_at lw_m8 95 rfl) rfl
theorem q1857 : (Jvm.Cond.instanceMethod ({ cls := "DebtorsHouseModel", name := "leave", desc := "(I)Z" } : Jvm.MethodName)) ∈ lw_all := lw_g (lw_at lw_m8 97 rfl) rfl
theorem q1858 : (Jvm.Cond.selects "DebtorsHouseModel" ({ cls := "DebtorsHouseModel", name := "leave", desc := "(I)Z" } : Jvm.MethodName) ({ cls := "DebtorsHouseModel", name := "leave", desc := "(I)Z" } : Jvm.MethodName)) ∈ lw_all := lw_g (lw_at lw_m8 98 rfl) rfl
theorem q1859 : (Jvm.Cond.code ({ cls := "DebtorsHouseModel", name := "leave", desc := "(I)Z" } : Jvm.MethodName) prog_15_method_58_code (2 : Nat) (Option.some Jvm.ClassFile.FieldType.boolean)) ∈ lw_all := lw_g (lw_at lw_m8 99 rfl) rfl
theorem q1860 : (Jvm.Cond.methodLink "DebtorsHouseModel" (423 : Nat) ({ cls := "DebtorsHouseModel", name := "goes", desc := "(I)V" } : Jvm.MethodName)) ∈ lw_all := lw_g (lw_at lw_m8 100 rfl) rfl
theorem q1861 : (Jvm.Cond.privateMethod ({ cls := "DebtorsHouseModel", name := "goes", desc := "(I)V" } : Jvm.MethodName)) ∈ lw_tbl := lw_at lw_m8 101 rfl
theorem q1862 : (Jvm.Cond.instanceMethod ({ cls := "DebtorsHouseModel", name := "goes", desc := "(I)V" } : Jvm.MethodName)) ∈ lw_all := lw_g (lw_at lw_m8 102 rfl) rfl
theorem q1863 : (Jvm.Cond.code ({ cls := "DebtorsHouseModel", name := "goes", desc := "(I)V" } : Jvm.MethodName) prog_15_method_57_code (2 : Nat) (Option.none : Option Jvm.ClassFile.FieldType)) ∈ lw_all := lw_g (lw_at lw_m8 103 rfl) rfl
theorem q1865 : (Jvm.Cond.instanceMethod ({ cls := "DebtorsHouseModel", name := "room", desc := "(II)Z" } : Jvm.MethodName)) ∈ lw_all := lw_g (lw_at lw_m8 105 rfl) rfl
theorem q1866 : (Jvm.Cond.selects "DebtorsHouseModel" ({ cls := "DebtorsHouseModel", name := "room", desc := "(II)Z" } : Jvm.MethodName) ({ cls := "DebtorsHouseModel", name := "room", desc := "(II)Z" } : Jvm.MethodName)) ∈ lw_all := lw_g (lw_at lw_m8 106 rfl) rfl
theorem q1867 : (Jvm.Cond.code ({ cls := "DebtorsHouseModel", name := "room", desc := "(II)Z" } : Jvm.MethodName) prog_15_method_59_code (3 : Nat) (Option.some Jvm.ClassFile.FieldType.boolean)) ∈ lw_all := lw_g (lw_at lw_m8 107 rfl) rfl
theorem q1869 : (Jvm.Cond.instanceMethod ({ cls := "DebtorsHouseModel", name := "walk", desc := "(IZ)Z" } : Jvm.MethodName)) ∈ lw_all := lw_g (lw_at lw_m8 109 rfl) rfl
theorem q1870 : (Jvm.Cond.selects "DebtorsHouseModel" ({ cls := "DebtorsHouseModel", name := "walk", desc := "(IZ)Z" } : Jvm.MethodName) ({ cls := "DebtorsHouseModel", name := "walk", desc := "(IZ)Z" } : Jvm.MethodName)) ∈ lw_all := lw_g (lw_at lw_m8 110 rfl) rfl
theorem q1871 : (Jvm.Cond.code ({ cls := "DebtorsHouseModel", name := "walk", desc := "(IZ)Z" } : Jvm.MethodName) prog_15_method_60_code (3 : Nat) (Option.some Jvm.ClassFile.FieldType.boolean)) ∈ lw_all := lw_g (lw_at lw_m8 111 rfl) rfl
theorem q1873 : (Jvm.Cond.instanceMethod ({ cls := "DebtorsHouseModel", name := "hour", desc := "()I" } : Jvm.MethodName)) ∈ lw_all := lw_g (lw_at lw_m8 113 rfl) rfl
theorem q1874 : (Jvm.Cond.selects "DebtorsHouseModel" ({ cls := "DebtorsHouseModel", name := "hour", desc := "()I" } : Jvm.MethodName) ({ cls := "DebtorsHouseModel", name := "hour", desc := "()I" } : Jvm.MethodName)) ∈ lw_all := lw_g (lw_at lw_m8 114 rfl) rfl
theorem q1875 : (Jvm.Cond.code ({ cls := "DebtorsHouseModel", name := "hour", desc := "()I" } : Jvm.MethodName) prog_15_method_61_code (2 : Nat) (Option.some Jvm.ClassFile.FieldType.int)) ∈ lw_all := lw_g (lw_at lw_m8 115 rfl) rfl
theorem q1877 : (Jvm.Cond.instanceMethod ({ cls := "DebtorsHouseModel", name := "day", desc := "()I" } : Jvm.MethodName)) ∈ lw_all := lw_g (lw_at lw_m8 117 rfl) rfl
theorem q1878 : (Jvm.Cond.selects "DebtorsHouseModel" ({ cls := "DebtorsHouseModel", name := "day", desc := "()I" } : Jvm.MethodName) ({ cls := "DebtorsHouseModel", name := "day", desc := "()I" } : Jvm.MethodName)) ∈ lw_all := lw_g (lw_at lw_m8 118 rfl) rfl
theorem q1879 : (Jvm.Cond.code ({ cls := "DebtorsHouseModel", name := "day", desc := "()I" } : Jvm.MethodName) prog_15_method_63_code (3 : Nat) (Option.some Jvm.ClassFile.FieldType.int)) ∈ lw_all := lw_g (lw_at lw_m8 119 rfl) rfl
theorem q1880 : (Jvm.Cond.methodLink "DebtorsHouseModel" (426 : Nat) ({ cls := "DebtorsHouseModel", name := "theTurn", desc := "()I" } : Jvm.MethodName)) ∈ lw_all := lw_g (lw_at lw_m8 120 rfl) rfl
theorem q1881 : (Jvm.Cond.privateMethod ({ cls := "DebtorsHouseModel", name := "theTurn", desc := "()I" } : Jvm.MethodName)) ∈ lw_tbl := lw_at lw_m8 121 rfl
theorem q1882 : (Jvm.Cond.instanceMethod ({ cls := "DebtorsHouseModel", name := "theTurn", desc := "()I" } : Jvm.MethodName)) ∈ lw_all := lw_g (lw_at lw_m8 122 rfl) rfl
theorem q1883 : (Jvm.Cond.code ({ cls := "DebtorsHouseModel", name := "theTurn", desc := "()I" } : Jvm.MethodName) prog_15_method_62_code (4 : Nat) (Option.some Jvm.ClassFile.FieldType.int)) ∈ lw_all := lw_g (lw_at lw_m8 123 rfl) rfl
theorem q1885 : (Jvm.Cond.instanceMethod ({ cls := "DebtorsHouseModel", name := "turn", desc := "()I" } : Jvm.MethodName)) ∈ lw_all := lw_g (lw_at lw_m8 125 rfl) rfl
theorem q1886 : (Jvm.Cond.selects "DebtorsHouseModel" ({ cls := "DebtorsHouseModel", name := "turn", desc := "()I" } : Jvm.MethodName) ({ cls := "DebtorsHouseModel", name := "turn", desc := "()I" } : Jvm.MethodName)) ∈ lw_all := lw_g (lw_at lw_m8 126 rfl) rfl
theorem q1887 : (Jvm.Cond.code ({ cls := "DebtorsHouseModel", name := "turn", desc := "()I" } : Jvm.MethodName) prog_15_method_64_code (1 : Nat) (Option.some Jvm.ClassFile.FieldType.int)) ∈ lw_all := lw_g (lw_at lw_m8 127 rfl) rfl
theorem q1889 : (Jvm.Cond.instanceMethod ({ cls := "DebtorsHouseModel", name := "alms", desc := "(I)I" } : Jvm.MethodName)) ∈ lw_all := lw_g (lw_at lw_m8 129 rfl) rfl
theorem q1890 : (Jvm.Cond.selects "DebtorsHouseModel" ({ cls := "DebtorsHouseModel", name := "alms", desc := "(I)I" } : Jvm.MethodName) ({ cls := "DebtorsHouseModel", name := "alms", desc := "(I)I" } : Jvm.MethodName)) ∈ lw_all := lw_g (lw_at lw_m8 130 rfl) rfl
theorem q1891 : (Jvm.Cond.code ({ cls := "DebtorsHouseModel", name := "alms", desc := "(I)I" } : Jvm.MethodName) prog_15_method_65_code (3 : Nat) (Option.some Jvm.ClassFile.FieldType.int)) ∈ lw_all := lw_g (lw_at lw_m8 131 rfl) rfl
theorem q1893 : (Jvm.Cond.instanceMethod ({ cls := "DebtorsHouseModel", name := "tell", desc := "(II)I" } : Jvm.MethodName)) ∈ lw_all := lw_g (lw_at lw_m8 133 rfl) rfl
theorem q1894 : (Jvm.Cond.selects "DebtorsHouseModel" ({ cls := "DebtorsHouseModel", name := "tell", desc := "(II)I" } : Jvm.MethodName) ({ cls := "DebtorsHouseModel", name := "tell", desc := "(II)I" } : Jvm.MethodName)) ∈ lw_all := lw_g (lw_at lw_m8 134 rfl) rfl
theorem q1895 : (Jvm.Cond.code ({ cls := "DebtorsHouseModel", name := "tell", desc := "(II)I" } : Jvm.MethodName) prog_15_method_68_code (3 : Nat) (Option.some Jvm.ClassFile.FieldType.int)) ∈ lw_all := lw_g (lw_at lw_m8 135 rfl) rfl
theorem q1896 : (Jvm.Cond.methodLink "DebtorsHouseModel" (429 : Nat) ({ cls := "DebtorsHouseModel", name := "dueFrom", desc := "(I)I" } : Jvm.MethodName)) ∈ lw_all := lw_g (lw_at lw_m8 136 rfl) rfl
theorem q1897 : (Jvm.Cond.privateMethod ({ cls := "DebtorsHouseModel", name := "dueFrom", desc := "(I)I" } : Jvm.MethodName)) ∈ lw_tbl := lw_at lw_m8 137 rfl
theorem q1898 : (Jvm.Cond.instanceMethod ({ cls := "DebtorsHouseModel", name := "dueFrom", desc := "(I)I" } : Jvm.MethodName)) ∈ lw_all := lw_g (lw_at lw_m8 138 rfl) rfl
theorem q1899 : (Jvm.Cond.code ({ cls := "DebtorsHouseModel", name := "dueFrom", desc := "(I)I" } : Jvm.MethodName) prog_15_method_66_code (4 : Nat) (Option.some Jvm.ClassFile.FieldType.int)) ∈ lw_all := lw_g (lw_at lw_m8 139 rfl) rfl
theorem q1900 : (Jvm.Cond.methodLink "DebtorsHouseModel" (432 : Nat) ({ cls := "DebtorsHouseModel", name := "dueTo", desc := "(I)I" } : Jvm.MethodName)) ∈ lw_all := lw_g (lw_at lw_m8 140 rfl) rfl
theorem q1901 : (Jvm.Cond.privateMethod ({ cls := "DebtorsHouseModel", name := "dueTo", desc := "(I)I" } : Jvm.MethodName)) ∈ lw_tbl := lw_at lw_m8 141 rfl
theorem q1902 : (Jvm.Cond.instanceMethod ({ cls := "DebtorsHouseModel", name := "dueTo", desc := "(I)I" } : Jvm.MethodName)) ∈ lw_all := lw_g (lw_at lw_m8 142 rfl) rfl
theorem q1903 : (Jvm.Cond.code ({ cls := "DebtorsHouseModel", name := "dueTo", desc := "(I)I" } : Jvm.MethodName) prog_15_method_67_code (4 : Nat) (Option.some Jvm.ClassFile.FieldType.int)) ∈ lw_all := lw_g (lw_at lw_m8 143 rfl) rfl
theorem q1905 : (Jvm.Cond.instanceMethod ({ cls := "DebtorsHouseModel", name := "least", desc := "(III)Z" } : Jvm.MethodName)) ∈ lw_all := lw_g (lw_at lw_m8 145 rfl) rfl
theorem q1906 : (Jvm.Cond.selects "DebtorsHouseModel" ({ cls := "DebtorsHouseModel", name := "least", desc := "(III)Z" } : Jvm.MethodName) ({ cls := "DebtorsHouseModel", name := "least", desc := "(III)Z" } : Jvm.MethodName)) ∈ lw_all := lw_g (lw_at lw_m8 146 rfl) rfl
theorem q1907 : (Jvm.Cond.code ({ cls := "DebtorsHouseModel", name := "least", desc := "(III)Z" } : Jvm.MethodName) prog_15_method_69_code (4 : Nat) (Option.some Jvm.ClassFile.FieldType.boolean)) ∈ lw_all := lw_g (lw_at lw_m8 147 rfl) rfl
theorem q1909 : (Jvm.Cond.instanceMethod ({ cls := "DebtorsHouseModel", name := "binds", desc := "(II)Z" } : Jvm.MethodName)) ∈ lw_all := lw_g (lw_at lw_m8 149 rfl) rfl
theorem q1910 : (Jvm.Cond.selects "DebtorsHouseModel" ({ cls := "DebtorsHouseModel", name := "binds", desc := "(II)Z" } : Jvm.MethodName) ({ cls := "DebtorsHouseModel", name := "binds", desc := "(II)Z" } : Jvm.MethodName)) ∈ lw_all := lw_g (lw_at lw_m8 150 rfl) rfl
theorem q1911 : (Jvm.Cond.code ({ cls := "DebtorsHouseModel", name := "binds", desc := "(II)Z" } : Jvm.MethodName) prog_15_method_73_code (3 : Nat) (Option.some Jvm.ClassFile.FieldType.boolean)) ∈ lw_all := lw_g (lw_at lw_m8 151 rfl) rfl
theorem q1912 : (Jvm.Cond.methodLink "DebtorsHouseModel" (443 : Nat) ({ cls := "DebtorsHouseModel", name := "bindsNow", desc := "(II)Z" } : Jvm.MethodName)) ∈ lw_all := lw_g (lw_at lw_m8 152 rfl) rfl
theorem q1913 : (Jvm.Cond.privateMethod ({ cls := "DebtorsHouseModel", name := "bindsNow", desc := "(II)Z" } : Jvm.MethodName)) ∈ lw_tbl := lw_at lw_m8 153 rfl
theorem q1914 : (Jvm.Cond.instanceMethod ({ cls := "DebtorsHouseModel", name := "bindsNow", desc := "(II)Z" } : Jvm.MethodName)) ∈ lw_all := lw_g (lw_at lw_m8 154 rfl) rfl
theorem q1915 : (Jvm.Cond.code ({ cls := "DebtorsHouseModel", name := "bindsNow", desc := "(II)Z" } : Jvm.MethodName) prog_15_method_72_code (3 : Nat) (Option.some Jvm.ClassFile.FieldType.boolean)) ∈ lw_all := lw_g (lw_at lw_m8 155 rfl) rfl
theorem q1916 : (Jvm.Cond.methodLink "DebtorsHouseModel" (437 : Nat) ({ cls := "DebtorsHouseModel", name := "asItIs", desc := "(I)V" } : Jvm.MethodName)) ∈ lw_all := lw_g (lw_at lw_m8 156 rfl) rfl
theorem q1917 : (Jvm.Cond.privateMethod ({ cls := "DebtorsHouseModel", name := "asItIs", desc := "(I)V" } : Jvm.MethodName)) ∈ lw_tbl := lw_at lw_m8 157 rfl
theorem q1918 : (Jvm.Cond.instanceMethod ({ cls := "DebtorsHouseModel", name := "asItIs", desc := "(I)V" } : Jvm.MethodName)) ∈ lw_all := lw_g (lw_at lw_m8 158 rfl) rfl
theorem q1919 : (Jvm.Cond.code ({ cls := "DebtorsHouseModel", name := "asItIs", desc := "(I)V" } : Jvm.MethodName) prog_15_method_70_code (4 : Nat) (Option.none : Option Jvm.ClassFile.FieldType)) ∈ lw_all := lw_g (lw_at lw_m8 159 rfl) rfl
theorem q1920 : (Jvm.Cond.methodLink "DebtorsHouseModel" (440 : Nat) ({ cls := "DebtorsHouseModel", name := "bindsSo", desc := "(III)Z" } : Jvm.MethodName)) ∈ lw_all := lw_g (lw_at lw_m8 160 rfl) rfl
theorem q1921 : (Jvm.Cond.privateMethod ({ cls := "DebtorsHouseModel", name := "bindsSo", desc := "(III)Z" } : Jvm.MethodName)) ∈ lw_tbl := lw_at lw_m8 161 rfl
theorem q1922 : (Jvm.Cond.instanceMethod ({ cls := "DebtorsHouseModel", name := "bindsSo", desc := "(III)Z" } : Jvm.MethodName)) ∈ lw_all := lw_g (lw_at lw_m8 162 rfl) rfl
theorem q1923 : (Jvm.Cond.code ({ cls := "DebtorsHouseModel", name := "bindsSo", desc := "(III)Z" } : Jvm.MethodName) prog_15_method_71_code (17 : Nat) (Option.some Jvm.ClassFile.FieldType.boolean)) ∈ lw_all := lw_g (lw_at lw_m8 163 rfl) rfl
theorem q1924 : (Jvm.Cond.constantLong "DebtorsHouseModel" (435 : Nat) (100 : Int64)) ∈ lw_all := lw_g (lw_at lw_m8 164 rfl) rfl
theorem q1926 : (Jvm.Cond.instanceMethod ({ cls := "DebtorsHouseModel", name := "offer", desc := "(I)I" } : Jvm.MethodName)) ∈ lw_all := lw_g (lw_at lw_m8 166 rfl) rfl
theorem q1927 : (Jvm.Cond.selects "DebtorsHouseModel" ({ cls := "DebtorsHouseModel", name := "offer", desc := "(I)I" } : Jvm.MethodName) ({ cls := "DebtorsHouseModel", name := "offer", desc := "(I)I" } : Jvm.MethodName)) ∈ lw_all := lw_g (lw_at lw_m8 167 rfl) rfl
theorem q1928 : (Jvm.Cond.code ({ cls := "DebtorsHouseModel", name := "offer", desc := "(I)I" } : Jvm.MethodName) prog_15_method_74_code (3 : Nat) (Option.some Jvm.ClassFile.FieldType.int)) ∈ lw_all := lw_g (lw_at lw_m8 168 rfl) rfl
theorem q1930 : (Jvm.Cond.instanceMethod ({ cls := "DebtorsHouseModel", name := "compose", desc := "(II)I" } : Jvm.MethodName)) ∈ lw_all := lw_g (lw_at lw_m8 170 rfl) rfl
theorem q1931 : (Jvm.Cond.selects "DebtorsHouseModel" ({ cls := "DebtorsHouseModel", name := "compose", desc := "(II)I" } : Jvm.MethodName) ({ cls := "DebtorsHouseModel", name := "compose", desc := "(II)I" } : Jvm.MethodName)) ∈ lw_all := lw_g (lw_at lw_m8 171 rfl) rfl
theorem q1932 : (Jvm.Cond.code ({ cls := "DebtorsHouseModel", name := "compose", desc := "(II)I" } : Jvm.MethodName) prog_15_method_75_code (7 : Nat) (Option.some Jvm.ClassFile.FieldType.int)) ∈ lw_all := lw_g (lw_at lw_m8 172 rfl) rfl
theorem q1933 : (Jvm.Cond.constantLong "DebtorsHouseModel" (446 : Nat) (1000 : Int64)) ∈ lw_all := lw_g (lw_at lw_m8 173 rfl) rfl
theorem q1935 : (Jvm.Cond.instanceMethod ({ cls := "DebtorsHouseModel", name := "buy", desc := "(III)Z" } : Jvm.MethodName)) ∈ lw_all := lw_g (lw_at lw_m8 175 rfl) rfl
theorem q1936 : (Jvm.Cond.selects "DebtorsHouseModel" ({ cls := "DebtorsHouseModel", name := "buy", desc := "(III)Z" } : Jvm.MethodName) ({ cls := "DebtorsHouseModel", name := "buy", desc := "(III)Z" } : Jvm.MethodName)) ∈ lw_all := lw_g (lw_at lw_m8 176 rfl) rfl
theorem q1937 : (Jvm.Cond.code ({ cls := "DebtorsHouseModel", name := "buy", desc := "(III)Z" } : Jvm.MethodName) prog_15_method_76_code (4 : Nat) (Option.some Jvm.ClassFile.FieldType.boolean)) ∈ lw_all := lw_g (lw_at lw_m8 177 rfl) rfl
theorem q1939 : (Jvm.Cond.instanceMethod ({ cls := "DebtorsHouseModel", name := "swing", desc := "(IIII)I" } : Jvm.MethodName)) ∈ lw_all := lw_g (lw_at lw_m8 179 rfl) rfl
theorem q1940 : (Jvm.Cond.selects "DebtorsHouseModel" ({ cls := "DebtorsHouseModel", name := "swing", desc := "(IIII)I" } : Jvm.MethodName) ({ cls := "DebtorsHouseModel", name := "swing", desc := "(IIII)I" } : Jvm.MethodName)) ∈ lw_all := lw_g (lw_at lw_m8 180 rfl) rfl
theorem q1941 : (Jvm.Cond.code ({ cls := "DebtorsHouseModel", name := "swing", desc := "(IIII)I" } : Jvm.MethodName) prog_15_method_77_code (15 : Nat) (Option.some Jvm.ClassFile.FieldType.int)) ∈ lw_all := lw_g (lw_at lw_m8 181 rfl) rfl
theorem q1943 : (Jvm.Cond.instanceMethod ({ cls := "DebtorsHouseModel", name := "surrender", desc := "(I)I" } : Jvm.MethodName)) ∈ lw_all := lw_g (lw_at lw_m8 183 rfl) rfl
theorem q1944 : (Jvm.Cond.selects "DebtorsHouseModel" ({ cls := "DebtorsHouseModel", name := "surrender", desc := "(I)I" } : Jvm.MethodName) ({ cls := "DebtorsHouseModel", name := "surrender", desc := "(I)I" } : Jvm.MethodName)) ∈ lw_all := lw_g (lw_at lw_m8 184 rfl) rfl
theorem q1945 : (Jvm.Cond.code ({ cls := "DebtorsHouseModel", name := "surrender", desc := "(I)I" } : Jvm.MethodName) prog_15_method_80_code (6 : Nat) (Option.some Jvm.ClassFile.FieldType.int)) ∈ lw_all := lw_g (lw_at lw_m8 185 rfl) rfl
theorem q1946 : (Jvm.Cond.methodLink "DebtorsHouseModel" (453 : Nat) ({ cls := "DebtorsHouseModel", name := "part", desc := "(I)I" } : Jvm.MethodName)) ∈ lw_all := lw_g (lw_at lw_m8 186 rfl) rfl
theorem q1947 : (Jvm.Cond.privateMethod ({ cls := "DebtorsHouseModel", name := "part", desc := "(I)I" } : Jvm.MethodName)) ∈ lw_tbl := lw_at lw_m8 187 rfl
theorem q1948 : (Jvm.Cond.instanceMethod ({ cls := "DebtorsHouseModel", name := "part", desc := "(I)I" } : Jvm.MethodName)) ∈ lw_all := lw_g (lw_at lw_m8 188 rfl) rfl
theorem q1949 : (Jvm.Cond.code ({ cls := "DebtorsHouseModel", name := "part", desc := "(I)I" } : Jvm.MethodName) prog_15_method_79_code (5 : Nat) (Option.some Jvm.ClassFile.FieldType.int)) ∈ lw_all := lw_g (lw_at lw_m8 189 rfl) rfl
theorem q1950 : (Jvm.Cond.methodLink "DebtorsHouseModel" (450 : Nat) ({ cls := "DebtorsHouseModel", name := "partRank", desc := "(II)V" } : Jvm.MethodName)) ∈ lw_all := lw_g (lw_at lw_m8 190 rfl) rfl
theorem q1951 : (Jvm.Cond.privateMethod ({ cls := "DebtorsHouseModel", name := "partRank", desc := "(II)V" } : Jvm.MethodName)) ∈ lw_tbl := lw_at lw_m8 191 rfl
theorem q1952 : (Jvm.Cond.instanceMethod ({ cls := "DebtorsHouseModel", name := "partRank", desc := "(II)V" } : Jvm.MethodName)) ∈ lw_all := lw_g (lw_at lw_m8 192 rfl) rfl
theorem q1953 : (Jvm.Cond.code ({ cls := "DebtorsHouseModel", name := "partRank", desc := "(II)V" } : Jvm.MethodName) prog_15_method_78_code (8 : Nat) (Option.none : Option Jvm.ClassFile.FieldType)) ∈ lw_all := lw_g (lw_at lw_m8 193 rfl) rfl
theorem q1954 : (Jvm.Cond.constantLong "DebtorsHouseModel" (448 : Nat) (-1 : Int64)) ∈ lw_all := lw_g (lw_at lw_m8 194 rfl) rfl
theorem q1956 : (Jvm.Cond.instanceMethod ({ cls := "DebtorsHouseModel", name := "found", desc := "(II)I" } : Jvm.MethodName)) ∈ lw_all := lw_g (lw_at lw_m8 196 rfl) rfl
theorem q1957 : (Jvm.Cond.selects "DebtorsHouseModel" ({ cls := "DebtorsHouseModel", name := "found", desc := "(II)I" } : Jvm.MethodName) ({ cls := "DebtorsHouseModel", name := "found", desc := "(II)I" } : Jvm.MethodName)) ∈ lw_all := lw_g (lw_at lw_m8 197 rfl) rfl
theorem q1958 : (Jvm.Cond.code ({ cls := "DebtorsHouseModel", name := "found", desc := "(II)I" } : Jvm.MethodName) prog_15_method_81_code (5 : Nat) (Option.some Jvm.ClassFile.FieldType.int)) ∈ lw_all := lw_g (lw_at lw_m8 198 rfl) rfl
theorem q1960 : (Jvm.Cond.instanceMethod ({ cls := "DebtorsHouseModel", name := "book", desc := "(II)I" } : Jvm.MethodName)) ∈ lw_all := lw_g (lw_at lw_m8 200 rfl) rfl
theorem q1961 : (Jvm.Cond.selects "DebtorsHouseModel" ({ cls := "DebtorsHouseModel", name := "book", desc := "(II)I" } : Jvm.MethodName) ({ cls := "DebtorsHouseModel", name := "book", desc := "(II)I" } : Jvm.MethodName)) ∈ lw_all := lw_g (lw_at lw_m8 201 rfl) rfl
theorem q1962 : (Jvm.Cond.code ({ cls := "DebtorsHouseModel", name := "book", desc := "(II)I" } : Jvm.MethodName) prog_15_method_82_code (3 : Nat) (Option.some Jvm.ClassFile.FieldType.int)) ∈ lw_all := lw_g (lw_at lw_m8 202 rfl) rfl
theorem q1963 : (Jvm.Cond.constant "DebtorsHouseModel" (456 : Nat) (-100000 : Int32)) ∈ lw_all := lw_g (lw_at lw_m8 203 rfl) rfl
theorem q1965 : (Jvm.Cond.instanceMethod ({ cls := "DebtorsHouseModel", name := "free", desc := "(II)I" } : Jvm.MethodName)) ∈ lw_all := lw_g (lw_at lw_m8 205 rfl) rfl
theorem q1966 : (Jvm.Cond.selects "DebtorsHouseModel" ({ cls := "DebtorsHouseModel", name := "free", desc := "(II)I" } : Jvm.MethodName) ({ cls := "DebtorsHouseModel", name := "free", desc := "(II)I" } : Jvm.MethodName)) ∈ lw_all := lw_g (lw_at lw_m8 206 rfl) rfl
theorem q1967 : (Jvm.Cond.code ({ cls := "DebtorsHouseModel", name := "free", desc := "(II)I" } : Jvm.MethodName) prog_15_method_84_code (11 : Nat) (Option.some Jvm.ClassFile.FieldType.int)) ∈ lw_all := lw_g (lw_at lw_m8 207 rfl) rfl
theorem q1968 : (Jvm.Cond.constant "DebtorsHouseModel" (457 : Nat) (2000000000 : Int32)) ∈ lw_all := lw_g (lw_at lw_m8 208 rfl) rfl
theorem q1969 : (Jvm.Cond.methodLink "DebtorsHouseModel" (458 : Nat) ({ cls := "DebtorsHouseModel", name := "lacks", desc := "(III)I" } : Jvm.MethodName)) ∈ lw_all := lw_g (lw_at lw_m8 209 rfl) rfl
theorem q1970 : (Jvm.Cond.privateMethod ({ cls := "DebtorsHouseModel", name := "lacks", desc := "(III)I" } : Jvm.MethodName)) ∈ lw_tbl := lw_at lw_m8 210 rfl
theorem q1971 : (Jvm.Cond.instanceMethod ({ cls := "DebtorsHouseModel", name := "lacks", desc := "(III)I" } : Jvm.MethodName)) ∈ lw_all := lw_g (lw_at lw_m8 211 rfl) rfl
theorem q1972 : (Jvm.Cond.code ({ cls := "DebtorsHouseModel", name := "lacks", desc := "(III)I" } : Jvm.MethodName) prog_15_method_83_code (9 : Nat) (Option.some Jvm.ClassFile.FieldType.int)) ∈ lw_all := lw_g (lw_at lw_m8 212 rfl) rfl
theorem q1974 : (Jvm.Cond.instanceMethod ({ cls := "DebtorsHouseModel", name := "count", desc := "(I)I" } : Jvm.MethodName)) ∈ lw_all := lw_g (lw_at lw_m8 214 rfl) rfl
theorem q1975 : (Jvm.Cond.selects "DebtorsHouseModel" ({ cls := "DebtorsHouseModel", name := "count", desc := "(I)I" } : Jvm.MethodName) ({ cls := "DebtorsHouseModel", name := "count", desc := "(I)I" } : Jvm.MethodName)) ∈ lw_all := lw_g (lw_at lw_m8 215 rfl) rfl
theorem q1976 : (Jvm.Cond.code ({ cls := "DebtorsHouseModel", name := "count", desc := "(I)I" } : Jvm.MethodName) prog_15_method_85_code (4 : Nat) (Option.some Jvm.ClassFile.FieldType.int)) ∈ lw_all := lw_g (lw_at lw_m8 216 rfl) rfl
theorem q1978 : (Jvm.Cond.instanceMethod ({ cls := "DebtorsHouseModel", name := "image", desc := "(I)Z" } : Jvm.MethodName)) ∈ lw_all := lw_g (lw_at lw_m8 218 rfl) rfl
theorem q1979 : (Jvm.Cond.selects "DebtorsHouseModel" ({ cls := "DebtorsHouseModel", name := "image", desc := "(I)Z" } : Jvm.MethodName) ({ cls := "DebtorsHouseModel", name := "image", desc := "(I)Z" } : Jvm.MethodName)) ∈ lw_all := lw_g (lw_at lw_m8 219 rfl) rfl
theorem q1980 : (Jvm.Cond.code ({ cls := "DebtorsHouseModel", name := "image", desc := "(I)Z" } : Jvm.MethodName) prog_15_method_86_code (2 : Nat) (Option.some Jvm.ClassFile.FieldType.boolean)) ∈ lw_all := lw_g (lw_at lw_m8 220 rfl) rfl
theorem q1981 : (Jvm.Cond.methodLink "DebtorsHouseModel" (462 : Nat) ({ cls := "DebtorsHouseModel", name := "copy", desc := "(II)V" } : Jvm.MethodName)) ∈ lw_all := lw_g (lw_at lw_m8 221 rfl) rfl
theorem q1982 : (Jvm.Cond.privateMethod ({ cls := "DebtorsHouseModel", name := "copy", desc := "(II)V" } : Jvm.MethodName)) ∈ lw_tbl := lw_at lw_m8 222 rfl
theorem q1983 : (Jvm.Cond.instanceMethod ({ cls := "DebtorsHouseModel", name := "copy", desc := "(II)V" } : Jvm.MethodName)) ∈ lw_all := lw_g (lw_at lw_m8 223 rfl) rfl
theorem q1984 : (Jvm.Cond.code ({ cls := "DebtorsHouseModel", name := "copy", desc := "(II)V" } : Jvm.MethodName) prog_15_method_6_code (4 : Nat) (Option.none : Option Jvm.ClassFile.FieldType)) ∈ lw_all := lw_g (lw_at lw_m8 224 rfl) rfl
theorem q1985 : (Jvm.Cond.methodLink "DebtorsHouseModel" (224 : Nat) ({ cls := "DebtorsHouseModel", name := "move", desc := "([IIII)V" } : Jvm.MethodName)) ∈ lw_all := lw_g (lw_at lw_m8 225 rfl) rfl
theorem q1986 : (Jvm.Cond.static ({ cls := "DebtorsHouseModel", name := "move", desc := "([IIII)V" } : Jvm.MethodName)) ∈ lw_all := lw_g (lw_at lw_m8 226 rfl) rfl
theorem q1987 : (Jvm.Cond.code ({ cls := "DebtorsHouseModel", name := "move", desc := "([IIII)V" } : Jvm.MethodName) prog_15_method_4_code (5 : Nat) (Option.none : Option Jvm.ClassFile.FieldType)) ∈ lw_all := lw_g (lw_at lw_m8 227 rfl) rfl
theorem q1988 : (Jvm.Cond.methodLink "DebtorsHouseModel" (228 : Nat) ({ cls := "DebtorsHouseModel", name := "moveBits", desc := "([ZIII)V" } : Jvm.MethodName)) ∈ lw_all := lw_g (lw_at lw_m8 228 rfl) rfl
theorem q1989 : (Jvm.Cond.static ({ cls := "DebtorsHouseModel", name := "moveBits", desc := "([ZIII)V" } : Jvm.MethodName)) ∈ lw_all := lw_g (lw_at lw_m8 229 rfl) rfl
theorem q1990 : (Jvm.Cond.code ({ cls := "DebtorsHouseModel", name := "moveBits", desc := "([ZIII)V" } : Jvm.MethodName) prog_15_method_5_code (5 : Nat) (Option.none : Option Jvm.ClassFile.FieldType)) ∈ lw_all := lw_g (lw_at lw_m8 230 rfl) rfl
theorem q1991 : (Jvm.Cond.methodLink "DebtorsHouseModel" (232 : Nat) ({ cls := "DebtorsHouseModel", name := "copyDebts", desc := "(II)V" } : Jvm.MethodName)) ∈ lw_all := lw_g (lw_at lw_m8 231 rfl) rfl
theorem q1992 : (Jvm.Cond.privateMethod ({ cls := "DebtorsHouseModel", name := "copyDebts", desc := "(II)V" } : Jvm.MethodName)) ∈ lw_tbl := lw_at lw_m8 232 rfl
theorem q1993 : (Jvm.Cond.instanceMethod ({ cls := "DebtorsHouseModel", name := "copyDebts", desc := "(II)V" } : Jvm.MethodName)) ∈ lw_all := lw_g (lw_at lw_m8 233 rfl) rfl
theorem q1994 : (Jvm.Cond.code ({ cls := "DebtorsHouseModel", name := "copyDebts", desc := "(II)V" } : Jvm.MethodName) prog_15_method_7_code (3 : Nat) (Option.none : Option Jvm.ClassFile.FieldType)) ∈ lw_all := lw_g (lw_at lw_m8 234 rfl) rfl
theorem q1996 : (Jvm.Cond.instanceMethod ({ cls := "DebtorsHouseModel", name := "again", desc := "(I)Z" } : Jvm.MethodName)) ∈ lw_all := lw_g (lw_at lw_m8 236 rfl) rfl
theorem q1997 : (Jvm.Cond.selects "DebtorsHouseModel" ({ cls := "DebtorsHouseModel", name := "again", desc := "(I)Z" } : Jvm.MethodName) ({ cls := "DebtorsHouseModel", name := "again", desc := "(I)Z" } : Jvm.MethodName)) ∈ lw_all := lw_g (lw_at lw_m8 237 rfl) rfl
theorem q1998 : (Jvm.Cond.code ({ cls := "DebtorsHouseModel", name := "again", desc := "(I)Z" } : Jvm.MethodName) prog_15_method_87_code (2 : Nat) (Option.some Jvm.ClassFile.FieldType.boolean)) ∈ lw_all := lw_g (lw_at lw_m8 238 rfl) rfl
theorem q2010 : (Jvm.Cond.castable "DebtorsHouseModel" "java/lang/Object") ∈ lw_tbl := lw_at lw_m9 10 rfl
theorem in_X2 : ∀ w ∈ wsX20, w ∈ lw_all := lw_in wsX20 [1473, 1475, 1477, 1479, 1481, 1483, 1485, 1487, 1489, 1491, 1493, 1495, 1497, 1499, 1501, 1503, 1505, 1507, 1509, 1511, 1513, 1515, 1517, 1519, 1521, 1523, 1525, 1527, 1529, 1531, 1533, 1535, 1537, 1539, 1541, 1543, 1545, 1547, 1549, 1551, 1553, 1555, 1557, 1559, 1561, 1563, 1565, 1567, 1569, 1571, 1573, 1575, 1577, 1579, 1581, 1583, 1585, 1587, 1589, 1591, 1593, 1595, 1597, 1599, 1601, 1603, 1605, 1607, 1609, 1611, 1613, 1615, 1617, 1619, 1621, 1623, 1625, 1627, 1629, 1631] (by decide +kernel) (by decide +kernel)
