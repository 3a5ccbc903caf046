/-! DebtorsHouse$Reader -/
set_option maxRecDepth 100000
def RX6 : String := "DebtorsHouse$Reader"
def TX6 : u_T := fun k => match k with
  | 0 => ("DebtorsHouse$Reader", "tape", "[B", true)
  | 1 => ("DebtorsHouse$Reader", "size", "I", true)
  | 2 => ("DebtorsHouse$Reader", "next", "I", false)
  | 3 => ("DebtorsHouse$Reader", "place", "I", false)
  | 4 => ("DebtorsHouse$Reader", "value", "I", false)
  | 5 => ("DebtorsHouse$Reader", "token", "LDebtorsHouse$Token;", false)
  | 6 => ("DebtorsHouse$Reader", "text", "Ljava/lang/String;", false)
  | 7 => ("DebtorsHouse$Reader", "also", "LDebtorsHouse$Fault;", false)
  | _ => ("DebtorsHouse$Reader", "lines", "Ljava/util/ArrayList;", true)
def tyX6 : Nat → FieldType := fun k => match k with
  | 0 => .array .byte
  | 1 => .int
  | 2 => .int
  | 3 => .int
  | 4 => .int
  | 5 => .object "DebtorsHouse$Token"
  | 6 => .object "java/lang/String"
  | 7 => .object "DebtorsHouse$Fault"
  | _ => .object "java/util/ArrayList"
abbrev wsX60 : List Cond := u_ws RX6 TX6 9
theorem nmX6 : ∀ a, a < 9 → ∀ b, b < 9 → a ≠ b → (TX6 a).2.1 ≠ (TX6 b).2.1 := by decide +kernel
theorem tyX6_ok : ∀ k, k < 9 → parseFieldDescriptor (TX6 k).2.2.1 = some (tyX6 k) := by decide +kernel
abbrev cX6_init : ByteArray := prog_8_method_1_code
def yX6_init : MethodName := ⟨RX6, "<init>", "([BI)V"⟩
theorem dX6_init_0 : decode cX6_init 0 = .ok (.aload_n 0, 1) := by decide +kernel
theorem dX6_init_1 : decode cX6_init 1 = .ok (.invokespecial 3, 3) := by decide +kernel
theorem dX6_init_4 : decode cX6_init 4 = .ok (.aload_n 0, 1) := by decide +kernel
theorem dX6_init_5 : decode cX6_init 5 = .ok (.new 9, 3) := by decide +kernel
theorem dX6_init_8 : decode cX6_init 8 = .ok (.dup, 1) := by decide +kernel
theorem dX6_init_9 : decode cX6_init 9 = .ok (.bipush 20, 2) := by decide +kernel
theorem dX6_init_11 : decode cX6_init 11 = .ok (.invokespecial 11, 3) := by decide +kernel
theorem dX6_init_14 : decode cX6_init 14 = .ok (.putfield 14, 3) := by decide +kernel
theorem dX6_init_17 : decode cX6_init 17 = .ok (.aload_n 0, 1) := by decide +kernel
theorem dX6_init_18 : decode cX6_init 18 = .ok (.aload_n 1, 1) := by decide +kernel
theorem dX6_init_19 : decode cX6_init 19 = .ok (.putfield 20, 3) := by decide +kernel
theorem dX6_init_22 : decode cX6_init 22 = .ok (.aload_n 0, 1) := by decide +kernel
theorem dX6_init_23 : decode cX6_init 23 = .ok (.iload_n 2, 1) := by decide +kernel
theorem dX6_init_24 : decode cX6_init 24 = .ok (.putfield 24, 3) := by decide +kernel
theorem dX6_init_27 : decode cX6_init 27 = .ok (.aload_n 0, 1) := by decide +kernel
theorem dX6_init_28 : decode cX6_init 28 = .ok (.invokevirtual 28, 3) := by decide +kernel
theorem dX6_init_31 : decode cX6_init 31 = .ok (.return_, 1) := by decide +kernel
abbrev cX6_step : ByteArray := prog_8_method_5_code
def yX6_step : MethodName := ⟨RX6, "step", "()V"⟩
theorem dX6_step_0 : decode cX6_step 0 = .ok (.aload_n 0, 1) := by decide +kernel
theorem dX6_step_1 : decode cX6_step 1 = .ok (.aload_n 0, 1) := by decide +kernel
theorem dX6_step_2 : decode cX6_step 2 = .ok (.getfield 31, 3) := by decide +kernel
theorem dX6_step_5 : decode cX6_step 5 = .ok (.invokevirtual 34, 3) := by decide +kernel
theorem dX6_step_8 : decode cX6_step 8 = .ok (.bipush 10, 2) := by decide +kernel
theorem dX6_step_10 : decode cX6_step 10 = .ok (.if_icmp .eq 16, 3) := by decide +kernel
theorem dX6_step_13 : decode cX6_step 13 = .ok (.aload_n 0, 1) := by decide +kernel
theorem dX6_step_14 : decode cX6_step 14 = .ok (.aload_n 0, 1) := by decide +kernel
theorem dX6_step_15 : decode cX6_step 15 = .ok (.getfield 31, 3) := by decide +kernel
theorem dX6_step_18 : decode cX6_step 18 = .ok (.invokevirtual 34, 3) := by decide +kernel
theorem dX6_step_21 : decode cX6_step 21 = .ok (.bipush 32, 2) := by decide +kernel
theorem dX6_step_23 : decode cX6_step 23 = .ok (.if_icmp .ne 16, 3) := by decide +kernel
theorem dX6_step_26 : decode cX6_step 26 = .ok (.aload_n 0, 1) := by decide +kernel
theorem dX6_step_27 : decode cX6_step 27 = .ok (.dup, 1) := by decide +kernel
theorem dX6_step_28 : decode cX6_step 28 = .ok (.getfield 31, 3) := by decide +kernel
theorem dX6_step_31 : decode cX6_step 31 = .ok (.iconst 1, 1) := by decide +kernel
theorem dX6_step_32 : decode cX6_step 32 = .ok (.iadd, 1) := by decide +kernel
theorem dX6_step_33 : decode cX6_step 33 = .ok (.putfield 31, 3) := by decide +kernel
theorem dX6_step_36 : decode cX6_step 36 = .ok (.goto (-36), 3) := by decide +kernel
theorem dX6_step_39 : decode cX6_step 39 = .ok (.aload_n 0, 1) := by decide +kernel
theorem dX6_step_40 : decode cX6_step 40 = .ok (.aload_n 0, 1) := by decide +kernel
theorem dX6_step_41 : decode cX6_step 41 = .ok (.getfield 31, 3) := by decide +kernel
theorem dX6_step_44 : decode cX6_step 44 = .ok (.putfield 38, 3) := by decide +kernel
theorem dX6_step_47 : decode cX6_step 47 = .ok (.aload_n 0, 1) := by decide +kernel
theorem dX6_step_48 : decode cX6_step 48 = .ok (.aload_n 0, 1) := by decide +kernel
theorem dX6_step_49 : decode cX6_step 49 = .ok (.getfield 31, 3) := by decide +kernel
theorem dX6_step_52 : decode cX6_step 52 = .ok (.invokevirtual 34, 3) := by decide +kernel
theorem dX6_step_55 : decode cX6_step 55 = .ok (.istore_n 1, 1) := by decide +kernel
theorem dX6_step_56 : decode cX6_step 56 = .ok (.iload_n 1, 1) := by decide +kernel
theorem dX6_step_57 : decode cX6_step 57 = .ok (.iconst (-1), 1) := by decide +kernel
theorem dX6_step_58 : decode cX6_step 58 = .ok (.if_icmp .ne 13, 3) := by decide +kernel
theorem dX6_step_61 : decode cX6_step 61 = .ok (.aload_n 0, 1) := by decide +kernel
theorem dX6_step_62 : decode cX6_step 62 = .ok (.getstatic 41, 3) := by decide +kernel
theorem dX6_step_65 : decode cX6_step 65 = .ok (.putfield 47, 3) := by decide +kernel
theorem dX6_step_68 : decode cX6_step 68 = .ok (.goto 224, 3) := by decide +kernel
theorem dX6_step_71 : decode cX6_step 71 = .ok (.iload_n 1, 1) := by decide +kernel
theorem dX6_step_72 : decode cX6_step 72 = .ok (.invokestatic 50, 3) := by decide +kernel
theorem dX6_step_75 : decode cX6_step 75 = .ok (.ifCond .eq 81, 3) := by decide +kernel
theorem dX6_step_78 : decode cX6_step 78 = .ok (.new 54, 3) := by decide +kernel
theorem dX6_step_81 : decode cX6_step 81 = .ok (.dup, 1) := by decide +kernel
theorem dX6_step_82 : decode cX6_step 82 = .ok (.bipush 9, 2) := by decide +kernel
theorem dX6_step_84 : decode cX6_step 84 = .ok (.invokespecial 56, 3) := by decide +kernel
theorem dX6_step_87 : decode cX6_step 87 = .ok (.astore_n 2, 1) := by decide +kernel
theorem dX6_step_88 : decode cX6_step 88 = .ok (.aload_n 0, 1) := by decide +kernel
theorem dX6_step_89 : decode cX6_step 89 = .ok (.aload_n 0, 1) := by decide +kernel
theorem dX6_step_90 : decode cX6_step 90 = .ok (.getfield 31, 3) := by decide +kernel
theorem dX6_step_93 : decode cX6_step 93 = .ok (.invokevirtual 34, 3) := by decide +kernel
theorem dX6_step_96 : decode cX6_step 96 = .ok (.invokestatic 50, 3) := by decide +kernel
theorem dX6_step_99 : decode cX6_step 99 = .ok (.ifCond .eq 39, 3) := by decide +kernel
theorem dX6_step_102 : decode cX6_step 102 = .ok (.aload_n 2, 1) := by decide +kernel
theorem dX6_step_103 : decode cX6_step 103 = .ok (.invokevirtual 57, 3) := by decide +kernel
theorem dX6_step_106 : decode cX6_step 106 = .ok (.bipush 9, 2) := by decide +kernel
theorem dX6_step_108 : decode cX6_step 108 = .ok (.if_icmp .ge 17, 3) := by decide +kernel
theorem dX6_step_111 : decode cX6_step 111 = .ok (.aload_n 2, 1) := by decide +kernel
theorem dX6_step_112 : decode cX6_step 112 = .ok (.aload_n 0, 1) := by decide +kernel
theorem dX6_step_113 : decode cX6_step 113 = .ok (.aload_n 0, 1) := by decide +kernel
theorem dX6_step_114 : decode cX6_step 114 = .ok (.getfield 31, 3) := by decide +kernel
theorem dX6_step_117 : decode cX6_step 117 = .ok (.invokevirtual 34, 3) := by decide +kernel
theorem dX6_step_120 : decode cX6_step 120 = .ok (.i2c, 1) := by decide +kernel
theorem dX6_step_121 : decode cX6_step 121 = .ok (.invokevirtual 61, 3) := by decide +kernel
theorem dX6_step_124 : decode cX6_step 124 = .ok (.pop, 1) := by decide +kernel
theorem dX6_step_125 : decode cX6_step 125 = .ok (.aload_n 0, 1) := by decide +kernel
theorem dX6_step_126 : decode cX6_step 126 = .ok (.dup, 1) := by decide +kernel
theorem dX6_step_127 : decode cX6_step 127 = .ok (.getfield 31, 3) := by decide +kernel
theorem dX6_step_130 : decode cX6_step 130 = .ok (.iconst 1, 1) := by decide +kernel
theorem dX6_step_131 : decode cX6_step 131 = .ok (.iadd, 1) := by decide +kernel
theorem dX6_step_132 : decode cX6_step 132 = .ok (.putfield 31, 3) := by decide +kernel
theorem dX6_step_135 : decode cX6_step 135 = .ok (.goto (-47), 3) := by decide +kernel
theorem dX6_step_138 : decode cX6_step 138 = .ok (.aload_n 0, 1) := by decide +kernel
theorem dX6_step_139 : decode cX6_step 139 = .ok (.aload_n 2, 1) := by decide +kernel
theorem dX6_step_140 : decode cX6_step 140 = .ok (.invokevirtual 65, 3) := by decide +kernel
theorem dX6_step_143 : decode cX6_step 143 = .ok (.putfield 69, 3) := by decide +kernel
theorem dX6_step_146 : decode cX6_step 146 = .ok (.aload_n 0, 1) := by decide +kernel
theorem dX6_step_147 : decode cX6_step 147 = .ok (.getstatic 73, 3) := by decide +kernel
theorem dX6_step_150 : decode cX6_step 150 = .ok (.putfield 47, 3) := by decide +kernel
theorem dX6_step_153 : decode cX6_step 153 = .ok (.goto 139, 3) := by decide +kernel
theorem dX6_step_156 : decode cX6_step 156 = .ok (.iload_n 1, 1) := by decide +kernel
theorem dX6_step_157 : decode cX6_step 157 = .ok (.invokestatic 76, 3) := by decide +kernel
theorem dX6_step_160 : decode cX6_step 160 = .ok (.ifCond .eq 100, 3) := by decide +kernel
theorem dX6_step_163 : decode cX6_step 163 = .ok (.aload_n 0, 1) := by decide +kernel
theorem dX6_step_164 : decode cX6_step 164 = .ok (.iconst 0, 1) := by decide +kernel
theorem dX6_step_165 : decode cX6_step 165 = .ok (.putfield 79, 3) := by decide +kernel
theorem dX6_step_168 : decode cX6_step 168 = .ok (.aload_n 0, 1) := by decide +kernel
theorem dX6_step_169 : decode cX6_step 169 = .ok (.aload_n 0, 1) := by decide +kernel
theorem dX6_step_170 : decode cX6_step 170 = .ok (.getfield 31, 3) := by decide +kernel
theorem dX6_step_173 : decode cX6_step 173 = .ok (.invokevirtual 34, 3) := by decide +kernel
theorem dX6_step_176 : decode cX6_step 176 = .ok (.invokestatic 76, 3) := by decide +kernel
theorem dX6_step_179 : decode cX6_step 179 = .ok (.ifCond .eq 52, 3) := by decide +kernel
theorem dX6_step_182 : decode cX6_step 182 = .ok (.aload_n 0, 1) := by decide +kernel
theorem dX6_step_183 : decode cX6_step 183 = .ok (.getfield 31, 3) := by decide +kernel
theorem dX6_step_186 : decode cX6_step 186 = .ok (.aload_n 0, 1) := by decide +kernel
theorem dX6_step_187 : decode cX6_step 187 = .ok (.getfield 38, 3) := by decide +kernel
theorem dX6_step_190 : decode cX6_step 190 = .ok (.isub, 1) := by decide +kernel
theorem dX6_step_191 : decode cX6_step 191 = .ok (.iconst 5, 1) := by decide +kernel
theorem dX6_step_192 : decode cX6_step 192 = .ok (.if_icmp .ge 26, 3) := by decide +kernel
theorem dX6_step_195 : decode cX6_step 195 = .ok (.aload_n 0, 1) := by decide +kernel
theorem dX6_step_196 : decode cX6_step 196 = .ok (.bipush 10, 2) := by decide +kernel
theorem dX6_step_198 : decode cX6_step 198 = .ok (.aload_n 0, 1) := by decide +kernel
theorem dX6_step_199 : decode cX6_step 199 = .ok (.getfield 79, 3) := by decide +kernel
theorem dX6_step_202 : decode cX6_step 202 = .ok (.imul, 1) := by decide +kernel
theorem dX6_step_203 : decode cX6_step 203 = .ok (.aload_n 0, 1) := by decide +kernel
theorem dX6_step_204 : decode cX6_step 204 = .ok (.aload_n 0, 1) := by decide +kernel
theorem dX6_step_205 : decode cX6_step 205 = .ok (.getfield 31, 3) := by decide +kernel
theorem dX6_step_208 : decode cX6_step 208 = .ok (.invokevirtual 34, 3) := by decide +kernel
theorem dX6_step_211 : decode cX6_step 211 = .ok (.iadd, 1) := by decide +kernel
theorem dX6_step_212 : decode cX6_step 212 = .ok (.bipush 48, 2) := by decide +kernel
theorem dX6_step_214 : decode cX6_step 214 = .ok (.isub, 1) := by decide +kernel
theorem dX6_step_215 : decode cX6_step 215 = .ok (.putfield 79, 3) := by decide +kernel
theorem dX6_step_218 : decode cX6_step 218 = .ok (.aload_n 0, 1) := by decide +kernel
theorem dX6_step_219 : decode cX6_step 219 = .ok (.dup, 1) := by decide +kernel
theorem dX6_step_220 : decode cX6_step 220 = .ok (.getfield 31, 3) := by decide +kernel
theorem dX6_step_223 : decode cX6_step 223 = .ok (.iconst 1, 1) := by decide +kernel
theorem dX6_step_224 : decode cX6_step 224 = .ok (.iadd, 1) := by decide +kernel
theorem dX6_step_225 : decode cX6_step 225 = .ok (.putfield 31, 3) := by decide +kernel
theorem dX6_step_228 : decode cX6_step 228 = .ok (.goto (-60), 3) := by decide +kernel
theorem dX6_step_231 : decode cX6_step 231 = .ok (.aload_n 0, 1) := by decide +kernel
theorem dX6_step_232 : decode cX6_step 232 = .ok (.aload_n 0, 1) := by decide +kernel
theorem dX6_step_233 : decode cX6_step 233 = .ok (.getfield 31, 3) := by decide +kernel
theorem dX6_step_236 : decode cX6_step 236 = .ok (.aload_n 0, 1) := by decide +kernel
theorem dX6_step_237 : decode cX6_step 237 = .ok (.getfield 38, 3) := by decide +kernel
theorem dX6_step_240 : decode cX6_step 240 = .ok (.isub, 1) := by decide +kernel
theorem dX6_step_241 : decode cX6_step 241 = .ok (.iconst 5, 1) := by decide +kernel
theorem dX6_step_242 : decode cX6_step 242 = .ok (.if_icmp .le 9, 3) := by decide +kernel
theorem dX6_step_245 : decode cX6_step 245 = .ok (.getstatic 82, 3) := by decide +kernel
theorem dX6_step_248 : decode cX6_step 248 = .ok (.goto 6, 3) := by decide +kernel
theorem dX6_step_251 : decode cX6_step 251 = .ok (.getstatic 85, 3) := by decide +kernel
theorem dX6_step_254 : decode cX6_step 254 = .ok (.putfield 47, 3) := by decide +kernel
theorem dX6_step_257 : decode cX6_step 257 = .ok (.goto 35, 3) := by decide +kernel
theorem dX6_step_260 : decode cX6_step 260 = .ok (.aload_n 0, 1) := by decide +kernel
theorem dX6_step_261 : decode cX6_step 261 = .ok (.dup, 1) := by decide +kernel
theorem dX6_step_262 : decode cX6_step 262 = .ok (.getfield 31, 3) := by decide +kernel
theorem dX6_step_265 : decode cX6_step 265 = .ok (.iconst 1, 1) := by decide +kernel
theorem dX6_step_266 : decode cX6_step 266 = .ok (.iadd, 1) := by decide +kernel
theorem dX6_step_267 : decode cX6_step 267 = .ok (.putfield 31, 3) := by decide +kernel
theorem dX6_step_270 : decode cX6_step 270 = .ok (.aload_n 0, 1) := by decide +kernel
theorem dX6_step_271 : decode cX6_step 271 = .ok (.ldc 88, 2) := by decide +kernel
theorem dX6_step_273 : decode cX6_step 273 = .ok (.iload_n 1, 1) := by decide +kernel
theorem dX6_step_274 : decode cX6_step 274 = .ok (.invokevirtual 90, 3) := by decide +kernel
theorem dX6_step_277 : decode cX6_step 277 = .ok (.ifCond .lt 9, 3) := by decide +kernel
theorem dX6_step_280 : decode cX6_step 280 = .ok (.getstatic 95, 3) := by decide +kernel
theorem dX6_step_283 : decode cX6_step 283 = .ok (.goto 6, 3) := by decide +kernel
theorem dX6_step_286 : decode cX6_step 286 = .ok (.getstatic 82, 3) := by decide +kernel
theorem dX6_step_289 : decode cX6_step 289 = .ok (.putfield 47, 3) := by decide +kernel
theorem dX6_step_292 : decode cX6_step 292 = .ok (.return_, 1) := by decide +kernel
abbrev cX6_at : ByteArray := prog_8_method_2_code
def yX6_at : MethodName := ⟨RX6, "at", "(I)I"⟩
theorem dX6_at_0 : decode cX6_at 0 = .ok (.iload_n 1, 1) := by decide +kernel
theorem dX6_at_1 : decode cX6_at 1 = .ok (.aload_n 0, 1) := by decide +kernel
theorem dX6_at_2 : decode cX6_at 2 = .ok (.getfield 24, 3) := by decide +kernel
theorem dX6_at_5 : decode cX6_at 5 = .ok (.if_icmp .ge 16, 3) := by decide +kernel
theorem dX6_at_8 : decode cX6_at 8 = .ok (.aload_n 0, 1) := by decide +kernel
theorem dX6_at_9 : decode cX6_at 9 = .ok (.getfield 20, 3) := by decide +kernel
theorem dX6_at_12 : decode cX6_at 12 = .ok (.iload_n 1, 1) := by decide +kernel
theorem dX6_at_13 : decode cX6_at 13 = .ok (.baload, 1) := by decide +kernel
theorem dX6_at_14 : decode cX6_at 14 = .ok (.sipush 255, 3) := by decide +kernel
theorem dX6_at_17 : decode cX6_at 17 = .ok (.iand, 1) := by decide +kernel
theorem dX6_at_18 : decode cX6_at 18 = .ok (.goto 4, 3) := by decide +kernel
theorem dX6_at_21 : decode cX6_at 21 = .ok (.iconst (-1), 1) := by decide +kernel
theorem dX6_at_22 : decode cX6_at 22 = .ok (.ireturn, 1) := by decide +kernel
abbrev cX6_isLetter : ByteArray := prog_8_method_3_code
def yX6_isLetter : MethodName := ⟨RX6, "isLetter", "(I)Z"⟩
theorem dX6_isLetter_0 : decode cX6_isLetter 0 = .ok (.iload_n 0, 1) := by decide +kernel
theorem dX6_isLetter_1 : decode cX6_isLetter 1 = .ok (.bipush 97, 2) := by decide +kernel
theorem dX6_isLetter_3 : decode cX6_isLetter 3 = .ok (.if_icmp .lt 13, 3) := by decide +kernel
theorem dX6_isLetter_6 : decode cX6_isLetter 6 = .ok (.iload_n 0, 1) := by decide +kernel
theorem dX6_isLetter_7 : decode cX6_isLetter 7 = .ok (.bipush 122, 2) := by decide +kernel
theorem dX6_isLetter_9 : decode cX6_isLetter 9 = .ok (.if_icmp .gt 7, 3) := by decide +kernel
theorem dX6_isLetter_12 : decode cX6_isLetter 12 = .ok (.iconst 1, 1) := by decide +kernel
theorem dX6_isLetter_13 : decode cX6_isLetter 13 = .ok (.goto 4, 3) := by decide +kernel
theorem dX6_isLetter_16 : decode cX6_isLetter 16 = .ok (.iconst 0, 1) := by decide +kernel
theorem dX6_isLetter_17 : decode cX6_isLetter 17 = .ok (.ireturn, 1) := by decide +kernel
abbrev cX6_isDigit : ByteArray := prog_8_method_4_code
def yX6_isDigit : MethodName := ⟨RX6, "isDigit", "(I)Z"⟩
theorem dX6_isDigit_0 : decode cX6_isDigit 0 = .ok (.iload_n 0, 1) := by decide +kernel
theorem dX6_isDigit_1 : decode cX6_isDigit 1 = .ok (.bipush 48, 2) := by decide +kernel
theorem dX6_isDigit_3 : decode cX6_isDigit 3 = .ok (.if_icmp .lt 13, 3) := by decide +kernel
theorem dX6_isDigit_6 : decode cX6_isDigit 6 = .ok (.iload_n 0, 1) := by decide +kernel
theorem dX6_isDigit_7 : decode cX6_isDigit 7 = .ok (.bipush 57, 2) := by decide +kernel
theorem dX6_isDigit_9 : decode cX6_isDigit 9 = .ok (.if_icmp .gt 7, 3) := by decide +kernel
theorem dX6_isDigit_12 : decode cX6_isDigit 12 = .ok (.iconst 1, 1) := by decide +kernel
theorem dX6_isDigit_13 : decode cX6_isDigit 13 = .ok (.goto 4, 3) := by decide +kernel
theorem dX6_isDigit_16 : decode cX6_isDigit 16 = .ok (.iconst 0, 1) := by decide +kernel
theorem dX6_isDigit_17 : decode cX6_isDigit 17 = .ok (.ireturn, 1) := by decide +kernel
abbrev cX6_whole : ByteArray := prog_8_method_12_code
def yX6_whole : MethodName := ⟨RX6, "whole", "()Ljava/util/ArrayList;"⟩
theorem dX6_whole_0 : decode cX6_whole 0 = .ok (.aload_n 0, 1) := by decide +kernel
theorem dX6_whole_1 : decode cX6_whole 1 = .ok (.getfield 47, 3) := by decide +kernel
theorem dX6_whole_4 : decode cX6_whole 4 = .ok (.getstatic 41, 3) := by decide +kernel
theorem dX6_whole_7 : decode cX6_whole 7 = .ok (.if_acmp .eq 10, 3) := by decide +kernel
theorem dX6_whole_10 : decode cX6_whole 10 = .ok (.aload_n 0, 1) := by decide +kernel
theorem dX6_whole_11 : decode cX6_whole 11 = .ok (.invokevirtual 118, 3) := by decide +kernel
theorem dX6_whole_14 : decode cX6_whole 14 = .ok (.goto (-14), 3) := by decide +kernel
theorem dX6_whole_17 : decode cX6_whole 17 = .ok (.aload_n 0, 1) := by decide +kernel
theorem dX6_whole_18 : decode cX6_whole 18 = .ok (.getfield 114, 3) := by decide +kernel
theorem dX6_whole_21 : decode cX6_whole 21 = .ok (.ifnull 8, 3) := by decide +kernel
theorem dX6_whole_24 : decode cX6_whole 24 = .ok (.aload_n 0, 1) := by decide +kernel
theorem dX6_whole_25 : decode cX6_whole 25 = .ok (.getfield 114, 3) := by decide +kernel
theorem dX6_whole_28 : decode cX6_whole 28 = .ok (.athrow, 1) := by decide +kernel
theorem dX6_whole_29 : decode cX6_whole 29 = .ok (.aload_n 0, 1) := by decide +kernel
theorem dX6_whole_30 : decode cX6_whole 30 = .ok (.getfield 14, 3) := by decide +kernel
theorem dX6_whole_33 : decode cX6_whole 33 = .ok (.areturn, 1) := by decide +kernel
abbrev cX6_line : ByteArray := prog_8_method_14_code
def yX6_line : MethodName := ⟨RX6, "line", "()V"⟩
theorem dX6_line_0 : decode cX6_line 0 = .ok (.aload_n 0, 1) := by decide +kernel
theorem dX6_line_1 : decode cX6_line 1 = .ok (.getfield 14, 3) := by decide +kernel
theorem dX6_line_4 : decode cX6_line 4 = .ok (.invokevirtual 134, 3) := by decide +kernel
theorem dX6_line_7 : decode cX6_line 7 = .ok (.bipush 20, 2) := by decide +kernel
theorem dX6_line_9 : decode cX6_line 9 = .ok (.if_icmp .lt 12, 3) := by decide +kernel
theorem dX6_line_12 : decode cX6_line 12 = .ok (.aload_n 0, 1) := by decide +kernel
theorem dX6_line_13 : decode cX6_line 13 = .ok (.iconst 3, 1) := by decide +kernel
theorem dX6_line_14 : decode cX6_line 14 = .ok (.aload_n 0, 1) := by decide +kernel
theorem dX6_line_15 : decode cX6_line 15 = .ok (.getfield 38, 3) := by decide +kernel
theorem dX6_line_18 : decode cX6_line 18 = .ok (.invokevirtual 136, 3) := by decide +kernel
theorem dX6_line_21 : decode cX6_line 21 = .ok (.new 138, 3) := by decide +kernel
theorem dX6_line_24 : decode cX6_line 24 = .ok (.dup, 1) := by decide +kernel
theorem dX6_line_25 : decode cX6_line 25 = .ok (.invokespecial 140, 3) := by decide +kernel
theorem dX6_line_28 : decode cX6_line 28 = .ok (.astore_n 1, 1) := by decide +kernel
theorem dX6_line_29 : decode cX6_line 29 = .ok (.aload_n 1, 1) := by decide +kernel
theorem dX6_line_30 : decode cX6_line 30 = .ok (.aload_n 0, 1) := by decide +kernel
theorem dX6_line_31 : decode cX6_line 31 = .ok (.invokevirtual 141, 3) := by decide +kernel
theorem dX6_line_34 : decode cX6_line 34 = .ok (.putfield 145, 3) := by decide +kernel
theorem dX6_line_37 : decode cX6_line 37 = .ok (.aload_n 0, 1) := by decide +kernel
theorem dX6_line_38 : decode cX6_line 38 = .ok (.ldc 148, 2) := by decide +kernel
theorem dX6_line_40 : decode cX6_line 40 = .ok (.invokevirtual 130, 3) := by decide +kernel
theorem dX6_line_43 : decode cX6_line 43 = .ok (.ifCond .eq 51, 3) := by decide +kernel
theorem dX6_line_46 : decode cX6_line 46 = .ok (.iconst 1, 1) := by decide +kernel
theorem dX6_line_47 : decode cX6_line 47 = .ok (.istore_n 2, 1) := by decide +kernel
theorem dX6_line_48 : decode cX6_line 48 = .ok (.iload_n 2, 1) := by decide +kernel
theorem dX6_line_49 : decode cX6_line 49 = .ok (.ifCond .eq 45, 3) := by decide +kernel
theorem dX6_line_52 : decode cX6_line 52 = .ok (.aload_n 1, 1) := by decide +kernel
theorem dX6_line_53 : decode cX6_line 53 = .ok (.getfield 150, 3) := by decide +kernel
theorem dX6_line_56 : decode cX6_line 56 = .ok (.invokevirtual 134, 3) := by decide +kernel
theorem dX6_line_59 : decode cX6_line 59 = .ok (.iconst 4, 1) := by decide +kernel
theorem dX6_line_60 : decode cX6_line 60 = .ok (.if_icmp .lt 12, 3) := by decide +kernel
theorem dX6_line_63 : decode cX6_line 63 = .ok (.aload_n 0, 1) := by decide +kernel
theorem dX6_line_64 : decode cX6_line 64 = .ok (.iconst 3, 1) := by decide +kernel
theorem dX6_line_65 : decode cX6_line 65 = .ok (.aload_n 0, 1) := by decide +kernel
theorem dX6_line_66 : decode cX6_line 66 = .ok (.getfield 38, 3) := by decide +kernel
theorem dX6_line_69 : decode cX6_line 69 = .ok (.invokevirtual 136, 3) := by decide +kernel
theorem dX6_line_72 : decode cX6_line 72 = .ok (.aload_n 1, 1) := by decide +kernel
theorem dX6_line_73 : decode cX6_line 73 = .ok (.getfield 150, 3) := by decide +kernel
theorem dX6_line_76 : decode cX6_line 76 = .ok (.aload_n 0, 1) := by decide +kernel
theorem dX6_line_77 : decode cX6_line 77 = .ok (.invokevirtual 153, 3) := by decide +kernel
theorem dX6_line_80 : decode cX6_line 80 = .ok (.invokevirtual 157, 3) := by decide +kernel
theorem dX6_line_83 : decode cX6_line 83 = .ok (.pop, 1) := by decide +kernel
theorem dX6_line_84 : decode cX6_line 84 = .ok (.aload_n 0, 1) := by decide +kernel
theorem dX6_line_85 : decode cX6_line 85 = .ok (.ldc 160, 2) := by decide +kernel
theorem dX6_line_87 : decode cX6_line 87 = .ok (.invokevirtual 130, 3) := by decide +kernel
theorem dX6_line_90 : decode cX6_line 90 = .ok (.istore_n 2, 1) := by decide +kernel
theorem dX6_line_91 : decode cX6_line 91 = .ok (.goto (-43), 3) := by decide +kernel
theorem dX6_line_94 : decode cX6_line 94 = .ok (.aload_n 0, 1) := by decide +kernel
theorem dX6_line_95 : decode cX6_line 95 = .ok (.bipush 58, 2) := by decide +kernel
theorem dX6_line_97 : decode cX6_line 97 = .ok (.invokevirtual 162, 3) := by decide +kernel
theorem dX6_line_100 : decode cX6_line 100 = .ok (.aload_n 0, 1) := by decide +kernel
theorem dX6_line_101 : decode cX6_line 101 = .ok (.getfield 38, 3) := by decide +kernel
theorem dX6_line_104 : decode cX6_line 104 = .ok (.istore_n 2, 1) := by decide +kernel
theorem dX6_line_105 : decode cX6_line 105 = .ok (.aload_n 1, 1) := by decide +kernel
theorem dX6_line_106 : decode cX6_line 106 = .ok (.aload_n 0, 1) := by decide +kernel
theorem dX6_line_107 : decode cX6_line 107 = .ok (.ldc 165, 2) := by decide +kernel
theorem dX6_line_109 : decode cX6_line 109 = .ok (.invokevirtual 130, 3) := by decide +kernel
theorem dX6_line_112 : decode cX6_line 112 = .ok (.ifCond .eq 7, 3) := by decide +kernel
theorem dX6_line_115 : decode cX6_line 115 = .ok (.iconst 1, 1) := by decide +kernel
theorem dX6_line_116 : decode cX6_line 116 = .ok (.goto 20, 3) := by decide +kernel
theorem dX6_line_119 : decode cX6_line 119 = .ok (.aload_n 0, 1) := by decide +kernel
theorem dX6_line_120 : decode cX6_line 120 = .ok (.ldc 167, 2) := by decide +kernel
theorem dX6_line_122 : decode cX6_line 122 = .ok (.invokevirtual 130, 3) := by decide +kernel
theorem dX6_line_125 : decode cX6_line 125 = .ok (.ifCond .eq 7, 3) := by decide +kernel
theorem dX6_line_128 : decode cX6_line 128 = .ok (.iconst 0, 1) := by decide +kernel
theorem dX6_line_129 : decode cX6_line 129 = .ok (.goto 7, 3) := by decide +kernel
theorem dX6_line_132 : decode cX6_line 132 = .ok (.aload_n 0, 1) := by decide +kernel
theorem dX6_line_133 : decode cX6_line 133 = .ok (.invokevirtual 169, 3) := by decide +kernel
theorem dX6_line_136 : decode cX6_line 136 = .ok (.putfield 172, 3) := by decide +kernel
theorem dX6_line_139 : decode cX6_line 139 = .ok (.aload_n 1, 1) := by decide +kernel
theorem dX6_line_140 : decode cX6_line 140 = .ok (.getfield 145, 3) := by decide +kernel
theorem dX6_line_143 : decode cX6_line 143 = .ok (.invokevirtual 174, 3) := by decide +kernel
theorem dX6_line_146 : decode cX6_line 146 = .ok (.ifCond .eq 18, 3) := by decide +kernel
theorem dX6_line_149 : decode cX6_line 149 = .ok (.aload_n 1, 1) := by decide +kernel
theorem dX6_line_150 : decode cX6_line 150 = .ok (.getfield 172, 3) := by decide +kernel
theorem dX6_line_153 : decode cX6_line 153 = .ok (.bipush 100, 2) := by decide +kernel
theorem dX6_line_155 : decode cX6_line 155 = .ok (.if_icmp .le 9, 3) := by decide +kernel
theorem dX6_line_158 : decode cX6_line 158 = .ok (.aload_n 0, 1) := by decide +kernel
theorem dX6_line_159 : decode cX6_line 159 = .ok (.iconst 2, 1) := by decide +kernel
theorem dX6_line_160 : decode cX6_line 160 = .ok (.iload_n 2, 1) := by decide +kernel
theorem dX6_line_161 : decode cX6_line 161 = .ok (.invokevirtual 136, 3) := by decide +kernel
theorem dX6_line_164 : decode cX6_line 164 = .ok (.aload_n 0, 1) := by decide +kernel
theorem dX6_line_165 : decode cX6_line 165 = .ok (.bipush 59, 2) := by decide +kernel
theorem dX6_line_167 : decode cX6_line 167 = .ok (.invokevirtual 162, 3) := by decide +kernel
theorem dX6_line_170 : decode cX6_line 170 = .ok (.aload_n 0, 1) := by decide +kernel
theorem dX6_line_171 : decode cX6_line 171 = .ok (.getfield 14, 3) := by decide +kernel
theorem dX6_line_174 : decode cX6_line 174 = .ok (.aload_n 1, 1) := by decide +kernel
theorem dX6_line_175 : decode cX6_line 175 = .ok (.invokevirtual 157, 3) := by decide +kernel
theorem dX6_line_178 : decode cX6_line 178 = .ok (.pop, 1) := by decide +kernel
theorem dX6_line_179 : decode cX6_line 179 = .ok (.return_, 1) := by decide +kernel
abbrev cX6_also : ByteArray := prog_8_method_11_code
def yX6_also : MethodName := ⟨RX6, "also", "(II)V"⟩
theorem dX6_also_0 : decode cX6_also 0 = .ok (.aload_n 0, 1) := by decide +kernel
theorem dX6_also_1 : decode cX6_also 1 = .ok (.getfield 114, 3) := by decide +kernel
theorem dX6_also_4 : decode cX6_also 4 = .ok (.ifnonnull 16, 3) := by decide +kernel
theorem dX6_also_7 : decode cX6_also 7 = .ok (.aload_n 0, 1) := by decide +kernel
theorem dX6_also_8 : decode cX6_also 8 = .ok (.new 98, 3) := by decide +kernel
theorem dX6_also_11 : decode cX6_also 11 = .ok (.dup, 1) := by decide +kernel
theorem dX6_also_12 : decode cX6_also 12 = .ok (.iload_n 1, 1) := by decide +kernel
theorem dX6_also_13 : decode cX6_also 13 = .ok (.iload_n 2, 1) := by decide +kernel
theorem dX6_also_14 : decode cX6_also 14 = .ok (.invokespecial 100, 3) := by decide +kernel
theorem dX6_also_17 : decode cX6_also 17 = .ok (.putfield 114, 3) := by decide +kernel
theorem dX6_also_20 : decode cX6_also 20 = .ok (.return_, 1) := by decide +kernel
abbrev cX6_topic : ByteArray := prog_8_method_13_code
def yX6_topic : MethodName := ⟨RX6, "topic", "()LDebtorsHouse$Topic;"⟩
theorem dX6_topic_0 : decode cX6_topic 0 = .ok (.iconst 0, 1) := by decide +kernel
theorem dX6_topic_1 : decode cX6_topic 1 = .ok (.istore_n 1, 1) := by decide +kernel
theorem dX6_topic_2 : decode cX6_topic 2 = .ok (.iload_n 1, 1) := by decide +kernel
theorem dX6_topic_3 : decode cX6_topic 3 = .ok (.getstatic 121, 3) := by decide +kernel
theorem dX6_topic_6 : decode cX6_topic 6 = .ok (.arraylength, 1) := by decide +kernel
theorem dX6_topic_7 : decode cX6_topic 7 = .ok (.if_icmp .ge 30, 3) := by decide +kernel
theorem dX6_topic_10 : decode cX6_topic 10 = .ok (.aload_n 0, 1) := by decide +kernel
theorem dX6_topic_11 : decode cX6_topic 11 = .ok (.getstatic 121, 3) := by decide +kernel
theorem dX6_topic_14 : decode cX6_topic 14 = .ok (.iload_n 1, 1) := by decide +kernel
theorem dX6_topic_15 : decode cX6_topic 15 = .ok (.aaload, 1) := by decide +kernel
theorem dX6_topic_16 : decode cX6_topic 16 = .ok (.getfield 125, 3) := by decide +kernel
theorem dX6_topic_19 : decode cX6_topic 19 = .ok (.invokevirtual 130, 3) := by decide +kernel
theorem dX6_topic_22 : decode cX6_topic 22 = .ok (.ifCond .eq 9, 3) := by decide +kernel
theorem dX6_topic_25 : decode cX6_topic 25 = .ok (.getstatic 121, 3) := by decide +kernel
theorem dX6_topic_28 : decode cX6_topic 28 = .ok (.iload_n 1, 1) := by decide +kernel
theorem dX6_topic_29 : decode cX6_topic 29 = .ok (.aaload, 1) := by decide +kernel
theorem dX6_topic_30 : decode cX6_topic 30 = .ok (.areturn, 1) := by decide +kernel
theorem dX6_topic_31 : decode cX6_topic 31 = .ok (.iinc 1 1, 3) := by decide +kernel
theorem dX6_topic_34 : decode cX6_topic 34 = .ok (.goto (-32), 3) := by decide +kernel
theorem dX6_topic_37 : decode cX6_topic 37 = .ok (.aload_n 0, 1) := by decide +kernel
theorem dX6_topic_38 : decode cX6_topic 38 = .ok (.invokevirtual 110, 3) := by decide +kernel
theorem dX6_topic_41 : decode cX6_topic 41 = .ok (.athrow, 1) := by decide +kernel
abbrev cX6_takes : ByteArray := prog_8_method_8_code
def yX6_takes : MethodName := ⟨RX6, "takes", "(Ljava/lang/String;)Z"⟩
theorem dX6_takes_0 : decode cX6_takes 0 = .ok (.aload_n 0, 1) := by decide +kernel
theorem dX6_takes_1 : decode cX6_takes 1 = .ok (.getfield 47, 3) := by decide +kernel
theorem dX6_takes_4 : decode cX6_takes 4 = .ok (.getstatic 73, 3) := by decide +kernel
theorem dX6_takes_7 : decode cX6_takes 7 = .ok (.if_acmp .ne 14, 3) := by decide +kernel
theorem dX6_takes_10 : decode cX6_takes 10 = .ok (.aload_n 0, 1) := by decide +kernel
theorem dX6_takes_11 : decode cX6_takes 11 = .ok (.getfield 69, 3) := by decide +kernel
theorem dX6_takes_14 : decode cX6_takes 14 = .ok (.aload_n 1, 1) := by decide +kernel
theorem dX6_takes_15 : decode cX6_takes 15 = .ok (.invokevirtual 103, 3) := by decide +kernel
theorem dX6_takes_18 : decode cX6_takes 18 = .ok (.ifCond .ne 5, 3) := by decide +kernel
theorem dX6_takes_21 : decode cX6_takes 21 = .ok (.iconst 0, 1) := by decide +kernel
theorem dX6_takes_22 : decode cX6_takes 22 = .ok (.ireturn, 1) := by decide +kernel
theorem dX6_takes_23 : decode cX6_takes 23 = .ok (.aload_n 0, 1) := by decide +kernel
theorem dX6_takes_24 : decode cX6_takes 24 = .ok (.invokevirtual 28, 3) := by decide +kernel
theorem dX6_takes_27 : decode cX6_takes 27 = .ok (.iconst 1, 1) := by decide +kernel
theorem dX6_takes_28 : decode cX6_takes 28 = .ok (.ireturn, 1) := by decide +kernel
abbrev cX6_wrong : ByteArray := prog_8_method_6_code
def yX6_wrong : MethodName := ⟨RX6, "wrong", "()LDebtorsHouse$Fault;"⟩
theorem dX6_wrong_0 : decode cX6_wrong 0 = .ok (.new 98, 3) := by decide +kernel
theorem dX6_wrong_3 : decode cX6_wrong 3 = .ok (.dup, 1) := by decide +kernel
theorem dX6_wrong_4 : decode cX6_wrong 4 = .ok (.iconst 1, 1) := by decide +kernel
theorem dX6_wrong_5 : decode cX6_wrong 5 = .ok (.aload_n 0, 1) := by decide +kernel
theorem dX6_wrong_6 : decode cX6_wrong 6 = .ok (.getfield 38, 3) := by decide +kernel
theorem dX6_wrong_9 : decode cX6_wrong 9 = .ok (.invokespecial 100, 3) := by decide +kernel
theorem dX6_wrong_12 : decode cX6_wrong 12 = .ok (.areturn, 1) := by decide +kernel
abbrev cX6_test : ByteArray := prog_8_method_15_code
def yX6_test : MethodName := ⟨RX6, "test", "()LDebtorsHouse$Test;"⟩
theorem dX6_test_0 : decode cX6_test 0 = .ok (.aload_n 0, 1) := by decide +kernel
theorem dX6_test_1 : decode cX6_test 1 = .ok (.ldc 178, 2) := by decide +kernel
theorem dX6_test_3 : decode cX6_test 3 = .ok (.invokevirtual 130, 3) := by decide +kernel
theorem dX6_test_6 : decode cX6_test 6 = .ok (.istore_n 1, 1) := by decide +kernel
theorem dX6_test_7 : decode cX6_test 7 = .ok (.aconst_null, 1) := by decide +kernel
theorem dX6_test_8 : decode cX6_test 8 = .ok (.astore_n 2, 1) := by decide +kernel
theorem dX6_test_9 : decode cX6_test 9 = .ok (.iconst 0, 1) := by decide +kernel
theorem dX6_test_10 : decode cX6_test 10 = .ok (.istore_n 3, 1) := by decide +kernel
theorem dX6_test_11 : decode cX6_test 11 = .ok (.iload_n 3, 1) := by decide +kernel
theorem dX6_test_12 : decode cX6_test 12 = .ok (.getstatic 180, 3) := by decide +kernel
theorem dX6_test_15 : decode cX6_test 15 = .ok (.arraylength, 1) := by decide +kernel
theorem dX6_test_16 : decode cX6_test 16 = .ok (.if_icmp .ge 34, 3) := by decide +kernel
theorem dX6_test_19 : decode cX6_test 19 = .ok (.aload_n 2, 1) := by decide +kernel
theorem dX6_test_20 : decode cX6_test 20 = .ok (.ifnonnull 30, 3) := by decide +kernel
theorem dX6_test_23 : decode cX6_test 23 = .ok (.aload_n 0, 1) := by decide +kernel
theorem dX6_test_24 : decode cX6_test 24 = .ok (.getstatic 180, 3) := by decide +kernel
theorem dX6_test_27 : decode cX6_test 27 = .ok (.iload_n 3, 1) := by decide +kernel
theorem dX6_test_28 : decode cX6_test 28 = .ok (.aaload, 1) := by decide +kernel
theorem dX6_test_29 : decode cX6_test 29 = .ok (.getfield 184, 3) := by decide +kernel
theorem dX6_test_32 : decode cX6_test 32 = .ok (.invokevirtual 130, 3) := by decide +kernel
theorem dX6_test_35 : decode cX6_test 35 = .ok (.ifCond .eq 9, 3) := by decide +kernel
theorem dX6_test_38 : decode cX6_test 38 = .ok (.getstatic 180, 3) := by decide +kernel
theorem dX6_test_41 : decode cX6_test 41 = .ok (.iload_n 3, 1) := by decide +kernel
theorem dX6_test_42 : decode cX6_test 42 = .ok (.aaload, 1) := by decide +kernel
theorem dX6_test_43 : decode cX6_test 43 = .ok (.astore_n 2, 1) := by decide +kernel
theorem dX6_test_44 : decode cX6_test 44 = .ok (.iinc 3 1, 3) := by decide +kernel
theorem dX6_test_47 : decode cX6_test 47 = .ok (.goto (-36), 3) := by decide +kernel
theorem dX6_test_50 : decode cX6_test 50 = .ok (.aload_n 2, 1) := by decide +kernel
theorem dX6_test_51 : decode cX6_test 51 = .ok (.ifnull 30, 3) := by decide +kernel
theorem dX6_test_54 : decode cX6_test 54 = .ok (.aload_n 0, 1) := by decide +kernel
theorem dX6_test_55 : decode cX6_test 55 = .ok (.bipush 60, 2) := by decide +kernel
theorem dX6_test_57 : decode cX6_test 57 = .ok (.invokevirtual 107, 3) := by decide +kernel
theorem dX6_test_60 : decode cX6_test 60 = .ok (.ifCond .ne 26, 3) := by decide +kernel
theorem dX6_test_63 : decode cX6_test 63 = .ok (.aload_n 0, 1) := by decide +kernel
theorem dX6_test_64 : decode cX6_test 64 = .ok (.bipush 62, 2) := by decide +kernel
theorem dX6_test_66 : decode cX6_test 66 = .ok (.invokevirtual 107, 3) := by decide +kernel
theorem dX6_test_69 : decode cX6_test 69 = .ok (.ifCond .ne 17, 3) := by decide +kernel
theorem dX6_test_72 : decode cX6_test 72 = .ok (.aload_n 0, 1) := by decide +kernel
theorem dX6_test_73 : decode cX6_test 73 = .ok (.bipush 61, 2) := by decide +kernel
theorem dX6_test_75 : decode cX6_test 75 = .ok (.invokevirtual 107, 3) := by decide +kernel
theorem dX6_test_78 : decode cX6_test 78 = .ok (.ifCond .ne 8, 3) := by decide +kernel
theorem dX6_test_81 : decode cX6_test 81 = .ok (.aload_n 0, 1) := by decide +kernel
theorem dX6_test_82 : decode cX6_test 82 = .ok (.invokevirtual 110, 3) := by decide +kernel
theorem dX6_test_85 : decode cX6_test 85 = .ok (.athrow, 1) := by decide +kernel
theorem dX6_test_86 : decode cX6_test 86 = .ok (.aload_n 0, 1) := by decide +kernel
theorem dX6_test_87 : decode cX6_test 87 = .ok (.getfield 20, 3) := by decide +kernel
theorem dX6_test_90 : decode cX6_test 90 = .ok (.aload_n 0, 1) := by decide +kernel
theorem dX6_test_91 : decode cX6_test 91 = .ok (.getfield 38, 3) := by decide +kernel
theorem dX6_test_94 : decode cX6_test 94 = .ok (.baload, 1) := by decide +kernel
theorem dX6_test_95 : decode cX6_test 95 = .ok (.i2c, 1) := by decide +kernel
theorem dX6_test_96 : decode cX6_test 96 = .ok (.istore_n 3, 1) := by decide +kernel
theorem dX6_test_97 : decode cX6_test 97 = .ok (.aload_n 0, 1) := by decide +kernel
theorem dX6_test_98 : decode cX6_test 98 = .ok (.invokevirtual 28, 3) := by decide +kernel
theorem dX6_test_101 : decode cX6_test 101 = .ok (.new 187, 3) := by decide +kernel
theorem dX6_test_104 : decode cX6_test 104 = .ok (.dup, 1) := by decide +kernel
theorem dX6_test_105 : decode cX6_test 105 = .ok (.iload_n 1, 1) := by decide +kernel
theorem dX6_test_106 : decode cX6_test 106 = .ok (.aload_n 2, 1) := by decide +kernel
theorem dX6_test_107 : decode cX6_test 107 = .ok (.iload_n 3, 1) := by decide +kernel
theorem dX6_test_108 : decode cX6_test 108 = .ok (.aload_n 0, 1) := by decide +kernel
theorem dX6_test_109 : decode cX6_test 109 = .ok (.invokevirtual 169, 3) := by decide +kernel
theorem dX6_test_112 : decode cX6_test 112 = .ok (.invokespecial 189, 3) := by decide +kernel
theorem dX6_test_115 : decode cX6_test 115 = .ok (.areturn, 1) := by decide +kernel
abbrev cX6_isSign : ByteArray := prog_8_method_7_code
def yX6_isSign : MethodName := ⟨RX6, "isSign", "(I)Z"⟩
theorem dX6_isSign_0 : decode cX6_isSign 0 = .ok (.aload_n 0, 1) := by decide +kernel
theorem dX6_isSign_1 : decode cX6_isSign 1 = .ok (.getfield 47, 3) := by decide +kernel
theorem dX6_isSign_4 : decode cX6_isSign 4 = .ok (.getstatic 95, 3) := by decide +kernel
theorem dX6_isSign_7 : decode cX6_isSign 7 = .ok (.if_acmp .ne 20, 3) := by decide +kernel
theorem dX6_isSign_10 : decode cX6_isSign 10 = .ok (.aload_n 0, 1) := by decide +kernel
theorem dX6_isSign_11 : decode cX6_isSign 11 = .ok (.getfield 20, 3) := by decide +kernel
theorem dX6_isSign_14 : decode cX6_isSign 14 = .ok (.aload_n 0, 1) := by decide +kernel
theorem dX6_isSign_15 : decode cX6_isSign 15 = .ok (.getfield 38, 3) := by decide +kernel
theorem dX6_isSign_18 : decode cX6_isSign 18 = .ok (.baload, 1) := by decide +kernel
theorem dX6_isSign_19 : decode cX6_isSign 19 = .ok (.iload_n 1, 1) := by decide +kernel
theorem dX6_isSign_20 : decode cX6_isSign 20 = .ok (.if_icmp .ne 7, 3) := by decide +kernel
theorem dX6_isSign_23 : decode cX6_isSign 23 = .ok (.iconst 1, 1) := by decide +kernel
theorem dX6_isSign_24 : decode cX6_isSign 24 = .ok (.goto 4, 3) := by decide +kernel
theorem dX6_isSign_27 : decode cX6_isSign 27 = .ok (.iconst 0, 1) := by decide +kernel
theorem dX6_isSign_28 : decode cX6_isSign 28 = .ok (.ireturn, 1) := by decide +kernel
abbrev cX6_number : ByteArray := prog_8_method_10_code
def yX6_number : MethodName := ⟨RX6, "number", "()I"⟩
theorem dX6_number_0 : decode cX6_number 0 = .ok (.aload_n 0, 1) := by decide +kernel
theorem dX6_number_1 : decode cX6_number 1 = .ok (.getfield 47, 3) := by decide +kernel
theorem dX6_number_4 : decode cX6_number 4 = .ok (.getstatic 85, 3) := by decide +kernel
theorem dX6_number_7 : decode cX6_number 7 = .ok (.if_acmp .eq 8, 3) := by decide +kernel
theorem dX6_number_10 : decode cX6_number 10 = .ok (.aload_n 0, 1) := by decide +kernel
theorem dX6_number_11 : decode cX6_number 11 = .ok (.invokevirtual 110, 3) := by decide +kernel
theorem dX6_number_14 : decode cX6_number 14 = .ok (.athrow, 1) := by decide +kernel
theorem dX6_number_15 : decode cX6_number 15 = .ok (.aload_n 0, 1) := by decide +kernel
theorem dX6_number_16 : decode cX6_number 16 = .ok (.getfield 79, 3) := by decide +kernel
theorem dX6_number_19 : decode cX6_number 19 = .ok (.istore_n 1, 1) := by decide +kernel
theorem dX6_number_20 : decode cX6_number 20 = .ok (.aload_n 0, 1) := by decide +kernel
theorem dX6_number_21 : decode cX6_number 21 = .ok (.invokevirtual 28, 3) := by decide +kernel
theorem dX6_number_24 : decode cX6_number 24 = .ok (.iload_n 1, 1) := by decide +kernel
theorem dX6_number_25 : decode cX6_number 25 = .ok (.ireturn, 1) := by decide +kernel
abbrev cX6_must : ByteArray := prog_8_method_9_code
def yX6_must : MethodName := ⟨RX6, "must", "(I)V"⟩
theorem dX6_must_0 : decode cX6_must 0 = .ok (.aload_n 0, 1) := by decide +kernel
theorem dX6_must_1 : decode cX6_must 1 = .ok (.iload_n 1, 1) := by decide +kernel
theorem dX6_must_2 : decode cX6_must 2 = .ok (.invokevirtual 107, 3) := by decide +kernel
theorem dX6_must_5 : decode cX6_must 5 = .ok (.ifCond .ne 8, 3) := by decide +kernel
theorem dX6_must_8 : decode cX6_must 8 = .ok (.aload_n 0, 1) := by decide +kernel
theorem dX6_must_9 : decode cX6_must 9 = .ok (.invokevirtual 110, 3) := by decide +kernel
theorem dX6_must_12 : decode cX6_must 12 = .ok (.athrow, 1) := by decide +kernel
theorem dX6_must_13 : decode cX6_must 13 = .ok (.aload_n 0, 1) := by decide +kernel
theorem dX6_must_14 : decode cX6_must 14 = .ok (.invokevirtual 28, 3) := by decide +kernel
theorem dX6_must_17 : decode cX6_must 17 = .ok (.return_, 1) := by decide +kernel
theorem q98 : (Jvm.Cond.initialized "DebtorsHouse$Reader") ∈ lw_all := lw_g (lw_at lw_m1 18 rfl) rfl
theorem q371 : (Jvm.Cond.selects "DebtorsHouse$Reader" ({ cls := "java/lang/Object", name := "getClass", desc := "()Ljava/lang/Class;" } : Jvm.MethodName) ({ cls := "java/lang/Object", name := "getClass", desc := "()Ljava/lang/Class;" } : Jvm.MethodName)) ∈ lw_all := lw_g (lw_at lw_m2 51 rfl) rfl
theorem q597 : (Jvm.Cond.instantiable "DebtorsHouse$Reader" (9 : Nat)) ∈ lw_all := lw_g (lw_at lw_m3 37 rfl) rfl
theorem q599 : (Jvm.Cond.instanceMethod ({ cls := "DebtorsHouse$Reader", name := "<init>", desc := "([BI)V" } : Jvm.MethodName)) ∈ lw_all := lw_g (lw_at lw_m3 39 rfl) rfl
theorem q600 : (Jvm.Cond.code ({ cls := "DebtorsHouse$Reader", name := "<init>", desc := "([BI)V" } : Jvm.MethodName) prog_8_method_1_code (3 : Nat) (Option.none : Option Jvm.ClassFile.FieldType)) ∈ lw_all := lw_g (lw_at lw_m3 40 rfl) rfl
theorem q601 : (Jvm.Cond.methodLink "DebtorsHouse$Reader" (3 : Nat) ({ cls := "java/lang/Object", name := "<init>", desc := "()V" } : Jvm.MethodName)) ∈ lw_all := lw_g (lw_at lw_m3 41 rfl) rfl
theorem q602 : (Jvm.Cond.classLink "DebtorsHouse$Reader" (9 : Nat) "java/util/ArrayList") ∈ lw_all := lw_g (lw_at lw_m3 42 rfl) rfl
theorem q603 : (Jvm.Cond.methodLink "DebtorsHouse$Reader" (11 : Nat) ({ cls := "java/util/ArrayList", name := "<init>", desc := "(I)V" } : Jvm.MethodName)) ∈ lw_all := lw_g (lw_at lw_m3 43 rfl) rfl
theorem q604 : (Jvm.Cond.methodLink "DebtorsHouse$Reader" (28 : Nat) ({ cls := "DebtorsHouse$Reader", name := "step", desc := "()V" } : Jvm.MethodName)) ∈ lw_all := lw_g (lw_at lw_m3 44 rfl) rfl
theorem q605 : (Jvm.Cond.privateMethod ({ cls := "DebtorsHouse$Reader", name := "step", desc := "()V" } : Jvm.MethodName)) ∈ lw_tbl := lw_at lw_m3 45 rfl
theorem q606 : (Jvm.Cond.instanceMethod ({ cls := "DebtorsHouse$Reader", name := "step", desc := "()V" } : Jvm.MethodName)) ∈ lw_all := lw_g (lw_at lw_m3 46 rfl) rfl
theorem q607 : (Jvm.Cond.code ({ cls := "DebtorsHouse$Reader", name := "step", desc := "()V" } : Jvm.MethodName) prog_8_method_5_code (3 : Nat) (Option.none : Option Jvm.ClassFile.FieldType)) ∈ lw_all := lw_g (lw_at lw_m3 47 rfl) rfl
theorem q608 : (Jvm.Cond.methodLink "DebtorsHouse$Reader" (34 : Nat) ({ cls := "DebtorsHouse$Reader", name := "at", desc := "(I)I" } : Jvm.MethodName)) ∈ lw_all := lw_g (lw_at lw_m3 48 rfl) rfl
theorem q609 : (Jvm.Cond.privateMethod ({ cls := "DebtorsHouse$Reader", name := "at", desc := "(I)I" } : Jvm.MethodName)) ∈ lw_tbl := lw_at lw_m3 49 rfl
theorem q610 : (Jvm.Cond.instanceMethod ({ cls := "DebtorsHouse$Reader", name := "at", desc := "(I)I" } : Jvm.MethodName)) ∈ lw_all := lw_g (lw_at lw_m3 50 rfl) rfl
theorem q611 : (Jvm.Cond.code ({ cls := "DebtorsHouse$Reader", name := "at", desc := "(I)I" } : Jvm.MethodName) prog_8_method_2_code (2 : Nat) (Option.some Jvm.ClassFile.FieldType.int)) ∈ lw_all := lw_g (lw_at lw_m3 51 rfl) rfl
theorem q612 : (Jvm.Cond.fieldLink "DebtorsHouse$Reader" (41 : Nat) "DebtorsHouse$Token" "END" "LDebtorsHouse$Token;") ∈ lw_all := lw_g (lw_at lw_m3 52 rfl) rfl
theorem q614 : (Jvm.Cond.methodLink "DebtorsHouse$Reader" (50 : Nat) ({ cls := "DebtorsHouse$Reader", name := "isLetter", desc := "(I)Z" } : Jvm.MethodName)) ∈ lw_all := lw_g (lw_at lw_m3 54 rfl) rfl
theorem q615 : (Jvm.Cond.static ({ cls := "DebtorsHouse$Reader", name := "isLetter", desc := "(I)Z" } : Jvm.MethodName)) ∈ lw_all := lw_g (lw_at lw_m3 55 rfl) rfl
theorem q616 : (Jvm.Cond.code ({ cls := "DebtorsHouse$Reader", name := "isLetter", desc := "(I)Z" } : Jvm.MethodName) prog_8_method_3_code (1 : Nat) (Option.some Jvm.ClassFile.FieldType.boolean)) ∈ lw_all := lw_g (lw_at lw_m3 56 rfl) rfl
theorem q617 : (Jvm.Cond.classLink "DebtorsHouse$Reader" (54 : Nat) "java/lang/StringBuilder") ∈ lw_all := lw_g (lw_at lw_m3 57 rfl) rfl
theorem q619 : (Jvm.Cond.methodLink "DebtorsHouse$Reader" (56 : Nat) ({ cls := "java/lang/StringBuilder", name := "<init>", desc := "(I)V" } : Jvm.MethodName)) ∈ lw_all := lw_g (lw_at lw_m3 59 rfl) rfl
theorem q648 : (Jvm.Cond.methodLink "DebtorsHouse$Reader" (57 : Nat) ({ cls := "java/lang/StringBuilder", name := "length", desc := "()I" } : Jvm.MethodName)) ∈ lw_all := lw_g (lw_at lw_m3 88 rfl) rfl
theorem q655 : (Jvm.Cond.methodLink "DebtorsHouse$Reader" (61 : Nat) ({ cls := "java/lang/StringBuilder", name := "append", desc := "(C)Ljava/lang/StringBuilder;" } : Jvm.MethodName)) ∈ lw_all := lw_g (lw_at lw_m3 95 rfl) rfl
theorem q733 : (Jvm.Cond.methodLink "DebtorsHouse$Reader" (65 : Nat) ({ cls := "java/lang/StringBuilder", name := "toString", desc := "()Ljava/lang/String;" } : Jvm.MethodName)) ∈ lw_all := lw_g (lw_at lw_m3 173 rfl) rfl
theorem q787 : (Jvm.Cond.fieldLink "DebtorsHouse$Reader" (73 : Nat) "DebtorsHouse$Token" "WORD" "LDebtorsHouse$Token;") ∈ lw_all := lw_g (lw_at lw_m3 227 rfl) rfl
theorem q789 : (Jvm.Cond.methodLink "DebtorsHouse$Reader" (76 : Nat) ({ cls := "DebtorsHouse$Reader", name := "isDigit", desc := "(I)Z" } : Jvm.MethodName)) ∈ lw_all := lw_g (lw_at lw_m3 229 rfl) rfl
theorem q790 : (Jvm.Cond.static ({ cls := "DebtorsHouse$Reader", name := "isDigit", desc := "(I)Z" } : Jvm.MethodName)) ∈ lw_all := lw_g (lw_at lw_m3 230 rfl) rfl
theorem q791 : (Jvm.Cond.code ({ cls := "DebtorsHouse$Reader", name := "isDigit", desc := "(I)Z" } : Jvm.MethodName) prog_8_method_4_code (1 : Nat) (Option.some Jvm.ClassFile.FieldType.boolean)) ∈ lw_all := lw_g (lw_at lw_m3 231 rfl) rfl
theorem q792 : (Jvm.Cond.fieldLink "DebtorsHouse$Reader" (82 : Nat) "DebtorsHouse$Token" "BAD" "LDebtorsHouse$Token;") ∈ lw_all := lw_g (lw_at lw_m3 232 rfl) rfl
theorem q794 : (Jvm.Cond.fieldLink "DebtorsHouse$Reader" (85 : Nat) "DebtorsHouse$Token" "NUMBER" "LDebtorsHouse$Token;") ∈ lw_all := lw_g (lw_at lw_m3 234 rfl) rfl
theorem q796 : (Jvm.Cond.stringRef "DebtorsHouse$Reader" (88 : Nat) ":;<>=") ∈ lw_tbl := lw_at lw_m3 236 rfl
theorem q797 : (Jvm.Cond.methodLink "DebtorsHouse$Reader" (90 : Nat) ({ cls := "java/lang/String", name := "indexOf", desc := "(I)I" } : Jvm.MethodName)) ∈ lw_all := lw_g (lw_at lw_m3 237 rfl) rfl
theorem q863 : (Jvm.Cond.fieldLink "DebtorsHouse$Reader" (95 : Nat) "DebtorsHouse$Token" "SIGN" "LDebtorsHouse$Token;") ∈ lw_all := lw_g (lw_at lw_m4 63 rfl) rfl
theorem q865 : (Jvm.Cond.fieldLink "DebtorsHouse$Reader" (20 : Nat) "DebtorsHouse$Reader" "tape" "[B") ∈ lw_all := lw_g (lw_at lw_m4 65 rfl) rfl
theorem q866 : (Jvm.Cond.fieldLink "DebtorsHouse$Reader" (24 : Nat) "DebtorsHouse$Reader" "size" "I") ∈ lw_all := lw_g (lw_at lw_m4 66 rfl) rfl
theorem q867 : (Jvm.Cond.fieldLink "DebtorsHouse$Reader" (31 : Nat) "DebtorsHouse$Reader" "next" "I") ∈ lw_all := lw_g (lw_at lw_m4 67 rfl) rfl
theorem q868 : (Jvm.Cond.fieldLink "DebtorsHouse$Reader" (38 : Nat) "DebtorsHouse$Reader" "place" "I") ∈ lw_all := lw_g (lw_at lw_m4 68 rfl) rfl
theorem q869 : (Jvm.Cond.fieldLink "DebtorsHouse$Reader" (79 : Nat) "DebtorsHouse$Reader" "value" "I") ∈ lw_all := lw_g (lw_at lw_m4 69 rfl) rfl
theorem q870 : (Jvm.Cond.fieldLink "DebtorsHouse$Reader" (47 : Nat) "DebtorsHouse$Reader" "token" "LDebtorsHouse$Token;") ∈ lw_all := lw_g (lw_at lw_m4 70 rfl) rfl
theorem q871 : (Jvm.Cond.fieldLink "DebtorsHouse$Reader" (69 : Nat) "DebtorsHouse$Reader" "text" "Ljava/lang/String;") ∈ lw_all := lw_g (lw_at lw_m4 71 rfl) rfl
theorem q872 : (Jvm.Cond.fieldLink "DebtorsHouse$Reader" (114 : Nat) "DebtorsHouse$Reader" "also" "LDebtorsHouse$Fault;") ∈ lw_all := lw_g (lw_at lw_m4 72 rfl) rfl
theorem q873 : (Jvm.Cond.fieldLink "DebtorsHouse$Reader" (14 : Nat) "DebtorsHouse$Reader" "lines" "Ljava/util/ArrayList;") ∈ lw_all := lw_g (lw_at lw_m4 73 rfl) rfl
theorem q874 : (Jvm.Cond.laysFinal "DebtorsHouse$Reader" "DebtorsHouse$Reader" "tape" "[B") ∈ lw_all := lw_g (lw_at lw_m4 74 rfl) rfl
theorem q875 : (Jvm.Cond.soleField "DebtorsHouse$Reader" "tape") ∈ lw_all := lw_g (lw_at lw_m4 75 rfl) rfl
theorem q876 : (Jvm.Cond.laysFinal "DebtorsHouse$Reader" "DebtorsHouse$Reader" "size" "I") ∈ lw_all := lw_g (lw_at lw_m4 76 rfl) rfl
theorem q877 : (Jvm.Cond.soleField "DebtorsHouse$Reader" "size") ∈ lw_all := lw_g (lw_at lw_m4 77 rfl) rfl
theorem q878 : (Jvm.Cond.lays "DebtorsHouse$Reader" "DebtorsHouse$Reader" "next" "I") ∈ lw_all := lw_g (lw_at lw_m4 78 rfl) rfl
theorem q879 : (Jvm.Cond.soleField "DebtorsHouse$Reader" "next") ∈ lw_all := lw_g (lw_at lw_m4 79 rfl) rfl
theorem q880 : (Jvm.Cond.lays "DebtorsHouse$Reader" "DebtorsHouse$Reader" "place" "I") ∈ lw_all := lw_g (lw_at lw_m4 80 rfl) rfl
theorem q881 : (Jvm.Cond.soleField "DebtorsHouse$Reader" "place") ∈ lw_all := lw_g (lw_at lw_m4 81 rfl) rfl
theorem q882 : (Jvm.Cond.lays "DebtorsHouse$Reader" "DebtorsHouse$Reader" "value" "I") ∈ lw_all := lw_g (lw_at lw_m4 82 rfl) rfl
theorem q883 : (Jvm.Cond.soleField "DebtorsHouse$Reader" "value") ∈ lw_all := lw_g (lw_at lw_m4 83 rfl) rfl
theorem q884 : (Jvm.Cond.lays "DebtorsHouse$Reader" "DebtorsHouse$Reader" "token" "LDebtorsHouse$Token;") ∈ lw_all := lw_g (lw_at lw_m4 84 rfl) rfl
theorem q885 : (Jvm.Cond.soleField "DebtorsHouse$Reader" "token") ∈ lw_all := lw_g (lw_at lw_m4 85 rfl) rfl
theorem q886 : (Jvm.Cond.lays "DebtorsHouse$Reader" "DebtorsHouse$Reader" "text" "Ljava/lang/String;") ∈ lw_all := lw_g (lw_at lw_m4 86 rfl) rfl
theorem q887 : (Jvm.Cond.soleField "DebtorsHouse$Reader" "text") ∈ lw_all := lw_g (lw_at lw_m4 87 rfl) rfl
theorem q888 : (Jvm.Cond.lays "DebtorsHouse$Reader" "DebtorsHouse$Reader" "also" "LDebtorsHouse$Fault;") ∈ lw_all := lw_g (lw_at lw_m4 88 rfl) rfl
theorem q889 : (Jvm.Cond.soleField "DebtorsHouse$Reader" "also") ∈ lw_all := lw_g (lw_at lw_m4 89 rfl) rfl
theorem q890 : (Jvm.Cond.laysFinal "DebtorsHouse$Reader" "DebtorsHouse$Reader" "lines" "Ljava/util/ArrayList;") ∈ lw_all := lw_g (lw_at lw_m4 90 rfl) rfl
theorem q891 : (Jvm.Cond.soleField "DebtorsHouse$Reader" "lines") ∈ lw_all := lw_g (lw_at lw_m4 91 rfl) rfl
theorem q892 : (Jvm.Cond.superclass "DebtorsHouse$Reader" "java/lang/Object") ∈ lw_all := lw_g (lw_at lw_m4 92 rfl) rfl
theorem q894 : (Jvm.Cond.instanceMethod ({ cls := "DebtorsHouse$Reader", name := "whole", desc := "()Ljava/util/ArrayList;" } : Jvm.MethodName)) ∈ lw_all := lw_g (lw_at lw_m4 94 rfl) rfl
theorem q895 : (Jvm.Cond.selects "DebtorsHouse$Reader" ({ cls := "DebtorsHouse$Reader", name := "whole", desc := "()Ljava/util/ArrayList;" } : Jvm.MethodName) ({ cls := "DebtorsHouse$Reader", name := "whole", desc := "()Ljava/util/ArrayList;" } : Jvm.MethodName)) ∈ lw_all := lw_g (lw_at lw_m4 95 rfl) rfl
theorem q896 : (Jvm.Cond.code ({ cls := "DebtorsHouse$Reader", name := "whole", desc := "()Ljava/util/ArrayList;" } : Jvm.MethodName) prog_8_method_12_code (1 : Nat) (Option.some (Jvm.ClassFile.FieldType.object "java/util/ArrayList"))) ∈ lw_all := lw_g (lw_at lw_m4 96 rfl) rfl
theorem q897 : (Jvm.Cond.methodLink "DebtorsHouse$Reader" (118 : Nat) ({ cls := "DebtorsHouse$Reader", name := "line", desc := "()V" } : Jvm.MethodName)) ∈ lw_all := lw_g (lw_at lw_m4 97 rfl) rfl
theorem q898 : (Jvm.Cond.privateMethod ({ cls := "DebtorsHouse$Reader", name := "line", desc := "()V" } : Jvm.MethodName)) ∈ lw_tbl := lw_at lw_m4 98 rfl
theorem q899 : (Jvm.Cond.instanceMethod ({ cls := "DebtorsHouse$Reader", name := "line", desc := "()V" } : Jvm.MethodName)) ∈ lw_all := lw_g (lw_at lw_m4 99 rfl) rfl
theorem q900 : (Jvm.Cond.code ({ cls := "DebtorsHouse$Reader", name := "line", desc := "()V" } : Jvm.MethodName) prog_8_method_14_code (3 : Nat) (Option.none : Option Jvm.ClassFile.FieldType)) ∈ lw_all := lw_g (lw_at lw_m4 100 rfl) rfl
theorem q901 : (Jvm.Cond.methodLink "DebtorsHouse$Reader" (134 : Nat) ({ cls := "java/util/ArrayList", name := "size", desc := "()I" } : Jvm.MethodName)) ∈ lw_all := lw_g (lw_at lw_m4 101 rfl) rfl
theorem q902 : (Jvm.Cond.methodLink "DebtorsHouse$Reader" (136 : Nat) ({ cls := "DebtorsHouse$Reader", name := "also", desc := "(II)V" } : Jvm.MethodName)) ∈ lw_all := lw_g (lw_at lw_m4 102 rfl) rfl
theorem q903 : (Jvm.Cond.privateMethod ({ cls := "DebtorsHouse$Reader", name := "also", desc := "(II)V" } : Jvm.MethodName)) ∈ lw_tbl := lw_at lw_m4 103 rfl
theorem q904 : (Jvm.Cond.instanceMethod ({ cls := "DebtorsHouse$Reader", name := "also", desc := "(II)V" } : Jvm.MethodName)) ∈ lw_all := lw_g (lw_at lw_m4 104 rfl) rfl
theorem q905 : (Jvm.Cond.code ({ cls := "DebtorsHouse$Reader", name := "also", desc := "(II)V" } : Jvm.MethodName) prog_8_method_11_code (3 : Nat) (Option.none : Option Jvm.ClassFile.FieldType)) ∈ lw_all := lw_g (lw_at lw_m4 105 rfl) rfl
theorem q906 : (Jvm.Cond.classLink "DebtorsHouse$Reader" (98 : Nat) "DebtorsHouse$Fault") ∈ lw_all := lw_g (lw_at lw_m4 106 rfl) rfl
theorem q943 : (Jvm.Cond.methodLink "DebtorsHouse$Reader" (100 : Nat) ({ cls := "DebtorsHouse$Fault", name := "<init>", desc := "(II)V" } : Jvm.MethodName)) ∈ lw_all := lw_g (lw_at lw_m4 143 rfl) rfl
theorem q970 : (Jvm.Cond.classLink "DebtorsHouse$Reader" (138 : Nat) "DebtorsHouse$Line") ∈ lw_all := lw_g (lw_at lw_m4 170 rfl) rfl
theorem q972 : (Jvm.Cond.methodLinkNest "DebtorsHouse$Reader" (140 : Nat) ({ cls := "DebtorsHouse$Line", name := "<init>", desc := "()V" } : Jvm.MethodName) "DebtorsHouse") ∈ lw_tbl := lw_at lw_m4 172 rfl
theorem q979 : (Jvm.Cond.fieldLinkNest "DebtorsHouse$Reader" (145 : Nat) "DebtorsHouse$Line" "topic" "LDebtorsHouse$Topic;" "DebtorsHouse") ∈ lw_tbl := lw_at lw_m4 179 rfl
theorem q981 : (Jvm.Cond.fieldLinkNest "DebtorsHouse$Reader" (150 : Nat) "DebtorsHouse$Line" "tests" "Ljava/util/ArrayList;" "DebtorsHouse") ∈ lw_tbl := lw_at lw_m4 181 rfl
theorem q983 : (Jvm.Cond.fieldLinkNest "DebtorsHouse$Reader" (172 : Nat) "DebtorsHouse$Line" "number" "I" "DebtorsHouse") ∈ lw_tbl := lw_at lw_m4 183 rfl
theorem q991 : (Jvm.Cond.methodLink "DebtorsHouse$Reader" (141 : Nat) ({ cls := "DebtorsHouse$Reader", name := "topic", desc := "()LDebtorsHouse$Topic;" } : Jvm.MethodName)) ∈ lw_all := lw_g (lw_at lw_m4 191 rfl) rfl
theorem q992 : (Jvm.Cond.privateMethod ({ cls := "DebtorsHouse$Reader", name := "topic", desc := "()LDebtorsHouse$Topic;" } : Jvm.MethodName)) ∈ lw_tbl := lw_at lw_m4 192 rfl
theorem q993 : (Jvm.Cond.instanceMethod ({ cls := "DebtorsHouse$Reader", name := "topic", desc := "()LDebtorsHouse$Topic;" } : Jvm.MethodName)) ∈ lw_all := lw_g (lw_at lw_m4 193 rfl) rfl
theorem q994 : (Jvm.Cond.code ({ cls := "DebtorsHouse$Reader", name := "topic", desc := "()LDebtorsHouse$Topic;" } : Jvm.MethodName) prog_8_method_13_code (2 : Nat) (Option.some (Jvm.ClassFile.FieldType.object "DebtorsHouse$Topic"))) ∈ lw_all := lw_g (lw_at lw_m4 194 rfl) rfl
theorem q995 : (Jvm.Cond.fieldLinkNest "DebtorsHouse$Reader" (121 : Nat) "DebtorsHouse" "TOPICS" "[LDebtorsHouse$Topic;" "DebtorsHouse") ∈ lw_tbl := lw_at lw_m4 195 rfl
theorem q997 : (Jvm.Cond.methodLink "DebtorsHouse$Reader" (130 : Nat) ({ cls := "DebtorsHouse$Reader", name := "takes", desc := "(Ljava/lang/String;)Z" } : Jvm.MethodName)) ∈ lw_all := lw_g (lw_at lw_m4 197 rfl) rfl
theorem q998 : (Jvm.Cond.privateMethod ({ cls := "DebtorsHouse$Reader", name := "takes", desc := "(Ljava/lang/String;)Z" } : Jvm.MethodName)) ∈ lw_tbl := lw_at lw_m4 198 rfl
theorem q999 : (Jvm.Cond.instanceMethod ({ cls := "DebtorsHouse$Reader", name := "takes", desc := "(Ljava/lang/String;)Z" } : Jvm.MethodName)) ∈ lw_all := lw_g (lw_at lw_m4 199 rfl) rfl
theorem q1000 : (Jvm.Cond.code ({ cls := "DebtorsHouse$Reader", name := "takes", desc := "(Ljava/lang/String;)Z" } : Jvm.MethodName) prog_8_method_8_code (2 : Nat) (Option.some Jvm.ClassFile.FieldType.boolean)) ∈ lw_all := lw_g (lw_at lw_m4 200 rfl) rfl
theorem q1001 : (Jvm.Cond.methodLink "DebtorsHouse$Reader" (103 : Nat) ({ cls := "java/lang/String", name := "equals", desc := "(Ljava/lang/Object;)Z" } : Jvm.MethodName)) ∈ lw_all := lw_g (lw_at lw_m4 201 rfl) rfl
theorem q1009 : (Jvm.Cond.methodLink "DebtorsHouse$Reader" (110 : Nat) ({ cls := "DebtorsHouse$Reader", name := "wrong", desc := "()LDebtorsHouse$Fault;" } : Jvm.MethodName)) ∈ lw_all := lw_g (lw_at lw_m4 209 rfl) rfl
theorem q1010 : (Jvm.Cond.privateMethod ({ cls := "DebtorsHouse$Reader", name := "wrong", desc := "()LDebtorsHouse$Fault;" } : Jvm.MethodName)) ∈ lw_tbl := lw_at lw_m4 210 rfl
theorem q1011 : (Jvm.Cond.instanceMethod ({ cls := "DebtorsHouse$Reader", name := "wrong", desc := "()LDebtorsHouse$Fault;" } : Jvm.MethodName)) ∈ lw_all := lw_g (lw_at lw_m4 211 rfl) rfl
theorem q1012 : (Jvm.Cond.code ({ cls := "DebtorsHouse$Reader", name := "wrong", desc := "()LDebtorsHouse$Fault;" } : Jvm.MethodName) prog_8_method_6_code (1 : Nat) (Option.some (Jvm.ClassFile.FieldType.object "DebtorsHouse$Fault"))) ∈ lw_all := lw_g (lw_at lw_m4 212 rfl) rfl
theorem q1013 : (Jvm.Cond.stringRef "DebtorsHouse$Reader" (148 : Nat) "if") ∈ lw_tbl := lw_at lw_m4 213 rfl
theorem q1014 : (Jvm.Cond.methodLink "DebtorsHouse$Reader" (153 : Nat) ({ cls := "DebtorsHouse$Reader", name := "test", desc := "()LDebtorsHouse$Test;" } : Jvm.MethodName)) ∈ lw_all := lw_g (lw_at lw_m4 214 rfl) rfl
theorem q1015 : (Jvm.Cond.privateMethod ({ cls := "DebtorsHouse$Reader", name := "test", desc := "()LDebtorsHouse$Test;" } : Jvm.MethodName)) ∈ lw_tbl := lw_at lw_m4 215 rfl
theorem q1016 : (Jvm.Cond.instanceMethod ({ cls := "DebtorsHouse$Reader", name := "test", desc := "()LDebtorsHouse$Test;" } : Jvm.MethodName)) ∈ lw_all := lw_g (lw_at lw_m4 216 rfl) rfl
theorem q1017 : (Jvm.Cond.code ({ cls := "DebtorsHouse$Reader", name := "test", desc := "()LDebtorsHouse$Test;" } : Jvm.MethodName) prog_8_method_15_code (4 : Nat) (Option.some (Jvm.ClassFile.FieldType.object "DebtorsHouse$Test"))) ∈ lw_all := lw_g (lw_at lw_m4 217 rfl) rfl
theorem q1018 : (Jvm.Cond.stringRef "DebtorsHouse$Reader" (178 : Nat) "not") ∈ lw_tbl := lw_at lw_m4 218 rfl
theorem q1019 : (Jvm.Cond.fieldLinkNest "DebtorsHouse$Reader" (180 : Nat) "DebtorsHouse" "ASKED" "[LDebtorsHouse$About;" "DebtorsHouse") ∈ lw_tbl := lw_at lw_m4 219 rfl
theorem q1020 : (Jvm.Cond.methodLink "DebtorsHouse$Reader" (107 : Nat) ({ cls := "DebtorsHouse$Reader", name := "isSign", desc := "(I)Z" } : Jvm.MethodName)) ∈ lw_all := lw_g (lw_at lw_m4 220 rfl) rfl
theorem q1021 : (Jvm.Cond.privateMethod ({ cls := "DebtorsHouse$Reader", name := "isSign", desc := "(I)Z" } : Jvm.MethodName)) ∈ lw_tbl := lw_at lw_m4 221 rfl
theorem q1022 : (Jvm.Cond.instanceMethod ({ cls := "DebtorsHouse$Reader", name := "isSign", desc := "(I)Z" } : Jvm.MethodName)) ∈ lw_all := lw_g (lw_at lw_m4 222 rfl) rfl
theorem q1023 : (Jvm.Cond.code ({ cls := "DebtorsHouse$Reader", name := "isSign", desc := "(I)Z" } : Jvm.MethodName) prog_8_method_7_code (2 : Nat) (Option.some Jvm.ClassFile.FieldType.boolean)) ∈ lw_all := lw_g (lw_at lw_m4 223 rfl) rfl
theorem q1024 : (Jvm.Cond.classLink "DebtorsHouse$Reader" (187 : Nat) "DebtorsHouse$Test") ∈ lw_all := lw_g (lw_at lw_m4 224 rfl) rfl
theorem q1026 : (Jvm.Cond.methodLink "DebtorsHouse$Reader" (169 : Nat) ({ cls := "DebtorsHouse$Reader", name := "number", desc := "()I" } : Jvm.MethodName)) ∈ lw_all := lw_g (lw_at lw_m4 226 rfl) rfl
theorem q1027 : (Jvm.Cond.privateMethod ({ cls := "DebtorsHouse$Reader", name := "number", desc := "()I" } : Jvm.MethodName)) ∈ lw_tbl := lw_at lw_m4 227 rfl
theorem q1028 : (Jvm.Cond.instanceMethod ({ cls := "DebtorsHouse$Reader", name := "number", desc := "()I" } : Jvm.MethodName)) ∈ lw_all := lw_g (lw_at lw_m4 228 rfl) rfl
theorem q1029 : (Jvm.Cond.code ({ cls := "DebtorsHouse$Reader", name := "number", desc := "()I" } : Jvm.MethodName) prog_8_method_10_code (2 : Nat) (Option.some Jvm.ClassFile.FieldType.int)) ∈ lw_all := lw_g (lw_at lw_m4 229 rfl) rfl
theorem q1030 : (Jvm.Cond.methodLink "DebtorsHouse$Reader" (189 : Nat) ({ cls := "DebtorsHouse$Test", name := "<init>", desc := "(ZLDebtorsHouse$About;CI)V" } : Jvm.MethodName)) ∈ lw_all := lw_g (lw_at lw_m4 230 rfl) rfl
theorem q1047 : (Jvm.Cond.methodLink "DebtorsHouse$Reader" (157 : Nat) ({ cls := "java/util/ArrayList", name := "add", desc := "(Ljava/lang/Object;)Z" } : Jvm.MethodName)) ∈ lw_all := lw_g (lw_at lw_m5 7 rfl) rfl
theorem q1048 : (Jvm.Cond.stringRef "DebtorsHouse$Reader" (160 : Nat) "and") ∈ lw_tbl := lw_at lw_m5 8 rfl
theorem q1049 : (Jvm.Cond.methodLink "DebtorsHouse$Reader" (162 : Nat) ({ cls := "DebtorsHouse$Reader", name := "must", desc := "(I)V" } : Jvm.MethodName)) ∈ lw_all := lw_g (lw_at lw_m5 9 rfl) rfl
theorem q1050 : (Jvm.Cond.privateMethod ({ cls := "DebtorsHouse$Reader", name := "must", desc := "(I)V" } : Jvm.MethodName)) ∈ lw_tbl := lw_at lw_m5 10 rfl
theorem q1051 : (Jvm.Cond.instanceMethod ({ cls := "DebtorsHouse$Reader", name := "must", desc := "(I)V" } : Jvm.MethodName)) ∈ lw_all := lw_g (lw_at lw_m5 11 rfl) rfl
theorem q1052 : (Jvm.Cond.code ({ cls := "DebtorsHouse$Reader", name := "must", desc := "(I)V" } : Jvm.MethodName) prog_8_method_9_code (2 : Nat) (Option.none : Option Jvm.ClassFile.FieldType)) ∈ lw_all := lw_g (lw_at lw_m5 12 rfl) rfl
theorem q1053 : (Jvm.Cond.stringRef "DebtorsHouse$Reader" (165 : Nat) "yes") ∈ lw_tbl := lw_at lw_m5 13 rfl
theorem q1054 : (Jvm.Cond.stringRef "DebtorsHouse$Reader" (167 : Nat) "no") ∈ lw_tbl := lw_at lw_m5 14 rfl
theorem q1055 : (Jvm.Cond.methodLink "DebtorsHouse$Reader" (174 : Nat) ({ cls := "DebtorsHouse$Topic", name := "isPercent", desc := "()Z" } : Jvm.MethodName)) ∈ lw_all := lw_g (lw_at lw_m5 15 rfl) rfl
theorem q2015 : (Jvm.Cond.castable "DebtorsHouse$Reader" "java/lang/Object") ∈ lw_tbl := lw_at lw_m9 15 rfl
theorem q2035 : (Jvm.Cond.fieldLinkNest "DebtorsHouse$Reader" (125 : Nat) "DebtorsHouse$Topic" "word" "Ljava/lang/String;" "DebtorsHouse") ∈ lw_tbl := lw_at lw_m9 35 rfl
theorem q2036 : (Jvm.Cond.fieldLinkNest "DebtorsHouse$Reader" (184 : Nat) "DebtorsHouse$About" "word" "Ljava/lang/String;" "DebtorsHouse") ∈ lw_tbl := lw_at lw_m9 36 rfl
theorem in_X6 : ∀ w ∈ wsX60, w ∈ lw_all := lw_in wsX60 [874, 876, 878, 880, 882, 884, 886, 888, 890] (by decide +kernel) (by decide +kernel)
/-! DebtorsHouse$Fault -/
set_option maxRecDepth 100000
def RX7 : String := "DebtorsHouse$Fault"
def TX7 : u_T := fun k => match k with
  | 0 => ("java/lang/Throwable", "cause", "Ljava/lang/Throwable;", false)
  | 1 => ("java/lang/Throwable", "stackTrace", "[Ljava/lang/StackTraceElement;", false)
  | 2 => ("java/lang/Throwable", "suppressedExceptions", "Ljava/util/List;", false)
  | 3 => ("java/lang/Throwable", "detailMessage", "Ljava/lang/String;", false)
  | 4 => ("java/lang/Throwable", "backtrace", "Ljava/lang/Object;", false)
  | 5 => ("java/lang/Throwable", "depth", "I", false)
  | 6 => ("DebtorsHouse$Fault", "kind", "I", true)
  | _ => ("DebtorsHouse$Fault", "place", "I", true)
def tyX7 : Nat → FieldType := fun k => match k with
  | 0 => .object "java/lang/Throwable"
  | 1 => .array (.object "java/lang/StackTraceElement")
  | 2 => .object "java/util/List"
  | 3 => .object "java/lang/String"
  | 4 => .object "java/lang/Object"
  | 5 => .int
  | 6 => .int
  | _ => .int
abbrev wsX70 : List Cond := u_ws RX7 TX7 8
theorem nmX7 : ∀ a, a < 8 → ∀ b, b < 8 → a ≠ b → (TX7 a).2.1 ≠ (TX7 b).2.1 := by decide +kernel
theorem tyX7_ok : ∀ k, k < 8 → parseFieldDescriptor (TX7 k).2.2.1 = some (tyX7 k) := by decide +kernel
abbrev cX7_init : ByteArray := prog_5_method_1_code
def yX7_init : MethodName := ⟨RX7, "<init>", "(II)V"⟩
theorem dX7_init_0 : decode cX7_init 0 = .ok (.aload_n 0, 1) := by decide +kernel
theorem dX7_init_1 : decode cX7_init 1 = .ok (.invokespecial 1, 3) := by decide +kernel
theorem dX7_init_4 : decode cX7_init 4 = .ok (.aload_n 0, 1) := by decide +kernel
theorem dX7_init_5 : decode cX7_init 5 = .ok (.iload_n 1, 1) := by decide +kernel
theorem dX7_init_6 : decode cX7_init 6 = .ok (.putfield 7, 3) := by decide +kernel
theorem dX7_init_9 : decode cX7_init 9 = .ok (.aload_n 0, 1) := by decide +kernel
theorem dX7_init_10 : decode cX7_init 10 = .ok (.iload_n 2, 1) := by decide +kernel
theorem dX7_init_11 : decode cX7_init 11 = .ok (.putfield 13, 3) := by decide +kernel
theorem dX7_init_14 : decode cX7_init 14 = .ok (.return_, 1) := by decide +kernel
theorem q108 : (Jvm.Cond.initialized "DebtorsHouse$Fault") ∈ lw_all := lw_g (lw_at lw_m1 28 rfl) rfl
theorem q368 : (Jvm.Cond.selects "DebtorsHouse$Fault" ({ cls := "java/lang/Object", name := "getClass", desc := "()Ljava/lang/Class;" } : Jvm.MethodName) ({ cls := "java/lang/Object", name := "getClass", desc := "()Ljava/lang/Class;" } : Jvm.MethodName)) ∈ lw_all := lw_g (lw_at lw_m2 48 rfl) rfl
theorem q907 : (Jvm.Cond.instantiable "DebtorsHouse$Fault" (8 : Nat)) ∈ lw_all := lw_g (lw_at lw_m4 107 rfl) rfl
theorem q908 : (Jvm.Cond.castable "DebtorsHouse$Fault" "DebtorsHouse$Fault") ∈ lw_tbl := lw_at lw_m4 108 rfl
theorem q913 : (Jvm.Cond.selects "DebtorsHouse$Fault" ({ cls := "java/lang/Throwable", name := "fillInStackTrace", desc := "(I)Ljava/lang/Throwable;" } : Jvm.MethodName) ({ cls := "java/lang/Throwable", name := "fillInStackTrace", desc := "(I)Ljava/lang/Throwable;" } : Jvm.MethodName)) ∈ lw_all := lw_g (lw_at lw_m4 113 rfl) rfl
theorem q914 : (Jvm.Cond.selects "DebtorsHouse$Fault" ({ cls := "java/lang/Throwable", name := "fillInStackTrace", desc := "()Ljava/lang/Throwable;" } : Jvm.MethodName) ({ cls := "java/lang/Throwable", name := "fillInStackTrace", desc := "()Ljava/lang/Throwable;" } : Jvm.MethodName)) ∈ lw_all := lw_g (lw_at lw_m4 114 rfl) rfl
theorem q915 : (Jvm.Cond.lays "DebtorsHouse$Fault" "java/lang/Throwable" "cause" "Ljava/lang/Throwable;") ∈ lw_all := lw_g (lw_at lw_m4 115 rfl) rfl
theorem q917 : (Jvm.Cond.lays "DebtorsHouse$Fault" "java/lang/Throwable" "stackTrace" "[Ljava/lang/StackTraceElement;") ∈ lw_all := lw_g (lw_at lw_m4 117 rfl) rfl
theorem q919 : (Jvm.Cond.lays "DebtorsHouse$Fault" "java/lang/Throwable" "suppressedExceptions" "Ljava/util/List;") ∈ lw_all := lw_g (lw_at lw_m4 119 rfl) rfl
theorem q921 : (Jvm.Cond.lays "DebtorsHouse$Fault" "java/lang/Throwable" "detailMessage" "Ljava/lang/String;") ∈ lw_all := lw_g (lw_at lw_m4 121 rfl) rfl
theorem q923 : (Jvm.Cond.lays "DebtorsHouse$Fault" "java/lang/Throwable" "backtrace" "Ljava/lang/Object;") ∈ lw_all := lw_g (lw_at lw_m4 123 rfl) rfl
theorem q944 : (Jvm.Cond.instanceMethod ({ cls := "DebtorsHouse$Fault", name := "<init>", desc := "(II)V" } : Jvm.MethodName)) ∈ lw_all := lw_g (lw_at lw_m4 144 rfl) rfl
theorem q945 : (Jvm.Cond.code ({ cls := "DebtorsHouse$Fault", name := "<init>", desc := "(II)V" } : Jvm.MethodName) prog_5_method_1_code (3 : Nat) (Option.none : Option Jvm.ClassFile.FieldType)) ∈ lw_all := lw_g (lw_at lw_m4 145 rfl) rfl
theorem q946 : (Jvm.Cond.methodLink "DebtorsHouse$Fault" (1 : Nat) ({ cls := "java/lang/Exception", name := "<init>", desc := "()V" } : Jvm.MethodName)) ∈ lw_all := lw_g (lw_at lw_m4 146 rfl) rfl
theorem q950 : (Jvm.Cond.fieldLink "DebtorsHouse$Fault" (7 : Nat) "DebtorsHouse$Fault" "kind" "I") ∈ lw_all := lw_g (lw_at lw_m4 150 rfl) rfl
theorem q952 : (Jvm.Cond.fieldLink "DebtorsHouse$Fault" (13 : Nat) "DebtorsHouse$Fault" "place" "I") ∈ lw_all := lw_g (lw_at lw_m4 152 rfl) rfl
theorem q958 : (Jvm.Cond.laysFinal "DebtorsHouse$Fault" "DebtorsHouse$Fault" "kind" "I") ∈ lw_all := lw_g (lw_at lw_m4 158 rfl) rfl
theorem q959 : (Jvm.Cond.soleField "DebtorsHouse$Fault" "kind") ∈ lw_all := lw_g (lw_at lw_m4 159 rfl) rfl
theorem q960 : (Jvm.Cond.laysFinal "DebtorsHouse$Fault" "DebtorsHouse$Fault" "place" "I") ∈ lw_all := lw_g (lw_at lw_m4 160 rfl) rfl
theorem q961 : (Jvm.Cond.soleField "DebtorsHouse$Fault" "place") ∈ lw_all := lw_g (lw_at lw_m4 161 rfl) rfl
theorem q966 : (Jvm.Cond.lays "DebtorsHouse$Fault" "java/lang/Throwable" "depth" "I") ∈ lw_all := lw_g (lw_at lw_m4 166 rfl) rfl
theorem q969 : (Jvm.Cond.superclass "DebtorsHouse$Fault" "java/lang/Exception") ∈ lw_all := lw_g (lw_at lw_m4 169 rfl) rfl
theorem q2019 : (Jvm.Cond.castable "DebtorsHouse$Fault" "java/lang/Object") ∈ lw_tbl := lw_at lw_m9 19 rfl
theorem in_X7 : ∀ w ∈ wsX70, w ∈ lw_all := lw_in wsX70 [915, 917, 919, 921, 923, 966, 958, 960] (by decide +kernel) (by decide +kernel)
/-! DebtorsHouse$Line -/
set_option maxRecDepth 100000
def RX8 : String := "DebtorsHouse$Line"
def TX8 : u_T := fun k => match k with
  | 0 => ("DebtorsHouse$Line", "topic", "LDebtorsHouse$Topic;", false)
  | 1 => ("DebtorsHouse$Line", "tests", "Ljava/util/ArrayList;", true)
  | _ => ("DebtorsHouse$Line", "number", "I", false)
def tyX8 : Nat → FieldType := fun k => match k with
  | 0 => .object "DebtorsHouse$Topic"
  | 1 => .object "java/util/ArrayList"
  | _ => .int
abbrev wsX80 : List Cond := u_ws RX8 TX8 3
theorem nmX8 : ∀ a, a < 3 → ∀ b, b < 3 → a ≠ b → (TX8 a).2.1 ≠ (TX8 b).2.1 := by decide +kernel
theorem tyX8_ok : ∀ k, k < 3 → parseFieldDescriptor (TX8 k).2.2.1 = some (tyX8 k) := by decide +kernel
abbrev cX8_init : ByteArray := prog_6_method_1_code
def yX8_init : MethodName := ⟨RX8, "<init>", "()V"⟩
theorem dX8_init_0 : decode cX8_init 0 = .ok (.aload_n 0, 1) := by decide +kernel
theorem dX8_init_1 : decode cX8_init 1 = .ok (.invokespecial 3, 3) := by decide +kernel
theorem dX8_init_4 : decode cX8_init 4 = .ok (.aload_n 0, 1) := by decide +kernel
theorem dX8_init_5 : decode cX8_init 5 = .ok (.new 9, 3) := by decide +kernel
theorem dX8_init_8 : decode cX8_init 8 = .ok (.dup, 1) := by decide +kernel
theorem dX8_init_9 : decode cX8_init 9 = .ok (.iconst 4, 1) := by decide +kernel
theorem dX8_init_10 : decode cX8_init 10 = .ok (.invokespecial 11, 3) := by decide +kernel
theorem dX8_init_13 : decode cX8_init 13 = .ok (.putfield 14, 3) := by decide +kernel
theorem dX8_init_16 : decode cX8_init 16 = .ok (.return_, 1) := by decide +kernel
abbrev cX8_holds : ByteArray := prog_6_method_2_code
def yX8_holds : MethodName := ⟨RX8, "holds", "([I)Z"⟩
theorem dX8_holds_0 : decode cX8_holds 0 = .ok (.iconst 1, 1) := by decide +kernel
theorem dX8_holds_1 : decode cX8_holds 1 = .ok (.istore_n 2, 1) := by decide +kernel
theorem dX8_holds_2 : decode cX8_holds 2 = .ok (.iconst 0, 1) := by decide +kernel
theorem dX8_holds_3 : decode cX8_holds 3 = .ok (.istore_n 3, 1) := by decide +kernel
theorem dX8_holds_4 : decode cX8_holds 4 = .ok (.iload_n 3, 1) := by decide +kernel
theorem dX8_holds_5 : decode cX8_holds 5 = .ok (.aload_n 0, 1) := by decide +kernel
theorem dX8_holds_6 : decode cX8_holds 6 = .ok (.getfield 14, 3) := by decide +kernel
theorem dX8_holds_9 : decode cX8_holds 9 = .ok (.invokevirtual 20, 3) := by decide +kernel
theorem dX8_holds_12 : decode cX8_holds 12 = .ok (.if_icmp .ge 29, 3) := by decide +kernel
theorem dX8_holds_15 : decode cX8_holds 15 = .ok (.iload_n 2, 1) := by decide +kernel
theorem dX8_holds_16 : decode cX8_holds 16 = .ok (.ifCond .eq 25, 3) := by decide +kernel
theorem dX8_holds_19 : decode cX8_holds 19 = .ok (.aload_n 0, 1) := by decide +kernel
theorem dX8_holds_20 : decode cX8_holds 20 = .ok (.getfield 14, 3) := by decide +kernel
theorem dX8_holds_23 : decode cX8_holds 23 = .ok (.iload_n 3, 1) := by decide +kernel
theorem dX8_holds_24 : decode cX8_holds 24 = .ok (.invokevirtual 24, 3) := by decide +kernel
theorem dX8_holds_27 : decode cX8_holds 27 = .ok (.checkcast 28, 3) := by decide +kernel
theorem dX8_holds_30 : decode cX8_holds 30 = .ok (.aload_n 1, 1) := by decide +kernel
theorem dX8_holds_31 : decode cX8_holds 31 = .ok (.invokevirtual 30, 3) := by decide +kernel
theorem dX8_holds_34 : decode cX8_holds 34 = .ok (.istore_n 2, 1) := by decide +kernel
theorem dX8_holds_35 : decode cX8_holds 35 = .ok (.iinc 3 1, 3) := by decide +kernel
theorem dX8_holds_38 : decode cX8_holds 38 = .ok (.goto (-34), 3) := by decide +kernel
theorem dX8_holds_41 : decode cX8_holds 41 = .ok (.iload_n 2, 1) := by decide +kernel
theorem dX8_holds_42 : decode cX8_holds 42 = .ok (.ireturn, 1) := by decide +kernel
theorem q109 : (Jvm.Cond.initialized "DebtorsHouse$Line") ∈ lw_all := lw_g (lw_at lw_m1 29 rfl) rfl
theorem q369 : (Jvm.Cond.selects "DebtorsHouse$Line" ({ cls := "java/lang/Object", name := "getClass", desc := "()Ljava/lang/Class;" } : Jvm.MethodName) ({ cls := "java/lang/Object", name := "getClass", desc := "()Ljava/lang/Class;" } : Jvm.MethodName)) ∈ lw_all := lw_g (lw_at lw_m2 49 rfl) rfl
theorem q971 : (Jvm.Cond.instantiable "DebtorsHouse$Line" (3 : Nat)) ∈ lw_all := lw_g (lw_at lw_m4 171 rfl) rfl
theorem q973 : (Jvm.Cond.instanceMethod ({ cls := "DebtorsHouse$Line", name := "<init>", desc := "()V" } : Jvm.MethodName)) ∈ lw_all := lw_g (lw_at lw_m4 173 rfl) rfl
theorem q974 : (Jvm.Cond.code ({ cls := "DebtorsHouse$Line", name := "<init>", desc := "()V" } : Jvm.MethodName) prog_6_method_1_code (1 : Nat) (Option.none : Option Jvm.ClassFile.FieldType)) ∈ lw_all := lw_g (lw_at lw_m4 174 rfl) rfl
theorem q975 : (Jvm.Cond.methodLink "DebtorsHouse$Line" (3 : Nat) ({ cls := "java/lang/Object", name := "<init>", desc := "()V" } : Jvm.MethodName)) ∈ lw_all := lw_g (lw_at lw_m4 175 rfl) rfl
theorem q976 : (Jvm.Cond.classLink "DebtorsHouse$Line" (9 : Nat) "java/util/ArrayList") ∈ lw_all := lw_g (lw_at lw_m4 176 rfl) rfl
theorem q977 : (Jvm.Cond.methodLink "DebtorsHouse$Line" (11 : Nat) ({ cls := "java/util/ArrayList", name := "<init>", desc := "(I)V" } : Jvm.MethodName)) ∈ lw_all := lw_g (lw_at lw_m4 177 rfl) rfl
theorem q980 : (Jvm.Cond.fieldLink "DebtorsHouse$Line" (14 : Nat) "DebtorsHouse$Line" "tests" "Ljava/util/ArrayList;") ∈ lw_all := lw_g (lw_at lw_m4 180 rfl) rfl
theorem q984 : (Jvm.Cond.lays "DebtorsHouse$Line" "DebtorsHouse$Line" "topic" "LDebtorsHouse$Topic;") ∈ lw_all := lw_g (lw_at lw_m4 184 rfl) rfl
theorem q985 : (Jvm.Cond.soleField "DebtorsHouse$Line" "topic") ∈ lw_all := lw_g (lw_at lw_m4 185 rfl) rfl
theorem q986 : (Jvm.Cond.laysFinal "DebtorsHouse$Line" "DebtorsHouse$Line" "tests" "Ljava/util/ArrayList;") ∈ lw_all := lw_g (lw_at lw_m4 186 rfl) rfl
theorem q987 : (Jvm.Cond.soleField "DebtorsHouse$Line" "tests") ∈ lw_all := lw_g (lw_at lw_m4 187 rfl) rfl
theorem q988 : (Jvm.Cond.lays "DebtorsHouse$Line" "DebtorsHouse$Line" "number" "I") ∈ lw_all := lw_g (lw_at lw_m4 188 rfl) rfl
theorem q989 : (Jvm.Cond.soleField "DebtorsHouse$Line" "number") ∈ lw_all := lw_g (lw_at lw_m4 189 rfl) rfl
theorem q990 : (Jvm.Cond.superclass "DebtorsHouse$Line" "java/lang/Object") ∈ lw_all := lw_g (lw_at lw_m4 190 rfl) rfl
theorem q1138 : (Jvm.Cond.instanceMethod ({ cls := "DebtorsHouse$Line", name := "holds", desc := "([I)Z" } : Jvm.MethodName)) ∈ lw_all := lw_g (lw_at lw_m5 98 rfl) rfl
theorem q1139 : (Jvm.Cond.selects "DebtorsHouse$Line" ({ cls := "DebtorsHouse$Line", name := "holds", desc := "([I)Z" } : Jvm.MethodName) ({ cls := "DebtorsHouse$Line", name := "holds", desc := "([I)Z" } : Jvm.MethodName)) ∈ lw_all := lw_g (lw_at lw_m5 99 rfl) rfl
theorem q1140 : (Jvm.Cond.code ({ cls := "DebtorsHouse$Line", name := "holds", desc := "([I)Z" } : Jvm.MethodName) prog_6_method_2_code (4 : Nat) (Option.some Jvm.ClassFile.FieldType.boolean)) ∈ lw_all := lw_g (lw_at lw_m5 100 rfl) rfl
theorem q1141 : (Jvm.Cond.methodLink "DebtorsHouse$Line" (20 : Nat) ({ cls := "java/util/ArrayList", name := "size", desc := "()I" } : Jvm.MethodName)) ∈ lw_all := lw_g (lw_at lw_m5 101 rfl) rfl
theorem q1142 : (Jvm.Cond.methodLink "DebtorsHouse$Line" (24 : Nat) ({ cls := "java/util/ArrayList", name := "get", desc := "(I)Ljava/lang/Object;" } : Jvm.MethodName)) ∈ lw_all := lw_g (lw_at lw_m5 102 rfl) rfl
theorem q1143 : (Jvm.Cond.classLink "DebtorsHouse$Line" (28 : Nat) "DebtorsHouse$Test") ∈ lw_all := lw_g (lw_at lw_m5 103 rfl) rfl
theorem q1144 : (Jvm.Cond.methodLink "DebtorsHouse$Line" (30 : Nat) ({ cls := "DebtorsHouse$Test", name := "holds", desc := "([I)Z" } : Jvm.MethodName)) ∈ lw_all := lw_g (lw_at lw_m5 104 rfl) rfl
theorem q2020 : (Jvm.Cond.castable "DebtorsHouse$Line" "java/lang/Object") ∈ lw_tbl := lw_at lw_m9 20 rfl
theorem in_X8 : ∀ w ∈ wsX80, w ∈ lw_all := lw_in wsX80 [984, 986, 988] (by decide +kernel) (by decide +kernel)
/-! DebtorsHouse$Test -/
set_option maxRecDepth 100000
def RX9 : String := "DebtorsHouse$Test"
def TX9 : u_T := fun k => match k with
  | 0 => ("DebtorsHouse$Test", "not", "Z", true)
  | 1 => ("DebtorsHouse$Test", "about", "LDebtorsHouse$About;", true)
  | 2 => ("DebtorsHouse$Test", "sign", "C", true)
  | _ => ("DebtorsHouse$Test", "number", "I", true)
def tyX9 : Nat → FieldType := fun k => match k with
  | 0 => .boolean
  | 1 => .object "DebtorsHouse$About"
  | 2 => .char
  | _ => .int
abbrev wsX90 : List Cond := u_ws RX9 TX9 4
theorem nmX9 : ∀ a, a < 4 → ∀ b, b < 4 → a ≠ b → (TX9 a).2.1 ≠ (TX9 b).2.1 := by decide +kernel
theorem tyX9_ok : ∀ k, k < 4 → parseFieldDescriptor (TX9 k).2.2.1 = some (tyX9 k) := by decide +kernel
abbrev cX9_init : ByteArray := prog_11_method_1_code
def yX9_init : MethodName := ⟨RX9, "<init>", "(ZLDebtorsHouse$About;CI)V"⟩
theorem dX9_init_0 : decode cX9_init 0 = .ok (.aload_n 0, 1) := by decide +kernel
theorem dX9_init_1 : decode cX9_init 1 = .ok (.invokespecial 1, 3) := by decide +kernel
theorem dX9_init_4 : decode cX9_init 4 = .ok (.aload_n 0, 1) := by decide +kernel
theorem dX9_init_5 : decode cX9_init 5 = .ok (.iload_n 1, 1) := by decide +kernel
theorem dX9_init_6 : decode cX9_init 6 = .ok (.putfield 7, 3) := by decide +kernel
theorem dX9_init_9 : decode cX9_init 9 = .ok (.aload_n 0, 1) := by decide +kernel
theorem dX9_init_10 : decode cX9_init 10 = .ok (.aload_n 2, 1) := by decide +kernel
theorem dX9_init_11 : decode cX9_init 11 = .ok (.putfield 13, 3) := by decide +kernel
theorem dX9_init_14 : decode cX9_init 14 = .ok (.aload_n 0, 1) := by decide +kernel
theorem dX9_init_15 : decode cX9_init 15 = .ok (.iload_n 3, 1) := by decide +kernel
theorem dX9_init_16 : decode cX9_init 16 = .ok (.putfield 17, 3) := by decide +kernel
theorem dX9_init_19 : decode cX9_init 19 = .ok (.aload_n 0, 1) := by decide +kernel
theorem dX9_init_20 : decode cX9_init 20 = .ok (.iload 4, 2) := by decide +kernel
theorem dX9_init_22 : decode cX9_init 22 = .ok (.putfield 21, 3) := by decide +kernel
theorem dX9_init_25 : decode cX9_init 25 = .ok (.return_, 1) := by decide +kernel
abbrev cX9_holds : ByteArray := prog_11_method_2_code
def yX9_holds : MethodName := ⟨RX9, "holds", "([I)Z"⟩
theorem dX9_holds_0 : decode cX9_holds 0 = .ok (.aload_n 1, 1) := by decide +kernel
theorem dX9_holds_1 : decode cX9_holds 1 = .ok (.aload_n 0, 1) := by decide +kernel
theorem dX9_holds_2 : decode cX9_holds 2 = .ok (.getfield 13, 3) := by decide +kernel
theorem dX9_holds_5 : decode cX9_holds 5 = .ok (.invokevirtual 25, 3) := by decide +kernel
theorem dX9_holds_8 : decode cX9_holds 8 = .ok (.iaload, 1) := by decide +kernel
theorem dX9_holds_9 : decode cX9_holds 9 = .ok (.istore_n 2, 1) := by decide +kernel
theorem dX9_holds_10 : decode cX9_holds 10 = .ok (.aload_n 0, 1) := by decide +kernel
theorem dX9_holds_11 : decode cX9_holds 11 = .ok (.getfield 17, 3) := by decide +kernel
theorem dX9_holds_14 : decode cX9_holds 14 = .ok (.bipush 60, 2) := by decide +kernel
theorem dX9_holds_16 : decode cX9_holds 16 = .ok (.if_icmp .ne 19, 3) := by decide +kernel
theorem dX9_holds_19 : decode cX9_holds 19 = .ok (.iload_n 2, 1) := by decide +kernel
theorem dX9_holds_20 : decode cX9_holds 20 = .ok (.aload_n 0, 1) := by decide +kernel
theorem dX9_holds_21 : decode cX9_holds 21 = .ok (.getfield 21, 3) := by decide +kernel
theorem dX9_holds_24 : decode cX9_holds 24 = .ok (.if_icmp .ge 7, 3) := by decide +kernel
theorem dX9_holds_27 : decode cX9_holds 27 = .ok (.iconst 1, 1) := by decide +kernel
theorem dX9_holds_28 : decode cX9_holds 28 = .ok (.goto 45, 3) := by decide +kernel
theorem dX9_holds_31 : decode cX9_holds 31 = .ok (.iconst 0, 1) := by decide +kernel
theorem dX9_holds_32 : decode cX9_holds 32 = .ok (.goto 41, 3) := by decide +kernel
theorem dX9_holds_35 : decode cX9_holds 35 = .ok (.aload_n 0, 1) := by decide +kernel
theorem dX9_holds_36 : decode cX9_holds 36 = .ok (.getfield 17, 3) := by decide +kernel
theorem dX9_holds_39 : decode cX9_holds 39 = .ok (.bipush 62, 2) := by decide +kernel
theorem dX9_holds_41 : decode cX9_holds 41 = .ok (.if_icmp .ne 19, 3) := by decide +kernel
theorem dX9_holds_44 : decode cX9_holds 44 = .ok (.iload_n 2, 1) := by decide +kernel
theorem dX9_holds_45 : decode cX9_holds 45 = .ok (.aload_n 0, 1) := by decide +kernel
theorem dX9_holds_46 : decode cX9_holds 46 = .ok (.getfield 21, 3) := by decide +kernel
theorem dX9_holds_49 : decode cX9_holds 49 = .ok (.if_icmp .le 7, 3) := by decide +kernel
theorem dX9_holds_52 : decode cX9_holds 52 = .ok (.iconst 1, 1) := by decide +kernel
theorem dX9_holds_53 : decode cX9_holds 53 = .ok (.goto 20, 3) := by decide +kernel
theorem dX9_holds_56 : decode cX9_holds 56 = .ok (.iconst 0, 1) := by decide +kernel
theorem dX9_holds_57 : decode cX9_holds 57 = .ok (.goto 16, 3) := by decide +kernel
theorem dX9_holds_60 : decode cX9_holds 60 = .ok (.iload_n 2, 1) := by decide +kernel
theorem dX9_holds_61 : decode cX9_holds 61 = .ok (.aload_n 0, 1) := by decide +kernel
theorem dX9_holds_62 : decode cX9_holds 62 = .ok (.getfield 21, 3) := by decide +kernel
theorem dX9_holds_65 : decode cX9_holds 65 = .ok (.if_icmp .ne 7, 3) := by decide +kernel
theorem dX9_holds_68 : decode cX9_holds 68 = .ok (.iconst 1, 1) := by decide +kernel
theorem dX9_holds_69 : decode cX9_holds 69 = .ok (.goto 4, 3) := by decide +kernel
theorem dX9_holds_72 : decode cX9_holds 72 = .ok (.iconst 0, 1) := by decide +kernel
theorem dX9_holds_73 : decode cX9_holds 73 = .ok (.aload_n 0, 1) := by decide +kernel
theorem dX9_holds_74 : decode cX9_holds 74 = .ok (.getfield 7, 3) := by decide +kernel
theorem dX9_holds_77 : decode cX9_holds 77 = .ok (.if_icmp .eq 7, 3) := by decide +kernel
theorem dX9_holds_80 : decode cX9_holds 80 = .ok (.iconst 1, 1) := by decide +kernel
theorem dX9_holds_81 : decode cX9_holds 81 = .ok (.goto 4, 3) := by decide +kernel
theorem dX9_holds_84 : decode cX9_holds 84 = .ok (.iconst 0, 1) := by decide +kernel
theorem dX9_holds_85 : decode cX9_holds 85 = .ok (.ireturn, 1) := by decide +kernel
theorem q110 : (Jvm.Cond.initialized "DebtorsHouse$Test") ∈ lw_all := lw_g (lw_at lw_m1 30 rfl) rfl
theorem q374 : (Jvm.Cond.selects "DebtorsHouse$Test" ({ cls := "java/lang/Object", name := "getClass", desc := "()Ljava/lang/Class;" } : Jvm.MethodName) ({ cls := "java/lang/Object", name := "getClass", desc := "()Ljava/lang/Class;" } : Jvm.MethodName)) ∈ lw_all := lw_g (lw_at lw_m2 54 rfl) rfl
theorem q1025 : (Jvm.Cond.instantiable "DebtorsHouse$Test" (4 : Nat)) ∈ lw_all := lw_g (lw_at lw_m4 225 rfl) rfl
theorem q1031 : (Jvm.Cond.instanceMethod ({ cls := "DebtorsHouse$Test", name := "<init>", desc := "(ZLDebtorsHouse$About;CI)V" } : Jvm.MethodName)) ∈ lw_all := lw_g (lw_at lw_m4 231 rfl) rfl
theorem q1032 : (Jvm.Cond.code ({ cls := "DebtorsHouse$Test", name := "<init>", desc := "(ZLDebtorsHouse$About;CI)V" } : Jvm.MethodName) prog_11_method_1_code (5 : Nat) (Option.none : Option Jvm.ClassFile.FieldType)) ∈ lw_all := lw_g (lw_at lw_m4 232 rfl) rfl
theorem q1033 : (Jvm.Cond.methodLink "DebtorsHouse$Test" (1 : Nat) ({ cls := "java/lang/Object", name := "<init>", desc := "()V" } : Jvm.MethodName)) ∈ lw_all := lw_g (lw_at lw_m4 233 rfl) rfl
theorem q1034 : (Jvm.Cond.fieldLink "DebtorsHouse$Test" (7 : Nat) "DebtorsHouse$Test" "not" "Z") ∈ lw_all := lw_g (lw_at lw_m4 234 rfl) rfl
theorem q1035 : (Jvm.Cond.fieldLink "DebtorsHouse$Test" (13 : Nat) "DebtorsHouse$Test" "about" "LDebtorsHouse$About;") ∈ lw_all := lw_g (lw_at lw_m4 235 rfl) rfl
theorem q1036 : (Jvm.Cond.fieldLink "DebtorsHouse$Test" (17 : Nat) "DebtorsHouse$Test" "sign" "C") ∈ lw_all := lw_g (lw_at lw_m4 236 rfl) rfl
theorem q1037 : (Jvm.Cond.fieldLink "DebtorsHouse$Test" (21 : Nat) "DebtorsHouse$Test" "number" "I") ∈ lw_all := lw_g (lw_at lw_m4 237 rfl) rfl
theorem q1038 : (Jvm.Cond.laysFinal "DebtorsHouse$Test" "DebtorsHouse$Test" "not" "Z") ∈ lw_all := lw_g (lw_at lw_m4 238 rfl) rfl
theorem q1039 : (Jvm.Cond.soleField "DebtorsHouse$Test" "not") ∈ lw_all := lw_g (lw_at lw_m4 239 rfl) rfl
theorem q1040 : (Jvm.Cond.laysFinal "DebtorsHouse$Test" "DebtorsHouse$Test" "about" "LDebtorsHouse$About;") ∈ lw_all := lw_g (lw_at lw_m5 0 rfl) rfl
theorem q1041 : (Jvm.Cond.soleField "DebtorsHouse$Test" "about") ∈ lw_all := lw_g (lw_at lw_m5 1 rfl) rfl
theorem q1042 : (Jvm.Cond.laysFinal "DebtorsHouse$Test" "DebtorsHouse$Test" "sign" "C") ∈ lw_all := lw_g (lw_at lw_m5 2 rfl) rfl
theorem q1043 : (Jvm.Cond.soleField "DebtorsHouse$Test" "sign") ∈ lw_all := lw_g (lw_at lw_m5 3 rfl) rfl
theorem q1044 : (Jvm.Cond.laysFinal "DebtorsHouse$Test" "DebtorsHouse$Test" "number" "I") ∈ lw_all := lw_g (lw_at lw_m5 4 rfl) rfl
theorem q1045 : (Jvm.Cond.soleField "DebtorsHouse$Test" "number") ∈ lw_all := lw_g (lw_at lw_m5 5 rfl) rfl
theorem q1046 : (Jvm.Cond.superclass "DebtorsHouse$Test" "java/lang/Object") ∈ lw_all := lw_g (lw_at lw_m5 6 rfl) rfl
theorem q1145 : (Jvm.Cond.instanceMethod ({ cls := "DebtorsHouse$Test", name := "holds", desc := "([I)Z" } : Jvm.MethodName)) ∈ lw_all := lw_g (lw_at lw_m5 105 rfl) rfl
theorem q1146 : (Jvm.Cond.selects "DebtorsHouse$Test" ({ cls := "DebtorsHouse$Test", name := "holds", desc := "([I)Z" } : Jvm.MethodName) ({ cls := "DebtorsHouse$Test", name := "holds", desc := "([I)Z" } : Jvm.MethodName)) ∈ lw_all := lw_g (lw_at lw_m5 106 rfl) rfl
theorem q1147 : (Jvm.Cond.code ({ cls := "DebtorsHouse$Test", name := "holds", desc := "([I)Z" } : Jvm.MethodName) prog_11_method_2_code (3 : Nat) (Option.some Jvm.ClassFile.FieldType.boolean)) ∈ lw_all := lw_g (lw_at lw_m5 107 rfl) rfl
theorem q1148 : (Jvm.Cond.methodLink "DebtorsHouse$Test" (25 : Nat) ({ cls := "DebtorsHouse$About", name := "ordinal", desc := "()I" } : Jvm.MethodName)) ∈ lw_all := lw_g (lw_at lw_m5 108 rfl) rfl
theorem q2022 : (Jvm.Cond.castable "DebtorsHouse$Test" "java/lang/Object") ∈ lw_tbl := lw_at lw_m9 22 rfl
theorem in_X9 : ∀ w ∈ wsX90, w ∈ lw_all := lw_in wsX90 [1038, 1040, 1042, 1044] (by decide +kernel) (by decide +kernel)
/-! DebtorsHouse$Topic -/
set_option maxRecDepth 100000
def RX10 : String := "DebtorsHouse$Topic"
abbrev cX10_isPercent : ByteArray := prog_13_method_4_code
def yX10_isPercent : MethodName := ⟨RX10, "isPercent", "()Z"⟩
theorem dX10_isPercent_0 : decode cX10_isPercent 0 = .ok (.aload_n 0, 1) := by decide +kernel
theorem dX10_isPercent_1 : decode cX10_isPercent 1 = .ok (.getstatic 16, 3) := by decide +kernel
theorem dX10_isPercent_4 : decode cX10_isPercent 4 = .ok (.if_acmp .eq 17, 3) := by decide +kernel
theorem dX10_isPercent_7 : decode cX10_isPercent 7 = .ok (.aload_n 0, 1) := by decide +kernel
theorem dX10_isPercent_8 : decode cX10_isPercent 8 = .ok (.getstatic 19, 3) := by decide +kernel
theorem dX10_isPercent_11 : decode cX10_isPercent 11 = .ok (.if_acmp .eq 10, 3) := by decide +kernel
theorem dX10_isPercent_14 : decode cX10_isPercent 14 = .ok (.aload_n 0, 1) := by decide +kernel
theorem dX10_isPercent_15 : decode cX10_isPercent 15 = .ok (.getstatic 25, 3) := by decide +kernel
theorem dX10_isPercent_18 : decode cX10_isPercent 18 = .ok (.if_acmp .ne 7, 3) := by decide +kernel
theorem dX10_isPercent_21 : decode cX10_isPercent 21 = .ok (.iconst 1, 1) := by decide +kernel
theorem dX10_isPercent_22 : decode cX10_isPercent 22 = .ok (.goto 4, 3) := by decide +kernel
theorem dX10_isPercent_25 : decode cX10_isPercent 25 = .ok (.iconst 0, 1) := by decide +kernel
theorem dX10_isPercent_26 : decode cX10_isPercent 26 = .ok (.ireturn, 1) := by decide +kernel
theorem q111 : (Jvm.Cond.initialized "DebtorsHouse$Topic") ∈ lw_all := lw_g (lw_at lw_m1 31 rfl) rfl
theorem q376 : (Jvm.Cond.selects "DebtorsHouse$Topic" ({ cls := "java/lang/Object", name := "getClass", desc := "()Ljava/lang/Class;" } : Jvm.MethodName) ({ cls := "java/lang/Object", name := "getClass", desc := "()Ljava/lang/Class;" } : Jvm.MethodName)) ∈ lw_all := lw_g (lw_at lw_m2 56 rfl) rfl
theorem q1056 : (Jvm.Cond.instanceMethod ({ cls := "DebtorsHouse$Topic", name := "isPercent", desc := "()Z" } : Jvm.MethodName)) ∈ lw_all := lw_g (lw_at lw_m5 16 rfl) rfl
theorem q1057 : (Jvm.Cond.selects "DebtorsHouse$Topic" ({ cls := "DebtorsHouse$Topic", name := "isPercent", desc := "()Z" } : Jvm.MethodName) ({ cls := "DebtorsHouse$Topic", name := "isPercent", desc := "()Z" } : Jvm.MethodName)) ∈ lw_all := lw_g (lw_at lw_m5 17 rfl) rfl
theorem q1058 : (Jvm.Cond.code ({ cls := "DebtorsHouse$Topic", name := "isPercent", desc := "()Z" } : Jvm.MethodName) prog_13_method_4_code (1 : Nat) (Option.some Jvm.ClassFile.FieldType.boolean)) ∈ lw_all := lw_g (lw_at lw_m5 18 rfl) rfl
theorem q1059 : (Jvm.Cond.fieldLink "DebtorsHouse$Topic" (16 : Nat) "DebtorsHouse$Topic" "NUMBER" "LDebtorsHouse$Topic;") ∈ lw_all := lw_g (lw_at lw_m5 19 rfl) rfl
theorem q1060 : (Jvm.Cond.laysStatic "DebtorsHouse$Topic" "NUMBER" "LDebtorsHouse$Topic;") ∈ lw_tbl := lw_at lw_m5 20 rfl
theorem q1061 : (Jvm.Cond.fieldLink "DebtorsHouse$Topic" (19 : Nat) "DebtorsHouse$Topic" "WORTH" "LDebtorsHouse$Topic;") ∈ lw_all := lw_g (lw_at lw_m5 21 rfl) rfl
theorem q1062 : (Jvm.Cond.laysStatic "DebtorsHouse$Topic" "WORTH" "LDebtorsHouse$Topic;") ∈ lw_tbl := lw_at lw_m5 22 rfl
theorem q1063 : (Jvm.Cond.fieldLink "DebtorsHouse$Topic" (25 : Nat) "DebtorsHouse$Topic" "KEEP" "LDebtorsHouse$Topic;") ∈ lw_all := lw_g (lw_at lw_m5 23 rfl) rfl
theorem q1064 : (Jvm.Cond.laysStatic "DebtorsHouse$Topic" "KEEP" "LDebtorsHouse$Topic;") ∈ lw_tbl := lw_at lw_m5 24 rfl
theorem q1154 : (Jvm.Cond.laysStatic "DebtorsHouse$Topic" "HELD" "LDebtorsHouse$Topic;") ∈ lw_tbl := lw_at lw_m5 114 rfl
theorem q1164 : (Jvm.Cond.laysStatic "DebtorsHouse$Topic" "ENTRY" "LDebtorsHouse$Topic;") ∈ lw_tbl := lw_at lw_m5 124 rfl
theorem q1190 : (Jvm.Cond.laysStatic "DebtorsHouse$Topic" "WALK" "LDebtorsHouse$Topic;") ∈ lw_tbl := lw_at lw_m5 150 rfl
theorem q1205 : (Jvm.Cond.laysStatic "DebtorsHouse$Topic" "DAILY" "LDebtorsHouse$Topic;") ∈ lw_tbl := lw_at lw_m5 165 rfl
theorem q1235 : (Jvm.Cond.laysStatic "DebtorsHouse$Topic" "BUYER" "LDebtorsHouse$Topic;") ∈ lw_tbl := lw_at lw_m5 195 rfl
theorem q1294 : (Jvm.Cond.laysStatic "DebtorsHouse$Topic" "OPENS" "LDebtorsHouse$Topic;") ∈ lw_tbl := lw_at lw_m6 14 rfl
theorem q2021 : (Jvm.Cond.castable "DebtorsHouse$Topic" "java/lang/Object") ∈ lw_tbl := lw_at lw_m9 21 rfl
theorem q2039 : (Jvm.Cond.stringRef "DebtorsHouse$Topic" (74 : Nat) "number") ∈ lw_tbl := lw_at lw_m9 39 rfl
theorem q2040 : (Jvm.Cond.stringRef "DebtorsHouse$Topic" (77 : Nat) "worth") ∈ lw_tbl := lw_at lw_m9 40 rfl
theorem q2041 : (Jvm.Cond.stringRef "DebtorsHouse$Topic" (83 : Nat) "keep") ∈ lw_tbl := lw_at lw_m9 41 rfl
theorem q2050 : (Jvm.Cond.stringRef "DebtorsHouse$Topic" (59 : Nat) "held") ∈ lw_tbl := lw_at lw_m9 50 rfl
theorem q2051 : (Jvm.Cond.stringRef "DebtorsHouse$Topic" (65 : Nat) "entry") ∈ lw_tbl := lw_at lw_m9 51 rfl
theorem q2052 : (Jvm.Cond.stringRef "DebtorsHouse$Topic" (71 : Nat) "walk") ∈ lw_tbl := lw_at lw_m9 52 rfl
theorem q2053 : (Jvm.Cond.stringRef "DebtorsHouse$Topic" (68 : Nat) "daily") ∈ lw_tbl := lw_at lw_m9 53 rfl
theorem q2054 : (Jvm.Cond.stringRef "DebtorsHouse$Topic" (80 : Nat) "buyer") ∈ lw_tbl := lw_at lw_m9 54 rfl
theorem q2055 : (Jvm.Cond.stringRef "DebtorsHouse$Topic" (86 : Nat) "opens") ∈ lw_tbl := lw_at lw_m9 55 rfl
