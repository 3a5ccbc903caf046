/-! java/lang/StringUTF16 -/
set_option maxRecDepth 100000
def RJ12 : String := "java/lang/StringUTF16"
abbrev cJ12_newBytesFor : ByteArray := prog_28_method_2_code
def yJ12_newBytesFor : MethodName := ⟨RJ12, "newBytesFor", "(I)[B"⟩
theorem dJ12_newBytesFor_0 : decode cJ12_newBytesFor 0 = .ok (.iload_n 0, 1) := by decide +kernel
theorem dJ12_newBytesFor_1 : decode cJ12_newBytesFor 1 = .ok (.invokestatic 11, 3) := by decide +kernel
theorem dJ12_newBytesFor_4 : decode cJ12_newBytesFor 4 = .ok (.newarray .byte, 2) := by decide +kernel
theorem dJ12_newBytesFor_6 : decode cJ12_newBytesFor 6 = .ok (.areturn, 1) := by decide +kernel
abbrev cJ12_newBytesLength : ByteArray := prog_28_method_3_code
def yJ12_newBytesLength : MethodName := ⟨RJ12, "newBytesLength", "(I)I"⟩
theorem dJ12_newBytesLength_0 : decode cJ12_newBytesLength 0 = .ok (.iload_n 0, 1) := by decide +kernel
theorem dJ12_newBytesLength_1 : decode cJ12_newBytesLength 1 = .ok (.ifCond .ge 11, 3) := by decide +kernel
theorem dJ12_newBytesLength_4 : decode cJ12_newBytesLength 4 = .ok (.new 17, 3) := by decide +kernel
theorem dJ12_newBytesLength_7 : decode cJ12_newBytesLength 7 = .ok (.dup, 1) := by decide +kernel
theorem dJ12_newBytesLength_8 : decode cJ12_newBytesLength 8 = .ok (.invokespecial 19, 3) := by decide +kernel
theorem dJ12_newBytesLength_11 : decode cJ12_newBytesLength 11 = .ok (.athrow, 1) := by decide +kernel
theorem dJ12_newBytesLength_12 : decode cJ12_newBytesLength 12 = .ok (.iload_n 0, 1) := by decide +kernel
theorem dJ12_newBytesLength_13 : decode cJ12_newBytesLength 13 = .ok (.ldc 20, 2) := by decide +kernel
theorem dJ12_newBytesLength_15 : decode cJ12_newBytesLength 15 = .ok (.if_icmp .lt 40, 3) := by decide +kernel
theorem dJ12_newBytesLength_18 : decode cJ12_newBytesLength 18 = .ok (.new 21, 3) := by decide +kernel
theorem dJ12_newBytesLength_21 : decode cJ12_newBytesLength 21 = .ok (.dup, 1) := by decide +kernel
theorem dJ12_newBytesLength_22 : decode cJ12_newBytesLength 22 = .ok (.new 23, 3) := by decide +kernel
theorem dJ12_newBytesLength_25 : decode cJ12_newBytesLength 25 = .ok (.dup, 1) := by decide +kernel
theorem dJ12_newBytesLength_26 : decode cJ12_newBytesLength 26 = .ok (.invokespecial 25, 3) := by decide +kernel
theorem dJ12_newBytesLength_29 : decode cJ12_newBytesLength 29 = .ok (.ldc 26, 2) := by decide +kernel
theorem dJ12_newBytesLength_31 : decode cJ12_newBytesLength 31 = .ok (.invokevirtual 28, 3) := by decide +kernel
theorem dJ12_newBytesLength_34 : decode cJ12_newBytesLength 34 = .ok (.iload_n 0, 1) := by decide +kernel
theorem dJ12_newBytesLength_35 : decode cJ12_newBytesLength 35 = .ok (.invokevirtual 32, 3) := by decide +kernel
theorem dJ12_newBytesLength_38 : decode cJ12_newBytesLength 38 = .ok (.ldc 35, 2) := by decide +kernel
theorem dJ12_newBytesLength_40 : decode cJ12_newBytesLength 40 = .ok (.invokevirtual 28, 3) := by decide +kernel
theorem dJ12_newBytesLength_43 : decode cJ12_newBytesLength 43 = .ok (.ldc 20, 2) := by decide +kernel
theorem dJ12_newBytesLength_45 : decode cJ12_newBytesLength 45 = .ok (.invokevirtual 32, 3) := by decide +kernel
theorem dJ12_newBytesLength_48 : decode cJ12_newBytesLength 48 = .ok (.invokevirtual 37, 3) := by decide +kernel
theorem dJ12_newBytesLength_51 : decode cJ12_newBytesLength 51 = .ok (.invokespecial 41, 3) := by decide +kernel
theorem dJ12_newBytesLength_54 : decode cJ12_newBytesLength 54 = .ok (.athrow, 1) := by decide +kernel
theorem dJ12_newBytesLength_55 : decode cJ12_newBytesLength 55 = .ok (.iload_n 0, 1) := by decide +kernel
theorem dJ12_newBytesLength_56 : decode cJ12_newBytesLength 56 = .ok (.iconst 1, 1) := by decide +kernel
theorem dJ12_newBytesLength_57 : decode cJ12_newBytesLength 57 = .ok (.ishl, 1) := by decide +kernel
theorem dJ12_newBytesLength_58 : decode cJ12_newBytesLength 58 = .ok (.ireturn, 1) := by decide +kernel
abbrev cJ12_inflate : ByteArray := prog_28_method_86_code
def yJ12_inflate : MethodName := ⟨RJ12, "inflate", "([BI[BII)V"⟩
theorem dJ12_inflate_0 : decode cJ12_inflate 0 = .ok (.iload_n 3, 1) := by decide +kernel
theorem dJ12_inflate_1 : decode cJ12_inflate 1 = .ok (.iload 4, 2) := by decide +kernel
theorem dJ12_inflate_3 : decode cJ12_inflate 3 = .ok (.aload_n 2, 1) := by decide +kernel
theorem dJ12_inflate_4 : decode cJ12_inflate 4 = .ok (.invokestatic 173, 3) := by decide +kernel
theorem dJ12_inflate_7 : decode cJ12_inflate 7 = .ok (.iconst 0, 1) := by decide +kernel
theorem dJ12_inflate_8 : decode cJ12_inflate 8 = .ok (.istore 5, 2) := by decide +kernel
theorem dJ12_inflate_10 : decode cJ12_inflate 10 = .ok (.iload 5, 2) := by decide +kernel
theorem dJ12_inflate_12 : decode cJ12_inflate 12 = .ok (.iload 4, 2) := by decide +kernel
theorem dJ12_inflate_14 : decode cJ12_inflate 14 = .ok (.if_icmp .ge 27, 3) := by decide +kernel
theorem dJ12_inflate_17 : decode cJ12_inflate 17 = .ok (.aload_n 2, 1) := by decide +kernel
theorem dJ12_inflate_18 : decode cJ12_inflate 18 = .ok (.iload_n 3, 1) := by decide +kernel
theorem dJ12_inflate_19 : decode cJ12_inflate 19 = .ok (.iinc 3 1, 3) := by decide +kernel
theorem dJ12_inflate_22 : decode cJ12_inflate 22 = .ok (.aload_n 0, 1) := by decide +kernel
theorem dJ12_inflate_23 : decode cJ12_inflate 23 = .ok (.iload_n 1, 1) := by decide +kernel
theorem dJ12_inflate_24 : decode cJ12_inflate 24 = .ok (.iinc 1 1, 3) := by decide +kernel
theorem dJ12_inflate_27 : decode cJ12_inflate 27 = .ok (.baload, 1) := by decide +kernel
theorem dJ12_inflate_28 : decode cJ12_inflate 28 = .ok (.sipush 255, 3) := by decide +kernel
theorem dJ12_inflate_31 : decode cJ12_inflate 31 = .ok (.iand, 1) := by decide +kernel
theorem dJ12_inflate_32 : decode cJ12_inflate 32 = .ok (.invokestatic 111, 3) := by decide +kernel
theorem dJ12_inflate_35 : decode cJ12_inflate 35 = .ok (.iinc 5 1, 3) := by decide +kernel
theorem dJ12_inflate_38 : decode cJ12_inflate 38 = .ok (.goto (-28), 3) := by decide +kernel
theorem dJ12_inflate_41 : decode cJ12_inflate 41 = .ok (.return_, 1) := by decide +kernel
abbrev cJ12_checkBoundsOffCount : ByteArray := prog_28_method_94_code
def yJ12_checkBoundsOffCount : MethodName := ⟨RJ12, "checkBoundsOffCount", "(II[B)V"⟩
theorem dJ12_checkBoundsOffCount_0 : decode cJ12_checkBoundsOffCount 0 = .ok (.iload_n 0, 1) := by decide +kernel
theorem dJ12_checkBoundsOffCount_1 : decode cJ12_checkBoundsOffCount 1 = .ok (.iload_n 1, 1) := by decide +kernel
theorem dJ12_checkBoundsOffCount_2 : decode cJ12_checkBoundsOffCount 2 = .ok (.aload_n 2, 1) := by decide +kernel
theorem dJ12_checkBoundsOffCount_3 : decode cJ12_checkBoundsOffCount 3 = .ok (.invokestatic 48, 3) := by decide +kernel
theorem dJ12_checkBoundsOffCount_6 : decode cJ12_checkBoundsOffCount 6 = .ok (.invokestatic 419, 3) := by decide +kernel
theorem dJ12_checkBoundsOffCount_9 : decode cJ12_checkBoundsOffCount 9 = .ok (.pop, 1) := by decide +kernel
theorem dJ12_checkBoundsOffCount_10 : decode cJ12_checkBoundsOffCount 10 = .ok (.return_, 1) := by decide +kernel
abbrev cJ12_length : ByteArray := prog_28_method_6_code
def yJ12_length : MethodName := ⟨RJ12, "length", "([B)I"⟩
theorem dJ12_length_0 : decode cJ12_length 0 = .ok (.aload_n 0, 1) := by decide +kernel
theorem dJ12_length_1 : decode cJ12_length 1 = .ok (.arraylength, 1) := by decide +kernel
theorem dJ12_length_2 : decode cJ12_length 2 = .ok (.iconst 1, 1) := by decide +kernel
theorem dJ12_length_3 : decode cJ12_length 3 = .ok (.ishr, 1) := by decide +kernel
theorem dJ12_length_4 : decode cJ12_length 4 = .ok (.ireturn, 1) := by decide +kernel
abbrev cJ12_putChar : ByteArray := prog_28_method_4_code
def yJ12_putChar : MethodName := ⟨RJ12, "putChar", "([BII)V"⟩
theorem dJ12_putChar_0 : decode cJ12_putChar 0 = .ok (.getstatic 44, 3) := by decide +kernel
theorem dJ12_putChar_3 : decode cJ12_putChar 3 = .ok (.ifCond .ne 25, 3) := by decide +kernel
theorem dJ12_putChar_6 : decode cJ12_putChar 6 = .ok (.iload_n 1, 1) := by decide +kernel
theorem dJ12_putChar_7 : decode cJ12_putChar 7 = .ok (.ifCond .lt 11, 3) := by decide +kernel
theorem dJ12_putChar_10 : decode cJ12_putChar 10 = .ok (.iload_n 1, 1) := by decide +kernel
theorem dJ12_putChar_11 : decode cJ12_putChar 11 = .ok (.aload_n 0, 1) := by decide +kernel
theorem dJ12_putChar_12 : decode cJ12_putChar 12 = .ok (.invokestatic 48, 3) := by decide +kernel
theorem dJ12_putChar_15 : decode cJ12_putChar 15 = .ok (.if_icmp .lt 13, 3) := by decide +kernel
theorem dJ12_putChar_18 : decode cJ12_putChar 18 = .ok (.new 52, 3) := by decide +kernel
theorem dJ12_putChar_21 : decode cJ12_putChar 21 = .ok (.dup, 1) := by decide +kernel
theorem dJ12_putChar_22 : decode cJ12_putChar 22 = .ok (.ldc 54, 2) := by decide +kernel
theorem dJ12_putChar_24 : decode cJ12_putChar 24 = .ok (.invokespecial 56, 3) := by decide +kernel
theorem dJ12_putChar_27 : decode cJ12_putChar 27 = .ok (.athrow, 1) := by decide +kernel
theorem dJ12_putChar_28 : decode cJ12_putChar 28 = .ok (.iload_n 1, 1) := by decide +kernel
theorem dJ12_putChar_29 : decode cJ12_putChar 29 = .ok (.iconst 1, 1) := by decide +kernel
theorem dJ12_putChar_30 : decode cJ12_putChar 30 = .ok (.ishl, 1) := by decide +kernel
theorem dJ12_putChar_31 : decode cJ12_putChar 31 = .ok (.istore_n 1, 1) := by decide +kernel
theorem dJ12_putChar_32 : decode cJ12_putChar 32 = .ok (.aload_n 0, 1) := by decide +kernel
theorem dJ12_putChar_33 : decode cJ12_putChar 33 = .ok (.iload_n 1, 1) := by decide +kernel
theorem dJ12_putChar_34 : decode cJ12_putChar 34 = .ok (.iinc 1 1, 3) := by decide +kernel
theorem dJ12_putChar_37 : decode cJ12_putChar 37 = .ok (.iload_n 2, 1) := by decide +kernel
theorem dJ12_putChar_38 : decode cJ12_putChar 38 = .ok (.getstatic 59, 3) := by decide +kernel
theorem dJ12_putChar_41 : decode cJ12_putChar 41 = .ok (.ishr, 1) := by decide +kernel
theorem dJ12_putChar_42 : decode cJ12_putChar 42 = .ok (.i2b, 1) := by decide +kernel
theorem dJ12_putChar_43 : decode cJ12_putChar 43 = .ok (.bastore, 1) := by decide +kernel
theorem dJ12_putChar_44 : decode cJ12_putChar 44 = .ok (.aload_n 0, 1) := by decide +kernel
theorem dJ12_putChar_45 : decode cJ12_putChar 45 = .ok (.iload_n 1, 1) := by decide +kernel
theorem dJ12_putChar_46 : decode cJ12_putChar 46 = .ok (.iload_n 2, 1) := by decide +kernel
theorem dJ12_putChar_47 : decode cJ12_putChar 47 = .ok (.getstatic 63, 3) := by decide +kernel
theorem dJ12_putChar_50 : decode cJ12_putChar 50 = .ok (.ishr, 1) := by decide +kernel
theorem dJ12_putChar_51 : decode cJ12_putChar 51 = .ok (.i2b, 1) := by decide +kernel
theorem dJ12_putChar_52 : decode cJ12_putChar 52 = .ok (.bastore, 1) := by decide +kernel
theorem dJ12_putChar_53 : decode cJ12_putChar 53 = .ok (.return_, 1) := by decide +kernel
abbrev cJ12_putCharSB : ByteArray := prog_28_method_71_code
def yJ12_putCharSB : MethodName := ⟨RJ12, "putCharSB", "([BII)V"⟩
theorem dJ12_putCharSB_0 : decode cJ12_putCharSB 0 = .ok (.iload_n 1, 1) := by decide +kernel
theorem dJ12_putCharSB_1 : decode cJ12_putCharSB 1 = .ok (.aload_n 0, 1) := by decide +kernel
theorem dJ12_putCharSB_2 : decode cJ12_putCharSB 2 = .ok (.invokestatic 67, 3) := by decide +kernel
theorem dJ12_putCharSB_5 : decode cJ12_putCharSB 5 = .ok (.aload_n 0, 1) := by decide +kernel
theorem dJ12_putCharSB_6 : decode cJ12_putCharSB 6 = .ok (.iload_n 1, 1) := by decide +kernel
theorem dJ12_putCharSB_7 : decode cJ12_putCharSB 7 = .ok (.iload_n 2, 1) := by decide +kernel
theorem dJ12_putCharSB_8 : decode cJ12_putCharSB 8 = .ok (.invokestatic 111, 3) := by decide +kernel
theorem dJ12_putCharSB_11 : decode cJ12_putCharSB 11 = .ok (.return_, 1) := by decide +kernel
abbrev cJ12_checkIndex : ByteArray := prog_28_method_91_code
def yJ12_checkIndex : MethodName := ⟨RJ12, "checkIndex", "(I[B)V"⟩
theorem dJ12_checkIndex_0 : decode cJ12_checkIndex 0 = .ok (.iload_n 0, 1) := by decide +kernel
theorem dJ12_checkIndex_1 : decode cJ12_checkIndex 1 = .ok (.aload_n 1, 1) := by decide +kernel
theorem dJ12_checkIndex_2 : decode cJ12_checkIndex 2 = .ok (.invokestatic 48, 3) := by decide +kernel
theorem dJ12_checkIndex_5 : decode cJ12_checkIndex 5 = .ok (.invokestatic 414, 3) := by decide +kernel
theorem dJ12_checkIndex_8 : decode cJ12_checkIndex 8 = .ok (.return_, 1) := by decide +kernel
abbrev cJ12_compress : ByteArray := prog_28_method_17_code
def yJ12_compress : MethodName := ⟨RJ12, "compress", "([BII)[B"⟩
theorem dJ12_compress_0 : decode cJ12_compress 0 = .ok (.iload_n 2, 1) := by decide +kernel
theorem dJ12_compress_1 : decode cJ12_compress 1 = .ok (.newarray .byte, 2) := by decide +kernel
theorem dJ12_compress_3 : decode cJ12_compress 3 = .ok (.astore_n 3, 1) := by decide +kernel
theorem dJ12_compress_4 : decode cJ12_compress 4 = .ok (.aload_n 0, 1) := by decide +kernel
theorem dJ12_compress_5 : decode cJ12_compress 5 = .ok (.iload_n 1, 1) := by decide +kernel
theorem dJ12_compress_6 : decode cJ12_compress 6 = .ok (.aload_n 3, 1) := by decide +kernel
theorem dJ12_compress_7 : decode cJ12_compress 7 = .ok (.iconst 0, 1) := by decide +kernel
theorem dJ12_compress_8 : decode cJ12_compress 8 = .ok (.iload_n 2, 1) := by decide +kernel
theorem dJ12_compress_9 : decode cJ12_compress 9 = .ok (.invokestatic 123, 3) := by decide +kernel
theorem dJ12_compress_12 : decode cJ12_compress 12 = .ok (.istore 4, 2) := by decide +kernel
theorem dJ12_compress_14 : decode cJ12_compress 14 = .ok (.iload 4, 2) := by decide +kernel
theorem dJ12_compress_16 : decode cJ12_compress 16 = .ok (.iload_n 2, 1) := by decide +kernel
theorem dJ12_compress_17 : decode cJ12_compress 17 = .ok (.if_icmp .eq 47, 3) := by decide +kernel
theorem dJ12_compress_20 : decode cJ12_compress 20 = .ok (.aload_n 0, 1) := by decide +kernel
theorem dJ12_compress_21 : decode cJ12_compress 21 = .ok (.iload_n 1, 1) := by decide +kernel
theorem dJ12_compress_22 : decode cJ12_compress 22 = .ok (.iconst 1, 1) := by decide +kernel
theorem dJ12_compress_23 : decode cJ12_compress 23 = .ok (.ishl, 1) := by decide +kernel
theorem dJ12_compress_24 : decode cJ12_compress 24 = .ok (.iload_n 1, 1) := by decide +kernel
theorem dJ12_compress_25 : decode cJ12_compress 25 = .ok (.iload_n 2, 1) := by decide +kernel
theorem dJ12_compress_26 : decode cJ12_compress 26 = .ok (.iadd, 1) := by decide +kernel
theorem dJ12_compress_27 : decode cJ12_compress 27 = .ok (.invokestatic 11, 3) := by decide +kernel
theorem dJ12_compress_30 : decode cJ12_compress 30 = .ok (.invokestatic 126, 3) := by decide +kernel
theorem dJ12_compress_33 : decode cJ12_compress 33 = .ok (.astore 5, 2) := by decide +kernel
theorem dJ12_compress_35 : decode cJ12_compress 35 = .ok (.aload 5, 2) := by decide +kernel
theorem dJ12_compress_37 : decode cJ12_compress 37 = .ok (.iload 4, 2) := by decide +kernel
theorem dJ12_compress_39 : decode cJ12_compress 39 = .ok (.invokestatic 71, 3) := by decide +kernel
theorem dJ12_compress_42 : decode cJ12_compress 42 = .ok (.sipush 255, 3) := by decide +kernel
theorem dJ12_compress_45 : decode cJ12_compress 45 = .ok (.if_icmp .gt 16, 3) := by decide +kernel
theorem dJ12_compress_48 : decode cJ12_compress 48 = .ok (.aload 5, 2) := by decide +kernel
theorem dJ12_compress_50 : decode cJ12_compress 50 = .ok (.iconst 0, 1) := by decide +kernel
theorem dJ12_compress_51 : decode cJ12_compress 51 = .ok (.aload_n 3, 1) := by decide +kernel
theorem dJ12_compress_52 : decode cJ12_compress 52 = .ok (.iconst 0, 1) := by decide +kernel
theorem dJ12_compress_53 : decode cJ12_compress 53 = .ok (.iload_n 2, 1) := by decide +kernel
theorem dJ12_compress_54 : decode cJ12_compress 54 = .ok (.invokestatic 123, 3) := by decide +kernel
theorem dJ12_compress_57 : decode cJ12_compress 57 = .ok (.iload_n 2, 1) := by decide +kernel
theorem dJ12_compress_58 : decode cJ12_compress 58 = .ok (.if_icmp .eq 6, 3) := by decide +kernel
theorem dJ12_compress_61 : decode cJ12_compress 61 = .ok (.aload 5, 2) := by decide +kernel
theorem dJ12_compress_63 : decode cJ12_compress 63 = .ok (.areturn, 1) := by decide +kernel
theorem dJ12_compress_64 : decode cJ12_compress 64 = .ok (.aload_n 3, 1) := by decide +kernel
theorem dJ12_compress_65 : decode cJ12_compress 65 = .ok (.areturn, 1) := by decide +kernel
abbrev cJ12_compress_2 : ByteArray := prog_28_method_22_code
def yJ12_compress_2 : MethodName := ⟨RJ12, "compress", "([BI[BII)I"⟩
theorem dJ12_compress_2_0 : decode cJ12_compress_2 0 = .ok (.iload_n 1, 1) := by decide +kernel
theorem dJ12_compress_2_1 : decode cJ12_compress_2 1 = .ok (.iload 4, 2) := by decide +kernel
theorem dJ12_compress_2_3 : decode cJ12_compress_2 3 = .ok (.aload_n 0, 1) := by decide +kernel
theorem dJ12_compress_2_4 : decode cJ12_compress_2 4 = .ok (.invokestatic 173, 3) := by decide +kernel
theorem dJ12_compress_2_7 : decode cJ12_compress_2 7 = .ok (.iconst 0, 1) := by decide +kernel
theorem dJ12_compress_2_8 : decode cJ12_compress_2 8 = .ok (.istore 5, 2) := by decide +kernel
theorem dJ12_compress_2_10 : decode cJ12_compress_2 10 = .ok (.iload 5, 2) := by decide +kernel
theorem dJ12_compress_2_12 : decode cJ12_compress_2 12 = .ok (.iload 4, 2) := by decide +kernel
theorem dJ12_compress_2_14 : decode cJ12_compress_2 14 = .ok (.if_icmp .ge 39, 3) := by decide +kernel
theorem dJ12_compress_2_17 : decode cJ12_compress_2 17 = .ok (.aload_n 0, 1) := by decide +kernel
theorem dJ12_compress_2_18 : decode cJ12_compress_2 18 = .ok (.iload_n 1, 1) := by decide +kernel
theorem dJ12_compress_2_19 : decode cJ12_compress_2 19 = .ok (.invokestatic 71, 3) := by decide +kernel
theorem dJ12_compress_2_22 : decode cJ12_compress_2 22 = .ok (.istore 6, 2) := by decide +kernel
theorem dJ12_compress_2_24 : decode cJ12_compress_2 24 = .ok (.iload 6, 2) := by decide +kernel
theorem dJ12_compress_2_26 : decode cJ12_compress_2 26 = .ok (.sipush 255, 3) := by decide +kernel
theorem dJ12_compress_2_29 : decode cJ12_compress_2 29 = .ok (.if_icmp .le 6, 3) := by decide +kernel
theorem dJ12_compress_2_32 : decode cJ12_compress_2 32 = .ok (.iload 5, 2) := by decide +kernel
theorem dJ12_compress_2_34 : decode cJ12_compress_2 34 = .ok (.ireturn, 1) := by decide +kernel
theorem dJ12_compress_2_35 : decode cJ12_compress_2 35 = .ok (.aload_n 2, 1) := by decide +kernel
theorem dJ12_compress_2_36 : decode cJ12_compress_2 36 = .ok (.iload_n 3, 1) := by decide +kernel
theorem dJ12_compress_2_37 : decode cJ12_compress_2 37 = .ok (.iload 6, 2) := by decide +kernel
theorem dJ12_compress_2_39 : decode cJ12_compress_2 39 = .ok (.i2b, 1) := by decide +kernel
theorem dJ12_compress_2_40 : decode cJ12_compress_2 40 = .ok (.bastore, 1) := by decide +kernel
theorem dJ12_compress_2_41 : decode cJ12_compress_2 41 = .ok (.iinc 1 1, 3) := by decide +kernel
theorem dJ12_compress_2_44 : decode cJ12_compress_2 44 = .ok (.iinc 3 1, 3) := by decide +kernel
theorem dJ12_compress_2_47 : decode cJ12_compress_2 47 = .ok (.iinc 5 1, 3) := by decide +kernel
theorem dJ12_compress_2_50 : decode cJ12_compress_2 50 = .ok (.goto (-40), 3) := by decide +kernel
theorem dJ12_compress_2_53 : decode cJ12_compress_2 53 = .ok (.iload 4, 2) := by decide +kernel
theorem dJ12_compress_2_55 : decode cJ12_compress_2 55 = .ok (.ireturn, 1) := by decide +kernel
abbrev cJ12_getChar : ByteArray := prog_28_method_5_code
def yJ12_getChar : MethodName := ⟨RJ12, "getChar", "([BI)C"⟩
theorem dJ12_getChar_0 : decode cJ12_getChar 0 = .ok (.getstatic 44, 3) := by decide +kernel
theorem dJ12_getChar_3 : decode cJ12_getChar 3 = .ok (.ifCond .ne 25, 3) := by decide +kernel
theorem dJ12_getChar_6 : decode cJ12_getChar 6 = .ok (.iload_n 1, 1) := by decide +kernel
theorem dJ12_getChar_7 : decode cJ12_getChar 7 = .ok (.ifCond .lt 11, 3) := by decide +kernel
theorem dJ12_getChar_10 : decode cJ12_getChar 10 = .ok (.iload_n 1, 1) := by decide +kernel
theorem dJ12_getChar_11 : decode cJ12_getChar 11 = .ok (.aload_n 0, 1) := by decide +kernel
theorem dJ12_getChar_12 : decode cJ12_getChar 12 = .ok (.invokestatic 48, 3) := by decide +kernel
theorem dJ12_getChar_15 : decode cJ12_getChar 15 = .ok (.if_icmp .lt 13, 3) := by decide +kernel
theorem dJ12_getChar_18 : decode cJ12_getChar 18 = .ok (.new 52, 3) := by decide +kernel
theorem dJ12_getChar_21 : decode cJ12_getChar 21 = .ok (.dup, 1) := by decide +kernel
theorem dJ12_getChar_22 : decode cJ12_getChar 22 = .ok (.ldc 54, 2) := by decide +kernel
theorem dJ12_getChar_24 : decode cJ12_getChar 24 = .ok (.invokespecial 56, 3) := by decide +kernel
theorem dJ12_getChar_27 : decode cJ12_getChar 27 = .ok (.athrow, 1) := by decide +kernel
theorem dJ12_getChar_28 : decode cJ12_getChar 28 = .ok (.iload_n 1, 1) := by decide +kernel
theorem dJ12_getChar_29 : decode cJ12_getChar 29 = .ok (.iconst 1, 1) := by decide +kernel
theorem dJ12_getChar_30 : decode cJ12_getChar 30 = .ok (.ishl, 1) := by decide +kernel
theorem dJ12_getChar_31 : decode cJ12_getChar 31 = .ok (.istore_n 1, 1) := by decide +kernel
theorem dJ12_getChar_32 : decode cJ12_getChar 32 = .ok (.aload_n 0, 1) := by decide +kernel
theorem dJ12_getChar_33 : decode cJ12_getChar 33 = .ok (.iload_n 1, 1) := by decide +kernel
theorem dJ12_getChar_34 : decode cJ12_getChar 34 = .ok (.iinc 1 1, 3) := by decide +kernel
theorem dJ12_getChar_37 : decode cJ12_getChar 37 = .ok (.baload, 1) := by decide +kernel
theorem dJ12_getChar_38 : decode cJ12_getChar 38 = .ok (.sipush 255, 3) := by decide +kernel
theorem dJ12_getChar_41 : decode cJ12_getChar 41 = .ok (.iand, 1) := by decide +kernel
theorem dJ12_getChar_42 : decode cJ12_getChar 42 = .ok (.getstatic 59, 3) := by decide +kernel
theorem dJ12_getChar_45 : decode cJ12_getChar 45 = .ok (.ishl, 1) := by decide +kernel
theorem dJ12_getChar_46 : decode cJ12_getChar 46 = .ok (.aload_n 0, 1) := by decide +kernel
theorem dJ12_getChar_47 : decode cJ12_getChar 47 = .ok (.iload_n 1, 1) := by decide +kernel
theorem dJ12_getChar_48 : decode cJ12_getChar 48 = .ok (.baload, 1) := by decide +kernel
theorem dJ12_getChar_49 : decode cJ12_getChar 49 = .ok (.sipush 255, 3) := by decide +kernel
theorem dJ12_getChar_52 : decode cJ12_getChar 52 = .ok (.iand, 1) := by decide +kernel
theorem dJ12_getChar_53 : decode cJ12_getChar 53 = .ok (.getstatic 63, 3) := by decide +kernel
theorem dJ12_getChar_56 : decode cJ12_getChar 56 = .ok (.ishl, 1) := by decide +kernel
theorem dJ12_getChar_57 : decode cJ12_getChar 57 = .ok (.ior, 1) := by decide +kernel
theorem dJ12_getChar_58 : decode cJ12_getChar 58 = .ok (.i2c, 1) := by decide +kernel
theorem dJ12_getChar_59 : decode cJ12_getChar 59 = .ok (.ireturn, 1) := by decide +kernel
abbrev cJ12_coderFromArrayLen : ByteArray := prog_28_method_15_code
def yJ12_coderFromArrayLen : MethodName := ⟨RJ12, "coderFromArrayLen", "([BI)B"⟩
theorem dJ12_coderFromArrayLen_0 : decode cJ12_coderFromArrayLen 0 = .ok (.iload_n 1, 1) := by decide +kernel
theorem dJ12_coderFromArrayLen_1 : decode cJ12_coderFromArrayLen 1 = .ok (.aload_n 0, 1) := by decide +kernel
theorem dJ12_coderFromArrayLen_2 : decode cJ12_coderFromArrayLen 2 = .ok (.arraylength, 1) := by decide +kernel
theorem dJ12_coderFromArrayLen_3 : decode cJ12_coderFromArrayLen 3 = .ok (.isub, 1) := by decide +kernel
theorem dJ12_coderFromArrayLen_4 : decode cJ12_coderFromArrayLen 4 = .ok (.bipush 31, 2) := by decide +kernel
theorem dJ12_coderFromArrayLen_6 : decode cJ12_coderFromArrayLen 6 = .ok (.iushr, 1) := by decide +kernel
theorem dJ12_coderFromArrayLen_7 : decode cJ12_coderFromArrayLen 7 = .ok (.i2b, 1) := by decide +kernel
theorem dJ12_coderFromArrayLen_8 : decode cJ12_coderFromArrayLen 8 = .ok (.ireturn, 1) := by decide +kernel
abbrev cJ12_indexOf : ByteArray := prog_28_method_40_code
def yJ12_indexOf : MethodName := ⟨RJ12, "indexOf", "([BIII)I"⟩
theorem dJ12_indexOf_0 : decode cJ12_indexOf 0 = .ok (.iload_n 2, 1) := by decide +kernel
theorem dJ12_indexOf_1 : decode cJ12_indexOf 1 = .ok (.iconst 0, 1) := by decide +kernel
theorem dJ12_indexOf_2 : decode cJ12_indexOf 2 = .ok (.invokestatic 224, 3) := by decide +kernel
theorem dJ12_indexOf_5 : decode cJ12_indexOf 5 = .ok (.istore_n 2, 1) := by decide +kernel
theorem dJ12_indexOf_6 : decode cJ12_indexOf 6 = .ok (.iload_n 3, 1) := by decide +kernel
theorem dJ12_indexOf_7 : decode cJ12_indexOf 7 = .ok (.aload_n 0, 1) := by decide +kernel
theorem dJ12_indexOf_8 : decode cJ12_indexOf 8 = .ok (.arraylength, 1) := by decide +kernel
theorem dJ12_indexOf_9 : decode cJ12_indexOf 9 = .ok (.iconst 1, 1) := by decide +kernel
theorem dJ12_indexOf_10 : decode cJ12_indexOf 10 = .ok (.ishr, 1) := by decide +kernel
theorem dJ12_indexOf_11 : decode cJ12_indexOf 11 = .ok (.invokestatic 183, 3) := by decide +kernel
theorem dJ12_indexOf_14 : decode cJ12_indexOf 14 = .ok (.istore_n 3, 1) := by decide +kernel
theorem dJ12_indexOf_15 : decode cJ12_indexOf 15 = .ok (.iload_n 2, 1) := by decide +kernel
theorem dJ12_indexOf_16 : decode cJ12_indexOf 16 = .ok (.iload_n 3, 1) := by decide +kernel
theorem dJ12_indexOf_17 : decode cJ12_indexOf 17 = .ok (.if_icmp .lt 5, 3) := by decide +kernel
theorem dJ12_indexOf_20 : decode cJ12_indexOf 20 = .ok (.iconst (-1), 1) := by decide +kernel
theorem dJ12_indexOf_21 : decode cJ12_indexOf 21 = .ok (.ireturn, 1) := by decide +kernel
theorem dJ12_indexOf_22 : decode cJ12_indexOf 22 = .ok (.iload_n 1, 1) := by decide +kernel
theorem dJ12_indexOf_23 : decode cJ12_indexOf 23 = .ok (.ldc 227, 2) := by decide +kernel
theorem dJ12_indexOf_25 : decode cJ12_indexOf 25 = .ok (.if_icmp .ge 11, 3) := by decide +kernel
theorem dJ12_indexOf_28 : decode cJ12_indexOf 28 = .ok (.aload_n 0, 1) := by decide +kernel
theorem dJ12_indexOf_29 : decode cJ12_indexOf 29 = .ok (.iload_n 1, 1) := by decide +kernel
theorem dJ12_indexOf_30 : decode cJ12_indexOf 30 = .ok (.iload_n 2, 1) := by decide +kernel
theorem dJ12_indexOf_31 : decode cJ12_indexOf 31 = .ok (.iload_n 3, 1) := by decide +kernel
theorem dJ12_indexOf_32 : decode cJ12_indexOf 32 = .ok (.invokestatic 228, 3) := by decide +kernel
theorem dJ12_indexOf_35 : decode cJ12_indexOf 35 = .ok (.ireturn, 1) := by decide +kernel
theorem dJ12_indexOf_36 : decode cJ12_indexOf 36 = .ok (.aload_n 0, 1) := by decide +kernel
theorem dJ12_indexOf_37 : decode cJ12_indexOf 37 = .ok (.iload_n 1, 1) := by decide +kernel
theorem dJ12_indexOf_38 : decode cJ12_indexOf 38 = .ok (.iload_n 2, 1) := by decide +kernel
theorem dJ12_indexOf_39 : decode cJ12_indexOf 39 = .ok (.iload_n 3, 1) := by decide +kernel
theorem dJ12_indexOf_40 : decode cJ12_indexOf 40 = .ok (.invokestatic 232, 3) := by decide +kernel
theorem dJ12_indexOf_43 : decode cJ12_indexOf 43 = .ok (.ireturn, 1) := by decide +kernel
abbrev cJ12_indexOfChar : ByteArray := prog_28_method_47_code
def yJ12_indexOfChar : MethodName := ⟨RJ12, "indexOfChar", "([BIII)I"⟩
theorem dJ12_indexOfChar_0 : decode cJ12_indexOfChar 0 = .ok (.iload_n 2, 1) := by decide +kernel
theorem dJ12_indexOfChar_1 : decode cJ12_indexOfChar 1 = .ok (.iload_n 3, 1) := by decide +kernel
theorem dJ12_indexOfChar_2 : decode cJ12_indexOfChar 2 = .ok (.aload_n 0, 1) := by decide +kernel
theorem dJ12_indexOfChar_3 : decode cJ12_indexOfChar 3 = .ok (.invokestatic 96, 3) := by decide +kernel
theorem dJ12_indexOfChar_6 : decode cJ12_indexOfChar 6 = .ok (.aload_n 0, 1) := by decide +kernel
theorem dJ12_indexOfChar_7 : decode cJ12_indexOfChar 7 = .ok (.iload_n 1, 1) := by decide +kernel
theorem dJ12_indexOfChar_8 : decode cJ12_indexOfChar 8 = .ok (.iload_n 2, 1) := by decide +kernel
theorem dJ12_indexOfChar_9 : decode cJ12_indexOfChar 9 = .ok (.iload_n 3, 1) := by decide +kernel
theorem dJ12_indexOfChar_10 : decode cJ12_indexOfChar 10 = .ok (.invokestatic 244, 3) := by decide +kernel
theorem dJ12_indexOfChar_13 : decode cJ12_indexOfChar 13 = .ok (.ireturn, 1) := by decide +kernel
abbrev cJ12_checkBoundsBeginEnd : ByteArray := prog_28_method_93_code
def yJ12_checkBoundsBeginEnd : MethodName := ⟨RJ12, "checkBoundsBeginEnd", "(II[B)V"⟩
theorem dJ12_checkBoundsBeginEnd_0 : decode cJ12_checkBoundsBeginEnd 0 = .ok (.iload_n 0, 1) := by decide +kernel
theorem dJ12_checkBoundsBeginEnd_1 : decode cJ12_checkBoundsBeginEnd 1 = .ok (.iload_n 1, 1) := by decide +kernel
theorem dJ12_checkBoundsBeginEnd_2 : decode cJ12_checkBoundsBeginEnd 2 = .ok (.aload_n 2, 1) := by decide +kernel
theorem dJ12_checkBoundsBeginEnd_3 : decode cJ12_checkBoundsBeginEnd 3 = .ok (.invokestatic 48, 3) := by decide +kernel
theorem dJ12_checkBoundsBeginEnd_6 : decode cJ12_checkBoundsBeginEnd 6 = .ok (.invokestatic 241, 3) := by decide +kernel
theorem dJ12_checkBoundsBeginEnd_9 : decode cJ12_checkBoundsBeginEnd 9 = .ok (.return_, 1) := by decide +kernel
abbrev cJ12_indexOfCharUnsafe : ByteArray := prog_28_method_48_code
def yJ12_indexOfCharUnsafe : MethodName := ⟨RJ12, "indexOfCharUnsafe", "([BIII)I"⟩
theorem dJ12_indexOfCharUnsafe_0 : decode cJ12_indexOfCharUnsafe 0 = .ok (.iload_n 2, 1) := by decide +kernel
theorem dJ12_indexOfCharUnsafe_1 : decode cJ12_indexOfCharUnsafe 1 = .ok (.istore 4, 2) := by decide +kernel
theorem dJ12_indexOfCharUnsafe_3 : decode cJ12_indexOfCharUnsafe 3 = .ok (.iload 4, 2) := by decide +kernel
theorem dJ12_indexOfCharUnsafe_5 : decode cJ12_indexOfCharUnsafe 5 = .ok (.iload_n 3, 1) := by decide +kernel
theorem dJ12_indexOfCharUnsafe_6 : decode cJ12_indexOfCharUnsafe 6 = .ok (.if_icmp .ge 22, 3) := by decide +kernel
theorem dJ12_indexOfCharUnsafe_9 : decode cJ12_indexOfCharUnsafe 9 = .ok (.aload_n 0, 1) := by decide +kernel
theorem dJ12_indexOfCharUnsafe_10 : decode cJ12_indexOfCharUnsafe 10 = .ok (.iload 4, 2) := by decide +kernel
theorem dJ12_indexOfCharUnsafe_12 : decode cJ12_indexOfCharUnsafe 12 = .ok (.invokestatic 71, 3) := by decide +kernel
theorem dJ12_indexOfCharUnsafe_15 : decode cJ12_indexOfCharUnsafe 15 = .ok (.iload_n 1, 1) := by decide +kernel
theorem dJ12_indexOfCharUnsafe_16 : decode cJ12_indexOfCharUnsafe 16 = .ok (.if_icmp .ne 6, 3) := by decide +kernel
theorem dJ12_indexOfCharUnsafe_19 : decode cJ12_indexOfCharUnsafe 19 = .ok (.iload 4, 2) := by decide +kernel
theorem dJ12_indexOfCharUnsafe_21 : decode cJ12_indexOfCharUnsafe 21 = .ok (.ireturn, 1) := by decide +kernel
theorem dJ12_indexOfCharUnsafe_22 : decode cJ12_indexOfCharUnsafe 22 = .ok (.iinc 4 1, 3) := by decide +kernel
theorem dJ12_indexOfCharUnsafe_25 : decode cJ12_indexOfCharUnsafe 25 = .ok (.goto (-22), 3) := by decide +kernel
theorem dJ12_indexOfCharUnsafe_28 : decode cJ12_indexOfCharUnsafe 28 = .ok (.iconst (-1), 1) := by decide +kernel
theorem dJ12_indexOfCharUnsafe_29 : decode cJ12_indexOfCharUnsafe 29 = .ok (.ireturn, 1) := by decide +kernel
abbrev cJ12_indexOfSupplementary : ByteArray := prog_28_method_49_code
def yJ12_indexOfSupplementary : MethodName := ⟨RJ12, "indexOfSupplementary", "([BIII)I"⟩
theorem dJ12_indexOfSupplementary_0 : decode cJ12_indexOfSupplementary 0 = .ok (.iload_n 1, 1) := by decide +kernel
theorem dJ12_indexOfSupplementary_1 : decode cJ12_indexOfSupplementary 1 = .ok (.invokestatic 164, 3) := by decide +kernel
theorem dJ12_indexOfSupplementary_4 : decode cJ12_indexOfSupplementary 4 = .ok (.ifCond .eq 65, 3) := by decide +kernel
theorem dJ12_indexOfSupplementary_7 : decode cJ12_indexOfSupplementary 7 = .ok (.iload_n 1, 1) := by decide +kernel
theorem dJ12_indexOfSupplementary_8 : decode cJ12_indexOfSupplementary 8 = .ok (.invokestatic 157, 3) := by decide +kernel
theorem dJ12_indexOfSupplementary_11 : decode cJ12_indexOfSupplementary 11 = .ok (.istore 4, 2) := by decide +kernel
theorem dJ12_indexOfSupplementary_13 : decode cJ12_indexOfSupplementary 13 = .ok (.iload_n 1, 1) := by decide +kernel
theorem dJ12_indexOfSupplementary_14 : decode cJ12_indexOfSupplementary 14 = .ok (.invokestatic 161, 3) := by decide +kernel
theorem dJ12_indexOfSupplementary_17 : decode cJ12_indexOfSupplementary 17 = .ok (.istore 5, 2) := by decide +kernel
theorem dJ12_indexOfSupplementary_19 : decode cJ12_indexOfSupplementary 19 = .ok (.iload_n 2, 1) := by decide +kernel
theorem dJ12_indexOfSupplementary_20 : decode cJ12_indexOfSupplementary 20 = .ok (.iload_n 3, 1) := by decide +kernel
theorem dJ12_indexOfSupplementary_21 : decode cJ12_indexOfSupplementary 21 = .ok (.aload_n 0, 1) := by decide +kernel
theorem dJ12_indexOfSupplementary_22 : decode cJ12_indexOfSupplementary 22 = .ok (.invokestatic 96, 3) := by decide +kernel
theorem dJ12_indexOfSupplementary_25 : decode cJ12_indexOfSupplementary 25 = .ok (.iload_n 2, 1) := by decide +kernel
theorem dJ12_indexOfSupplementary_26 : decode cJ12_indexOfSupplementary 26 = .ok (.istore 6, 2) := by decide +kernel
theorem dJ12_indexOfSupplementary_28 : decode cJ12_indexOfSupplementary 28 = .ok (.iload 6, 2) := by decide +kernel
theorem dJ12_indexOfSupplementary_30 : decode cJ12_indexOfSupplementary 30 = .ok (.iload_n 3, 1) := by decide +kernel
theorem dJ12_indexOfSupplementary_31 : decode cJ12_indexOfSupplementary 31 = .ok (.iconst 1, 1) := by decide +kernel
theorem dJ12_indexOfSupplementary_32 : decode cJ12_indexOfSupplementary 32 = .ok (.isub, 1) := by decide +kernel
theorem dJ12_indexOfSupplementary_33 : decode cJ12_indexOfSupplementary 33 = .ok (.if_icmp .ge 36, 3) := by decide +kernel
theorem dJ12_indexOfSupplementary_36 : decode cJ12_indexOfSupplementary 36 = .ok (.aload_n 0, 1) := by decide +kernel
theorem dJ12_indexOfSupplementary_37 : decode cJ12_indexOfSupplementary 37 = .ok (.iload 6, 2) := by decide +kernel
theorem dJ12_indexOfSupplementary_39 : decode cJ12_indexOfSupplementary 39 = .ok (.invokestatic 71, 3) := by decide +kernel
theorem dJ12_indexOfSupplementary_42 : decode cJ12_indexOfSupplementary 42 = .ok (.iload 4, 2) := by decide +kernel
theorem dJ12_indexOfSupplementary_44 : decode cJ12_indexOfSupplementary 44 = .ok (.if_icmp .ne 19, 3) := by decide +kernel
theorem dJ12_indexOfSupplementary_47 : decode cJ12_indexOfSupplementary 47 = .ok (.aload_n 0, 1) := by decide +kernel
theorem dJ12_indexOfSupplementary_48 : decode cJ12_indexOfSupplementary 48 = .ok (.iload 6, 2) := by decide +kernel
theorem dJ12_indexOfSupplementary_50 : decode cJ12_indexOfSupplementary 50 = .ok (.iconst 1, 1) := by decide +kernel
theorem dJ12_indexOfSupplementary_51 : decode cJ12_indexOfSupplementary 51 = .ok (.iadd, 1) := by decide +kernel
theorem dJ12_indexOfSupplementary_52 : decode cJ12_indexOfSupplementary 52 = .ok (.invokestatic 71, 3) := by decide +kernel
theorem dJ12_indexOfSupplementary_55 : decode cJ12_indexOfSupplementary 55 = .ok (.iload 5, 2) := by decide +kernel
theorem dJ12_indexOfSupplementary_57 : decode cJ12_indexOfSupplementary 57 = .ok (.if_icmp .ne 6, 3) := by decide +kernel
theorem dJ12_indexOfSupplementary_60 : decode cJ12_indexOfSupplementary 60 = .ok (.iload 6, 2) := by decide +kernel
theorem dJ12_indexOfSupplementary_62 : decode cJ12_indexOfSupplementary 62 = .ok (.ireturn, 1) := by decide +kernel
theorem dJ12_indexOfSupplementary_63 : decode cJ12_indexOfSupplementary 63 = .ok (.iinc 6 1, 3) := by decide +kernel
theorem dJ12_indexOfSupplementary_66 : decode cJ12_indexOfSupplementary 66 = .ok (.goto (-38), 3) := by decide +kernel
theorem dJ12_indexOfSupplementary_69 : decode cJ12_indexOfSupplementary 69 = .ok (.iconst (-1), 1) := by decide +kernel
theorem dJ12_indexOfSupplementary_70 : decode cJ12_indexOfSupplementary 70 = .ok (.ireturn, 1) := by decide +kernel
theorem q103 : (Jvm.Cond.initialized "java/lang/StringUTF16") ∈ lw_all := lw_g (lw_at lw_m1 23 rfl) rfl
theorem q629 : (Jvm.Cond.static ({ cls := "java/lang/StringUTF16", name := "newBytesFor", desc := "(I)[B" } : Jvm.MethodName)) ∈ lw_all := lw_g (lw_at lw_m3 69 rfl) rfl
theorem q630 : (Jvm.Cond.code ({ cls := "java/lang/StringUTF16", name := "newBytesFor", desc := "(I)[B" } : Jvm.MethodName) prog_28_method_2_code (1 : Nat) (Option.some (Jvm.ClassFile.FieldType.array Jvm.ClassFile.FieldType.byte))) ∈ lw_all := lw_g (lw_at lw_m3 70 rfl) rfl
theorem q631 : (Jvm.Cond.methodLink "java/lang/StringUTF16" (11 : Nat) ({ cls := "java/lang/StringUTF16", name := "newBytesLength", desc := "(I)I" } : Jvm.MethodName)) ∈ lw_all := lw_g (lw_at lw_m3 71 rfl) rfl
theorem q632 : (Jvm.Cond.static ({ cls := "java/lang/StringUTF16", name := "newBytesLength", desc := "(I)I" } : Jvm.MethodName)) ∈ lw_all := lw_g (lw_at lw_m3 72 rfl) rfl
theorem q633 : (Jvm.Cond.code ({ cls := "java/lang/StringUTF16", name := "newBytesLength", desc := "(I)I" } : Jvm.MethodName) prog_28_method_3_code (1 : Nat) (Option.some Jvm.ClassFile.FieldType.int)) ∈ lw_all := lw_g (lw_at lw_m3 73 rfl) rfl
theorem q634 : (Jvm.Cond.constant "java/lang/StringUTF16" (20 : Nat) (1073741823 : Int32)) ∈ lw_all := lw_g (lw_at lw_m3 74 rfl) rfl
theorem q698 : (Jvm.Cond.static ({ cls := "java/lang/StringUTF16", name := "inflate", desc := "([BI[BII)V" } : Jvm.MethodName)) ∈ lw_all := lw_g (lw_at lw_m3 138 rfl) rfl
theorem q699 : (Jvm.Cond.code ({ cls := "java/lang/StringUTF16", name := "inflate", desc := "([BI[BII)V" } : Jvm.MethodName) prog_28_method_86_code (6 : Nat) (Option.none : Option Jvm.ClassFile.FieldType)) ∈ lw_all := lw_g (lw_at lw_m3 139 rfl) rfl
theorem q700 : (Jvm.Cond.methodLink "java/lang/StringUTF16" (173 : Nat) ({ cls := "java/lang/StringUTF16", name := "checkBoundsOffCount", desc := "(II[B)V" } : Jvm.MethodName)) ∈ lw_all := lw_g (lw_at lw_m3 140 rfl) rfl
theorem q701 : (Jvm.Cond.static ({ cls := "java/lang/StringUTF16", name := "checkBoundsOffCount", desc := "(II[B)V" } : Jvm.MethodName)) ∈ lw_all := lw_g (lw_at lw_m3 141 rfl) rfl
theorem q702 : (Jvm.Cond.code ({ cls := "java/lang/StringUTF16", name := "checkBoundsOffCount", desc := "(II[B)V" } : Jvm.MethodName) prog_28_method_94_code (3 : Nat) (Option.none : Option Jvm.ClassFile.FieldType)) ∈ lw_all := lw_g (lw_at lw_m3 142 rfl) rfl
theorem q703 : (Jvm.Cond.methodLink "java/lang/StringUTF16" (48 : Nat) ({ cls := "java/lang/StringUTF16", name := "length", desc := "([B)I" } : Jvm.MethodName)) ∈ lw_all := lw_g (lw_at lw_m3 143 rfl) rfl
theorem q704 : (Jvm.Cond.static ({ cls := "java/lang/StringUTF16", name := "length", desc := "([B)I" } : Jvm.MethodName)) ∈ lw_all := lw_g (lw_at lw_m3 144 rfl) rfl
theorem q705 : (Jvm.Cond.code ({ cls := "java/lang/StringUTF16", name := "length", desc := "([B)I" } : Jvm.MethodName) prog_28_method_6_code (1 : Nat) (Option.some Jvm.ClassFile.FieldType.int)) ∈ lw_all := lw_g (lw_at lw_m3 145 rfl) rfl
theorem q706 : (Jvm.Cond.methodLink "java/lang/StringUTF16" (419 : Nat) ({ cls := "java/lang/String", name := "checkBoundsOffCount", desc := "(III)I" } : Jvm.MethodName)) ∈ lw_all := lw_g (lw_at lw_m3 146 rfl) rfl
theorem q714 : (Jvm.Cond.methodLink "java/lang/StringUTF16" (111 : Nat) ({ cls := "java/lang/StringUTF16", name := "putChar", desc := "([BII)V" } : Jvm.MethodName)) ∈ lw_all := lw_g (lw_at lw_m3 154 rfl) rfl
theorem q715 : (Jvm.Cond.static ({ cls := "java/lang/StringUTF16", name := "putChar", desc := "([BII)V" } : Jvm.MethodName)) ∈ lw_all := lw_g (lw_at lw_m3 155 rfl) rfl
theorem q716 : (Jvm.Cond.code ({ cls := "java/lang/StringUTF16", name := "putChar", desc := "([BII)V" } : Jvm.MethodName) prog_28_method_4_code (3 : Nat) (Option.none : Option Jvm.ClassFile.FieldType)) ∈ lw_all := lw_g (lw_at lw_m3 156 rfl) rfl
theorem q717 : (Jvm.Cond.fieldLink "java/lang/StringUTF16" (44 : Nat) "java/lang/StringUTF16" "$assertionsDisabled" "Z") ∈ lw_all := lw_g (lw_at lw_m3 157 rfl) rfl
theorem q718 : (Jvm.Cond.laysStatic "java/lang/StringUTF16" "$assertionsDisabled" "Z") ∈ lw_tbl := lw_at lw_m3 158 rfl
theorem q719 : (Jvm.Cond.fieldLink "java/lang/StringUTF16" (59 : Nat) "java/lang/StringUTF16" "HI_BYTE_SHIFT" "I") ∈ lw_all := lw_g (lw_at lw_m3 159 rfl) rfl
theorem q720 : (Jvm.Cond.laysStatic "java/lang/StringUTF16" "HI_BYTE_SHIFT" "I") ∈ lw_tbl := lw_at lw_m3 160 rfl
theorem q721 : (Jvm.Cond.fieldLink "java/lang/StringUTF16" (63 : Nat) "java/lang/StringUTF16" "LO_BYTE_SHIFT" "I") ∈ lw_all := lw_g (lw_at lw_m3 161 rfl) rfl
theorem q722 : (Jvm.Cond.laysStatic "java/lang/StringUTF16" "LO_BYTE_SHIFT" "I") ∈ lw_tbl := lw_at lw_m3 162 rfl
theorem q724 : (Jvm.Cond.static ({ cls := "java/lang/StringUTF16", name := "putCharSB", desc := "([BII)V" } : Jvm.MethodName)) ∈ lw_all := lw_g (lw_at lw_m3 164 rfl) rfl
theorem q725 : (Jvm.Cond.code ({ cls := "java/lang/StringUTF16", name := "putCharSB", desc := "([BII)V" } : Jvm.MethodName) prog_28_method_71_code (3 : Nat) (Option.none : Option Jvm.ClassFile.FieldType)) ∈ lw_all := lw_g (lw_at lw_m3 165 rfl) rfl
theorem q726 : (Jvm.Cond.methodLink "java/lang/StringUTF16" (67 : Nat) ({ cls := "java/lang/StringUTF16", name := "checkIndex", desc := "(I[B)V" } : Jvm.MethodName)) ∈ lw_all := lw_g (lw_at lw_m3 166 rfl) rfl
theorem q727 : (Jvm.Cond.static ({ cls := "java/lang/StringUTF16", name := "checkIndex", desc := "(I[B)V" } : Jvm.MethodName)) ∈ lw_all := lw_g (lw_at lw_m3 167 rfl) rfl
theorem q728 : (Jvm.Cond.code ({ cls := "java/lang/StringUTF16", name := "checkIndex", desc := "(I[B)V" } : Jvm.MethodName) prog_28_method_91_code (2 : Nat) (Option.none : Option Jvm.ClassFile.FieldType)) ∈ lw_all := lw_g (lw_at lw_m3 168 rfl) rfl
theorem q729 : (Jvm.Cond.methodLink "java/lang/StringUTF16" (414 : Nat) ({ cls := "java/lang/String", name := "checkIndex", desc := "(II)V" } : Jvm.MethodName)) ∈ lw_all := lw_g (lw_at lw_m3 169 rfl) rfl
theorem q764 : (Jvm.Cond.static ({ cls := "java/lang/StringUTF16", name := "compress", desc := "([BII)[B" } : Jvm.MethodName)) ∈ lw_all := lw_g (lw_at lw_m3 204 rfl) rfl
theorem q765 : (Jvm.Cond.code ({ cls := "java/lang/StringUTF16", name := "compress", desc := "([BII)[B" } : Jvm.MethodName) prog_28_method_17_code (6 : Nat) (Option.some (Jvm.ClassFile.FieldType.array Jvm.ClassFile.FieldType.byte))) ∈ lw_all := lw_g (lw_at lw_m3 205 rfl) rfl
theorem q766 : (Jvm.Cond.methodLink "java/lang/StringUTF16" (123 : Nat) ({ cls := "java/lang/StringUTF16", name := "compress", desc := "([BI[BII)I" } : Jvm.MethodName)) ∈ lw_all := lw_g (lw_at lw_m3 206 rfl) rfl
theorem q767 : (Jvm.Cond.static ({ cls := "java/lang/StringUTF16", name := "compress", desc := "([BI[BII)I" } : Jvm.MethodName)) ∈ lw_all := lw_g (lw_at lw_m3 207 rfl) rfl
theorem q768 : (Jvm.Cond.code ({ cls := "java/lang/StringUTF16", name := "compress", desc := "([BI[BII)I" } : Jvm.MethodName) prog_28_method_22_code (7 : Nat) (Option.some Jvm.ClassFile.FieldType.int)) ∈ lw_all := lw_g (lw_at lw_m3 208 rfl) rfl
theorem q769 : (Jvm.Cond.methodLink "java/lang/StringUTF16" (71 : Nat) ({ cls := "java/lang/StringUTF16", name := "getChar", desc := "([BI)C" } : Jvm.MethodName)) ∈ lw_all := lw_g (lw_at lw_m3 209 rfl) rfl
theorem q770 : (Jvm.Cond.static ({ cls := "java/lang/StringUTF16", name := "getChar", desc := "([BI)C" } : Jvm.MethodName)) ∈ lw_all := lw_g (lw_at lw_m3 210 rfl) rfl
theorem q771 : (Jvm.Cond.code ({ cls := "java/lang/StringUTF16", name := "getChar", desc := "([BI)C" } : Jvm.MethodName) prog_28_method_5_code (2 : Nat) (Option.some Jvm.ClassFile.FieldType.char)) ∈ lw_all := lw_g (lw_at lw_m3 211 rfl) rfl
theorem q772 : (Jvm.Cond.methodLink "java/lang/StringUTF16" (126 : Nat) ({ cls := "java/util/Arrays", name := "copyOfRange", desc := "([BII)[B" } : Jvm.MethodName)) ∈ lw_all := lw_g (lw_at lw_m3 212 rfl) rfl
theorem q774 : (Jvm.Cond.static ({ cls := "java/lang/StringUTF16", name := "coderFromArrayLen", desc := "([BI)B" } : Jvm.MethodName)) ∈ lw_all := lw_g (lw_at lw_m3 214 rfl) rfl
theorem q775 : (Jvm.Cond.code ({ cls := "java/lang/StringUTF16", name := "coderFromArrayLen", desc := "([BI)B" } : Jvm.MethodName) prog_28_method_15_code (2 : Nat) (Option.some Jvm.ClassFile.FieldType.byte)) ∈ lw_all := lw_g (lw_at lw_m3 215 rfl) rfl
theorem q829 : (Jvm.Cond.static ({ cls := "java/lang/StringUTF16", name := "indexOf", desc := "([BIII)I" } : Jvm.MethodName)) ∈ lw_all := lw_g (lw_at lw_m4 29 rfl) rfl
theorem q830 : (Jvm.Cond.code ({ cls := "java/lang/StringUTF16", name := "indexOf", desc := "([BIII)I" } : Jvm.MethodName) prog_28_method_40_code (4 : Nat) (Option.some Jvm.ClassFile.FieldType.int)) ∈ lw_all := lw_g (lw_at lw_m4 30 rfl) rfl
theorem q831 : (Jvm.Cond.methodLink "java/lang/StringUTF16" (224 : Nat) ({ cls := "java/lang/Math", name := "max", desc := "(II)I" } : Jvm.MethodName)) ∈ lw_all := lw_g (lw_at lw_m4 31 rfl) rfl
theorem q832 : (Jvm.Cond.methodLink "java/lang/StringUTF16" (183 : Nat) ({ cls := "java/lang/Math", name := "min", desc := "(II)I" } : Jvm.MethodName)) ∈ lw_all := lw_g (lw_at lw_m4 32 rfl) rfl
theorem q833 : (Jvm.Cond.constant "java/lang/StringUTF16" (227 : Nat) (65536 : Int32)) ∈ lw_all := lw_g (lw_at lw_m4 33 rfl) rfl
theorem q834 : (Jvm.Cond.methodLink "java/lang/StringUTF16" (228 : Nat) ({ cls := "java/lang/StringUTF16", name := "indexOfChar", desc := "([BIII)I" } : Jvm.MethodName)) ∈ lw_all := lw_g (lw_at lw_m4 34 rfl) rfl
theorem q835 : (Jvm.Cond.static ({ cls := "java/lang/StringUTF16", name := "indexOfChar", desc := "([BIII)I" } : Jvm.MethodName)) ∈ lw_all := lw_g (lw_at lw_m4 35 rfl) rfl
theorem q836 : (Jvm.Cond.code ({ cls := "java/lang/StringUTF16", name := "indexOfChar", desc := "([BIII)I" } : Jvm.MethodName) prog_28_method_47_code (4 : Nat) (Option.some Jvm.ClassFile.FieldType.int)) ∈ lw_all := lw_g (lw_at lw_m4 36 rfl) rfl
theorem q837 : (Jvm.Cond.methodLink "java/lang/StringUTF16" (96 : Nat) ({ cls := "java/lang/StringUTF16", name := "checkBoundsBeginEnd", desc := "(II[B)V" } : Jvm.MethodName)) ∈ lw_all := lw_g (lw_at lw_m4 37 rfl) rfl
theorem q838 : (Jvm.Cond.static ({ cls := "java/lang/StringUTF16", name := "checkBoundsBeginEnd", desc := "(II[B)V" } : Jvm.MethodName)) ∈ lw_all := lw_g (lw_at lw_m4 38 rfl) rfl
theorem q839 : (Jvm.Cond.code ({ cls := "java/lang/StringUTF16", name := "checkBoundsBeginEnd", desc := "(II[B)V" } : Jvm.MethodName) prog_28_method_93_code (3 : Nat) (Option.none : Option Jvm.ClassFile.FieldType)) ∈ lw_all := lw_g (lw_at lw_m4 39 rfl) rfl
theorem q840 : (Jvm.Cond.methodLink "java/lang/StringUTF16" (241 : Nat) ({ cls := "java/lang/String", name := "checkBoundsBeginEnd", desc := "(III)V" } : Jvm.MethodName)) ∈ lw_all := lw_g (lw_at lw_m4 40 rfl) rfl
theorem q846 : (Jvm.Cond.methodLink "java/lang/StringUTF16" (244 : Nat) ({ cls := "java/lang/StringUTF16", name := "indexOfCharUnsafe", desc := "([BIII)I" } : Jvm.MethodName)) ∈ lw_all := lw_g (lw_at lw_m4 46 rfl) rfl
theorem q847 : (Jvm.Cond.static ({ cls := "java/lang/StringUTF16", name := "indexOfCharUnsafe", desc := "([BIII)I" } : Jvm.MethodName)) ∈ lw_all := lw_g (lw_at lw_m4 47 rfl) rfl
theorem q848 : (Jvm.Cond.code ({ cls := "java/lang/StringUTF16", name := "indexOfCharUnsafe", desc := "([BIII)I" } : Jvm.MethodName) prog_28_method_48_code (5 : Nat) (Option.some Jvm.ClassFile.FieldType.int)) ∈ lw_all := lw_g (lw_at lw_m4 48 rfl) rfl
theorem q849 : (Jvm.Cond.methodLink "java/lang/StringUTF16" (232 : Nat) ({ cls := "java/lang/StringUTF16", name := "indexOfSupplementary", desc := "([BIII)I" } : Jvm.MethodName)) ∈ lw_all := lw_g (lw_at lw_m4 49 rfl) rfl
theorem q850 : (Jvm.Cond.static ({ cls := "java/lang/StringUTF16", name := "indexOfSupplementary", desc := "([BIII)I" } : Jvm.MethodName)) ∈ lw_all := lw_g (lw_at lw_m4 50 rfl) rfl
theorem q851 : (Jvm.Cond.code ({ cls := "java/lang/StringUTF16", name := "indexOfSupplementary", desc := "([BIII)I" } : Jvm.MethodName) prog_28_method_49_code (7 : Nat) (Option.some Jvm.ClassFile.FieldType.int)) ∈ lw_all := lw_g (lw_at lw_m4 51 rfl) rfl
theorem q852 : (Jvm.Cond.methodLink "java/lang/StringUTF16" (164 : Nat) ({ cls := "java/lang/Character", name := "isValidCodePoint", desc := "(I)Z" } : Jvm.MethodName)) ∈ lw_all := lw_g (lw_at lw_m4 52 rfl) rfl
theorem q855 : (Jvm.Cond.methodLink "java/lang/StringUTF16" (157 : Nat) ({ cls := "java/lang/Character", name := "highSurrogate", desc := "(I)C" } : Jvm.MethodName)) ∈ lw_all := lw_g (lw_at lw_m4 55 rfl) rfl
theorem q859 : (Jvm.Cond.methodLink "java/lang/StringUTF16" (161 : Nat) ({ cls := "java/lang/Character", name := "lowSurrogate", desc := "(I)C" } : Jvm.MethodName)) ∈ lw_all := lw_g (lw_at lw_m4 59 rfl) rfl
/-! java/lang/StringLatin1 -/
set_option maxRecDepth 100000
def RJ13 : String := "java/lang/StringLatin1"
abbrev cJ13_canEncode : ByteArray := prog_27_method_3_code
def yJ13_canEncode : MethodName := ⟨RJ13, "canEncode", "(C)Z"⟩
theorem dJ13_canEncode_0 : decode cJ13_canEncode 0 = .ok (.iload_n 0, 1) := by decide +kernel
theorem dJ13_canEncode_1 : decode cJ13_canEncode 1 = .ok (.sipush 255, 3) := by decide +kernel
theorem dJ13_canEncode_4 : decode cJ13_canEncode 4 = .ok (.if_icmp .gt 7, 3) := by decide +kernel
theorem dJ13_canEncode_7 : decode cJ13_canEncode 7 = .ok (.iconst 1, 1) := by decide +kernel
theorem dJ13_canEncode_8 : decode cJ13_canEncode 8 = .ok (.goto 4, 3) := by decide +kernel
theorem dJ13_canEncode_11 : decode cJ13_canEncode 11 = .ok (.iconst 0, 1) := by decide +kernel
theorem dJ13_canEncode_12 : decode cJ13_canEncode 12 = .ok (.ireturn, 1) := by decide +kernel
abbrev cJ13_inflate : ByteArray := prog_27_method_50_code
def yJ13_inflate : MethodName := ⟨RJ13, "inflate", "([BI[BII)V"⟩
theorem dJ13_inflate_0 : decode cJ13_inflate 0 = .ok (.aload_n 0, 1) := by decide +kernel
theorem dJ13_inflate_1 : decode cJ13_inflate 1 = .ok (.iload_n 1, 1) := by decide +kernel
theorem dJ13_inflate_2 : decode cJ13_inflate 2 = .ok (.aload_n 2, 1) := by decide +kernel
theorem dJ13_inflate_3 : decode cJ13_inflate 3 = .ok (.iload_n 3, 1) := by decide +kernel
theorem dJ13_inflate_4 : decode cJ13_inflate 4 = .ok (.iload 4, 2) := by decide +kernel
theorem dJ13_inflate_6 : decode cJ13_inflate 6 = .ok (.invokestatic 240, 3) := by decide +kernel
theorem dJ13_inflate_9 : decode cJ13_inflate 9 = .ok (.return_, 1) := by decide +kernel
abbrev cJ13_indexOf : ByteArray := prog_27_method_22_code
def yJ13_indexOf : MethodName := ⟨RJ13, "indexOf", "([BIII)I"⟩
theorem dJ13_indexOf_0 : decode cJ13_indexOf 0 = .ok (.iload_n 1, 1) := by decide +kernel
theorem dJ13_indexOf_1 : decode cJ13_indexOf 1 = .ok (.invokestatic 88, 3) := by decide +kernel
theorem dJ13_indexOf_4 : decode cJ13_indexOf 4 = .ok (.ifCond .ne 5, 3) := by decide +kernel
theorem dJ13_indexOf_7 : decode cJ13_indexOf 7 = .ok (.iconst (-1), 1) := by decide +kernel
theorem dJ13_indexOf_8 : decode cJ13_indexOf 8 = .ok (.ireturn, 1) := by decide +kernel
theorem dJ13_indexOf_9 : decode cJ13_indexOf 9 = .ok (.iload_n 2, 1) := by decide +kernel
theorem dJ13_indexOf_10 : decode cJ13_indexOf 10 = .ok (.iconst 0, 1) := by decide +kernel
theorem dJ13_indexOf_11 : decode cJ13_indexOf 11 = .ok (.invokestatic 92, 3) := by decide +kernel
theorem dJ13_indexOf_14 : decode cJ13_indexOf 14 = .ok (.istore_n 2, 1) := by decide +kernel
theorem dJ13_indexOf_15 : decode cJ13_indexOf 15 = .ok (.iload_n 3, 1) := by decide +kernel
theorem dJ13_indexOf_16 : decode cJ13_indexOf 16 = .ok (.aload_n 0, 1) := by decide +kernel
theorem dJ13_indexOf_17 : decode cJ13_indexOf 17 = .ok (.arraylength, 1) := by decide +kernel
theorem dJ13_indexOf_18 : decode cJ13_indexOf 18 = .ok (.invokestatic 38, 3) := by decide +kernel
theorem dJ13_indexOf_21 : decode cJ13_indexOf 21 = .ok (.istore_n 3, 1) := by decide +kernel
theorem dJ13_indexOf_22 : decode cJ13_indexOf 22 = .ok (.iload_n 2, 1) := by decide +kernel
theorem dJ13_indexOf_23 : decode cJ13_indexOf 23 = .ok (.iload_n 3, 1) := by decide +kernel
theorem dJ13_indexOf_24 : decode cJ13_indexOf 24 = .ok (.if_icmp .lt 5, 3) := by decide +kernel
theorem dJ13_indexOf_27 : decode cJ13_indexOf 27 = .ok (.iconst (-1), 1) := by decide +kernel
theorem dJ13_indexOf_28 : decode cJ13_indexOf 28 = .ok (.ireturn, 1) := by decide +kernel
theorem dJ13_indexOf_29 : decode cJ13_indexOf 29 = .ok (.aload_n 0, 1) := by decide +kernel
theorem dJ13_indexOf_30 : decode cJ13_indexOf 30 = .ok (.iload_n 1, 1) := by decide +kernel
theorem dJ13_indexOf_31 : decode cJ13_indexOf 31 = .ok (.iload_n 2, 1) := by decide +kernel
theorem dJ13_indexOf_32 : decode cJ13_indexOf 32 = .ok (.iload_n 3, 1) := by decide +kernel
theorem dJ13_indexOf_33 : decode cJ13_indexOf 33 = .ok (.invokestatic 95, 3) := by decide +kernel
theorem dJ13_indexOf_36 : decode cJ13_indexOf 36 = .ok (.ireturn, 1) := by decide +kernel
abbrev cJ13_canEncode_2 : ByteArray := prog_27_method_4_code
def yJ13_canEncode_2 : MethodName := ⟨RJ13, "canEncode", "(I)Z"⟩
theorem dJ13_canEncode_2_0 : decode cJ13_canEncode_2 0 = .ok (.iload_n 0, 1) := by decide +kernel
theorem dJ13_canEncode_2_1 : decode cJ13_canEncode_2 1 = .ok (.ifCond .lt 14, 3) := by decide +kernel
theorem dJ13_canEncode_2_4 : decode cJ13_canEncode_2 4 = .ok (.iload_n 0, 1) := by decide +kernel
theorem dJ13_canEncode_2_5 : decode cJ13_canEncode_2 5 = .ok (.sipush 255, 3) := by decide +kernel
theorem dJ13_canEncode_2_8 : decode cJ13_canEncode_2 8 = .ok (.if_icmp .gt 7, 3) := by decide +kernel
theorem dJ13_canEncode_2_11 : decode cJ13_canEncode_2 11 = .ok (.iconst 1, 1) := by decide +kernel
theorem dJ13_canEncode_2_12 : decode cJ13_canEncode_2 12 = .ok (.goto 4, 3) := by decide +kernel
theorem dJ13_canEncode_2_15 : decode cJ13_canEncode_2 15 = .ok (.iconst 0, 1) := by decide +kernel
theorem dJ13_canEncode_2_16 : decode cJ13_canEncode_2 16 = .ok (.ireturn, 1) := by decide +kernel
abbrev cJ13_indexOfChar : ByteArray := prog_27_method_23_code
def yJ13_indexOfChar : MethodName := ⟨RJ13, "indexOfChar", "([BIII)I"⟩
theorem dJ13_indexOfChar_0 : decode cJ13_indexOfChar 0 = .ok (.iload_n 1, 1) := by decide +kernel
theorem dJ13_indexOfChar_1 : decode cJ13_indexOfChar 1 = .ok (.i2b, 1) := by decide +kernel
theorem dJ13_indexOfChar_2 : decode cJ13_indexOfChar 2 = .ok (.istore 4, 2) := by decide +kernel
theorem dJ13_indexOfChar_4 : decode cJ13_indexOfChar 4 = .ok (.iload_n 2, 1) := by decide +kernel
theorem dJ13_indexOfChar_5 : decode cJ13_indexOfChar 5 = .ok (.istore 5, 2) := by decide +kernel
theorem dJ13_indexOfChar_7 : decode cJ13_indexOfChar 7 = .ok (.iload 5, 2) := by decide +kernel
theorem dJ13_indexOfChar_9 : decode cJ13_indexOfChar 9 = .ok (.iload_n 3, 1) := by decide +kernel
theorem dJ13_indexOfChar_10 : decode cJ13_indexOfChar 10 = .ok (.if_icmp .ge 21, 3) := by decide +kernel
theorem dJ13_indexOfChar_13 : decode cJ13_indexOfChar 13 = .ok (.aload_n 0, 1) := by decide +kernel
theorem dJ13_indexOfChar_14 : decode cJ13_indexOfChar 14 = .ok (.iload 5, 2) := by decide +kernel
theorem dJ13_indexOfChar_16 : decode cJ13_indexOfChar 16 = .ok (.baload, 1) := by decide +kernel
theorem dJ13_indexOfChar_17 : decode cJ13_indexOfChar 17 = .ok (.iload 4, 2) := by decide +kernel
theorem dJ13_indexOfChar_19 : decode cJ13_indexOfChar 19 = .ok (.if_icmp .ne 6, 3) := by decide +kernel
theorem dJ13_indexOfChar_22 : decode cJ13_indexOfChar 22 = .ok (.iload 5, 2) := by decide +kernel
theorem dJ13_indexOfChar_24 : decode cJ13_indexOfChar 24 = .ok (.ireturn, 1) := by decide +kernel
theorem dJ13_indexOfChar_25 : decode cJ13_indexOfChar 25 = .ok (.iinc 5 1, 3) := by decide +kernel
theorem dJ13_indexOfChar_28 : decode cJ13_indexOfChar 28 = .ok (.goto (-21), 3) := by decide +kernel
theorem dJ13_indexOfChar_31 : decode cJ13_indexOfChar 31 = .ok (.iconst (-1), 1) := by decide +kernel
theorem dJ13_indexOfChar_32 : decode cJ13_indexOfChar 32 = .ok (.ireturn, 1) := by decide +kernel
abbrev cJ13_equals : ByteArray := prog_27_method_13_code
def yJ13_equals : MethodName := ⟨RJ13, "equals", "([B[B)Z"⟩
theorem dJ13_equals_0 : decode cJ13_equals 0 = .ok (.aload_n 0, 1) := by decide +kernel
theorem dJ13_equals_1 : decode cJ13_equals 1 = .ok (.arraylength, 1) := by decide +kernel
theorem dJ13_equals_2 : decode cJ13_equals 2 = .ok (.aload_n 1, 1) := by decide +kernel
theorem dJ13_equals_3 : decode cJ13_equals 3 = .ok (.arraylength, 1) := by decide +kernel
theorem dJ13_equals_4 : decode cJ13_equals 4 = .ok (.if_icmp .ne 30, 3) := by decide +kernel
theorem dJ13_equals_7 : decode cJ13_equals 7 = .ok (.iconst 0, 1) := by decide +kernel
theorem dJ13_equals_8 : decode cJ13_equals 8 = .ok (.istore_n 2, 1) := by decide +kernel
theorem dJ13_equals_9 : decode cJ13_equals 9 = .ok (.iload_n 2, 1) := by decide +kernel
theorem dJ13_equals_10 : decode cJ13_equals 10 = .ok (.aload_n 0, 1) := by decide +kernel
theorem dJ13_equals_11 : decode cJ13_equals 11 = .ok (.arraylength, 1) := by decide +kernel
theorem dJ13_equals_12 : decode cJ13_equals 12 = .ok (.if_icmp .ge 20, 3) := by decide +kernel
theorem dJ13_equals_15 : decode cJ13_equals 15 = .ok (.aload_n 0, 1) := by decide +kernel
theorem dJ13_equals_16 : decode cJ13_equals 16 = .ok (.iload_n 2, 1) := by decide +kernel
theorem dJ13_equals_17 : decode cJ13_equals 17 = .ok (.baload, 1) := by decide +kernel
theorem dJ13_equals_18 : decode cJ13_equals 18 = .ok (.aload_n 1, 1) := by decide +kernel
theorem dJ13_equals_19 : decode cJ13_equals 19 = .ok (.iload_n 2, 1) := by decide +kernel
theorem dJ13_equals_20 : decode cJ13_equals 20 = .ok (.baload, 1) := by decide +kernel
theorem dJ13_equals_21 : decode cJ13_equals 21 = .ok (.if_icmp .eq 5, 3) := by decide +kernel
theorem dJ13_equals_24 : decode cJ13_equals 24 = .ok (.iconst 0, 1) := by decide +kernel
theorem dJ13_equals_25 : decode cJ13_equals 25 = .ok (.ireturn, 1) := by decide +kernel
theorem dJ13_equals_26 : decode cJ13_equals 26 = .ok (.iinc 2 1, 3) := by decide +kernel
theorem dJ13_equals_29 : decode cJ13_equals 29 = .ok (.goto (-20), 3) := by decide +kernel
theorem dJ13_equals_32 : decode cJ13_equals 32 = .ok (.iconst 1, 1) := by decide +kernel
theorem dJ13_equals_33 : decode cJ13_equals 33 = .ok (.ireturn, 1) := by decide +kernel
theorem dJ13_equals_34 : decode cJ13_equals 34 = .ok (.iconst 0, 1) := by decide +kernel
theorem dJ13_equals_35 : decode cJ13_equals 35 = .ok (.ireturn, 1) := by decide +kernel
theorem q104 : (Jvm.Cond.initialized "java/lang/StringLatin1") ∈ lw_all := lw_g (lw_at lw_m1 24 rfl) rfl
theorem q688 : (Jvm.Cond.static ({ cls := "java/lang/StringLatin1", name := "canEncode", desc := "(C)Z" } : Jvm.MethodName)) ∈ lw_all := lw_g (lw_at lw_m3 128 rfl) rfl
theorem q689 : (Jvm.Cond.code ({ cls := "java/lang/StringLatin1", name := "canEncode", desc := "(C)Z" } : Jvm.MethodName) prog_27_method_3_code (1 : Nat) (Option.some Jvm.ClassFile.FieldType.boolean)) ∈ lw_all := lw_g (lw_at lw_m3 129 rfl) rfl
theorem q695 : (Jvm.Cond.static ({ cls := "java/lang/StringLatin1", name := "inflate", desc := "([BI[BII)V" } : Jvm.MethodName)) ∈ lw_all := lw_g (lw_at lw_m3 135 rfl) rfl
theorem q696 : (Jvm.Cond.code ({ cls := "java/lang/StringLatin1", name := "inflate", desc := "([BI[BII)V" } : Jvm.MethodName) prog_27_method_50_code (5 : Nat) (Option.none : Option Jvm.ClassFile.FieldType)) ∈ lw_all := lw_g (lw_at lw_m3 136 rfl) rfl
theorem q697 : (Jvm.Cond.methodLink "java/lang/StringLatin1" (240 : Nat) ({ cls := "java/lang/StringUTF16", name := "inflate", desc := "([BI[BII)V" } : Jvm.MethodName)) ∈ lw_all := lw_g (lw_at lw_m3 137 rfl) rfl
theorem q818 : (Jvm.Cond.static ({ cls := "java/lang/StringLatin1", name := "indexOf", desc := "([BIII)I" } : Jvm.MethodName)) ∈ lw_all := lw_g (lw_at lw_m4 18 rfl) rfl
theorem q819 : (Jvm.Cond.code ({ cls := "java/lang/StringLatin1", name := "indexOf", desc := "([BIII)I" } : Jvm.MethodName) prog_27_method_22_code (4 : Nat) (Option.some Jvm.ClassFile.FieldType.int)) ∈ lw_all := lw_g (lw_at lw_m4 19 rfl) rfl
theorem q820 : (Jvm.Cond.methodLink "java/lang/StringLatin1" (88 : Nat) ({ cls := "java/lang/StringLatin1", name := "canEncode", desc := "(I)Z" } : Jvm.MethodName)) ∈ lw_all := lw_g (lw_at lw_m4 20 rfl) rfl
theorem q821 : (Jvm.Cond.static ({ cls := "java/lang/StringLatin1", name := "canEncode", desc := "(I)Z" } : Jvm.MethodName)) ∈ lw_all := lw_g (lw_at lw_m4 21 rfl) rfl
theorem q822 : (Jvm.Cond.code ({ cls := "java/lang/StringLatin1", name := "canEncode", desc := "(I)Z" } : Jvm.MethodName) prog_27_method_4_code (1 : Nat) (Option.some Jvm.ClassFile.FieldType.boolean)) ∈ lw_all := lw_g (lw_at lw_m4 22 rfl) rfl
theorem q823 : (Jvm.Cond.methodLink "java/lang/StringLatin1" (92 : Nat) ({ cls := "java/lang/Math", name := "max", desc := "(II)I" } : Jvm.MethodName)) ∈ lw_all := lw_g (lw_at lw_m4 23 rfl) rfl
theorem q824 : (Jvm.Cond.methodLink "java/lang/StringLatin1" (38 : Nat) ({ cls := "java/lang/Math", name := "min", desc := "(II)I" } : Jvm.MethodName)) ∈ lw_all := lw_g (lw_at lw_m4 24 rfl) rfl
theorem q825 : (Jvm.Cond.methodLink "java/lang/StringLatin1" (95 : Nat) ({ cls := "java/lang/StringLatin1", name := "indexOfChar", desc := "([BIII)I" } : Jvm.MethodName)) ∈ lw_all := lw_g (lw_at lw_m4 25 rfl) rfl
theorem q826 : (Jvm.Cond.static ({ cls := "java/lang/StringLatin1", name := "indexOfChar", desc := "([BIII)I" } : Jvm.MethodName)) ∈ lw_all := lw_g (lw_at lw_m4 26 rfl) rfl
theorem q827 : (Jvm.Cond.code ({ cls := "java/lang/StringLatin1", name := "indexOfChar", desc := "([BIII)I" } : Jvm.MethodName) prog_27_method_23_code (6 : Nat) (Option.some Jvm.ClassFile.FieldType.int)) ∈ lw_all := lw_g (lw_at lw_m4 27 rfl) rfl
theorem q1007 : (Jvm.Cond.static ({ cls := "java/lang/StringLatin1", name := "equals", desc := "([B[B)Z" } : Jvm.MethodName)) ∈ lw_all := lw_g (lw_at lw_m4 207 rfl) rfl
theorem q1008 : (Jvm.Cond.code ({ cls := "java/lang/StringLatin1", name := "equals", desc := "([B[B)Z" } : Jvm.MethodName) prog_27_method_13_code (3 : Nat) (Option.some Jvm.ClassFile.FieldType.boolean)) ∈ lw_all := lw_g (lw_at lw_m4 208 rfl) rfl
/-! java/lang/Character -/
set_option maxRecDepth 100000
def RJ14 : String := "java/lang/Character"
abbrev cJ14_isValidCodePoint : ByteArray := prog_18_method_11_code
def yJ14_isValidCodePoint : MethodName := ⟨RJ14, "isValidCodePoint", "(I)Z"⟩
theorem dJ14_isValidCodePoint_0 : decode cJ14_isValidCodePoint 0 = .ok (.iload_n 0, 1) := by decide +kernel
theorem dJ14_isValidCodePoint_1 : decode cJ14_isValidCodePoint 1 = .ok (.bipush 16, 2) := by decide +kernel
theorem dJ14_isValidCodePoint_3 : decode cJ14_isValidCodePoint 3 = .ok (.iushr, 1) := by decide +kernel
theorem dJ14_isValidCodePoint_4 : decode cJ14_isValidCodePoint 4 = .ok (.istore_n 1, 1) := by decide +kernel
theorem dJ14_isValidCodePoint_5 : decode cJ14_isValidCodePoint 5 = .ok (.iload_n 1, 1) := by decide +kernel
theorem dJ14_isValidCodePoint_6 : decode cJ14_isValidCodePoint 6 = .ok (.bipush 17, 2) := by decide +kernel
theorem dJ14_isValidCodePoint_8 : decode cJ14_isValidCodePoint 8 = .ok (.if_icmp .ge 7, 3) := by decide +kernel
theorem dJ14_isValidCodePoint_11 : decode cJ14_isValidCodePoint 11 = .ok (.iconst 1, 1) := by decide +kernel
theorem dJ14_isValidCodePoint_12 : decode cJ14_isValidCodePoint 12 = .ok (.goto 4, 3) := by decide +kernel
theorem dJ14_isValidCodePoint_15 : decode cJ14_isValidCodePoint 15 = .ok (.iconst 0, 1) := by decide +kernel
theorem dJ14_isValidCodePoint_16 : decode cJ14_isValidCodePoint 16 = .ok (.ireturn, 1) := by decide +kernel
abbrev cJ14_highSurrogate : ByteArray := prog_18_method_28_code
def yJ14_highSurrogate : MethodName := ⟨RJ14, "highSurrogate", "(I)C"⟩
theorem dJ14_highSurrogate_0 : decode cJ14_highSurrogate 0 = .ok (.iload_n 0, 1) := by decide +kernel
theorem dJ14_highSurrogate_1 : decode cJ14_highSurrogate 1 = .ok (.bipush 10, 2) := by decide +kernel
theorem dJ14_highSurrogate_3 : decode cJ14_highSurrogate 3 = .ok (.iushr, 1) := by decide +kernel
theorem dJ14_highSurrogate_4 : decode cJ14_highSurrogate 4 = .ok (.ldc 110, 2) := by decide +kernel
theorem dJ14_highSurrogate_6 : decode cJ14_highSurrogate 6 = .ok (.iadd, 1) := by decide +kernel
theorem dJ14_highSurrogate_7 : decode cJ14_highSurrogate 7 = .ok (.i2c, 1) := by decide +kernel
theorem dJ14_highSurrogate_8 : decode cJ14_highSurrogate 8 = .ok (.ireturn, 1) := by decide +kernel
abbrev cJ14_lowSurrogate : ByteArray := prog_18_method_29_code
def yJ14_lowSurrogate : MethodName := ⟨RJ14, "lowSurrogate", "(I)C"⟩
theorem dJ14_lowSurrogate_0 : decode cJ14_lowSurrogate 0 = .ok (.iload_n 0, 1) := by decide +kernel
theorem dJ14_lowSurrogate_1 : decode cJ14_lowSurrogate 1 = .ok (.sipush 1023, 3) := by decide +kernel
theorem dJ14_lowSurrogate_4 : decode cJ14_lowSurrogate 4 = .ok (.iand, 1) := by decide +kernel
theorem dJ14_lowSurrogate_5 : decode cJ14_lowSurrogate 5 = .ok (.ldc 76, 2) := by decide +kernel
theorem dJ14_lowSurrogate_7 : decode cJ14_lowSurrogate 7 = .ok (.iadd, 1) := by decide +kernel
theorem dJ14_lowSurrogate_8 : decode cJ14_lowSurrogate 8 = .ok (.i2c, 1) := by decide +kernel
theorem dJ14_lowSurrogate_9 : decode cJ14_lowSurrogate 9 = .ok (.ireturn, 1) := by decide +kernel
theorem q105 : (Jvm.Cond.initialized "java/lang/Character") ∈ lw_all := lw_g (lw_at lw_m1 25 rfl) rfl
theorem q853 : (Jvm.Cond.static ({ cls := "java/lang/Character", name := "isValidCodePoint", desc := "(I)Z" } : Jvm.MethodName)) ∈ lw_all := lw_g (lw_at lw_m4 53 rfl) rfl
theorem q854 : (Jvm.Cond.code ({ cls := "java/lang/Character", name := "isValidCodePoint", desc := "(I)Z" } : Jvm.MethodName) prog_18_method_11_code (2 : Nat) (Option.some Jvm.ClassFile.FieldType.boolean)) ∈ lw_all := lw_g (lw_at lw_m4 54 rfl) rfl
theorem q856 : (Jvm.Cond.static ({ cls := "java/lang/Character", name := "highSurrogate", desc := "(I)C" } : Jvm.MethodName)) ∈ lw_all := lw_g (lw_at lw_m4 56 rfl) rfl
theorem q857 : (Jvm.Cond.code ({ cls := "java/lang/Character", name := "highSurrogate", desc := "(I)C" } : Jvm.MethodName) prog_18_method_28_code (1 : Nat) (Option.some Jvm.ClassFile.FieldType.char)) ∈ lw_all := lw_g (lw_at lw_m4 57 rfl) rfl
theorem q858 : (Jvm.Cond.constant "java/lang/Character" (110 : Nat) (55232 : Int32)) ∈ lw_all := lw_g (lw_at lw_m4 58 rfl) rfl
theorem q860 : (Jvm.Cond.static ({ cls := "java/lang/Character", name := "lowSurrogate", desc := "(I)C" } : Jvm.MethodName)) ∈ lw_all := lw_g (lw_at lw_m4 60 rfl) rfl
theorem q861 : (Jvm.Cond.code ({ cls := "java/lang/Character", name := "lowSurrogate", desc := "(I)C" } : Jvm.MethodName) prog_18_method_29_code (1 : Nat) (Option.some Jvm.ClassFile.FieldType.char)) ∈ lw_all := lw_g (lw_at lw_m4 61 rfl) rfl
theorem q862 : (Jvm.Cond.constant "java/lang/Character" (76 : Nat) (56320 : Int32)) ∈ lw_all := lw_g (lw_at lw_m4 62 rfl) rfl
/-! java/lang/Throwable -/
set_option maxRecDepth 100000
def RJ15 : String := "java/lang/Throwable"
def TJ15 : u_T := fun k => match k with
  | 0 => ("java/lang/Throwable", "cause", "Ljava/lang/Throwable;", false)
  | 1 => ("java/lang/Throwable", "stackTrace", "[Ljava/lang/StackTraceElement;", false)
  | 2 => ("java/lang/Throwable", "suppressedExceptions", "Ljava/util/List;", false)
  | 3 => ("java/lang/Throwable", "detailMessage", "Ljava/lang/String;", false)
  | _ => ("java/lang/Throwable", "backtrace", "Ljava/lang/Object;", false)
def tyJ15 : Nat → FieldType := fun k => match k with
  | 0 => .object "java/lang/Throwable"
  | 1 => .array (.object "java/lang/StackTraceElement")
  | 2 => .object "java/util/List"
  | 3 => .object "java/lang/String"
  | _ => .object "java/lang/Object"
abbrev wsJ150 : List Cond := u_ws RJ15 TJ15 5
theorem nmJ15 : ∀ a, a < 5 → ∀ b, b < 5 → a ≠ b → (TJ15 a).2.1 ≠ (TJ15 b).2.1 := by decide +kernel
theorem tyJ15_ok : ∀ k, k < 5 → parseFieldDescriptor (TJ15 k).2.2.1 = some (tyJ15 k) := by decide +kernel
abbrev cJ15_init : ByteArray := prog_30_method_1_code
def yJ15_init : MethodName := ⟨RJ15, "<init>", "()V"⟩
theorem dJ15_init_0 : decode cJ15_init 0 = .ok (.aload_n 0, 1) := by decide +kernel
theorem dJ15_init_1 : decode cJ15_init 1 = .ok (.invokespecial 1, 3) := by decide +kernel
theorem dJ15_init_4 : decode cJ15_init 4 = .ok (.aload_n 0, 1) := by decide +kernel
theorem dJ15_init_5 : decode cJ15_init 5 = .ok (.aload_n 0, 1) := by decide +kernel
theorem dJ15_init_6 : decode cJ15_init 6 = .ok (.putfield 7, 3) := by decide +kernel
theorem dJ15_init_9 : decode cJ15_init 9 = .ok (.aload_n 0, 1) := by decide +kernel
theorem dJ15_init_10 : decode cJ15_init 10 = .ok (.getstatic 13, 3) := by decide +kernel
theorem dJ15_init_13 : decode cJ15_init 13 = .ok (.putfield 17, 3) := by decide +kernel
theorem dJ15_init_16 : decode cJ15_init 16 = .ok (.aload_n 0, 1) := by decide +kernel
theorem dJ15_init_17 : decode cJ15_init 17 = .ok (.getstatic 20, 3) := by decide +kernel
theorem dJ15_init_20 : decode cJ15_init 20 = .ok (.putfield 24, 3) := by decide +kernel
theorem dJ15_init_23 : decode cJ15_init 23 = .ok (.aload_n 0, 1) := by decide +kernel
theorem dJ15_init_24 : decode cJ15_init 24 = .ok (.invokevirtual 27, 3) := by decide +kernel
theorem dJ15_init_27 : decode cJ15_init 27 = .ok (.pop, 1) := by decide +kernel
theorem dJ15_init_28 : decode cJ15_init 28 = .ok (.return_, 1) := by decide +kernel
theorem q106 : (Jvm.Cond.initialized "java/lang/Throwable") ∈ lw_all := lw_g (lw_at lw_m1 26 rfl) rfl
theorem q911 : (Jvm.Cond.declares ({ cls := "java/lang/Throwable", name := "<init>", desc := "()V" } : Jvm.MethodName)) ∈ lw_tbl := lw_at lw_m4 111 rfl
theorem q912 : (Jvm.Cond.declares ({ cls := "java/lang/Throwable", name := "<init>", desc := "(Ljava/lang/String;)V" } : Jvm.MethodName)) ∈ lw_tbl := lw_at lw_m4 112 rfl
theorem q916 : (Jvm.Cond.lays "java/lang/Throwable" "java/lang/Throwable" "cause" "Ljava/lang/Throwable;") ∈ lw_all := lw_g (lw_at lw_m4 116 rfl) rfl
theorem q918 : (Jvm.Cond.lays "java/lang/Throwable" "java/lang/Throwable" "stackTrace" "[Ljava/lang/StackTraceElement;") ∈ lw_all := lw_g (lw_at lw_m4 118 rfl) rfl
theorem q920 : (Jvm.Cond.lays "java/lang/Throwable" "java/lang/Throwable" "suppressedExceptions" "Ljava/util/List;") ∈ lw_all := lw_g (lw_at lw_m4 120 rfl) rfl
theorem q922 : (Jvm.Cond.lays "java/lang/Throwable" "java/lang/Throwable" "detailMessage" "Ljava/lang/String;") ∈ lw_all := lw_g (lw_at lw_m4 122 rfl) rfl
theorem q924 : (Jvm.Cond.lays "java/lang/Throwable" "java/lang/Throwable" "backtrace" "Ljava/lang/Object;") ∈ lw_all := lw_g (lw_at lw_m4 124 rfl) rfl
theorem q925 : (Jvm.Cond.fieldLink "java/lang/Throwable" (198 : Nat) "java/lang/Throwable" "backtrace" "Ljava/lang/Object;") ∈ lw_all := lw_g (lw_at lw_m4 125 rfl) rfl
theorem q926 : (Jvm.Cond.superclass "java/lang/Throwable" "java/lang/Object") ∈ lw_all := lw_g (lw_at lw_m4 126 rfl) rfl
theorem q927 : (Jvm.Cond.instanceMethod ({ cls := "java/lang/Throwable", name := "<init>", desc := "()V" } : Jvm.MethodName)) ∈ lw_all := lw_g (lw_at lw_m4 127 rfl) rfl
theorem q928 : (Jvm.Cond.code ({ cls := "java/lang/Throwable", name := "<init>", desc := "()V" } : Jvm.MethodName) prog_30_method_1_code (1 : Nat) (Option.none : Option Jvm.ClassFile.FieldType)) ∈ lw_all := lw_g (lw_at lw_m4 128 rfl) rfl
theorem q929 : (Jvm.Cond.methodLink "java/lang/Throwable" (1 : Nat) ({ cls := "java/lang/Object", name := "<init>", desc := "()V" } : Jvm.MethodName)) ∈ lw_all := lw_g (lw_at lw_m4 129 rfl) rfl
theorem q930 : (Jvm.Cond.fieldLink "java/lang/Throwable" (13 : Nat) "java/lang/Throwable" "UNASSIGNED_STACK" "[Ljava/lang/StackTraceElement;") ∈ lw_all := lw_g (lw_at lw_m4 130 rfl) rfl
theorem q931 : (Jvm.Cond.laysStatic "java/lang/Throwable" "UNASSIGNED_STACK" "[Ljava/lang/StackTraceElement;") ∈ lw_tbl := lw_at lw_m4 131 rfl
theorem q932 : (Jvm.Cond.fieldLink "java/lang/Throwable" (20 : Nat) "java/lang/Throwable" "SUPPRESSED_SENTINEL" "Ljava/util/List;") ∈ lw_all := lw_g (lw_at lw_m4 132 rfl) rfl
theorem q933 : (Jvm.Cond.laysStatic "java/lang/Throwable" "SUPPRESSED_SENTINEL" "Ljava/util/List;") ∈ lw_tbl := lw_at lw_m4 133 rfl
theorem q934 : (Jvm.Cond.methodLink "java/lang/Throwable" (27 : Nat) ({ cls := "java/lang/Throwable", name := "fillInStackTrace", desc := "()Ljava/lang/Throwable;" } : Jvm.MethodName)) ∈ lw_all := lw_g (lw_at lw_m4 134 rfl) rfl
theorem q935 : (Jvm.Cond.instanceMethod ({ cls := "java/lang/Throwable", name := "fillInStackTrace", desc := "()Ljava/lang/Throwable;" } : Jvm.MethodName)) ∈ lw_all := lw_g (lw_at lw_m4 135 rfl) rfl
theorem q936 : (Jvm.Cond.sameMethod "java/lang/Throwable" "java/lang/Throwable" "fillInStackTrace" "()Ljava/lang/Throwable;") ∈ lw_all := lw_g (lw_at lw_m4 136 rfl) rfl
theorem q937 : (Jvm.Cond.codeSync ({ cls := "java/lang/Throwable", name := "fillInStackTrace", desc := "()Ljava/lang/Throwable;" } : Jvm.MethodName) prog_30_method_18_code (1 : Nat) (Option.some (Jvm.ClassFile.FieldType.object "java/lang/Throwable"))) ∈ lw_all := lw_g (lw_at lw_m4 137 rfl) rfl
theorem q938 : (Jvm.Cond.methodLink "java/lang/Throwable" (202 : Nat) ({ cls := "java/lang/Throwable", name := "fillInStackTrace", desc := "(I)Ljava/lang/Throwable;" } : Jvm.MethodName)) ∈ lw_all := lw_g (lw_at lw_m4 138 rfl) rfl
theorem q939 : (Jvm.Cond.privateMethod ({ cls := "java/lang/Throwable", name := "fillInStackTrace", desc := "(I)Ljava/lang/Throwable;" } : Jvm.MethodName)) ∈ lw_tbl := lw_at lw_m4 139 rfl
theorem q940 : (Jvm.Cond.instanceMethod ({ cls := "java/lang/Throwable", name := "fillInStackTrace", desc := "(I)Ljava/lang/Throwable;" } : Jvm.MethodName)) ∈ lw_all := lw_g (lw_at lw_m4 140 rfl) rfl
theorem q941 : (Jvm.Cond.instantiable "java/lang/Throwable" (6 : Nat)) ∈ lw_all := lw_g (lw_at lw_m4 141 rfl) rfl
theorem q942 : (Jvm.Cond.native ({ cls := "java/lang/Throwable", name := "fillInStackTrace", desc := "(I)Ljava/lang/Throwable;" } : Jvm.MethodName)) ∈ lw_all := lw_g (lw_at lw_m4 142 rfl) rfl
theorem q954 : (Jvm.Cond.fieldLink "java/lang/Throwable" (198 : Nat) "java/lang/Throwable" "backtrace" "Ljava/lang/Object;") ∈ lw_all := lw_g (lw_at lw_m4 154 rfl) rfl
theorem q955 : (Jvm.Cond.fieldLink "java/lang/Throwable" (7 : Nat) "java/lang/Throwable" "cause" "Ljava/lang/Throwable;") ∈ lw_all := lw_g (lw_at lw_m4 155 rfl) rfl
theorem q956 : (Jvm.Cond.fieldLink "java/lang/Throwable" (17 : Nat) "java/lang/Throwable" "stackTrace" "[Ljava/lang/StackTraceElement;") ∈ lw_all := lw_g (lw_at lw_m4 156 rfl) rfl
theorem q957 : (Jvm.Cond.fieldLink "java/lang/Throwable" (24 : Nat) "java/lang/Throwable" "suppressedExceptions" "Ljava/util/List;") ∈ lw_all := lw_g (lw_at lw_m4 157 rfl) rfl
theorem q962 : (Jvm.Cond.soleField "java/lang/Throwable" "backtrace") ∈ lw_all := lw_g (lw_at lw_m4 162 rfl) rfl
theorem q963 : (Jvm.Cond.soleField "java/lang/Throwable" "detailMessage") ∈ lw_all := lw_g (lw_at lw_m4 163 rfl) rfl
theorem q964 : (Jvm.Cond.soleField "java/lang/Throwable" "cause") ∈ lw_all := lw_g (lw_at lw_m4 164 rfl) rfl
theorem q965 : (Jvm.Cond.soleField "java/lang/Throwable" "stackTrace") ∈ lw_all := lw_g (lw_at lw_m4 165 rfl) rfl
theorem q967 : (Jvm.Cond.soleField "java/lang/Throwable" "depth") ∈ lw_all := lw_g (lw_at lw_m4 167 rfl) rfl
theorem q968 : (Jvm.Cond.soleField "java/lang/Throwable" "suppressedExceptions") ∈ lw_all := lw_g (lw_at lw_m4 168 rfl) rfl
theorem q2005 : (Jvm.Cond.sameMethod "java/lang/Throwable" "java/lang/Throwable" "fillInStackTrace" "(I)Ljava/lang/Throwable;") ∈ lw_all := lw_g (lw_at lw_m9 5 rfl) rfl
theorem q2023 : (Jvm.Cond.castable "java/lang/Throwable" "java/lang/Object") ∈ lw_tbl := lw_at lw_m9 23 rfl
theorem in_J15 : ∀ w ∈ wsJ150, w ∈ lw_all := lw_in wsJ150 [916, 918, 920, 922, 924] (by decide +kernel) (by decide +kernel)
/-! java/lang/Exception -/
set_option maxRecDepth 100000
def RJ16 : String := "java/lang/Exception"
abbrev cJ16_init : ByteArray := prog_21_method_1_code
def yJ16_init : MethodName := ⟨RJ16, "<init>", "()V"⟩
theorem dJ16_init_0 : decode cJ16_init 0 = .ok (.aload_n 0, 1) := by decide +kernel
theorem dJ16_init_1 : decode cJ16_init 1 = .ok (.invokespecial 1, 3) := by decide +kernel
theorem dJ16_init_4 : decode cJ16_init 4 = .ok (.return_, 1) := by decide +kernel
theorem q107 : (Jvm.Cond.initialized "java/lang/Exception") ∈ lw_all := lw_g (lw_at lw_m1 27 rfl) rfl
theorem q909 : (Jvm.Cond.declares ({ cls := "java/lang/Exception", name := "<init>", desc := "()V" } : Jvm.MethodName)) ∈ lw_tbl := lw_at lw_m4 109 rfl
theorem q910 : (Jvm.Cond.declares ({ cls := "java/lang/Exception", name := "<init>", desc := "(Ljava/lang/String;)V" } : Jvm.MethodName)) ∈ lw_tbl := lw_at lw_m4 110 rfl
theorem q947 : (Jvm.Cond.instanceMethod ({ cls := "java/lang/Exception", name := "<init>", desc := "()V" } : Jvm.MethodName)) ∈ lw_all := lw_g (lw_at lw_m4 147 rfl) rfl
theorem q948 : (Jvm.Cond.code ({ cls := "java/lang/Exception", name := "<init>", desc := "()V" } : Jvm.MethodName) prog_21_method_1_code (1 : Nat) (Option.none : Option Jvm.ClassFile.FieldType)) ∈ lw_all := lw_g (lw_at lw_m4 148 rfl) rfl
theorem q949 : (Jvm.Cond.methodLink "java/lang/Exception" (1 : Nat) ({ cls := "java/lang/Throwable", name := "<init>", desc := "()V" } : Jvm.MethodName)) ∈ lw_all := lw_g (lw_at lw_m4 149 rfl) rfl
/-! java/lang/Integer -/
set_option maxRecDepth 100000
def RJ17 : String := "java/lang/Integer"
abbrev cJ17_bitCount : ByteArray := prog_22_method_49_code
def yJ17_bitCount : MethodName := ⟨RJ17, "bitCount", "(I)I"⟩
theorem dJ17_bitCount_0 : decode cJ17_bitCount 0 = .ok (.iload_n 0, 1) := by decide +kernel
theorem dJ17_bitCount_1 : decode cJ17_bitCount 1 = .ok (.iload_n 0, 1) := by decide +kernel
theorem dJ17_bitCount_2 : decode cJ17_bitCount 2 = .ok (.iconst 1, 1) := by decide +kernel
theorem dJ17_bitCount_3 : decode cJ17_bitCount 3 = .ok (.iushr, 1) := by decide +kernel
theorem dJ17_bitCount_4 : decode cJ17_bitCount 4 = .ok (.ldc_w 265, 3) := by decide +kernel
theorem dJ17_bitCount_7 : decode cJ17_bitCount 7 = .ok (.iand, 1) := by decide +kernel
theorem dJ17_bitCount_8 : decode cJ17_bitCount 8 = .ok (.isub, 1) := by decide +kernel
theorem dJ17_bitCount_9 : decode cJ17_bitCount 9 = .ok (.istore_n 0, 1) := by decide +kernel
theorem dJ17_bitCount_10 : decode cJ17_bitCount 10 = .ok (.iload_n 0, 1) := by decide +kernel
theorem dJ17_bitCount_11 : decode cJ17_bitCount 11 = .ok (.ldc_w 266, 3) := by decide +kernel
theorem dJ17_bitCount_14 : decode cJ17_bitCount 14 = .ok (.iand, 1) := by decide +kernel
theorem dJ17_bitCount_15 : decode cJ17_bitCount 15 = .ok (.iload_n 0, 1) := by decide +kernel
theorem dJ17_bitCount_16 : decode cJ17_bitCount 16 = .ok (.iconst 2, 1) := by decide +kernel
theorem dJ17_bitCount_17 : decode cJ17_bitCount 17 = .ok (.iushr, 1) := by decide +kernel
theorem dJ17_bitCount_18 : decode cJ17_bitCount 18 = .ok (.ldc_w 266, 3) := by decide +kernel
theorem dJ17_bitCount_21 : decode cJ17_bitCount 21 = .ok (.iand, 1) := by decide +kernel
theorem dJ17_bitCount_22 : decode cJ17_bitCount 22 = .ok (.iadd, 1) := by decide +kernel
theorem dJ17_bitCount_23 : decode cJ17_bitCount 23 = .ok (.istore_n 0, 1) := by decide +kernel
theorem dJ17_bitCount_24 : decode cJ17_bitCount 24 = .ok (.iload_n 0, 1) := by decide +kernel
theorem dJ17_bitCount_25 : decode cJ17_bitCount 25 = .ok (.iload_n 0, 1) := by decide +kernel
theorem dJ17_bitCount_26 : decode cJ17_bitCount 26 = .ok (.iconst 4, 1) := by decide +kernel
theorem dJ17_bitCount_27 : decode cJ17_bitCount 27 = .ok (.iushr, 1) := by decide +kernel
theorem dJ17_bitCount_28 : decode cJ17_bitCount 28 = .ok (.iadd, 1) := by decide +kernel
theorem dJ17_bitCount_29 : decode cJ17_bitCount 29 = .ok (.ldc_w 267, 3) := by decide +kernel
theorem dJ17_bitCount_32 : decode cJ17_bitCount 32 = .ok (.iand, 1) := by decide +kernel
theorem dJ17_bitCount_33 : decode cJ17_bitCount 33 = .ok (.istore_n 0, 1) := by decide +kernel
theorem dJ17_bitCount_34 : decode cJ17_bitCount 34 = .ok (.iload_n 0, 1) := by decide +kernel
theorem dJ17_bitCount_35 : decode cJ17_bitCount 35 = .ok (.iload_n 0, 1) := by decide +kernel
theorem dJ17_bitCount_36 : decode cJ17_bitCount 36 = .ok (.bipush 8, 2) := by decide +kernel
theorem dJ17_bitCount_38 : decode cJ17_bitCount 38 = .ok (.iushr, 1) := by decide +kernel
theorem dJ17_bitCount_39 : decode cJ17_bitCount 39 = .ok (.iadd, 1) := by decide +kernel
theorem dJ17_bitCount_40 : decode cJ17_bitCount 40 = .ok (.istore_n 0, 1) := by decide +kernel
theorem dJ17_bitCount_41 : decode cJ17_bitCount 41 = .ok (.iload_n 0, 1) := by decide +kernel
theorem dJ17_bitCount_42 : decode cJ17_bitCount 42 = .ok (.iload_n 0, 1) := by decide +kernel
theorem dJ17_bitCount_43 : decode cJ17_bitCount 43 = .ok (.bipush 16, 2) := by decide +kernel
theorem dJ17_bitCount_45 : decode cJ17_bitCount 45 = .ok (.iushr, 1) := by decide +kernel
theorem dJ17_bitCount_46 : decode cJ17_bitCount 46 = .ok (.iadd, 1) := by decide +kernel
theorem dJ17_bitCount_47 : decode cJ17_bitCount 47 = .ok (.istore_n 0, 1) := by decide +kernel
theorem dJ17_bitCount_48 : decode cJ17_bitCount 48 = .ok (.iload_n 0, 1) := by decide +kernel
theorem dJ17_bitCount_49 : decode cJ17_bitCount 49 = .ok (.bipush 63, 2) := by decide +kernel
theorem dJ17_bitCount_51 : decode cJ17_bitCount 51 = .ok (.iand, 1) := by decide +kernel
theorem dJ17_bitCount_52 : decode cJ17_bitCount 52 = .ok (.ireturn, 1) := by decide +kernel
theorem q113 : (Jvm.Cond.initialized "java/lang/Integer") ∈ lw_all := lw_g (lw_at lw_m1 33 rfl) rfl
theorem q1329 : (Jvm.Cond.static ({ cls := "java/lang/Integer", name := "bitCount", desc := "(I)I" } : Jvm.MethodName)) ∈ lw_all := lw_g (lw_at lw_m6 49 rfl) rfl
theorem q1330 : (Jvm.Cond.code ({ cls := "java/lang/Integer", name := "bitCount", desc := "(I)I" } : Jvm.MethodName) prog_22_method_49_code (1 : Nat) (Option.some Jvm.ClassFile.FieldType.int)) ∈ lw_all := lw_g (lw_at lw_m6 50 rfl) rfl
theorem q1331 : (Jvm.Cond.constant "java/lang/Integer" (265 : Nat) (1431655765 : Int32)) ∈ lw_all := lw_g (lw_at lw_m6 51 rfl) rfl
theorem q1332 : (Jvm.Cond.constant "java/lang/Integer" (266 : Nat) (858993459 : Int32)) ∈ lw_all := lw_g (lw_at lw_m6 52 rfl) rfl
theorem q1333 : (Jvm.Cond.constant "java/lang/Integer" (267 : Nat) (252645135 : Int32)) ∈ lw_all := lw_g (lw_at lw_m6 53 rfl) rfl
/-! java/lang/Object -/
set_option maxRecDepth 100000
def RJ18 : String := "java/lang/Object"
abbrev cJ18_init : ByteArray := object_method_1_code
def yJ18_init : MethodName := ⟨RJ18, "<init>", "()V"⟩
theorem dJ18_init_0 : decode cJ18_init 0 = .ok (.return_, 1) := by decide +kernel
theorem q120 : (Jvm.Cond.instanceMethod ({ cls := "java/lang/Object", name := "<init>", desc := "()V" } : Jvm.MethodName)) ∈ lw_all := lw_g (lw_at lw_m1 40 rfl) rfl
theorem q121 : (Jvm.Cond.code ({ cls := "java/lang/Object", name := "<init>", desc := "()V" } : Jvm.MethodName) object_method_1_code (1 : Nat) (Option.none : Option Jvm.ClassFile.FieldType)) ∈ lw_all := lw_g (lw_at lw_m1 41 rfl) rfl
theorem q362 : (Jvm.Cond.instanceMethod ({ cls := "java/lang/Object", name := "getClass", desc := "()Ljava/lang/Class;" } : Jvm.MethodName)) ∈ lw_all := lw_g (lw_at lw_m2 42 rfl) rfl
theorem q363 : (Jvm.Cond.sameMethod "java/lang/Object" "java/lang/Object" "getClass" "()Ljava/lang/Class;") ∈ lw_all := lw_g (lw_at lw_m2 43 rfl) rfl
theorem q381 : (Jvm.Cond.native ({ cls := "java/lang/Object", name := "getClass", desc := "()Ljava/lang/Class;" } : Jvm.MethodName)) ∈ lw_all := lw_g (lw_at lw_m2 61 rfl) rfl
theorem q677 : (Jvm.Cond.native ({ cls := "java/lang/Object", name := "clone", desc := "()Ljava/lang/Object;" } : Jvm.MethodName)) ∈ lw_all := lw_g (lw_at lw_m3 117 rfl) rfl
theorem q678 : (Jvm.Cond.instanceMethod ({ cls := "java/lang/Object", name := "clone", desc := "()Ljava/lang/Object;" } : Jvm.MethodName)) ∈ lw_all := lw_g (lw_at lw_m3 118 rfl) rfl
theorem q2026 : (Jvm.Cond.declares ({ cls := "java/lang/Object", name := "getClass", desc := "()Ljava/lang/Class;" } : Jvm.MethodName)) ∈ lw_tbl := lw_at lw_m9 26 rfl
theorem q80 : (Jvm.Cond.initialized "DebtorsHouseLaw") ∈ lw_all := lw_g (lw_at lw_m1 0 rfl) rfl
set_option maxRecDepth 100000
theorem q114 : (Jvm.Cond.classLink "DebtorsHouseLaw" (7 : Nat) "DebtorsHouse") ∈ lw_all := lw_g (lw_at lw_m1 34 rfl) rfl
theorem q116 : (Jvm.Cond.methodLink "DebtorsHouseLaw" (9 : Nat) ({ cls := "DebtorsHouse", name := "<init>", desc := "()V" } : Jvm.MethodName)) ∈ lw_all := lw_g (lw_at lw_m1 36 rfl) rfl
theorem q252 : (Jvm.Cond.methodLink "DebtorsHouseLaw" (13 : Nat) ({ cls := "DebtorsHouse", name := "person", desc := "(II)I" } : Jvm.MethodName)) ∈ lw_all := lw_g (lw_at lw_m1 172 rfl) rfl
theorem q394 : (Jvm.Cond.methodLink "DebtorsHouseLaw" (18 : Nat) ({ cls := "DebtorsHouse", name := "debt", desc := "(IIIIII)I" } : Jvm.MethodName)) ∈ lw_all := lw_g (lw_at lw_m2 74 rfl) rfl
theorem q477 : (Jvm.Cond.methodLink "DebtorsHouseLaw" (23 : Nat) ({ cls := "DebtorsHouse", name := "costs", desc := "(II)I" } : Jvm.MethodName)) ∈ lw_all := lw_g (lw_at lw_m2 157 rfl) rfl
theorem q521 : (Jvm.Cond.methodLink "DebtorsHouseLaw" (27 : Nat) ({ cls := "DebtorsHouse", name := "pay", desc := "(II)I" } : Jvm.MethodName)) ∈ lw_all := lw_g (lw_at lw_m2 201 rfl) rfl
theorem q548 : (Jvm.Cond.methodLink "DebtorsHouseLaw" (31 : Nat) ({ cls := "DebtorsHouse", name := "about", desc := "(II)I" } : Jvm.MethodName)) ∈ lw_all := lw_g (lw_at lw_m2 228 rfl) rfl
theorem q559 : (Jvm.Cond.methodLink "DebtorsHouseLaw" (35 : Nat) ({ cls := "DebtorsHouse", name := "ring", desc := "()I" } : Jvm.MethodName)) ∈ lw_all := lw_g (lw_at lw_m2 239 rfl) rfl
theorem q568 : (Jvm.Cond.methodLink "DebtorsHouseLaw" (40 : Nat) ({ cls := "DebtorsHouse", name := "row", desc := "(I)I" } : Jvm.MethodName)) ∈ lw_all := lw_g (lw_at lw_m3 8 rfl) rfl
theorem q572 : (Jvm.Cond.methodLink "DebtorsHouseLaw" (45 : Nat) ({ cls := "DebtorsHouse", name := "net", desc := "()I" } : Jvm.MethodName)) ∈ lw_all := lw_g (lw_at lw_m3 12 rfl) rfl
theorem q578 : (Jvm.Cond.methodLink "DebtorsHouseLaw" (49 : Nat) ({ cls := "DebtorsHouse", name := "feed", desc := "(IIIII)I" } : Jvm.MethodName)) ∈ lw_all := lw_g (lw_at lw_m3 18 rfl) rfl
theorem q582 : (Jvm.Cond.methodLink "DebtorsHouseLaw" (54 : Nat) ({ cls := "DebtorsHouse", name := "end", desc := "(I)I" } : Jvm.MethodName)) ∈ lw_all := lw_g (lw_at lw_m3 22 rfl) rfl
theorem q586 : (Jvm.Cond.methodLink "DebtorsHouseLaw" (58 : Nat) ({ cls := "DebtorsHouse", name := "act", desc := "(I)I" } : Jvm.MethodName)) ∈ lw_all := lw_g (lw_at lw_m3 26 rfl) rfl
theorem q1081 : (Jvm.Cond.methodLink "DebtorsHouseLaw" (62 : Nat) ({ cls := "DebtorsHouse", name := "fault", desc := "(I)I" } : Jvm.MethodName)) ∈ lw_all := lw_g (lw_at lw_m5 41 rfl) rfl
theorem q1085 : (Jvm.Cond.methodLink "DebtorsHouseLaw" (66 : Nat) ({ cls := "DebtorsHouse", name := "good", desc := "(II)I" } : Jvm.MethodName)) ∈ lw_all := lw_g (lw_at lw_m5 45 rfl) rfl
theorem q1089 : (Jvm.Cond.methodLink "DebtorsHouseLaw" (70 : Nat) ({ cls := "DebtorsHouse", name := "tells", desc := "(III)I" } : Jvm.MethodName)) ∈ lw_all := lw_g (lw_at lw_m5 49 rfl) rfl
theorem q1149 : (Jvm.Cond.methodLink "DebtorsHouseLaw" (75 : Nat) ({ cls := "DebtorsHouse", name := "lawful", desc := "(III)Z" } : Jvm.MethodName)) ∈ lw_all := lw_g (lw_at lw_m5 109 rfl) rfl
theorem q1155 : (Jvm.Cond.methodLink "DebtorsHouseLaw" (80 : Nat) ({ cls := "DebtorsHouse", name := "hold", desc := "(II)Z" } : Jvm.MethodName)) ∈ lw_all := lw_g (lw_at lw_m5 115 rfl) rfl
theorem q1165 : (Jvm.Cond.methodLink "DebtorsHouseLaw" (85 : Nat) ({ cls := "DebtorsHouse", name := "tire", desc := "(II)Z" } : Jvm.MethodName)) ∈ lw_all := lw_g (lw_at lw_m5 125 rfl) rfl
theorem q1169 : (Jvm.Cond.methodLink "DebtorsHouseLaw" (89 : Nat) ({ cls := "DebtorsHouse", name := "leave", desc := "(I)Z" } : Jvm.MethodName)) ∈ lw_all := lw_g (lw_at lw_m5 129 rfl) rfl
theorem q1181 : (Jvm.Cond.methodLink "DebtorsHouseLaw" (94 : Nat) ({ cls := "DebtorsHouse", name := "room", desc := "(II)Z" } : Jvm.MethodName)) ∈ lw_all := lw_g (lw_at lw_m5 141 rfl) rfl
theorem q1185 : (Jvm.Cond.methodLink "DebtorsHouseLaw" (98 : Nat) ({ cls := "DebtorsHouse", name := "walk", desc := "(IZ)Z" } : Jvm.MethodName)) ∈ lw_all := lw_g (lw_at lw_m5 145 rfl) rfl
theorem q1191 : (Jvm.Cond.methodLink "DebtorsHouseLaw" (103 : Nat) ({ cls := "DebtorsHouse", name := "hour", desc := "()I" } : Jvm.MethodName)) ∈ lw_all := lw_g (lw_at lw_m5 151 rfl) rfl
theorem q1195 : (Jvm.Cond.methodLink "DebtorsHouseLaw" (111 : Nat) ({ cls := "DebtorsHouse", name := "turn", desc := "()I" } : Jvm.MethodName)) ∈ lw_all := lw_g (lw_at lw_m5 155 rfl) rfl
theorem q1199 : (Jvm.Cond.methodLink "DebtorsHouseLaw" (107 : Nat) ({ cls := "DebtorsHouse", name := "day", desc := "()I" } : Jvm.MethodName)) ∈ lw_all := lw_g (lw_at lw_m5 159 rfl) rfl
theorem q1206 : (Jvm.Cond.methodLink "DebtorsHouseLaw" (115 : Nat) ({ cls := "DebtorsHouse", name := "alms", desc := "(I)I" } : Jvm.MethodName)) ∈ lw_all := lw_g (lw_at lw_m5 166 rfl) rfl
theorem q1210 : (Jvm.Cond.methodLink "DebtorsHouseLaw" (119 : Nat) ({ cls := "DebtorsHouse", name := "tell", desc := "(II)I" } : Jvm.MethodName)) ∈ lw_all := lw_g (lw_at lw_m5 170 rfl) rfl
theorem q1222 : (Jvm.Cond.methodLink "DebtorsHouseLaw" (123 : Nat) ({ cls := "DebtorsHouse", name := "least", desc := "(III)Z" } : Jvm.MethodName)) ∈ lw_all := lw_g (lw_at lw_m5 182 rfl) rfl
theorem q1226 : (Jvm.Cond.methodLink "DebtorsHouseLaw" (127 : Nat) ({ cls := "DebtorsHouse", name := "binds", desc := "(II)Z" } : Jvm.MethodName)) ∈ lw_all := lw_g (lw_at lw_m5 186 rfl) rfl
theorem q1249 : (Jvm.Cond.methodLink "DebtorsHouseLaw" (131 : Nat) ({ cls := "DebtorsHouse", name := "offer", desc := "(I)I" } : Jvm.MethodName)) ∈ lw_all := lw_g (lw_at lw_m5 209 rfl) rfl
theorem q1253 : (Jvm.Cond.methodLink "DebtorsHouseLaw" (135 : Nat) ({ cls := "DebtorsHouse", name := "compose", desc := "(II)I" } : Jvm.MethodName)) ∈ lw_all := lw_g (lw_at lw_m5 213 rfl) rfl
theorem q1266 : (Jvm.Cond.methodLink "DebtorsHouseLaw" (139 : Nat) ({ cls := "DebtorsHouse", name := "buy", desc := "(III)Z" } : Jvm.MethodName)) ∈ lw_all := lw_g (lw_at lw_m5 226 rfl) rfl
theorem q1270 : (Jvm.Cond.methodLink "DebtorsHouseLaw" (143 : Nat) ({ cls := "DebtorsHouse", name := "swing", desc := "(IIII)I" } : Jvm.MethodName)) ∈ lw_all := lw_g (lw_at lw_m5 230 rfl) rfl
theorem q1274 : (Jvm.Cond.methodLink "DebtorsHouseLaw" (148 : Nat) ({ cls := "DebtorsHouse", name := "surrender", desc := "(I)I" } : Jvm.MethodName)) ∈ lw_all := lw_g (lw_at lw_m5 234 rfl) rfl
theorem q1289 : (Jvm.Cond.methodLink "DebtorsHouseLaw" (152 : Nat) ({ cls := "DebtorsHouse", name := "found", desc := "(II)I" } : Jvm.MethodName)) ∈ lw_all := lw_g (lw_at lw_m6 9 rfl) rfl
theorem q1295 : (Jvm.Cond.methodLink "DebtorsHouseLaw" (156 : Nat) ({ cls := "DebtorsHouse", name := "book", desc := "(II)I" } : Jvm.MethodName)) ∈ lw_all := lw_g (lw_at lw_m6 15 rfl) rfl
theorem q1309 : (Jvm.Cond.methodLink "DebtorsHouseLaw" (160 : Nat) ({ cls := "DebtorsHouse", name := "free", desc := "(II)I" } : Jvm.MethodName)) ∈ lw_all := lw_g (lw_at lw_m6 29 rfl) rfl
theorem q1334 : (Jvm.Cond.methodLink "DebtorsHouseLaw" (164 : Nat) ({ cls := "DebtorsHouse", name := "count", desc := "(I)I" } : Jvm.MethodName)) ∈ lw_all := lw_g (lw_at lw_m6 54 rfl) rfl
theorem q1338 : (Jvm.Cond.methodLink "DebtorsHouseLaw" (168 : Nat) ({ cls := "DebtorsHouse", name := "image", desc := "(I)Z" } : Jvm.MethodName)) ∈ lw_all := lw_g (lw_at lw_m6 58 rfl) rfl
theorem q1383 : (Jvm.Cond.methodLink "DebtorsHouseLaw" (172 : Nat) ({ cls := "DebtorsHouse", name := "again", desc := "(I)Z" } : Jvm.MethodName)) ∈ lw_all := lw_g (lw_at lw_m6 103 rfl) rfl
theorem q1387 : (Jvm.Cond.classLink "DebtorsHouseLaw" (10 : Nat) "DebtorsHouseModel") ∈ lw_all := lw_g (lw_at lw_m6 107 rfl) rfl
theorem q1389 : (Jvm.Cond.methodLink "DebtorsHouseLaw" (12 : Nat) ({ cls := "DebtorsHouseModel", name := "<init>", desc := "()V" } : Jvm.MethodName)) ∈ lw_all := lw_g (lw_at lw_m6 109 rfl) rfl
theorem q1634 : (Jvm.Cond.methodLink "DebtorsHouseLaw" (17 : Nat) ({ cls := "DebtorsHouseModel", name := "person", desc := "(II)I" } : Jvm.MethodName)) ∈ lw_all := lw_g (lw_at lw_m7 114 rfl) rfl
theorem q1642 : (Jvm.Cond.methodLink "DebtorsHouseLaw" (22 : Nat) ({ cls := "DebtorsHouseModel", name := "debt", desc := "(IIIIII)I" } : Jvm.MethodName)) ∈ lw_all := lw_g (lw_at lw_m7 122 rfl) rfl
theorem q1655 : (Jvm.Cond.methodLink "DebtorsHouseLaw" (26 : Nat) ({ cls := "DebtorsHouseModel", name := "costs", desc := "(II)I" } : Jvm.MethodName)) ∈ lw_all := lw_g (lw_at lw_m7 135 rfl) rfl
theorem q1676 : (Jvm.Cond.methodLink "DebtorsHouseLaw" (30 : Nat) ({ cls := "DebtorsHouseModel", name := "pay", desc := "(II)I" } : Jvm.MethodName)) ∈ lw_all := lw_g (lw_at lw_m7 156 rfl) rfl
theorem q1692 : (Jvm.Cond.methodLink "DebtorsHouseLaw" (34 : Nat) ({ cls := "DebtorsHouseModel", name := "about", desc := "(II)I" } : Jvm.MethodName)) ∈ lw_all := lw_g (lw_at lw_m7 172 rfl) rfl
theorem q1696 : (Jvm.Cond.methodLink "DebtorsHouseLaw" (39 : Nat) ({ cls := "DebtorsHouseModel", name := "ring", desc := "()I" } : Jvm.MethodName)) ∈ lw_all := lw_g (lw_at lw_m7 176 rfl) rfl
theorem q1712 : (Jvm.Cond.methodLink "DebtorsHouseLaw" (44 : Nat) ({ cls := "DebtorsHouseModel", name := "row", desc := "(I)I" } : Jvm.MethodName)) ∈ lw_all := lw_g (lw_at lw_m7 192 rfl) rfl
theorem q1716 : (Jvm.Cond.methodLink "DebtorsHouseLaw" (48 : Nat) ({ cls := "DebtorsHouseModel", name := "net", desc := "()I" } : Jvm.MethodName)) ∈ lw_all := lw_g (lw_at lw_m7 196 rfl) rfl
theorem q1720 : (Jvm.Cond.methodLink "DebtorsHouseLaw" (53 : Nat) ({ cls := "DebtorsHouseModel", name := "feed", desc := "(IIIII)I" } : Jvm.MethodName)) ∈ lw_all := lw_g (lw_at lw_m7 200 rfl) rfl
theorem q1728 : (Jvm.Cond.methodLink "DebtorsHouseLaw" (57 : Nat) ({ cls := "DebtorsHouseModel", name := "end", desc := "(I)I" } : Jvm.MethodName)) ∈ lw_all := lw_g (lw_at lw_m7 208 rfl) rfl
theorem q1732 : (Jvm.Cond.methodLink "DebtorsHouseLaw" (61 : Nat) ({ cls := "DebtorsHouseModel", name := "act", desc := "(I)I" } : Jvm.MethodName)) ∈ lw_all := lw_g (lw_at lw_m7 212 rfl) rfl
theorem q1805 : (Jvm.Cond.methodLink "DebtorsHouseLaw" (65 : Nat) ({ cls := "DebtorsHouseModel", name := "fault", desc := "(I)I" } : Jvm.MethodName)) ∈ lw_all := lw_g (lw_at lw_m8 45 rfl) rfl
theorem q1809 : (Jvm.Cond.methodLink "DebtorsHouseLaw" (69 : Nat) ({ cls := "DebtorsHouseModel", name := "good", desc := "(II)I" } : Jvm.MethodName)) ∈ lw_all := lw_g (lw_at lw_m8 49 rfl) rfl
theorem q1817 : (Jvm.Cond.methodLink "DebtorsHouseLaw" (74 : Nat) ({ cls := "DebtorsHouseModel", name := "tells", desc := "(III)I" } : Jvm.MethodName)) ∈ lw_all := lw_g (lw_at lw_m8 57 rfl) rfl
theorem q1836 : (Jvm.Cond.methodLink "DebtorsHouseLaw" (79 : Nat) ({ cls := "DebtorsHouseModel", name := "lawful", desc := "(III)Z" } : Jvm.MethodName)) ∈ lw_all := lw_g (lw_at lw_m8 76 rfl) rfl
theorem q1840 : (Jvm.Cond.methodLink "DebtorsHouseLaw" (84 : Nat) ({ cls := "DebtorsHouseModel", name := "hold", desc := "(II)Z" } : Jvm.MethodName)) ∈ lw_all := lw_g (lw_at lw_m8 80 rfl) rfl
theorem q1852 : (Jvm.Cond.methodLink "DebtorsHouseLaw" (88 : Nat) ({ cls := "DebtorsHouseModel", name := "tire", desc := "(II)Z" } : Jvm.MethodName)) ∈ lw_all := lw_g (lw_at lw_m8 92 rfl) rfl
theorem q1856 : (Jvm.Cond.methodLink "DebtorsHouseLaw" (93 : Nat) ({ cls := "DebtorsHouseModel", name := "leave", desc := "(I)Z" } : Jvm.MethodName)) ∈ lw_all := lw_g (lw_at lw_m8 96 rfl) rfl
theorem q1864 : (Jvm.Cond.methodLink "DebtorsHouseLaw" (97 : Nat) ({ cls := "DebtorsHouseModel", name := "room", desc := "(II)Z" } : Jvm.MethodName)) ∈ lw_all := lw_g (lw_at lw_m8 104 rfl) rfl
theorem q1868 : (Jvm.Cond.methodLink "DebtorsHouseLaw" (102 : Nat) ({ cls := "DebtorsHouseModel", name := "walk", desc := "(IZ)Z" } : Jvm.MethodName)) ∈ lw_all := lw_g (lw_at lw_m8 108 rfl) rfl
theorem q1872 : (Jvm.Cond.methodLink "DebtorsHouseLaw" (106 : Nat) ({ cls := "DebtorsHouseModel", name := "hour", desc := "()I" } : Jvm.MethodName)) ∈ lw_all := lw_g (lw_at lw_m8 112 rfl) rfl
theorem q1876 : (Jvm.Cond.methodLink "DebtorsHouseLaw" (110 : Nat) ({ cls := "DebtorsHouseModel", name := "day", desc := "()I" } : Jvm.MethodName)) ∈ lw_all := lw_g (lw_at lw_m8 116 rfl) rfl
theorem q1884 : (Jvm.Cond.methodLink "DebtorsHouseLaw" (114 : Nat) ({ cls := "DebtorsHouseModel", name := "turn", desc := "()I" } : Jvm.MethodName)) ∈ lw_all := lw_g (lw_at lw_m8 124 rfl) rfl
theorem q1888 : (Jvm.Cond.methodLink "DebtorsHouseLaw" (118 : Nat) ({ cls := "DebtorsHouseModel", name := "alms", desc := "(I)I" } : Jvm.MethodName)) ∈ lw_all := lw_g (lw_at lw_m8 128 rfl) rfl
theorem q1892 : (Jvm.Cond.methodLink "DebtorsHouseLaw" (122 : Nat) ({ cls := "DebtorsHouseModel", name := "tell", desc := "(II)I" } : Jvm.MethodName)) ∈ lw_all := lw_g (lw_at lw_m8 132 rfl) rfl
theorem q1904 : (Jvm.Cond.methodLink "DebtorsHouseLaw" (126 : Nat) ({ cls := "DebtorsHouseModel", name := "least", desc := "(III)Z" } : Jvm.MethodName)) ∈ lw_all := lw_g (lw_at lw_m8 144 rfl) rfl
theorem q1908 : (Jvm.Cond.methodLink "DebtorsHouseLaw" (130 : Nat) ({ cls := "DebtorsHouseModel", name := "binds", desc := "(II)Z" } : Jvm.MethodName)) ∈ lw_all := lw_g (lw_at lw_m8 148 rfl) rfl
theorem q1925 : (Jvm.Cond.methodLink "DebtorsHouseLaw" (134 : Nat) ({ cls := "DebtorsHouseModel", name := "offer", desc := "(I)I" } : Jvm.MethodName)) ∈ lw_all := lw_g (lw_at lw_m8 165 rfl) rfl
theorem q1929 : (Jvm.Cond.methodLink "DebtorsHouseLaw" (138 : Nat) ({ cls := "DebtorsHouseModel", name := "compose", desc := "(II)I" } : Jvm.MethodName)) ∈ lw_all := lw_g (lw_at lw_m8 169 rfl) rfl
theorem q1934 : (Jvm.Cond.methodLink "DebtorsHouseLaw" (142 : Nat) ({ cls := "DebtorsHouseModel", name := "buy", desc := "(III)Z" } : Jvm.MethodName)) ∈ lw_all := lw_g (lw_at lw_m8 174 rfl) rfl
theorem q1938 : (Jvm.Cond.methodLink "DebtorsHouseLaw" (147 : Nat) ({ cls := "DebtorsHouseModel", name := "swing", desc := "(IIII)I" } : Jvm.MethodName)) ∈ lw_all := lw_g (lw_at lw_m8 178 rfl) rfl
theorem q1942 : (Jvm.Cond.methodLink "DebtorsHouseLaw" (151 : Nat) ({ cls := "DebtorsHouseModel", name := "surrender", desc := "(I)I" } : Jvm.MethodName)) ∈ lw_all := lw_g (lw_at lw_m8 182 rfl) rfl
theorem q1955 : (Jvm.Cond.methodLink "DebtorsHouseLaw" (155 : Nat) ({ cls := "DebtorsHouseModel", name := "found", desc := "(II)I" } : Jvm.MethodName)) ∈ lw_all := lw_g (lw_at lw_m8 195 rfl) rfl
theorem q1959 : (Jvm.Cond.methodLink "DebtorsHouseLaw" (159 : Nat) ({ cls := "DebtorsHouseModel", name := "book", desc := "(II)I" } : Jvm.MethodName)) ∈ lw_all := lw_g (lw_at lw_m8 199 rfl) rfl
theorem q1964 : (Jvm.Cond.methodLink "DebtorsHouseLaw" (163 : Nat) ({ cls := "DebtorsHouseModel", name := "free", desc := "(II)I" } : Jvm.MethodName)) ∈ lw_all := lw_g (lw_at lw_m8 204 rfl) rfl
theorem q1973 : (Jvm.Cond.methodLink "DebtorsHouseLaw" (167 : Nat) ({ cls := "DebtorsHouseModel", name := "count", desc := "(I)I" } : Jvm.MethodName)) ∈ lw_all := lw_g (lw_at lw_m8 213 rfl) rfl
theorem q1977 : (Jvm.Cond.methodLink "DebtorsHouseLaw" (171 : Nat) ({ cls := "DebtorsHouseModel", name := "image", desc := "(I)Z" } : Jvm.MethodName)) ∈ lw_all := lw_g (lw_at lw_m8 217 rfl) rfl
theorem q1995 : (Jvm.Cond.methodLink "DebtorsHouseLaw" (175 : Nat) ({ cls := "DebtorsHouseModel", name := "again", desc := "(I)Z" } : Jvm.MethodName)) ∈ lw_all := lw_g (lw_at lw_m8 235 rfl) rfl
theorem q112 : (Jvm.Cond.initialized "DebtorsHouse$About") ∈ lw_all := lw_g (lw_at lw_m1 32 rfl) rfl
set_option maxRecDepth 100000
theorem q365 : (Jvm.Cond.selects "DebtorsHouse$About" ({ cls := "java/lang/Object", name := "getClass", desc := "()Ljava/lang/Class;" } : Jvm.MethodName) ({ cls := "java/lang/Object", name := "getClass", desc := "()Ljava/lang/Class;" } : Jvm.MethodName)) ∈ lw_all := lw_g (lw_at lw_m2 45 rfl) rfl
theorem q1099 : (Jvm.Cond.laysStatic "DebtorsHouse$About" "SUM" "LDebtorsHouse$About;") ∈ lw_tbl := lw_at lw_m5 59 rfl
theorem q1105 : (Jvm.Cond.sameMethod "DebtorsHouse$About" "java/lang/Enum" "ordinal" "()I") ∈ lw_all := lw_g (lw_at lw_m5 65 rfl) rfl
theorem q1106 : (Jvm.Cond.selects "DebtorsHouse$About" ({ cls := "DebtorsHouse$About", name := "ordinal", desc := "()I" } : Jvm.MethodName) ({ cls := "java/lang/Enum", name := "ordinal", desc := "()I" } : Jvm.MethodName)) ∈ lw_all := lw_g (lw_at lw_m5 66 rfl) rfl
theorem q1108 : (Jvm.Cond.laysStatic "DebtorsHouse$About" "DEBTS" "LDebtorsHouse$About;") ∈ lw_tbl := lw_at lw_m5 68 rfl
theorem q1110 : (Jvm.Cond.laysStatic "DebtorsHouse$About" "RANK" "LDebtorsHouse$About;") ∈ lw_tbl := lw_at lw_m5 70 rfl
theorem q1112 : (Jvm.Cond.laysStatic "DebtorsHouse$About" "DAYS" "LDebtorsHouse$About;") ∈ lw_tbl := lw_at lw_m5 72 rfl
theorem q1118 : (Jvm.Cond.laysStatic "DebtorsHouse$About" "CHILDREN" "LDebtorsHouse$About;") ∈ lw_tbl := lw_at lw_m5 78 rfl
theorem q1120 : (Jvm.Cond.laysStatic "DebtorsHouse$About" "ROOM" "LDebtorsHouse$About;") ∈ lw_tbl := lw_at lw_m5 80 rfl
theorem q1122 : (Jvm.Cond.laysStatic "DebtorsHouse$About" "HOUR" "LDebtorsHouse$About;") ∈ lw_tbl := lw_at lw_m5 82 rfl
theorem q1124 : (Jvm.Cond.laysStatic "DebtorsHouse$About" "COINS" "LDebtorsHouse$About;") ∈ lw_tbl := lw_at lw_m5 84 rfl
theorem q2009 : (Jvm.Cond.castable "DebtorsHouse$About" "java/lang/Object") ∈ lw_tbl := lw_at lw_m9 9 rfl
theorem q2042 : (Jvm.Cond.stringRef "DebtorsHouse$About" (52 : Nat) "sum") ∈ lw_tbl := lw_at lw_m9 42 rfl
theorem q2043 : (Jvm.Cond.stringRef "DebtorsHouse$About" (58 : Nat) "debts") ∈ lw_tbl := lw_at lw_m9 43 rfl
theorem q2044 : (Jvm.Cond.stringRef "DebtorsHouse$About" (61 : Nat) "rank") ∈ lw_tbl := lw_at lw_m9 44 rfl
theorem q2045 : (Jvm.Cond.stringRef "DebtorsHouse$About" (64 : Nat) "days") ∈ lw_tbl := lw_at lw_m9 45 rfl
theorem q2046 : (Jvm.Cond.stringRef "DebtorsHouse$About" (67 : Nat) "children") ∈ lw_tbl := lw_at lw_m9 46 rfl
theorem q2047 : (Jvm.Cond.stringRef "DebtorsHouse$About" (70 : Nat) "room") ∈ lw_tbl := lw_at lw_m9 47 rfl
theorem q2048 : (Jvm.Cond.stringRef "DebtorsHouse$About" (73 : Nat) "hour") ∈ lw_tbl := lw_at lw_m9 48 rfl
theorem q2049 : (Jvm.Cond.stringRef "DebtorsHouse$About" (76 : Nat) "coins") ∈ lw_tbl := lw_at lw_m9 49 rfl
theorem q94 : (Jvm.Cond.initialized "DebtorsHouse$Stands") ∈ lw_all := lw_g (lw_at lw_m1 14 rfl) rfl
set_option maxRecDepth 100000
theorem q372 : (Jvm.Cond.selects "DebtorsHouse$Stands" ({ cls := "java/lang/Object", name := "getClass", desc := "()Ljava/lang/Class;" } : Jvm.MethodName) ({ cls := "java/lang/Object", name := "getClass", desc := "()Ljava/lang/Class;" } : Jvm.MethodName)) ∈ lw_all := lw_g (lw_at lw_m2 52 rfl) rfl
theorem q414 : (Jvm.Cond.laysStatic "DebtorsHouse$Stands" "LIVE" "LDebtorsHouse$Stands;") ∈ lw_tbl := lw_at lw_m2 94 rfl
theorem q535 : (Jvm.Cond.laysStatic "DebtorsHouse$Stands" "PAID" "LDebtorsHouse$Stands;") ∈ lw_tbl := lw_at lw_m2 215 rfl
theorem q553 : (Jvm.Cond.sameMethod "DebtorsHouse$Stands" "java/lang/Enum" "ordinal" "()I") ∈ lw_all := lw_g (lw_at lw_m2 233 rfl) rfl
theorem q555 : (Jvm.Cond.selects "DebtorsHouse$Stands" ({ cls := "DebtorsHouse$Stands", name := "ordinal", desc := "()I" } : Jvm.MethodName) ({ cls := "java/lang/Enum", name := "ordinal", desc := "()I" } : Jvm.MethodName)) ∈ lw_all := lw_g (lw_at lw_m2 235 rfl) rfl
theorem q1264 : (Jvm.Cond.laysStatic "DebtorsHouse$Stands" "FORGIVEN" "LDebtorsHouse$Stands;") ∈ lw_tbl := lw_at lw_m5 224 rfl
theorem q1288 : (Jvm.Cond.laysStatic "DebtorsHouse$Stands" "RELEASED" "LDebtorsHouse$Stands;") ∈ lw_tbl := lw_at lw_m6 8 rfl
theorem q2013 : (Jvm.Cond.castable "DebtorsHouse$Stands" "java/lang/Object") ∈ lw_tbl := lw_at lw_m9 13 rfl
theorem q99 : (Jvm.Cond.initialized "DebtorsHouse$Token") ∈ lw_all := lw_g (lw_at lw_m1 19 rfl) rfl
set_option maxRecDepth 100000
theorem q375 : (Jvm.Cond.selects "DebtorsHouse$Token" ({ cls := "java/lang/Object", name := "getClass", desc := "()Ljava/lang/Class;" } : Jvm.MethodName) ({ cls := "java/lang/Object", name := "getClass", desc := "()Ljava/lang/Class;" } : Jvm.MethodName)) ∈ lw_all := lw_g (lw_at lw_m2 55 rfl) rfl
theorem q613 : (Jvm.Cond.laysStatic "DebtorsHouse$Token" "END" "LDebtorsHouse$Token;") ∈ lw_tbl := lw_at lw_m3 53 rfl
theorem q788 : (Jvm.Cond.laysStatic "DebtorsHouse$Token" "WORD" "LDebtorsHouse$Token;") ∈ lw_tbl := lw_at lw_m3 228 rfl
theorem q793 : (Jvm.Cond.laysStatic "DebtorsHouse$Token" "BAD" "LDebtorsHouse$Token;") ∈ lw_tbl := lw_at lw_m3 233 rfl
theorem q795 : (Jvm.Cond.laysStatic "DebtorsHouse$Token" "NUMBER" "LDebtorsHouse$Token;") ∈ lw_tbl := lw_at lw_m3 235 rfl
theorem q864 : (Jvm.Cond.laysStatic "DebtorsHouse$Token" "SIGN" "LDebtorsHouse$Token;") ∈ lw_tbl := lw_at lw_m4 64 rfl
theorem q2016 : (Jvm.Cond.castable "DebtorsHouse$Token" "java/lang/Object") ∈ lw_tbl := lw_at lw_m9 16 rfl
theorem q676 : (Jvm.Cond.sameMethod "[B" "java/lang/Object" "clone" "()Ljava/lang/Object;") ∈ lw_all := lw_g (lw_at lw_m3 116 rfl) rfl
set_option maxRecDepth 100000
theorem q679 : (Jvm.Cond.selects "[B" ({ cls := "[B", name := "clone", desc := "()Ljava/lang/Object;" } : Jvm.MethodName) ({ cls := "java/lang/Object", name := "clone", desc := "()Ljava/lang/Object;" } : Jvm.MethodName)) ∈ lw_all := lw_g (lw_at lw_m3 119 rfl) rfl
theorem q680 : (Jvm.Cond.castable "[B" "java/lang/Cloneable") ∈ lw_tbl := lw_at lw_m3 120 rfl
theorem q2028 : (Jvm.Cond.castable "[B" "java/lang/Object") ∈ lw_tbl := lw_at lw_m9 28 rfl
theorem q2030 : (Jvm.Cond.castable "[I" "java/lang/Object") ∈ lw_tbl := lw_at lw_m9 30 rfl
set_option maxRecDepth 100000
theorem q2032 : (Jvm.Cond.castable "[J" "java/lang/Object") ∈ lw_tbl := lw_at lw_m9 32 rfl
set_option maxRecDepth 100000
theorem q2031 : (Jvm.Cond.castable "[LDebtorsHouse$State;" "java/lang/Object") ∈ lw_tbl := lw_at lw_m9 31 rfl
set_option maxRecDepth 100000
theorem q2024 : (Jvm.Cond.sameMethod "[Ljava/lang/Object;" "java/lang/Object" "getClass" "()Ljava/lang/Class;") ∈ lw_all := lw_g (lw_at lw_m9 24 rfl) rfl
set_option maxRecDepth 100000
theorem q2025 : (Jvm.Cond.selects "[Ljava/lang/Object;" ({ cls := "java/lang/Object", name := "getClass", desc := "()Ljava/lang/Class;" } : Jvm.MethodName) ({ cls := "java/lang/Object", name := "getClass", desc := "()Ljava/lang/Class;" } : Jvm.MethodName)) ∈ lw_all := lw_g (lw_at lw_m9 25 rfl) rfl
theorem q2027 : (Jvm.Cond.castable "[Ljava/lang/Object;" "java/lang/Object") ∈ lw_tbl := lw_at lw_m9 27 rfl
theorem q2033 : (Jvm.Cond.castable "[Z" "java/lang/Object") ∈ lw_tbl := lw_at lw_m9 33 rfl
set_option maxRecDepth 100000
theorem q2029 : (Jvm.Cond.castable "[[I" "java/lang/Object") ∈ lw_tbl := lw_at lw_m9 29 rfl
set_option maxRecDepth 100000
theorem q91 : (Jvm.Cond.initialized "java/lang/System") ∈ lw_all := lw_g (lw_at lw_m1 11 rfl) rfl
set_option maxRecDepth 100000
theorem q391 : (Jvm.Cond.static ({ cls := "java/lang/System", name := "arraycopy", desc := "(Ljava/lang/Object;ILjava/lang/Object;II)V" } : Jvm.MethodName)) ∈ lw_all := lw_g (lw_at lw_m2 71 rfl) rfl
theorem q392 : (Jvm.Cond.native ({ cls := "java/lang/System", name := "arraycopy", desc := "(Ljava/lang/Object;ILjava/lang/Object;II)V" } : Jvm.MethodName)) ∈ lw_all := lw_g (lw_at lw_m2 72 rfl) rfl
theorem q1374 : (Jvm.Cond.interfaceMethod "java/util/Collection" "java/util/Collection" "toArray" "()[Ljava/lang/Object;") ∈ lw_tbl := lw_at lw_m6 94 rfl
set_option maxRecDepth 100000
theorem q1375 : (Jvm.Cond.declares ({ cls := "java/util/Collection", name := "toArray", desc := "()[Ljava/lang/Object;" } : Jvm.MethodName)) ∈ lw_tbl := lw_at lw_m6 95 rfl
theorem q141 : (Jvm.Cond.arrayOver (Jvm.ClassFile.FieldType.object "java/lang/Object")) ∈ lw_tbl := lw_at lw_m1 61 rfl
set_option maxRecDepth 100000
theorem q156 : (Jvm.Cond.arrayClass Jvm.ClassFile.FieldType.byte) ∈ lw_all := lw_g (lw_at lw_m1 76 rfl) rfl
theorem q158 : (Jvm.Cond.arrayOver (Jvm.ClassFile.FieldType.array Jvm.ClassFile.FieldType.int)) ∈ lw_tbl := lw_at lw_m1 78 rfl
theorem q215 : (Jvm.Cond.arrayClass Jvm.ClassFile.FieldType.int) ∈ lw_all := lw_g (lw_at lw_m1 135 rfl) rfl
theorem q216 : (Jvm.Cond.arrayOver (Jvm.ClassFile.FieldType.object "DebtorsHouse$State")) ∈ lw_tbl := lw_at lw_m1 136 rfl
theorem q250 : (Jvm.Cond.arrayClass Jvm.ClassFile.FieldType.long) ∈ lw_all := lw_g (lw_at lw_m1 170 rfl) rfl
theorem q251 : (Jvm.Cond.arrayClass Jvm.ClassFile.FieldType.boolean) ∈ lw_all := lw_g (lw_at lw_m1 171 rfl) rfl
