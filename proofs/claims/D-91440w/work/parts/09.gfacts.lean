set_option maxRecDepth 100000
theorem kb_16 : (Int8.ofInt 16).toInt32 = 16 := by decide
theorem kb_21 : (Int8.ofInt 21).toInt32 = 21 := by decide
theorem kb_63 : (Int8.ofInt 63).toInt32 = 63 := by decide
theorem kl_1 : Int64.ofNat ((1 : Fin 2) : Nat) = 1 := by decide
theorem ks_160 : (Int16.ofInt 160).toInt32 = 160 := by decide
theorem ks_256 : (Int16.ofInt 256).toInt32 = 256 := by decide
theorem ks_576 : (Int16.ofInt 576).toInt32 = 576 := by decide
theorem ks_1280 : (Int16.ofInt 1280).toInt32 = 1280 := by decide
theorem ks_2400 : (Int16.ofInt 2400).toInt32 = 2400 := by decide
theorem fF_J11_15 : dg_F RJ11 15 12 1 true .byte := ⟨"java/lang/String", RJ11, TJ11, tyJ11, rfl, in_J11, by decide, Or.inl q777, Or.inl rfl, (fun q => by cases q), fun _ => ⟨rfl, rfl⟩, by decide +kernel, tyJ11_ok, nmJ11⟩
theorem fF_J11_9 : dg_F RJ11 9 12 0 true (.array .byte) := ⟨"java/lang/String", RJ11, TJ11, tyJ11, rfl, in_J11, by decide, Or.inl q776, Or.inl rfl, (fun q => by cases q), fun _ => ⟨rfl, rfl⟩, by decide +kernel, tyJ11_ok, nmJ11⟩
theorem fF_J1_7 : dg_F RJ1 7 10 0 false .int := ⟨"java/util/AbstractList", RJ2, TJ2, tyJ2, rfl, in_J2, by decide, Or.inl q146, Or.inl rfl, fun _ => rfl, (fun q => by cases q), by decide +kernel, tyJ2_ok, nmJ2⟩
theorem fF_J2_48 : dg_F RJ2 48 10 2 false .int := ⟨"java/util/ArrayList", RJ2, TJ2, tyJ2, rfl, in_J2, by decide, Or.inl q145, Or.inl rfl, fun _ => rfl, (fun q => by cases q), by decide +kernel, tyJ2_ok, nmJ2⟩
theorem fF_J2_63 : dg_F RJ2 63 10 0 false .int := ⟨"java/util/ArrayList", RJ2, TJ2, tyJ2, rfl, in_J2, by decide, Or.inl q147, Or.inr q148, fun _ => rfl, (fun q => by cases q), by decide +kernel, tyJ2_ok, nmJ2⟩
theorem fF_J2_9 : dg_F RJ2 9 10 1 false (.array (.object "java/lang/Object")) := ⟨"java/util/ArrayList", RJ2, TJ2, tyJ2, rfl, in_J2, by decide, Or.inl q144, Or.inl rfl, fun _ => rfl, (fun q => by cases q), by decide +kernel, tyJ2_ok, nmJ2⟩
theorem fF_J9_15 : dg_F RJ9 15 11 0 false (.array .byte) := ⟨"java/lang/AbstractStringBuilder", RJ10, TJ10, tyJ10, rfl, in_J10, by decide, Or.inl q635, Or.inl rfl, fun _ => rfl, (fun q => by cases q), by decide +kernel, tyJ10_ok, nmJ10⟩
theorem fF_J9_22 : dg_F RJ9 22 11 1 false .byte := ⟨"java/lang/AbstractStringBuilder", RJ10, TJ10, tyJ10, rfl, in_J10, by decide, Or.inl q636, Or.inl rfl, fun _ => rfl, (fun q => by cases q), by decide +kernel, tyJ10_ok, nmJ10⟩
theorem fF_J9_79 : dg_F RJ9 79 11 3 false .int := ⟨"java/lang/AbstractStringBuilder", RJ10, TJ10, tyJ10, rfl, in_J10, by decide, Or.inl q638, Or.inl rfl, fun _ => rfl, (fun q => by cases q), by decide +kernel, tyJ10_ok, nmJ10⟩
theorem fF_X0_10 : dg_F RX0 10 1 0 true (.object "DebtorsHouse$State") := ⟨"DebtorsHouse", RX0, TX0, tyX0, rfl, in_X0, by decide, Or.inl q219, Or.inl rfl, (fun q => by cases q), fun _ => ⟨rfl, rfl⟩, by decide +kernel, tyX0_ok, nmX0⟩
theorem fF_X0_114 : dg_F RX0 114 4 10 false .int := ⟨"DebtorsHouse$Debt", RX4, TX4, tyX4, rfl, in_X4, by decide, Or.inr ⟨rfl, List.mem_of_getElem? (i := 35) rfl⟩, Or.inl rfl, fun _ => rfl, (fun q => by cases q), by decide +kernel, tyX4_ok, nmX4⟩
theorem fF_X0_122 : dg_F RX0 122 3 9 false .int := ⟨"DebtorsHouse$Person", RX3, TX3, tyX3, rfl, in_X3, by decide, Or.inr ⟨rfl, List.mem_of_getElem? (i := 22) rfl⟩, Or.inl rfl, fun _ => rfl, (fun q => by cases q), by decide +kernel, tyX3_ok, nmX3⟩
theorem fF_X0_131 : dg_F RX0 131 4 7 false .int := ⟨"DebtorsHouse$Debt", RX4, TX4, tyX4, rfl, in_X4, by decide, Or.inr ⟨rfl, List.mem_of_getElem? (i := 33) rfl⟩, Or.inl rfl, fun _ => rfl, (fun q => by cases q), by decide +kernel, tyX4_ok, nmX4⟩
theorem fF_X0_134 : dg_F RX0 134 3 2 false .int := ⟨"DebtorsHouse$Person", RX3, TX3, tyX3, rfl, in_X3, by decide, Or.inr ⟨rfl, List.mem_of_getElem? (i := 15) rfl⟩, Or.inl rfl, fun _ => rfl, (fun q => by cases q), by decide +kernel, tyX3_ok, nmX3⟩
theorem fF_X0_16 : dg_F RX0 16 1 1 true (.array (.object "DebtorsHouse$State")) := ⟨"DebtorsHouse", RX0, TX0, tyX0, rfl, in_X0, by decide, Or.inl q220, Or.inl rfl, (fun q => by cases q), fun _ => ⟨rfl, rfl⟩, by decide +kernel, tyX0_ok, nmX0⟩
theorem fF_X0_174 : dg_F RX0 174 4 14 false .boolean := ⟨"DebtorsHouse$Debt", RX4, TX4, tyX4, rfl, in_X4, by decide, Or.inr ⟨rfl, List.mem_of_getElem? (i := 38) rfl⟩, Or.inl rfl, fun _ => rfl, (fun q => by cases q), by decide +kernel, tyX4_ok, nmX4⟩
theorem fF_X0_178 : dg_F RX0 178 4 12 false .int := ⟨"DebtorsHouse$Debt", RX4, TX4, tyX4, rfl, in_X4, by decide, Or.inr ⟨rfl, List.mem_of_getElem? (i := 36) rfl⟩, Or.inl rfl, fun _ => rfl, (fun q => by cases q), by decide +kernel, tyX4_ok, nmX4⟩
theorem fF_X0_190 : dg_F RX0 190 2 7 false .int := ⟨"DebtorsHouse$State", RX1, TX1, tyX1, rfl, in_X1, by decide, Or.inr ⟨rfl, List.mem_of_getElem? (i := 7) rfl⟩, Or.inl rfl, fun _ => rfl, (fun q => by cases q), by decide +kernel, tyX1_ok, nmX1⟩
theorem fF_X0_208 : dg_F RX0 208 2 1 false .int := ⟨"DebtorsHouse$State", RX1, TX1, tyX1, rfl, in_X1, by decide, Or.inr ⟨rfl, List.mem_of_getElem? (i := 1) rfl⟩, Or.inl rfl, fun _ => rfl, (fun q => by cases q), by decide +kernel, tyX1_ok, nmX1⟩
theorem fF_X0_215 : dg_F RX0 215 2 2 false .int := ⟨"DebtorsHouse$State", RX1, TX1, tyX1, rfl, in_X1, by decide, Or.inr ⟨rfl, List.mem_of_getElem? (i := 2) rfl⟩, Or.inl rfl, fun _ => rfl, (fun q => by cases q), by decide +kernel, tyX1_ok, nmX1⟩
theorem fF_X0_218 : dg_F RX0 218 2 3 false .int := ⟨"DebtorsHouse$State", RX1, TX1, tyX1, rfl, in_X1, by decide, Or.inr ⟨rfl, List.mem_of_getElem? (i := 3) rfl⟩, Or.inl rfl, fun _ => rfl, (fun q => by cases q), by decide +kernel, tyX1_ok, nmX1⟩
theorem fF_X0_24 : dg_F RX0 24 1 2 true (.array .int) := ⟨"DebtorsHouse", RX0, TX0, tyX0, rfl, in_X0, by decide, Or.inl q221, Or.inl rfl, (fun q => by cases q), fun _ => ⟨rfl, rfl⟩, by decide +kernel, tyX0_ok, nmX0⟩
theorem fF_X0_278 : dg_F RX0 278 3 3 false .int := ⟨"DebtorsHouse$Person", RX3, TX3, tyX3, rfl, in_X3, by decide, Or.inr ⟨rfl, List.mem_of_getElem? (i := 16) rfl⟩, Or.inl rfl, fun _ => rfl, (fun q => by cases q), by decide +kernel, tyX3_ok, nmX3⟩
theorem fF_X0_28 : dg_F RX0 28 1 3 true (.array .int) := ⟨"DebtorsHouse", RX0, TX0, tyX0, rfl, in_X0, by decide, Or.inl q222, Or.inl rfl, (fun q => by cases q), fun _ => ⟨rfl, rfl⟩, by decide +kernel, tyX0_ok, nmX0⟩
theorem fF_X0_288 : dg_F RX0 288 3 4 false .int := ⟨"DebtorsHouse$Person", RX3, TX3, tyX3, rfl, in_X3, by decide, Or.inr ⟨rfl, List.mem_of_getElem? (i := 17) rfl⟩, Or.inl rfl, fun _ => rfl, (fun q => by cases q), by decide +kernel, tyX3_ok, nmX3⟩
theorem fF_X0_294 : dg_F RX0 294 2 5 false .int := ⟨"DebtorsHouse$State", RX1, TX1, tyX1, rfl, in_X1, by decide, Or.inr ⟨rfl, List.mem_of_getElem? (i := 5) rfl⟩, Or.inl rfl, fun _ => rfl, (fun q => by cases q), by decide +kernel, tyX1_ok, nmX1⟩
theorem fF_X0_31 : dg_F RX0 31 1 4 true (.array .long) := ⟨"DebtorsHouse", RX0, TX0, tyX0, rfl, in_X0, by decide, Or.inl q223, Or.inl rfl, (fun q => by cases q), fun _ => ⟨rfl, rfl⟩, by decide +kernel, tyX0_ok, nmX0⟩
theorem fF_X0_329 : dg_F RX0 329 3 5 false .int := ⟨"DebtorsHouse$Person", RX3, TX3, tyX3, rfl, in_X3, by decide, Or.inr ⟨rfl, List.mem_of_getElem? (i := 18) rfl⟩, Or.inl rfl, fun _ => rfl, (fun q => by cases q), by decide +kernel, tyX3_ok, nmX3⟩
theorem fF_X0_337 : dg_F RX0 337 3 13 false .boolean := ⟨"DebtorsHouse$Person", RX3, TX3, tyX3, rfl, in_X3, by decide, Or.inr ⟨rfl, List.mem_of_getElem? (i := 25) rfl⟩, Or.inl rfl, fun _ => rfl, (fun q => by cases q), by decide +kernel, tyX3_ok, nmX3⟩
theorem fF_X0_340 : dg_F RX0 340 2 6 false .int := ⟨"DebtorsHouse$State", RX1, TX1, tyX1, rfl, in_X1, by decide, Or.inr ⟨rfl, List.mem_of_getElem? (i := 6) rfl⟩, Or.inl rfl, fun _ => rfl, (fun q => by cases q), by decide +kernel, tyX1_ok, nmX1⟩
theorem fF_X0_347 : dg_F RX0 347 3 6 false .int := ⟨"DebtorsHouse$Person", RX3, TX3, tyX3, rfl, in_X3, by decide, Or.inr ⟨rfl, List.mem_of_getElem? (i := 19) rfl⟩, Or.inl rfl, fun _ => rfl, (fun q => by cases q), by decide +kernel, tyX3_ok, nmX3⟩
theorem fF_X0_35 : dg_F RX0 35 1 5 true (.array .boolean) := ⟨"DebtorsHouse", RX0, TX0, tyX0, rfl, in_X0, by decide, Or.inl q224, Or.inl rfl, (fun q => by cases q), fun _ => ⟨rfl, rfl⟩, by decide +kernel, tyX0_ok, nmX0⟩
theorem fF_X0_350 : dg_F RX0 350 3 7 false .int := ⟨"DebtorsHouse$Person", RX3, TX3, tyX3, rfl, in_X3, by decide, Or.inr ⟨rfl, List.mem_of_getElem? (i := 20) rfl⟩, Or.inl rfl, fun _ => rfl, (fun q => by cases q), by decide +kernel, tyX3_ok, nmX3⟩
theorem fF_X0_356 : dg_F RX0 356 3 8 false .int := ⟨"DebtorsHouse$Person", RX3, TX3, tyX3, rfl, in_X3, by decide, Or.inr ⟨rfl, List.mem_of_getElem? (i := 21) rfl⟩, Or.inl rfl, fun _ => rfl, (fun q => by cases q), by decide +kernel, tyX3_ok, nmX3⟩
theorem fF_X0_368 : dg_F RX0 368 3 14 false .boolean := ⟨"DebtorsHouse$Person", RX3, TX3, tyX3, rfl, in_X3, by decide, Or.inr ⟨rfl, List.mem_of_getElem? (i := 26) rfl⟩, Or.inl rfl, fun _ => rfl, (fun q => by cases q), by decide +kernel, tyX3_ok, nmX3⟩
theorem fF_X0_39 : dg_F RX0 39 1 6 true (.array .int) := ⟨"DebtorsHouse", RX0, TX0, tyX0, rfl, in_X0, by decide, Or.inl q225, Or.inl rfl, (fun q => by cases q), fun _ => ⟨rfl, rfl⟩, by decide +kernel, tyX0_ok, nmX0⟩
theorem fF_X0_42 : dg_F RX0 42 1 7 true (.array .int) := ⟨"DebtorsHouse", RX0, TX0, tyX0, rfl, in_X0, by decide, Or.inl q226, Or.inl rfl, (fun q => by cases q), fun _ => ⟨rfl, rfl⟩, by decide +kernel, tyX0_ok, nmX0⟩
theorem fF_X0_45 : dg_F RX0 45 1 8 true (.array .long) := ⟨"DebtorsHouse", RX0, TX0, tyX0, rfl, in_X0, by decide, Or.inl q227, Or.inl rfl, (fun q => by cases q), fun _ => ⟨rfl, rfl⟩, by decide +kernel, tyX0_ok, nmX0⟩
theorem fF_X0_48 : dg_F RX0 48 1 9 true (.array .int) := ⟨"DebtorsHouse", RX0, TX0, tyX0, rfl, in_X0, by decide, Or.inl q228, Or.inl rfl, (fun q => by cases q), fun _ => ⟨rfl, rfl⟩, by decide +kernel, tyX0_ok, nmX0⟩
theorem fF_X0_88 : dg_F RX0 88 2 4 false .int := ⟨"DebtorsHouse$State", RX1, TX1, tyX1, rfl, in_X1, by decide, Or.inr ⟨rfl, List.mem_of_getElem? (i := 4) rfl⟩, Or.inl rfl, fun _ => rfl, (fun q => by cases q), by decide +kernel, tyX1_ok, nmX1⟩
theorem fF_X1_15 : dg_F RX1 15 2 3 false .int := ⟨"DebtorsHouse$State", RX1, TX1, tyX1, rfl, in_X1, by decide, Or.inl q168, Or.inl rfl, fun _ => rfl, (fun q => by cases q), by decide +kernel, tyX1_ok, nmX1⟩
theorem fF_X1_24 : dg_F RX1 24 2 8 true (.object "java/util/ArrayList") := ⟨"DebtorsHouse$State", RX1, TX1, tyX1, rfl, in_X1, by decide, Or.inl q178, Or.inl rfl, (fun q => by cases q), fun _ => ⟨rfl, rfl⟩, by decide +kernel, tyX1_ok, nmX1⟩
theorem fF_X1_28 : dg_F RX1 28 2 9 true (.object "java/util/ArrayList") := ⟨"DebtorsHouse$State", RX1, TX1, tyX1, rfl, in_X1, by decide, Or.inl q180, Or.inl rfl, (fun q => by cases q), fun _ => ⟨rfl, rfl⟩, by decide +kernel, tyX1_ok, nmX1⟩
theorem fF_X1_31 : dg_F RX1 31 2 10 true (.object "java/util/ArrayList") := ⟨"DebtorsHouse$State", RX1, TX1, tyX1, rfl, in_X1, by decide, Or.inl q182, Or.inl rfl, (fun q => by cases q), fun _ => ⟨rfl, rfl⟩, by decide +kernel, tyX1_ok, nmX1⟩
theorem fF_X1_36 : dg_F RX1 36 2 11 true (.array (.array .int)) := ⟨"DebtorsHouse$State", RX1, TX1, tyX1, rfl, in_X1, by decide, Or.inl q184, Or.inl rfl, (fun q => by cases q), fun _ => ⟨rfl, rfl⟩, by decide +kernel, tyX1_ok, nmX1⟩
theorem fF_X1_39 : dg_F RX1 39 2 12 true (.array .int) := ⟨"DebtorsHouse$State", RX1, TX1, tyX1, rfl, in_X1, by decide, Or.inl q186, Or.inl rfl, (fun q => by cases q), fun _ => ⟨rfl, rfl⟩, by decide +kernel, tyX1_ok, nmX1⟩
theorem fF_X1_55 : dg_F RX1 55 2 1 false .int := ⟨"DebtorsHouse$State", RX1, TX1, tyX1, rfl, in_X1, by decide, Or.inl q164, Or.inl rfl, fun _ => rfl, (fun q => by cases q), by decide +kernel, tyX1_ok, nmX1⟩
theorem fF_X1_58 : dg_F RX1 58 2 2 false .int := ⟨"DebtorsHouse$State", RX1, TX1, tyX1, rfl, in_X1, by decide, Or.inl q166, Or.inl rfl, fun _ => rfl, (fun q => by cases q), by decide +kernel, tyX1_ok, nmX1⟩
theorem fF_X1_61 : dg_F RX1 61 2 4 false .int := ⟨"DebtorsHouse$State", RX1, TX1, tyX1, rfl, in_X1, by decide, Or.inl q170, Or.inl rfl, fun _ => rfl, (fun q => by cases q), by decide +kernel, tyX1_ok, nmX1⟩
theorem fF_X1_64 : dg_F RX1 64 2 5 false .int := ⟨"DebtorsHouse$State", RX1, TX1, tyX1, rfl, in_X1, by decide, Or.inl q172, Or.inl rfl, fun _ => rfl, (fun q => by cases q), by decide +kernel, tyX1_ok, nmX1⟩
theorem fF_X1_67 : dg_F RX1 67 2 6 false .int := ⟨"DebtorsHouse$State", RX1, TX1, tyX1, rfl, in_X1, by decide, Or.inl q174, Or.inl rfl, fun _ => rfl, (fun q => by cases q), by decide +kernel, tyX1_ok, nmX1⟩
theorem fF_X1_70 : dg_F RX1 70 2 7 false .int := ⟨"DebtorsHouse$State", RX1, TX1, tyX1, rfl, in_X1, by decide, Or.inl q176, Or.inl rfl, fun _ => rfl, (fun q => by cases q), by decide +kernel, tyX1_ok, nmX1⟩
theorem fF_X1_9 : dg_F RX1 9 2 0 true (.array .byte) := ⟨"DebtorsHouse$State", RX1, TX1, tyX1, rfl, in_X1, by decide, Or.inl q162, Or.inl rfl, (fun q => by cases q), fun _ => ⟨rfl, rfl⟩, by decide +kernel, tyX1_ok, nmX1⟩
theorem fF_X2_102 : dg_F RX2 102 0 31 true (.array .int) := ⟨"DebtorsHouseModel", RX2, TX2, tyX2, rfl, in_X2, by decide, Or.inl q1424, Or.inl rfl, (fun q => by cases q), fun _ => ⟨rfl, rfl⟩, by decide +kernel, tyX2_ok, nmX2⟩
theorem fF_X2_105 : dg_F RX2 105 0 32 true (.array .int) := ⟨"DebtorsHouseModel", RX2, TX2, tyX2, rfl, in_X2, by decide, Or.inl q1425, Or.inl rfl, (fun q => by cases q), fun _ => ⟨rfl, rfl⟩, by decide +kernel, tyX2_ok, nmX2⟩
theorem fF_X2_108 : dg_F RX2 108 0 33 true (.array .int) := ⟨"DebtorsHouseModel", RX2, TX2, tyX2, rfl, in_X2, by decide, Or.inl q1426, Or.inl rfl, (fun q => by cases q), fun _ => ⟨rfl, rfl⟩, by decide +kernel, tyX2_ok, nmX2⟩
theorem fF_X2_111 : dg_F RX2 111 0 34 true (.array .int) := ⟨"DebtorsHouseModel", RX2, TX2, tyX2, rfl, in_X2, by decide, Or.inl q1427, Or.inl rfl, (fun q => by cases q), fun _ => ⟨rfl, rfl⟩, by decide +kernel, tyX2_ok, nmX2⟩
theorem fF_X2_114 : dg_F RX2 114 0 35 true (.array .int) := ⟨"DebtorsHouseModel", RX2, TX2, tyX2, rfl, in_X2, by decide, Or.inl q1428, Or.inl rfl, (fun q => by cases q), fun _ => ⟨rfl, rfl⟩, by decide +kernel, tyX2_ok, nmX2⟩
theorem fF_X2_117 : dg_F RX2 117 0 36 true (.array .int) := ⟨"DebtorsHouseModel", RX2, TX2, tyX2, rfl, in_X2, by decide, Or.inl q1429, Or.inl rfl, (fun q => by cases q), fun _ => ⟨rfl, rfl⟩, by decide +kernel, tyX2_ok, nmX2⟩
theorem fF_X2_120 : dg_F RX2 120 0 37 true (.array .int) := ⟨"DebtorsHouseModel", RX2, TX2, tyX2, rfl, in_X2, by decide, Or.inl q1430, Or.inl rfl, (fun q => by cases q), fun _ => ⟨rfl, rfl⟩, by decide +kernel, tyX2_ok, nmX2⟩
theorem fF_X2_123 : dg_F RX2 123 0 38 true (.array .boolean) := ⟨"DebtorsHouseModel", RX2, TX2, tyX2, rfl, in_X2, by decide, Or.inl q1431, Or.inl rfl, (fun q => by cases q), fun _ => ⟨rfl, rfl⟩, by decide +kernel, tyX2_ok, nmX2⟩
theorem fF_X2_126 : dg_F RX2 126 0 39 true (.array .int) := ⟨"DebtorsHouseModel", RX2, TX2, tyX2, rfl, in_X2, by decide, Or.inl q1432, Or.inl rfl, (fun q => by cases q), fun _ => ⟨rfl, rfl⟩, by decide +kernel, tyX2_ok, nmX2⟩
theorem fF_X2_129 : dg_F RX2 129 0 40 true (.array .int) := ⟨"DebtorsHouseModel", RX2, TX2, tyX2, rfl, in_X2, by decide, Or.inl q1433, Or.inl rfl, (fun q => by cases q), fun _ => ⟨rfl, rfl⟩, by decide +kernel, tyX2_ok, nmX2⟩
theorem fF_X2_13 : dg_F RX2 13 0 2 true (.array .int) := ⟨"DebtorsHouseModel", RX2, TX2, tyX2, rfl, in_X2, by decide, Or.inl q1395, Or.inl rfl, (fun q => by cases q), fun _ => ⟨rfl, rfl⟩, by decide +kernel, tyX2_ok, nmX2⟩
theorem fF_X2_132 : dg_F RX2 132 0 41 true (.array .int) := ⟨"DebtorsHouseModel", RX2, TX2, tyX2, rfl, in_X2, by decide, Or.inl q1434, Or.inl rfl, (fun q => by cases q), fun _ => ⟨rfl, rfl⟩, by decide +kernel, tyX2_ok, nmX2⟩
theorem fF_X2_135 : dg_F RX2 135 0 42 true (.array .int) := ⟨"DebtorsHouseModel", RX2, TX2, tyX2, rfl, in_X2, by decide, Or.inl q1435, Or.inl rfl, (fun q => by cases q), fun _ => ⟨rfl, rfl⟩, by decide +kernel, tyX2_ok, nmX2⟩
theorem fF_X2_138 : dg_F RX2 138 0 43 true (.array .int) := ⟨"DebtorsHouseModel", RX2, TX2, tyX2, rfl, in_X2, by decide, Or.inl q1436, Or.inl rfl, (fun q => by cases q), fun _ => ⟨rfl, rfl⟩, by decide +kernel, tyX2_ok, nmX2⟩
theorem fF_X2_141 : dg_F RX2 141 0 44 true (.array .int) := ⟨"DebtorsHouseModel", RX2, TX2, tyX2, rfl, in_X2, by decide, Or.inl q1437, Or.inl rfl, (fun q => by cases q), fun _ => ⟨rfl, rfl⟩, by decide +kernel, tyX2_ok, nmX2⟩
theorem fF_X2_144 : dg_F RX2 144 0 45 true (.array .int) := ⟨"DebtorsHouseModel", RX2, TX2, tyX2, rfl, in_X2, by decide, Or.inl q1438, Or.inl rfl, (fun q => by cases q), fun _ => ⟨rfl, rfl⟩, by decide +kernel, tyX2_ok, nmX2⟩
theorem fF_X2_147 : dg_F RX2 147 0 46 true (.array .int) := ⟨"DebtorsHouseModel", RX2, TX2, tyX2, rfl, in_X2, by decide, Or.inl q1439, Or.inl rfl, (fun q => by cases q), fun _ => ⟨rfl, rfl⟩, by decide +kernel, tyX2_ok, nmX2⟩
theorem fF_X2_150 : dg_F RX2 150 0 47 true (.array .int) := ⟨"DebtorsHouseModel", RX2, TX2, tyX2, rfl, in_X2, by decide, Or.inl q1440, Or.inl rfl, (fun q => by cases q), fun _ => ⟨rfl, rfl⟩, by decide +kernel, tyX2_ok, nmX2⟩
theorem fF_X2_153 : dg_F RX2 153 0 48 true (.array .int) := ⟨"DebtorsHouseModel", RX2, TX2, tyX2, rfl, in_X2, by decide, Or.inl q1441, Or.inl rfl, (fun q => by cases q), fun _ => ⟨rfl, rfl⟩, by decide +kernel, tyX2_ok, nmX2⟩
theorem fF_X2_156 : dg_F RX2 156 0 49 true (.array .int) := ⟨"DebtorsHouseModel", RX2, TX2, tyX2, rfl, in_X2, by decide, Or.inl q1442, Or.inl rfl, (fun q => by cases q), fun _ => ⟨rfl, rfl⟩, by decide +kernel, tyX2_ok, nmX2⟩
theorem fF_X2_159 : dg_F RX2 159 0 50 true (.array .int) := ⟨"DebtorsHouseModel", RX2, TX2, tyX2, rfl, in_X2, by decide, Or.inl q1443, Or.inl rfl, (fun q => by cases q), fun _ => ⟨rfl, rfl⟩, by decide +kernel, tyX2_ok, nmX2⟩
theorem fF_X2_162 : dg_F RX2 162 0 51 true (.array .int) := ⟨"DebtorsHouseModel", RX2, TX2, tyX2, rfl, in_X2, by decide, Or.inl q1444, Or.inl rfl, (fun q => by cases q), fun _ => ⟨rfl, rfl⟩, by decide +kernel, tyX2_ok, nmX2⟩
theorem fF_X2_165 : dg_F RX2 165 0 52 true (.array .int) := ⟨"DebtorsHouseModel", RX2, TX2, tyX2, rfl, in_X2, by decide, Or.inl q1445, Or.inl rfl, (fun q => by cases q), fun _ => ⟨rfl, rfl⟩, by decide +kernel, tyX2_ok, nmX2⟩
theorem fF_X2_168 : dg_F RX2 168 0 53 true (.array .int) := ⟨"DebtorsHouseModel", RX2, TX2, tyX2, rfl, in_X2, by decide, Or.inl q1446, Or.inl rfl, (fun q => by cases q), fun _ => ⟨rfl, rfl⟩, by decide +kernel, tyX2_ok, nmX2⟩
theorem fF_X2_17 : dg_F RX2 17 0 3 true (.array .int) := ⟨"DebtorsHouseModel", RX2, TX2, tyX2, rfl, in_X2, by decide, Or.inl q1396, Or.inl rfl, (fun q => by cases q), fun _ => ⟨rfl, rfl⟩, by decide +kernel, tyX2_ok, nmX2⟩
theorem fF_X2_171 : dg_F RX2 171 0 64 true (.array .int) := ⟨"DebtorsHouseModel", RX2, TX2, tyX2, rfl, in_X2, by decide, Or.inl q1457, Or.inl rfl, (fun q => by cases q), fun _ => ⟨rfl, rfl⟩, by decide +kernel, tyX2_ok, nmX2⟩
theorem fF_X2_174 : dg_F RX2 174 0 65 true (.array .int) := ⟨"DebtorsHouseModel", RX2, TX2, tyX2, rfl, in_X2, by decide, Or.inl q1458, Or.inl rfl, (fun q => by cases q), fun _ => ⟨rfl, rfl⟩, by decide +kernel, tyX2_ok, nmX2⟩
theorem fF_X2_177 : dg_F RX2 177 0 66 true (.array .int) := ⟨"DebtorsHouseModel", RX2, TX2, tyX2, rfl, in_X2, by decide, Or.inl q1459, Or.inl rfl, (fun q => by cases q), fun _ => ⟨rfl, rfl⟩, by decide +kernel, tyX2_ok, nmX2⟩
theorem fF_X2_180 : dg_F RX2 180 0 67 true (.array .int) := ⟨"DebtorsHouseModel", RX2, TX2, tyX2, rfl, in_X2, by decide, Or.inl q1460, Or.inl rfl, (fun q => by cases q), fun _ => ⟨rfl, rfl⟩, by decide +kernel, tyX2_ok, nmX2⟩
theorem fF_X2_183 : dg_F RX2 183 0 68 true (.array .int) := ⟨"DebtorsHouseModel", RX2, TX2, tyX2, rfl, in_X2, by decide, Or.inl q1461, Or.inl rfl, (fun q => by cases q), fun _ => ⟨rfl, rfl⟩, by decide +kernel, tyX2_ok, nmX2⟩
theorem fF_X2_186 : dg_F RX2 186 0 69 true (.array .int) := ⟨"DebtorsHouseModel", RX2, TX2, tyX2, rfl, in_X2, by decide, Or.inl q1462, Or.inl rfl, (fun q => by cases q), fun _ => ⟨rfl, rfl⟩, by decide +kernel, tyX2_ok, nmX2⟩
theorem fF_X2_189 : dg_F RX2 189 0 70 true (.array .int) := ⟨"DebtorsHouseModel", RX2, TX2, tyX2, rfl, in_X2, by decide, Or.inl q1463, Or.inl rfl, (fun q => by cases q), fun _ => ⟨rfl, rfl⟩, by decide +kernel, tyX2_ok, nmX2⟩
theorem fF_X2_192 : dg_F RX2 192 0 71 true (.array .int) := ⟨"DebtorsHouseModel", RX2, TX2, tyX2, rfl, in_X2, by decide, Or.inl q1464, Or.inl rfl, (fun q => by cases q), fun _ => ⟨rfl, rfl⟩, by decide +kernel, tyX2_ok, nmX2⟩
theorem fF_X2_195 : dg_F RX2 195 0 72 true (.array .boolean) := ⟨"DebtorsHouseModel", RX2, TX2, tyX2, rfl, in_X2, by decide, Or.inl q1465, Or.inl rfl, (fun q => by cases q), fun _ => ⟨rfl, rfl⟩, by decide +kernel, tyX2_ok, nmX2⟩
theorem fF_X2_198 : dg_F RX2 198 0 73 true (.array .int) := ⟨"DebtorsHouseModel", RX2, TX2, tyX2, rfl, in_X2, by decide, Or.inl q1466, Or.inl rfl, (fun q => by cases q), fun _ => ⟨rfl, rfl⟩, by decide +kernel, tyX2_ok, nmX2⟩
theorem fF_X2_20 : dg_F RX2 20 0 4 true (.array .int) := ⟨"DebtorsHouseModel", RX2, TX2, tyX2, rfl, in_X2, by decide, Or.inl q1397, Or.inl rfl, (fun q => by cases q), fun _ => ⟨rfl, rfl⟩, by decide +kernel, tyX2_ok, nmX2⟩
theorem fF_X2_201 : dg_F RX2 201 0 74 true (.array .int) := ⟨"DebtorsHouseModel", RX2, TX2, tyX2, rfl, in_X2, by decide, Or.inl q1467, Or.inl rfl, (fun q => by cases q), fun _ => ⟨rfl, rfl⟩, by decide +kernel, tyX2_ok, nmX2⟩
theorem fF_X2_204 : dg_F RX2 204 0 75 true (.array .int) := ⟨"DebtorsHouseModel", RX2, TX2, tyX2, rfl, in_X2, by decide, Or.inl q1468, Or.inl rfl, (fun q => by cases q), fun _ => ⟨rfl, rfl⟩, by decide +kernel, tyX2_ok, nmX2⟩
theorem fF_X2_207 : dg_F RX2 207 0 76 true (.array .long) := ⟨"DebtorsHouseModel", RX2, TX2, tyX2, rfl, in_X2, by decide, Or.inl q1469, Or.inl rfl, (fun q => by cases q), fun _ => ⟨rfl, rfl⟩, by decide +kernel, tyX2_ok, nmX2⟩
theorem fF_X2_211 : dg_F RX2 211 0 77 true (.array .int) := ⟨"DebtorsHouseModel", RX2, TX2, tyX2, rfl, in_X2, by decide, Or.inl q1470, Or.inl rfl, (fun q => by cases q), fun _ => ⟨rfl, rfl⟩, by decide +kernel, tyX2_ok, nmX2⟩
theorem fF_X2_214 : dg_F RX2 214 0 78 true (.array .int) := ⟨"DebtorsHouseModel", RX2, TX2, tyX2, rfl, in_X2, by decide, Or.inl q1471, Or.inl rfl, (fun q => by cases q), fun _ => ⟨rfl, rfl⟩, by decide +kernel, tyX2_ok, nmX2⟩
theorem fF_X2_217 : dg_F RX2 217 0 79 true (.array .boolean) := ⟨"DebtorsHouseModel", RX2, TX2, tyX2, rfl, in_X2, by decide, Or.inl q1472, Or.inl rfl, (fun q => by cases q), fun _ => ⟨rfl, rfl⟩, by decide +kernel, tyX2_ok, nmX2⟩
theorem fF_X2_23 : dg_F RX2 23 0 5 true (.array .int) := ⟨"DebtorsHouseModel", RX2, TX2, tyX2, rfl, in_X2, by decide, Or.inl q1398, Or.inl rfl, (fun q => by cases q), fun _ => ⟨rfl, rfl⟩, by decide +kernel, tyX2_ok, nmX2⟩
theorem fF_X2_26 : dg_F RX2 26 0 6 true (.array .int) := ⟨"DebtorsHouseModel", RX2, TX2, tyX2, rfl, in_X2, by decide, Or.inl q1399, Or.inl rfl, (fun q => by cases q), fun _ => ⟨rfl, rfl⟩, by decide +kernel, tyX2_ok, nmX2⟩
theorem fF_X2_29 : dg_F RX2 29 0 7 true (.array .int) := ⟨"DebtorsHouseModel", RX2, TX2, tyX2, rfl, in_X2, by decide, Or.inl q1400, Or.inl rfl, (fun q => by cases q), fun _ => ⟨rfl, rfl⟩, by decide +kernel, tyX2_ok, nmX2⟩
theorem fF_X2_32 : dg_F RX2 32 0 8 true (.array .int) := ⟨"DebtorsHouseModel", RX2, TX2, tyX2, rfl, in_X2, by decide, Or.inl q1401, Or.inl rfl, (fun q => by cases q), fun _ => ⟨rfl, rfl⟩, by decide +kernel, tyX2_ok, nmX2⟩
theorem fF_X2_35 : dg_F RX2 35 0 9 true (.array .int) := ⟨"DebtorsHouseModel", RX2, TX2, tyX2, rfl, in_X2, by decide, Or.inl q1402, Or.inl rfl, (fun q => by cases q), fun _ => ⟨rfl, rfl⟩, by decide +kernel, tyX2_ok, nmX2⟩
theorem fF_X2_38 : dg_F RX2 38 0 10 true (.array .int) := ⟨"DebtorsHouseModel", RX2, TX2, tyX2, rfl, in_X2, by decide, Or.inl q1403, Or.inl rfl, (fun q => by cases q), fun _ => ⟨rfl, rfl⟩, by decide +kernel, tyX2_ok, nmX2⟩
theorem fF_X2_41 : dg_F RX2 41 0 11 true (.array .boolean) := ⟨"DebtorsHouseModel", RX2, TX2, tyX2, rfl, in_X2, by decide, Or.inl q1404, Or.inl rfl, (fun q => by cases q), fun _ => ⟨rfl, rfl⟩, by decide +kernel, tyX2_ok, nmX2⟩
theorem fF_X2_45 : dg_F RX2 45 0 12 true (.array .int) := ⟨"DebtorsHouseModel", RX2, TX2, tyX2, rfl, in_X2, by decide, Or.inl q1405, Or.inl rfl, (fun q => by cases q), fun _ => ⟨rfl, rfl⟩, by decide +kernel, tyX2_ok, nmX2⟩
theorem fF_X2_48 : dg_F RX2 48 0 13 true (.array .int) := ⟨"DebtorsHouseModel", RX2, TX2, tyX2, rfl, in_X2, by decide, Or.inl q1406, Or.inl rfl, (fun q => by cases q), fun _ => ⟨rfl, rfl⟩, by decide +kernel, tyX2_ok, nmX2⟩
theorem fF_X2_51 : dg_F RX2 51 0 14 true (.array .int) := ⟨"DebtorsHouseModel", RX2, TX2, tyX2, rfl, in_X2, by decide, Or.inl q1407, Or.inl rfl, (fun q => by cases q), fun _ => ⟨rfl, rfl⟩, by decide +kernel, tyX2_ok, nmX2⟩
theorem fF_X2_54 : dg_F RX2 54 0 15 true (.array .boolean) := ⟨"DebtorsHouseModel", RX2, TX2, tyX2, rfl, in_X2, by decide, Or.inl q1408, Or.inl rfl, (fun q => by cases q), fun _ => ⟨rfl, rfl⟩, by decide +kernel, tyX2_ok, nmX2⟩
theorem fF_X2_57 : dg_F RX2 57 0 16 true (.array .int) := ⟨"DebtorsHouseModel", RX2, TX2, tyX2, rfl, in_X2, by decide, Or.inl q1409, Or.inl rfl, (fun q => by cases q), fun _ => ⟨rfl, rfl⟩, by decide +kernel, tyX2_ok, nmX2⟩
theorem fF_X2_60 : dg_F RX2 60 0 17 true (.array .int) := ⟨"DebtorsHouseModel", RX2, TX2, tyX2, rfl, in_X2, by decide, Or.inl q1410, Or.inl rfl, (fun q => by cases q), fun _ => ⟨rfl, rfl⟩, by decide +kernel, tyX2_ok, nmX2⟩
theorem fF_X2_63 : dg_F RX2 63 0 18 true (.array .int) := ⟨"DebtorsHouseModel", RX2, TX2, tyX2, rfl, in_X2, by decide, Or.inl q1411, Or.inl rfl, (fun q => by cases q), fun _ => ⟨rfl, rfl⟩, by decide +kernel, tyX2_ok, nmX2⟩
theorem fF_X2_66 : dg_F RX2 66 0 19 true (.array .int) := ⟨"DebtorsHouseModel", RX2, TX2, tyX2, rfl, in_X2, by decide, Or.inl q1412, Or.inl rfl, (fun q => by cases q), fun _ => ⟨rfl, rfl⟩, by decide +kernel, tyX2_ok, nmX2⟩
theorem fF_X2_69 : dg_F RX2 69 0 20 true (.array .boolean) := ⟨"DebtorsHouseModel", RX2, TX2, tyX2, rfl, in_X2, by decide, Or.inl q1413, Or.inl rfl, (fun q => by cases q), fun _ => ⟨rfl, rfl⟩, by decide +kernel, tyX2_ok, nmX2⟩
theorem fF_X2_7 : dg_F RX2 7 0 1 true (.array .byte) := ⟨"DebtorsHouseModel", RX2, TX2, tyX2, rfl, in_X2, by decide, Or.inl q1394, Or.inl rfl, (fun q => by cases q), fun _ => ⟨rfl, rfl⟩, by decide +kernel, tyX2_ok, nmX2⟩
theorem fF_X2_72 : dg_F RX2 72 0 21 true (.array .int) := ⟨"DebtorsHouseModel", RX2, TX2, tyX2, rfl, in_X2, by decide, Or.inl q1414, Or.inl rfl, (fun q => by cases q), fun _ => ⟨rfl, rfl⟩, by decide +kernel, tyX2_ok, nmX2⟩
theorem fF_X2_75 : dg_F RX2 75 0 22 true (.array .int) := ⟨"DebtorsHouseModel", RX2, TX2, tyX2, rfl, in_X2, by decide, Or.inl q1415, Or.inl rfl, (fun q => by cases q), fun _ => ⟨rfl, rfl⟩, by decide +kernel, tyX2_ok, nmX2⟩
theorem fF_X2_78 : dg_F RX2 78 0 23 true (.array .int) := ⟨"DebtorsHouseModel", RX2, TX2, tyX2, rfl, in_X2, by decide, Or.inl q1416, Or.inl rfl, (fun q => by cases q), fun _ => ⟨rfl, rfl⟩, by decide +kernel, tyX2_ok, nmX2⟩
theorem fF_X2_81 : dg_F RX2 81 0 24 true (.array .int) := ⟨"DebtorsHouseModel", RX2, TX2, tyX2, rfl, in_X2, by decide, Or.inl q1417, Or.inl rfl, (fun q => by cases q), fun _ => ⟨rfl, rfl⟩, by decide +kernel, tyX2_ok, nmX2⟩
theorem fF_X2_84 : dg_F RX2 84 0 25 true (.array .int) := ⟨"DebtorsHouseModel", RX2, TX2, tyX2, rfl, in_X2, by decide, Or.inl q1418, Or.inl rfl, (fun q => by cases q), fun _ => ⟨rfl, rfl⟩, by decide +kernel, tyX2_ok, nmX2⟩
theorem fF_X2_87 : dg_F RX2 87 0 26 true (.array .int) := ⟨"DebtorsHouseModel", RX2, TX2, tyX2, rfl, in_X2, by decide, Or.inl q1419, Or.inl rfl, (fun q => by cases q), fun _ => ⟨rfl, rfl⟩, by decide +kernel, tyX2_ok, nmX2⟩
theorem fF_X2_90 : dg_F RX2 90 0 27 true (.array .int) := ⟨"DebtorsHouseModel", RX2, TX2, tyX2, rfl, in_X2, by decide, Or.inl q1420, Or.inl rfl, (fun q => by cases q), fun _ => ⟨rfl, rfl⟩, by decide +kernel, tyX2_ok, nmX2⟩
theorem fF_X2_93 : dg_F RX2 93 0 28 true (.array .int) := ⟨"DebtorsHouseModel", RX2, TX2, tyX2, rfl, in_X2, by decide, Or.inl q1421, Or.inl rfl, (fun q => by cases q), fun _ => ⟨rfl, rfl⟩, by decide +kernel, tyX2_ok, nmX2⟩
theorem fF_X2_96 : dg_F RX2 96 0 29 true (.array .int) := ⟨"DebtorsHouseModel", RX2, TX2, tyX2, rfl, in_X2, by decide, Or.inl q1422, Or.inl rfl, (fun q => by cases q), fun _ => ⟨rfl, rfl⟩, by decide +kernel, tyX2_ok, nmX2⟩
theorem fF_X2_99 : dg_F RX2 99 0 30 true (.array .int) := ⟨"DebtorsHouseModel", RX2, TX2, tyX2, rfl, in_X2, by decide, Or.inl q1423, Or.inl rfl, (fun q => by cases q), fun _ => ⟨rfl, rfl⟩, by decide +kernel, tyX2_ok, nmX2⟩
theorem fF_X3_15 : dg_F RX3 15 3 0 true .int := ⟨"DebtorsHouse$Person", RX3, TX3, tyX3, rfl, in_X3, by decide, Or.inl q270, Or.inl rfl, (fun q => by cases q), fun _ => ⟨rfl, rfl⟩, by decide +kernel, tyX3_ok, nmX3⟩
theorem fF_X3_18 : dg_F RX3 18 3 2 false .int := ⟨"DebtorsHouse$Person", RX3, TX3, tyX3, rfl, in_X3, by decide, Or.inl q274, Or.inl rfl, fun _ => rfl, (fun q => by cases q), by decide +kernel, tyX3_ok, nmX3⟩
theorem fF_X3_21 : dg_F RX3 21 3 1 true .int := ⟨"DebtorsHouse$Person", RX3, TX3, tyX3, rfl, in_X3, by decide, Or.inl q272, Or.inl rfl, (fun q => by cases q), fun _ => ⟨rfl, rfl⟩, by decide +kernel, tyX3_ok, nmX3⟩
theorem fF_X3_27 : dg_F RX3 27 3 4 false .int := ⟨"DebtorsHouse$Person", RX3, TX3, tyX3, rfl, in_X3, by decide, Or.inl q278, Or.inl rfl, fun _ => rfl, (fun q => by cases q), by decide +kernel, tyX3_ok, nmX3⟩
theorem fF_X3_30 : dg_F RX3 30 3 5 false .int := ⟨"DebtorsHouse$Person", RX3, TX3, tyX3, rfl, in_X3, by decide, Or.inl q280, Or.inl rfl, fun _ => rfl, (fun q => by cases q), by decide +kernel, tyX3_ok, nmX3⟩
theorem fF_X3_33 : dg_F RX3 33 3 6 false .int := ⟨"DebtorsHouse$Person", RX3, TX3, tyX3, rfl, in_X3, by decide, Or.inl q282, Or.inl rfl, fun _ => rfl, (fun q => by cases q), by decide +kernel, tyX3_ok, nmX3⟩
theorem fF_X3_36 : dg_F RX3 36 3 7 false .int := ⟨"DebtorsHouse$Person", RX3, TX3, tyX3, rfl, in_X3, by decide, Or.inl q284, Or.inl rfl, fun _ => rfl, (fun q => by cases q), by decide +kernel, tyX3_ok, nmX3⟩
theorem fF_X3_39 : dg_F RX3 39 3 8 false .int := ⟨"DebtorsHouse$Person", RX3, TX3, tyX3, rfl, in_X3, by decide, Or.inl q286, Or.inl rfl, fun _ => rfl, (fun q => by cases q), by decide +kernel, tyX3_ok, nmX3⟩
theorem fF_X3_42 : dg_F RX3 42 3 9 false .int := ⟨"DebtorsHouse$Person", RX3, TX3, tyX3, rfl, in_X3, by decide, Or.inl q288, Or.inl rfl, fun _ => rfl, (fun q => by cases q), by decide +kernel, tyX3_ok, nmX3⟩
theorem fF_X3_45 : dg_F RX3 45 3 10 false .int := ⟨"DebtorsHouse$Person", RX3, TX3, tyX3, rfl, in_X3, by decide, Or.inl q290, Or.inl rfl, fun _ => rfl, (fun q => by cases q), by decide +kernel, tyX3_ok, nmX3⟩
theorem fF_X3_48 : dg_F RX3 48 3 11 false .int := ⟨"DebtorsHouse$Person", RX3, TX3, tyX3, rfl, in_X3, by decide, Or.inl q292, Or.inl rfl, fun _ => rfl, (fun q => by cases q), by decide +kernel, tyX3_ok, nmX3⟩
theorem fF_X3_51 : dg_F RX3 51 3 12 false .int := ⟨"DebtorsHouse$Person", RX3, TX3, tyX3, rfl, in_X3, by decide, Or.inl q293, Or.inl rfl, fun _ => rfl, (fun q => by cases q), by decide +kernel, tyX3_ok, nmX3⟩
theorem fF_X3_54 : dg_F RX3 54 3 13 false .boolean := ⟨"DebtorsHouse$Person", RX3, TX3, tyX3, rfl, in_X3, by decide, Or.inl q295, Or.inl rfl, fun _ => rfl, (fun q => by cases q), by decide +kernel, tyX3_ok, nmX3⟩
theorem fF_X3_58 : dg_F RX3 58 3 14 false .boolean := ⟨"DebtorsHouse$Person", RX3, TX3, tyX3, rfl, in_X3, by decide, Or.inl q297, Or.inl rfl, fun _ => rfl, (fun q => by cases q), by decide +kernel, tyX3_ok, nmX3⟩
theorem fF_X3_9 : dg_F RX3 9 3 3 false .int := ⟨"DebtorsHouse$Person", RX3, TX3, tyX3, rfl, in_X3, by decide, Or.inl q276, Or.inl rfl, fun _ => rfl, (fun q => by cases q), by decide +kernel, tyX3_ok, nmX3⟩
theorem fF_X4_21 : dg_F RX4 21 4 15 false (.object "DebtorsHouse$Stands") := ⟨"DebtorsHouse$Debt", RX4, TX4, tyX4, rfl, in_X4, by decide, Or.inl q442, Or.inl rfl, fun _ => rfl, (fun q => by cases q), by decide +kernel, tyX4_ok, nmX4⟩
theorem fF_X4_24 : dg_F RX4 24 4 0 true .int := ⟨"DebtorsHouse$Debt", RX4, TX4, tyX4, rfl, in_X4, by decide, Or.inl q415, Or.inl rfl, (fun q => by cases q), fun _ => ⟨rfl, rfl⟩, by decide +kernel, tyX4_ok, nmX4⟩
theorem fF_X4_27 : dg_F RX4 27 4 1 true .int := ⟨"DebtorsHouse$Debt", RX4, TX4, tyX4, rfl, in_X4, by decide, Or.inl q416, Or.inl rfl, (fun q => by cases q), fun _ => ⟨rfl, rfl⟩, by decide +kernel, tyX4_ok, nmX4⟩
theorem fF_X4_30 : dg_F RX4 30 4 7 false .int := ⟨"DebtorsHouse$Debt", RX4, TX4, tyX4, rfl, in_X4, by decide, Or.inl q428, Or.inl rfl, fun _ => rfl, (fun q => by cases q), by decide +kernel, tyX4_ok, nmX4⟩
theorem fF_X4_33 : dg_F RX4 33 4 2 true .int := ⟨"DebtorsHouse$Debt", RX4, TX4, tyX4, rfl, in_X4, by decide, Or.inl q418, Or.inl rfl, (fun q => by cases q), fun _ => ⟨rfl, rfl⟩, by decide +kernel, tyX4_ok, nmX4⟩
theorem fF_X4_36 : dg_F RX4 36 4 3 true .int := ⟨"DebtorsHouse$Debt", RX4, TX4, tyX4, rfl, in_X4, by decide, Or.inl q420, Or.inl rfl, (fun q => by cases q), fun _ => ⟨rfl, rfl⟩, by decide +kernel, tyX4_ok, nmX4⟩
theorem fF_X4_39 : dg_F RX4 39 4 4 true .int := ⟨"DebtorsHouse$Debt", RX4, TX4, tyX4, rfl, in_X4, by decide, Or.inl q422, Or.inl rfl, (fun q => by cases q), fun _ => ⟨rfl, rfl⟩, by decide +kernel, tyX4_ok, nmX4⟩
theorem fF_X4_42 : dg_F RX4 42 4 5 true .int := ⟨"DebtorsHouse$Debt", RX4, TX4, tyX4, rfl, in_X4, by decide, Or.inl q424, Or.inl rfl, (fun q => by cases q), fun _ => ⟨rfl, rfl⟩, by decide +kernel, tyX4_ok, nmX4⟩
theorem fF_X4_45 : dg_F RX4 45 4 6 true .int := ⟨"DebtorsHouse$Debt", RX4, TX4, tyX4, rfl, in_X4, by decide, Or.inl q426, Or.inl rfl, (fun q => by cases q), fun _ => ⟨rfl, rfl⟩, by decide +kernel, tyX4_ok, nmX4⟩
theorem fF_X4_48 : dg_F RX4 48 4 8 false .int := ⟨"DebtorsHouse$Debt", RX4, TX4, tyX4, rfl, in_X4, by decide, Or.inl q430, Or.inl rfl, fun _ => rfl, (fun q => by cases q), by decide +kernel, tyX4_ok, nmX4⟩
theorem fF_X4_51 : dg_F RX4 51 4 11 false .int := ⟨"DebtorsHouse$Debt", RX4, TX4, tyX4, rfl, in_X4, by decide, Or.inl q435, Or.inl rfl, fun _ => rfl, (fun q => by cases q), by decide +kernel, tyX4_ok, nmX4⟩
theorem fF_X4_57 : dg_F RX4 57 4 9 false .int := ⟨"DebtorsHouse$Debt", RX4, TX4, tyX4, rfl, in_X4, by decide, Or.inl q432, Or.inl rfl, fun _ => rfl, (fun q => by cases q), by decide +kernel, tyX4_ok, nmX4⟩
theorem fF_X4_60 : dg_F RX4 60 4 10 false .int := ⟨"DebtorsHouse$Debt", RX4, TX4, tyX4, rfl, in_X4, by decide, Or.inl q433, Or.inl rfl, fun _ => rfl, (fun q => by cases q), by decide +kernel, tyX4_ok, nmX4⟩
theorem fF_X4_63 : dg_F RX4 63 4 12 false .int := ⟨"DebtorsHouse$Debt", RX4, TX4, tyX4, rfl, in_X4, by decide, Or.inl q436, Or.inl rfl, fun _ => rfl, (fun q => by cases q), by decide +kernel, tyX4_ok, nmX4⟩
theorem fF_X4_66 : dg_F RX4 66 4 14 false .boolean := ⟨"DebtorsHouse$Debt", RX4, TX4, tyX4, rfl, in_X4, by decide, Or.inl q440, Or.inl rfl, fun _ => rfl, (fun q => by cases q), by decide +kernel, tyX4_ok, nmX4⟩
theorem fF_X4_9 : dg_F RX4 9 4 13 false .int := ⟨"DebtorsHouse$Debt", RX4, TX4, tyX4, rfl, in_X4, by decide, Or.inl q438, Or.inl rfl, fun _ => rfl, (fun q => by cases q), by decide +kernel, tyX4_ok, nmX4⟩
theorem fF_X5_13 : dg_F RX5 13 5 1 true .int := ⟨"DebtorsHouse$Act", RX5, TX5, tyX5, rfl, in_X5, by decide, Or.inl q1071, Or.inl rfl, (fun q => by cases q), fun _ => ⟨rfl, rfl⟩, by decide +kernel, tyX5_ok, nmX5⟩
theorem fF_X5_16 : dg_F RX5 16 5 2 true (.object "java/util/ArrayList") := ⟨"DebtorsHouse$Act", RX5, TX5, tyX5, rfl, in_X5, by decide, Or.inl q1073, Or.inl rfl, (fun q => by cases q), fun _ => ⟨rfl, rfl⟩, by decide +kernel, tyX5_ok, nmX5⟩
theorem fF_X5_7 : dg_F RX5 7 5 0 true .int := ⟨"DebtorsHouse$Act", RX5, TX5, tyX5, rfl, in_X5, by decide, Or.inl q1069, Or.inl rfl, (fun q => by cases q), fun _ => ⟨rfl, rfl⟩, by decide +kernel, tyX5_ok, nmX5⟩
theorem fF_X6_114 : dg_F RX6 114 6 7 false (.object "DebtorsHouse$Fault") := ⟨"DebtorsHouse$Reader", RX6, TX6, tyX6, rfl, in_X6, by decide, Or.inl q872, Or.inl rfl, fun _ => rfl, (fun q => by cases q), by decide +kernel, tyX6_ok, nmX6⟩
theorem fF_X6_14 : dg_F RX6 14 6 8 true (.object "java/util/ArrayList") := ⟨"DebtorsHouse$Reader", RX6, TX6, tyX6, rfl, in_X6, by decide, Or.inl q873, Or.inl rfl, (fun q => by cases q), fun _ => ⟨rfl, rfl⟩, by decide +kernel, tyX6_ok, nmX6⟩
theorem fF_X6_145 : dg_F RX6 145 8 0 false (.object "DebtorsHouse$Topic") := ⟨"DebtorsHouse$Line", RX8, TX8, tyX8, rfl, in_X8, by decide, Or.inr ⟨rfl, List.mem_of_getElem? (i := 43) rfl⟩, Or.inl rfl, fun _ => rfl, (fun q => by cases q), by decide +kernel, tyX8_ok, nmX8⟩
theorem fF_X6_172 : dg_F RX6 172 8 2 false .int := ⟨"DebtorsHouse$Line", RX8, TX8, tyX8, rfl, in_X8, by decide, Or.inr ⟨rfl, List.mem_of_getElem? (i := 46) rfl⟩, Or.inl rfl, fun _ => rfl, (fun q => by cases q), by decide +kernel, tyX8_ok, nmX8⟩
theorem fF_X6_20 : dg_F RX6 20 6 0 true (.array .byte) := ⟨"DebtorsHouse$Reader", RX6, TX6, tyX6, rfl, in_X6, by decide, Or.inl q865, Or.inl rfl, (fun q => by cases q), fun _ => ⟨rfl, rfl⟩, by decide +kernel, tyX6_ok, nmX6⟩
theorem fF_X6_24 : dg_F RX6 24 6 1 true .int := ⟨"DebtorsHouse$Reader", RX6, TX6, tyX6, rfl, in_X6, by decide, Or.inl q866, Or.inl rfl, (fun q => by cases q), fun _ => ⟨rfl, rfl⟩, by decide +kernel, tyX6_ok, nmX6⟩
theorem fF_X6_31 : dg_F RX6 31 6 2 false .int := ⟨"DebtorsHouse$Reader", RX6, TX6, tyX6, rfl, in_X6, by decide, Or.inl q867, Or.inl rfl, fun _ => rfl, (fun q => by cases q), by decide +kernel, tyX6_ok, nmX6⟩
theorem fF_X6_38 : dg_F RX6 38 6 3 false .int := ⟨"DebtorsHouse$Reader", RX6, TX6, tyX6, rfl, in_X6, by decide, Or.inl q868, Or.inl rfl, fun _ => rfl, (fun q => by cases q), by decide +kernel, tyX6_ok, nmX6⟩
theorem fF_X6_47 : dg_F RX6 47 6 5 false (.object "DebtorsHouse$Token") := ⟨"DebtorsHouse$Reader", RX6, TX6, tyX6, rfl, in_X6, by decide, Or.inl q870, Or.inl rfl, fun _ => rfl, (fun q => by cases q), by decide +kernel, tyX6_ok, nmX6⟩
theorem fF_X6_69 : dg_F RX6 69 6 6 false (.object "java/lang/String") := ⟨"DebtorsHouse$Reader", RX6, TX6, tyX6, rfl, in_X6, by decide, Or.inl q871, Or.inl rfl, fun _ => rfl, (fun q => by cases q), by decide +kernel, tyX6_ok, nmX6⟩
theorem fF_X6_79 : dg_F RX6 79 6 4 false .int := ⟨"DebtorsHouse$Reader", RX6, TX6, tyX6, rfl, in_X6, by decide, Or.inl q869, Or.inl rfl, fun _ => rfl, (fun q => by cases q), by decide +kernel, tyX6_ok, nmX6⟩
theorem fF_X7_13 : dg_F RX7 13 7 1 true .int := ⟨"DebtorsHouse$Fault", RX7, dj_T7, (fun k => tyX7 (6 + k)), rfl, in_T7, by decide, Or.inl q952, Or.inl rfl, (fun q => by cases q), fun _ => ⟨rfl, rfl⟩, by decide +kernel, dj_ty7_ok, dj_nm7⟩
theorem fF_X7_7 : dg_F RX7 7 7 0 true .int := ⟨"DebtorsHouse$Fault", RX7, dj_T7, (fun k => tyX7 (6 + k)), rfl, in_T7, by decide, Or.inl q950, Or.inl rfl, (fun q => by cases q), fun _ => ⟨rfl, rfl⟩, by decide +kernel, dj_ty7_ok, dj_nm7⟩
theorem fF_X8_14 : dg_F RX8 14 8 1 true (.object "java/util/ArrayList") := ⟨"DebtorsHouse$Line", RX8, TX8, tyX8, rfl, in_X8, by decide, Or.inl q980, Or.inl rfl, (fun q => by cases q), fun _ => ⟨rfl, rfl⟩, by decide +kernel, tyX8_ok, nmX8⟩
theorem fF_X9_13 : dg_F RX9 13 9 1 true (.object "DebtorsHouse$About") := ⟨"DebtorsHouse$Test", RX9, TX9, tyX9, rfl, in_X9, by decide, Or.inl q1035, Or.inl rfl, (fun q => by cases q), fun _ => ⟨rfl, rfl⟩, by decide +kernel, tyX9_ok, nmX9⟩
theorem fF_X9_17 : dg_F RX9 17 9 2 true .char := ⟨"DebtorsHouse$Test", RX9, TX9, tyX9, rfl, in_X9, by decide, Or.inl q1036, Or.inl rfl, (fun q => by cases q), fun _ => ⟨rfl, rfl⟩, by decide +kernel, tyX9_ok, nmX9⟩
theorem fF_X9_21 : dg_F RX9 21 9 3 true .int := ⟨"DebtorsHouse$Test", RX9, TX9, tyX9, rfl, in_X9, by decide, Or.inl q1037, Or.inl rfl, (fun q => by cases q), fun _ => ⟨rfl, rfl⟩, by decide +kernel, tyX9_ok, nmX9⟩
theorem fF_X9_7 : dg_F RX9 7 9 0 true .boolean := ⟨"DebtorsHouse$Test", RX9, TX9, tyX9, rfl, in_X9, by decide, Or.inl q1034, Or.inl rfl, (fun q => by cases q), fun _ => ⟨rfl, rfl⟩, by decide +kernel, tyX9_ok, nmX9⟩
theorem fR_J11_1048 : dg_R RJ11 1048 11 2 := ⟨"java/lang/AbstractStringBuilder", RJ10, TJ10, rfl, in_J10, by decide, Or.inl q637, Or.inl rfl⟩
theorem fR_J11_15 : dg_R RJ11 15 12 1 := ⟨"java/lang/String", RJ11, TJ11, rfl, in_J11, by decide, Or.inl q777, Or.inl rfl⟩
theorem fR_J11_9 : dg_R RJ11 9 12 0 := ⟨"java/lang/String", RJ11, TJ11, rfl, in_J11, by decide, Or.inl q776, Or.inl rfl⟩
theorem fR_J2_48 : dg_R RJ2 48 10 2 := ⟨"java/util/ArrayList", RJ2, TJ2, rfl, in_J2, by decide, Or.inl q145, Or.inl rfl⟩
theorem fR_J2_63 : dg_R RJ2 63 10 0 := ⟨"java/util/ArrayList", RJ2, TJ2, rfl, in_J2, by decide, Or.inl q147, Or.inr q148⟩
theorem fR_J2_9 : dg_R RJ2 9 10 1 := ⟨"java/util/ArrayList", RJ2, TJ2, rfl, in_J2, by decide, Or.inl q144, Or.inl rfl⟩
theorem fR_J9_15 : dg_R RJ9 15 11 0 := ⟨"java/lang/AbstractStringBuilder", RJ10, TJ10, rfl, in_J10, by decide, Or.inl q635, Or.inl rfl⟩
theorem fR_J9_22 : dg_R RJ9 22 11 1 := ⟨"java/lang/AbstractStringBuilder", RJ10, TJ10, rfl, in_J10, by decide, Or.inl q636, Or.inl rfl⟩
theorem fR_J9_79 : dg_R RJ9 79 11 3 := ⟨"java/lang/AbstractStringBuilder", RJ10, TJ10, rfl, in_J10, by decide, Or.inl q638, Or.inl rfl⟩
theorem fR_X0_10 : dg_R RX0 10 1 0 := ⟨"DebtorsHouse", RX0, TX0, rfl, in_X0, by decide, Or.inl q219, Or.inl rfl⟩
theorem fR_X0_114 : dg_R RX0 114 4 10 := ⟨"DebtorsHouse$Debt", RX4, TX4, rfl, in_X4, by decide, Or.inr (List.mem_of_getElem? (i := 35) rfl), Or.inl rfl⟩
theorem fR_X0_122 : dg_R RX0 122 3 9 := ⟨"DebtorsHouse$Person", RX3, TX3, rfl, in_X3, by decide, Or.inr (List.mem_of_getElem? (i := 22) rfl), Or.inl rfl⟩
theorem fR_X0_128 : dg_R RX0 128 4 1 := ⟨"DebtorsHouse$Debt", RX4, TX4, rfl, in_X4, by decide, Or.inr (List.mem_of_getElem? (i := 27) rfl), Or.inl rfl⟩
theorem fR_X0_131 : dg_R RX0 131 4 7 := ⟨"DebtorsHouse$Debt", RX4, TX4, rfl, in_X4, by decide, Or.inr (List.mem_of_getElem? (i := 33) rfl), Or.inl rfl⟩
theorem fR_X0_134 : dg_R RX0 134 3 2 := ⟨"DebtorsHouse$Person", RX3, TX3, rfl, in_X3, by decide, Or.inr (List.mem_of_getElem? (i := 15) rfl), Or.inl rfl⟩
theorem fR_X0_144 : dg_R RX0 144 4 2 := ⟨"DebtorsHouse$Debt", RX4, TX4, rfl, in_X4, by decide, Or.inr (List.mem_of_getElem? (i := 28) rfl), Or.inl rfl⟩
theorem fR_X0_147 : dg_R RX0 147 4 3 := ⟨"DebtorsHouse$Debt", RX4, TX4, rfl, in_X4, by decide, Or.inr (List.mem_of_getElem? (i := 29) rfl), Or.inl rfl⟩
theorem fR_X0_150 : dg_R RX0 150 4 4 := ⟨"DebtorsHouse$Debt", RX4, TX4, rfl, in_X4, by decide, Or.inr (List.mem_of_getElem? (i := 30) rfl), Or.inl rfl⟩
theorem fR_X0_153 : dg_R RX0 153 4 5 := ⟨"DebtorsHouse$Debt", RX4, TX4, rfl, in_X4, by decide, Or.inr (List.mem_of_getElem? (i := 31) rfl), Or.inl rfl⟩
theorem fR_X0_156 : dg_R RX0 156 4 6 := ⟨"DebtorsHouse$Debt", RX4, TX4, rfl, in_X4, by decide, Or.inr (List.mem_of_getElem? (i := 32) rfl), Or.inl rfl⟩
theorem fR_X0_159 : dg_R RX0 159 4 15 := ⟨"DebtorsHouse$Debt", RX4, TX4, rfl, in_X4, by decide, Or.inr (List.mem_of_getElem? (i := 39) rfl), Or.inl rfl⟩
theorem fR_X0_16 : dg_R RX0 16 1 1 := ⟨"DebtorsHouse", RX0, TX0, rfl, in_X0, by decide, Or.inl q220, Or.inl rfl⟩
theorem fR_X0_168 : dg_R RX0 168 4 8 := ⟨"DebtorsHouse$Debt", RX4, TX4, rfl, in_X4, by decide, Or.inr (List.mem_of_getElem? (i := 34) rfl), Or.inl rfl⟩
theorem fR_X0_174 : dg_R RX0 174 4 14 := ⟨"DebtorsHouse$Debt", RX4, TX4, rfl, in_X4, by decide, Or.inr (List.mem_of_getElem? (i := 38) rfl), Or.inl rfl⟩
theorem fR_X0_178 : dg_R RX0 178 4 12 := ⟨"DebtorsHouse$Debt", RX4, TX4, rfl, in_X4, by decide, Or.inr (List.mem_of_getElem? (i := 36) rfl), Or.inl rfl⟩
theorem fR_X0_181 : dg_R RX0 181 4 13 := ⟨"DebtorsHouse$Debt", RX4, TX4, rfl, in_X4, by decide, Or.inr (List.mem_of_getElem? (i := 37) rfl), Or.inl rfl⟩
theorem fR_X0_190 : dg_R RX0 190 2 7 := ⟨"DebtorsHouse$State", RX1, TX1, rfl, in_X1, by decide, Or.inr (List.mem_of_getElem? (i := 7) rfl), Or.inl rfl⟩
theorem fR_X0_197 : dg_R RX0 197 2 12 := ⟨"DebtorsHouse$State", RX1, TX1, rfl, in_X1, by decide, Or.inr (List.mem_of_getElem? (i := 12) rfl), Or.inl rfl⟩
theorem fR_X0_208 : dg_R RX0 208 2 1 := ⟨"DebtorsHouse$State", RX1, TX1, rfl, in_X1, by decide, Or.inr (List.mem_of_getElem? (i := 1) rfl), Or.inl rfl⟩
theorem fR_X0_211 : dg_R RX0 211 2 0 := ⟨"DebtorsHouse$State", RX1, TX1, rfl, in_X1, by decide, Or.inr (List.mem_of_getElem? (i := 0) rfl), Or.inl rfl⟩
theorem fR_X0_215 : dg_R RX0 215 2 2 := ⟨"DebtorsHouse$State", RX1, TX1, rfl, in_X1, by decide, Or.inr (List.mem_of_getElem? (i := 2) rfl), Or.inl rfl⟩
theorem fR_X0_218 : dg_R RX0 218 2 3 := ⟨"DebtorsHouse$State", RX1, TX1, rfl, in_X1, by decide, Or.inr (List.mem_of_getElem? (i := 3) rfl), Or.inl rfl⟩
theorem fR_X0_221 : dg_R RX0 221 2 10 := ⟨"DebtorsHouse$State", RX1, TX1, rfl, in_X1, by decide, Or.inr (List.mem_of_getElem? (i := 10) rfl), Or.inl rfl⟩
theorem fR_X0_24 : dg_R RX0 24 1 2 := ⟨"DebtorsHouse", RX0, TX0, rfl, in_X0, by decide, Or.inl q221, Or.inl rfl⟩
theorem fR_X0_243 : dg_R RX0 243 7 0 := ⟨"DebtorsHouse$Fault", RX7, dj_T7, rfl, in_T7, by decide, Or.inr (List.mem_of_getElem? (i := 40) rfl), Or.inl rfl⟩
theorem fR_X0_246 : dg_R RX0 246 7 1 := ⟨"DebtorsHouse$Fault", RX7, dj_T7, rfl, in_T7, by decide, Or.inr (List.mem_of_getElem? (i := 41) rfl), Or.inl rfl⟩
theorem fR_X0_249 : dg_R RX0 249 5 0 := ⟨"DebtorsHouse$Act", RX5, TX5, rfl, in_X5, by decide, Or.inr (List.mem_of_getElem? (i := 49) rfl), Or.inl rfl⟩
theorem fR_X0_252 : dg_R RX0 252 5 1 := ⟨"DebtorsHouse$Act", RX5, TX5, rfl, in_X5, by decide, Or.inr (List.mem_of_getElem? (i := 50) rfl), Or.inl rfl⟩
theorem fR_X0_256 : dg_R RX0 256 3 0 := ⟨"DebtorsHouse$Person", RX3, TX3, rfl, in_X3, by decide, Or.inr (List.mem_of_getElem? (i := 13) rfl), Or.inl rfl⟩
theorem fR_X0_278 : dg_R RX0 278 3 3 := ⟨"DebtorsHouse$Person", RX3, TX3, rfl, in_X3, by decide, Or.inr (List.mem_of_getElem? (i := 16) rfl), Or.inl rfl⟩
theorem fR_X0_28 : dg_R RX0 28 1 3 := ⟨"DebtorsHouse", RX0, TX0, rfl, in_X0, by decide, Or.inl q222, Or.inl rfl⟩
theorem fR_X0_282 : dg_R RX0 282 3 1 := ⟨"DebtorsHouse$Person", RX3, TX3, rfl, in_X3, by decide, Or.inr (List.mem_of_getElem? (i := 14) rfl), Or.inl rfl⟩
theorem fR_X0_288 : dg_R RX0 288 3 4 := ⟨"DebtorsHouse$Person", RX3, TX3, rfl, in_X3, by decide, Or.inr (List.mem_of_getElem? (i := 17) rfl), Or.inl rfl⟩
theorem fR_X0_294 : dg_R RX0 294 2 5 := ⟨"DebtorsHouse$State", RX1, TX1, rfl, in_X1, by decide, Or.inr (List.mem_of_getElem? (i := 5) rfl), Or.inl rfl⟩
theorem fR_X0_31 : dg_R RX0 31 1 4 := ⟨"DebtorsHouse", RX0, TX0, rfl, in_X0, by decide, Or.inl q223, Or.inl rfl⟩
theorem fR_X0_329 : dg_R RX0 329 3 5 := ⟨"DebtorsHouse$Person", RX3, TX3, rfl, in_X3, by decide, Or.inr (List.mem_of_getElem? (i := 18) rfl), Or.inl rfl⟩
theorem fR_X0_337 : dg_R RX0 337 3 13 := ⟨"DebtorsHouse$Person", RX3, TX3, rfl, in_X3, by decide, Or.inr (List.mem_of_getElem? (i := 25) rfl), Or.inl rfl⟩
theorem fR_X0_340 : dg_R RX0 340 2 6 := ⟨"DebtorsHouse$State", RX1, TX1, rfl, in_X1, by decide, Or.inr (List.mem_of_getElem? (i := 6) rfl), Or.inl rfl⟩
theorem fR_X0_347 : dg_R RX0 347 3 6 := ⟨"DebtorsHouse$Person", RX3, TX3, rfl, in_X3, by decide, Or.inr (List.mem_of_getElem? (i := 19) rfl), Or.inl rfl⟩
theorem fR_X0_35 : dg_R RX0 35 1 5 := ⟨"DebtorsHouse", RX0, TX0, rfl, in_X0, by decide, Or.inl q224, Or.inl rfl⟩
theorem fR_X0_350 : dg_R RX0 350 3 7 := ⟨"DebtorsHouse$Person", RX3, TX3, rfl, in_X3, by decide, Or.inr (List.mem_of_getElem? (i := 20) rfl), Or.inl rfl⟩
theorem fR_X0_356 : dg_R RX0 356 3 8 := ⟨"DebtorsHouse$Person", RX3, TX3, rfl, in_X3, by decide, Or.inr (List.mem_of_getElem? (i := 21) rfl), Or.inl rfl⟩
theorem fR_X0_368 : dg_R RX0 368 3 14 := ⟨"DebtorsHouse$Person", RX3, TX3, rfl, in_X3, by decide, Or.inr (List.mem_of_getElem? (i := 26) rfl), Or.inl rfl⟩
theorem fR_X0_371 : dg_R RX0 371 3 12 := ⟨"DebtorsHouse$Person", RX3, TX3, rfl, in_X3, by decide, Or.inr (List.mem_of_getElem? (i := 24) rfl), Or.inl rfl⟩
theorem fR_X0_374 : dg_R RX0 374 2 11 := ⟨"DebtorsHouse$State", RX1, TX1, rfl, in_X1, by decide, Or.inr (List.mem_of_getElem? (i := 11) rfl), Or.inl rfl⟩
theorem fR_X0_39 : dg_R RX0 39 1 6 := ⟨"DebtorsHouse", RX0, TX0, rfl, in_X0, by decide, Or.inl q225, Or.inl rfl⟩
theorem fR_X0_42 : dg_R RX0 42 1 7 := ⟨"DebtorsHouse", RX0, TX0, rfl, in_X0, by decide, Or.inl q226, Or.inl rfl⟩
theorem fR_X0_434 : dg_R RX0 434 3 10 := ⟨"DebtorsHouse$Person", RX3, TX3, rfl, in_X3, by decide, Or.inr (List.mem_of_getElem? (i := 23) rfl), Or.inl rfl⟩
theorem fR_X0_45 : dg_R RX0 45 1 8 := ⟨"DebtorsHouse", RX0, TX0, rfl, in_X0, by decide, Or.inl q227, Or.inl rfl⟩
theorem fR_X0_48 : dg_R RX0 48 1 9 := ⟨"DebtorsHouse", RX0, TX0, rfl, in_X0, by decide, Or.inl q228, Or.inl rfl⟩
theorem fR_X0_51 : dg_R RX0 51 2 8 := ⟨"DebtorsHouse$State", RX1, TX1, rfl, in_X1, by decide, Or.inr (List.mem_of_getElem? (i := 8) rfl), Or.inl rfl⟩
theorem fR_X0_63 : dg_R RX0 63 2 9 := ⟨"DebtorsHouse$State", RX1, TX1, rfl, in_X1, by decide, Or.inr (List.mem_of_getElem? (i := 9) rfl), Or.inl rfl⟩
theorem fR_X0_88 : dg_R RX0 88 2 4 := ⟨"DebtorsHouse$State", RX1, TX1, rfl, in_X1, by decide, Or.inr (List.mem_of_getElem? (i := 4) rfl), Or.inl rfl⟩
theorem fR_X1_15 : dg_R RX1 15 2 3 := ⟨"DebtorsHouse$State", RX1, TX1, rfl, in_X1, by decide, Or.inl q168, Or.inl rfl⟩
theorem fR_X1_24 : dg_R RX1 24 2 8 := ⟨"DebtorsHouse$State", RX1, TX1, rfl, in_X1, by decide, Or.inl q178, Or.inl rfl⟩
theorem fR_X1_28 : dg_R RX1 28 2 9 := ⟨"DebtorsHouse$State", RX1, TX1, rfl, in_X1, by decide, Or.inl q180, Or.inl rfl⟩
theorem fR_X1_31 : dg_R RX1 31 2 10 := ⟨"DebtorsHouse$State", RX1, TX1, rfl, in_X1, by decide, Or.inl q182, Or.inl rfl⟩
theorem fR_X1_36 : dg_R RX1 36 2 11 := ⟨"DebtorsHouse$State", RX1, TX1, rfl, in_X1, by decide, Or.inl q184, Or.inl rfl⟩
theorem fR_X1_39 : dg_R RX1 39 2 12 := ⟨"DebtorsHouse$State", RX1, TX1, rfl, in_X1, by decide, Or.inl q186, Or.inl rfl⟩
theorem fR_X1_55 : dg_R RX1 55 2 1 := ⟨"DebtorsHouse$State", RX1, TX1, rfl, in_X1, by decide, Or.inl q164, Or.inl rfl⟩
theorem fR_X1_58 : dg_R RX1 58 2 2 := ⟨"DebtorsHouse$State", RX1, TX1, rfl, in_X1, by decide, Or.inl q166, Or.inl rfl⟩
theorem fR_X1_61 : dg_R RX1 61 2 4 := ⟨"DebtorsHouse$State", RX1, TX1, rfl, in_X1, by decide, Or.inl q170, Or.inl rfl⟩
theorem fR_X1_64 : dg_R RX1 64 2 5 := ⟨"DebtorsHouse$State", RX1, TX1, rfl, in_X1, by decide, Or.inl q172, Or.inl rfl⟩
theorem fR_X1_67 : dg_R RX1 67 2 6 := ⟨"DebtorsHouse$State", RX1, TX1, rfl, in_X1, by decide, Or.inl q174, Or.inl rfl⟩
theorem fR_X1_70 : dg_R RX1 70 2 7 := ⟨"DebtorsHouse$State", RX1, TX1, rfl, in_X1, by decide, Or.inl q176, Or.inl rfl⟩
theorem fR_X1_9 : dg_R RX1 9 2 0 := ⟨"DebtorsHouse$State", RX1, TX1, rfl, in_X1, by decide, Or.inl q162, Or.inl rfl⟩
theorem fR_X2_20 : dg_R RX2 20 0 4 := ⟨"DebtorsHouseModel", RX2, TX2, rfl, in_X2, by decide, Or.inl q1397, Or.inl rfl⟩
theorem fR_X3_15 : dg_R RX3 15 3 0 := ⟨"DebtorsHouse$Person", RX3, TX3, rfl, in_X3, by decide, Or.inl q270, Or.inl rfl⟩
theorem fR_X3_18 : dg_R RX3 18 3 2 := ⟨"DebtorsHouse$Person", RX3, TX3, rfl, in_X3, by decide, Or.inl q274, Or.inl rfl⟩
theorem fR_X3_21 : dg_R RX3 21 3 1 := ⟨"DebtorsHouse$Person", RX3, TX3, rfl, in_X3, by decide, Or.inl q272, Or.inl rfl⟩
theorem fR_X3_27 : dg_R RX3 27 3 4 := ⟨"DebtorsHouse$Person", RX3, TX3, rfl, in_X3, by decide, Or.inl q278, Or.inl rfl⟩
theorem fR_X3_30 : dg_R RX3 30 3 5 := ⟨"DebtorsHouse$Person", RX3, TX3, rfl, in_X3, by decide, Or.inl q280, Or.inl rfl⟩
theorem fR_X3_33 : dg_R RX3 33 3 6 := ⟨"DebtorsHouse$Person", RX3, TX3, rfl, in_X3, by decide, Or.inl q282, Or.inl rfl⟩
theorem fR_X3_36 : dg_R RX3 36 3 7 := ⟨"DebtorsHouse$Person", RX3, TX3, rfl, in_X3, by decide, Or.inl q284, Or.inl rfl⟩
theorem fR_X3_39 : dg_R RX3 39 3 8 := ⟨"DebtorsHouse$Person", RX3, TX3, rfl, in_X3, by decide, Or.inl q286, Or.inl rfl⟩
theorem fR_X3_42 : dg_R RX3 42 3 9 := ⟨"DebtorsHouse$Person", RX3, TX3, rfl, in_X3, by decide, Or.inl q288, Or.inl rfl⟩
theorem fR_X3_45 : dg_R RX3 45 3 10 := ⟨"DebtorsHouse$Person", RX3, TX3, rfl, in_X3, by decide, Or.inl q290, Or.inl rfl⟩
theorem fR_X3_48 : dg_R RX3 48 3 11 := ⟨"DebtorsHouse$Person", RX3, TX3, rfl, in_X3, by decide, Or.inl q292, Or.inl rfl⟩
theorem fR_X3_51 : dg_R RX3 51 3 12 := ⟨"DebtorsHouse$Person", RX3, TX3, rfl, in_X3, by decide, Or.inl q293, Or.inl rfl⟩
theorem fR_X3_54 : dg_R RX3 54 3 13 := ⟨"DebtorsHouse$Person", RX3, TX3, rfl, in_X3, by decide, Or.inl q295, Or.inl rfl⟩
theorem fR_X3_58 : dg_R RX3 58 3 14 := ⟨"DebtorsHouse$Person", RX3, TX3, rfl, in_X3, by decide, Or.inl q297, Or.inl rfl⟩
theorem fR_X3_9 : dg_R RX3 9 3 3 := ⟨"DebtorsHouse$Person", RX3, TX3, rfl, in_X3, by decide, Or.inl q276, Or.inl rfl⟩
theorem fR_X4_21 : dg_R RX4 21 4 15 := ⟨"DebtorsHouse$Debt", RX4, TX4, rfl, in_X4, by decide, Or.inl q442, Or.inl rfl⟩
theorem fR_X4_24 : dg_R RX4 24 4 0 := ⟨"DebtorsHouse$Debt", RX4, TX4, rfl, in_X4, by decide, Or.inl q415, Or.inl rfl⟩
theorem fR_X4_27 : dg_R RX4 27 4 1 := ⟨"DebtorsHouse$Debt", RX4, TX4, rfl, in_X4, by decide, Or.inl q416, Or.inl rfl⟩
theorem fR_X4_30 : dg_R RX4 30 4 7 := ⟨"DebtorsHouse$Debt", RX4, TX4, rfl, in_X4, by decide, Or.inl q428, Or.inl rfl⟩
theorem fR_X4_33 : dg_R RX4 33 4 2 := ⟨"DebtorsHouse$Debt", RX4, TX4, rfl, in_X4, by decide, Or.inl q418, Or.inl rfl⟩
theorem fR_X4_36 : dg_R RX4 36 4 3 := ⟨"DebtorsHouse$Debt", RX4, TX4, rfl, in_X4, by decide, Or.inl q420, Or.inl rfl⟩
theorem fR_X4_39 : dg_R RX4 39 4 4 := ⟨"DebtorsHouse$Debt", RX4, TX4, rfl, in_X4, by decide, Or.inl q422, Or.inl rfl⟩
theorem fR_X4_42 : dg_R RX4 42 4 5 := ⟨"DebtorsHouse$Debt", RX4, TX4, rfl, in_X4, by decide, Or.inl q424, Or.inl rfl⟩
theorem fR_X4_45 : dg_R RX4 45 4 6 := ⟨"DebtorsHouse$Debt", RX4, TX4, rfl, in_X4, by decide, Or.inl q426, Or.inl rfl⟩
theorem fR_X4_48 : dg_R RX4 48 4 8 := ⟨"DebtorsHouse$Debt", RX4, TX4, rfl, in_X4, by decide, Or.inl q430, Or.inl rfl⟩
theorem fR_X4_51 : dg_R RX4 51 4 11 := ⟨"DebtorsHouse$Debt", RX4, TX4, rfl, in_X4, by decide, Or.inl q435, Or.inl rfl⟩
theorem fR_X4_57 : dg_R RX4 57 4 9 := ⟨"DebtorsHouse$Debt", RX4, TX4, rfl, in_X4, by decide, Or.inl q432, Or.inl rfl⟩
theorem fR_X4_60 : dg_R RX4 60 4 10 := ⟨"DebtorsHouse$Debt", RX4, TX4, rfl, in_X4, by decide, Or.inl q433, Or.inl rfl⟩
theorem fR_X4_63 : dg_R RX4 63 4 12 := ⟨"DebtorsHouse$Debt", RX4, TX4, rfl, in_X4, by decide, Or.inl q436, Or.inl rfl⟩
theorem fR_X4_66 : dg_R RX4 66 4 14 := ⟨"DebtorsHouse$Debt", RX4, TX4, rfl, in_X4, by decide, Or.inl q440, Or.inl rfl⟩
theorem fR_X4_9 : dg_R RX4 9 4 13 := ⟨"DebtorsHouse$Debt", RX4, TX4, rfl, in_X4, by decide, Or.inl q438, Or.inl rfl⟩
theorem fR_X5_16 : dg_R RX5 16 5 2 := ⟨"DebtorsHouse$Act", RX5, TX5, rfl, in_X5, by decide, Or.inl q1073, Or.inl rfl⟩
theorem fR_X5_32 : dg_R RX5 32 8 0 := ⟨"DebtorsHouse$Line", RX8, TX8, rfl, in_X8, by decide, Or.inr (List.mem_of_getElem? (i := 42) rfl), Or.inl rfl⟩
theorem fR_X5_40 : dg_R RX5 40 8 2 := ⟨"DebtorsHouse$Line", RX8, TX8, rfl, in_X8, by decide, Or.inr (List.mem_of_getElem? (i := 45) rfl), Or.inl rfl⟩
theorem fR_X6_114 : dg_R RX6 114 6 7 := ⟨"DebtorsHouse$Reader", RX6, TX6, rfl, in_X6, by decide, Or.inl q872, Or.inl rfl⟩
theorem fR_X6_14 : dg_R RX6 14 6 8 := ⟨"DebtorsHouse$Reader", RX6, TX6, rfl, in_X6, by decide, Or.inl q873, Or.inl rfl⟩
theorem fR_X6_145 : dg_R RX6 145 8 0 := ⟨"DebtorsHouse$Line", RX8, TX8, rfl, in_X8, by decide, Or.inr (List.mem_of_getElem? (i := 43) rfl), Or.inl rfl⟩
theorem fR_X6_150 : dg_R RX6 150 8 1 := ⟨"DebtorsHouse$Line", RX8, TX8, rfl, in_X8, by decide, Or.inr (List.mem_of_getElem? (i := 44) rfl), Or.inl rfl⟩
theorem fR_X6_172 : dg_R RX6 172 8 2 := ⟨"DebtorsHouse$Line", RX8, TX8, rfl, in_X8, by decide, Or.inr (List.mem_of_getElem? (i := 46) rfl), Or.inl rfl⟩
theorem fR_X6_20 : dg_R RX6 20 6 0 := ⟨"DebtorsHouse$Reader", RX6, TX6, rfl, in_X6, by decide, Or.inl q865, Or.inl rfl⟩
theorem fR_X6_24 : dg_R RX6 24 6 1 := ⟨"DebtorsHouse$Reader", RX6, TX6, rfl, in_X6, by decide, Or.inl q866, Or.inl rfl⟩
theorem fR_X6_31 : dg_R RX6 31 6 2 := ⟨"DebtorsHouse$Reader", RX6, TX6, rfl, in_X6, by decide, Or.inl q867, Or.inl rfl⟩
theorem fR_X6_38 : dg_R RX6 38 6 3 := ⟨"DebtorsHouse$Reader", RX6, TX6, rfl, in_X6, by decide, Or.inl q868, Or.inl rfl⟩
theorem fR_X6_47 : dg_R RX6 47 6 5 := ⟨"DebtorsHouse$Reader", RX6, TX6, rfl, in_X6, by decide, Or.inl q870, Or.inl rfl⟩
theorem fR_X6_69 : dg_R RX6 69 6 6 := ⟨"DebtorsHouse$Reader", RX6, TX6, rfl, in_X6, by decide, Or.inl q871, Or.inl rfl⟩
theorem fR_X6_79 : dg_R RX6 79 6 4 := ⟨"DebtorsHouse$Reader", RX6, TX6, rfl, in_X6, by decide, Or.inl q869, Or.inl rfl⟩
theorem fR_X8_14 : dg_R RX8 14 8 1 := ⟨"DebtorsHouse$Line", RX8, TX8, rfl, in_X8, by decide, Or.inl q980, Or.inl rfl⟩
theorem fR_X9_13 : dg_R RX9 13 9 1 := ⟨"DebtorsHouse$Test", RX9, TX9, rfl, in_X9, by decide, Or.inl q1035, Or.inl rfl⟩
theorem fR_X9_17 : dg_R RX9 17 9 2 := ⟨"DebtorsHouse$Test", RX9, TX9, rfl, in_X9, by decide, Or.inl q1036, Or.inl rfl⟩
theorem fR_X9_21 : dg_R RX9 21 9 3 := ⟨"DebtorsHouse$Test", RX9, TX9, rfl, in_X9, by decide, Or.inl q1037, Or.inl rfl⟩
theorem fR_X9_7 : dg_R RX9 7 9 0 := ⟨"DebtorsHouse$Test", RX9, TX9, rfl, in_X9, by decide, Or.inl q1034, Or.inl rfl⟩
theorem nI_X0_7 : dg_I RX0 7 2 := ⟨RX1, TX1, tyX1, rfl, in_X1, tyX1_ok, q122, q123, q82, by decide⟩
theorem nI_X0_61 : dg_I RX0 61 3 := ⟨RX3, TX3, tyX3, rfl, in_X3, tyX3_ok, q264, q265, q88, by decide⟩
theorem nI_X0_66 : dg_I RX0 66 4 := ⟨RX4, TX4, tyX4, rfl, in_X4, tyX4_ok, q407, q408, q92, by decide⟩
theorem nI_X0_227 : dg_I RX0 227 5 := ⟨RX5, TX5, tyX5, rfl, in_X5, tyX5_ok, q594, q595, q97, by decide⟩
theorem nI_X0_229 : dg_I RX0 229 6 := ⟨RX6, TX6, tyX6, rfl, in_X6, tyX6_ok, q596, q597, q98, by decide⟩
theorem nI_X4_10 : dg_I RX4 10 4 := ⟨RX4, TX4, tyX4, rfl, in_X4, tyX4_ok, q1366, q408, q92, by decide⟩
theorem nI_X8_9 : dg_I RX8 9 10 := ⟨RJ2, TJ2, tyJ2, rfl, in_J2, tyJ2_ok, q976, q129, q85, by decide⟩
theorem nI_X3_10 : dg_I RX3 10 3 := ⟨RX3, TX3, tyX3, rfl, in_X3, tyX3_ok, q1358, q265, q88, by decide⟩
theorem nI_X6_9 : dg_I RX6 9 10 := ⟨RJ2, TJ2, tyJ2, rfl, in_J2, tyJ2_ok, q602, q129, q85, by decide⟩
theorem nI_X6_54 : dg_I RX6 54 11 := ⟨RJ10, TJ10, tyJ10, rfl, in_J10, tyJ10_ok, q617, q618, q101, by decide⟩
theorem nI_X6_138 : dg_I RX6 138 8 := ⟨RX8, TX8, tyX8, rfl, in_X8, tyX8_ok, q970, q971, q109, by decide⟩
theorem nI_X6_187 : dg_I RX6 187 9 := ⟨RX9, TX9, tyX9, rfl, in_X9, tyX9_ok, q1024, q1025, q110, by decide⟩
theorem nI_X1_19 : dg_I RX1 19 10 := ⟨RJ2, TJ2, tyJ2, rfl, in_J2, tyJ2_ok, q128, q129, q85, by decide⟩
theorem nI_J10_18 : dg_I RJ10 18 12 := ⟨RJ11, TJ11, tyJ11, rfl, in_J11, tyJ11_ok, q737, q738, q102, by decide⟩
