theorem kb_m100 : (Int8.ofInt (-100)).toInt32 = (-100) := by decide
theorem kb_m2 : (Int8.ofInt (-2)).toInt32 = (-2) := by decide
theorem kb_6 : (Int8.ofInt 6).toInt32 = 6 := by decide
theorem kb_7 : (Int8.ofInt 7).toInt32 = 7 := by decide
theorem kb_8 : (Int8.ofInt 8).toInt32 = 8 := by decide
theorem kb_9 : (Int8.ofInt 9).toInt32 = 9 := by decide
theorem kb_10 : (Int8.ofInt 10).toInt32 = 10 := by decide
theorem kb_12 : (Int8.ofInt 12).toInt32 = 12 := by decide
theorem kb_20 : (Int8.ofInt 20).toInt32 = 20 := by decide
theorem kb_23 : (Int8.ofInt 23).toInt32 = 23 := by decide
theorem kb_24 : (Int8.ofInt 24).toInt32 = 24 := by decide
theorem kb_32 : (Int8.ofInt 32).toInt32 = 32 := by decide
theorem kb_40 : (Int8.ofInt 40).toInt32 = 40 := by decide
theorem kb_48 : (Int8.ofInt 48).toInt32 = 48 := by decide
theorem kb_50 : (Int8.ofInt 50).toInt32 = 50 := by decide
theorem kb_57 : (Int8.ofInt 57).toInt32 = 57 := by decide
theorem kb_58 : (Int8.ofInt 58).toInt32 = 58 := by decide
theorem kb_59 : (Int8.ofInt 59).toInt32 = 59 := by decide
theorem kb_60 : (Int8.ofInt 60).toInt32 = 60 := by decide
theorem kb_61 : (Int8.ofInt 61).toInt32 = 61 := by decide
theorem kb_62 : (Int8.ofInt 62).toInt32 = 62 := by decide
theorem kb_75 : (Int8.ofInt 75).toInt32 = 75 := by decide
theorem kb_80 : (Int8.ofInt 80).toInt32 = 80 := by decide
theorem kb_97 : (Int8.ofInt 97).toInt32 = 97 := by decide
theorem kb_100 : (Int8.ofInt 100).toInt32 = 100 := by decide
theorem kb_122 : (Int8.ofInt 122).toInt32 = 122 := by decide
theorem ki_m8 : Int32.ofInt (-8) = (-8) := by decide
theorem ki_m1 : Int32.ofInt (-1) = (-1) := by decide
theorem ki_0 : Int32.ofInt 0 = 0 := by decide
theorem ki_1 : Int32.ofInt 1 = 1 := by decide
theorem ki_2 : Int32.ofInt 2 = 2 := by decide
theorem ki_3 : Int32.ofInt 3 = 3 := by decide
theorem ki_4 : Int32.ofInt 4 = 4 := by decide
theorem ki_5 : Int32.ofInt 5 = 5 := by decide
theorem kl_0 : Int64.ofNat ((0 : Fin 2) : Nat) = 0 := by decide
theorem ks_144 : (Int16.ofInt 144).toInt32 = 144 := by decide
theorem ks_200 : (Int16.ofInt 200).toInt32 = 200 := by decide
theorem ks_255 : (Int16.ofInt 255).toInt32 = 255 := by decide
theorem ks_320 : (Int16.ofInt 320).toInt32 = 320 := by decide
theorem ks_600 : (Int16.ofInt 600).toInt32 = 600 := by decide
theorem ks_1000 : (Int16.ofInt 1000).toInt32 = 1000 := by decide
theorem ks_9999 : (Int16.ofInt 9999).toInt32 = 9999 := by decide
theorem ks_10000 : (Int16.ofInt 10000).toInt32 = 10000 := by decide
theorem fa_1 : dm_fa 1 7 := ⟨by decide, by decide, q1394, rfl⟩
theorem fa_2 : dm_fa 2 13 := ⟨by decide, by decide, q1395, rfl⟩
theorem fa_3 : dm_fa 3 17 := ⟨by decide, by decide, q1396, rfl⟩
theorem fa_4 : dm_fa 4 20 := ⟨by decide, by decide, q1397, rfl⟩
theorem fa_5 : dm_fa 5 23 := ⟨by decide, by decide, q1398, rfl⟩
theorem fa_6 : dm_fa 6 26 := ⟨by decide, by decide, q1399, rfl⟩
theorem fa_7 : dm_fa 7 29 := ⟨by decide, by decide, q1400, rfl⟩
theorem fa_8 : dm_fa 8 32 := ⟨by decide, by decide, q1401, rfl⟩
theorem fa_9 : dm_fa 9 35 := ⟨by decide, by decide, q1402, rfl⟩
theorem fa_10 : dm_fa 10 38 := ⟨by decide, by decide, q1403, rfl⟩
theorem fa_11 : dm_fa 11 41 := ⟨by decide, by decide, q1404, rfl⟩
theorem fa_12 : dm_fa 12 45 := ⟨by decide, by decide, q1405, rfl⟩
theorem fa_13 : dm_fa 13 48 := ⟨by decide, by decide, q1406, rfl⟩
theorem fa_14 : dm_fa 14 51 := ⟨by decide, by decide, q1407, rfl⟩
theorem fa_15 : dm_fa 15 54 := ⟨by decide, by decide, q1408, rfl⟩
theorem fa_16 : dm_fa 16 57 := ⟨by decide, by decide, q1409, rfl⟩
theorem fa_17 : dm_fa 17 60 := ⟨by decide, by decide, q1410, rfl⟩
theorem fa_18 : dm_fa 18 63 := ⟨by decide, by decide, q1411, rfl⟩
theorem fa_19 : dm_fa 19 66 := ⟨by decide, by decide, q1412, rfl⟩
theorem fa_20 : dm_fa 20 69 := ⟨by decide, by decide, q1413, rfl⟩
theorem fa_21 : dm_fa 21 72 := ⟨by decide, by decide, q1414, rfl⟩
theorem fa_22 : dm_fa 22 75 := ⟨by decide, by decide, q1415, rfl⟩
theorem fa_23 : dm_fa 23 78 := ⟨by decide, by decide, q1416, rfl⟩
theorem fa_24 : dm_fa 24 81 := ⟨by decide, by decide, q1417, rfl⟩
theorem fa_25 : dm_fa 25 84 := ⟨by decide, by decide, q1418, rfl⟩
theorem fa_26 : dm_fa 26 87 := ⟨by decide, by decide, q1419, rfl⟩
theorem fa_27 : dm_fa 27 90 := ⟨by decide, by decide, q1420, rfl⟩
theorem fa_28 : dm_fa 28 93 := ⟨by decide, by decide, q1421, rfl⟩
theorem fa_29 : dm_fa 29 96 := ⟨by decide, by decide, q1422, rfl⟩
theorem fa_30 : dm_fa 30 99 := ⟨by decide, by decide, q1423, rfl⟩
theorem fa_31 : dm_fa 31 102 := ⟨by decide, by decide, q1424, rfl⟩
theorem fa_32 : dm_fa 32 105 := ⟨by decide, by decide, q1425, rfl⟩
theorem fa_33 : dm_fa 33 108 := ⟨by decide, by decide, q1426, rfl⟩
theorem fa_34 : dm_fa 34 111 := ⟨by decide, by decide, q1427, rfl⟩
theorem fa_35 : dm_fa 35 114 := ⟨by decide, by decide, q1428, rfl⟩
theorem fa_36 : dm_fa 36 117 := ⟨by decide, by decide, q1429, rfl⟩
theorem fa_37 : dm_fa 37 120 := ⟨by decide, by decide, q1430, rfl⟩
theorem fa_38 : dm_fa 38 123 := ⟨by decide, by decide, q1431, rfl⟩
theorem fa_39 : dm_fa 39 126 := ⟨by decide, by decide, q1432, rfl⟩
theorem fa_40 : dm_fa 40 129 := ⟨by decide, by decide, q1433, rfl⟩
theorem fa_41 : dm_fa 41 132 := ⟨by decide, by decide, q1434, rfl⟩
theorem fa_42 : dm_fa 42 135 := ⟨by decide, by decide, q1435, rfl⟩
theorem fa_43 : dm_fa 43 138 := ⟨by decide, by decide, q1436, rfl⟩
theorem fa_44 : dm_fa 44 141 := ⟨by decide, by decide, q1437, rfl⟩
theorem fa_45 : dm_fa 45 144 := ⟨by decide, by decide, q1438, rfl⟩
theorem fa_46 : dm_fa 46 147 := ⟨by decide, by decide, q1439, rfl⟩
theorem fa_47 : dm_fa 47 150 := ⟨by decide, by decide, q1440, rfl⟩
theorem fa_48 : dm_fa 48 153 := ⟨by decide, by decide, q1441, rfl⟩
theorem fa_49 : dm_fa 49 156 := ⟨by decide, by decide, q1442, rfl⟩
theorem fa_50 : dm_fa 50 159 := ⟨by decide, by decide, q1443, rfl⟩
theorem fa_51 : dm_fa 51 162 := ⟨by decide, by decide, q1444, rfl⟩
theorem fa_52 : dm_fa 52 165 := ⟨by decide, by decide, q1445, rfl⟩
theorem fa_53 : dm_fa 53 168 := ⟨by decide, by decide, q1446, rfl⟩
theorem fa_64 : dm_fa 64 171 := ⟨by decide, by decide, q1457, rfl⟩
theorem fa_65 : dm_fa 65 174 := ⟨by decide, by decide, q1458, rfl⟩
theorem fa_66 : dm_fa 66 177 := ⟨by decide, by decide, q1459, rfl⟩
theorem fa_67 : dm_fa 67 180 := ⟨by decide, by decide, q1460, rfl⟩
theorem fa_68 : dm_fa 68 183 := ⟨by decide, by decide, q1461, rfl⟩
theorem fa_69 : dm_fa 69 186 := ⟨by decide, by decide, q1462, rfl⟩
theorem fa_70 : dm_fa 70 189 := ⟨by decide, by decide, q1463, rfl⟩
theorem fa_71 : dm_fa 71 192 := ⟨by decide, by decide, q1464, rfl⟩
theorem fa_72 : dm_fa 72 195 := ⟨by decide, by decide, q1465, rfl⟩
theorem fa_73 : dm_fa 73 198 := ⟨by decide, by decide, q1466, rfl⟩
theorem fa_74 : dm_fa 74 201 := ⟨by decide, by decide, q1467, rfl⟩
theorem fa_75 : dm_fa 75 204 := ⟨by decide, by decide, q1468, rfl⟩
theorem fa_76 : dm_fa 76 207 := ⟨by decide, by decide, q1469, rfl⟩
theorem fa_77 : dm_fa 77 211 := ⟨by decide, by decide, q1470, rfl⟩
theorem fa_78 : dm_fa 78 214 := ⟨by decide, by decide, q1471, rfl⟩
theorem fa_79 : dm_fa 79 217 := ⟨by decide, by decide, q1472, rfl⟩
theorem fi_0 : dm_fs 0 220 4 .int := ⟨by decide, by decide, q1393, rfl, rfl, by decide +kernel⟩
theorem fi_54 : dm_fs 54 288 4 .int := ⟨by decide, by decide, q1447, rfl, rfl, by decide +kernel⟩
theorem fi_55 : dm_fs 55 291 4 .int := ⟨by decide, by decide, q1448, rfl, rfl, by decide +kernel⟩
theorem fi_56 : dm_fs 56 298 4 .int := ⟨by decide, by decide, q1449, rfl, rfl, by decide +kernel⟩
theorem fi_58 : dm_fs 58 301 4 .int := ⟨by decide, by decide, q1451, rfl, rfl, by decide +kernel⟩
theorem fj_59 : dm_fs 59 304 5 .long := ⟨by decide, by decide, q1452, rfl, rfl, by decide +kernel⟩
theorem fi_57 : dm_fs 57 308 4 .int := ⟨by decide, by decide, q1450, rfl, rfl, by decide +kernel⟩
theorem fi_60 : dm_fs 60 311 4 .int := ⟨by decide, by decide, q1453, rfl, rfl, by decide +kernel⟩
theorem fi_61 : dm_fs 61 314 4 .int := ⟨by decide, by decide, q1454, rfl, rfl, by decide +kernel⟩
theorem fi_62 : dm_fs 62 317 4 .int := ⟨by decide, by decide, q1455, rfl, rfl, by decide +kernel⟩
theorem fi_63 : dm_fs 63 375 4 .int := ⟨by decide, by decide, q1456, rfl, rfl, by decide +kernel⟩
theorem kd_1 : dm_kd 1 = 1 := by decide
theorem kd_2 : dm_kd 2 = 0 := by decide
theorem kd_3 : dm_kd 3 = 0 := by decide
theorem kd_4 : dm_kd 4 = 0 := by decide
theorem kd_5 : dm_kd 5 = 0 := by decide
theorem kd_6 : dm_kd 6 = 0 := by decide
theorem kd_7 : dm_kd 7 = 0 := by decide
theorem kd_8 : dm_kd 8 = 0 := by decide
theorem kd_9 : dm_kd 9 = 0 := by decide
theorem kd_10 : dm_kd 10 = 0 := by decide
theorem kd_11 : dm_kd 11 = 2 := by decide
theorem kd_12 : dm_kd 12 = 0 := by decide
theorem kd_13 : dm_kd 13 = 0 := by decide
theorem kd_14 : dm_kd 14 = 0 := by decide
theorem kd_15 : dm_kd 15 = 2 := by decide
theorem kd_16 : dm_kd 16 = 0 := by decide
theorem kd_17 : dm_kd 17 = 0 := by decide
theorem kd_18 : dm_kd 18 = 0 := by decide
theorem kd_19 : dm_kd 19 = 0 := by decide
theorem kd_20 : dm_kd 20 = 2 := by decide
theorem kd_21 : dm_kd 21 = 0 := by decide
theorem kd_22 : dm_kd 22 = 0 := by decide
theorem kd_23 : dm_kd 23 = 0 := by decide
theorem kd_24 : dm_kd 24 = 0 := by decide
theorem kd_25 : dm_kd 25 = 0 := by decide
theorem kd_26 : dm_kd 26 = 0 := by decide
theorem kd_27 : dm_kd 27 = 0 := by decide
theorem kd_28 : dm_kd 28 = 0 := by decide
theorem kd_29 : dm_kd 29 = 0 := by decide
theorem kd_30 : dm_kd 30 = 0 := by decide
theorem kd_31 : dm_kd 31 = 0 := by decide
theorem kd_32 : dm_kd 32 = 0 := by decide
theorem kd_33 : dm_kd 33 = 0 := by decide
theorem kd_34 : dm_kd 34 = 0 := by decide
theorem kd_35 : dm_kd 35 = 0 := by decide
theorem kd_36 : dm_kd 36 = 0 := by decide
theorem kd_37 : dm_kd 37 = 0 := by decide
theorem kd_38 : dm_kd 38 = 2 := by decide
theorem kd_39 : dm_kd 39 = 0 := by decide
theorem kd_40 : dm_kd 40 = 0 := by decide
theorem kd_41 : dm_kd 41 = 0 := by decide
theorem kd_42 : dm_kd 42 = 0 := by decide
theorem kd_43 : dm_kd 43 = 0 := by decide
theorem kd_44 : dm_kd 44 = 0 := by decide
theorem kd_45 : dm_kd 45 = 0 := by decide
theorem kd_46 : dm_kd 46 = 0 := by decide
theorem kd_47 : dm_kd 47 = 0 := by decide
theorem kd_48 : dm_kd 48 = 0 := by decide
theorem kd_49 : dm_kd 49 = 0 := by decide
theorem kd_50 : dm_kd 50 = 0 := by decide
theorem kd_51 : dm_kd 51 = 0 := by decide
theorem kd_52 : dm_kd 52 = 0 := by decide
theorem kd_53 : dm_kd 53 = 0 := by decide
theorem kd_64 : dm_kd 64 = 0 := by decide
theorem kd_65 : dm_kd 65 = 0 := by decide
theorem kd_66 : dm_kd 66 = 0 := by decide
theorem kd_67 : dm_kd 67 = 0 := by decide
theorem kd_68 : dm_kd 68 = 0 := by decide
theorem kd_69 : dm_kd 69 = 0 := by decide
theorem kd_70 : dm_kd 70 = 0 := by decide
theorem kd_71 : dm_kd 71 = 0 := by decide
theorem kd_72 : dm_kd 72 = 2 := by decide
theorem kd_73 : dm_kd 73 = 0 := by decide
theorem kd_74 : dm_kd 74 = 0 := by decide
theorem kd_75 : dm_kd 75 = 0 := by decide
theorem kd_76 : dm_kd 76 = 3 := by decide
theorem kd_77 : dm_kd 77 = 0 := by decide
theorem kd_78 : dm_kd 78 = 0 := by decide
theorem kd_79 : dm_kd 79 = 2 := by decide
