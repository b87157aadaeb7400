/-! small constants -/
theorem kb_m5 : (Int8.ofInt (-5)).toInt32 = (-5) := by decide
theorem kb_m4 : (Int8.ofInt (-4)).toInt32 = (-4) := by decide
theorem kb_m3 : (Int8.ofInt (-3)).toInt32 = (-3) := by decide
theorem kb_m2 : (Int8.ofInt (-2)).toInt32 = (-2) := by decide
theorem kb_6 : (Int8.ofInt (6)).toInt32 = nI 6 := by decide
theorem kb_9 : (Int8.ofInt (9)).toInt32 = nI 9 := by decide
theorem kb_10 : (Int8.ofInt (10)).toInt32 = nI 10 := by decide
theorem kb_13 : (Int8.ofInt (13)).toInt32 = nI 13 := by decide
theorem kb_16 : (Int8.ofInt (16)).toInt32 = nI 16 := by decide
theorem kb_17 : (Int8.ofInt (17)).toInt32 = nI 17 := by decide
theorem kb_20 : (Int8.ofInt (20)).toInt32 = nI 20 := by decide
theorem kb_31 : (Int8.ofInt (31)).toInt32 = nI 31 := by decide
theorem kb_32 : (Int8.ofInt (32)).toInt32 = nI 32 := by decide
theorem kb_36 : (Int8.ofInt (36)).toInt32 = nI 36 := by decide
theorem kb_40 : (Int8.ofInt (40)).toInt32 = nI 40 := by decide
theorem kb_45 : (Int8.ofInt (45)).toInt32 = nI 45 := by decide
theorem kb_48 : (Int8.ofInt (48)).toInt32 = nI 48 := by decide
theorem kb_50 : (Int8.ofInt (50)).toInt32 = nI 50 := by decide
theorem kb_51 : (Int8.ofInt (51)).toInt32 = nI 51 := by decide
theorem kb_52 : (Int8.ofInt (52)).toInt32 = nI 52 := by decide
theorem kb_53 : (Int8.ofInt (53)).toInt32 = nI 53 := by decide
theorem kb_57 : (Int8.ofInt (57)).toInt32 = nI 57 := by decide
theorem kb_59 : (Int8.ofInt (59)).toInt32 = nI 59 := by decide
theorem kb_61 : (Int8.ofInt (61)).toInt32 = nI 61 := by decide
theorem kb_64 : (Int8.ofInt (64)).toInt32 = nI 64 := by decide
theorem kb_100 : (Int8.ofInt (100)).toInt32 = nI 100 := by decide
theorem kb_101 : (Int8.ofInt (101)).toInt32 = nI 101 := by decide
theorem kb_110 : (Int8.ofInt (110)).toInt32 = nI 110 := by decide
theorem kb_115 : (Int8.ofInt (115)).toInt32 = nI 115 := by decide
theorem kb_119 : (Int8.ofInt (119)).toInt32 = nI 119 := by decide
theorem kb_126 : (Int8.ofInt (126)).toInt32 = nI 126 := by decide
theorem kc_m1 : Int32.ofInt (-1) = (-1) := by decide
theorem kc_0 : Int32.ofInt (0) = nI 0 := by decide
theorem kc_1 : Int32.ofInt (1) = nI 1 := by decide
theorem kc_2 : Int32.ofInt (2) = nI 2 := by decide
theorem kc_3 : Int32.ofInt (3) = nI 3 := by decide
theorem kc_4 : Int32.ofInt (4) = nI 4 := by decide
theorem kc_5 : Int32.ofInt (5) = nI 5 := by decide
theorem ks_255 : (Int16.ofInt (255)).toInt32 = nI 255 := by decide
theorem ks_1000 : (Int16.ofInt (1000)).toInt32 = nI 1000 := by decide
theorem ks_1023 : (Int16.ofInt (1023)).toInt32 = nI 1023 := by decide
theorem ks_1972 : (Int16.ofInt (1972)).toInt32 = nI 1972 := by decide
theorem ks_5916 : (Int16.ofInt (5916)).toInt32 = nI 5916 := by decide
theorem ks_7888 : (Int16.ofInt (7888)).toInt32 = nI 7888 := by decide
