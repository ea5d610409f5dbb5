/-! small constants -/
theorem li_m1 : Int32.ofInt (-1) = (-1) := by decide +kernel
theorem li_0 : Int32.ofInt (0) = (nI 0) := by decide +kernel
theorem li_1 : Int32.ofInt (1) = (nI 1) := by decide +kernel
theorem li_2 : Int32.ofInt (2) = (nI 2) := by decide +kernel
theorem li_3 : Int32.ofInt (3) = (nI 3) := by decide +kernel
theorem li_4 : Int32.ofInt (4) = (nI 4) := by decide +kernel
theorem li_5 : Int32.ofInt (5) = (nI 5) := by decide +kernel
theorem lb_m10 : (Int8.ofInt (-10)).toInt32 = (-10) := by decide +kernel
theorem lb_m4 : (Int8.ofInt (-4)).toInt32 = (-4) := by decide +kernel
theorem lb_m3 : (Int8.ofInt (-3)).toInt32 = (-3) := by decide +kernel
theorem lb_m2 : (Int8.ofInt (-2)).toInt32 = (-2) := by decide +kernel
theorem lb_6 : (Int8.ofInt (6)).toInt32 = (nI 6) := by decide +kernel
theorem lb_7 : (Int8.ofInt (7)).toInt32 = (nI 7) := by decide +kernel
theorem lb_8 : (Int8.ofInt (8)).toInt32 = (nI 8) := by decide +kernel
theorem lb_9 : (Int8.ofInt (9)).toInt32 = (nI 9) := by decide +kernel
theorem lb_10 : (Int8.ofInt (10)).toInt32 = (nI 10) := by decide +kernel
theorem lb_12 : (Int8.ofInt (12)).toInt32 = (nI 12) := by decide +kernel
theorem lb_14 : (Int8.ofInt (14)).toInt32 = (nI 14) := by decide +kernel
theorem lb_16 : (Int8.ofInt (16)).toInt32 = (nI 16) := by decide +kernel
theorem lb_17 : (Int8.ofInt (17)).toInt32 = (nI 17) := by decide +kernel
theorem lb_23 : (Int8.ofInt (23)).toInt32 = (nI 23) := by decide +kernel
theorem lb_24 : (Int8.ofInt (24)).toInt32 = (nI 24) := by decide +kernel
theorem lb_48 : (Int8.ofInt (48)).toInt32 = (nI 48) := by decide +kernel
theorem lb_49 : (Int8.ofInt (49)).toInt32 = (nI 49) := by decide +kernel
theorem lb_57 : (Int8.ofInt (57)).toInt32 = (nI 57) := by decide +kernel
theorem lb_59 : (Int8.ofInt (59)).toInt32 = (nI 59) := by decide +kernel
theorem lb_60 : (Int8.ofInt (60)).toInt32 = (nI 60) := by decide +kernel
theorem lb_63 : (Int8.ofInt (63)).toInt32 = (nI 63) := by decide +kernel
theorem lb_97 : (Int8.ofInt (97)).toInt32 = (nI 97) := by decide +kernel
theorem lb_98 : (Int8.ofInt (98)).toInt32 = (nI 98) := by decide +kernel
theorem lb_99 : (Int8.ofInt (99)).toInt32 = (nI 99) := by decide +kernel
theorem lb_104 : (Int8.ofInt (104)).toInt32 = (nI 104) := by decide +kernel
theorem lb_109 : (Int8.ofInt (109)).toInt32 = (nI 109) := by decide +kernel
theorem lb_115 : (Int8.ofInt (115)).toInt32 = (nI 115) := by decide +kernel
theorem lb_120 : (Int8.ofInt (120)).toInt32 = (nI 120) := by decide +kernel
theorem ls_192 : (Int16.ofInt (192)).toInt32 = (nI 192) := by decide +kernel
theorem ls_240 : (Int16.ofInt (240)).toInt32 = (nI 240) := by decide +kernel
theorem ls_255 : (Int16.ofInt (255)).toInt32 = (nI 255) := by decide +kernel
theorem ls_288 : (Int16.ofInt (288)).toInt32 = (nI 288) := by decide +kernel
theorem ls_999 : (Int16.ofInt (999)).toInt32 = (nI 999) := by decide +kernel
theorem ls_1023 : (Int16.ofInt (1023)).toInt32 = (nI 1023) := by decide +kernel
theorem ls_9999 : (Int16.ofInt (9999)).toInt32 = (nI 9999) := by decide +kernel
theorem ls_12345 : (Int16.ofInt (12345)).toInt32 = (nI 12345) := by decide +kernel
theorem nr_0 : narrow .boolean (.int (nI 0)) = .int (nI 0) := by decide +kernel
theorem nr_1 : narrow .boolean (.int (nI 1)) = .int (nI 1) := by decide +kernel
