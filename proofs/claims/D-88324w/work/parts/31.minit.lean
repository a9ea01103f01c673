set_option linter.unusedVariables false
theorem CI_X3 : CI 3 RX3 TX3 67 tyX3 := ⟨ci_X3, by decide, by decide, in_X3, tyX3_ok, nmX3⟩
theorem fa_X3_7_3 : FA "TableCatalogModel" 7 3 2 32 (.array .boolean) 2 := ⟨RX3, TX3, 67, tyX3, 1, "TableCatalogModel", CI_X3, by decide, rfl, rfl, by decide +kernel, Or.inl ⟨q1174, fun _ => ⟨rfl, rfl⟩⟩, fun h => (by cases h), Or.inl rfl⟩
theorem fa_X3_13_3 : FA "TableCatalogModel" 13 3 2 33 (.array .long) 2 := ⟨RX3, TX3, 67, tyX3, 2, "TableCatalogModel", CI_X3, by decide, rfl, rfl, by decide +kernel, Or.inl ⟨q1175, fun _ => ⟨rfl, rfl⟩⟩, fun h => (by cases h), Or.inl rfl⟩
theorem fa_X3_17_3 : FA "TableCatalogModel" 17 3 2 34 (.array .int) 2 := ⟨RX3, TX3, 67, tyX3, 3, "TableCatalogModel", CI_X3, by decide, rfl, rfl, by decide +kernel, Or.inl ⟨q1176, fun _ => ⟨rfl, rfl⟩⟩, fun h => (by cases h), Or.inl rfl⟩
theorem fa_X3_21_3 : FA "TableCatalogModel" 21 3 2 35 (.array .int) 2 := ⟨RX3, TX3, 67, tyX3, 4, "TableCatalogModel", CI_X3, by decide, rfl, rfl, by decide +kernel, Or.inl ⟨q1177, fun _ => ⟨rfl, rfl⟩⟩, fun h => (by cases h), Or.inl rfl⟩
theorem fa_X3_24_3 : FA "TableCatalogModel" 24 3 2 36 (.array .long) 2 := ⟨RX3, TX3, 67, tyX3, 5, "TableCatalogModel", CI_X3, by decide, rfl, rfl, by decide +kernel, Or.inl ⟨q1178, fun _ => ⟨rfl, rfl⟩⟩, fun h => (by cases h), Or.inl rfl⟩
theorem fa_X3_27_3 : FA "TableCatalogModel" 27 3 2 37 (.array .int) 2 := ⟨RX3, TX3, 67, tyX3, 6, "TableCatalogModel", CI_X3, by decide, rfl, rfl, by decide +kernel, Or.inl ⟨q1179, fun _ => ⟨rfl, rfl⟩⟩, fun h => (by cases h), Or.inl rfl⟩
theorem fa_X3_30_3 : FA "TableCatalogModel" 30 3 2 38 (.array .int) 2 := ⟨RX3, TX3, 67, tyX3, 7, "TableCatalogModel", CI_X3, by decide, rfl, rfl, by decide +kernel, Or.inl ⟨q1180, fun _ => ⟨rfl, rfl⟩⟩, fun h => (by cases h), Or.inl rfl⟩
theorem fa_X3_33_3 : FA "TableCatalogModel" 33 3 2 39 (.array .int) 2 := ⟨RX3, TX3, 67, tyX3, 8, "TableCatalogModel", CI_X3, by decide, rfl, rfl, by decide +kernel, Or.inl ⟨q1181, fun _ => ⟨rfl, rfl⟩⟩, fun h => (by cases h), Or.inl rfl⟩
theorem fa_X3_36_3 : FA "TableCatalogModel" 36 3 2 40 (.array .int) 2 := ⟨RX3, TX3, 67, tyX3, 9, "TableCatalogModel", CI_X3, by decide, rfl, rfl, by decide +kernel, Or.inl ⟨q1182, fun _ => ⟨rfl, rfl⟩⟩, fun h => (by cases h), Or.inl rfl⟩
theorem fa_X3_39_3 : FA "TableCatalogModel" 39 3 2 41 (.array .int) 2 := ⟨RX3, TX3, 67, tyX3, 10, "TableCatalogModel", CI_X3, by decide, rfl, rfl, by decide +kernel, Or.inl ⟨q1183, fun _ => ⟨rfl, rfl⟩⟩, fun h => (by cases h), Or.inl rfl⟩
theorem fa_X3_42_3 : FA "TableCatalogModel" 42 3 2 42 (.array .int) 2 := ⟨RX3, TX3, 67, tyX3, 11, "TableCatalogModel", CI_X3, by decide, rfl, rfl, by decide +kernel, Or.inl ⟨q1184, fun _ => ⟨rfl, rfl⟩⟩, fun h => (by cases h), Or.inl rfl⟩
theorem fa_X3_45_3 : FA "TableCatalogModel" 45 3 2 43 (.array .int) 2 := ⟨RX3, TX3, 67, tyX3, 12, "TableCatalogModel", CI_X3, by decide, rfl, rfl, by decide +kernel, Or.inl ⟨q1185, fun _ => ⟨rfl, rfl⟩⟩, fun h => (by cases h), Or.inl rfl⟩
theorem fa_X3_48_3 : FA "TableCatalogModel" 48 3 2 44 (.array .int) 2 := ⟨RX3, TX3, 67, tyX3, 13, "TableCatalogModel", CI_X3, by decide, rfl, rfl, by decide +kernel, Or.inl ⟨q1186, fun _ => ⟨rfl, rfl⟩⟩, fun h => (by cases h), Or.inl rfl⟩
theorem fa_X3_51_3 : FA "TableCatalogModel" 51 3 2 45 (.array .int) 2 := ⟨RX3, TX3, 67, tyX3, 14, "TableCatalogModel", CI_X3, by decide, rfl, rfl, by decide +kernel, Or.inl ⟨q1187, fun _ => ⟨rfl, rfl⟩⟩, fun h => (by cases h), Or.inl rfl⟩
theorem fa_X3_54_3 : FA "TableCatalogModel" 54 3 2 46 (.array .int) 2 := ⟨RX3, TX3, 67, tyX3, 15, "TableCatalogModel", CI_X3, by decide, rfl, rfl, by decide +kernel, Or.inl ⟨q1188, fun _ => ⟨rfl, rfl⟩⟩, fun h => (by cases h), Or.inl rfl⟩
theorem fa_X3_57_3 : FA "TableCatalogModel" 57 3 2 47 (.array .int) 2 := ⟨RX3, TX3, 67, tyX3, 16, "TableCatalogModel", CI_X3, by decide, rfl, rfl, by decide +kernel, Or.inl ⟨q1189, fun _ => ⟨rfl, rfl⟩⟩, fun h => (by cases h), Or.inl rfl⟩
theorem fa_X3_60_3 : FA "TableCatalogModel" 60 3 2 48 (.array .int) 2 := ⟨RX3, TX3, 67, tyX3, 17, "TableCatalogModel", CI_X3, by decide, rfl, rfl, by decide +kernel, Or.inl ⟨q1190, fun _ => ⟨rfl, rfl⟩⟩, fun h => (by cases h), Or.inl rfl⟩
theorem fa_X3_63_3 : FA "TableCatalogModel" 63 3 2 49 (.array .int) 2 := ⟨RX3, TX3, 67, tyX3, 18, "TableCatalogModel", CI_X3, by decide, rfl, rfl, by decide +kernel, Or.inl ⟨q1191, fun _ => ⟨rfl, rfl⟩⟩, fun h => (by cases h), Or.inl rfl⟩
theorem fa_X3_66_3 : FA "TableCatalogModel" 66 3 2 50 (.array .int) 2 := ⟨RX3, TX3, 67, tyX3, 19, "TableCatalogModel", CI_X3, by decide, rfl, rfl, by decide +kernel, Or.inl ⟨q1192, fun _ => ⟨rfl, rfl⟩⟩, fun h => (by cases h), Or.inl rfl⟩
theorem fa_X3_69_3 : FA "TableCatalogModel" 69 3 2 51 (.array .int) 2 := ⟨RX3, TX3, 67, tyX3, 20, "TableCatalogModel", CI_X3, by decide, rfl, rfl, by decide +kernel, Or.inl ⟨q1193, fun _ => ⟨rfl, rfl⟩⟩, fun h => (by cases h), Or.inl rfl⟩
theorem fa_X3_72_3 : FA "TableCatalogModel" 72 3 2 52 (.array .int) 2 := ⟨RX3, TX3, 67, tyX3, 21, "TableCatalogModel", CI_X3, by decide, rfl, rfl, by decide +kernel, Or.inl ⟨q1194, fun _ => ⟨rfl, rfl⟩⟩, fun h => (by cases h), Or.inl rfl⟩
theorem fa_X3_75_3 : FA "TableCatalogModel" 75 3 0 59 (.int) 1 := ⟨RX3, TX3, 67, tyX3, 28, "TableCatalogModel", CI_X3, by decide, rfl, rfl, by decide +kernel, Or.inl ⟨q1201, fun h => (by cases h)⟩, fun _ => rfl, Or.inl rfl⟩
theorem cw_X3_79 : CS "TableCatalogModel" 79 yX3_named cX3_named 9 (some (.long)) 5 := ⟨⟨q1168, q1169, q90, q1170⟩, by decide, by decide, by decide +kernel⟩
theorem fa_X3_83_3 : FA "TableCatalogModel" 83 3 1 64 (.long) 2 := ⟨RX3, TX3, 67, tyX3, 33, "TableCatalogModel", CI_X3, by decide, rfl, rfl, by decide +kernel, Or.inl ⟨q1206, fun _ => ⟨rfl, rfl⟩⟩, fun h => (by cases h), Or.inl rfl⟩
theorem fa_X3_87_3 : FA "TableCatalogModel" 87 3 1 65 (.long) 2 := ⟨RX3, TX3, 67, tyX3, 34, "TableCatalogModel", CI_X3, by decide, rfl, rfl, by decide +kernel, Or.inl ⟨q1207, fun _ => ⟨rfl, rfl⟩⟩, fun h => (by cases h), Or.inl rfl⟩
theorem fa_X3_90_3 : FA "TableCatalogModel" 90 3 1 66 (.long) 2 := ⟨RX3, TX3, 67, tyX3, 35, "TableCatalogModel", CI_X3, by decide, rfl, rfl, by decide +kernel, Or.inl ⟨q1208, fun _ => ⟨rfl, rfl⟩⟩, fun h => (by cases h), Or.inl rfl⟩
theorem fa_X3_93_3 : FA "TableCatalogModel" 93 3 1 67 (.long) 2 := ⟨RX3, TX3, 67, tyX3, 36, "TableCatalogModel", CI_X3, by decide, rfl, rfl, by decide +kernel, Or.inl ⟨q1209, fun _ => ⟨rfl, rfl⟩⟩, fun h => (by cases h), Or.inl rfl⟩
theorem fa_X3_96_3 : FA "TableCatalogModel" 96 3 1 68 (.long) 2 := ⟨RX3, TX3, 67, tyX3, 37, "TableCatalogModel", CI_X3, by decide, rfl, rfl, by decide +kernel, Or.inl ⟨q1210, fun _ => ⟨rfl, rfl⟩⟩, fun h => (by cases h), Or.inl rfl⟩
theorem fa_X3_99_3 : FA "TableCatalogModel" 99 3 1 69 (.long) 2 := ⟨RX3, TX3, 67, tyX3, 38, "TableCatalogModel", CI_X3, by decide, rfl, rfl, by decide +kernel, Or.inl ⟨q1211, fun _ => ⟨rfl, rfl⟩⟩, fun h => (by cases h), Or.inl rfl⟩
theorem fa_X3_102_3 : FA "TableCatalogModel" 102 3 1 70 (.long) 2 := ⟨RX3, TX3, 67, tyX3, 39, "TableCatalogModel", CI_X3, by decide, rfl, rfl, by decide +kernel, Or.inl ⟨q1212, fun _ => ⟨rfl, rfl⟩⟩, fun h => (by cases h), Or.inl rfl⟩
theorem fa_X3_105_3 : FA "TableCatalogModel" 105 3 2 71 (.array .int) 2 := ⟨RX3, TX3, 67, tyX3, 40, "TableCatalogModel", CI_X3, by decide, rfl, rfl, by decide +kernel, Or.inl ⟨q1213, fun _ => ⟨rfl, rfl⟩⟩, fun h => (by cases h), Or.inl rfl⟩
theorem fa_X3_108_3 : FA "TableCatalogModel" 108 3 2 74 (.array .long) 2 := ⟨RX3, TX3, 67, tyX3, 43, "TableCatalogModel", CI_X3, by decide, rfl, rfl, by decide +kernel, Or.inl ⟨q1216, fun _ => ⟨rfl, rfl⟩⟩, fun h => (by cases h), Or.inl rfl⟩
theorem fa_X3_111_3 : FA "TableCatalogModel" 111 3 2 75 (.array .int) 2 := ⟨RX3, TX3, 67, tyX3, 44, "TableCatalogModel", CI_X3, by decide, rfl, rfl, by decide +kernel, Or.inl ⟨q1217, fun _ => ⟨rfl, rfl⟩⟩, fun h => (by cases h), Or.inl rfl⟩
theorem fa_X3_114_3 : FA "TableCatalogModel" 114 3 2 76 (.array .int) 2 := ⟨RX3, TX3, 67, tyX3, 45, "TableCatalogModel", CI_X3, by decide, rfl, rfl, by decide +kernel, Or.inl ⟨q1218, fun _ => ⟨rfl, rfl⟩⟩, fun h => (by cases h), Or.inl rfl⟩
theorem fa_X3_117_3 : FA "TableCatalogModel" 117 3 2 77 (.array .int) 2 := ⟨RX3, TX3, 67, tyX3, 46, "TableCatalogModel", CI_X3, by decide, rfl, rfl, by decide +kernel, Or.inl ⟨q1219, fun _ => ⟨rfl, rfl⟩⟩, fun h => (by cases h), Or.inl rfl⟩
theorem fa_X3_120_3 : FA "TableCatalogModel" 120 3 2 78 (.array .int) 2 := ⟨RX3, TX3, 67, tyX3, 47, "TableCatalogModel", CI_X3, by decide, rfl, rfl, by decide +kernel, Or.inl ⟨q1220, fun _ => ⟨rfl, rfl⟩⟩, fun h => (by cases h), Or.inl rfl⟩
theorem fa_X3_123_3 : FA "TableCatalogModel" 123 3 2 79 (.array .int) 2 := ⟨RX3, TX3, 67, tyX3, 48, "TableCatalogModel", CI_X3, by decide, rfl, rfl, by decide +kernel, Or.inl ⟨q1221, fun _ => ⟨rfl, rfl⟩⟩, fun h => (by cases h), Or.inl rfl⟩
theorem fa_X3_126_3 : FA "TableCatalogModel" 126 3 2 80 (.array .int) 2 := ⟨RX3, TX3, 67, tyX3, 49, "TableCatalogModel", CI_X3, by decide, rfl, rfl, by decide +kernel, Or.inl ⟨q1222, fun _ => ⟨rfl, rfl⟩⟩, fun h => (by cases h), Or.inl rfl⟩
theorem fa_X3_129_3 : FA "TableCatalogModel" 129 3 2 84 (.array .int) 2 := ⟨RX3, TX3, 67, tyX3, 53, "TableCatalogModel", CI_X3, by decide, rfl, rfl, by decide +kernel, Or.inl ⟨q1226, fun _ => ⟨rfl, rfl⟩⟩, fun h => (by cases h), Or.inl rfl⟩
theorem fa_X3_132_3 : FA "TableCatalogModel" 132 3 2 85 (.array .int) 2 := ⟨RX3, TX3, 67, tyX3, 54, "TableCatalogModel", CI_X3, by decide, rfl, rfl, by decide +kernel, Or.inl ⟨q1227, fun _ => ⟨rfl, rfl⟩⟩, fun h => (by cases h), Or.inl rfl⟩
theorem fa_X3_135_3 : FA "TableCatalogModel" 135 3 2 86 (.array .int) 2 := ⟨RX3, TX3, 67, tyX3, 55, "TableCatalogModel", CI_X3, by decide, rfl, rfl, by decide +kernel, Or.inl ⟨q1228, fun _ => ⟨rfl, rfl⟩⟩, fun h => (by cases h), Or.inl rfl⟩
theorem fa_X3_138_3 : FA "TableCatalogModel" 138 3 2 87 (.array .boolean) 2 := ⟨RX3, TX3, 67, tyX3, 56, "TableCatalogModel", CI_X3, by decide, rfl, rfl, by decide +kernel, Or.inl ⟨q1229, fun _ => ⟨rfl, rfl⟩⟩, fun h => (by cases h), Or.inl rfl⟩
theorem fa_X3_141_3 : FA "TableCatalogModel" 141 3 2 89 (.array .int) 2 := ⟨RX3, TX3, 67, tyX3, 58, "TableCatalogModel", CI_X3, by decide, rfl, rfl, by decide +kernel, Or.inl ⟨q1231, fun _ => ⟨rfl, rfl⟩⟩, fun h => (by cases h), Or.inl rfl⟩
theorem fa_X3_144_3 : FA "TableCatalogModel" 144 3 2 91 (.array .int) 2 := ⟨RX3, TX3, 67, tyX3, 60, "TableCatalogModel", CI_X3, by decide, rfl, rfl, by decide +kernel, Or.inl ⟨q1233, fun _ => ⟨rfl, rfl⟩⟩, fun h => (by cases h), Or.inl rfl⟩
theorem fa_X3_147_3 : FA "TableCatalogModel" 147 3 2 92 (.array .int) 2 := ⟨RX3, TX3, 67, tyX3, 61, "TableCatalogModel", CI_X3, by decide, rfl, rfl, by decide +kernel, Or.inl ⟨q1234, fun _ => ⟨rfl, rfl⟩⟩, fun h => (by cases h), Or.inl rfl⟩
theorem fa_X3_150_3 : FA "TableCatalogModel" 150 3 2 93 (.array .int) 2 := ⟨RX3, TX3, 67, tyX3, 62, "TableCatalogModel", CI_X3, by decide, rfl, rfl, by decide +kernel, Or.inl ⟨q1235, fun _ => ⟨rfl, rfl⟩⟩, fun h => (by cases h), Or.inl rfl⟩
theorem fa_X3_153_3 : FA "TableCatalogModel" 153 3 2 94 (.array .int) 2 := ⟨RX3, TX3, 67, tyX3, 63, "TableCatalogModel", CI_X3, by decide, rfl, rfl, by decide +kernel, Or.inl ⟨q1236, fun _ => ⟨rfl, rfl⟩⟩, fun h => (by cases h), Or.inl rfl⟩
theorem fa_X3_156_3 : FA "TableCatalogModel" 156 3 2 97 (.array .int) 2 := ⟨RX3, TX3, 67, tyX3, 66, "TableCatalogModel", CI_X3, by decide, rfl, rfl, by decide +kernel, Or.inl ⟨q1239, fun _ => ⟨rfl, rfl⟩⟩, fun h => (by cases h), Or.inl rfl⟩
def f_X3_init (a0 : Nat) (S : HS) : Option HS :=
  (n_arr S 34 (17)).bind fun T1 =>
  (p_fR T1 3 32 a0 (some (h_nx S))).bind fun T2 =>
  (n_arr T2 38 (17)).bind fun T3 =>
  (p_fR T3 3 33 a0 (some (h_nx T2))).bind fun T4 =>
  (n_arr T4 31 (17)).bind fun T5 =>
  (p_fR T5 3 34 a0 (some (h_nx T4))).bind fun T6 =>
  (n_arr T6 31 (17)).bind fun T7 =>
  (p_fR T7 3 35 a0 (some (h_nx T6))).bind fun T8 =>
  (n_arr T8 38 (136)).bind fun T9 =>
  (p_fR T9 3 36 a0 (some (h_nx T8))).bind fun T10 =>
  (n_arr T10 31 (136)).bind fun T11 =>
  (p_fR T11 3 37 a0 (some (h_nx T10))).bind fun T12 =>
  (n_arr T12 31 (17)).bind fun T13 =>
  (p_fR T13 3 38 a0 (some (h_nx T12))).bind fun T14 =>
  (n_arr T14 31 (51)).bind fun T15 =>
  (p_fR T15 3 39 a0 (some (h_nx T14))).bind fun T16 =>
  (n_arr T16 31 (17)).bind fun T17 =>
  (p_fR T17 3 40 a0 (some (h_nx T16))).bind fun T18 =>
  (n_arr T18 31 (17)).bind fun T19 =>
  (p_fR T19 3 41 a0 (some (h_nx T18))).bind fun T20 =>
  (n_arr T20 31 (17)).bind fun T21 =>
  (p_fR T21 3 42 a0 (some (h_nx T20))).bind fun T22 =>
  (n_arr T22 31 (17)).bind fun T23 =>
  (p_fR T23 3 43 a0 (some (h_nx T22))).bind fun T24 =>
  (n_arr T24 31 (17)).bind fun T25 =>
  (p_fR T25 3 44 a0 (some (h_nx T24))).bind fun T26 =>
  (n_arr T26 31 (6800)).bind fun T27 =>
  (p_fR T27 3 45 a0 (some (h_nx T26))).bind fun T28 =>
  (n_arr T28 31 (6800)).bind fun T29 =>
  (p_fR T29 3 46 a0 (some (h_nx T28))).bind fun T30 =>
  (n_arr T30 31 (6800)).bind fun T31 =>
  (p_fR T31 3 47 a0 (some (h_nx T30))).bind fun T32 =>
  (n_arr T32 31 (6800)).bind fun T33 =>
  (p_fR T33 3 48 a0 (some (h_nx T32))).bind fun T34 =>
  (n_arr T34 31 (136)).bind fun T35 =>
  (p_fR T35 3 49 a0 (some (h_nx T34))).bind fun T36 =>
  (n_arr T36 31 (136)).bind fun T37 =>
  (p_fR T37 3 50 a0 (some (h_nx T36))).bind fun T38 =>
  (n_arr T38 31 (17)).bind fun T39 =>
  (p_fR T39 3 51 a0 (some (h_nx T38))).bind fun T40 =>
  (n_arr T40 31 (400)).bind fun T41 =>
  (p_fR T41 3 52 a0 (some (h_nx T40))).bind fun T42 =>
  (p_fI T42 3 59 a0 (-1)).bind fun T43 =>
  (f_X3_named (118) (105) (101) (119) (32)).bind fun w44 =>
  (p_fJ T43 3 64 a0 w44).bind fun T45 =>
  (f_X3_named (99) (111) (112) (121) (32)).bind fun w46 =>
  (p_fJ T45 3 65 a0 w46).bind fun T47 =>
  (f_X3_named (116) (97) (98) (108) (101)).bind fun w48 =>
  (p_fJ T47 3 66 a0 w48).bind fun T49 =>
  (f_X3_named (102) (114) (111) (109) (32)).bind fun w50 =>
  (p_fJ T49 3 67 a0 w50).bind fun T51 =>
  (f_X3_named (119) (104) (101) (114) (101)).bind fun w52 =>
  (p_fJ T51 3 68 a0 w52).bind fun T53 =>
  (f_X3_named (108) (101) (110) (32) (32)).bind fun w54 =>
  (p_fJ T53 3 69 a0 w54).bind fun T55 =>
  (f_X3_named (115) (116) (114) (32) (32)).bind fun w56 =>
  (p_fJ T55 3 70 a0 w56).bind fun T57 =>
  (n_arr T57 31 (4)).bind fun T58 =>
  (p_fR T58 3 71 a0 (some (h_nx T57))).bind fun T59 =>
  (n_arr T59 38 (3)).bind fun T60 =>
  (p_fR T60 3 74 a0 (some (h_nx T59))).bind fun T61 =>
  (n_arr T61 31 (3)).bind fun T62 =>
  (p_fR T62 3 75 a0 (some (h_nx T61))).bind fun T63 =>
  (n_arr T63 31 (4)).bind fun T64 =>
  (p_fR T64 3 76 a0 (some (h_nx T63))).bind fun T65 =>
  (n_arr T65 31 (4)).bind fun T66 =>
  (p_fR T66 3 77 a0 (some (h_nx T65))).bind fun T67 =>
  (n_arr T67 31 (4)).bind fun T68 =>
  (p_fR T68 3 78 a0 (some (h_nx T67))).bind fun T69 =>
  (n_arr T69 31 (4)).bind fun T70 =>
  (p_fR T70 3 79 a0 (some (h_nx T69))).bind fun T71 =>
  (n_arr T71 31 (4)).bind fun T72 =>
  (p_fR T72 3 80 a0 (some (h_nx T71))).bind fun T73 =>
  (n_arr T73 31 (136)).bind fun T74 =>
  (p_fR T74 3 84 a0 (some (h_nx T73))).bind fun T75 =>
  (n_arr T75 31 (17)).bind fun T76 =>
  (p_fR T76 3 85 a0 (some (h_nx T75))).bind fun T77 =>
  (n_arr T77 31 (17)).bind fun T78 =>
  (p_fR T78 3 86 a0 (some (h_nx T77))).bind fun T79 =>
  (n_arr T79 34 (136)).bind fun T80 =>
  (p_fR T80 3 87 a0 (some (h_nx T79))).bind fun T81 =>
  (n_arr T81 31 (140)).bind fun T82 =>
  (p_fR T82 3 89 a0 (some (h_nx T81))).bind fun T83 =>
  (n_arr T83 31 (40)).bind fun T84 =>
  (p_fR T84 3 91 a0 (some (h_nx T83))).bind fun T85 =>
  (n_arr T85 31 (40)).bind fun T86 =>
  (p_fR T86 3 92 a0 (some (h_nx T85))).bind fun T87 =>
  (n_arr T87 31 (40)).bind fun T88 =>
  (p_fR T88 3 93 a0 (some (h_nx T87))).bind fun T89 =>
  (n_arr T89 31 (40)).bind fun T90 =>
  (p_fR T90 3 94 a0 (some (h_nx T89))).bind fun T91 =>
  (n_arr T91 31 (136)).bind fun T92 =>
  (p_fR T92 3 97 a0 (some (h_nx T91))).bind fun T93 =>
  some T93
set_option maxRecDepth 100000 in
set_option maxHeartbeats 2000000 in
theorem c_X3_init {l : Launch} {g : PG} {mo : MO} {a0 : Nat} {S S1 : HS} (hf : f_X3_init a0 S = some S1) : (h_nx S ≤ h_nx S1 ∧ h_sl S ≤ h_sl S1) ∧ Ct l g yX3_init (ws_ yX3_init cX3_init 1 none) 2 88 S mo [vr (some a0)] none S1 mo := by
  refine met_of true (by decide) (fun h => by first | rfl | cases h) rfl (Nat.le_of_ble_eq_true rfl) (fun f hl hg hc ho hnL hrm hre hct hex hq => ?_)
  subst hl
  subst hg
  unfold f_X3_init at hf
  refine j_aload_n (pc := 0) hc dX3_init_0 0 rfl rfl ?_
  refine j_oini (pc := 1) hc ho q1167 q_oi1 q_oi2 hrm ⟨by decide, Nat.le_of_ble_eq_true rfl⟩ dX3_init_1 ?_
  refine j_aload_n (pc := 4) hc dX3_init_4 0 rfl rfl ?_
  refine j_bipush (pc := 5) (v := (17)) hc dX3_init_5 rfl ?_
  obtain ⟨T1, eT1, hf1⟩ := ob_i hf
  clear hf
  refine j_na34 (pc := 7) hc dX3_init_7 eT1 ?_
  obtain ⟨T2, eT2, hf2⟩ := ob_i hf1
  clear hf1
  refine j_putR (pc := 9) hc ho fa_X3_7_3 rfl (Or.inr ⟨rfl, hct⟩) dX3_init_9 eT2 ?_
  refine j_aload_n (pc := 12) hc dX3_init_12 0 rfl rfl ?_
  refine j_bipush (pc := 13) (v := (17)) hc dX3_init_13 rfl ?_
  obtain ⟨T3, eT3, hf3⟩ := ob_i hf2
  clear hf2
  refine j_na38 (pc := 15) hc dX3_init_15 eT3 ?_
  obtain ⟨T4, eT4, hf4⟩ := ob_i hf3
  clear hf3
  refine j_putR (pc := 17) hc ho fa_X3_13_3 rfl (Or.inr ⟨rfl, hct⟩) dX3_init_17 eT4 ?_
  refine j_aload_n (pc := 20) hc dX3_init_20 0 rfl rfl ?_
  refine j_bipush (pc := 21) (v := (17)) hc dX3_init_21 rfl ?_
  obtain ⟨T5, eT5, hf5⟩ := ob_i hf4
  clear hf4
  refine j_na31 (pc := 23) hc dX3_init_23 eT5 ?_
  obtain ⟨T6, eT6, hf6⟩ := ob_i hf5
  clear hf5
  refine j_putR (pc := 25) hc ho fa_X3_17_3 rfl (Or.inr ⟨rfl, hct⟩) dX3_init_25 eT6 ?_
  refine j_aload_n (pc := 28) hc dX3_init_28 0 rfl rfl ?_
  refine j_bipush (pc := 29) (v := (17)) hc dX3_init_29 rfl ?_
  obtain ⟨T7, eT7, hf7⟩ := ob_i hf6
  clear hf6
  refine j_na31 (pc := 31) hc dX3_init_31 eT7 ?_
  obtain ⟨T8, eT8, hf8⟩ := ob_i hf7
  clear hf7
  refine j_putR (pc := 33) hc ho fa_X3_21_3 rfl (Or.inr ⟨rfl, hct⟩) dX3_init_33 eT8 ?_
  refine j_aload_n (pc := 36) hc dX3_init_36 0 rfl rfl ?_
  refine j_sipush (pc := 37) (v := (136)) hc dX3_init_37 rfl ?_
  obtain ⟨T9, eT9, hf9⟩ := ob_i hf8
  clear hf8
  refine j_na38 (pc := 40) hc dX3_init_40 eT9 ?_
  obtain ⟨T10, eT10, hf10⟩ := ob_i hf9
  clear hf9
  refine j_putR (pc := 42) hc ho fa_X3_24_3 rfl (Or.inr ⟨rfl, hct⟩) dX3_init_42 eT10 ?_
  refine j_aload_n (pc := 45) hc dX3_init_45 0 rfl rfl ?_
  refine j_sipush (pc := 46) (v := (136)) hc dX3_init_46 rfl ?_
  obtain ⟨T11, eT11, hf11⟩ := ob_i hf10
  clear hf10
  refine j_na31 (pc := 49) hc dX3_init_49 eT11 ?_
  obtain ⟨T12, eT12, hf12⟩ := ob_i hf11
  clear hf11
  refine j_putR (pc := 51) hc ho fa_X3_27_3 rfl (Or.inr ⟨rfl, hct⟩) dX3_init_51 eT12 ?_
  refine j_aload_n (pc := 54) hc dX3_init_54 0 rfl rfl ?_
  refine j_bipush (pc := 55) (v := (17)) hc dX3_init_55 rfl ?_
  obtain ⟨T13, eT13, hf13⟩ := ob_i hf12
  clear hf12
  refine j_na31 (pc := 57) hc dX3_init_57 eT13 ?_
  obtain ⟨T14, eT14, hf14⟩ := ob_i hf13
  clear hf13
  refine j_putR (pc := 59) hc ho fa_X3_30_3 rfl (Or.inr ⟨rfl, hct⟩) dX3_init_59 eT14 ?_
  refine j_aload_n (pc := 62) hc dX3_init_62 0 rfl rfl ?_
  refine j_bipush (pc := 63) (v := (51)) hc dX3_init_63 rfl ?_
  obtain ⟨T15, eT15, hf15⟩ := ob_i hf14
  clear hf14
  refine j_na31 (pc := 65) hc dX3_init_65 eT15 ?_
  obtain ⟨T16, eT16, hf16⟩ := ob_i hf15
  clear hf15
  refine j_putR (pc := 67) hc ho fa_X3_33_3 rfl (Or.inr ⟨rfl, hct⟩) dX3_init_67 eT16 ?_
  refine j_aload_n (pc := 70) hc dX3_init_70 0 rfl rfl ?_
  refine j_bipush (pc := 71) (v := (17)) hc dX3_init_71 rfl ?_
  obtain ⟨T17, eT17, hf17⟩ := ob_i hf16
  clear hf16
  refine j_na31 (pc := 73) hc dX3_init_73 eT17 ?_
  obtain ⟨T18, eT18, hf18⟩ := ob_i hf17
  clear hf17
  refine j_putR (pc := 75) hc ho fa_X3_36_3 rfl (Or.inr ⟨rfl, hct⟩) dX3_init_75 eT18 ?_
  refine j_aload_n (pc := 78) hc dX3_init_78 0 rfl rfl ?_
  refine j_bipush (pc := 79) (v := (17)) hc dX3_init_79 rfl ?_
  obtain ⟨T19, eT19, hf19⟩ := ob_i hf18
  clear hf18
  refine j_na31 (pc := 81) hc dX3_init_81 eT19 ?_
  obtain ⟨T20, eT20, hf20⟩ := ob_i hf19
  clear hf19
  refine j_putR (pc := 83) hc ho fa_X3_39_3 rfl (Or.inr ⟨rfl, hct⟩) dX3_init_83 eT20 ?_
  refine j_aload_n (pc := 86) hc dX3_init_86 0 rfl rfl ?_
  refine j_bipush (pc := 87) (v := (17)) hc dX3_init_87 rfl ?_
  obtain ⟨T21, eT21, hf21⟩ := ob_i hf20
  clear hf20
  refine j_na31 (pc := 89) hc dX3_init_89 eT21 ?_
  obtain ⟨T22, eT22, hf22⟩ := ob_i hf21
  clear hf21
  refine j_putR (pc := 91) hc ho fa_X3_42_3 rfl (Or.inr ⟨rfl, hct⟩) dX3_init_91 eT22 ?_
  refine j_aload_n (pc := 94) hc dX3_init_94 0 rfl rfl ?_
  refine j_bipush (pc := 95) (v := (17)) hc dX3_init_95 rfl ?_
  obtain ⟨T23, eT23, hf23⟩ := ob_i hf22
  clear hf22
  refine j_na31 (pc := 97) hc dX3_init_97 eT23 ?_
  obtain ⟨T24, eT24, hf24⟩ := ob_i hf23
  clear hf23
  refine j_putR (pc := 99) hc ho fa_X3_45_3 rfl (Or.inr ⟨rfl, hct⟩) dX3_init_99 eT24 ?_
  refine j_aload_n (pc := 102) hc dX3_init_102 0 rfl rfl ?_
  refine j_bipush (pc := 103) (v := (17)) hc dX3_init_103 rfl ?_
  obtain ⟨T25, eT25, hf25⟩ := ob_i hf24
  clear hf24
  refine j_na31 (pc := 105) hc dX3_init_105 eT25 ?_
  obtain ⟨T26, eT26, hf26⟩ := ob_i hf25
  clear hf25
  refine j_putR (pc := 107) hc ho fa_X3_48_3 rfl (Or.inr ⟨rfl, hct⟩) dX3_init_107 eT26 ?_
  refine j_aload_n (pc := 110) hc dX3_init_110 0 rfl rfl ?_
  refine j_sipush (pc := 111) (v := (6800)) hc dX3_init_111 rfl ?_
  obtain ⟨T27, eT27, hf27⟩ := ob_i hf26
  clear hf26
  refine j_na31 (pc := 114) hc dX3_init_114 eT27 ?_
  obtain ⟨T28, eT28, hf28⟩ := ob_i hf27
  clear hf27
  refine j_putR (pc := 116) hc ho fa_X3_51_3 rfl (Or.inr ⟨rfl, hct⟩) dX3_init_116 eT28 ?_
  refine j_aload_n (pc := 119) hc dX3_init_119 0 rfl rfl ?_
  refine j_sipush (pc := 120) (v := (6800)) hc dX3_init_120 rfl ?_
  obtain ⟨T29, eT29, hf29⟩ := ob_i hf28
  clear hf28
  refine j_na31 (pc := 123) hc dX3_init_123 eT29 ?_
  obtain ⟨T30, eT30, hf30⟩ := ob_i hf29
  clear hf29
  refine j_putR (pc := 125) hc ho fa_X3_54_3 rfl (Or.inr ⟨rfl, hct⟩) dX3_init_125 eT30 ?_
  refine j_aload_n (pc := 128) hc dX3_init_128 0 rfl rfl ?_
  refine j_sipush (pc := 129) (v := (6800)) hc dX3_init_129 rfl ?_
  obtain ⟨T31, eT31, hf31⟩ := ob_i hf30
  clear hf30
  refine j_na31 (pc := 132) hc dX3_init_132 eT31 ?_
  obtain ⟨T32, eT32, hf32⟩ := ob_i hf31
  clear hf31
  refine j_putR (pc := 134) hc ho fa_X3_57_3 rfl (Or.inr ⟨rfl, hct⟩) dX3_init_134 eT32 ?_
  refine j_aload_n (pc := 137) hc dX3_init_137 0 rfl rfl ?_
  refine j_sipush (pc := 138) (v := (6800)) hc dX3_init_138 rfl ?_
  obtain ⟨T33, eT33, hf33⟩ := ob_i hf32
  clear hf32
  refine j_na31 (pc := 141) hc dX3_init_141 eT33 ?_
  obtain ⟨T34, eT34, hf34⟩ := ob_i hf33
  clear hf33
  refine j_putR (pc := 143) hc ho fa_X3_60_3 rfl (Or.inr ⟨rfl, hct⟩) dX3_init_143 eT34 ?_
  refine j_aload_n (pc := 146) hc dX3_init_146 0 rfl rfl ?_
  refine j_sipush (pc := 147) (v := (136)) hc dX3_init_147 rfl ?_
  obtain ⟨T35, eT35, hf35⟩ := ob_i hf34
  clear hf34
  refine j_na31 (pc := 150) hc dX3_init_150 eT35 ?_
  obtain ⟨T36, eT36, hf36⟩ := ob_i hf35
  clear hf35
  refine j_putR (pc := 152) hc ho fa_X3_63_3 rfl (Or.inr ⟨rfl, hct⟩) dX3_init_152 eT36 ?_
  refine j_aload_n (pc := 155) hc dX3_init_155 0 rfl rfl ?_
  refine j_sipush (pc := 156) (v := (136)) hc dX3_init_156 rfl ?_
  obtain ⟨T37, eT37, hf37⟩ := ob_i hf36
  clear hf36
  refine j_na31 (pc := 159) hc dX3_init_159 eT37 ?_
  obtain ⟨T38, eT38, hf38⟩ := ob_i hf37
  clear hf37
  refine j_putR (pc := 161) hc ho fa_X3_66_3 rfl (Or.inr ⟨rfl, hct⟩) dX3_init_161 eT38 ?_
  refine j_aload_n (pc := 164) hc dX3_init_164 0 rfl rfl ?_
  refine j_bipush (pc := 165) (v := (17)) hc dX3_init_165 rfl ?_
  obtain ⟨T39, eT39, hf39⟩ := ob_i hf38
  clear hf38
  refine j_na31 (pc := 167) hc dX3_init_167 eT39 ?_
  obtain ⟨T40, eT40, hf40⟩ := ob_i hf39
  clear hf39
  refine j_putR (pc := 169) hc ho fa_X3_69_3 rfl (Or.inr ⟨rfl, hct⟩) dX3_init_169 eT40 ?_
  refine j_aload_n (pc := 172) hc dX3_init_172 0 rfl rfl ?_
  refine j_sipush (pc := 173) (v := (400)) hc dX3_init_173 rfl ?_
  obtain ⟨T41, eT41, hf41⟩ := ob_i hf40
  clear hf40
  refine j_na31 (pc := 176) hc dX3_init_176 eT41 ?_
  obtain ⟨T42, eT42, hf42⟩ := ob_i hf41
  clear hf41
  refine j_putR (pc := 178) hc ho fa_X3_72_3 rfl (Or.inr ⟨rfl, hct⟩) dX3_init_178 eT42 ?_
  refine j_aload_n (pc := 181) hc dX3_init_181 0 rfl rfl ?_
  refine j_iconst (pc := 182) (v := (-1)) hc dX3_init_182 rfl ?_
  obtain ⟨T43, eT43, hf43⟩ := ob_i hf42
  clear hf42
  refine j_putI (pc := 183) hc ho fa_X3_75_3 (Or.inl rfl) dX3_init_183 eT43 ?_
  refine j_aload_n (pc := 186) hc dX3_init_186 0 rfl rfl ?_
  refine j_bipush (pc := 187) (v := (118)) hc dX3_init_187 rfl ?_
  refine j_bipush (pc := 189) (v := (105)) hc dX3_init_189 rfl ?_
  refine j_bipush (pc := 191) (v := (101)) hc dX3_init_191 rfl ?_
  refine j_bipush (pc := 193) (v := (119)) hc dX3_init_193 rfl ?_
  refine j_bipush (pc := 195) (v := (32)) hc dX3_init_195 rfl ?_
  obtain ⟨w44, ew44, hf44⟩ := ob_i hf43
  clear hf43
  refine j_callS (pc := 197) (As := [vi (118), vi (105), vi (101), vi (119), vi (32)]) (rest := [vr (some a0)]) (st2 := [vl w44, vr (some a0)]) hc ho cw_X3_79 (c_X3_named ew44) hrm ⟨by decide, by decide⟩ rfl (Nat.le_of_ble_eq_true rfl) dX3_init_197 rfl rfl ?_
  obtain ⟨T45, eT45, hf45⟩ := ob_i hf44
  clear hf44
  refine j_putJ (pc := 200) hc ho fa_X3_83_3 (Or.inr ⟨rfl, hct⟩) dX3_init_200 eT45 ?_
  refine j_aload_n (pc := 203) hc dX3_init_203 0 rfl rfl ?_
  refine j_bipush (pc := 204) (v := (99)) hc dX3_init_204 rfl ?_
  refine j_bipush (pc := 206) (v := (111)) hc dX3_init_206 rfl ?_
  refine j_bipush (pc := 208) (v := (112)) hc dX3_init_208 rfl ?_
  refine j_bipush (pc := 210) (v := (121)) hc dX3_init_210 rfl ?_
  refine j_bipush (pc := 212) (v := (32)) hc dX3_init_212 rfl ?_
  obtain ⟨w46, ew46, hf46⟩ := ob_i hf45
  clear hf45
  refine j_callS (pc := 214) (As := [vi (99), vi (111), vi (112), vi (121), vi (32)]) (rest := [vr (some a0)]) (st2 := [vl w46, vr (some a0)]) hc ho cw_X3_79 (c_X3_named ew46) hrm ⟨by decide, by decide⟩ rfl (Nat.le_of_ble_eq_true rfl) dX3_init_214 rfl rfl ?_
  obtain ⟨T47, eT47, hf47⟩ := ob_i hf46
  clear hf46
  refine j_putJ (pc := 217) hc ho fa_X3_87_3 (Or.inr ⟨rfl, hct⟩) dX3_init_217 eT47 ?_
  refine j_aload_n (pc := 220) hc dX3_init_220 0 rfl rfl ?_
  refine j_bipush (pc := 221) (v := (116)) hc dX3_init_221 rfl ?_
  refine j_bipush (pc := 223) (v := (97)) hc dX3_init_223 rfl ?_
  refine j_bipush (pc := 225) (v := (98)) hc dX3_init_225 rfl ?_
  refine j_bipush (pc := 227) (v := (108)) hc dX3_init_227 rfl ?_
  refine j_bipush (pc := 229) (v := (101)) hc dX3_init_229 rfl ?_
  obtain ⟨w48, ew48, hf48⟩ := ob_i hf47
  clear hf47
  refine j_callS (pc := 231) (As := [vi (116), vi (97), vi (98), vi (108), vi (101)]) (rest := [vr (some a0)]) (st2 := [vl w48, vr (some a0)]) hc ho cw_X3_79 (c_X3_named ew48) hrm ⟨by decide, by decide⟩ rfl (Nat.le_of_ble_eq_true rfl) dX3_init_231 rfl rfl ?_
  obtain ⟨T49, eT49, hf49⟩ := ob_i hf48
  clear hf48
  refine j_putJ (pc := 234) hc ho fa_X3_90_3 (Or.inr ⟨rfl, hct⟩) dX3_init_234 eT49 ?_
  refine j_aload_n (pc := 237) hc dX3_init_237 0 rfl rfl ?_
  refine j_bipush (pc := 238) (v := (102)) hc dX3_init_238 rfl ?_
  refine j_bipush (pc := 240) (v := (114)) hc dX3_init_240 rfl ?_
  refine j_bipush (pc := 242) (v := (111)) hc dX3_init_242 rfl ?_
  refine j_bipush (pc := 244) (v := (109)) hc dX3_init_244 rfl ?_
  refine j_bipush (pc := 246) (v := (32)) hc dX3_init_246 rfl ?_
  obtain ⟨w50, ew50, hf50⟩ := ob_i hf49
  clear hf49
  refine j_callS (pc := 248) (As := [vi (102), vi (114), vi (111), vi (109), vi (32)]) (rest := [vr (some a0)]) (st2 := [vl w50, vr (some a0)]) hc ho cw_X3_79 (c_X3_named ew50) hrm ⟨by decide, by decide⟩ rfl (Nat.le_of_ble_eq_true rfl) dX3_init_248 rfl rfl ?_
  obtain ⟨T51, eT51, hf51⟩ := ob_i hf50
  clear hf50
  refine j_putJ (pc := 251) hc ho fa_X3_93_3 (Or.inr ⟨rfl, hct⟩) dX3_init_251 eT51 ?_
  refine j_aload_n (pc := 254) hc dX3_init_254 0 rfl rfl ?_
  refine j_bipush (pc := 255) (v := (119)) hc dX3_init_255 rfl ?_
  refine j_bipush (pc := 257) (v := (104)) hc dX3_init_257 rfl ?_
  refine j_bipush (pc := 259) (v := (101)) hc dX3_init_259 rfl ?_
  refine j_bipush (pc := 261) (v := (114)) hc dX3_init_261 rfl ?_
  refine j_bipush (pc := 263) (v := (101)) hc dX3_init_263 rfl ?_
  obtain ⟨w52, ew52, hf52⟩ := ob_i hf51
  clear hf51
  refine j_callS (pc := 265) (As := [vi (119), vi (104), vi (101), vi (114), vi (101)]) (rest := [vr (some a0)]) (st2 := [vl w52, vr (some a0)]) hc ho cw_X3_79 (c_X3_named ew52) hrm ⟨by decide, by decide⟩ rfl (Nat.le_of_ble_eq_true rfl) dX3_init_265 rfl rfl ?_
  obtain ⟨T53, eT53, hf53⟩ := ob_i hf52
  clear hf52
  refine j_putJ (pc := 268) hc ho fa_X3_96_3 (Or.inr ⟨rfl, hct⟩) dX3_init_268 eT53 ?_
  refine j_aload_n (pc := 271) hc dX3_init_271 0 rfl rfl ?_
  refine j_bipush (pc := 272) (v := (108)) hc dX3_init_272 rfl ?_
  refine j_bipush (pc := 274) (v := (101)) hc dX3_init_274 rfl ?_
  refine j_bipush (pc := 276) (v := (110)) hc dX3_init_276 rfl ?_
  refine j_bipush (pc := 278) (v := (32)) hc dX3_init_278 rfl ?_
  refine j_bipush (pc := 280) (v := (32)) hc dX3_init_280 rfl ?_
  obtain ⟨w54, ew54, hf54⟩ := ob_i hf53
  clear hf53
  refine j_callS (pc := 282) (As := [vi (108), vi (101), vi (110), vi (32), vi (32)]) (rest := [vr (some a0)]) (st2 := [vl w54, vr (some a0)]) hc ho cw_X3_79 (c_X3_named ew54) hrm ⟨by decide, by decide⟩ rfl (Nat.le_of_ble_eq_true rfl) dX3_init_282 rfl rfl ?_
  obtain ⟨T55, eT55, hf55⟩ := ob_i hf54
  clear hf54
  refine j_putJ (pc := 285) hc ho fa_X3_99_3 (Or.inr ⟨rfl, hct⟩) dX3_init_285 eT55 ?_
  refine j_aload_n (pc := 288) hc dX3_init_288 0 rfl rfl ?_
  refine j_bipush (pc := 289) (v := (115)) hc dX3_init_289 rfl ?_
  refine j_bipush (pc := 291) (v := (116)) hc dX3_init_291 rfl ?_
  refine j_bipush (pc := 293) (v := (114)) hc dX3_init_293 rfl ?_
  refine j_bipush (pc := 295) (v := (32)) hc dX3_init_295 rfl ?_
  refine j_bipush (pc := 297) (v := (32)) hc dX3_init_297 rfl ?_
  obtain ⟨w56, ew56, hf56⟩ := ob_i hf55
  clear hf55
  refine j_callS (pc := 299) (As := [vi (115), vi (116), vi (114), vi (32), vi (32)]) (rest := [vr (some a0)]) (st2 := [vl w56, vr (some a0)]) hc ho cw_X3_79 (c_X3_named ew56) hrm ⟨by decide, by decide⟩ rfl (Nat.le_of_ble_eq_true rfl) dX3_init_299 rfl rfl ?_
  obtain ⟨T57, eT57, hf57⟩ := ob_i hf56
  clear hf56
  refine j_putJ (pc := 302) hc ho fa_X3_102_3 (Or.inr ⟨rfl, hct⟩) dX3_init_302 eT57 ?_
  refine j_aload_n (pc := 305) hc dX3_init_305 0 rfl rfl ?_
  refine j_iconst (pc := 306) (v := (4)) hc dX3_init_306 rfl ?_
  obtain ⟨T58, eT58, hf58⟩ := ob_i hf57
  clear hf57
  refine j_na31 (pc := 307) hc dX3_init_307 eT58 ?_
  obtain ⟨T59, eT59, hf59⟩ := ob_i hf58
  clear hf58
  refine j_putR (pc := 309) hc ho fa_X3_105_3 rfl (Or.inr ⟨rfl, hct⟩) dX3_init_309 eT59 ?_
  refine j_aload_n (pc := 312) hc dX3_init_312 0 rfl rfl ?_
  refine j_iconst (pc := 313) (v := (3)) hc dX3_init_313 rfl ?_
  obtain ⟨T60, eT60, hf60⟩ := ob_i hf59
  clear hf59
  refine j_na38 (pc := 314) hc dX3_init_314 eT60 ?_
  obtain ⟨T61, eT61, hf61⟩ := ob_i hf60
  clear hf60
  refine j_putR (pc := 316) hc ho fa_X3_108_3 rfl (Or.inr ⟨rfl, hct⟩) dX3_init_316 eT61 ?_
  refine j_aload_n (pc := 319) hc dX3_init_319 0 rfl rfl ?_
  refine j_iconst (pc := 320) (v := (3)) hc dX3_init_320 rfl ?_
  obtain ⟨T62, eT62, hf62⟩ := ob_i hf61
  clear hf61
  refine j_na31 (pc := 321) hc dX3_init_321 eT62 ?_
  obtain ⟨T63, eT63, hf63⟩ := ob_i hf62
  clear hf62
  refine j_putR (pc := 323) hc ho fa_X3_111_3 rfl (Or.inr ⟨rfl, hct⟩) dX3_init_323 eT63 ?_
  refine j_aload_n (pc := 326) hc dX3_init_326 0 rfl rfl ?_
  refine j_iconst (pc := 327) (v := (4)) hc dX3_init_327 rfl ?_
  obtain ⟨T64, eT64, hf64⟩ := ob_i hf63
  clear hf63
  refine j_na31 (pc := 328) hc dX3_init_328 eT64 ?_
  obtain ⟨T65, eT65, hf65⟩ := ob_i hf64
  clear hf64
  refine j_putR (pc := 330) hc ho fa_X3_114_3 rfl (Or.inr ⟨rfl, hct⟩) dX3_init_330 eT65 ?_
  refine j_aload_n (pc := 333) hc dX3_init_333 0 rfl rfl ?_
  refine j_iconst (pc := 334) (v := (4)) hc dX3_init_334 rfl ?_
  obtain ⟨T66, eT66, hf66⟩ := ob_i hf65
  clear hf65
  refine j_na31 (pc := 335) hc dX3_init_335 eT66 ?_
  obtain ⟨T67, eT67, hf67⟩ := ob_i hf66
  clear hf66
  refine j_putR (pc := 337) hc ho fa_X3_117_3 rfl (Or.inr ⟨rfl, hct⟩) dX3_init_337 eT67 ?_
  refine j_aload_n (pc := 340) hc dX3_init_340 0 rfl rfl ?_
  refine j_iconst (pc := 341) (v := (4)) hc dX3_init_341 rfl ?_
  obtain ⟨T68, eT68, hf68⟩ := ob_i hf67
  clear hf67
  refine j_na31 (pc := 342) hc dX3_init_342 eT68 ?_
  obtain ⟨T69, eT69, hf69⟩ := ob_i hf68
  clear hf68
  refine j_putR (pc := 344) hc ho fa_X3_120_3 rfl (Or.inr ⟨rfl, hct⟩) dX3_init_344 eT69 ?_
  refine j_aload_n (pc := 347) hc dX3_init_347 0 rfl rfl ?_
  refine j_iconst (pc := 348) (v := (4)) hc dX3_init_348 rfl ?_
  obtain ⟨T70, eT70, hf70⟩ := ob_i hf69
  clear hf69
  refine j_na31 (pc := 349) hc dX3_init_349 eT70 ?_
  obtain ⟨T71, eT71, hf71⟩ := ob_i hf70
  clear hf70
  refine j_putR (pc := 351) hc ho fa_X3_123_3 rfl (Or.inr ⟨rfl, hct⟩) dX3_init_351 eT71 ?_
  refine j_aload_n (pc := 354) hc dX3_init_354 0 rfl rfl ?_
  refine j_iconst (pc := 355) (v := (4)) hc dX3_init_355 rfl ?_
  obtain ⟨T72, eT72, hf72⟩ := ob_i hf71
  clear hf71
  refine j_na31 (pc := 356) hc dX3_init_356 eT72 ?_
  obtain ⟨T73, eT73, hf73⟩ := ob_i hf72
  clear hf72
  refine j_putR (pc := 358) hc ho fa_X3_126_3 rfl (Or.inr ⟨rfl, hct⟩) dX3_init_358 eT73 ?_
  refine j_aload_n (pc := 361) hc dX3_init_361 0 rfl rfl ?_
  refine j_sipush (pc := 362) (v := (136)) hc dX3_init_362 rfl ?_
  obtain ⟨T74, eT74, hf74⟩ := ob_i hf73
  clear hf73
  refine j_na31 (pc := 365) hc dX3_init_365 eT74 ?_
  obtain ⟨T75, eT75, hf75⟩ := ob_i hf74
  clear hf74
  refine j_putR (pc := 367) hc ho fa_X3_129_3 rfl (Or.inr ⟨rfl, hct⟩) dX3_init_367 eT75 ?_
  refine j_aload_n (pc := 370) hc dX3_init_370 0 rfl rfl ?_
  refine j_bipush (pc := 371) (v := (17)) hc dX3_init_371 rfl ?_
  obtain ⟨T76, eT76, hf76⟩ := ob_i hf75
  clear hf75
  refine j_na31 (pc := 373) hc dX3_init_373 eT76 ?_
  obtain ⟨T77, eT77, hf77⟩ := ob_i hf76
  clear hf76
  refine j_putR (pc := 375) hc ho fa_X3_132_3 rfl (Or.inr ⟨rfl, hct⟩) dX3_init_375 eT77 ?_
  refine j_aload_n (pc := 378) hc dX3_init_378 0 rfl rfl ?_
  refine j_bipush (pc := 379) (v := (17)) hc dX3_init_379 rfl ?_
  obtain ⟨T78, eT78, hf78⟩ := ob_i hf77
  clear hf77
  refine j_na31 (pc := 381) hc dX3_init_381 eT78 ?_
  obtain ⟨T79, eT79, hf79⟩ := ob_i hf78
  clear hf78
  refine j_putR (pc := 383) hc ho fa_X3_135_3 rfl (Or.inr ⟨rfl, hct⟩) dX3_init_383 eT79 ?_
  refine j_aload_n (pc := 386) hc dX3_init_386 0 rfl rfl ?_
  refine j_sipush (pc := 387) (v := (136)) hc dX3_init_387 rfl ?_
  obtain ⟨T80, eT80, hf80⟩ := ob_i hf79
  clear hf79
  refine j_na34 (pc := 390) hc dX3_init_390 eT80 ?_
  obtain ⟨T81, eT81, hf81⟩ := ob_i hf80
  clear hf80
  refine j_putR (pc := 392) hc ho fa_X3_138_3 rfl (Or.inr ⟨rfl, hct⟩) dX3_init_392 eT81 ?_
  refine j_aload_n (pc := 395) hc dX3_init_395 0 rfl rfl ?_
  refine j_sipush (pc := 396) (v := (140)) hc dX3_init_396 rfl ?_
  obtain ⟨T82, eT82, hf82⟩ := ob_i hf81
  clear hf81
  refine j_na31 (pc := 399) hc dX3_init_399 eT82 ?_
  obtain ⟨T83, eT83, hf83⟩ := ob_i hf82
  clear hf82
  refine j_putR (pc := 401) hc ho fa_X3_141_3 rfl (Or.inr ⟨rfl, hct⟩) dX3_init_401 eT83 ?_
  refine j_aload_n (pc := 404) hc dX3_init_404 0 rfl rfl ?_
  refine j_bipush (pc := 405) (v := (40)) hc dX3_init_405 rfl ?_
  obtain ⟨T84, eT84, hf84⟩ := ob_i hf83
  clear hf83
  refine j_na31 (pc := 407) hc dX3_init_407 eT84 ?_
  obtain ⟨T85, eT85, hf85⟩ := ob_i hf84
  clear hf84
  refine j_putR (pc := 409) hc ho fa_X3_144_3 rfl (Or.inr ⟨rfl, hct⟩) dX3_init_409 eT85 ?_
  refine j_aload_n (pc := 412) hc dX3_init_412 0 rfl rfl ?_
  refine j_bipush (pc := 413) (v := (40)) hc dX3_init_413 rfl ?_
  obtain ⟨T86, eT86, hf86⟩ := ob_i hf85
  clear hf85
  refine j_na31 (pc := 415) hc dX3_init_415 eT86 ?_
  obtain ⟨T87, eT87, hf87⟩ := ob_i hf86
  clear hf86
  refine j_putR (pc := 417) hc ho fa_X3_147_3 rfl (Or.inr ⟨rfl, hct⟩) dX3_init_417 eT87 ?_
  refine j_aload_n (pc := 420) hc dX3_init_420 0 rfl rfl ?_
  refine j_bipush (pc := 421) (v := (40)) hc dX3_init_421 rfl ?_
  obtain ⟨T88, eT88, hf88⟩ := ob_i hf87
  clear hf87
  refine j_na31 (pc := 423) hc dX3_init_423 eT88 ?_
  obtain ⟨T89, eT89, hf89⟩ := ob_i hf88
  clear hf88
  refine j_putR (pc := 425) hc ho fa_X3_150_3 rfl (Or.inr ⟨rfl, hct⟩) dX3_init_425 eT89 ?_
  refine j_aload_n (pc := 428) hc dX3_init_428 0 rfl rfl ?_
  refine j_bipush (pc := 429) (v := (40)) hc dX3_init_429 rfl ?_
  obtain ⟨T90, eT90, hf90⟩ := ob_i hf89
  clear hf89
  refine j_na31 (pc := 431) hc dX3_init_431 eT90 ?_
  obtain ⟨T91, eT91, hf91⟩ := ob_i hf90
  clear hf90
  refine j_putR (pc := 433) hc ho fa_X3_153_3 rfl (Or.inr ⟨rfl, hct⟩) dX3_init_433 eT91 ?_
  refine j_aload_n (pc := 436) hc dX3_init_436 0 rfl rfl ?_
  refine j_sipush (pc := 437) (v := (136)) hc dX3_init_437 rfl ?_
  obtain ⟨T92, eT92, hf92⟩ := ob_i hf91
  clear hf91
  refine j_na31 (pc := 440) hc dX3_init_440 eT92 ?_
  obtain ⟨T93, eT93, hf93⟩ := ob_i hf92
  clear hf92
  refine j_putR (pc := 442) hc ho fa_X3_156_3 rfl (Or.inr ⟨rfl, hct⟩) dX3_init_442 eT93 ?_
  cases hf93
  exact j_vret (pc := 445) hc hq hre dX3_init_445
