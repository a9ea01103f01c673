set_option linter.unusedVariables false
def g_conv (S : HS) (a : Nat) : Option Unit := if h_cl S a = 3 ∧ h_wr S a = true ∧ a + 40 ≤ h_nx S ∧ (List.range 67).all (fun k => decide (2 ≤ m_ki k → h_fR S (31 + k) a = some (a + m_po k) ∧ h_cl S (a + m_po k) = mta k ∧ h_ln S (a + m_po k) = m_le k)) = true then some () else none
theorem g_conv_ok {S : HS} {a : Nat} {u : Unit} (h : g_conv S a = some u) : g_cok S a := by
  unfold g_conv at h
  split at h
  · rename_i h9
    obtain ⟨h1, h2, h3, h4⟩ := h9
    exact ⟨h1, h2, h3, fun k hk => of_decide_eq_true (List.all_eq_true.mp h4 k (List.mem_range.mpr hk))⟩
  · cases h
theorem cw_L_13 : CV "TableCatalogLaw" 13 RX0 yX0_feed cX0_feed 6 (some (.int)) 5 := ⟨⟨q330, q331, q332, q81, q333⟩, rfl, by decide, by decide, by decide +kernel⟩
theorem cw_L_17 : CV "TableCatalogLaw" 17 RX3 yX3_feed cX3_feed 8 (some (.int)) 5 := ⟨⟨q1376, q1377, q1378, q90, q1379⟩, rfl, by decide, by decide, by decide +kernel⟩
theorem cw_L_18 : CV "TableCatalogLaw" 18 RX0 yX0_end cX0_end 2 (some (.boolean)) 1 := ⟨⟨q338, q339, q340, q81, q341⟩, rfl, by decide, by decide, by decide +kernel⟩
theorem cw_L_22 : CV "TableCatalogLaw" 22 RX3 yX3_end cX3_end 2 (some (.boolean)) 1 := ⟨⟨q1380, q1381, q1382, q90, q1383⟩, rfl, by decide, by decide, by decide +kernel⟩
theorem cvw_L_23 : CVW "TableCatalogLaw" 23 RX0 yX0_act cX0_act 4 (some (.int)) [(20, 119, 120, 216)] 0 := ⟨⟨q342, q343, q344, q81, q345⟩, rfl, by decide, by decide, by decide +kernel⟩
theorem cw_L_27 : CV "TableCatalogLaw" 27 RX3 yX3_act cX3_act 3 (some (.int)) 0 := ⟨⟨q1384, q1385, q1386, q90, q1387⟩, rfl, by decide, by decide, by decide +kernel⟩
theorem cw_L_28 : CV "TableCatalogLaw" 28 RX0 yX0_fault cX0_fault 2 (some (.int)) 1 := ⟨⟨q1002, q1003, q1004, q81, q1005⟩, rfl, by decide, by decide, by decide +kernel⟩
theorem cw_L_32 : CV "TableCatalogLaw" 32 RX3 yX3_fault cX3_fault 2 (some (.int)) 1 := ⟨⟨q1496, q1497, q1498, q90, q1499⟩, rfl, by decide, by decide, by decide +kernel⟩
theorem cvw_L_33 : CVW "TableCatalogLaw" 33 RX0 yX0_named cX0_named 4 (some (.int)) [(37, 57, 76, 216), (58, 75, 76, 216)] 0 := ⟨⟨q1006, q1007, q1008, q81, q1009⟩, rfl, by decide, by decide, by decide +kernel⟩
theorem cw_L_36 : CV "TableCatalogLaw" 36 RX3 yX3_named_2 cX3_named_2 5 (some (.int)) 0 := ⟨⟨q1500, q1501, q1502, q90, q1503⟩, rfl, by decide, by decide, by decide +kernel⟩
theorem cw_L_37 : CV "TableCatalogLaw" 37 RX0 yX0_table cX0_table 4 (some (.int)) 2 := ⟨⟨q1012, q1013, q1014, q81, q1015⟩, rfl, by decide, by decide, by decide +kernel⟩
theorem cw_L_41 : CV "TableCatalogLaw" 41 RX3 yX3_table cX3_table 3 (some (.int)) 2 := ⟨⟨q1504, q1505, q1506, q90, q1507⟩, rfl, by decide, by decide, by decide +kernel⟩
theorem cw_L_42 : CV "TableCatalogLaw" 42 RX0 yX0_type cX0_type 3 (some (.int)) 2 := ⟨⟨q1034, q1035, q1036, q81, q1037⟩, rfl, by decide, by decide, by decide +kernel⟩
theorem cw_L_45 : CV "TableCatalogLaw" 45 RX3 yX3_type cX3_type 3 (some (.int)) 2 := ⟨⟨q1524, q1525, q1526, q90, q1527⟩, rfl, by decide, by decide, by decide +kernel⟩
theorem cw_L_46 : CV "TableCatalogLaw" 46 RX0 yX0_from cX0_from 5 (some (.int)) 3 := ⟨⟨q1042, q1043, q1044, q81, q1045⟩, rfl, by decide, by decide, by decide +kernel⟩
theorem cw_L_50 : CV "TableCatalogLaw" 50 RX3 yX3_from cX3_from 6 (some (.int)) 3 := ⟨⟨q1536, q1537, q1538, q90, q1539⟩, rfl, by decide, by decide, by decide +kernel⟩
theorem cw_L_51 : CV "TableCatalogLaw" 51 RX0 yX0_touch cX0_touch 3 (some (.int)) 2 := ⟨⟨q1074, q1075, q1076, q81, q1077⟩, rfl, by decide, by decide, by decide +kernel⟩
theorem cw_L_54 : CV "TableCatalogLaw" 54 RX3 yX3_touch cX3_touch 4 (some (.int)) 2 := ⟨⟨q1560, q1561, q1562, q90, q1563⟩, rfl, by decide, by decide, by decide +kernel⟩
theorem cw_L_55 : CV "TableCatalogLaw" 55 RX0 yX0_asked cX0_asked 6 (some (.int)) 2 := ⟨⟨q1090, q1091, q1092, q81, q1093⟩, rfl, by decide, by decide, by decide +kernel⟩
theorem cw_L_58 : CV "TableCatalogLaw" 58 RX3 yX3_asked cX3_asked 6 (some (.int)) 2 := ⟨⟨q1572, q1573, q1574, q90, q1575⟩, rfl, by decide, by decide, by decide +kernel⟩
theorem cw_L_59 : CV "TableCatalogLaw" 59 RX0 yX0_found cX0_found 2 (some (.int)) 1 := ⟨⟨q1094, q1095, q1096, q81, q1097⟩, rfl, by decide, by decide, by decide +kernel⟩
theorem cw_L_62 : CV "TableCatalogLaw" 62 RX3 yX3_found cX3_found 2 (some (.int)) 1 := ⟨⟨q1532, q1533, q1534, q90, q1535⟩, rfl, by decide, by decide, by decide +kernel⟩
theorem cw_L_63 : CV "TableCatalogLaw" 63 RX0 yX0_retype cX0_retype 7 (some (.int)) 3 := ⟨⟨q1098, q1099, q1100, q81, q1101⟩, rfl, by decide, by decide, by decide +kernel⟩
theorem cw_L_66 : CV "TableCatalogLaw" 66 RX3 yX3_retype cX3_retype 9 (some (.int)) 3 := ⟨⟨q1580, q1581, q1582, q90, q1583⟩, rfl, by decide, by decide, by decide +kernel⟩
theorem cw_L_67 : CV "TableCatalogLaw" 67 RX0 yX0_drop cX0_drop 4 (some (.int)) 1 := ⟨⟨q1106, q1107, q1108, q81, q1109⟩, rfl, by decide, by decide, by decide +kernel⟩
theorem cw_L_70 : CV "TableCatalogLaw" 70 RX3 yX3_drop cX3_drop 4 (some (.int)) 1 := ⟨⟨q1588, q1589, q1590, q90, q1591⟩, rfl, by decide, by decide, by decide +kernel⟩
theorem cw_L_71 : CV "TableCatalogLaw" 71 RX0 yX0_freeze cX0_freeze 2 (some (.boolean)) 1 := ⟨⟨q1110, q1111, q1112, q81, q1113⟩, rfl, by decide, by decide, by decide +kernel⟩
theorem cw_L_74 : CV "TableCatalogLaw" 74 RX3 yX3_freeze cX3_freeze 2 (some (.boolean)) 1 := ⟨⟨q1596, q1597, q1598, q90, q1599⟩, rfl, by decide, by decide, by decide +kernel⟩
theorem cw_L_75 : CV "TableCatalogLaw" 75 RX0 yX0_today cX0_today 2 (some (.boolean)) 1 := ⟨⟨q1114, q1115, q1116, q81, q1117⟩, rfl, by decide, by decide, by decide +kernel⟩
theorem cw_L_78 : CV "TableCatalogLaw" 78 RX3 yX3_today cX3_today 2 (some (.boolean)) 1 := ⟨⟨q1600, q1601, q1602, q90, q1603⟩, rfl, by decide, by decide, by decide +kernel⟩
theorem cw_L_79 : CV "TableCatalogLaw" 79 RX0 yX0_fed cX0_fed 4 (some (.boolean)) 3 := ⟨⟨q1118, q1119, q1120, q81, q1121⟩, rfl, by decide, by decide, by decide +kernel⟩
theorem cw_L_83 : CV "TableCatalogLaw" 83 RX3 yX3_fed cX3_fed 4 (some (.boolean)) 3 := ⟨⟨q1604, q1605, q1606, q90, q1607⟩, rfl, by decide, by decide, by decide +kernel⟩
theorem cw_L_84 : CV "TableCatalogLaw" 84 RX0 yX0_run cX0_run 3 (some (.boolean)) 1 := ⟨⟨q1122, q1123, q1124, q81, q1125⟩, rfl, by decide, by decide, by decide +kernel⟩
theorem cw_L_87 : CV "TableCatalogLaw" 87 RX3 yX3_run cX3_run 2 (some (.boolean)) 1 := ⟨⟨q1608, q1609, q1610, q90, q1611⟩, rfl, by decide, by decide, by decide +kernel⟩
theorem cw_L_88 : CV "TableCatalogLaw" 88 RX0 yX0_promise cX0_promise 3 (some (.boolean)) 2 := ⟨⟨q1126, q1127, q1128, q81, q1129⟩, rfl, by decide, by decide, by decide +kernel⟩
theorem cw_L_92 : CV "TableCatalogLaw" 92 RX3 yX3_promise cX3_promise 3 (some (.boolean)) 2 := ⟨⟨q1612, q1613, q1614, q90, q1615⟩, rfl, by decide, by decide, by decide +kernel⟩
theorem cw_L_93 : CV "TableCatalogLaw" 93 RX0 yX0_broken cX0_broken 2 (some (.int)) 0 := ⟨⟨q1130, q1131, q1132, q81, q1133⟩, rfl, by decide, by decide, by decide +kernel⟩
theorem cw_L_96 : CV "TableCatalogLaw" 96 RX3 yX3_broken cX3_broken 2 (some (.int)) 0 := ⟨⟨q1616, q1617, q1618, q90, q1619⟩, rfl, by decide, by decide, by decide +kernel⟩
theorem cw_L_97 : CV "TableCatalogLaw" 97 RX0 yX0_late cX0_late 6 (some (.int)) 1 := ⟨⟨q1142, q1143, q1144, q81, q1145⟩, rfl, by decide, by decide, by decide +kernel⟩
theorem cw_L_100 : CV "TableCatalogLaw" 100 RX3 yX3_late cX3_late 6 (some (.int)) 1 := ⟨⟨q1624, q1625, q1626, q90, q1627⟩, rfl, by decide, by decide, by decide +kernel⟩
theorem cw_L_101 : CV "TableCatalogLaw" 101 RX0 yX0_own cX0_own 3 (some (.boolean)) 2 := ⟨⟨q1146, q1147, q1148, q81, q1149⟩, rfl, by decide, by decide, by decide +kernel⟩
theorem cw_L_104 : CV "TableCatalogLaw" 104 RX3 yX3_own cX3_own 3 (some (.boolean)) 2 := ⟨⟨q1628, q1629, q1630, q90, q1631⟩, rfl, by decide, by decide, by decide +kernel⟩
theorem cw_L_105 : CV "TableCatalogLaw" 105 RX0 yX0_ask cX0_ask 5 (some (.int)) 3 := ⟨⟨q1150, q1151, q1152, q81, q1153⟩, rfl, by decide, by decide, by decide +kernel⟩
theorem cw_L_108 : CV "TableCatalogLaw" 108 RX3 yX3_ask cX3_ask 4 (some (.int)) 3 := ⟨⟨q1576, q1577, q1578, q90, q1579⟩, rfl, by decide, by decide, by decide +kernel⟩
theorem cw_L_109 : CV "TableCatalogLaw" 109 RX0 yX0_unused cX0_unused 5 (some (.int)) 1 := ⟨⟨q1154, q1155, q1156, q81, q1157⟩, rfl, by decide, by decide, by decide +kernel⟩
theorem cw_L_112 : CV "TableCatalogLaw" 112 RX3 yX3_unused cX3_unused 4 (some (.int)) 1 := ⟨⟨q1632, q1633, q1634, q90, q1635⟩, rfl, by decide, by decide, by decide +kernel⟩
theorem cw_L_113 : CV "TableCatalogLaw" 113 RX0 yX0_alike cX0_alike 3 (some (.int)) 2 := ⟨⟨q1158, q1159, q1160, q81, q1161⟩, rfl, by decide, by decide, by decide +kernel⟩
theorem cw_L_116 : CV "TableCatalogLaw" 116 RX3 yX3_alike cX3_alike 8 (some (.int)) 2 := ⟨⟨q1636, q1637, q1638, q90, q1639⟩, rfl, by decide, by decide, by decide +kernel⟩
theorem fn_L_7 : FN "TableCatalogLaw" 7 1 15 := ⟨RX0, TX0, tyX0, CI_X0, q109, q110, q81, by decide +kernel⟩
theorem cw_L_9 : CT "TableCatalogLaw" 9 yX0_init cX0_init 1 0 := ⟨⟨q111, rfl, q112, q81, q113⟩, by decide, by decide, by decide +kernel⟩
theorem fn_L_10 : FN "TableCatalogLaw" 10 3 67 := ⟨RX3, TX3, tyX3, CI_X3, q1162, q1163, q90, by decide +kernel⟩
theorem cw_L_12 : CT "TableCatalogLaw" 12 yX3_init cX3_init 1 0 := ⟨⟨q1164, rfl, q1165, q90, q1166⟩, by decide, by decide, by decide +kernel⟩
def f_L_law_n18 (b ax am : Nat) : Nat → Int32 → HS → MS → Option HS
  | 0, _, _, _ => none
  | n + 1, x3, S, M =>
    (g_len S 31 b).bind fun v1 =>
    if (v1 - (6)) < x3 then
      some S
    else
      (g_aI S 31 b x3).bind fun v2 =>
      if (v2 &&& (31)) = (0) then
        (g_aI S 31 b (x3 + (1))).bind fun v3 =>
        (g_aI S 31 b (x3 + (2))).bind fun v4 =>
        (g_aI S 31 b (x3 + (3))).bind fun v5 =>
        (g_aI S 31 b (x3 + (4))).bind fun v6 =>
        (g_aI S 31 b (x3 + (5))).bind fun v7 =>
        (g_cls S 1 ax).bind fun u8 =>
        o_bd (f_X0_feed ax v3 v4 v5 v6 v7 S) fun v10 T9 =>
        (g_aI T9 31 b (x3 + (1))).bind fun v11 =>
        (g_aI T9 31 b (x3 + (2))).bind fun v12 =>
        (g_aI T9 31 b (x3 + (3))).bind fun v13 =>
        (g_aI T9 31 b (x3 + (4))).bind fun v14 =>
        (g_aI T9 31 b (x3 + (5))).bind fun v15 =>
        o_bd (f_X3_feed v11 v12 v13 v14 v15 M) fun v16 N17 =>
        if v10 = v16 then
          (fun x3 S M => f_L_law_n18 b ax am n x3 S M) (x3 + (6)) T9 N17
        else
          none
      else
        if (v2 &&& (31)) = (1) then
          (g_aI S 31 b (x3 + (1))).bind fun v18 =>
          (g_cls S 1 ax).bind fun u19 =>
          o_bd (f_X0_end ax v18 S) fun v21 T20 =>
          (g_aI T20 31 b (x3 + (1))).bind fun v22 =>
          o_bd (f_X3_end v22 M) fun v23 N24 =>
          if v21 = v23 then
            (fun x3 S M => f_L_law_n18 b ax am n x3 S M) (x3 + (6)) T20 N24
          else
            none
        else
          if (v2 &&& (31)) = (2) then
            (g_cls S 1 ax).bind fun u25 =>
            o_bd (f_X0_act ax S) fun v26 T27 =>
            o_bd (f_X3_act M) fun v28 N29 =>
            if v26 = v28 then
              (fun x3 S M => f_L_law_n18 b ax am n x3 S M) (x3 + (6)) T27 N29
            else
              none
          else
            if (v2 &&& (31)) = (3) then
              (g_aI S 31 b (x3 + (1))).bind fun v30 =>
              (g_cls S 1 ax).bind fun u31 =>
              o_bd (f_X0_fault ax v30 S) fun v33 T32 =>
              (g_aI T32 31 b (x3 + (1))).bind fun v34 =>
              o_bd (f_X3_fault v34 M) fun v35 N36 =>
              if v33 = v35 then
                (fun x3 S M => f_L_law_n18 b ax am n x3 S M) (x3 + (6)) T32 N36
              else
                none
            else
              if (v2 &&& (31)) = (4) then
                (g_cls S 1 ax).bind fun u37 =>
                o_bd (f_X0_named ax S) fun v38 T39 =>
                o_bd (f_X3_named_2 M) fun v40 N41 =>
                if v38 = v40 then
                  (fun x3 S M => f_L_law_n18 b ax am n x3 S M) (x3 + (6)) T39 N41
                else
                  none
              else
                if (v2 &&& (31)) = (5) then
                  (g_aI S 31 b (x3 + (1))).bind fun v42 =>
                  (g_aI S 31 b (x3 + (2))).bind fun v43 =>
                  (g_cls S 1 ax).bind fun u44 =>
                  o_bd (f_X0_table ax v42 v43 S) fun v46 T45 =>
                  (g_aI T45 31 b (x3 + (1))).bind fun v47 =>
                  (g_aI T45 31 b (x3 + (2))).bind fun v48 =>
                  o_bd (f_X3_table v47 v48 M) fun v49 N50 =>
                  if v46 = v49 then
                    (fun x3 S M => f_L_law_n18 b ax am n x3 S M) (x3 + (6)) T45 N50
                  else
                    none
                else
                  if (v2 &&& (31)) = (6) then
                    (g_aI S 31 b (x3 + (1))).bind fun v51 =>
                    (g_aI S 31 b (x3 + (2))).bind fun v52 =>
                    (g_cls S 1 ax).bind fun u53 =>
                    o_bd (f_X0_type ax v51 v52 S) fun v55 T54 =>
                    (g_aI T54 31 b (x3 + (1))).bind fun v56 =>
                    (g_aI T54 31 b (x3 + (2))).bind fun v57 =>
                    o_bd (f_X3_type v56 v57 M) fun v58 N59 =>
                    if v55 = v58 then
                      (fun x3 S M => f_L_law_n18 b ax am n x3 S M) (x3 + (6)) T54 N59
                    else
                      none
                  else
                    if (v2 &&& (31)) = (7) then
                      (g_aI S 31 b (x3 + (1))).bind fun v60 =>
                      (g_aI S 31 b (x3 + (2))).bind fun v61 =>
                      (g_aI S 31 b (x3 + (3))).bind fun v62 =>
                      (g_cls S 1 ax).bind fun u63 =>
                      o_bd (f_X0_from ax v60 v61 v62 S) fun v65 T64 =>
                      (g_aI T64 31 b (x3 + (1))).bind fun v66 =>
                      (g_aI T64 31 b (x3 + (2))).bind fun v67 =>
                      (g_aI T64 31 b (x3 + (3))).bind fun v68 =>
                      o_bd (f_X3_from v66 v67 v68 M) fun v69 N70 =>
                      if v65 = v69 then
                        (fun x3 S M => f_L_law_n18 b ax am n x3 S M) (x3 + (6)) T64 N70
                      else
                        none
                    else
                      if (v2 &&& (31)) = (8) then
                        (g_aI S 31 b (x3 + (1))).bind fun v71 =>
                        (g_aI S 31 b (x3 + (2))).bind fun v72 =>
                        (g_cls S 1 ax).bind fun u73 =>
                        o_bd (f_X0_touch ax v71 v72 S) fun v75 T74 =>
                        (g_aI T74 31 b (x3 + (1))).bind fun v76 =>
                        (g_aI T74 31 b (x3 + (2))).bind fun v77 =>
                        o_bd (f_X3_touch v76 v77 M) fun v78 N79 =>
                        if v75 = v78 then
                          (fun x3 S M => f_L_law_n18 b ax am n x3 S M) (x3 + (6)) T74 N79
                        else
                          none
                      else
                        if (v2 &&& (31)) = (9) then
                          (g_aI S 31 b (x3 + (1))).bind fun v80 =>
                          (g_aI S 31 b (x3 + (2))).bind fun v81 =>
                          (g_cls S 1 ax).bind fun u82 =>
                          o_bd (f_X0_asked ax v80 v81 S) fun v84 T83 =>
                          (g_aI T83 31 b (x3 + (1))).bind fun v85 =>
                          (g_aI T83 31 b (x3 + (2))).bind fun v86 =>
                          o_bd (f_X3_asked v85 v86 M) fun v87 N88 =>
                          if v84 = v87 then
                            (fun x3 S M => f_L_law_n18 b ax am n x3 S M) (x3 + (6)) T83 N88
                          else
                            none
                        else
                          if (v2 &&& (31)) = (10) then
                            (g_aI S 31 b (x3 + (1))).bind fun v89 =>
                            (g_cls S 1 ax).bind fun u90 =>
                            o_bd (f_X0_found ax v89 S) fun v92 T91 =>
                            (g_aI T91 31 b (x3 + (1))).bind fun v93 =>
                            o_bd (f_X3_found v93 M) fun v94 N95 =>
                            if v92 = v94 then
                              (fun x3 S M => f_L_law_n18 b ax am n x3 S M) (x3 + (6)) T91 N95
                            else
                              none
                          else
                            if (v2 &&& (31)) = (11) then
                              (g_aI S 31 b (x3 + (1))).bind fun v96 =>
                              (g_aI S 31 b (x3 + (2))).bind fun v97 =>
                              (g_aI S 31 b (x3 + (3))).bind fun v98 =>
                              (g_cls S 1 ax).bind fun u99 =>
                              o_bd (f_X0_retype ax v96 v97 v98 S) fun v101 T100 =>
                              (g_aI T100 31 b (x3 + (1))).bind fun v102 =>
                              (g_aI T100 31 b (x3 + (2))).bind fun v103 =>
                              (g_aI T100 31 b (x3 + (3))).bind fun v104 =>
                              o_bd (f_X3_retype v102 v103 v104 M) fun v105 N106 =>
                              if v101 = v105 then
                                (fun x3 S M => f_L_law_n18 b ax am n x3 S M) (x3 + (6)) T100 N106
                              else
                                none
                            else
                              if (v2 &&& (31)) = (12) then
                                (g_aI S 31 b (x3 + (1))).bind fun v107 =>
                                (g_cls S 1 ax).bind fun u108 =>
                                o_bd (f_X0_drop ax v107 S) fun v110 T109 =>
                                (g_aI T109 31 b (x3 + (1))).bind fun v111 =>
                                o_bd (f_X3_drop v111 M) fun v112 N113 =>
                                if v110 = v112 then
                                  (fun x3 S M => f_L_law_n18 b ax am n x3 S M) (x3 + (6)) T109 N113
                                else
                                  none
                              else
                                if (v2 &&& (31)) = (13) then
                                  (g_aI S 31 b (x3 + (1))).bind fun v114 =>
                                  (g_cls S 1 ax).bind fun u115 =>
                                  o_bd (f_X0_freeze ax v114 S) fun v117 T116 =>
                                  (g_aI T116 31 b (x3 + (1))).bind fun v118 =>
                                  o_bd (f_X3_freeze v118 M) fun v119 N120 =>
                                  if v117 = v119 then
                                    (fun x3 S M => f_L_law_n18 b ax am n x3 S M) (x3 + (6)) T116 N120
                                  else
                                    none
                                else
                                  if (v2 &&& (31)) = (14) then
                                    (g_aI S 31 b (x3 + (1))).bind fun v121 =>
                                    (g_cls S 1 ax).bind fun u122 =>
                                    o_bd (f_X0_today ax v121 S) fun v124 T123 =>
                                    (g_aI T123 31 b (x3 + (1))).bind fun v125 =>
                                    o_bd (f_X3_today v125 M) fun v126 N127 =>
                                    if v124 = v126 then
                                      (fun x3 S M => f_L_law_n18 b ax am n x3 S M) (x3 + (6)) T123 N127
                                    else
                                      none
                                  else
                                    if (v2 &&& (31)) = (15) then
                                      (g_aI S 31 b (x3 + (1))).bind fun v128 =>
                                      (g_aI S 31 b (x3 + (2))).bind fun v129 =>
                                      (g_aI S 31 b (x3 + (3))).bind fun v130 =>
                                      (g_cls S 1 ax).bind fun u131 =>
                                      o_bd (f_X0_fed ax v128 v129 v130 S) fun v133 T132 =>
                                      (g_aI T132 31 b (x3 + (1))).bind fun v134 =>
                                      (g_aI T132 31 b (x3 + (2))).bind fun v135 =>
                                      (g_aI T132 31 b (x3 + (3))).bind fun v136 =>
                                      o_bd (f_X3_fed v134 v135 v136 M) fun v137 N138 =>
                                      if v133 = v137 then
                                        (fun x3 S M => f_L_law_n18 b ax am n x3 S M) (x3 + (6)) T132 N138
                                      else
                                        none
                                    else
                                      if (v2 &&& (31)) = (16) then
                                        (g_aI S 31 b (x3 + (1))).bind fun v139 =>
                                        (g_cls S 1 ax).bind fun u140 =>
                                        o_bd (f_X0_run ax v139 S) fun v142 T141 =>
                                        (g_aI T141 31 b (x3 + (1))).bind fun v143 =>
                                        o_bd (f_X3_run v143 M) fun v144 N145 =>
                                        if v142 = v144 then
                                          (fun x3 S M => f_L_law_n18 b ax am n x3 S M) (x3 + (6)) T141 N145
                                        else
                                          none
                                      else
                                        if (v2 &&& (31)) = (17) then
                                          (g_aI S 31 b (x3 + (1))).bind fun v146 =>
                                          (g_aI S 31 b (x3 + (2))).bind fun v147 =>
                                          (g_cls S 1 ax).bind fun u148 =>
                                          o_bd (f_X0_promise ax v146 v147 S) fun v150 T149 =>
                                          (g_aI T149 31 b (x3 + (1))).bind fun v151 =>
                                          (g_aI T149 31 b (x3 + (2))).bind fun v152 =>
                                          o_bd (f_X3_promise v151 v152 M) fun v153 N154 =>
                                          if v150 = v153 then
                                            (fun x3 S M => f_L_law_n18 b ax am n x3 S M) (x3 + (6)) T149 N154
                                          else
                                            none
                                        else
                                          if (v2 &&& (31)) = (18) then
                                            (g_cls S 1 ax).bind fun u155 =>
                                            o_bd (f_X0_broken ax S) fun v157 T156 =>
                                            o_bd (f_X3_broken M) fun v158 N159 =>
                                            if v157 = v158 then
                                              (fun x3 S M => f_L_law_n18 b ax am n x3 S M) (x3 + (6)) T156 N159
                                            else
                                              none
                                          else
                                            if (v2 &&& (31)) = (19) then
                                              (g_aI S 31 b (x3 + (1))).bind fun v160 =>
                                              (g_cls S 1 ax).bind fun u161 =>
                                              o_bd (f_X0_late ax v160 S) fun v163 T162 =>
                                              (g_aI T162 31 b (x3 + (1))).bind fun v164 =>
                                              o_bd (f_X3_late v164 M) fun v165 N166 =>
                                              if v163 = v165 then
                                                (fun x3 S M => f_L_law_n18 b ax am n x3 S M) (x3 + (6)) T162 N166
                                              else
                                                none
                                            else
                                              if (v2 &&& (31)) = (20) then
                                                (g_aI S 31 b (x3 + (1))).bind fun v167 =>
                                                (g_aI S 31 b (x3 + (2))).bind fun v168 =>
                                                (g_cls S 1 ax).bind fun u169 =>
                                                o_bd (f_X0_own ax v167 v168 S) fun v171 T170 =>
                                                (g_aI T170 31 b (x3 + (1))).bind fun v172 =>
                                                (g_aI T170 31 b (x3 + (2))).bind fun v173 =>
                                                o_bd (f_X3_own v172 v173 M) fun v174 N175 =>
                                                if v171 = v174 then
                                                  (fun x3 S M => f_L_law_n18 b ax am n x3 S M) (x3 + (6)) T170 N175
                                                else
                                                  none
                                              else
                                                if (v2 &&& (31)) = (21) then
                                                  (g_aI S 31 b (x3 + (1))).bind fun v176 =>
                                                  (g_aI S 31 b (x3 + (2))).bind fun v177 =>
                                                  (g_aI S 31 b (x3 + (3))).bind fun v178 =>
                                                  (g_cls S 1 ax).bind fun u179 =>
                                                  o_bd (f_X0_ask ax v176 v177 v178 S) fun v181 T180 =>
                                                  (g_aI T180 31 b (x3 + (1))).bind fun v182 =>
                                                  (g_aI T180 31 b (x3 + (2))).bind fun v183 =>
                                                  (g_aI T180 31 b (x3 + (3))).bind fun v184 =>
                                                  o_bd (f_X3_ask v182 v183 v184 M) fun v185 N186 =>
                                                  if v181 = v185 then
                                                    (fun x3 S M => f_L_law_n18 b ax am n x3 S M) (x3 + (6)) T180 N186
                                                  else
                                                    none
                                                else
                                                  if (v2 &&& (31)) = (22) then
                                                    (g_aI S 31 b (x3 + (1))).bind fun v187 =>
                                                    (g_cls S 1 ax).bind fun u188 =>
                                                    o_bd (f_X0_unused ax v187 S) fun v190 T189 =>
                                                    (g_aI T189 31 b (x3 + (1))).bind fun v191 =>
                                                    o_bd (f_X3_unused v191 M) fun v192 N193 =>
                                                    if v190 = v192 then
                                                      (fun x3 S M => f_L_law_n18 b ax am n x3 S M) (x3 + (6)) T189 N193
                                                    else
                                                      none
                                                  else
                                                    if (v2 &&& (31)) = (23) then
                                                      (g_aI S 31 b (x3 + (1))).bind fun v194 =>
                                                      (g_aI S 31 b (x3 + (2))).bind fun v195 =>
                                                      (g_cls S 1 ax).bind fun u196 =>
                                                      o_bd (f_X0_alike ax v194 v195 S) fun v198 T197 =>
                                                      (g_aI T197 31 b (x3 + (1))).bind fun v199 =>
                                                      (g_aI T197 31 b (x3 + (2))).bind fun v200 =>
                                                      o_bd (f_X3_alike v199 v200 M) fun v201 N202 =>
                                                      if v198 = v201 then
                                                        (fun x3 S M => f_L_law_n18 b ax am n x3 S M) (x3 + (6)) T197 N202
                                                      else
                                                        none
                                                    else
                                                      (fun x3 S M => f_L_law_n18 b ax am n x3 S M) (x3 + (6)) S M
def f_L_law (b : Nat) (S : HS) : Option HS :=
  (n_obj S 1 15).bind fun T1 =>
  (f_X0_init (h_nx S) T1).bind fun T2 =>
  (n_obj T2 3 67).bind fun T3 =>
  (f_X3_init (h_nx T2) T3).bind fun T4 =>
  (g_conv T4 (h_nx T2)).bind fun u5 =>
  f_L_law_n18 b (h_nx S) (h_nx T2) fu_ (0) (s_hide T4 (h_nx T2)) (M_of T4 (h_nx T2))
set_option maxRecDepth 100000 in
set_option maxHeartbeats 4000000 in
theorem w_L_law_n18 {f : CfT} {S1 : HS} (hc : cf_cc f = cL_law) (ho : cf_ow f = "TableCatalogLaw") (hnL : cf_nL f = 4) (hrm : cf_rm f = (8192, 100000)) (hre : cf_re f = ret) (hct : cf_ct f = false) (hq : LQ f) (hbd : h_nx S1 ≤ (cf_fi f).1 ∧ h_sl S1 ≤ (cf_fi f).2) {b ax am : Nat} : ∀ (n : Nat) (x3 : Int32) (S : HS) (M : MS), f_L_law_n18 b ax am n x3 S M = some S1 → JJ f S (some (am, M)) 18 [(0, vr (some b)), (1, vr (some ax)), (2, vr (some am)), (3, vi x3)] [] := by
  intro n
  induction n with
  | zero =>
    intro x3 S M hf
    have hf : (none : Option HS) = some S1 := hf
    cases hf
  | succ n ih =>
    intro x3 S M hf
    unfold f_L_law_n18 at hf
    have hk_18 := ih
    refine j_iload_n (pc := 18) hc dL_law_18 3 rfl rfl ?_
    refine j_aload_n (pc := 19) hc dL_law_19 0 rfl rfl ?_
    obtain ⟨v1, ev1, hf1⟩ := ob_i hf
    clear hf
    refine j_alen (pc := 20) hc dL_law_20 (by decide) ev1 ?_
    refine j_bipush (pc := 21) (v := (6)) hc dL_law_21 rfl ?_
    refine j_isub (pc := 23) hc dL_law_23 ?_
    refine j_icmp_gt (pc := 24) hc dL_law_24 (tgt := 862) rfl (fun hh => ?_) (fun hh => ?_)
    · have hf2 := (if_pos hh).symm.trans hf1
      clear hf1
      refine j_iconst (pc := 862) (v := (1)) hc dL_law_862 rfl ?_
      cases hf2
      exact j_lend (pc := 863) hc hre hq hbd dL_law_863
    · have hf3 := (if_neg hh).symm.trans hf1
      clear hf1
      refine j_aload_n (pc := 27) hc dL_law_27 0 rfl rfl ?_
      refine j_iload_n (pc := 28) hc dL_law_28 3 rfl rfl ?_
      obtain ⟨v2, ev2, hf4⟩ := ob_i hf3
      clear hf3
      refine j_iald (pc := 29) hc dL_law_29 ev2 ?_
      refine j_bipush (pc := 30) (v := (31)) hc dL_law_30 rfl ?_
      refine j_iand (pc := 32) hc dL_law_32 ?_
      by_cases hh0 : (v2 &&& (31)) = (0)
      · have hf5 := (if_pos hh0).symm.trans hf4
        clear hf4
        refine j_tsw (pc := 33) (k := (0)) (tgt := 144) hc dL_law_33 hh0 (by decide) (by decide) rfl rfl ?_
        refine j_aload_n (pc := 144) hc dL_law_144 1 rfl rfl ?_
        refine j_aload_n (pc := 145) hc dL_law_145 0 rfl rfl ?_
        refine j_iload_n (pc := 146) hc dL_law_146 3 rfl rfl ?_
        refine j_iconst (pc := 147) (v := (1)) hc dL_law_147 rfl ?_
        refine j_iadd (pc := 148) hc dL_law_148 ?_
        obtain ⟨v3, ev3, hf6⟩ := ob_i hf5
        clear hf5
        refine j_iald (pc := 149) hc dL_law_149 ev3 ?_
        refine j_aload_n (pc := 150) hc dL_law_150 0 rfl rfl ?_
        refine j_iload_n (pc := 151) hc dL_law_151 3 rfl rfl ?_
        refine j_iconst (pc := 152) (v := (2)) hc dL_law_152 rfl ?_
        refine j_iadd (pc := 153) hc dL_law_153 ?_
        obtain ⟨v4, ev4, hf7⟩ := ob_i hf6
        clear hf6
        refine j_iald (pc := 154) hc dL_law_154 ev4 ?_
        refine j_aload_n (pc := 155) hc dL_law_155 0 rfl rfl ?_
        refine j_iload_n (pc := 156) hc dL_law_156 3 rfl rfl ?_
        refine j_iconst (pc := 157) (v := (3)) hc dL_law_157 rfl ?_
        refine j_iadd (pc := 158) hc dL_law_158 ?_
        obtain ⟨v5, ev5, hf8⟩ := ob_i hf7
        clear hf7
        refine j_iald (pc := 159) hc dL_law_159 ev5 ?_
        refine j_aload_n (pc := 160) hc dL_law_160 0 rfl rfl ?_
        refine j_iload_n (pc := 161) hc dL_law_161 3 rfl rfl ?_
        refine j_iconst (pc := 162) (v := (4)) hc dL_law_162 rfl ?_
        refine j_iadd (pc := 163) hc dL_law_163 ?_
        obtain ⟨v6, ev6, hf9⟩ := ob_i hf8
        clear hf8
        refine j_iald (pc := 164) hc dL_law_164 ev6 ?_
        refine j_aload_n (pc := 165) hc dL_law_165 0 rfl rfl ?_
        refine j_iload_n (pc := 166) hc dL_law_166 3 rfl rfl ?_
        refine j_iconst (pc := 167) (v := (5)) hc dL_law_167 rfl ?_
        refine j_iadd (pc := 168) hc dL_law_168 ?_
        obtain ⟨v7, ev7, hf10⟩ := ob_i hf9
        clear hf9
        refine j_iald (pc := 169) hc dL_law_169 ev7 ?_
        obtain ⟨u8, eu8, hf11⟩ := ob_i hf10
        clear hf10
        obtain ⟨v10, T9, ev10, hf12⟩ := ob_c hf11
        clear hf11
        refine j_callV (pc := 170) (As := [vi v3, vi v4, vi v5, vi v6, vi v7]) (rest := []) (st2 := [vi v10]) hc ho cw_L_13 (c_X0_feed ev10) (Rc.of (g_cls_ok eu8) (by decide) (by decide) ci_X0) hrm ⟨by decide, by decide⟩ rfl (Nat.le_of_ble_eq_true rfl) dL_law_170 rfl rfl ?_
        refine j_aload_n (pc := 173) hc dL_law_173 2 rfl rfl ?_
        refine j_aload_n (pc := 174) hc dL_law_174 0 rfl rfl ?_
        refine j_iload_n (pc := 175) hc dL_law_175 3 rfl rfl ?_
        refine j_iconst (pc := 176) (v := (1)) hc dL_law_176 rfl ?_
        refine j_iadd (pc := 177) hc dL_law_177 ?_
        obtain ⟨v11, ev11, hf13⟩ := ob_i hf12
        clear hf12
        refine j_iald (pc := 178) hc dL_law_178 ev11 ?_
        refine j_aload_n (pc := 179) hc dL_law_179 0 rfl rfl ?_
        refine j_iload_n (pc := 180) hc dL_law_180 3 rfl rfl ?_
        refine j_iconst (pc := 181) (v := (2)) hc dL_law_181 rfl ?_
        refine j_iadd (pc := 182) hc dL_law_182 ?_
        obtain ⟨v12, ev12, hf14⟩ := ob_i hf13
        clear hf13
        refine j_iald (pc := 183) hc dL_law_183 ev12 ?_
        refine j_aload_n (pc := 184) hc dL_law_184 0 rfl rfl ?_
        refine j_iload_n (pc := 185) hc dL_law_185 3 rfl rfl ?_
        refine j_iconst (pc := 186) (v := (3)) hc dL_law_186 rfl ?_
        refine j_iadd (pc := 187) hc dL_law_187 ?_
        obtain ⟨v13, ev13, hf15⟩ := ob_i hf14
        clear hf14
        refine j_iald (pc := 188) hc dL_law_188 ev13 ?_
        refine j_aload_n (pc := 189) hc dL_law_189 0 rfl rfl ?_
        refine j_iload_n (pc := 190) hc dL_law_190 3 rfl rfl ?_
        refine j_iconst (pc := 191) (v := (4)) hc dL_law_191 rfl ?_
        refine j_iadd (pc := 192) hc dL_law_192 ?_
        obtain ⟨v14, ev14, hf16⟩ := ob_i hf15
        clear hf15
        refine j_iald (pc := 193) hc dL_law_193 ev14 ?_
        refine j_aload_n (pc := 194) hc dL_law_194 0 rfl rfl ?_
        refine j_iload_n (pc := 195) hc dL_law_195 3 rfl rfl ?_
        refine j_iconst (pc := 196) (v := (5)) hc dL_law_196 rfl ?_
        refine j_iadd (pc := 197) hc dL_law_197 ?_
        obtain ⟨v15, ev15, hf17⟩ := ob_i hf16
        clear hf16
        refine j_iald (pc := 198) hc dL_law_198 ev15 ?_
        obtain ⟨v16, N17, ev16, hf18⟩ := ob_c hf17
        clear hf17
        refine j_callV (pc := 199) (As := [vi v11, vi v12, vi v13, vi v14, vi v15]) (rest := [vi v10]) (st2 := [vi v16, vi v10]) hc ho cw_L_17 (c_X3_feed ev16) (Or.inr ⟨rfl, _, rfl⟩) hrm ⟨by decide, by decide⟩ rfl (Nat.le_of_ble_eq_true rfl) dL_law_199 rfl rfl ?_
        refine j_icmp_eq (pc := 202) hc dL_law_202 (tgt := 856) rfl (fun hh => ?_) (fun hh => ?_)
        · have hf19 := (if_pos hh).symm.trans hf18
          clear hf18
          refine j_iinc (pc := 856) (L' := [(3, vi (x3 + (6))), (0, vr (some b)), (1, vr (some ax)), (2, vr (some am))]) (v := (x3 + (6))) hc dL_law_856 3 rfl rfl hnL (by decide) rfl ?_
          refine j_goto (pc := 859) hc dL_law_859 (tgt := 18) rfl ?_
          refine j_loc (L' := [(0, vr (some b)), (1, vr (some ax)), (2, vr (some am)), (3, vi (x3 + (6)))]) [1, 2, 3, 0] rfl ?_
          exact hk_18 _ _ _ hf19
        · have hf20 := (if_neg hh).symm.trans hf18
          clear hf18
          refine j_iconst (pc := 205) (v := (0)) hc dL_law_205 rfl ?_
          cases hf20
      · have hf21 := (if_neg hh0).symm.trans hf4
        clear hf4
        by_cases hh1 : (v2 &&& (31)) = (1)
        · have hf22 := (if_pos hh1).symm.trans hf21
          clear hf21
          refine j_tsw (pc := 33) (k := (1)) (tgt := 207) hc dL_law_33 hh1 (by decide) (by decide) rfl rfl ?_
          refine j_aload_n (pc := 207) hc dL_law_207 1 rfl rfl ?_
          refine j_aload_n (pc := 208) hc dL_law_208 0 rfl rfl ?_
          refine j_iload_n (pc := 209) hc dL_law_209 3 rfl rfl ?_
          refine j_iconst (pc := 210) (v := (1)) hc dL_law_210 rfl ?_
          refine j_iadd (pc := 211) hc dL_law_211 ?_
          obtain ⟨v18, ev18, hf23⟩ := ob_i hf22
          clear hf22
          refine j_iald (pc := 212) hc dL_law_212 ev18 ?_
          obtain ⟨u19, eu19, hf24⟩ := ob_i hf23
          clear hf23
          obtain ⟨v21, T20, ev21, hf25⟩ := ob_c hf24
          clear hf24
          refine j_callV (pc := 213) (As := [vi v18]) (rest := []) (st2 := [vi v21]) hc ho cw_L_18 (c_X0_end ev21) (Rc.of (g_cls_ok eu19) (by decide) (by decide) ci_X0) hrm ⟨by decide, by decide⟩ rfl (Nat.le_of_ble_eq_true rfl) dL_law_213 rfl rfl ?_
          refine j_aload_n (pc := 216) hc dL_law_216 2 rfl rfl ?_
          refine j_aload_n (pc := 217) hc dL_law_217 0 rfl rfl ?_
          refine j_iload_n (pc := 218) hc dL_law_218 3 rfl rfl ?_
          refine j_iconst (pc := 219) (v := (1)) hc dL_law_219 rfl ?_
          refine j_iadd (pc := 220) hc dL_law_220 ?_
          obtain ⟨v22, ev22, hf26⟩ := ob_i hf25
          clear hf25
          refine j_iald (pc := 221) hc dL_law_221 ev22 ?_
          obtain ⟨v23, N24, ev23, hf27⟩ := ob_c hf26
          clear hf26
          refine j_callV (pc := 222) (As := [vi v22]) (rest := [vi v21]) (st2 := [vi v23, vi v21]) hc ho cw_L_22 (c_X3_end ev23) (Or.inr ⟨rfl, _, rfl⟩) hrm ⟨by decide, by decide⟩ rfl (Nat.le_of_ble_eq_true rfl) dL_law_222 rfl rfl ?_
          refine j_icmp_eq (pc := 225) hc dL_law_225 (tgt := 856) rfl (fun hh => ?_) (fun hh => ?_)
          · have hf28 := (if_pos hh).symm.trans hf27
            clear hf27
            refine j_iinc (pc := 856) (L' := [(3, vi (x3 + (6))), (0, vr (some b)), (1, vr (some ax)), (2, vr (some am))]) (v := (x3 + (6))) hc dL_law_856 3 rfl rfl hnL (by decide) rfl ?_
            refine j_goto (pc := 859) hc dL_law_859 (tgt := 18) rfl ?_
            refine j_loc (L' := [(0, vr (some b)), (1, vr (some ax)), (2, vr (some am)), (3, vi (x3 + (6)))]) [1, 2, 3, 0] rfl ?_
            exact hk_18 _ _ _ hf28
          · have hf29 := (if_neg hh).symm.trans hf27
            clear hf27
            refine j_iconst (pc := 228) (v := (0)) hc dL_law_228 rfl ?_
            cases hf29
        · have hf30 := (if_neg hh1).symm.trans hf21
          clear hf21
          by_cases hh2 : (v2 &&& (31)) = (2)
          · have hf31 := (if_pos hh2).symm.trans hf30
            clear hf30
            refine j_tsw (pc := 33) (k := (2)) (tgt := 230) hc dL_law_33 hh2 (by decide) (by decide) rfl rfl ?_
            refine j_aload_n (pc := 230) hc dL_law_230 1 rfl rfl ?_
            obtain ⟨u25, eu25, hf32⟩ := ob_i hf31
            clear hf31
            obtain ⟨v26, T27, ev26, hf33⟩ := ob_c hf32
            clear hf32
            refine j_callVW (pc := 231) (As := []) (rest := []) (st2 := [vi v26]) hc ho cvw_L_23 (c_X0_act ev26) (Rc.of (g_cls_ok eu25) (by decide) (by decide) ci_X0) hrm ⟨by decide, by decide⟩ rfl (Nat.le_of_ble_eq_true rfl) dL_law_231 rfl rfl ?_
            refine j_aload_n (pc := 234) hc dL_law_234 2 rfl rfl ?_
            obtain ⟨v28, N29, ev28, hf34⟩ := ob_c hf33
            clear hf33
            refine j_callV (pc := 235) (As := []) (rest := [vi v26]) (st2 := [vi v28, vi v26]) hc ho cw_L_27 (c_X3_act ev28) (Or.inr ⟨rfl, _, rfl⟩) hrm ⟨by decide, by decide⟩ rfl (Nat.le_of_ble_eq_true rfl) dL_law_235 rfl rfl ?_
            refine j_icmp_eq (pc := 238) hc dL_law_238 (tgt := 856) rfl (fun hh => ?_) (fun hh => ?_)
            · have hf35 := (if_pos hh).symm.trans hf34
              clear hf34
              refine j_iinc (pc := 856) (L' := [(3, vi (x3 + (6))), (0, vr (some b)), (1, vr (some ax)), (2, vr (some am))]) (v := (x3 + (6))) hc dL_law_856 3 rfl rfl hnL (by decide) rfl ?_
              refine j_goto (pc := 859) hc dL_law_859 (tgt := 18) rfl ?_
              refine j_loc (L' := [(0, vr (some b)), (1, vr (some ax)), (2, vr (some am)), (3, vi (x3 + (6)))]) [1, 2, 3, 0] rfl ?_
              exact hk_18 _ _ _ hf35
            · have hf36 := (if_neg hh).symm.trans hf34
              clear hf34
              refine j_iconst (pc := 241) (v := (0)) hc dL_law_241 rfl ?_
              cases hf36
          · have hf37 := (if_neg hh2).symm.trans hf30
            clear hf30
            by_cases hh3 : (v2 &&& (31)) = (3)
            · have hf38 := (if_pos hh3).symm.trans hf37
              clear hf37
              refine j_tsw (pc := 33) (k := (3)) (tgt := 243) hc dL_law_33 hh3 (by decide) (by decide) rfl rfl ?_
              refine j_aload_n (pc := 243) hc dL_law_243 1 rfl rfl ?_
              refine j_aload_n (pc := 244) hc dL_law_244 0 rfl rfl ?_
              refine j_iload_n (pc := 245) hc dL_law_245 3 rfl rfl ?_
              refine j_iconst (pc := 246) (v := (1)) hc dL_law_246 rfl ?_
              refine j_iadd (pc := 247) hc dL_law_247 ?_
              obtain ⟨v30, ev30, hf39⟩ := ob_i hf38
              clear hf38
              refine j_iald (pc := 248) hc dL_law_248 ev30 ?_
              obtain ⟨u31, eu31, hf40⟩ := ob_i hf39
              clear hf39
              obtain ⟨v33, T32, ev33, hf41⟩ := ob_c hf40
              clear hf40
              refine j_callV (pc := 249) (As := [vi v30]) (rest := []) (st2 := [vi v33]) hc ho cw_L_28 (c_X0_fault ev33) (Rc.of (g_cls_ok eu31) (by decide) (by decide) ci_X0) hrm ⟨by decide, by decide⟩ rfl (Nat.le_of_ble_eq_true rfl) dL_law_249 rfl rfl ?_
              refine j_aload_n (pc := 252) hc dL_law_252 2 rfl rfl ?_
              refine j_aload_n (pc := 253) hc dL_law_253 0 rfl rfl ?_
              refine j_iload_n (pc := 254) hc dL_law_254 3 rfl rfl ?_
              refine j_iconst (pc := 255) (v := (1)) hc dL_law_255 rfl ?_
              refine j_iadd (pc := 256) hc dL_law_256 ?_
              obtain ⟨v34, ev34, hf42⟩ := ob_i hf41
              clear hf41
              refine j_iald (pc := 257) hc dL_law_257 ev34 ?_
              obtain ⟨v35, N36, ev35, hf43⟩ := ob_c hf42
              clear hf42
              refine j_callV (pc := 258) (As := [vi v34]) (rest := [vi v33]) (st2 := [vi v35, vi v33]) hc ho cw_L_32 (c_X3_fault ev35) (Or.inr ⟨rfl, _, rfl⟩) hrm ⟨by decide, by decide⟩ rfl (Nat.le_of_ble_eq_true rfl) dL_law_258 rfl rfl ?_
              refine j_icmp_eq (pc := 261) hc dL_law_261 (tgt := 856) rfl (fun hh => ?_) (fun hh => ?_)
              · have hf44 := (if_pos hh).symm.trans hf43
                clear hf43
                refine j_iinc (pc := 856) (L' := [(3, vi (x3 + (6))), (0, vr (some b)), (1, vr (some ax)), (2, vr (some am))]) (v := (x3 + (6))) hc dL_law_856 3 rfl rfl hnL (by decide) rfl ?_
                refine j_goto (pc := 859) hc dL_law_859 (tgt := 18) rfl ?_
                refine j_loc (L' := [(0, vr (some b)), (1, vr (some ax)), (2, vr (some am)), (3, vi (x3 + (6)))]) [1, 2, 3, 0] rfl ?_
                exact hk_18 _ _ _ hf44
              · have hf45 := (if_neg hh).symm.trans hf43
                clear hf43
                refine j_iconst (pc := 264) (v := (0)) hc dL_law_264 rfl ?_
                cases hf45
            · have hf46 := (if_neg hh3).symm.trans hf37
              clear hf37
              by_cases hh4 : (v2 &&& (31)) = (4)
              · have hf47 := (if_pos hh4).symm.trans hf46
                clear hf46
                refine j_tsw (pc := 33) (k := (4)) (tgt := 266) hc dL_law_33 hh4 (by decide) (by decide) rfl rfl ?_
                refine j_aload_n (pc := 266) hc dL_law_266 1 rfl rfl ?_
                obtain ⟨u37, eu37, hf48⟩ := ob_i hf47
                clear hf47
                obtain ⟨v38, T39, ev38, hf49⟩ := ob_c hf48
                clear hf48
                refine j_callVW (pc := 267) (As := []) (rest := []) (st2 := [vi v38]) hc ho cvw_L_33 (c_X0_named ev38) (Rc.of (g_cls_ok eu37) (by decide) (by decide) ci_X0) hrm ⟨by decide, by decide⟩ rfl (Nat.le_of_ble_eq_true rfl) dL_law_267 rfl rfl ?_
                refine j_aload_n (pc := 270) hc dL_law_270 2 rfl rfl ?_
                obtain ⟨v40, N41, ev40, hf50⟩ := ob_c hf49
                clear hf49
                refine j_callV (pc := 271) (As := []) (rest := [vi v38]) (st2 := [vi v40, vi v38]) hc ho cw_L_36 (c_X3_named_2 ev40) (Or.inr ⟨rfl, _, rfl⟩) hrm ⟨by decide, by decide⟩ rfl (Nat.le_of_ble_eq_true rfl) dL_law_271 rfl rfl ?_
                refine j_icmp_eq (pc := 274) hc dL_law_274 (tgt := 856) rfl (fun hh => ?_) (fun hh => ?_)
                · have hf51 := (if_pos hh).symm.trans hf50
                  clear hf50
                  refine j_iinc (pc := 856) (L' := [(3, vi (x3 + (6))), (0, vr (some b)), (1, vr (some ax)), (2, vr (some am))]) (v := (x3 + (6))) hc dL_law_856 3 rfl rfl hnL (by decide) rfl ?_
                  refine j_goto (pc := 859) hc dL_law_859 (tgt := 18) rfl ?_
                  refine j_loc (L' := [(0, vr (some b)), (1, vr (some ax)), (2, vr (some am)), (3, vi (x3 + (6)))]) [1, 2, 3, 0] rfl ?_
                  exact hk_18 _ _ _ hf51
                · have hf52 := (if_neg hh).symm.trans hf50
                  clear hf50
                  refine j_iconst (pc := 277) (v := (0)) hc dL_law_277 rfl ?_
                  cases hf52
              · have hf53 := (if_neg hh4).symm.trans hf46
                clear hf46
                by_cases hh5 : (v2 &&& (31)) = (5)
                · have hf54 := (if_pos hh5).symm.trans hf53
                  clear hf53
                  refine j_tsw (pc := 33) (k := (5)) (tgt := 279) hc dL_law_33 hh5 (by decide) (by decide) rfl rfl ?_
                  refine j_aload_n (pc := 279) hc dL_law_279 1 rfl rfl ?_
                  refine j_aload_n (pc := 280) hc dL_law_280 0 rfl rfl ?_
                  refine j_iload_n (pc := 281) hc dL_law_281 3 rfl rfl ?_
                  refine j_iconst (pc := 282) (v := (1)) hc dL_law_282 rfl ?_
                  refine j_iadd (pc := 283) hc dL_law_283 ?_
                  obtain ⟨v42, ev42, hf55⟩ := ob_i hf54
                  clear hf54
                  refine j_iald (pc := 284) hc dL_law_284 ev42 ?_
                  refine j_aload_n (pc := 285) hc dL_law_285 0 rfl rfl ?_
                  refine j_iload_n (pc := 286) hc dL_law_286 3 rfl rfl ?_
                  refine j_iconst (pc := 287) (v := (2)) hc dL_law_287 rfl ?_
                  refine j_iadd (pc := 288) hc dL_law_288 ?_
                  obtain ⟨v43, ev43, hf56⟩ := ob_i hf55
                  clear hf55
                  refine j_iald (pc := 289) hc dL_law_289 ev43 ?_
                  obtain ⟨u44, eu44, hf57⟩ := ob_i hf56
                  clear hf56
                  obtain ⟨v46, T45, ev46, hf58⟩ := ob_c hf57
                  clear hf57
                  refine j_callV (pc := 290) (As := [vi v42, vi v43]) (rest := []) (st2 := [vi v46]) hc ho cw_L_37 (c_X0_table ev46) (Rc.of (g_cls_ok eu44) (by decide) (by decide) ci_X0) hrm ⟨by decide, by decide⟩ rfl (Nat.le_of_ble_eq_true rfl) dL_law_290 rfl rfl ?_
                  refine j_aload_n (pc := 293) hc dL_law_293 2 rfl rfl ?_
                  refine j_aload_n (pc := 294) hc dL_law_294 0 rfl rfl ?_
                  refine j_iload_n (pc := 295) hc dL_law_295 3 rfl rfl ?_
                  refine j_iconst (pc := 296) (v := (1)) hc dL_law_296 rfl ?_
                  refine j_iadd (pc := 297) hc dL_law_297 ?_
                  obtain ⟨v47, ev47, hf59⟩ := ob_i hf58
                  clear hf58
                  refine j_iald (pc := 298) hc dL_law_298 ev47 ?_
                  refine j_aload_n (pc := 299) hc dL_law_299 0 rfl rfl ?_
                  refine j_iload_n (pc := 300) hc dL_law_300 3 rfl rfl ?_
                  refine j_iconst (pc := 301) (v := (2)) hc dL_law_301 rfl ?_
                  refine j_iadd (pc := 302) hc dL_law_302 ?_
                  obtain ⟨v48, ev48, hf60⟩ := ob_i hf59
                  clear hf59
                  refine j_iald (pc := 303) hc dL_law_303 ev48 ?_
                  obtain ⟨v49, N50, ev49, hf61⟩ := ob_c hf60
                  clear hf60
                  refine j_callV (pc := 304) (As := [vi v47, vi v48]) (rest := [vi v46]) (st2 := [vi v49, vi v46]) hc ho cw_L_41 (c_X3_table ev49) (Or.inr ⟨rfl, _, rfl⟩) hrm ⟨by decide, by decide⟩ rfl (Nat.le_of_ble_eq_true rfl) dL_law_304 rfl rfl ?_
                  refine j_icmp_eq (pc := 307) hc dL_law_307 (tgt := 856) rfl (fun hh => ?_) (fun hh => ?_)
                  · have hf62 := (if_pos hh).symm.trans hf61
                    clear hf61
                    refine j_iinc (pc := 856) (L' := [(3, vi (x3 + (6))), (0, vr (some b)), (1, vr (some ax)), (2, vr (some am))]) (v := (x3 + (6))) hc dL_law_856 3 rfl rfl hnL (by decide) rfl ?_
                    refine j_goto (pc := 859) hc dL_law_859 (tgt := 18) rfl ?_
                    refine j_loc (L' := [(0, vr (some b)), (1, vr (some ax)), (2, vr (some am)), (3, vi (x3 + (6)))]) [1, 2, 3, 0] rfl ?_
                    exact hk_18 _ _ _ hf62
                  · have hf63 := (if_neg hh).symm.trans hf61
                    clear hf61
                    refine j_iconst (pc := 310) (v := (0)) hc dL_law_310 rfl ?_
                    cases hf63
                · have hf64 := (if_neg hh5).symm.trans hf53
                  clear hf53
                  by_cases hh6 : (v2 &&& (31)) = (6)
                  · have hf65 := (if_pos hh6).symm.trans hf64
                    clear hf64
                    refine j_tsw (pc := 33) (k := (6)) (tgt := 312) hc dL_law_33 hh6 (by decide) (by decide) rfl rfl ?_
                    refine j_aload_n (pc := 312) hc dL_law_312 1 rfl rfl ?_
                    refine j_aload_n (pc := 313) hc dL_law_313 0 rfl rfl ?_
                    refine j_iload_n (pc := 314) hc dL_law_314 3 rfl rfl ?_
                    refine j_iconst (pc := 315) (v := (1)) hc dL_law_315 rfl ?_
                    refine j_iadd (pc := 316) hc dL_law_316 ?_
                    obtain ⟨v51, ev51, hf66⟩ := ob_i hf65
                    clear hf65
                    refine j_iald (pc := 317) hc dL_law_317 ev51 ?_
                    refine j_aload_n (pc := 318) hc dL_law_318 0 rfl rfl ?_
                    refine j_iload_n (pc := 319) hc dL_law_319 3 rfl rfl ?_
                    refine j_iconst (pc := 320) (v := (2)) hc dL_law_320 rfl ?_
                    refine j_iadd (pc := 321) hc dL_law_321 ?_
                    obtain ⟨v52, ev52, hf67⟩ := ob_i hf66
                    clear hf66
                    refine j_iald (pc := 322) hc dL_law_322 ev52 ?_
                    obtain ⟨u53, eu53, hf68⟩ := ob_i hf67
                    clear hf67
                    obtain ⟨v55, T54, ev55, hf69⟩ := ob_c hf68
                    clear hf68
                    refine j_callV (pc := 323) (As := [vi v51, vi v52]) (rest := []) (st2 := [vi v55]) hc ho cw_L_42 (c_X0_type ev55) (Rc.of (g_cls_ok eu53) (by decide) (by decide) ci_X0) hrm ⟨by decide, by decide⟩ rfl (Nat.le_of_ble_eq_true rfl) dL_law_323 rfl rfl ?_
                    refine j_aload_n (pc := 326) hc dL_law_326 2 rfl rfl ?_
                    refine j_aload_n (pc := 327) hc dL_law_327 0 rfl rfl ?_
                    refine j_iload_n (pc := 328) hc dL_law_328 3 rfl rfl ?_
                    refine j_iconst (pc := 329) (v := (1)) hc dL_law_329 rfl ?_
                    refine j_iadd (pc := 330) hc dL_law_330 ?_
                    obtain ⟨v56, ev56, hf70⟩ := ob_i hf69
                    clear hf69
                    refine j_iald (pc := 331) hc dL_law_331 ev56 ?_
                    refine j_aload_n (pc := 332) hc dL_law_332 0 rfl rfl ?_
                    refine j_iload_n (pc := 333) hc dL_law_333 3 rfl rfl ?_
                    refine j_iconst (pc := 334) (v := (2)) hc dL_law_334 rfl ?_
                    refine j_iadd (pc := 335) hc dL_law_335 ?_
                    obtain ⟨v57, ev57, hf71⟩ := ob_i hf70
                    clear hf70
                    refine j_iald (pc := 336) hc dL_law_336 ev57 ?_
                    obtain ⟨v58, N59, ev58, hf72⟩ := ob_c hf71
                    clear hf71
                    refine j_callV (pc := 337) (As := [vi v56, vi v57]) (rest := [vi v55]) (st2 := [vi v58, vi v55]) hc ho cw_L_45 (c_X3_type ev58) (Or.inr ⟨rfl, _, rfl⟩) hrm ⟨by decide, by decide⟩ rfl (Nat.le_of_ble_eq_true rfl) dL_law_337 rfl rfl ?_
                    refine j_icmp_eq (pc := 340) hc dL_law_340 (tgt := 856) rfl (fun hh => ?_) (fun hh => ?_)
                    · have hf73 := (if_pos hh).symm.trans hf72
                      clear hf72
                      refine j_iinc (pc := 856) (L' := [(3, vi (x3 + (6))), (0, vr (some b)), (1, vr (some ax)), (2, vr (some am))]) (v := (x3 + (6))) hc dL_law_856 3 rfl rfl hnL (by decide) rfl ?_
                      refine j_goto (pc := 859) hc dL_law_859 (tgt := 18) rfl ?_
                      refine j_loc (L' := [(0, vr (some b)), (1, vr (some ax)), (2, vr (some am)), (3, vi (x3 + (6)))]) [1, 2, 3, 0] rfl ?_
                      exact hk_18 _ _ _ hf73
                    · have hf74 := (if_neg hh).symm.trans hf72
                      clear hf72
                      refine j_iconst (pc := 343) (v := (0)) hc dL_law_343 rfl ?_
                      cases hf74
                  · have hf75 := (if_neg hh6).symm.trans hf64
                    clear hf64
                    by_cases hh7 : (v2 &&& (31)) = (7)
                    · have hf76 := (if_pos hh7).symm.trans hf75
                      clear hf75
                      refine j_tsw (pc := 33) (k := (7)) (tgt := 345) hc dL_law_33 hh7 (by decide) (by decide) rfl rfl ?_
                      refine j_aload_n (pc := 345) hc dL_law_345 1 rfl rfl ?_
                      refine j_aload_n (pc := 346) hc dL_law_346 0 rfl rfl ?_
                      refine j_iload_n (pc := 347) hc dL_law_347 3 rfl rfl ?_
                      refine j_iconst (pc := 348) (v := (1)) hc dL_law_348 rfl ?_
                      refine j_iadd (pc := 349) hc dL_law_349 ?_
                      obtain ⟨v60, ev60, hf77⟩ := ob_i hf76
                      clear hf76
                      refine j_iald (pc := 350) hc dL_law_350 ev60 ?_
                      refine j_aload_n (pc := 351) hc dL_law_351 0 rfl rfl ?_
                      refine j_iload_n (pc := 352) hc dL_law_352 3 rfl rfl ?_
                      refine j_iconst (pc := 353) (v := (2)) hc dL_law_353 rfl ?_
                      refine j_iadd (pc := 354) hc dL_law_354 ?_
                      obtain ⟨v61, ev61, hf78⟩ := ob_i hf77
                      clear hf77
                      refine j_iald (pc := 355) hc dL_law_355 ev61 ?_
                      refine j_aload_n (pc := 356) hc dL_law_356 0 rfl rfl ?_
                      refine j_iload_n (pc := 357) hc dL_law_357 3 rfl rfl ?_
                      refine j_iconst (pc := 358) (v := (3)) hc dL_law_358 rfl ?_
                      refine j_iadd (pc := 359) hc dL_law_359 ?_
                      obtain ⟨v62, ev62, hf79⟩ := ob_i hf78
                      clear hf78
                      refine j_iald (pc := 360) hc dL_law_360 ev62 ?_
                      obtain ⟨u63, eu63, hf80⟩ := ob_i hf79
                      clear hf79
                      obtain ⟨v65, T64, ev65, hf81⟩ := ob_c hf80
                      clear hf80
                      refine j_callV (pc := 361) (As := [vi v60, vi v61, vi v62]) (rest := []) (st2 := [vi v65]) hc ho cw_L_46 (c_X0_from ev65) (Rc.of (g_cls_ok eu63) (by decide) (by decide) ci_X0) hrm ⟨by decide, by decide⟩ rfl (Nat.le_of_ble_eq_true rfl) dL_law_361 rfl rfl ?_
                      refine j_aload_n (pc := 364) hc dL_law_364 2 rfl rfl ?_
                      refine j_aload_n (pc := 365) hc dL_law_365 0 rfl rfl ?_
                      refine j_iload_n (pc := 366) hc dL_law_366 3 rfl rfl ?_
                      refine j_iconst (pc := 367) (v := (1)) hc dL_law_367 rfl ?_
                      refine j_iadd (pc := 368) hc dL_law_368 ?_
                      obtain ⟨v66, ev66, hf82⟩ := ob_i hf81
                      clear hf81
                      refine j_iald (pc := 369) hc dL_law_369 ev66 ?_
                      refine j_aload_n (pc := 370) hc dL_law_370 0 rfl rfl ?_
                      refine j_iload_n (pc := 371) hc dL_law_371 3 rfl rfl ?_
                      refine j_iconst (pc := 372) (v := (2)) hc dL_law_372 rfl ?_
                      refine j_iadd (pc := 373) hc dL_law_373 ?_
                      obtain ⟨v67, ev67, hf83⟩ := ob_i hf82
                      clear hf82
                      refine j_iald (pc := 374) hc dL_law_374 ev67 ?_
                      refine j_aload_n (pc := 375) hc dL_law_375 0 rfl rfl ?_
                      refine j_iload_n (pc := 376) hc dL_law_376 3 rfl rfl ?_
                      refine j_iconst (pc := 377) (v := (3)) hc dL_law_377 rfl ?_
                      refine j_iadd (pc := 378) hc dL_law_378 ?_
                      obtain ⟨v68, ev68, hf84⟩ := ob_i hf83
                      clear hf83
                      refine j_iald (pc := 379) hc dL_law_379 ev68 ?_
                      obtain ⟨v69, N70, ev69, hf85⟩ := ob_c hf84
                      clear hf84
                      refine j_callV (pc := 380) (As := [vi v66, vi v67, vi v68]) (rest := [vi v65]) (st2 := [vi v69, vi v65]) hc ho cw_L_50 (c_X3_from ev69) (Or.inr ⟨rfl, _, rfl⟩) hrm ⟨by decide, by decide⟩ rfl (Nat.le_of_ble_eq_true rfl) dL_law_380 rfl rfl ?_
                      refine j_icmp_eq (pc := 383) hc dL_law_383 (tgt := 856) rfl (fun hh => ?_) (fun hh => ?_)
                      · have hf86 := (if_pos hh).symm.trans hf85
                        clear hf85
                        refine j_iinc (pc := 856) (L' := [(3, vi (x3 + (6))), (0, vr (some b)), (1, vr (some ax)), (2, vr (some am))]) (v := (x3 + (6))) hc dL_law_856 3 rfl rfl hnL (by decide) rfl ?_
                        refine j_goto (pc := 859) hc dL_law_859 (tgt := 18) rfl ?_
                        refine j_loc (L' := [(0, vr (some b)), (1, vr (some ax)), (2, vr (some am)), (3, vi (x3 + (6)))]) [1, 2, 3, 0] rfl ?_
                        exact hk_18 _ _ _ hf86
                      · have hf87 := (if_neg hh).symm.trans hf85
                        clear hf85
                        refine j_iconst (pc := 386) (v := (0)) hc dL_law_386 rfl ?_
                        cases hf87
                    · have hf88 := (if_neg hh7).symm.trans hf75
                      clear hf75
                      by_cases hh8 : (v2 &&& (31)) = (8)
                      · have hf89 := (if_pos hh8).symm.trans hf88
                        clear hf88
                        refine j_tsw (pc := 33) (k := (8)) (tgt := 388) hc dL_law_33 hh8 (by decide) (by decide) rfl rfl ?_
                        refine j_aload_n (pc := 388) hc dL_law_388 1 rfl rfl ?_
                        refine j_aload_n (pc := 389) hc dL_law_389 0 rfl rfl ?_
                        refine j_iload_n (pc := 390) hc dL_law_390 3 rfl rfl ?_
                        refine j_iconst (pc := 391) (v := (1)) hc dL_law_391 rfl ?_
                        refine j_iadd (pc := 392) hc dL_law_392 ?_
                        obtain ⟨v71, ev71, hf90⟩ := ob_i hf89
                        clear hf89
                        refine j_iald (pc := 393) hc dL_law_393 ev71 ?_
                        refine j_aload_n (pc := 394) hc dL_law_394 0 rfl rfl ?_
                        refine j_iload_n (pc := 395) hc dL_law_395 3 rfl rfl ?_
                        refine j_iconst (pc := 396) (v := (2)) hc dL_law_396 rfl ?_
                        refine j_iadd (pc := 397) hc dL_law_397 ?_
                        obtain ⟨v72, ev72, hf91⟩ := ob_i hf90
                        clear hf90
                        refine j_iald (pc := 398) hc dL_law_398 ev72 ?_
                        obtain ⟨u73, eu73, hf92⟩ := ob_i hf91
                        clear hf91
                        obtain ⟨v75, T74, ev75, hf93⟩ := ob_c hf92
                        clear hf92
                        refine j_callV (pc := 399) (As := [vi v71, vi v72]) (rest := []) (st2 := [vi v75]) hc ho cw_L_51 (c_X0_touch ev75) (Rc.of (g_cls_ok eu73) (by decide) (by decide) ci_X0) hrm ⟨by decide, by decide⟩ rfl (Nat.le_of_ble_eq_true rfl) dL_law_399 rfl rfl ?_
                        refine j_aload_n (pc := 402) hc dL_law_402 2 rfl rfl ?_
                        refine j_aload_n (pc := 403) hc dL_law_403 0 rfl rfl ?_
                        refine j_iload_n (pc := 404) hc dL_law_404 3 rfl rfl ?_
                        refine j_iconst (pc := 405) (v := (1)) hc dL_law_405 rfl ?_
                        refine j_iadd (pc := 406) hc dL_law_406 ?_
                        obtain ⟨v76, ev76, hf94⟩ := ob_i hf93
                        clear hf93
                        refine j_iald (pc := 407) hc dL_law_407 ev76 ?_
                        refine j_aload_n (pc := 408) hc dL_law_408 0 rfl rfl ?_
                        refine j_iload_n (pc := 409) hc dL_law_409 3 rfl rfl ?_
                        refine j_iconst (pc := 410) (v := (2)) hc dL_law_410 rfl ?_
                        refine j_iadd (pc := 411) hc dL_law_411 ?_
                        obtain ⟨v77, ev77, hf95⟩ := ob_i hf94
                        clear hf94
                        refine j_iald (pc := 412) hc dL_law_412 ev77 ?_
                        obtain ⟨v78, N79, ev78, hf96⟩ := ob_c hf95
                        clear hf95
                        refine j_callV (pc := 413) (As := [vi v76, vi v77]) (rest := [vi v75]) (st2 := [vi v78, vi v75]) hc ho cw_L_54 (c_X3_touch ev78) (Or.inr ⟨rfl, _, rfl⟩) hrm ⟨by decide, by decide⟩ rfl (Nat.le_of_ble_eq_true rfl) dL_law_413 rfl rfl ?_
                        refine j_icmp_eq (pc := 416) hc dL_law_416 (tgt := 856) rfl (fun hh => ?_) (fun hh => ?_)
                        · have hf97 := (if_pos hh).symm.trans hf96
                          clear hf96
                          refine j_iinc (pc := 856) (L' := [(3, vi (x3 + (6))), (0, vr (some b)), (1, vr (some ax)), (2, vr (some am))]) (v := (x3 + (6))) hc dL_law_856 3 rfl rfl hnL (by decide) rfl ?_
                          refine j_goto (pc := 859) hc dL_law_859 (tgt := 18) rfl ?_
                          refine j_loc (L' := [(0, vr (some b)), (1, vr (some ax)), (2, vr (some am)), (3, vi (x3 + (6)))]) [1, 2, 3, 0] rfl ?_
                          exact hk_18 _ _ _ hf97
                        · have hf98 := (if_neg hh).symm.trans hf96
                          clear hf96
                          refine j_iconst (pc := 419) (v := (0)) hc dL_law_419 rfl ?_
                          cases hf98
                      · have hf99 := (if_neg hh8).symm.trans hf88
                        clear hf88
                        by_cases hh9 : (v2 &&& (31)) = (9)
                        · have hf100 := (if_pos hh9).symm.trans hf99
                          clear hf99
                          refine j_tsw (pc := 33) (k := (9)) (tgt := 421) hc dL_law_33 hh9 (by decide) (by decide) rfl rfl ?_
                          refine j_aload_n (pc := 421) hc dL_law_421 1 rfl rfl ?_
                          refine j_aload_n (pc := 422) hc dL_law_422 0 rfl rfl ?_
                          refine j_iload_n (pc := 423) hc dL_law_423 3 rfl rfl ?_
                          refine j_iconst (pc := 424) (v := (1)) hc dL_law_424 rfl ?_
                          refine j_iadd (pc := 425) hc dL_law_425 ?_
                          obtain ⟨v80, ev80, hf101⟩ := ob_i hf100
                          clear hf100
                          refine j_iald (pc := 426) hc dL_law_426 ev80 ?_
                          refine j_aload_n (pc := 427) hc dL_law_427 0 rfl rfl ?_
                          refine j_iload_n (pc := 428) hc dL_law_428 3 rfl rfl ?_
                          refine j_iconst (pc := 429) (v := (2)) hc dL_law_429 rfl ?_
                          refine j_iadd (pc := 430) hc dL_law_430 ?_
                          obtain ⟨v81, ev81, hf102⟩ := ob_i hf101
                          clear hf101
                          refine j_iald (pc := 431) hc dL_law_431 ev81 ?_
                          obtain ⟨u82, eu82, hf103⟩ := ob_i hf102
                          clear hf102
                          obtain ⟨v84, T83, ev84, hf104⟩ := ob_c hf103
                          clear hf103
                          refine j_callV (pc := 432) (As := [vi v80, vi v81]) (rest := []) (st2 := [vi v84]) hc ho cw_L_55 (c_X0_asked ev84) (Rc.of (g_cls_ok eu82) (by decide) (by decide) ci_X0) hrm ⟨by decide, by decide⟩ rfl (Nat.le_of_ble_eq_true rfl) dL_law_432 rfl rfl ?_
                          refine j_aload_n (pc := 435) hc dL_law_435 2 rfl rfl ?_
                          refine j_aload_n (pc := 436) hc dL_law_436 0 rfl rfl ?_
                          refine j_iload_n (pc := 437) hc dL_law_437 3 rfl rfl ?_
                          refine j_iconst (pc := 438) (v := (1)) hc dL_law_438 rfl ?_
                          refine j_iadd (pc := 439) hc dL_law_439 ?_
                          obtain ⟨v85, ev85, hf105⟩ := ob_i hf104
                          clear hf104
                          refine j_iald (pc := 440) hc dL_law_440 ev85 ?_
                          refine j_aload_n (pc := 441) hc dL_law_441 0 rfl rfl ?_
                          refine j_iload_n (pc := 442) hc dL_law_442 3 rfl rfl ?_
                          refine j_iconst (pc := 443) (v := (2)) hc dL_law_443 rfl ?_
                          refine j_iadd (pc := 444) hc dL_law_444 ?_
                          obtain ⟨v86, ev86, hf106⟩ := ob_i hf105
                          clear hf105
                          refine j_iald (pc := 445) hc dL_law_445 ev86 ?_
                          obtain ⟨v87, N88, ev87, hf107⟩ := ob_c hf106
                          clear hf106
                          refine j_callV (pc := 446) (As := [vi v85, vi v86]) (rest := [vi v84]) (st2 := [vi v87, vi v84]) hc ho cw_L_58 (c_X3_asked ev87) (Or.inr ⟨rfl, _, rfl⟩) hrm ⟨by decide, by decide⟩ rfl (Nat.le_of_ble_eq_true rfl) dL_law_446 rfl rfl ?_
                          refine j_icmp_eq (pc := 449) hc dL_law_449 (tgt := 856) rfl (fun hh => ?_) (fun hh => ?_)
                          · have hf108 := (if_pos hh).symm.trans hf107
                            clear hf107
                            refine j_iinc (pc := 856) (L' := [(3, vi (x3 + (6))), (0, vr (some b)), (1, vr (some ax)), (2, vr (some am))]) (v := (x3 + (6))) hc dL_law_856 3 rfl rfl hnL (by decide) rfl ?_
                            refine j_goto (pc := 859) hc dL_law_859 (tgt := 18) rfl ?_
                            refine j_loc (L' := [(0, vr (some b)), (1, vr (some ax)), (2, vr (some am)), (3, vi (x3 + (6)))]) [1, 2, 3, 0] rfl ?_
                            exact hk_18 _ _ _ hf108
                          · have hf109 := (if_neg hh).symm.trans hf107
                            clear hf107
                            refine j_iconst (pc := 452) (v := (0)) hc dL_law_452 rfl ?_
                            cases hf109
                        · have hf110 := (if_neg hh9).symm.trans hf99
                          clear hf99
                          by_cases hh10 : (v2 &&& (31)) = (10)
                          · have hf111 := (if_pos hh10).symm.trans hf110
                            clear hf110
                            refine j_tsw (pc := 33) (k := (10)) (tgt := 454) hc dL_law_33 hh10 (by decide) (by decide) rfl rfl ?_
                            refine j_aload_n (pc := 454) hc dL_law_454 1 rfl rfl ?_
                            refine j_aload_n (pc := 455) hc dL_law_455 0 rfl rfl ?_
                            refine j_iload_n (pc := 456) hc dL_law_456 3 rfl rfl ?_
                            refine j_iconst (pc := 457) (v := (1)) hc dL_law_457 rfl ?_
                            refine j_iadd (pc := 458) hc dL_law_458 ?_
                            obtain ⟨v89, ev89, hf112⟩ := ob_i hf111
                            clear hf111
                            refine j_iald (pc := 459) hc dL_law_459 ev89 ?_
                            obtain ⟨u90, eu90, hf113⟩ := ob_i hf112
                            clear hf112
                            obtain ⟨v92, T91, ev92, hf114⟩ := ob_c hf113
                            clear hf113
                            refine j_callV (pc := 460) (As := [vi v89]) (rest := []) (st2 := [vi v92]) hc ho cw_L_59 (c_X0_found ev92) (Rc.of (g_cls_ok eu90) (by decide) (by decide) ci_X0) hrm ⟨by decide, by decide⟩ rfl (Nat.le_of_ble_eq_true rfl) dL_law_460 rfl rfl ?_
                            refine j_aload_n (pc := 463) hc dL_law_463 2 rfl rfl ?_
                            refine j_aload_n (pc := 464) hc dL_law_464 0 rfl rfl ?_
                            refine j_iload_n (pc := 465) hc dL_law_465 3 rfl rfl ?_
                            refine j_iconst (pc := 466) (v := (1)) hc dL_law_466 rfl ?_
                            refine j_iadd (pc := 467) hc dL_law_467 ?_
                            obtain ⟨v93, ev93, hf115⟩ := ob_i hf114
                            clear hf114
                            refine j_iald (pc := 468) hc dL_law_468 ev93 ?_
                            obtain ⟨v94, N95, ev94, hf116⟩ := ob_c hf115
                            clear hf115
                            refine j_callV (pc := 469) (As := [vi v93]) (rest := [vi v92]) (st2 := [vi v94, vi v92]) hc ho cw_L_62 (c_X3_found ev94) (Or.inr ⟨rfl, _, rfl⟩) hrm ⟨by decide, by decide⟩ rfl (Nat.le_of_ble_eq_true rfl) dL_law_469 rfl rfl ?_
                            refine j_icmp_eq (pc := 472) hc dL_law_472 (tgt := 856) rfl (fun hh => ?_) (fun hh => ?_)
                            · have hf117 := (if_pos hh).symm.trans hf116
                              clear hf116
                              refine j_iinc (pc := 856) (L' := [(3, vi (x3 + (6))), (0, vr (some b)), (1, vr (some ax)), (2, vr (some am))]) (v := (x3 + (6))) hc dL_law_856 3 rfl rfl hnL (by decide) rfl ?_
                              refine j_goto (pc := 859) hc dL_law_859 (tgt := 18) rfl ?_
                              refine j_loc (L' := [(0, vr (some b)), (1, vr (some ax)), (2, vr (some am)), (3, vi (x3 + (6)))]) [1, 2, 3, 0] rfl ?_
                              exact hk_18 _ _ _ hf117
                            · have hf118 := (if_neg hh).symm.trans hf116
                              clear hf116
                              refine j_iconst (pc := 475) (v := (0)) hc dL_law_475 rfl ?_
                              cases hf118
                          · have hf119 := (if_neg hh10).symm.trans hf110
                            clear hf110
                            by_cases hh11 : (v2 &&& (31)) = (11)
                            · have hf120 := (if_pos hh11).symm.trans hf119
                              clear hf119
                              refine j_tsw (pc := 33) (k := (11)) (tgt := 477) hc dL_law_33 hh11 (by decide) (by decide) rfl rfl ?_
                              refine j_aload_n (pc := 477) hc dL_law_477 1 rfl rfl ?_
                              refine j_aload_n (pc := 478) hc dL_law_478 0 rfl rfl ?_
                              refine j_iload_n (pc := 479) hc dL_law_479 3 rfl rfl ?_
                              refine j_iconst (pc := 480) (v := (1)) hc dL_law_480 rfl ?_
                              refine j_iadd (pc := 481) hc dL_law_481 ?_
                              obtain ⟨v96, ev96, hf121⟩ := ob_i hf120
                              clear hf120
                              refine j_iald (pc := 482) hc dL_law_482 ev96 ?_
                              refine j_aload_n (pc := 483) hc dL_law_483 0 rfl rfl ?_
                              refine j_iload_n (pc := 484) hc dL_law_484 3 rfl rfl ?_
                              refine j_iconst (pc := 485) (v := (2)) hc dL_law_485 rfl ?_
                              refine j_iadd (pc := 486) hc dL_law_486 ?_
                              obtain ⟨v97, ev97, hf122⟩ := ob_i hf121
                              clear hf121
                              refine j_iald (pc := 487) hc dL_law_487 ev97 ?_
                              refine j_aload_n (pc := 488) hc dL_law_488 0 rfl rfl ?_
                              refine j_iload_n (pc := 489) hc dL_law_489 3 rfl rfl ?_
                              refine j_iconst (pc := 490) (v := (3)) hc dL_law_490 rfl ?_
                              refine j_iadd (pc := 491) hc dL_law_491 ?_
                              obtain ⟨v98, ev98, hf123⟩ := ob_i hf122
                              clear hf122
                              refine j_iald (pc := 492) hc dL_law_492 ev98 ?_
                              obtain ⟨u99, eu99, hf124⟩ := ob_i hf123
                              clear hf123
                              obtain ⟨v101, T100, ev101, hf125⟩ := ob_c hf124
                              clear hf124
                              refine j_callV (pc := 493) (As := [vi v96, vi v97, vi v98]) (rest := []) (st2 := [vi v101]) hc ho cw_L_63 (c_X0_retype ev101) (Rc.of (g_cls_ok eu99) (by decide) (by decide) ci_X0) hrm ⟨by decide, by decide⟩ rfl (Nat.le_of_ble_eq_true rfl) dL_law_493 rfl rfl ?_
                              refine j_aload_n (pc := 496) hc dL_law_496 2 rfl rfl ?_
                              refine j_aload_n (pc := 497) hc dL_law_497 0 rfl rfl ?_
                              refine j_iload_n (pc := 498) hc dL_law_498 3 rfl rfl ?_
                              refine j_iconst (pc := 499) (v := (1)) hc dL_law_499 rfl ?_
                              refine j_iadd (pc := 500) hc dL_law_500 ?_
                              obtain ⟨v102, ev102, hf126⟩ := ob_i hf125
                              clear hf125
                              refine j_iald (pc := 501) hc dL_law_501 ev102 ?_
                              refine j_aload_n (pc := 502) hc dL_law_502 0 rfl rfl ?_
                              refine j_iload_n (pc := 503) hc dL_law_503 3 rfl rfl ?_
                              refine j_iconst (pc := 504) (v := (2)) hc dL_law_504 rfl ?_
                              refine j_iadd (pc := 505) hc dL_law_505 ?_
                              obtain ⟨v103, ev103, hf127⟩ := ob_i hf126
                              clear hf126
                              refine j_iald (pc := 506) hc dL_law_506 ev103 ?_
                              refine j_aload_n (pc := 507) hc dL_law_507 0 rfl rfl ?_
                              refine j_iload_n (pc := 508) hc dL_law_508 3 rfl rfl ?_
                              refine j_iconst (pc := 509) (v := (3)) hc dL_law_509 rfl ?_
                              refine j_iadd (pc := 510) hc dL_law_510 ?_
                              obtain ⟨v104, ev104, hf128⟩ := ob_i hf127
                              clear hf127
                              refine j_iald (pc := 511) hc dL_law_511 ev104 ?_
                              obtain ⟨v105, N106, ev105, hf129⟩ := ob_c hf128
                              clear hf128
                              refine j_callV (pc := 512) (As := [vi v102, vi v103, vi v104]) (rest := [vi v101]) (st2 := [vi v105, vi v101]) hc ho cw_L_66 (c_X3_retype ev105) (Or.inr ⟨rfl, _, rfl⟩) hrm ⟨by decide, by decide⟩ rfl (Nat.le_of_ble_eq_true rfl) dL_law_512 rfl rfl ?_
                              refine j_icmp_eq (pc := 515) hc dL_law_515 (tgt := 856) rfl (fun hh => ?_) (fun hh => ?_)
                              · have hf130 := (if_pos hh).symm.trans hf129
                                clear hf129
                                refine j_iinc (pc := 856) (L' := [(3, vi (x3 + (6))), (0, vr (some b)), (1, vr (some ax)), (2, vr (some am))]) (v := (x3 + (6))) hc dL_law_856 3 rfl rfl hnL (by decide) rfl ?_
                                refine j_goto (pc := 859) hc dL_law_859 (tgt := 18) rfl ?_
                                refine j_loc (L' := [(0, vr (some b)), (1, vr (some ax)), (2, vr (some am)), (3, vi (x3 + (6)))]) [1, 2, 3, 0] rfl ?_
                                exact hk_18 _ _ _ hf130
                              · have hf131 := (if_neg hh).symm.trans hf129
                                clear hf129
                                refine j_iconst (pc := 518) (v := (0)) hc dL_law_518 rfl ?_
                                cases hf131
                            · have hf132 := (if_neg hh11).symm.trans hf119
                              clear hf119
                              by_cases hh12 : (v2 &&& (31)) = (12)
                              · have hf133 := (if_pos hh12).symm.trans hf132
                                clear hf132
                                refine j_tsw (pc := 33) (k := (12)) (tgt := 520) hc dL_law_33 hh12 (by decide) (by decide) rfl rfl ?_
                                refine j_aload_n (pc := 520) hc dL_law_520 1 rfl rfl ?_
                                refine j_aload_n (pc := 521) hc dL_law_521 0 rfl rfl ?_
                                refine j_iload_n (pc := 522) hc dL_law_522 3 rfl rfl ?_
                                refine j_iconst (pc := 523) (v := (1)) hc dL_law_523 rfl ?_
                                refine j_iadd (pc := 524) hc dL_law_524 ?_
                                obtain ⟨v107, ev107, hf134⟩ := ob_i hf133
                                clear hf133
                                refine j_iald (pc := 525) hc dL_law_525 ev107 ?_
                                obtain ⟨u108, eu108, hf135⟩ := ob_i hf134
                                clear hf134
                                obtain ⟨v110, T109, ev110, hf136⟩ := ob_c hf135
                                clear hf135
                                refine j_callV (pc := 526) (As := [vi v107]) (rest := []) (st2 := [vi v110]) hc ho cw_L_67 (c_X0_drop ev110) (Rc.of (g_cls_ok eu108) (by decide) (by decide) ci_X0) hrm ⟨by decide, by decide⟩ rfl (Nat.le_of_ble_eq_true rfl) dL_law_526 rfl rfl ?_
                                refine j_aload_n (pc := 529) hc dL_law_529 2 rfl rfl ?_
                                refine j_aload_n (pc := 530) hc dL_law_530 0 rfl rfl ?_
                                refine j_iload_n (pc := 531) hc dL_law_531 3 rfl rfl ?_
                                refine j_iconst (pc := 532) (v := (1)) hc dL_law_532 rfl ?_
                                refine j_iadd (pc := 533) hc dL_law_533 ?_
                                obtain ⟨v111, ev111, hf137⟩ := ob_i hf136
                                clear hf136
                                refine j_iald (pc := 534) hc dL_law_534 ev111 ?_
                                obtain ⟨v112, N113, ev112, hf138⟩ := ob_c hf137
                                clear hf137
                                refine j_callV (pc := 535) (As := [vi v111]) (rest := [vi v110]) (st2 := [vi v112, vi v110]) hc ho cw_L_70 (c_X3_drop ev112) (Or.inr ⟨rfl, _, rfl⟩) hrm ⟨by decide, by decide⟩ rfl (Nat.le_of_ble_eq_true rfl) dL_law_535 rfl rfl ?_
                                refine j_icmp_eq (pc := 538) hc dL_law_538 (tgt := 856) rfl (fun hh => ?_) (fun hh => ?_)
                                · have hf139 := (if_pos hh).symm.trans hf138
                                  clear hf138
                                  refine j_iinc (pc := 856) (L' := [(3, vi (x3 + (6))), (0, vr (some b)), (1, vr (some ax)), (2, vr (some am))]) (v := (x3 + (6))) hc dL_law_856 3 rfl rfl hnL (by decide) rfl ?_
                                  refine j_goto (pc := 859) hc dL_law_859 (tgt := 18) rfl ?_
                                  refine j_loc (L' := [(0, vr (some b)), (1, vr (some ax)), (2, vr (some am)), (3, vi (x3 + (6)))]) [1, 2, 3, 0] rfl ?_
                                  exact hk_18 _ _ _ hf139
                                · have hf140 := (if_neg hh).symm.trans hf138
                                  clear hf138
                                  refine j_iconst (pc := 541) (v := (0)) hc dL_law_541 rfl ?_
                                  cases hf140
                              · have hf141 := (if_neg hh12).symm.trans hf132
                                clear hf132
                                by_cases hh13 : (v2 &&& (31)) = (13)
                                · have hf142 := (if_pos hh13).symm.trans hf141
                                  clear hf141
                                  refine j_tsw (pc := 33) (k := (13)) (tgt := 543) hc dL_law_33 hh13 (by decide) (by decide) rfl rfl ?_
                                  refine j_aload_n (pc := 543) hc dL_law_543 1 rfl rfl ?_
                                  refine j_aload_n (pc := 544) hc dL_law_544 0 rfl rfl ?_
                                  refine j_iload_n (pc := 545) hc dL_law_545 3 rfl rfl ?_
                                  refine j_iconst (pc := 546) (v := (1)) hc dL_law_546 rfl ?_
                                  refine j_iadd (pc := 547) hc dL_law_547 ?_
                                  obtain ⟨v114, ev114, hf143⟩ := ob_i hf142
                                  clear hf142
                                  refine j_iald (pc := 548) hc dL_law_548 ev114 ?_
                                  obtain ⟨u115, eu115, hf144⟩ := ob_i hf143
                                  clear hf143
                                  obtain ⟨v117, T116, ev117, hf145⟩ := ob_c hf144
                                  clear hf144
                                  refine j_callV (pc := 549) (As := [vi v114]) (rest := []) (st2 := [vi v117]) hc ho cw_L_71 (c_X0_freeze ev117) (Rc.of (g_cls_ok eu115) (by decide) (by decide) ci_X0) hrm ⟨by decide, by decide⟩ rfl (Nat.le_of_ble_eq_true rfl) dL_law_549 rfl rfl ?_
                                  refine j_aload_n (pc := 552) hc dL_law_552 2 rfl rfl ?_
                                  refine j_aload_n (pc := 553) hc dL_law_553 0 rfl rfl ?_
                                  refine j_iload_n (pc := 554) hc dL_law_554 3 rfl rfl ?_
                                  refine j_iconst (pc := 555) (v := (1)) hc dL_law_555 rfl ?_
                                  refine j_iadd (pc := 556) hc dL_law_556 ?_
                                  obtain ⟨v118, ev118, hf146⟩ := ob_i hf145
                                  clear hf145
                                  refine j_iald (pc := 557) hc dL_law_557 ev118 ?_
                                  obtain ⟨v119, N120, ev119, hf147⟩ := ob_c hf146
                                  clear hf146
                                  refine j_callV (pc := 558) (As := [vi v118]) (rest := [vi v117]) (st2 := [vi v119, vi v117]) hc ho cw_L_74 (c_X3_freeze ev119) (Or.inr ⟨rfl, _, rfl⟩) hrm ⟨by decide, by decide⟩ rfl (Nat.le_of_ble_eq_true rfl) dL_law_558 rfl rfl ?_
                                  refine j_icmp_eq (pc := 561) hc dL_law_561 (tgt := 856) rfl (fun hh => ?_) (fun hh => ?_)
                                  · have hf148 := (if_pos hh).symm.trans hf147
                                    clear hf147
                                    refine j_iinc (pc := 856) (L' := [(3, vi (x3 + (6))), (0, vr (some b)), (1, vr (some ax)), (2, vr (some am))]) (v := (x3 + (6))) hc dL_law_856 3 rfl rfl hnL (by decide) rfl ?_
                                    refine j_goto (pc := 859) hc dL_law_859 (tgt := 18) rfl ?_
                                    refine j_loc (L' := [(0, vr (some b)), (1, vr (some ax)), (2, vr (some am)), (3, vi (x3 + (6)))]) [1, 2, 3, 0] rfl ?_
                                    exact hk_18 _ _ _ hf148
                                  · have hf149 := (if_neg hh).symm.trans hf147
                                    clear hf147
                                    refine j_iconst (pc := 564) (v := (0)) hc dL_law_564 rfl ?_
                                    cases hf149
                                · have hf150 := (if_neg hh13).symm.trans hf141
                                  clear hf141
                                  by_cases hh14 : (v2 &&& (31)) = (14)
                                  · have hf151 := (if_pos hh14).symm.trans hf150
                                    clear hf150
                                    refine j_tsw (pc := 33) (k := (14)) (tgt := 566) hc dL_law_33 hh14 (by decide) (by decide) rfl rfl ?_
                                    refine j_aload_n (pc := 566) hc dL_law_566 1 rfl rfl ?_
                                    refine j_aload_n (pc := 567) hc dL_law_567 0 rfl rfl ?_
                                    refine j_iload_n (pc := 568) hc dL_law_568 3 rfl rfl ?_
                                    refine j_iconst (pc := 569) (v := (1)) hc dL_law_569 rfl ?_
                                    refine j_iadd (pc := 570) hc dL_law_570 ?_
                                    obtain ⟨v121, ev121, hf152⟩ := ob_i hf151
                                    clear hf151
                                    refine j_iald (pc := 571) hc dL_law_571 ev121 ?_
                                    obtain ⟨u122, eu122, hf153⟩ := ob_i hf152
                                    clear hf152
                                    obtain ⟨v124, T123, ev124, hf154⟩ := ob_c hf153
                                    clear hf153
                                    refine j_callV (pc := 572) (As := [vi v121]) (rest := []) (st2 := [vi v124]) hc ho cw_L_75 (c_X0_today ev124) (Rc.of (g_cls_ok eu122) (by decide) (by decide) ci_X0) hrm ⟨by decide, by decide⟩ rfl (Nat.le_of_ble_eq_true rfl) dL_law_572 rfl rfl ?_
                                    refine j_aload_n (pc := 575) hc dL_law_575 2 rfl rfl ?_
                                    refine j_aload_n (pc := 576) hc dL_law_576 0 rfl rfl ?_
                                    refine j_iload_n (pc := 577) hc dL_law_577 3 rfl rfl ?_
                                    refine j_iconst (pc := 578) (v := (1)) hc dL_law_578 rfl ?_
                                    refine j_iadd (pc := 579) hc dL_law_579 ?_
                                    obtain ⟨v125, ev125, hf155⟩ := ob_i hf154
                                    clear hf154
                                    refine j_iald (pc := 580) hc dL_law_580 ev125 ?_
                                    obtain ⟨v126, N127, ev126, hf156⟩ := ob_c hf155
                                    clear hf155
                                    refine j_callV (pc := 581) (As := [vi v125]) (rest := [vi v124]) (st2 := [vi v126, vi v124]) hc ho cw_L_78 (c_X3_today ev126) (Or.inr ⟨rfl, _, rfl⟩) hrm ⟨by decide, by decide⟩ rfl (Nat.le_of_ble_eq_true rfl) dL_law_581 rfl rfl ?_
                                    refine j_icmp_eq (pc := 584) hc dL_law_584 (tgt := 856) rfl (fun hh => ?_) (fun hh => ?_)
                                    · have hf157 := (if_pos hh).symm.trans hf156
                                      clear hf156
                                      refine j_iinc (pc := 856) (L' := [(3, vi (x3 + (6))), (0, vr (some b)), (1, vr (some ax)), (2, vr (some am))]) (v := (x3 + (6))) hc dL_law_856 3 rfl rfl hnL (by decide) rfl ?_
                                      refine j_goto (pc := 859) hc dL_law_859 (tgt := 18) rfl ?_
                                      refine j_loc (L' := [(0, vr (some b)), (1, vr (some ax)), (2, vr (some am)), (3, vi (x3 + (6)))]) [1, 2, 3, 0] rfl ?_
                                      exact hk_18 _ _ _ hf157
                                    · have hf158 := (if_neg hh).symm.trans hf156
                                      clear hf156
                                      refine j_iconst (pc := 587) (v := (0)) hc dL_law_587 rfl ?_
                                      cases hf158
                                  · have hf159 := (if_neg hh14).symm.trans hf150
                                    clear hf150
                                    by_cases hh15 : (v2 &&& (31)) = (15)
                                    · have hf160 := (if_pos hh15).symm.trans hf159
                                      clear hf159
                                      refine j_tsw (pc := 33) (k := (15)) (tgt := 589) hc dL_law_33 hh15 (by decide) (by decide) rfl rfl ?_
                                      refine j_aload_n (pc := 589) hc dL_law_589 1 rfl rfl ?_
                                      refine j_aload_n (pc := 590) hc dL_law_590 0 rfl rfl ?_
                                      refine j_iload_n (pc := 591) hc dL_law_591 3 rfl rfl ?_
                                      refine j_iconst (pc := 592) (v := (1)) hc dL_law_592 rfl ?_
                                      refine j_iadd (pc := 593) hc dL_law_593 ?_
                                      obtain ⟨v128, ev128, hf161⟩ := ob_i hf160
                                      clear hf160
                                      refine j_iald (pc := 594) hc dL_law_594 ev128 ?_
                                      refine j_aload_n (pc := 595) hc dL_law_595 0 rfl rfl ?_
                                      refine j_iload_n (pc := 596) hc dL_law_596 3 rfl rfl ?_
                                      refine j_iconst (pc := 597) (v := (2)) hc dL_law_597 rfl ?_
                                      refine j_iadd (pc := 598) hc dL_law_598 ?_
                                      obtain ⟨v129, ev129, hf162⟩ := ob_i hf161
                                      clear hf161
                                      refine j_iald (pc := 599) hc dL_law_599 ev129 ?_
                                      refine j_aload_n (pc := 600) hc dL_law_600 0 rfl rfl ?_
                                      refine j_iload_n (pc := 601) hc dL_law_601 3 rfl rfl ?_
                                      refine j_iconst (pc := 602) (v := (3)) hc dL_law_602 rfl ?_
                                      refine j_iadd (pc := 603) hc dL_law_603 ?_
                                      obtain ⟨v130, ev130, hf163⟩ := ob_i hf162
                                      clear hf162
                                      refine j_iald (pc := 604) hc dL_law_604 ev130 ?_
                                      obtain ⟨u131, eu131, hf164⟩ := ob_i hf163
                                      clear hf163
                                      obtain ⟨v133, T132, ev133, hf165⟩ := ob_c hf164
                                      clear hf164
                                      refine j_callV (pc := 605) (As := [vi v128, vi v129, vi v130]) (rest := []) (st2 := [vi v133]) hc ho cw_L_79 (c_X0_fed ev133) (Rc.of (g_cls_ok eu131) (by decide) (by decide) ci_X0) hrm ⟨by decide, by decide⟩ rfl (Nat.le_of_ble_eq_true rfl) dL_law_605 rfl rfl ?_
                                      refine j_aload_n (pc := 608) hc dL_law_608 2 rfl rfl ?_
                                      refine j_aload_n (pc := 609) hc dL_law_609 0 rfl rfl ?_
                                      refine j_iload_n (pc := 610) hc dL_law_610 3 rfl rfl ?_
                                      refine j_iconst (pc := 611) (v := (1)) hc dL_law_611 rfl ?_
                                      refine j_iadd (pc := 612) hc dL_law_612 ?_
                                      obtain ⟨v134, ev134, hf166⟩ := ob_i hf165
                                      clear hf165
                                      refine j_iald (pc := 613) hc dL_law_613 ev134 ?_
                                      refine j_aload_n (pc := 614) hc dL_law_614 0 rfl rfl ?_
                                      refine j_iload_n (pc := 615) hc dL_law_615 3 rfl rfl ?_
                                      refine j_iconst (pc := 616) (v := (2)) hc dL_law_616 rfl ?_
                                      refine j_iadd (pc := 617) hc dL_law_617 ?_
                                      obtain ⟨v135, ev135, hf167⟩ := ob_i hf166
                                      clear hf166
                                      refine j_iald (pc := 618) hc dL_law_618 ev135 ?_
                                      refine j_aload_n (pc := 619) hc dL_law_619 0 rfl rfl ?_
                                      refine j_iload_n (pc := 620) hc dL_law_620 3 rfl rfl ?_
                                      refine j_iconst (pc := 621) (v := (3)) hc dL_law_621 rfl ?_
                                      refine j_iadd (pc := 622) hc dL_law_622 ?_
                                      obtain ⟨v136, ev136, hf168⟩ := ob_i hf167
                                      clear hf167
                                      refine j_iald (pc := 623) hc dL_law_623 ev136 ?_
                                      obtain ⟨v137, N138, ev137, hf169⟩ := ob_c hf168
                                      clear hf168
                                      refine j_callV (pc := 624) (As := [vi v134, vi v135, vi v136]) (rest := [vi v133]) (st2 := [vi v137, vi v133]) hc ho cw_L_83 (c_X3_fed ev137) (Or.inr ⟨rfl, _, rfl⟩) hrm ⟨by decide, by decide⟩ rfl (Nat.le_of_ble_eq_true rfl) dL_law_624 rfl rfl ?_
                                      refine j_icmp_eq (pc := 627) hc dL_law_627 (tgt := 856) rfl (fun hh => ?_) (fun hh => ?_)
                                      · have hf170 := (if_pos hh).symm.trans hf169
                                        clear hf169
                                        refine j_iinc (pc := 856) (L' := [(3, vi (x3 + (6))), (0, vr (some b)), (1, vr (some ax)), (2, vr (some am))]) (v := (x3 + (6))) hc dL_law_856 3 rfl rfl hnL (by decide) rfl ?_
                                        refine j_goto (pc := 859) hc dL_law_859 (tgt := 18) rfl ?_
                                        refine j_loc (L' := [(0, vr (some b)), (1, vr (some ax)), (2, vr (some am)), (3, vi (x3 + (6)))]) [1, 2, 3, 0] rfl ?_
                                        exact hk_18 _ _ _ hf170
                                      · have hf171 := (if_neg hh).symm.trans hf169
                                        clear hf169
                                        refine j_iconst (pc := 630) (v := (0)) hc dL_law_630 rfl ?_
                                        cases hf171
                                    · have hf172 := (if_neg hh15).symm.trans hf159
                                      clear hf159
                                      by_cases hh16 : (v2 &&& (31)) = (16)
                                      · have hf173 := (if_pos hh16).symm.trans hf172
                                        clear hf172
                                        refine j_tsw (pc := 33) (k := (16)) (tgt := 632) hc dL_law_33 hh16 (by decide) (by decide) rfl rfl ?_
                                        refine j_aload_n (pc := 632) hc dL_law_632 1 rfl rfl ?_
                                        refine j_aload_n (pc := 633) hc dL_law_633 0 rfl rfl ?_
                                        refine j_iload_n (pc := 634) hc dL_law_634 3 rfl rfl ?_
                                        refine j_iconst (pc := 635) (v := (1)) hc dL_law_635 rfl ?_
                                        refine j_iadd (pc := 636) hc dL_law_636 ?_
                                        obtain ⟨v139, ev139, hf174⟩ := ob_i hf173
                                        clear hf173
                                        refine j_iald (pc := 637) hc dL_law_637 ev139 ?_
                                        obtain ⟨u140, eu140, hf175⟩ := ob_i hf174
                                        clear hf174
                                        obtain ⟨v142, T141, ev142, hf176⟩ := ob_c hf175
                                        clear hf175
                                        refine j_callV (pc := 638) (As := [vi v139]) (rest := []) (st2 := [vi v142]) hc ho cw_L_84 (c_X0_run ev142) (Rc.of (g_cls_ok eu140) (by decide) (by decide) ci_X0) hrm ⟨by decide, by decide⟩ rfl (Nat.le_of_ble_eq_true rfl) dL_law_638 rfl rfl ?_
                                        refine j_aload_n (pc := 641) hc dL_law_641 2 rfl rfl ?_
                                        refine j_aload_n (pc := 642) hc dL_law_642 0 rfl rfl ?_
                                        refine j_iload_n (pc := 643) hc dL_law_643 3 rfl rfl ?_
                                        refine j_iconst (pc := 644) (v := (1)) hc dL_law_644 rfl ?_
                                        refine j_iadd (pc := 645) hc dL_law_645 ?_
                                        obtain ⟨v143, ev143, hf177⟩ := ob_i hf176
                                        clear hf176
                                        refine j_iald (pc := 646) hc dL_law_646 ev143 ?_
                                        obtain ⟨v144, N145, ev144, hf178⟩ := ob_c hf177
                                        clear hf177
                                        refine j_callV (pc := 647) (As := [vi v143]) (rest := [vi v142]) (st2 := [vi v144, vi v142]) hc ho cw_L_87 (c_X3_run ev144) (Or.inr ⟨rfl, _, rfl⟩) hrm ⟨by decide, by decide⟩ rfl (Nat.le_of_ble_eq_true rfl) dL_law_647 rfl rfl ?_
                                        refine j_icmp_eq (pc := 650) hc dL_law_650 (tgt := 856) rfl (fun hh => ?_) (fun hh => ?_)
                                        · have hf179 := (if_pos hh).symm.trans hf178
                                          clear hf178
                                          refine j_iinc (pc := 856) (L' := [(3, vi (x3 + (6))), (0, vr (some b)), (1, vr (some ax)), (2, vr (some am))]) (v := (x3 + (6))) hc dL_law_856 3 rfl rfl hnL (by decide) rfl ?_
                                          refine j_goto (pc := 859) hc dL_law_859 (tgt := 18) rfl ?_
                                          refine j_loc (L' := [(0, vr (some b)), (1, vr (some ax)), (2, vr (some am)), (3, vi (x3 + (6)))]) [1, 2, 3, 0] rfl ?_
                                          exact hk_18 _ _ _ hf179
                                        · have hf180 := (if_neg hh).symm.trans hf178
                                          clear hf178
                                          refine j_iconst (pc := 653) (v := (0)) hc dL_law_653 rfl ?_
                                          cases hf180
                                      · have hf181 := (if_neg hh16).symm.trans hf172
                                        clear hf172
                                        by_cases hh17 : (v2 &&& (31)) = (17)
                                        · have hf182 := (if_pos hh17).symm.trans hf181
                                          clear hf181
                                          refine j_tsw (pc := 33) (k := (17)) (tgt := 655) hc dL_law_33 hh17 (by decide) (by decide) rfl rfl ?_
                                          refine j_aload_n (pc := 655) hc dL_law_655 1 rfl rfl ?_
                                          refine j_aload_n (pc := 656) hc dL_law_656 0 rfl rfl ?_
                                          refine j_iload_n (pc := 657) hc dL_law_657 3 rfl rfl ?_
                                          refine j_iconst (pc := 658) (v := (1)) hc dL_law_658 rfl ?_
                                          refine j_iadd (pc := 659) hc dL_law_659 ?_
                                          obtain ⟨v146, ev146, hf183⟩ := ob_i hf182
                                          clear hf182
                                          refine j_iald (pc := 660) hc dL_law_660 ev146 ?_
                                          refine j_aload_n (pc := 661) hc dL_law_661 0 rfl rfl ?_
                                          refine j_iload_n (pc := 662) hc dL_law_662 3 rfl rfl ?_
                                          refine j_iconst (pc := 663) (v := (2)) hc dL_law_663 rfl ?_
                                          refine j_iadd (pc := 664) hc dL_law_664 ?_
                                          obtain ⟨v147, ev147, hf184⟩ := ob_i hf183
                                          clear hf183
                                          refine j_iald (pc := 665) hc dL_law_665 ev147 ?_
                                          obtain ⟨u148, eu148, hf185⟩ := ob_i hf184
                                          clear hf184
                                          obtain ⟨v150, T149, ev150, hf186⟩ := ob_c hf185
                                          clear hf185
                                          refine j_callV (pc := 666) (As := [vi v146, vi v147]) (rest := []) (st2 := [vi v150]) hc ho cw_L_88 (c_X0_promise ev150) (Rc.of (g_cls_ok eu148) (by decide) (by decide) ci_X0) hrm ⟨by decide, by decide⟩ rfl (Nat.le_of_ble_eq_true rfl) dL_law_666 rfl rfl ?_
                                          refine j_aload_n (pc := 669) hc dL_law_669 2 rfl rfl ?_
                                          refine j_aload_n (pc := 670) hc dL_law_670 0 rfl rfl ?_
                                          refine j_iload_n (pc := 671) hc dL_law_671 3 rfl rfl ?_
                                          refine j_iconst (pc := 672) (v := (1)) hc dL_law_672 rfl ?_
                                          refine j_iadd (pc := 673) hc dL_law_673 ?_
                                          obtain ⟨v151, ev151, hf187⟩ := ob_i hf186
                                          clear hf186
                                          refine j_iald (pc := 674) hc dL_law_674 ev151 ?_
                                          refine j_aload_n (pc := 675) hc dL_law_675 0 rfl rfl ?_
                                          refine j_iload_n (pc := 676) hc dL_law_676 3 rfl rfl ?_
                                          refine j_iconst (pc := 677) (v := (2)) hc dL_law_677 rfl ?_
                                          refine j_iadd (pc := 678) hc dL_law_678 ?_
                                          obtain ⟨v152, ev152, hf188⟩ := ob_i hf187
                                          clear hf187
                                          refine j_iald (pc := 679) hc dL_law_679 ev152 ?_
                                          obtain ⟨v153, N154, ev153, hf189⟩ := ob_c hf188
                                          clear hf188
                                          refine j_callV (pc := 680) (As := [vi v151, vi v152]) (rest := [vi v150]) (st2 := [vi v153, vi v150]) hc ho cw_L_92 (c_X3_promise ev153) (Or.inr ⟨rfl, _, rfl⟩) hrm ⟨by decide, by decide⟩ rfl (Nat.le_of_ble_eq_true rfl) dL_law_680 rfl rfl ?_
                                          refine j_icmp_eq (pc := 683) hc dL_law_683 (tgt := 856) rfl (fun hh => ?_) (fun hh => ?_)
                                          · have hf190 := (if_pos hh).symm.trans hf189
                                            clear hf189
                                            refine j_iinc (pc := 856) (L' := [(3, vi (x3 + (6))), (0, vr (some b)), (1, vr (some ax)), (2, vr (some am))]) (v := (x3 + (6))) hc dL_law_856 3 rfl rfl hnL (by decide) rfl ?_
                                            refine j_goto (pc := 859) hc dL_law_859 (tgt := 18) rfl ?_
                                            refine j_loc (L' := [(0, vr (some b)), (1, vr (some ax)), (2, vr (some am)), (3, vi (x3 + (6)))]) [1, 2, 3, 0] rfl ?_
                                            exact hk_18 _ _ _ hf190
                                          · have hf191 := (if_neg hh).symm.trans hf189
                                            clear hf189
                                            refine j_iconst (pc := 686) (v := (0)) hc dL_law_686 rfl ?_
                                            cases hf191
                                        · have hf192 := (if_neg hh17).symm.trans hf181
                                          clear hf181
                                          by_cases hh18 : (v2 &&& (31)) = (18)
                                          · have hf193 := (if_pos hh18).symm.trans hf192
                                            clear hf192
                                            refine j_tsw (pc := 33) (k := (18)) (tgt := 688) hc dL_law_33 hh18 (by decide) (by decide) rfl rfl ?_
                                            refine j_aload_n (pc := 688) hc dL_law_688 1 rfl rfl ?_
                                            obtain ⟨u155, eu155, hf194⟩ := ob_i hf193
                                            clear hf193
                                            obtain ⟨v157, T156, ev157, hf195⟩ := ob_c hf194
                                            clear hf194
                                            refine j_callV (pc := 689) (As := []) (rest := []) (st2 := [vi v157]) hc ho cw_L_93 (c_X0_broken ev157) (Rc.of (g_cls_ok eu155) (by decide) (by decide) ci_X0) hrm ⟨by decide, by decide⟩ rfl (Nat.le_of_ble_eq_true rfl) dL_law_689 rfl rfl ?_
                                            refine j_aload_n (pc := 692) hc dL_law_692 2 rfl rfl ?_
                                            obtain ⟨v158, N159, ev158, hf196⟩ := ob_c hf195
                                            clear hf195
                                            refine j_callV (pc := 693) (As := []) (rest := [vi v157]) (st2 := [vi v158, vi v157]) hc ho cw_L_96 (c_X3_broken ev158) (Or.inr ⟨rfl, _, rfl⟩) hrm ⟨by decide, by decide⟩ rfl (Nat.le_of_ble_eq_true rfl) dL_law_693 rfl rfl ?_
                                            refine j_icmp_eq (pc := 696) hc dL_law_696 (tgt := 856) rfl (fun hh => ?_) (fun hh => ?_)
                                            · have hf197 := (if_pos hh).symm.trans hf196
                                              clear hf196
                                              refine j_iinc (pc := 856) (L' := [(3, vi (x3 + (6))), (0, vr (some b)), (1, vr (some ax)), (2, vr (some am))]) (v := (x3 + (6))) hc dL_law_856 3 rfl rfl hnL (by decide) rfl ?_
                                              refine j_goto (pc := 859) hc dL_law_859 (tgt := 18) rfl ?_
                                              refine j_loc (L' := [(0, vr (some b)), (1, vr (some ax)), (2, vr (some am)), (3, vi (x3 + (6)))]) [1, 2, 3, 0] rfl ?_
                                              exact hk_18 _ _ _ hf197
                                            · have hf198 := (if_neg hh).symm.trans hf196
                                              clear hf196
                                              refine j_iconst (pc := 699) (v := (0)) hc dL_law_699 rfl ?_
                                              cases hf198
                                          · have hf199 := (if_neg hh18).symm.trans hf192
                                            clear hf192
                                            by_cases hh19 : (v2 &&& (31)) = (19)
                                            · have hf200 := (if_pos hh19).symm.trans hf199
                                              clear hf199
                                              refine j_tsw (pc := 33) (k := (19)) (tgt := 701) hc dL_law_33 hh19 (by decide) (by decide) rfl rfl ?_
                                              refine j_aload_n (pc := 701) hc dL_law_701 1 rfl rfl ?_
                                              refine j_aload_n (pc := 702) hc dL_law_702 0 rfl rfl ?_
                                              refine j_iload_n (pc := 703) hc dL_law_703 3 rfl rfl ?_
                                              refine j_iconst (pc := 704) (v := (1)) hc dL_law_704 rfl ?_
                                              refine j_iadd (pc := 705) hc dL_law_705 ?_
                                              obtain ⟨v160, ev160, hf201⟩ := ob_i hf200
                                              clear hf200
                                              refine j_iald (pc := 706) hc dL_law_706 ev160 ?_
                                              obtain ⟨u161, eu161, hf202⟩ := ob_i hf201
                                              clear hf201
                                              obtain ⟨v163, T162, ev163, hf203⟩ := ob_c hf202
                                              clear hf202
                                              refine j_callV (pc := 707) (As := [vi v160]) (rest := []) (st2 := [vi v163]) hc ho cw_L_97 (c_X0_late ev163) (Rc.of (g_cls_ok eu161) (by decide) (by decide) ci_X0) hrm ⟨by decide, by decide⟩ rfl (Nat.le_of_ble_eq_true rfl) dL_law_707 rfl rfl ?_
                                              refine j_aload_n (pc := 710) hc dL_law_710 2 rfl rfl ?_
                                              refine j_aload_n (pc := 711) hc dL_law_711 0 rfl rfl ?_
                                              refine j_iload_n (pc := 712) hc dL_law_712 3 rfl rfl ?_
                                              refine j_iconst (pc := 713) (v := (1)) hc dL_law_713 rfl ?_
                                              refine j_iadd (pc := 714) hc dL_law_714 ?_
                                              obtain ⟨v164, ev164, hf204⟩ := ob_i hf203
                                              clear hf203
                                              refine j_iald (pc := 715) hc dL_law_715 ev164 ?_
                                              obtain ⟨v165, N166, ev165, hf205⟩ := ob_c hf204
                                              clear hf204
                                              refine j_callV (pc := 716) (As := [vi v164]) (rest := [vi v163]) (st2 := [vi v165, vi v163]) hc ho cw_L_100 (c_X3_late ev165) (Or.inr ⟨rfl, _, rfl⟩) hrm ⟨by decide, by decide⟩ rfl (Nat.le_of_ble_eq_true rfl) dL_law_716 rfl rfl ?_
                                              refine j_icmp_eq (pc := 719) hc dL_law_719 (tgt := 856) rfl (fun hh => ?_) (fun hh => ?_)
                                              · have hf206 := (if_pos hh).symm.trans hf205
                                                clear hf205
                                                refine j_iinc (pc := 856) (L' := [(3, vi (x3 + (6))), (0, vr (some b)), (1, vr (some ax)), (2, vr (some am))]) (v := (x3 + (6))) hc dL_law_856 3 rfl rfl hnL (by decide) rfl ?_
                                                refine j_goto (pc := 859) hc dL_law_859 (tgt := 18) rfl ?_
                                                refine j_loc (L' := [(0, vr (some b)), (1, vr (some ax)), (2, vr (some am)), (3, vi (x3 + (6)))]) [1, 2, 3, 0] rfl ?_
                                                exact hk_18 _ _ _ hf206
                                              · have hf207 := (if_neg hh).symm.trans hf205
                                                clear hf205
                                                refine j_iconst (pc := 722) (v := (0)) hc dL_law_722 rfl ?_
                                                cases hf207
                                            · have hf208 := (if_neg hh19).symm.trans hf199
                                              clear hf199
                                              by_cases hh20 : (v2 &&& (31)) = (20)
                                              · have hf209 := (if_pos hh20).symm.trans hf208
                                                clear hf208
                                                refine j_tsw (pc := 33) (k := (20)) (tgt := 724) hc dL_law_33 hh20 (by decide) (by decide) rfl rfl ?_
                                                refine j_aload_n (pc := 724) hc dL_law_724 1 rfl rfl ?_
                                                refine j_aload_n (pc := 725) hc dL_law_725 0 rfl rfl ?_
                                                refine j_iload_n (pc := 726) hc dL_law_726 3 rfl rfl ?_
                                                refine j_iconst (pc := 727) (v := (1)) hc dL_law_727 rfl ?_
                                                refine j_iadd (pc := 728) hc dL_law_728 ?_
                                                obtain ⟨v167, ev167, hf210⟩ := ob_i hf209
                                                clear hf209
                                                refine j_iald (pc := 729) hc dL_law_729 ev167 ?_
                                                refine j_aload_n (pc := 730) hc dL_law_730 0 rfl rfl ?_
                                                refine j_iload_n (pc := 731) hc dL_law_731 3 rfl rfl ?_
                                                refine j_iconst (pc := 732) (v := (2)) hc dL_law_732 rfl ?_
                                                refine j_iadd (pc := 733) hc dL_law_733 ?_
                                                obtain ⟨v168, ev168, hf211⟩ := ob_i hf210
                                                clear hf210
                                                refine j_iald (pc := 734) hc dL_law_734 ev168 ?_
                                                obtain ⟨u169, eu169, hf212⟩ := ob_i hf211
                                                clear hf211
                                                obtain ⟨v171, T170, ev171, hf213⟩ := ob_c hf212
                                                clear hf212
                                                refine j_callV (pc := 735) (As := [vi v167, vi v168]) (rest := []) (st2 := [vi v171]) hc ho cw_L_101 (c_X0_own ev171) (Rc.of (g_cls_ok eu169) (by decide) (by decide) ci_X0) hrm ⟨by decide, by decide⟩ rfl (Nat.le_of_ble_eq_true rfl) dL_law_735 rfl rfl ?_
                                                refine j_aload_n (pc := 738) hc dL_law_738 2 rfl rfl ?_
                                                refine j_aload_n (pc := 739) hc dL_law_739 0 rfl rfl ?_
                                                refine j_iload_n (pc := 740) hc dL_law_740 3 rfl rfl ?_
                                                refine j_iconst (pc := 741) (v := (1)) hc dL_law_741 rfl ?_
                                                refine j_iadd (pc := 742) hc dL_law_742 ?_
                                                obtain ⟨v172, ev172, hf214⟩ := ob_i hf213
                                                clear hf213
                                                refine j_iald (pc := 743) hc dL_law_743 ev172 ?_
                                                refine j_aload_n (pc := 744) hc dL_law_744 0 rfl rfl ?_
                                                refine j_iload_n (pc := 745) hc dL_law_745 3 rfl rfl ?_
                                                refine j_iconst (pc := 746) (v := (2)) hc dL_law_746 rfl ?_
                                                refine j_iadd (pc := 747) hc dL_law_747 ?_
                                                obtain ⟨v173, ev173, hf215⟩ := ob_i hf214
                                                clear hf214
                                                refine j_iald (pc := 748) hc dL_law_748 ev173 ?_
                                                obtain ⟨v174, N175, ev174, hf216⟩ := ob_c hf215
                                                clear hf215
                                                refine j_callV (pc := 749) (As := [vi v172, vi v173]) (rest := [vi v171]) (st2 := [vi v174, vi v171]) hc ho cw_L_104 (c_X3_own ev174) (Or.inr ⟨rfl, _, rfl⟩) hrm ⟨by decide, by decide⟩ rfl (Nat.le_of_ble_eq_true rfl) dL_law_749 rfl rfl ?_
                                                refine j_icmp_eq (pc := 752) hc dL_law_752 (tgt := 856) rfl (fun hh => ?_) (fun hh => ?_)
                                                · have hf217 := (if_pos hh).symm.trans hf216
                                                  clear hf216
                                                  refine j_iinc (pc := 856) (L' := [(3, vi (x3 + (6))), (0, vr (some b)), (1, vr (some ax)), (2, vr (some am))]) (v := (x3 + (6))) hc dL_law_856 3 rfl rfl hnL (by decide) rfl ?_
                                                  refine j_goto (pc := 859) hc dL_law_859 (tgt := 18) rfl ?_
                                                  refine j_loc (L' := [(0, vr (some b)), (1, vr (some ax)), (2, vr (some am)), (3, vi (x3 + (6)))]) [1, 2, 3, 0] rfl ?_
                                                  exact hk_18 _ _ _ hf217
                                                · have hf218 := (if_neg hh).symm.trans hf216
                                                  clear hf216
                                                  refine j_iconst (pc := 755) (v := (0)) hc dL_law_755 rfl ?_
                                                  cases hf218
                                              · have hf219 := (if_neg hh20).symm.trans hf208
                                                clear hf208
                                                by_cases hh21 : (v2 &&& (31)) = (21)
                                                · have hf220 := (if_pos hh21).symm.trans hf219
                                                  clear hf219
                                                  refine j_tsw (pc := 33) (k := (21)) (tgt := 757) hc dL_law_33 hh21 (by decide) (by decide) rfl rfl ?_
                                                  refine j_aload_n (pc := 757) hc dL_law_757 1 rfl rfl ?_
                                                  refine j_aload_n (pc := 758) hc dL_law_758 0 rfl rfl ?_
                                                  refine j_iload_n (pc := 759) hc dL_law_759 3 rfl rfl ?_
                                                  refine j_iconst (pc := 760) (v := (1)) hc dL_law_760 rfl ?_
                                                  refine j_iadd (pc := 761) hc dL_law_761 ?_
                                                  obtain ⟨v176, ev176, hf221⟩ := ob_i hf220
                                                  clear hf220
                                                  refine j_iald (pc := 762) hc dL_law_762 ev176 ?_
                                                  refine j_aload_n (pc := 763) hc dL_law_763 0 rfl rfl ?_
                                                  refine j_iload_n (pc := 764) hc dL_law_764 3 rfl rfl ?_
                                                  refine j_iconst (pc := 765) (v := (2)) hc dL_law_765 rfl ?_
                                                  refine j_iadd (pc := 766) hc dL_law_766 ?_
                                                  obtain ⟨v177, ev177, hf222⟩ := ob_i hf221
                                                  clear hf221
                                                  refine j_iald (pc := 767) hc dL_law_767 ev177 ?_
                                                  refine j_aload_n (pc := 768) hc dL_law_768 0 rfl rfl ?_
                                                  refine j_iload_n (pc := 769) hc dL_law_769 3 rfl rfl ?_
                                                  refine j_iconst (pc := 770) (v := (3)) hc dL_law_770 rfl ?_
                                                  refine j_iadd (pc := 771) hc dL_law_771 ?_
                                                  obtain ⟨v178, ev178, hf223⟩ := ob_i hf222
                                                  clear hf222
                                                  refine j_iald (pc := 772) hc dL_law_772 ev178 ?_
                                                  obtain ⟨u179, eu179, hf224⟩ := ob_i hf223
                                                  clear hf223
                                                  obtain ⟨v181, T180, ev181, hf225⟩ := ob_c hf224
                                                  clear hf224
                                                  refine j_callV (pc := 773) (As := [vi v176, vi v177, vi v178]) (rest := []) (st2 := [vi v181]) hc ho cw_L_105 (c_X0_ask ev181) (Rc.of (g_cls_ok eu179) (by decide) (by decide) ci_X0) hrm ⟨by decide, by decide⟩ rfl (Nat.le_of_ble_eq_true rfl) dL_law_773 rfl rfl ?_
                                                  refine j_aload_n (pc := 776) hc dL_law_776 2 rfl rfl ?_
                                                  refine j_aload_n (pc := 777) hc dL_law_777 0 rfl rfl ?_
                                                  refine j_iload_n (pc := 778) hc dL_law_778 3 rfl rfl ?_
                                                  refine j_iconst (pc := 779) (v := (1)) hc dL_law_779 rfl ?_
                                                  refine j_iadd (pc := 780) hc dL_law_780 ?_
                                                  obtain ⟨v182, ev182, hf226⟩ := ob_i hf225
                                                  clear hf225
                                                  refine j_iald (pc := 781) hc dL_law_781 ev182 ?_
                                                  refine j_aload_n (pc := 782) hc dL_law_782 0 rfl rfl ?_
                                                  refine j_iload_n (pc := 783) hc dL_law_783 3 rfl rfl ?_
                                                  refine j_iconst (pc := 784) (v := (2)) hc dL_law_784 rfl ?_
                                                  refine j_iadd (pc := 785) hc dL_law_785 ?_
                                                  obtain ⟨v183, ev183, hf227⟩ := ob_i hf226
                                                  clear hf226
                                                  refine j_iald (pc := 786) hc dL_law_786 ev183 ?_
                                                  refine j_aload_n (pc := 787) hc dL_law_787 0 rfl rfl ?_
                                                  refine j_iload_n (pc := 788) hc dL_law_788 3 rfl rfl ?_
                                                  refine j_iconst (pc := 789) (v := (3)) hc dL_law_789 rfl ?_
                                                  refine j_iadd (pc := 790) hc dL_law_790 ?_
                                                  obtain ⟨v184, ev184, hf228⟩ := ob_i hf227
                                                  clear hf227
                                                  refine j_iald (pc := 791) hc dL_law_791 ev184 ?_
                                                  obtain ⟨v185, N186, ev185, hf229⟩ := ob_c hf228
                                                  clear hf228
                                                  refine j_callV (pc := 792) (As := [vi v182, vi v183, vi v184]) (rest := [vi v181]) (st2 := [vi v185, vi v181]) hc ho cw_L_108 (c_X3_ask ev185) (Or.inr ⟨rfl, _, rfl⟩) hrm ⟨by decide, by decide⟩ rfl (Nat.le_of_ble_eq_true rfl) dL_law_792 rfl rfl ?_
                                                  refine j_icmp_eq (pc := 795) hc dL_law_795 (tgt := 856) rfl (fun hh => ?_) (fun hh => ?_)
                                                  · have hf230 := (if_pos hh).symm.trans hf229
                                                    clear hf229
                                                    refine j_iinc (pc := 856) (L' := [(3, vi (x3 + (6))), (0, vr (some b)), (1, vr (some ax)), (2, vr (some am))]) (v := (x3 + (6))) hc dL_law_856 3 rfl rfl hnL (by decide) rfl ?_
                                                    refine j_goto (pc := 859) hc dL_law_859 (tgt := 18) rfl ?_
                                                    refine j_loc (L' := [(0, vr (some b)), (1, vr (some ax)), (2, vr (some am)), (3, vi (x3 + (6)))]) [1, 2, 3, 0] rfl ?_
                                                    exact hk_18 _ _ _ hf230
                                                  · have hf231 := (if_neg hh).symm.trans hf229
                                                    clear hf229
                                                    refine j_iconst (pc := 798) (v := (0)) hc dL_law_798 rfl ?_
                                                    cases hf231
                                                · have hf232 := (if_neg hh21).symm.trans hf219
                                                  clear hf219
                                                  by_cases hh22 : (v2 &&& (31)) = (22)
                                                  · have hf233 := (if_pos hh22).symm.trans hf232
                                                    clear hf232
                                                    refine j_tsw (pc := 33) (k := (22)) (tgt := 800) hc dL_law_33 hh22 (by decide) (by decide) rfl rfl ?_
                                                    refine j_aload_n (pc := 800) hc dL_law_800 1 rfl rfl ?_
                                                    refine j_aload_n (pc := 801) hc dL_law_801 0 rfl rfl ?_
                                                    refine j_iload_n (pc := 802) hc dL_law_802 3 rfl rfl ?_
                                                    refine j_iconst (pc := 803) (v := (1)) hc dL_law_803 rfl ?_
                                                    refine j_iadd (pc := 804) hc dL_law_804 ?_
                                                    obtain ⟨v187, ev187, hf234⟩ := ob_i hf233
                                                    clear hf233
                                                    refine j_iald (pc := 805) hc dL_law_805 ev187 ?_
                                                    obtain ⟨u188, eu188, hf235⟩ := ob_i hf234
                                                    clear hf234
                                                    obtain ⟨v190, T189, ev190, hf236⟩ := ob_c hf235
                                                    clear hf235
                                                    refine j_callV (pc := 806) (As := [vi v187]) (rest := []) (st2 := [vi v190]) hc ho cw_L_109 (c_X0_unused ev190) (Rc.of (g_cls_ok eu188) (by decide) (by decide) ci_X0) hrm ⟨by decide, by decide⟩ rfl (Nat.le_of_ble_eq_true rfl) dL_law_806 rfl rfl ?_
                                                    refine j_aload_n (pc := 809) hc dL_law_809 2 rfl rfl ?_
                                                    refine j_aload_n (pc := 810) hc dL_law_810 0 rfl rfl ?_
                                                    refine j_iload_n (pc := 811) hc dL_law_811 3 rfl rfl ?_
                                                    refine j_iconst (pc := 812) (v := (1)) hc dL_law_812 rfl ?_
                                                    refine j_iadd (pc := 813) hc dL_law_813 ?_
                                                    obtain ⟨v191, ev191, hf237⟩ := ob_i hf236
                                                    clear hf236
                                                    refine j_iald (pc := 814) hc dL_law_814 ev191 ?_
                                                    obtain ⟨v192, N193, ev192, hf238⟩ := ob_c hf237
                                                    clear hf237
                                                    refine j_callV (pc := 815) (As := [vi v191]) (rest := [vi v190]) (st2 := [vi v192, vi v190]) hc ho cw_L_112 (c_X3_unused ev192) (Or.inr ⟨rfl, _, rfl⟩) hrm ⟨by decide, by decide⟩ rfl (Nat.le_of_ble_eq_true rfl) dL_law_815 rfl rfl ?_
                                                    refine j_icmp_eq (pc := 818) hc dL_law_818 (tgt := 856) rfl (fun hh => ?_) (fun hh => ?_)
                                                    · have hf239 := (if_pos hh).symm.trans hf238
                                                      clear hf238
                                                      refine j_iinc (pc := 856) (L' := [(3, vi (x3 + (6))), (0, vr (some b)), (1, vr (some ax)), (2, vr (some am))]) (v := (x3 + (6))) hc dL_law_856 3 rfl rfl hnL (by decide) rfl ?_
                                                      refine j_goto (pc := 859) hc dL_law_859 (tgt := 18) rfl ?_
                                                      refine j_loc (L' := [(0, vr (some b)), (1, vr (some ax)), (2, vr (some am)), (3, vi (x3 + (6)))]) [1, 2, 3, 0] rfl ?_
                                                      exact hk_18 _ _ _ hf239
                                                    · have hf240 := (if_neg hh).symm.trans hf238
                                                      clear hf238
                                                      refine j_iconst (pc := 821) (v := (0)) hc dL_law_821 rfl ?_
                                                      cases hf240
                                                  · have hf241 := (if_neg hh22).symm.trans hf232
                                                    clear hf232
                                                    by_cases hh23 : (v2 &&& (31)) = (23)
                                                    · have hf242 := (if_pos hh23).symm.trans hf241
                                                      clear hf241
                                                      refine j_tsw (pc := 33) (k := (23)) (tgt := 823) hc dL_law_33 hh23 (by decide) (by decide) rfl rfl ?_
                                                      refine j_aload_n (pc := 823) hc dL_law_823 1 rfl rfl ?_
                                                      refine j_aload_n (pc := 824) hc dL_law_824 0 rfl rfl ?_
                                                      refine j_iload_n (pc := 825) hc dL_law_825 3 rfl rfl ?_
                                                      refine j_iconst (pc := 826) (v := (1)) hc dL_law_826 rfl ?_
                                                      refine j_iadd (pc := 827) hc dL_law_827 ?_
                                                      obtain ⟨v194, ev194, hf243⟩ := ob_i hf242
                                                      clear hf242
                                                      refine j_iald (pc := 828) hc dL_law_828 ev194 ?_
                                                      refine j_aload_n (pc := 829) hc dL_law_829 0 rfl rfl ?_
                                                      refine j_iload_n (pc := 830) hc dL_law_830 3 rfl rfl ?_
                                                      refine j_iconst (pc := 831) (v := (2)) hc dL_law_831 rfl ?_
                                                      refine j_iadd (pc := 832) hc dL_law_832 ?_
                                                      obtain ⟨v195, ev195, hf244⟩ := ob_i hf243
                                                      clear hf243
                                                      refine j_iald (pc := 833) hc dL_law_833 ev195 ?_
                                                      obtain ⟨u196, eu196, hf245⟩ := ob_i hf244
                                                      clear hf244
                                                      obtain ⟨v198, T197, ev198, hf246⟩ := ob_c hf245
                                                      clear hf245
                                                      refine j_callV (pc := 834) (As := [vi v194, vi v195]) (rest := []) (st2 := [vi v198]) hc ho cw_L_113 (c_X0_alike ev198) (Rc.of (g_cls_ok eu196) (by decide) (by decide) ci_X0) hrm ⟨by decide, by decide⟩ rfl (Nat.le_of_ble_eq_true rfl) dL_law_834 rfl rfl ?_
                                                      refine j_aload_n (pc := 837) hc dL_law_837 2 rfl rfl ?_
                                                      refine j_aload_n (pc := 838) hc dL_law_838 0 rfl rfl ?_
                                                      refine j_iload_n (pc := 839) hc dL_law_839 3 rfl rfl ?_
                                                      refine j_iconst (pc := 840) (v := (1)) hc dL_law_840 rfl ?_
                                                      refine j_iadd (pc := 841) hc dL_law_841 ?_
                                                      obtain ⟨v199, ev199, hf247⟩ := ob_i hf246
                                                      clear hf246
                                                      refine j_iald (pc := 842) hc dL_law_842 ev199 ?_
                                                      refine j_aload_n (pc := 843) hc dL_law_843 0 rfl rfl ?_
                                                      refine j_iload_n (pc := 844) hc dL_law_844 3 rfl rfl ?_
                                                      refine j_iconst (pc := 845) (v := (2)) hc dL_law_845 rfl ?_
                                                      refine j_iadd (pc := 846) hc dL_law_846 ?_
                                                      obtain ⟨v200, ev200, hf248⟩ := ob_i hf247
                                                      clear hf247
                                                      refine j_iald (pc := 847) hc dL_law_847 ev200 ?_
                                                      obtain ⟨v201, N202, ev201, hf249⟩ := ob_c hf248
                                                      clear hf248
                                                      refine j_callV (pc := 848) (As := [vi v199, vi v200]) (rest := [vi v198]) (st2 := [vi v201, vi v198]) hc ho cw_L_116 (c_X3_alike ev201) (Or.inr ⟨rfl, _, rfl⟩) hrm ⟨by decide, by decide⟩ rfl (Nat.le_of_ble_eq_true rfl) dL_law_848 rfl rfl ?_
                                                      refine j_icmp_eq (pc := 851) hc dL_law_851 (tgt := 856) rfl (fun hh => ?_) (fun hh => ?_)
                                                      · have hf250 := (if_pos hh).symm.trans hf249
                                                        clear hf249
                                                        refine j_iinc (pc := 856) (L' := [(3, vi (x3 + (6))), (0, vr (some b)), (1, vr (some ax)), (2, vr (some am))]) (v := (x3 + (6))) hc dL_law_856 3 rfl rfl hnL (by decide) rfl ?_
                                                        refine j_goto (pc := 859) hc dL_law_859 (tgt := 18) rfl ?_
                                                        refine j_loc (L' := [(0, vr (some b)), (1, vr (some ax)), (2, vr (some am)), (3, vi (x3 + (6)))]) [1, 2, 3, 0] rfl ?_
                                                        exact hk_18 _ _ _ hf250
                                                      · have hf251 := (if_neg hh).symm.trans hf249
                                                        clear hf249
                                                        refine j_iconst (pc := 854) (v := (0)) hc dL_law_854 rfl ?_
                                                        cases hf251
                                                    · have hf252 := (if_neg hh23).symm.trans hf241
                                                      clear hf241
                                                      refine j_tswD (pc := 33) (tgt := 856) hc dL_law_33 (by have h0 : ¬ (v2 &&& (31)).toInt = 0 := lv_neT hh0 rfl; have h1 : ¬ (v2 &&& (31)).toInt = 1 := lv_neT hh1 rfl; have h2 : ¬ (v2 &&& (31)).toInt = 2 := lv_neT hh2 rfl; have h3 : ¬ (v2 &&& (31)).toInt = 3 := lv_neT hh3 rfl; have h4 : ¬ (v2 &&& (31)).toInt = 4 := lv_neT hh4 rfl; have h5 : ¬ (v2 &&& (31)).toInt = 5 := lv_neT hh5 rfl; have h6 : ¬ (v2 &&& (31)).toInt = 6 := lv_neT hh6 rfl; have h7 : ¬ (v2 &&& (31)).toInt = 7 := lv_neT hh7 rfl; have h8 : ¬ (v2 &&& (31)).toInt = 8 := lv_neT hh8 rfl; have h9 : ¬ (v2 &&& (31)).toInt = 9 := lv_neT hh9 rfl; have h10 : ¬ (v2 &&& (31)).toInt = 10 := lv_neT hh10 rfl; have h11 : ¬ (v2 &&& (31)).toInt = 11 := lv_neT hh11 rfl; have h12 : ¬ (v2 &&& (31)).toInt = 12 := lv_neT hh12 rfl; have h13 : ¬ (v2 &&& (31)).toInt = 13 := lv_neT hh13 rfl; have h14 : ¬ (v2 &&& (31)).toInt = 14 := lv_neT hh14 rfl; have h15 : ¬ (v2 &&& (31)).toInt = 15 := lv_neT hh15 rfl; have h16 : ¬ (v2 &&& (31)).toInt = 16 := lv_neT hh16 rfl; have h17 : ¬ (v2 &&& (31)).toInt = 17 := lv_neT hh17 rfl; have h18 : ¬ (v2 &&& (31)).toInt = 18 := lv_neT hh18 rfl; have h19 : ¬ (v2 &&& (31)).toInt = 19 := lv_neT hh19 rfl; have h20 : ¬ (v2 &&& (31)).toInt = 20 := lv_neT hh20 rfl; have h21 : ¬ (v2 &&& (31)).toInt = 21 := lv_neT hh21 rfl; have h22 : ¬ (v2 &&& (31)).toInt = 22 := lv_neT hh22 rfl; have h23 : ¬ (v2 &&& (31)).toInt = 23 := lv_neT hh23 rfl; omega) rfl ?_
                                                      refine j_iinc (pc := 856) (L' := [(3, vi (x3 + (6))), (0, vr (some b)), (1, vr (some ax)), (2, vr (some am))]) (v := (x3 + (6))) hc dL_law_856 3 rfl rfl hnL (by decide) rfl ?_
                                                      refine j_goto (pc := 859) hc dL_law_859 (tgt := 18) rfl ?_
                                                      refine j_loc (L' := [(0, vr (some b)), (1, vr (some ax)), (2, vr (some am)), (3, vi (x3 + (6)))]) [1, 2, 3, 0] rfl ?_
                                                      exact hk_18 _ _ _ hf252
set_option maxRecDepth 100000 in
set_option maxHeartbeats 4000000 in
theorem w_L_law {f : CfT} {S1 : HS} (hc : cf_cc f = cL_law) (ho : cf_ow f = "TableCatalogLaw") (hnL : cf_nL f = 4) (hrm : cf_rm f = (8192, 100000)) (hre : cf_re f = ret) (hct : cf_ct f = false) (hq : LQ f) (hbd : h_nx S1 ≤ (cf_fi f).1 ∧ h_sl S1 ≤ (cf_fi f).2) {b : Nat} {S : HS} (hf : f_L_law b S = some S1) : JJ f S none 0 [(0, vr (some b))] [] := by
  unfold f_L_law at hf
  obtain ⟨T1, eT1, hf1⟩ := ob_i hf
  clear hf
  refine j_new (pc := 0) hc ho fn_L_7 dL_law_0 eT1 ?_
  refine j_dup (pc := 3) hc dL_law_3 rfl ?_
  obtain ⟨T2, eT2, hf2⟩ := ob_i hf1
  clear hf1
  refine j_callI (pc := 4) (As := []) (rest := [vr (some (h_nx S))]) (st2 := [vr (some (h_nx S))]) hc ho cw_L_9 (c_X0_init eT2) hrm ⟨by decide, by decide⟩ rfl (Nat.le_of_ble_eq_true rfl) dL_law_4 rfl rfl ?_
  refine j_astore_n (pc := 7) (L' := [(1, vr (some (h_nx S))), (0, vr (some b))]) hc dL_law_7 rfl hnL (by decide) rfl ?_
  obtain ⟨T3, eT3, hf3⟩ := ob_i hf2
  clear hf2
  refine j_new (pc := 8) hc ho fn_L_10 dL_law_8 eT3 ?_
  refine j_dup (pc := 11) hc dL_law_11 rfl ?_
  obtain ⟨T4, eT4, hf4⟩ := ob_i hf3
  clear hf3
  refine j_callI (pc := 12) (As := []) (rest := [vr (some (h_nx T2))]) (st2 := [vr (some (h_nx T2))]) hc ho cw_L_12 (c_X3_init eT4) hrm ⟨by decide, by decide⟩ rfl (Nat.le_of_ble_eq_true rfl) dL_law_12 rfl rfl ?_
  obtain ⟨u5, eu5, hf5⟩ := ob_i hf4
  clear hf4
  refine j_conv (g_conv_ok eu5) ?_
  refine j_astore_n (pc := 15) (L' := [(2, vr (some (h_nx T2))), (1, vr (some (h_nx S))), (0, vr (some b))]) hc dL_law_15 rfl hnL (by decide) rfl ?_
  refine j_iconst (pc := 16) (v := (0)) hc dL_law_16 rfl ?_
  refine j_istore_n (pc := 17) (L' := [(3, vi (0)), (2, vr (some (h_nx T2))), (1, vr (some (h_nx S))), (0, vr (some b))]) hc dL_law_17 rfl hnL (by decide) rfl ?_
  refine j_loc (L' := [(0, vr (some b)), (1, vr (some (h_nx S))), (2, vr (some (h_nx T2))), (3, vi (0))]) [3, 2, 1, 0] rfl ?_
  exact w_L_law_n18 hc ho hnL hrm hre hct hq hbd fu_ _ _ _ hf5
