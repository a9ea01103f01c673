set_option linter.unusedVariables false
theorem fa_X0_218_11 : FA "TableCatalog" 218 11 0 136 (.int) 1 := ⟨RX2, TX2, 8, tyX2, 6, "TableCatalog$Fault", CI_X2, by decide, rfl, rfl, by decide +kernel, Or.inr ⟨by decide, "TableCatalog", q179⟩, fun _ => rfl, Or.inl rfl⟩
theorem fa_X0_219_11 : FA "TableCatalog" 219 11 0 137 (.int) 1 := ⟨RX2, TX2, 8, tyX2, 7, "TableCatalog$Fault", CI_X2, by decide, rfl, rfl, by decide +kernel, Or.inr ⟨by decide, "TableCatalog", q181⟩, fun _ => rfl, Or.inl rfl⟩
theorem fa_X0_208_9 : FA "TableCatalog" 208 9 0 125 (.int) 1 := ⟨RX10, TX10, 3, tyX10, 0, "TableCatalog$Wrongs", CI_X10, by decide, rfl, rfl, by decide +kernel, Or.inr ⟨by decide, "TableCatalog", q865⟩, fun _ => rfl, Or.inl rfl⟩
theorem fa_X0_211_9 : FA "TableCatalog" 211 9 0 126 (.int) 1 := ⟨RX10, TX10, 3, tyX10, 1, "TableCatalog$Wrongs", CI_X10, by decide, rfl, rfl, by decide +kernel, Or.inr ⟨by decide, "TableCatalog", q867⟩, fun _ => rfl, Or.inl rfl⟩
theorem cn_X0_212 : CN "TableCatalog" 212 yX1_wrong cX1_wrong 3 (some (.object "TableCatalog$Fault")) 2 := ⟨⟨"TableCatalog", q1001, q82, q468⟩, by decide, by decide, by decide +kernel⟩
theorem fh_X0_act_92 {f : CfT} (hex : cf_ex f = tableOf [(20, 119, 120, 216)]) : FH "TableCatalog" f 92 120 := ⟨[], ⟨20, 119, 120, 216⟩, [], hex, by decide, by decide, by decide, q346, rfl⟩
theorem cw_X0_200 : CV "TableCatalog" 200 RX1 yX1_all cX1_all 5 (some (.object "TableCatalog$Table")) 2 := ⟨⟨q347, q348, q349, q82, q350⟩, rfl, by decide, by decide, by decide +kernel⟩
theorem fn_X0_98 : FN "TableCatalog" 98 9 3 := ⟨RX10, TX10, tyX10, CI_X10, q857, q858, q105, by decide +kernel⟩
theorem cn_X0_204 : CN "TableCatalog" 204 yX10_init cX10_init 2 none 1 := ⟨⟨"TableCatalog", q859, q105, q861⟩, by decide, by decide, by decide +kernel⟩
theorem cw_X0_205 : CV "TableCatalog" 205 RX0 yX0_finds cX0_finds 5 none 2 := ⟨⟨q876, q878, qs22, q81, q879⟩, rfl, by decide, by decide, by decide +kernel⟩
theorem fh_X0_act_29 {f : CfT} (hex : cf_ex f = tableOf [(20, 119, 120, 216)]) : FH "TableCatalog" f 29 120 := ⟨[], ⟨20, 119, 120, 216⟩, [], hex, by decide, by decide, by decide, q346, rfl⟩
def f_X0_act_n120 (a0 : Nat) (sr0 : Option Nat) (S : HS) : Option (Int32 × HS) :=
  (sr0).bind fun a1 =>
  (g_fI S 11 136 a1).bind fun v2 =>
  (p_fI S 1 6 a0 v2).bind fun T3 =>
  (g_fI T3 11 137 a1).bind fun v4 =>
  (p_fI T3 1 7 a0 v4).bind fun T5 =>
  some ((-1), T5)
def f_X0_act_n70 (a0 : Nat) (r2 : Option Nat) (r3 : Option Nat) (S : HS) : Option (Int32 × HS) :=
  (r3).bind fun a1 =>
  (g_fI S 9 125 a1).bind fun v2 =>
  if v2 = 0 then
    (g_fR S 1 1 a0).bind fun q3 =>
    (g_fI S 1 2 a0).bind fun v4 =>
    (q3).bind fun a5 =>
    (p_aS S 36 a5 v4 r2).bind fun T6 =>
    (g_fI T6 1 2 a0).bind fun v7 =>
    (p_fI T6 1 2 a0 (v7 + (1))).bind fun T8 =>
    (g_fI T8 1 2 a0).bind fun v9 =>
    some ((v9 - (1)), T8)
  else
    (g_fR S 1 12 a0).bind fun q10 =>
    (g_fI S 9 125 a1).bind fun v11 =>
    (g_fI S 9 126 a1).bind fun v12 =>
    (q10).bind fun a13 =>
    (g_cls S 2 a13).bind fun u14 =>
    o_bd (f_X1_wrong a13 v11 v12 S) fun q16 T15 =>
    (q16).bind fun a17 =>
    (g_thr T15 a17).bind fun u18 =>
    f_X0_act_n120 a0 (some a17) T15
def f_X0_act (a0 : Nat) (S : HS) : Option (Int32 × HS) :=
  (g_fI S 1 8 a0).bind fun v1 =>
  (p_fI S 1 8 a0 (0)).bind fun T2 =>
  (p_fI T2 1 6 a0 (0)).bind fun T3 =>
  (p_fI T3 1 7 a0 (-1)).bind fun T4 =>
  (g_fR T4 1 12 a0).bind fun q5 =>
  (g_fR T4 1 9 a0).bind fun q6 =>
  (q5).bind fun a7 =>
  (g_cls T4 2 a7).bind fun u8 =>
  o_tr (f_X1_all a7 q6 v1 T4) (fun q12 T10 =>
    (n_obj T10 9 3).bind fun T13 =>
    (f_X10_init (h_nx T10) (some a0) T13).bind fun T14 =>
    (g_cls T14 1 a0).bind fun u15 =>
    (f_X0_finds a0 q12 (some (h_nx T10)) T14).bind fun T16 =>
    (g_fI T16 9 125 (h_nx T10)).bind fun v17 =>
    if v17 = 0 then
      (g_fI T16 1 2 a0).bind fun v18 =>
      if v18 = (16) then
        (g_cls T16 9 (h_nx T10)).bind fun u19 =>
        (f_X10_is (h_nx T10) (5) (0) T16).bind fun T20 =>
        f_X0_act_n70 a0 q12 (some (h_nx T10)) T20
      else
        f_X0_act_n70 a0 q12 (some (h_nx T10)) T16
    else
      f_X0_act_n70 a0 q12 (some (h_nx T10)) T16
  ) (fun q11 T10 =>
    f_X0_act_n120 a0 (some q11) T10
  )
set_option maxRecDepth 100000 in
set_option maxHeartbeats 2000000 in
theorem w_X0_act_n120 {f : CfT} {mo : MO} {a0 : Nat} {r : Int32} {S1 : HS} (hc : cf_cc f = cX0_act) (ho : cf_ow f = "TableCatalog") (hnL : cf_nL f = 4) (hrm : cf_rm f = (363, 9988)) (hre : cf_re f = (some (.int))) (hct : cf_ct f = false) (hex : cf_ex f = tableOf [(20, 119, 120, 216)]) (hq : Qok f (some (vi r)) S1 mo) {sr0 : Option Nat} {S : HS} (hf : f_X0_act_n120 a0 sr0 S = some (r, S1)) : JJ f S mo 120 [(0, vr (some a0))] [vr sr0] := by
  unfold f_X0_act_n120 at hf
  refine j_astore_n (pc := 120) (L' := [(2, vr sr0), (0, vr (some a0))]) hc dX0_act_120 rfl hnL (by decide) rfl ?_
  refine j_aload_n (pc := 121) hc dX0_act_121 1 rfl rfl ?_
  refine j_aload_n (pc := 122) hc dX0_act_122 0 rfl rfl ?_
  obtain ⟨a1, ea1, hf1⟩ := ob_i hf
  clear hf
  subst ea1
  obtain ⟨v2, ev2, hf2⟩ := ob_i hf1
  clear hf1
  refine j_getI (pc := 123) hc ho fa_X0_218_11 dX0_act_123 ev2 ?_
  obtain ⟨T3, eT3, hf3⟩ := ob_i hf2
  clear hf2
  refine j_putI (pc := 126) hc ho fa_X0_197_1 (Or.inl rfl) dX0_act_126 eT3 ?_
  refine j_aload_n (pc := 129) hc dX0_act_129 1 rfl rfl ?_
  refine j_aload_n (pc := 130) hc dX0_act_130 0 rfl rfl ?_
  obtain ⟨v4, ev4, hf4⟩ := ob_i hf3
  clear hf3
  refine j_getI (pc := 131) hc ho fa_X0_219_11 dX0_act_131 ev4 ?_
  obtain ⟨T5, eT5, hf5⟩ := ob_i hf4
  clear hf4
  refine j_putI (pc := 134) hc ho fa_X0_39_1 (Or.inl rfl) dX0_act_134 eT5 ?_
  refine j_iconst (pc := 137) (v := (-1)) hc dX0_act_137 rfl ?_
  cases hf5
  exact j_iret (pc := 138) hc hq hre rfl dX0_act_138
set_option maxRecDepth 100000 in
set_option maxHeartbeats 2000000 in
theorem w_X0_act_n70 {f : CfT} {mo : MO} {a0 : Nat} {r : Int32} {S1 : HS} (hc : cf_cc f = cX0_act) (ho : cf_ow f = "TableCatalog") (hnL : cf_nL f = 4) (hrm : cf_rm f = (363, 9988)) (hre : cf_re f = (some (.int))) (hct : cf_ct f = false) (hex : cf_ex f = tableOf [(20, 119, 120, 216)]) (hq : Qok f (some (vi r)) S1 mo) {r2 : Option Nat} {r3 : Option Nat} {S : HS} (hf : f_X0_act_n70 a0 r2 r3 S = some (r, S1)) : JJ f S mo 70 [(0, vr (some a0)), (2, vr r2), (3, vr r3)] [] := by
  unfold f_X0_act_n70 at hf
  refine j_aload_n (pc := 70) hc dX0_act_70 2 rfl rfl ?_
  obtain ⟨a1, ea1, hf1⟩ := ob_i hf
  clear hf
  subst ea1
  obtain ⟨v2, ev2, hf2⟩ := ob_i hf1
  clear hf1
  refine j_getI (pc := 71) hc ho fa_X0_208_9 dX0_act_71 ev2 ?_
  refine j_if_eq (pc := 74) hc dX0_act_74 (tgt := 93) rfl (fun hh => ?_) (fun hh => ?_)
  · have hf3 := (if_pos hh).symm.trans hf2
    clear hf2
    refine j_aload_n (pc := 93) hc dX0_act_93 0 rfl rfl ?_
    obtain ⟨q3, eq3, hf4⟩ := ob_i hf3
    clear hf3
    refine j_getR (pc := 94) hc ho fa_X0_35_1 dX0_act_94 eq3 ?_
    refine j_aload_n (pc := 97) hc dX0_act_97 0 rfl rfl ?_
    obtain ⟨v4, ev4, hf5⟩ := ob_i hf4
    clear hf4
    refine j_getI (pc := 98) hc ho fa_X0_83_1 dX0_act_98 ev4 ?_
    refine j_aload_n (pc := 101) hc dX0_act_101 1 rfl rfl ?_
    obtain ⟨a5, ea5, hf6⟩ := ob_i hf5
    clear hf5
    subst ea5
    obtain ⟨T6, eT6, hf7⟩ := ob_i hf6
    clear hf6
    refine j_aast (pc := 102) hc dX0_act_102 (by decide) cast_36 eT6 ?_
    refine j_aload_n (pc := 103) hc dX0_act_103 0 rfl rfl ?_
    refine j_dup (pc := 104) hc dX0_act_104 rfl ?_
    obtain ⟨v7, ev7, hf8⟩ := ob_i hf7
    clear hf7
    refine j_getI (pc := 105) hc ho fa_X0_83_1 dX0_act_105 ev7 ?_
    refine j_iconst (pc := 108) (v := (1)) hc dX0_act_108 rfl ?_
    refine j_iadd (pc := 109) hc dX0_act_109 ?_
    obtain ⟨T8, eT8, hf9⟩ := ob_i hf8
    clear hf8
    refine j_putI (pc := 110) hc ho fa_X0_83_1 (Or.inl rfl) dX0_act_110 eT8 ?_
    refine j_aload_n (pc := 113) hc dX0_act_113 0 rfl rfl ?_
    obtain ⟨v9, ev9, hf10⟩ := ob_i hf9
    clear hf9
    refine j_getI (pc := 114) hc ho fa_X0_83_1 dX0_act_114 ev9 ?_
    refine j_iconst (pc := 117) (v := (1)) hc dX0_act_117 rfl ?_
    refine j_isub (pc := 118) hc dX0_act_118 ?_
    cases hf10
    exact j_iret (pc := 119) hc hq hre rfl dX0_act_119
  · have hf11 := (if_neg hh).symm.trans hf2
    clear hf2
    refine j_aload_n (pc := 77) hc dX0_act_77 0 rfl rfl ?_
    obtain ⟨q10, eq10, hf12⟩ := ob_i hf11
    clear hf11
    refine j_getR (pc := 78) hc ho fa_X0_61_1 dX0_act_78 eq10 ?_
    refine j_aload_n (pc := 81) hc dX0_act_81 2 rfl rfl ?_
    obtain ⟨v11, ev11, hf13⟩ := ob_i hf12
    clear hf12
    refine j_getI (pc := 82) hc ho fa_X0_208_9 dX0_act_82 ev11 ?_
    refine j_aload_n (pc := 85) hc dX0_act_85 2 rfl rfl ?_
    obtain ⟨v12, ev12, hf14⟩ := ob_i hf13
    clear hf13
    refine j_getI (pc := 86) hc ho fa_X0_211_9 dX0_act_86 ev12 ?_
    obtain ⟨a13, ea13, hf15⟩ := ob_i hf14
    clear hf14
    subst ea13
    obtain ⟨u14, eu14, hf16⟩ := ob_i hf15
    clear hf15
    obtain ⟨q16, T15, eq16, hf17⟩ := ob_c hf16
    clear hf16
    refine j_callVN (pc := 89) (As := [vi v11, vi v12]) (rest := []) (st2 := [vr q16]) hc ho cn_X0_212 rfl q466 q467 qs5 (c_X1_wrong eq16) (Rc.of (g_cls_ok eu14) (by decide) (by decide) ci_X1) hrm ⟨by decide, by decide⟩ rfl (Nat.le_of_ble_eq_true rfl) dX0_act_89 rfl rfl ?_
    obtain ⟨a17, ea17, hf18⟩ := ob_i hf17
    clear hf17
    subst ea17
    obtain ⟨u18, eu18, hf19⟩ := ob_i hf18
    clear hf18
    refine j_athrowC (pc := 92) hc ho (fh_X0_act_92 hex) dX0_act_92 (g_thr_ok eu18) ?_
    refine j_loc (L' := [(0, vr (some a0))]) [0] rfl ?_
    exact w_X0_act_n120 hc ho hnL hrm hre hct hex hq hf19
set_option maxRecDepth 100000 in
set_option maxHeartbeats 2000000 in
theorem c_X0_act {l : Launch} {g : PG} {mo : MO} {a0 : Nat} {r : Int32} {S S1 : HS} (hf : f_X0_act a0 S = some (r, S1)) : (h_nx S ≤ h_nx S1 ∧ h_sl S ≤ h_sl S1) ∧ CtW l g yX0_act (wsW_ yX0_act cX0_act 4 (some (.int)) [(20, 119, 120, 216)]) 363 9988 S mo [vr (some a0)] (some (vi r)) S1 mo := by
  refine met_ofWH false (by decide) (fun h => by first | rfl | cases h) rfl (Nat.le_of_ble_eq_true rfl) (fun f hl hg hc ho hnL hrm hre hct hex hq => ?_)
  subst hl
  subst hg
  unfold f_X0_act at hf
  refine j_aload_n (pc := 0) hc dX0_act_0 0 rfl rfl ?_
  obtain ⟨v1, ev1, hf1⟩ := ob_i hf
  clear hf
  refine j_getI (pc := 1) hc ho fa_X0_76_1 dX0_act_1 ev1 ?_
  refine j_istore_n (pc := 4) (L' := [(1, vi v1), (0, vr (some a0))]) hc dX0_act_4 rfl hnL (by decide) rfl ?_
  refine j_aload_n (pc := 5) hc dX0_act_5 1 rfl rfl ?_
  refine j_iconst (pc := 6) (v := (0)) hc dX0_act_6 rfl ?_
  obtain ⟨T2, eT2, hf2⟩ := ob_i hf1
  clear hf1
  refine j_putI (pc := 7) hc ho fa_X0_76_1 (Or.inl rfl) dX0_act_7 eT2 ?_
  refine j_aload_n (pc := 10) hc dX0_act_10 1 rfl rfl ?_
  refine j_iconst (pc := 11) (v := (0)) hc dX0_act_11 rfl ?_
  obtain ⟨T3, eT3, hf3⟩ := ob_i hf2
  clear hf2
  refine j_putI (pc := 12) hc ho fa_X0_197_1 (Or.inl rfl) dX0_act_12 eT3 ?_
  refine j_aload_n (pc := 15) hc dX0_act_15 1 rfl rfl ?_
  refine j_iconst (pc := 16) (v := (-1)) hc dX0_act_16 rfl ?_
  obtain ⟨T4, eT4, hf4⟩ := ob_i hf3
  clear hf3
  refine j_putI (pc := 17) hc ho fa_X0_39_1 (Or.inl rfl) dX0_act_17 eT4 ?_
  refine j_aload_n (pc := 20) hc dX0_act_20 1 rfl rfl ?_
  obtain ⟨q5, eq5, hf5⟩ := ob_i hf4
  clear hf4
  refine j_getR (pc := 21) hc ho fa_X0_61_1 dX0_act_21 eq5 ?_
  refine j_aload_n (pc := 24) hc dX0_act_24 1 rfl rfl ?_
  obtain ⟨q6, eq6, hf6⟩ := ob_i hf5
  clear hf5
  refine j_getR (pc := 25) hc ho fa_X0_43_1 dX0_act_25 eq6 ?_
  refine j_iload_n (pc := 28) hc dX0_act_28 0 rfl rfl ?_
  obtain ⟨a7, ea7, hf7⟩ := ob_i hf6
  clear hf6
  subst ea7
  obtain ⟨u8, eu8, hf8⟩ := ob_i hf7
  clear hf7
  rcases ob_t hf8 with ⟨q12, T10, eq12, hf9⟩ | ⟨q11, T10, eq11, hf9⟩
  · refine j_backI (pc := 29) (st2 := [vr q12]) (c_X1_all (l := cf_l f) (g := cf_g f) (mo := mo) eq12).1 (runX_V (pc := 29) (As := [vr q6, vi v1]) (rest := []) hc ho cw_X0_200 (c_X1_all eq12).2 (Rc.of (g_cls_ok eu8) (by decide) (by decide) ci_X1) hrm ⟨by decide, by decide⟩ rfl (Nat.le_of_ble_eq_true rfl) dX0_act_29 rfl) rfl ?_
    refine j_astore_n (pc := 32) (L' := [(2, vr q12), (1, vi v1), (0, vr (some a0))]) hc dX0_act_32 rfl hnL (by decide) rfl ?_
    obtain ⟨T13, eT13, hf10⟩ := ob_i hf9
    clear hf9
    refine j_new (pc := 33) hc ho fn_X0_98 dX0_act_33 eT13 ?_
    refine j_dup (pc := 36) hc dX0_act_36 rfl ?_
    refine j_aload_n (pc := 37) hc dX0_act_37 2 rfl rfl ?_
    obtain ⟨T14, eT14, hf11⟩ := ob_i hf10
    clear hf10
    refine j_callIN (pc := 38) (As := [vr (some a0)]) (rest := [vr (some (h_nx T10))]) (st2 := [vr (some (h_nx T10))]) hc ho cn_X0_204 rfl q860 (c_X10_init eT14) hrm ⟨by decide, by decide⟩ rfl (Nat.le_of_ble_eq_true rfl) dX0_act_38 rfl rfl ?_
    refine j_astore_n (pc := 41) (L' := [(3, vr (some (h_nx T10))), (2, vr q12), (1, vi v1), (0, vr (some a0))]) hc dX0_act_41 rfl hnL (by decide) rfl ?_
    refine j_aload_n (pc := 42) hc dX0_act_42 3 rfl rfl ?_
    refine j_aload_n (pc := 43) hc dX0_act_43 1 rfl rfl ?_
    refine j_aload_n (pc := 44) hc dX0_act_44 0 rfl rfl ?_
    obtain ⟨u15, eu15, hf12⟩ := ob_i hf11
    clear hf11
    obtain ⟨T16, eT16, hf13⟩ := ob_i hf12
    clear hf12
    refine j_callV (pc := 45) (As := [vr q12, vr (some (h_nx T10))]) (rest := []) (st2 := []) hc ho cw_X0_205 (c_X0_finds eT16) (Rc.of (g_cls_ok eu15) (by decide) (by decide) ci_X0) hrm ⟨by decide, by decide⟩ rfl (Nat.le_of_ble_eq_true rfl) dX0_act_45 rfl rfl ?_
    refine j_aload_n (pc := 48) hc dX0_act_48 0 rfl rfl ?_
    obtain ⟨v17, ev17, hf14⟩ := ob_i hf13
    clear hf13
    refine j_getI (pc := 49) hc ho fa_X0_208_9 dX0_act_49 ev17 ?_
    refine j_if_ne (pc := 52) hc dX0_act_52 (tgt := 70) rfl (fun hh => ?_) (fun hh => ?_)
    · have hf15 := (if_neg hh).symm.trans hf14
      clear hf14
      refine j_loc (L' := [(0, vr (some a0)), (2, vr q12), (3, vr (some (h_nx T10)))]) [3, 1, 0] rfl ?_
      exact w_X0_act_n70 hc ho hnL hrm hre hct hex hq hf15
    · have hf16 := (if_pos hh).symm.trans hf14
      clear hf14
      refine j_aload_n (pc := 55) hc dX0_act_55 3 rfl rfl ?_
      obtain ⟨v18, ev18, hf17⟩ := ob_i hf16
      clear hf16
      refine j_getI (pc := 56) hc ho fa_X0_83_1 dX0_act_56 ev18 ?_
      refine j_bipush (pc := 59) (v := (16)) hc dX0_act_59 rfl ?_
      refine j_icmp_ne (pc := 61) hc dX0_act_61 (tgt := 70) rfl (fun hh => ?_) (fun hh => ?_)
      · have hf18 := (if_neg hh).symm.trans hf17
        clear hf17
        refine j_loc (L' := [(0, vr (some a0)), (2, vr q12), (3, vr (some (h_nx T10)))]) [3, 1, 0] rfl ?_
        exact w_X0_act_n70 hc ho hnL hrm hre hct hex hq hf18
      · have hf19 := (if_pos hh).symm.trans hf17
        clear hf17
        refine j_aload_n (pc := 64) hc dX0_act_64 0 rfl rfl ?_
        refine j_iconst (pc := 65) (v := (5)) hc dX0_act_65 rfl ?_
        refine j_iconst (pc := 66) (v := (0)) hc dX0_act_66 rfl ?_
        obtain ⟨u19, eu19, hf20⟩ := ob_i hf19
        clear hf19
        obtain ⟨T20, eT20, hf21⟩ := ob_i hf20
        clear hf20
        refine j_callV (pc := 67) (As := [vi (5), vi (0)]) (rest := []) (st2 := []) hc ho cw_X0_97 (c_X10_is eT20) (Rc.of (g_cls_ok eu19) (by decide) (by decide) ci_X10) hrm ⟨by decide, by decide⟩ rfl (Nat.le_of_ble_eq_true rfl) dX0_act_67 rfl rfl ?_
        refine j_loc (L' := [(0, vr (some a0)), (2, vr q12), (3, vr (some (h_nx T10)))]) [3, 1, 0] rfl ?_
        exact w_X0_act_n70 hc ho hnL hrm hre hct hex hq hf21
  · refine j_backC (pc := 29) ho (c_X1_all (l := cf_l f) (g := cf_g f) (mo := mo) eq11).1 (runX_V (pc := 29) (As := [vr q6, vi v1]) (rest := []) hc ho cw_X0_200 (c_X1_all eq11).2 (Rc.of (g_cls_ok eu8) (by decide) (by decide) ci_X1) hrm ⟨by decide, by decide⟩ rfl (Nat.le_of_ble_eq_true rfl) dX0_act_29 rfl) (fh_X0_act_29 hex) ?_
    refine j_loc (L' := [(0, vr (some a0))]) [1] rfl ?_
    exact w_X0_act_n120 hc ho hnL hrm hre hct hex hq hf9
theorem fa_X0_220_2 : FA "TableCatalog" 220 2 2 17 (.array .byte) 1 := ⟨RX1, TX1, 15, tyX1, 1, "TableCatalog$Reader", CI_X1, by decide, rfl, rfl, by decide +kernel, Or.inr ⟨by decide, "TableCatalog", q229⟩, fun _ => rfl, Or.inl rfl⟩
theorem fa_X0_223_2 : FA "TableCatalog" 223 2 0 18 (.int) 1 := ⟨RX1, TX1, 15, tyX1, 2, "TableCatalog$Reader", CI_X1, by decide, rfl, rfl, by decide +kernel, Or.inr ⟨by decide, "TableCatalog", q231⟩, fun _ => rfl, Or.inl rfl⟩
theorem fa_X0_225_2 : FA "TableCatalog" 225 2 0 19 (.int) 1 := ⟨RX1, TX1, 15, tyX1, 3, "TableCatalog$Reader", CI_X1, by decide, rfl, rfl, by decide +kernel, Or.inr ⟨by decide, "TableCatalog", q233⟩, fun _ => rfl, Or.inl rfl⟩
theorem cn_X0_228 : CN "TableCatalog" 228 yX1_name cX1_name 3 (some (.object "java/lang/String")) 0 := ⟨⟨"TableCatalog", q1010, q82, q472⟩, by decide, by decide, by decide +kernel⟩
theorem cn_X0_231 : CN "TableCatalog" 231 yX1_here cX1_here 1 (some (.int)) 0 := ⟨⟨"TableCatalog", q1011, q82, q363⟩, by decide, by decide, by decide +kernel⟩
theorem fh_X0_named_41 {f : CfT} (hex : cf_ex f = tableOf [(37, 57, 76, 216), (58, 75, 76, 216)]) : FH "TableCatalog" f 41 76 := ⟨[], ⟨37, 57, 76, 216⟩, [⟨58, 75, 76, 216⟩], hex, by decide, by decide, by decide, q346, rfl⟩
def f_X0_named (a0 : Nat) (S : HS) : Option (Int32 × HS) :=
  (g_fI S 1 8 a0).bind fun v1 =>
  (p_fI S 1 8 a0 (0)).bind fun T2 =>
  (g_fR T2 1 12 a0).bind fun q3 =>
  (g_fR T2 1 9 a0).bind fun q4 =>
  (q3).bind fun a5 =>
  (p_fR T2 2 17 a5 q4).bind fun T6 =>
  (g_fR T6 1 12 a0).bind fun q7 =>
  (q7).bind fun a8 =>
  (p_fI T6 2 18 a8 v1).bind fun T9 =>
  (g_fR T9 1 12 a0).bind fun q10 =>
  (q10).bind fun a11 =>
  (p_fI T9 2 19 a11 (0)).bind fun T12 =>
  (g_fR T12 1 12 a0).bind fun q13 =>
  (q13).bind fun a14 =>
  (g_cls T12 2 a14).bind fun u15 =>
  o_tr (f_X1_name a14 T12) (fun q19 T17 =>
    (g_fR T17 1 12 a0).bind fun q20 =>
    (q20).bind fun a21 =>
    (g_cls T17 2 a21).bind fun u22 =>
    o_bd (f_X1_here a21 T17) fun v24 T23 =>
    if v24 = (-1) then
      (g_cls T23 1 a0).bind fun u25 =>
      o_bd (f_X0_numberOf a0 q19 T23) fun v27 T26 =>
      if v27 = (-1) then
        some ((-2), T26)
      else
        some (v27, T26)
    else
      some ((-1), T23)
  ) (fun q18 T17 =>
    some ((-1), T17)
  )
set_option maxRecDepth 100000 in
set_option maxHeartbeats 2000000 in
theorem c_X0_named {l : Launch} {g : PG} {mo : MO} {a0 : Nat} {r : Int32} {S S1 : HS} (hf : f_X0_named a0 S = some (r, S1)) : (h_nx S ≤ h_nx S1 ∧ h_sl S ≤ h_sl S1) ∧ CtW l g yX0_named (wsW_ yX0_named cX0_named 4 (some (.int)) [(37, 57, 76, 216), (58, 75, 76, 216)]) 8 223 S mo [vr (some a0)] (some (vi r)) S1 mo := by
  refine met_ofWH false (by decide) (fun h => by first | rfl | cases h) rfl (Nat.le_of_ble_eq_true rfl) (fun f hl hg hc ho hnL hrm hre hct hex hq => ?_)
  subst hl
  subst hg
  unfold f_X0_named at hf
  refine j_aload_n (pc := 0) hc dX0_named_0 0 rfl rfl ?_
  obtain ⟨v1, ev1, hf1⟩ := ob_i hf
  clear hf
  refine j_getI (pc := 1) hc ho fa_X0_76_1 dX0_named_1 ev1 ?_
  refine j_istore_n (pc := 4) (L' := [(1, vi v1), (0, vr (some a0))]) hc dX0_named_4 rfl hnL (by decide) rfl ?_
  refine j_aload_n (pc := 5) hc dX0_named_5 1 rfl rfl ?_
  refine j_iconst (pc := 6) (v := (0)) hc dX0_named_6 rfl ?_
  obtain ⟨T2, eT2, hf2⟩ := ob_i hf1
  clear hf1
  refine j_putI (pc := 7) hc ho fa_X0_76_1 (Or.inl rfl) dX0_named_7 eT2 ?_
  refine j_aload_n (pc := 10) hc dX0_named_10 1 rfl rfl ?_
  obtain ⟨q3, eq3, hf3⟩ := ob_i hf2
  clear hf2
  refine j_getR (pc := 11) hc ho fa_X0_61_1 dX0_named_11 eq3 ?_
  refine j_aload_n (pc := 14) hc dX0_named_14 1 rfl rfl ?_
  obtain ⟨q4, eq4, hf4⟩ := ob_i hf3
  clear hf3
  refine j_getR (pc := 15) hc ho fa_X0_43_1 dX0_named_15 eq4 ?_
  obtain ⟨a5, ea5, hf5⟩ := ob_i hf4
  clear hf4
  subst ea5
  obtain ⟨T6, eT6, hf6⟩ := ob_i hf5
  clear hf5
  refine j_putR (pc := 18) hc ho fa_X0_220_2 rfl (Or.inl rfl) dX0_named_18 eT6 ?_
  refine j_aload_n (pc := 21) hc dX0_named_21 1 rfl rfl ?_
  obtain ⟨q7, eq7, hf7⟩ := ob_i hf6
  clear hf6
  refine j_getR (pc := 22) hc ho fa_X0_61_1 dX0_named_22 eq7 ?_
  refine j_iload_n (pc := 25) hc dX0_named_25 0 rfl rfl ?_
  obtain ⟨a8, ea8, hf8⟩ := ob_i hf7
  clear hf7
  subst ea8
  obtain ⟨T9, eT9, hf9⟩ := ob_i hf8
  clear hf8
  refine j_putI (pc := 26) hc ho fa_X0_223_2 (Or.inl rfl) dX0_named_26 eT9 ?_
  refine j_aload_n (pc := 29) hc dX0_named_29 1 rfl rfl ?_
  obtain ⟨q10, eq10, hf10⟩ := ob_i hf9
  clear hf9
  refine j_getR (pc := 30) hc ho fa_X0_61_1 dX0_named_30 eq10 ?_
  refine j_iconst (pc := 33) (v := (0)) hc dX0_named_33 rfl ?_
  obtain ⟨a11, ea11, hf11⟩ := ob_i hf10
  clear hf10
  subst ea11
  obtain ⟨T12, eT12, hf12⟩ := ob_i hf11
  clear hf11
  refine j_putI (pc := 34) hc ho fa_X0_225_2 (Or.inl rfl) dX0_named_34 eT12 ?_
  refine j_aload_n (pc := 37) hc dX0_named_37 1 rfl rfl ?_
  obtain ⟨q13, eq13, hf13⟩ := ob_i hf12
  clear hf12
  refine j_getR (pc := 38) hc ho fa_X0_61_1 dX0_named_38 eq13 ?_
  obtain ⟨a14, ea14, hf14⟩ := ob_i hf13
  clear hf13
  subst ea14
  obtain ⟨u15, eu15, hf15⟩ := ob_i hf14
  clear hf14
  rcases ob_t hf15 with ⟨q19, T17, eq19, hf16⟩ | ⟨q18, T17, eq18, hf16⟩
  · refine j_backI (pc := 41) (st2 := [vr q19]) (c_X1_name (l := cf_l f) (g := cf_g f) (mo := mo) eq19).1 (runX_VN (pc := 41) (As := []) (rest := []) hc ho cn_X0_228 q471 qs6 (c_X1_name eq19).2 (Rc.of (g_cls_ok eu15) (by decide) (by decide) ci_X1) hrm ⟨by decide, by decide⟩ rfl (Nat.le_of_ble_eq_true rfl) dX0_named_41 rfl) rfl ?_
    refine j_astore_n (pc := 44) (L' := [(2, vr q19), (1, vi v1), (0, vr (some a0))]) hc dX0_named_44 rfl hnL (by decide) rfl ?_
    refine j_aload_n (pc := 45) hc dX0_named_45 2 rfl rfl ?_
    obtain ⟨q20, eq20, hf17⟩ := ob_i hf16
    clear hf16
    refine j_getR (pc := 46) hc ho fa_X0_61_1 dX0_named_46 eq20 ?_
    obtain ⟨a21, ea21, hf18⟩ := ob_i hf17
    clear hf17
    subst ea21
    obtain ⟨u22, eu22, hf19⟩ := ob_i hf18
    clear hf18
    obtain ⟨v24, T23, ev24, hf20⟩ := ob_c hf19
    clear hf19
    refine j_callVN (pc := 49) (As := []) (rest := []) (st2 := [vi v24]) hc ho cn_X0_231 rfl q361 q362 qs3 (c_X1_here ev24) (Rc.of (g_cls_ok eu22) (by decide) (by decide) ci_X1) hrm ⟨by decide, by decide⟩ rfl (Nat.le_of_ble_eq_true rfl) dX0_named_49 rfl rfl ?_
    refine j_iconst (pc := 52) (v := (-1)) hc dX0_named_52 rfl ?_
    refine j_icmp_eq (pc := 53) hc dX0_named_53 (tgt := 58) rfl (fun hh => ?_) (fun hh => ?_)
    · have hf21 := (if_pos hh).symm.trans hf20
      clear hf20
      refine j_aload_n (pc := 58) hc dX0_named_58 2 rfl rfl ?_
      refine j_aload_n (pc := 59) hc dX0_named_59 0 rfl rfl ?_
      obtain ⟨u25, eu25, hf22⟩ := ob_i hf21
      clear hf21
      obtain ⟨v27, T26, ev27, hf23⟩ := ob_c hf22
      clear hf22
      refine j_callV (pc := 60) (As := [vr q19]) (rest := []) (st2 := [vi v27]) hc ho cw_X0_90 (c_X0_numberOf ev27) (Rc.of (g_cls_ok eu25) (by decide) (by decide) ci_X0) hrm ⟨by decide, by decide⟩ rfl (Nat.le_of_ble_eq_true rfl) dX0_named_60 rfl rfl ?_
      refine j_istore_n (pc := 63) (L' := [(3, vi v27), (2, vr q19), (1, vi v1), (0, vr (some a0))]) hc dX0_named_63 rfl hnL (by decide) rfl ?_
      refine j_iload_n (pc := 64) hc dX0_named_64 0 rfl rfl ?_
      refine j_iconst (pc := 65) (v := (-1)) hc dX0_named_65 rfl ?_
      refine j_icmp_ne (pc := 66) hc dX0_named_66 (tgt := 74) rfl (fun hh => ?_) (fun hh => ?_)
      · have hf24 := (if_neg hh).symm.trans hf23
        clear hf23
        refine j_iload_n (pc := 74) hc dX0_named_74 0 rfl rfl ?_
        cases hf24
        exact j_iret (pc := 75) hc hq hre rfl dX0_named_75
      · have hf25 := (if_pos hh).symm.trans hf23
        clear hf23
        refine j_bipush (pc := 69) (v := (-2)) hc dX0_named_69 rfl ?_
        refine j_goto (pc := 71) hc dX0_named_71 (tgt := 75) rfl ?_
        cases hf25
        exact j_iret (pc := 75) hc hq hre rfl dX0_named_75
    · have hf26 := (if_neg hh).symm.trans hf20
      clear hf20
      refine j_iconst (pc := 56) (v := (-1)) hc dX0_named_56 rfl ?_
      cases hf26
      exact j_iret (pc := 57) hc hq hre rfl dX0_named_57
  · refine j_backC (pc := 41) ho (c_X1_name (l := cf_l f) (g := cf_g f) (mo := mo) eq18).1 (runX_VN (pc := 41) (As := []) (rest := []) hc ho cn_X0_228 q471 qs6 (c_X1_name eq18).2 (Rc.of (g_cls_ok eu15) (by decide) (by decide) ci_X1) hrm ⟨by decide, by decide⟩ rfl (Nat.le_of_ble_eq_true rfl) dX0_named_41 rfl) (fh_X0_named_41 hex) ?_
    refine j_astore_n (pc := 76) (L' := [(2, vr (some q18)), (1, vi v1), (0, vr (some a0))]) hc dX0_named_76 rfl hnL (by decide) rfl ?_
    refine j_iconst (pc := 77) (v := (-1)) hc dX0_named_77 rfl ?_
    cases hf16
    exact j_iret (pc := 78) hc hq hre rfl dX0_named_78
