set_option linter.unusedVariables false
theorem cw_X1_67 : CV "TableCatalog$Reader" 67 RX1 yX1_wrong cX1_wrong 3 (some (.object "TableCatalog$Fault")) 2 := ⟨⟨q465, q467, qs5, q82, q468⟩, rfl, by decide, by decide, by decide +kernel⟩
def f_X1_must (a0 : Nat) (x1 : Int32) (S : HS) : Option ((Unit ⊕ Nat) × HS) :=
  (g_cls S 2 a0).bind fun u1 =>
  o_bd (f_X1_here a0 S) fun v3 T2 =>
  if v3 = x1 then
    (g_fI T2 2 19 a0).bind fun v4 =>
    (p_fI T2 2 19 a0 (v4 + (1))).bind fun T5 =>
    some (Sum.inl (), T5)
  else
    (g_fI T2 2 19 a0).bind fun v6 =>
    (g_cls T2 2 a0).bind fun u7 =>
    o_bd (f_X1_wrong a0 (1) v6 T2) fun q9 T8 =>
    (q9).bind fun a10 =>
    (g_thr T8 a10).bind fun u11 =>
    some (Sum.inr a10, T8)
set_option maxRecDepth 100000 in
set_option maxHeartbeats 2000000 in
theorem c_X1_must {l : Launch} {g : PG} {mo : MO} {a0 : Nat} {x1 : Int32} {r : (Unit ⊕ Nat)} {S S1 : HS} (hf : f_X1_must a0 x1 S = some (r, S1)) : (h_nx S ≤ h_nx S1 ∧ h_sl S ≤ h_sl S1) ∧ Cx l g yX1_must (ws_ yX1_must cX1_must 2 none) 2 82 S mo [vr (some a0), vi x1] (rs_v r) S1 mo := by
  refine met_ofX false (by decide) (fun h => by first | rfl | cases h) rfl (Nat.le_of_ble_eq_true rfl) (fun f hl hg hc ho hnL hrm hre hct hex hq => ?_)
  subst hl
  subst hg
  unfold f_X1_must at hf
  refine j_aload_n (pc := 0) hc dX1_must_0 0 rfl rfl ?_
  obtain ⟨u1, eu1, hf1⟩ := ob_i hf
  clear hf
  obtain ⟨v3, T2, ev3, hf2⟩ := ob_c hf1
  clear hf1
  refine j_callV (pc := 1) (As := []) (rest := []) (st2 := [vi v3]) hc ho cw_X1_63 (c_X1_here ev3) (Rc.of (g_cls_ok eu1) (by decide) (by decide) ci_X1) hrm ⟨by decide, by decide⟩ rfl (Nat.le_of_ble_eq_true rfl) dX1_must_1 rfl rfl ?_
  refine j_iload_n (pc := 4) hc dX1_must_4 1 rfl rfl ?_
  refine j_icmp_eq (pc := 5) hc dX1_must_5 (tgt := 18) rfl (fun hh => ?_) (fun hh => ?_)
  · have hf3 := (if_pos hh).symm.trans hf2
    clear hf2
    refine j_aload_n (pc := 18) hc dX1_must_18 0 rfl rfl ?_
    refine j_dup (pc := 19) hc dX1_must_19 rfl ?_
    obtain ⟨v4, ev4, hf4⟩ := ob_i hf3
    clear hf3
    refine j_getI (pc := 20) hc ho fa_X1_50_2 dX1_must_20 ev4 ?_
    refine j_iconst (pc := 23) (v := (1)) hc dX1_must_23 rfl ?_
    refine j_iadd (pc := 24) hc dX1_must_24 ?_
    obtain ⟨T5, eT5, hf5⟩ := ob_i hf4
    clear hf4
    refine j_putI (pc := 25) hc ho fa_X1_50_2 (Or.inl rfl) dX1_must_25 eT5 ?_
    cases hf5
    exact j_vret (pc := 28) hc (QokX.ret hq) hre dX1_must_28
  · have hf6 := (if_neg hh).symm.trans hf2
    clear hf2
    refine j_aload_n (pc := 8) hc dX1_must_8 0 rfl rfl ?_
    refine j_iconst (pc := 9) (v := (1)) hc dX1_must_9 rfl ?_
    refine j_aload_n (pc := 10) hc dX1_must_10 0 rfl rfl ?_
    obtain ⟨v6, ev6, hf7⟩ := ob_i hf6
    clear hf6
    refine j_getI (pc := 11) hc ho fa_X1_50_2 dX1_must_11 ev6 ?_
    obtain ⟨u7, eu7, hf8⟩ := ob_i hf7
    clear hf7
    obtain ⟨q9, T8, eq9, hf9⟩ := ob_c hf8
    clear hf8
    refine j_callV (pc := 14) (As := [vi (1), vi v6]) (rest := []) (st2 := [vr q9]) hc ho cw_X1_67 (c_X1_wrong eq9) (Rc.of (g_cls_ok eu7) (by decide) (by decide) ci_X1) hrm ⟨by decide, by decide⟩ rfl (Nat.le_of_ble_eq_true rfl) dX1_must_14 rfl rfl ?_
    obtain ⟨a10, ea10, hf10⟩ := ob_i hf9
    clear hf9
    subst ea10
    obtain ⟨u11, eu11, hf11⟩ := ob_i hf10
    clear hf10
    cases hf11
    exact j_athrow (pc := 17) hc hex hq dX1_must_17 (g_thr_ok eu11)
theorem cn_X1_92 : CN "TableCatalog$Reader" 92 yX0_isWord cX0_isWord 3 (some (.boolean)) 1 := ⟨⟨"TableCatalog", q473, q81, q475⟩, by decide, by decide, by decide +kernel⟩
def f_X1_name_n85 (a0 : Nat) (x1 : Int32) (S : HS) : Option (((Option Nat) ⊕ Nat) × HS) :=
  (g_fI S 2 19 a0).bind fun v1 =>
  (g_cls S 2 a0).bind fun u2 =>
  o_bd (f_X1_cut a0 x1 v1 S) fun q4 T3 =>
  o_bd (f_X0_isWord q4 T3) fun v6 T5 =>
  if v6 = 0 then
    (p_fI T5 2 20 a0 x1).bind fun T7 =>
    some (Sum.inl q4, T7)
  else
    (g_cls T5 2 a0).bind fun u8 =>
    o_bd (f_X1_wrong a0 (1) x1 T5) fun q10 T9 =>
    (q10).bind fun a11 =>
    (g_thr T9 a11).bind fun u12 =>
    some (Sum.inr a11, T9)
def f_X1_name_n25 (a0 : Nat) : Nat → Int32 → HS → Option (((Option Nat) ⊕ Nat) × HS)
  | 0, _, _ => none
  | n + 1, x1, S =>
    (g_fI S 2 19 a0).bind fun v1 =>
    (g_fI S 2 18 a0).bind fun v2 =>
    if v2 ≤ v1 then
      f_X1_name_n85 a0 x1 S
    else
      (g_fR S 2 17 a0).bind fun q3 =>
      (g_fI S 2 19 a0).bind fun v4 =>
      (q3).bind fun a5 =>
      (g_aI S 32 a5 v4).bind fun v6 =>
      (f_X0_isLetter v6).bind fun v7 =>
      if v7 = 0 then
        f_X1_name_n85 a0 x1 S
      else
        (g_fI S 2 19 a0).bind fun v8 =>
        if (v8 - x1) = (8) then
          (g_fI S 2 19 a0).bind fun v11 =>
          (g_cls S 2 a0).bind fun u12 =>
          o_bd (f_X1_wrong a0 (1) v11 S) fun q14 T13 =>
          (q14).bind fun a15 =>
          (g_thr T13 a15).bind fun u16 =>
          some (Sum.inr a15, T13)
        else
          (g_fI S 2 19 a0).bind fun v9 =>
          (p_fI S 2 19 a0 (v9 + (1))).bind fun T10 =>
          (fun x1 S => f_X1_name_n25 a0 n x1 S) x1 T10
def f_X1_name (a0 : Nat) (S : HS) : Option (((Option Nat) ⊕ Nat) × HS) :=
  (g_cls S 2 a0).bind fun u1 =>
  o_bd (f_X1_here a0 S) fun v3 T2 =>
  (f_X0_isLetter v3).bind fun v4 =>
  if v4 = 0 then
    (g_fI T2 2 19 a0).bind fun v6 =>
    (g_cls T2 2 a0).bind fun u7 =>
    o_bd (f_X1_wrong a0 (1) v6 T2) fun q9 T8 =>
    (q9).bind fun a10 =>
    (g_thr T8 a10).bind fun u11 =>
    some (Sum.inr a10, T8)
  else
    (g_fI T2 2 19 a0).bind fun v5 =>
    f_X1_name_n25 a0 fu_ v5 T2
set_option maxRecDepth 100000 in
set_option maxHeartbeats 2000000 in
theorem w_X1_name_n85 {f : CfT} {mo : MO} {a0 : Nat} {r : ((Option Nat) ⊕ Nat)} {S1 : HS} (hc : cf_cc f = cX1_name) (ho : cf_ow f = "TableCatalog$Reader") (hnL : cf_nL f = 3) (hrm : cf_rm f = (7, 201)) (hre : cf_re f = (some (.object "java/lang/String"))) (hct : cf_ct f = false) (hex : cf_ex f = []) (hq : QokX f (rs_r r) S1 mo) {x1 : Int32} {S : HS} (hf : f_X1_name_n85 a0 x1 S = some (r, S1)) : JJ f S mo 85 [(0, vr (some a0)), (1, vi x1)] [] := by
  unfold f_X1_name_n85 at hf
  refine j_aload_n (pc := 85) hc dX1_name_85 0 rfl rfl ?_
  refine j_iload_n (pc := 86) hc dX1_name_86 1 rfl rfl ?_
  refine j_aload_n (pc := 87) hc dX1_name_87 0 rfl rfl ?_
  obtain ⟨v1, ev1, hf1⟩ := ob_i hf
  clear hf
  refine j_getI (pc := 88) hc ho fa_X1_50_2 dX1_name_88 ev1 ?_
  obtain ⟨u2, eu2, hf2⟩ := ob_i hf1
  clear hf1
  obtain ⟨q4, T3, eq4, hf3⟩ := ob_c hf2
  clear hf2
  refine j_callV (pc := 91) (As := [vi x1, vi v1]) (rest := []) (st2 := [vr q4]) hc ho cw_X1_84 (c_X1_cut eq4) (Rc.of (g_cls_ok eu2) (by decide) (by decide) ci_X1) hrm ⟨by decide, by decide⟩ rfl (Nat.le_of_ble_eq_true rfl) dX1_name_91 rfl rfl ?_
  refine j_astore_n (pc := 94) (L' := [(2, vr q4), (0, vr (some a0)), (1, vi x1)]) hc dX1_name_94 rfl hnL (by decide) rfl ?_
  refine j_aload_n (pc := 95) hc dX1_name_95 0 rfl rfl ?_
  obtain ⟨v6, T5, ev6, hf4⟩ := ob_c hf3
  clear hf3
  refine j_callSN (pc := 96) (As := [vr q4]) (rest := []) (st2 := [vi v6]) hc ho cn_X1_92 q474 (c_X0_isWord ev6) hrm ⟨by decide, by decide⟩ rfl (Nat.le_of_ble_eq_true rfl) dX1_name_96 rfl rfl ?_
  refine j_if_eq (pc := 99) hc dX1_name_99 (tgt := 109) rfl (fun hh => ?_) (fun hh => ?_)
  · have hf5 := (if_pos hh).symm.trans hf4
    clear hf4
    refine j_aload_n (pc := 109) hc dX1_name_109 1 rfl rfl ?_
    refine j_iload_n (pc := 110) hc dX1_name_110 2 rfl rfl ?_
    obtain ⟨T7, eT7, hf6⟩ := ob_i hf5
    clear hf5
    refine j_putI (pc := 111) hc ho fa_X1_60_2 (Or.inl rfl) dX1_name_111 eT7 ?_
    refine j_aload_n (pc := 114) hc dX1_name_114 0 rfl rfl ?_
    cases hf6
    exact j_aret (pc := 115) hc (QokX.ret hq) hre (Or.inl ⟨_, rfl⟩) dX1_name_115
  · have hf7 := (if_neg hh).symm.trans hf4
    clear hf4
    refine j_aload_n (pc := 102) hc dX1_name_102 1 rfl rfl ?_
    refine j_iconst (pc := 103) (v := (1)) hc dX1_name_103 rfl ?_
    refine j_iload_n (pc := 104) hc dX1_name_104 2 rfl rfl ?_
    obtain ⟨u8, eu8, hf8⟩ := ob_i hf7
    clear hf7
    obtain ⟨q10, T9, eq10, hf9⟩ := ob_c hf8
    clear hf8
    refine j_callV (pc := 105) (As := [vi (1), vi x1]) (rest := []) (st2 := [vr q10]) hc ho cw_X1_67 (c_X1_wrong eq10) (Rc.of (g_cls_ok eu8) (by decide) (by decide) ci_X1) hrm ⟨by decide, by decide⟩ rfl (Nat.le_of_ble_eq_true rfl) dX1_name_105 rfl rfl ?_
    obtain ⟨a11, ea11, hf10⟩ := ob_i hf9
    clear hf9
    subst ea11
    obtain ⟨u12, eu12, hf11⟩ := ob_i hf10
    clear hf10
    cases hf11
    exact j_athrow (pc := 108) hc hex hq dX1_name_108 (g_thr_ok eu12)
set_option maxRecDepth 100000 in
set_option maxHeartbeats 2000000 in
theorem w_X1_name_n25 {f : CfT} {mo : MO} {a0 : Nat} {r : ((Option Nat) ⊕ Nat)} {S1 : HS} (hc : cf_cc f = cX1_name) (ho : cf_ow f = "TableCatalog$Reader") (hnL : cf_nL f = 3) (hrm : cf_rm f = (7, 201)) (hre : cf_re f = (some (.object "java/lang/String"))) (hct : cf_ct f = false) (hex : cf_ex f = []) (hq : QokX f (rs_r r) S1 mo) : ∀ (n : Nat) (x1 : Int32) (S : HS), f_X1_name_n25 a0 n x1 S = some (r, S1) → JJ f S mo 25 [(0, vr (some a0)), (1, vi x1)] [] := by
  intro n
  induction n with
  | zero =>
    intro x1 S hf
    have hf : (none : Option (((Option Nat) ⊕ Nat) × HS)) = some (r, S1) := hf
    cases hf
  | succ n ih =>
    intro x1 S hf
    unfold f_X1_name_n25 at hf
    have hk_25 := ih
    refine j_aload_n (pc := 25) hc dX1_name_25 0 rfl rfl ?_
    obtain ⟨v1, ev1, hf1⟩ := ob_i hf
    clear hf
    refine j_getI (pc := 26) hc ho fa_X1_50_2 dX1_name_26 ev1 ?_
    refine j_aload_n (pc := 29) hc dX1_name_29 0 rfl rfl ?_
    obtain ⟨v2, ev2, hf2⟩ := ob_i hf1
    clear hf1
    refine j_getI (pc := 30) hc ho fa_X1_53_2 dX1_name_30 ev2 ?_
    refine j_icmp_ge (pc := 33) hc dX1_name_33 (tgt := 85) rfl (fun hh => ?_) (fun hh => ?_)
    · have hf3 := (if_pos hh).symm.trans hf2
      clear hf2
      exact w_X1_name_n85 hc ho hnL hrm hre hct hex hq hf3
    · have hf4 := (if_neg hh).symm.trans hf2
      clear hf2
      refine j_aload_n (pc := 36) hc dX1_name_36 0 rfl rfl ?_
      obtain ⟨q3, eq3, hf5⟩ := ob_i hf4
      clear hf4
      refine j_getR (pc := 37) hc ho fa_X1_56_2 dX1_name_37 eq3 ?_
      refine j_aload_n (pc := 40) hc dX1_name_40 0 rfl rfl ?_
      obtain ⟨v4, ev4, hf6⟩ := ob_i hf5
      clear hf5
      refine j_getI (pc := 41) hc ho fa_X1_50_2 dX1_name_41 ev4 ?_
      obtain ⟨a5, ea5, hf7⟩ := ob_i hf6
      clear hf6
      subst ea5
      obtain ⟨v6, ev6, hf8⟩ := ob_i hf7
      clear hf7
      refine j_bald (pc := 44) hc dX1_name_44 ev6 ?_
      obtain ⟨v7, ev7, hf9⟩ := ob_i hf8
      clear hf8
      refine j_callSN (pc := 45) (As := [vi v6]) (rest := []) (st2 := [vi v7]) hc ho cn_X1_77 q365 (c_X0_isLetter ev7) hrm ⟨by decide, by decide⟩ rfl (Nat.le_of_ble_eq_true rfl) dX1_name_45 rfl rfl ?_
      refine j_if_eq (pc := 48) hc dX1_name_48 (tgt := 85) rfl (fun hh => ?_) (fun hh => ?_)
      · have hf10 := (if_pos hh).symm.trans hf9
        clear hf9
        exact w_X1_name_n85 hc ho hnL hrm hre hct hex hq hf10
      · have hf11 := (if_neg hh).symm.trans hf9
        clear hf9
        refine j_aload_n (pc := 51) hc dX1_name_51 0 rfl rfl ?_
        obtain ⟨v8, ev8, hf12⟩ := ob_i hf11
        clear hf11
        refine j_getI (pc := 52) hc ho fa_X1_50_2 dX1_name_52 ev8 ?_
        refine j_iload_n (pc := 55) hc dX1_name_55 1 rfl rfl ?_
        refine j_isub (pc := 56) hc dX1_name_56 ?_
        refine j_bipush (pc := 57) (v := (8)) hc dX1_name_57 rfl ?_
        refine j_icmp_ne (pc := 59) hc dX1_name_59 (tgt := 72) rfl (fun hh => ?_) (fun hh => ?_)
        · have hf13 := (if_neg hh).symm.trans hf12
          clear hf12
          refine j_aload_n (pc := 72) hc dX1_name_72 0 rfl rfl ?_
          refine j_dup (pc := 73) hc dX1_name_73 rfl ?_
          obtain ⟨v9, ev9, hf14⟩ := ob_i hf13
          clear hf13
          refine j_getI (pc := 74) hc ho fa_X1_50_2 dX1_name_74 ev9 ?_
          refine j_iconst (pc := 77) (v := (1)) hc dX1_name_77 rfl ?_
          refine j_iadd (pc := 78) hc dX1_name_78 ?_
          obtain ⟨T10, eT10, hf15⟩ := ob_i hf14
          clear hf14
          refine j_putI (pc := 79) hc ho fa_X1_50_2 (Or.inl rfl) dX1_name_79 eT10 ?_
          refine j_goto (pc := 82) hc dX1_name_82 (tgt := 25) rfl ?_
          exact hk_25 _ _ hf15
        · have hf16 := (if_pos hh).symm.trans hf12
          clear hf12
          refine j_aload_n (pc := 62) hc dX1_name_62 0 rfl rfl ?_
          refine j_iconst (pc := 63) (v := (1)) hc dX1_name_63 rfl ?_
          refine j_aload_n (pc := 64) hc dX1_name_64 0 rfl rfl ?_
          obtain ⟨v11, ev11, hf17⟩ := ob_i hf16
          clear hf16
          refine j_getI (pc := 65) hc ho fa_X1_50_2 dX1_name_65 ev11 ?_
          obtain ⟨u12, eu12, hf18⟩ := ob_i hf17
          clear hf17
          obtain ⟨q14, T13, eq14, hf19⟩ := ob_c hf18
          clear hf18
          refine j_callV (pc := 68) (As := [vi (1), vi v11]) (rest := []) (st2 := [vr q14]) hc ho cw_X1_67 (c_X1_wrong eq14) (Rc.of (g_cls_ok eu12) (by decide) (by decide) ci_X1) hrm ⟨by decide, by decide⟩ rfl (Nat.le_of_ble_eq_true rfl) dX1_name_68 rfl rfl ?_
          obtain ⟨a15, ea15, hf20⟩ := ob_i hf19
          clear hf19
          subst ea15
          obtain ⟨u16, eu16, hf21⟩ := ob_i hf20
          clear hf20
          cases hf21
          exact j_athrow (pc := 71) hc hex hq dX1_name_71 (g_thr_ok eu16)
set_option maxRecDepth 100000 in
set_option maxHeartbeats 2000000 in
theorem c_X1_name {l : Launch} {g : PG} {mo : MO} {a0 : Nat} {r : ((Option Nat) ⊕ Nat)} {S S1 : HS} (hf : f_X1_name a0 S = some (r, S1)) : (h_nx S ≤ h_nx S1 ∧ h_sl S ≤ h_sl S1) ∧ Cx l g yX1_name (ws_ yX1_name cX1_name 3 (some (.object "java/lang/String"))) 7 201 S mo [vr (some a0)] (rs_r r) S1 mo := by
  refine met_ofX false (by decide) (fun h => by first | rfl | cases h) rfl (Nat.le_of_ble_eq_true rfl) (fun f hl hg hc ho hnL hrm hre hct hex hq => ?_)
  subst hl
  subst hg
  unfold f_X1_name at hf
  refine j_aload_n (pc := 0) hc dX1_name_0 0 rfl rfl ?_
  obtain ⟨u1, eu1, hf1⟩ := ob_i hf
  clear hf
  obtain ⟨v3, T2, ev3, hf2⟩ := ob_c hf1
  clear hf1
  refine j_callV (pc := 1) (As := []) (rest := []) (st2 := [vi v3]) hc ho cw_X1_63 (c_X1_here ev3) (Rc.of (g_cls_ok eu1) (by decide) (by decide) ci_X1) hrm ⟨by decide, by decide⟩ rfl (Nat.le_of_ble_eq_true rfl) dX1_name_1 rfl rfl ?_
  obtain ⟨v4, ev4, hf3⟩ := ob_i hf2
  clear hf2
  refine j_callSN (pc := 4) (As := [vi v3]) (rest := []) (st2 := [vi v4]) hc ho cn_X1_77 q365 (c_X0_isLetter ev4) hrm ⟨by decide, by decide⟩ rfl (Nat.le_of_ble_eq_true rfl) dX1_name_4 rfl rfl ?_
  refine j_if_ne (pc := 7) hc dX1_name_7 (tgt := 20) rfl (fun hh => ?_) (fun hh => ?_)
  · have hf4 := (if_neg hh).symm.trans hf3
    clear hf3
    refine j_aload_n (pc := 20) hc dX1_name_20 0 rfl rfl ?_
    obtain ⟨v5, ev5, hf5⟩ := ob_i hf4
    clear hf4
    refine j_getI (pc := 21) hc ho fa_X1_50_2 dX1_name_21 ev5 ?_
    refine j_istore_n (pc := 24) (L' := [(1, vi v5), (0, vr (some a0))]) hc dX1_name_24 rfl hnL (by decide) rfl ?_
    refine j_loc (L' := [(0, vr (some a0)), (1, vi v5)]) [1, 0] rfl ?_
    exact w_X1_name_n25 hc ho hnL hrm hre hct hex hq fu_ _ _ hf5
  · have hf6 := (if_pos hh).symm.trans hf3
    clear hf3
    refine j_aload_n (pc := 10) hc dX1_name_10 0 rfl rfl ?_
    refine j_iconst (pc := 11) (v := (1)) hc dX1_name_11 rfl ?_
    refine j_aload_n (pc := 12) hc dX1_name_12 0 rfl rfl ?_
    obtain ⟨v6, ev6, hf7⟩ := ob_i hf6
    clear hf6
    refine j_getI (pc := 13) hc ho fa_X1_50_2 dX1_name_13 ev6 ?_
    obtain ⟨u7, eu7, hf8⟩ := ob_i hf7
    clear hf7
    obtain ⟨q9, T8, eq9, hf9⟩ := ob_c hf8
    clear hf8
    refine j_callV (pc := 16) (As := [vi (1), vi v6]) (rest := []) (st2 := [vr q9]) hc ho cw_X1_67 (c_X1_wrong eq9) (Rc.of (g_cls_ok eu7) (by decide) (by decide) ci_X1) hrm ⟨by decide, by decide⟩ rfl (Nat.le_of_ble_eq_true rfl) dX1_name_16 rfl rfl ?_
    obtain ⟨a10, ea10, hf10⟩ := ob_i hf9
    clear hf9
    subst ea10
    obtain ⟨u11, eu11, hf11⟩ := ob_i hf10
    clear hf10
    cases hf11
    exact j_athrow (pc := 19) hc hex hq dX1_name_19 (g_thr_ok eu11)
theorem fa_X6_7_8 : FA "TableCatalog$Term" 7 8 0 116 (.int) 2 := ⟨RX9, TX9, 5, tyX9, 0, "TableCatalog$Term", CI_X9, by decide, rfl, rfl, by decide +kernel, Or.inl ⟨q778, fun _ => ⟨rfl, rfl⟩⟩, fun h => (by cases h), Or.inl rfl⟩
def f_X6_init_8 (a0 : Nat) (x1 : Int32) (S : HS) : Option HS :=
  (p_fI S 8 116 a0 x1).bind fun T1 =>
  some T1
set_option maxRecDepth 100000 in
set_option maxHeartbeats 2000000 in
theorem c_X6_init_8 {l : Launch} {g : PG} {mo : MO} {a0 : Nat} {x1 : Int32} {S S1 : HS} (hf : f_X6_init_8 a0 x1 S = some S1) : (h_nx S ≤ h_nx S1 ∧ h_sl S ≤ h_sl S1) ∧ Ct l g yX6_init (ws_ yX6_init cX6_init 2 none) 1 60 S mo [vr (some a0), vi x1] none S1 mo := by
  refine met_of true (by decide) (fun h => by first | rfl | cases h) rfl (Nat.le_of_ble_eq_true rfl) (fun f hl hg hc ho hnL hrm hre hct hex hq => ?_)
  subst hl
  subst hg
  unfold f_X6_init_8 at hf
  refine j_aload_n (pc := 0) hc dX6_init_0 0 rfl rfl ?_
  refine j_oini (pc := 1) hc ho q776 q_oi1 q_oi2 hrm ⟨by decide, Nat.le_of_ble_eq_true rfl⟩ dX6_init_1 ?_
  refine j_aload_n (pc := 4) hc dX6_init_4 0 rfl rfl ?_
  refine j_iload_n (pc := 5) hc dX6_init_5 1 rfl rfl ?_
  obtain ⟨T1, eT1, hf1⟩ := ob_i hf
  clear hf
  refine j_putI (pc := 6) hc ho fa_X6_7_8 (Or.inr ⟨rfl, hct⟩) dX6_init_6 eT1 ?_
  cases hf1
  exact j_vret (pc := 9) hc hq hre dX6_init_9
theorem cw_X9_3 : CT "TableCatalog$Part" 3 yX6_init cX6_init 2 1 := ⟨⟨q821, rfl, q774, q101, q775⟩, by decide, by decide, by decide +kernel⟩
theorem fa_X9_15_8 : FA "TableCatalog$Part" 15 8 2 121 (.object "java/lang/String") 2 := ⟨RX9, TX9, 5, tyX9, 1, "TableCatalog$Part", CI_X9, by decide, rfl, rfl, by decide +kernel, Or.inl ⟨q822, fun _ => ⟨rfl, rfl⟩⟩, fun h => (by cases h), Or.inl rfl⟩
theorem fa_X9_19_8 : FA "TableCatalog$Part" 19 8 2 122 (.object "java/lang/String") 2 := ⟨RX9, TX9, 5, tyX9, 2, "TableCatalog$Part", CI_X9, by decide, rfl, rfl, by decide +kernel, Or.inl ⟨q824, fun _ => ⟨rfl, rfl⟩⟩, fun h => (by cases h), Or.inl rfl⟩
theorem fa_X9_22_8 : FA "TableCatalog$Part" 22 8 0 123 (.int) 2 := ⟨RX9, TX9, 5, tyX9, 3, "TableCatalog$Part", CI_X9, by decide, rfl, rfl, by decide +kernel, Or.inl ⟨q826, fun _ => ⟨rfl, rfl⟩⟩, fun h => (by cases h), Or.inl rfl⟩
def f_X9_init (a0 : Nat) (x1 : Int32) (r2 : Option Nat) (x3 : Int32) (r4 : Option Nat) (S : HS) : Option HS :=
  (f_X6_init_8 a0 x1 S).bind fun T1 =>
  (p_fI T1 8 124 a0 (-1)).bind fun T2 =>
  (p_fR T2 8 121 a0 r2).bind fun T3 =>
  (p_fR T3 8 122 a0 r4).bind fun T4 =>
  (p_fI T4 8 123 a0 x3).bind fun T5 =>
  some T5
set_option maxRecDepth 100000 in
set_option maxHeartbeats 2000000 in
theorem c_X9_init {l : Launch} {g : PG} {mo : MO} {a0 : Nat} {x1 : Int32} {r2 : Option Nat} {x3 : Int32} {r4 : Option Nat} {S S1 : HS} (hf : f_X9_init a0 x1 r2 x3 r4 S = some S1) : (h_nx S ≤ h_nx S1 ∧ h_sl S ≤ h_sl S1) ∧ Ct l g yX9_init (ws_ yX9_init cX9_init 5 none) 2 81 S mo [vr (some a0), vi x1, vr r2, vi x3, vr r4] none S1 mo := by
  refine met_of true (by decide) (fun h => by first | rfl | cases h) rfl (Nat.le_of_ble_eq_true rfl) (fun f hl hg hc ho hnL hrm hre hct hex hq => ?_)
  subst hl
  subst hg
  unfold f_X9_init at hf
  refine j_aload_n (pc := 0) hc dX9_init_0 0 rfl rfl ?_
  refine j_iload_n (pc := 1) hc dX9_init_1 1 rfl rfl ?_
  obtain ⟨T1, eT1, hf1⟩ := ob_i hf
  clear hf
  refine j_callI (pc := 2) (As := [vi x1]) (rest := []) (st2 := []) hc ho cw_X9_3 (c_X6_init_8 eT1) hrm ⟨by decide, by decide⟩ rfl (Nat.le_of_ble_eq_true rfl) dX9_init_2 rfl rfl ?_
  refine j_aload_n (pc := 5) hc dX9_init_5 0 rfl rfl ?_
  refine j_iconst (pc := 6) (v := (-1)) hc dX9_init_6 rfl ?_
  obtain ⟨T2, eT2, hf2⟩ := ob_i hf1
  clear hf1
  refine j_putI (pc := 7) hc ho fa_X9_9_8 (Or.inl rfl) dX9_init_7 eT2 ?_
  refine j_aload_n (pc := 10) hc dX9_init_10 0 rfl rfl ?_
  refine j_aload_n (pc := 11) hc dX9_init_11 2 rfl rfl ?_
  obtain ⟨T3, eT3, hf3⟩ := ob_i hf2
  clear hf2
  refine j_putR (pc := 12) hc ho fa_X9_15_8 rfl (Or.inr ⟨rfl, hct⟩) dX9_init_12 eT3 ?_
  refine j_aload_n (pc := 15) hc dX9_init_15 0 rfl rfl ?_
  refine j_aload (pc := 16) hc dX9_init_16 4 rfl ?_
  obtain ⟨T4, eT4, hf4⟩ := ob_i hf3
  clear hf3
  refine j_putR (pc := 18) hc ho fa_X9_19_8 rfl (Or.inr ⟨rfl, hct⟩) dX9_init_18 eT4 ?_
  refine j_aload_n (pc := 21) hc dX9_init_21 0 rfl rfl ?_
  refine j_iload_n (pc := 22) hc dX9_init_22 3 rfl rfl ?_
  obtain ⟨T5, eT5, hf5⟩ := ob_i hf4
  clear hf4
  refine j_putI (pc := 23) hc ho fa_X9_22_8 (Or.inr ⟨rfl, hct⟩) dX9_init_23 eT5 ?_
  cases hf5
  exact j_vret (pc := 26) hc hq hre dX9_init_26
theorem fa_X6_7_7 : FA "TableCatalog$Term" 7 7 0 116 (.int) 2 := ⟨RX8, TX8, 4, tyX8, 0, "TableCatalog$Term", CI_X8, by decide, rfl, rfl, by decide +kernel, Or.inl ⟨q778, fun _ => ⟨rfl, rfl⟩⟩, fun h => (by cases h), Or.inl rfl⟩
def f_X6_init_7 (a0 : Nat) (x1 : Int32) (S : HS) : Option HS :=
  (p_fI S 7 116 a0 x1).bind fun T1 =>
  some T1
set_option maxRecDepth 100000 in
set_option maxHeartbeats 2000000 in
theorem c_X6_init_7 {l : Launch} {g : PG} {mo : MO} {a0 : Nat} {x1 : Int32} {S S1 : HS} (hf : f_X6_init_7 a0 x1 S = some S1) : (h_nx S ≤ h_nx S1 ∧ h_sl S ≤ h_sl S1) ∧ Ct l g yX6_init (ws_ yX6_init cX6_init 2 none) 1 60 S mo [vr (some a0), vi x1] none S1 mo := by
  refine met_of true (by decide) (fun h => by first | rfl | cases h) rfl (Nat.le_of_ble_eq_true rfl) (fun f hl hg hc ho hnL hrm hre hct hex hq => ?_)
  subst hl
  subst hg
  unfold f_X6_init_7 at hf
  refine j_aload_n (pc := 0) hc dX6_init_0 0 rfl rfl ?_
  refine j_oini (pc := 1) hc ho q776 q_oi1 q_oi2 hrm ⟨by decide, Nat.le_of_ble_eq_true rfl⟩ dX6_init_1 ?_
  refine j_aload_n (pc := 4) hc dX6_init_4 0 rfl rfl ?_
  refine j_iload_n (pc := 5) hc dX6_init_5 1 rfl rfl ?_
  obtain ⟨T1, eT1, hf1⟩ := ob_i hf
  clear hf
  refine j_putI (pc := 6) hc ho fa_X6_7_7 (Or.inr ⟨rfl, hct⟩) dX6_init_6 eT1 ?_
  cases hf1
  exact j_vret (pc := 9) hc hq hre dX6_init_9
theorem cw_X8_3 : CT "TableCatalog$Call" 3 yX6_init cX6_init 2 1 := ⟨⟨q803, rfl, q774, q101, q775⟩, by decide, by decide, by decide +kernel⟩
def f_X8_init (a0 : Nat) (x1 : Int32) (x2 : Int32) (x3 : Int32) (r4 : Option Nat) (S : HS) : Option HS :=
  (f_X6_init_7 a0 x1 S).bind fun T1 =>
  (p_fN (.char) T1 7 118 a0 x2).bind fun T2 =>
  (p_fN (.char) T2 7 119 a0 x3).bind fun T3 =>
  (p_fR T3 7 120 a0 r4).bind fun T4 =>
  some T4
set_option maxRecDepth 100000 in
set_option maxHeartbeats 2000000 in
theorem c_X8_init {l : Launch} {g : PG} {mo : MO} {a0 : Nat} {x1 : Int32} {x2 : Int32} {x3 : Int32} {r4 : Option Nat} {S S1 : HS} (hf : f_X8_init a0 x1 x2 x3 r4 S = some S1) : (h_nx S ≤ h_nx S1 ∧ h_sl S ≤ h_sl S1) ∧ Ct l g yX8_init (ws_ yX8_init cX8_init 5 none) 2 81 S mo [vr (some a0), vi x1, vi x2, vi x3, vr r4] none S1 mo := by
  refine met_of true (by decide) (fun h => by first | rfl | cases h) rfl (Nat.le_of_ble_eq_true rfl) (fun f hl hg hc ho hnL hrm hre hct hex hq => ?_)
  subst hl
  subst hg
  unfold f_X8_init at hf
  refine j_aload_n (pc := 0) hc dX8_init_0 0 rfl rfl ?_
  refine j_iload_n (pc := 1) hc dX8_init_1 1 rfl rfl ?_
  obtain ⟨T1, eT1, hf1⟩ := ob_i hf
  clear hf
  refine j_callI (pc := 2) (As := [vi x1]) (rest := []) (st2 := []) hc ho cw_X8_3 (c_X6_init_7 eT1) hrm ⟨by decide, by decide⟩ rfl (Nat.le_of_ble_eq_true rfl) dX8_init_2 rfl rfl ?_
  refine j_aload_n (pc := 5) hc dX8_init_5 0 rfl rfl ?_
  refine j_iload_n (pc := 6) hc dX8_init_6 2 rfl rfl ?_
  obtain ⟨T2, eT2, hf2⟩ := ob_i hf1
  clear hf1
  refine j_putN (pc := 7) hc ho fa_X8_9_7 (Or.inr ⟨rfl, hct⟩) dX8_init_7 eT2 rfl ?_
  refine j_aload_n (pc := 10) hc dX8_init_10 0 rfl rfl ?_
  refine j_iload_n (pc := 11) hc dX8_init_11 3 rfl rfl ?_
  obtain ⟨T3, eT3, hf3⟩ := ob_i hf2
  clear hf2
  refine j_putN (pc := 12) hc ho fa_X8_15_7 (Or.inr ⟨rfl, hct⟩) dX8_init_12 eT3 rfl ?_
  refine j_aload_n (pc := 15) hc dX8_init_15 0 rfl rfl ?_
  refine j_aload (pc := 16) hc dX8_init_16 4 rfl ?_
  obtain ⟨T4, eT4, hf4⟩ := ob_i hf3
  clear hf3
  refine j_putR (pc := 18) hc ho fa_X8_18_7 rfl (Or.inr ⟨rfl, hct⟩) dX8_init_18 eT4 ?_
  cases hf4
  exact j_vret (pc := 21) hc hq hre dX8_init_21
theorem fa_X1_180_2 : FA "TableCatalog$Reader" 180 2 0 21 (.int) 1 := ⟨RX1, TX1, 15, tyX1, 5, "TableCatalog$Reader", CI_X1, by decide, rfl, rfl, by decide +kernel, Or.inl ⟨q235, fun h => (by cases h)⟩, fun _ => rfl, Or.inl rfl⟩
theorem cw_X1_177 : CV "TableCatalog$Reader" 177 RX1 yX1_tell cX1_tell 3 none 1 := ⟨⟨q728, q730, qs16, q82, q731⟩, rfl, by decide, by decide, by decide +kernel⟩
theorem cw_X1_186 : CV "TableCatalog$Reader" 186 RX1 yX1_formula cX1_formula 4 (some (.object "TableCatalog$Formula")) 0 := ⟨⟨q732, q734, qs17, q82, q735⟩, rfl, by decide, by decide, by decide +kernel⟩
theorem cw_X1_134 : CV "TableCatalog$Reader" 134 RX1 yX1_must cX1_must 2 none 1 := ⟨⟨q621, q623, qs8, q82, q624⟩, rfl, by decide, by decide, by decide +kernel⟩
theorem fn_X1_260 : FN "TableCatalog$Reader" 260 7 4 := ⟨RX8, TX8, tyX8, CI_X8, q798, q799, q103, by decide +kernel⟩
theorem cw_X1_262 : CT "TableCatalog$Reader" 262 yX8_init cX8_init 5 4 := ⟨⟨q800, rfl, q801, q103, q802⟩, by decide, by decide, by decide +kernel⟩
def f_X1_call_n17 (kf : Nat → HS → Option (((Option Nat) ⊕ Nat) × HS)) (a0 : Nat) (S : HS) : Option (((Option Nat) ⊕ Nat) × HS) :=
  (g_fI S 2 19 a0).bind fun v1 =>
  (g_cls S 2 a0).bind fun u2 =>
  o_bd (f_X1_wrong a0 (1) v1 S) fun q4 T3 =>
  (q4).bind fun a5 =>
  (g_thr T3 a5).bind fun u6 =>
  some (Sum.inr a5, T3)
def f_X1_call (kf : Nat → HS → Option (((Option Nat) ⊕ Nat) × HS)) (a0 : Nat) (x1 : Int32) (x2 : Int32) (x3 : Int32) (r4 : Option Nat) (S : HS) : Option (((Option Nat) ⊕ Nat) × HS) :=
  (g_cls S 2 a0).bind fun u1 =>
  o_bd (f_X1_here a0 S) fun v3 T2 =>
  if v3 = (40) then
    (g_fI T2 2 21 a0).bind fun v4 =>
    if v4 = (3) then
      f_X1_call_n17 kf a0 T2
    else
      (g_fI T2 2 19 a0).bind fun v5 =>
      (p_fI T2 2 19 a0 (v5 + (1))).bind fun T6 =>
      (g_fI T6 2 21 a0).bind fun v7 =>
      (p_fI T6 2 21 a0 (v7 + (1))).bind fun T8 =>
      (g_cls T8 2 a0).bind fun u9 =>
      (f_X1_tell a0 r4 T8).bind fun T10 =>
      (g_cls T10 2 a0).bind fun u11 =>
      o_tr (kf a0 T10) (fun q15 T13 =>
        (g_cls T13 2 a0).bind fun u16 =>
        o_tr (f_X1_must a0 (41) T13) (fun z20 T18 =>
          (g_fI T18 2 21 a0).bind fun v21 =>
          (p_fI T18 2 21 a0 (v21 - (1))).bind fun T22 =>
          (g_cls T22 2 a0).bind fun u23 =>
          (f_X1_tell a0 (some (h_ks T22 15)) T22).bind fun T24 =>
          (n_obj T24 7 4).bind fun T25 =>
          (f_X8_init (h_nx T24) x1 x2 x3 q15 T25).bind fun T26 =>
          some (Sum.inl (some (h_nx T24)), T26)
        ) (fun q19 T18 =>
          some (Sum.inr q19, T18)
        )
      ) (fun q14 T13 =>
        some (Sum.inr q14, T13)
      )
  else
    f_X1_call_n17 kf a0 T2
set_option maxRecDepth 100000 in
set_option maxHeartbeats 2000000 in
theorem w_X1_call_n17 {f : CfT} {mo : MO} {a0 : Nat} {r : ((Option Nat) ⊕ Nat)} {S1 : HS} {frK loK : Nat} {kf : Nat → HS → Option (((Option Nat) ⊕ Nat) × HS)} (hc : cf_cc f = cX1_call) (ho : cf_ow f = "TableCatalog$Reader") (hnL : cf_nL f = 6) (hrm : cf_rm f = ((frK + 6), (loK + 167))) (hre : cf_re f = (some (.object "TableCatalog$Term"))) (hct : cf_ct f = false) (hex : cf_ex f = []) (hq : QokX f (rs_r r) S1 mo) (hkf : ∀ {l : Launch} {g : PG} {mo : MO} {a : Nat} {S : HS} {S1 : HS} {r : ((Option Nat) ⊕ Nat)}, kf a S = some (r, S1) → (h_nx S ≤ h_nx S1 ∧ h_sl S ≤ h_sl S1) ∧ Cx l g yX1_formula (ws_ yX1_formula cX1_formula 4 (some (.object "TableCatalog$Formula"))) frK loK S mo [vr (some a)] (rs_r r) S1 mo) {S : HS} (hf : f_X1_call_n17 kf a0 S = some (r, S1)) : JJ f S mo 17 [(0, vr (some a0))] [] := by
  unfold f_X1_call_n17 at hf
  refine j_aload_n (pc := 17) hc dX1_call_17 0 rfl rfl ?_
  refine j_iconst (pc := 18) (v := (1)) hc dX1_call_18 rfl ?_
  refine j_aload_n (pc := 19) hc dX1_call_19 0 rfl rfl ?_
  obtain ⟨v1, ev1, hf1⟩ := ob_i hf
  clear hf
  refine j_getI (pc := 20) hc ho fa_X1_50_2 dX1_call_20 ev1 ?_
  obtain ⟨u2, eu2, hf2⟩ := ob_i hf1
  clear hf1
  obtain ⟨q4, T3, eq4, hf3⟩ := ob_c hf2
  clear hf2
  refine j_callV (pc := 23) (As := [vi (1), vi v1]) (rest := []) (st2 := [vr q4]) hc ho cw_X1_67 (c_X1_wrong eq4) (Rc.of (g_cls_ok eu2) (by decide) (by decide) ci_X1) hrm ⟨by omega, by omega⟩ rfl (Nat.le_of_ble_eq_true rfl) dX1_call_23 rfl rfl ?_
  obtain ⟨a5, ea5, hf4⟩ := ob_i hf3
  clear hf3
  subst ea5
  obtain ⟨u6, eu6, hf5⟩ := ob_i hf4
  clear hf4
  cases hf5
  exact j_athrow (pc := 26) hc hex hq dX1_call_26 (g_thr_ok eu6)
set_option maxRecDepth 100000 in
set_option maxHeartbeats 2000000 in
theorem c_X1_call {l : Launch} {g : PG} {mo : MO} {a0 : Nat} {x1 : Int32} {x2 : Int32} {x3 : Int32} {r4 : Option Nat} {r : ((Option Nat) ⊕ Nat)} {S S1 : HS} {frK loK : Nat} {kf : Nat → HS → Option (((Option Nat) ⊕ Nat) × HS)} (hkf : ∀ {l : Launch} {g : PG} {mo : MO} {a : Nat} {S : HS} {S1 : HS} {r : ((Option Nat) ⊕ Nat)}, kf a S = some (r, S1) → (h_nx S ≤ h_nx S1 ∧ h_sl S ≤ h_sl S1) ∧ Cx l g yX1_formula (ws_ yX1_formula cX1_formula 4 (some (.object "TableCatalog$Formula"))) frK loK S mo [vr (some a)] (rs_r r) S1 mo) (hf : f_X1_call kf a0 x1 x2 x3 r4 S = some (r, S1)) : (h_nx S ≤ h_nx S1 ∧ h_sl S ≤ h_sl S1) ∧ Cx l g yX1_call (ws_ yX1_call cX1_call 6 (some (.object "TableCatalog$Term"))) (frK + 6) (loK + 167) S mo [vr (some a0), vi x1, vi x2, vi x3, vr r4] (rs_r r) S1 mo := by
  refine met_ofX false (by decide) (fun h => by first | rfl | cases h) rfl (Nat.le_of_ble_eq_true rfl) (fun f hl hg hc ho hnL hrm hre hct hex hq => ?_)
  subst hl
  subst hg
  unfold f_X1_call at hf
  refine j_aload_n (pc := 0) hc dX1_call_0 0 rfl rfl ?_
  obtain ⟨u1, eu1, hf1⟩ := ob_i hf
  clear hf
  obtain ⟨v3, T2, ev3, hf2⟩ := ob_c hf1
  clear hf1
  refine j_callV (pc := 1) (As := []) (rest := []) (st2 := [vi v3]) hc ho cw_X1_63 (c_X1_here ev3) (Rc.of (g_cls_ok eu1) (by decide) (by decide) ci_X1) hrm ⟨by omega, by omega⟩ rfl (Nat.le_of_ble_eq_true rfl) dX1_call_1 rfl rfl ?_
  refine j_bipush (pc := 4) (v := (40)) hc dX1_call_4 rfl ?_
  refine j_icmp_ne (pc := 6) hc dX1_call_6 (tgt := 17) rfl (fun hh => ?_) (fun hh => ?_)
  · have hf3 := (if_neg hh).symm.trans hf2
    clear hf2
    refine j_loc (L' := [(0, vr (some a0))]) [0] rfl ?_
    exact w_X1_call_n17 hc ho hnL hrm hre hct hex hq hkf hf3
  · have hf4 := (if_pos hh).symm.trans hf2
    clear hf2
    refine j_aload_n (pc := 9) hc dX1_call_9 0 rfl rfl ?_
    obtain ⟨v4, ev4, hf5⟩ := ob_i hf4
    clear hf4
    refine j_getI (pc := 10) hc ho fa_X1_180_2 dX1_call_10 ev4 ?_
    refine j_iconst (pc := 13) (v := (3)) hc dX1_call_13 rfl ?_
    refine j_icmp_ne (pc := 14) hc dX1_call_14 (tgt := 27) rfl (fun hh => ?_) (fun hh => ?_)
    · have hf6 := (if_neg hh).symm.trans hf5
      clear hf5
      refine j_aload_n (pc := 27) hc dX1_call_27 0 rfl rfl ?_
      refine j_dup (pc := 28) hc dX1_call_28 rfl ?_
      obtain ⟨v5, ev5, hf7⟩ := ob_i hf6
      clear hf6
      refine j_getI (pc := 29) hc ho fa_X1_50_2 dX1_call_29 ev5 ?_
      refine j_iconst (pc := 32) (v := (1)) hc dX1_call_32 rfl ?_
      refine j_iadd (pc := 33) hc dX1_call_33 ?_
      obtain ⟨T6, eT6, hf8⟩ := ob_i hf7
      clear hf7
      refine j_putI (pc := 34) hc ho fa_X1_50_2 (Or.inl rfl) dX1_call_34 eT6 ?_
      refine j_aload_n (pc := 37) hc dX1_call_37 0 rfl rfl ?_
      refine j_dup (pc := 38) hc dX1_call_38 rfl ?_
      obtain ⟨v7, ev7, hf9⟩ := ob_i hf8
      clear hf8
      refine j_getI (pc := 39) hc ho fa_X1_180_2 dX1_call_39 ev7 ?_
      refine j_iconst (pc := 42) (v := (1)) hc dX1_call_42 rfl ?_
      refine j_iadd (pc := 43) hc dX1_call_43 ?_
      obtain ⟨T8, eT8, hf10⟩ := ob_i hf9
      clear hf9
      refine j_putI (pc := 44) hc ho fa_X1_180_2 (Or.inl rfl) dX1_call_44 eT8 ?_
      refine j_aload_n (pc := 47) hc dX1_call_47 0 rfl rfl ?_
      refine j_aload (pc := 48) hc dX1_call_48 4 rfl ?_
      obtain ⟨u9, eu9, hf11⟩ := ob_i hf10
      clear hf10
      obtain ⟨T10, eT10, hf12⟩ := ob_i hf11
      clear hf11
      refine j_callV (pc := 50) (As := [vr r4]) (rest := []) (st2 := []) hc ho cw_X1_177 (c_X1_tell eT10) (Rc.of (g_cls_ok eu9) (by decide) (by decide) ci_X1) hrm ⟨by omega, by omega⟩ rfl (Nat.le_of_ble_eq_true rfl) dX1_call_50 rfl rfl ?_
      refine j_aload_n (pc := 53) hc dX1_call_53 0 rfl rfl ?_
      obtain ⟨u11, eu11, hf13⟩ := ob_i hf12
      clear hf12
      rcases ob_t hf13 with ⟨q15, T13, eq15, hf14⟩ | ⟨q14, T13, eq14, hf14⟩
      · refine j_backI (pc := 54) (st2 := [vr q15]) (hkf (l := cf_l f) (g := cf_g f) (mo := mo) eq15).1 (runX_V (pc := 54) (As := []) (rest := []) hc ho cw_X1_186 (hkf eq15).2 (Rc.of (g_cls_ok eu11) (by decide) (by decide) ci_X1) hrm ⟨by omega, by omega⟩ rfl (Nat.le_of_ble_eq_true rfl) dX1_call_54 rfl) rfl ?_
        refine j_astore (pc := 57) (L' := [(5, vr q15), (0, vr (some a0)), (1, vi x1), (2, vi x2), (3, vi x3), (4, vr r4)]) hc dX1_call_57 hnL (by decide) rfl ?_
        refine j_aload_n (pc := 59) hc dX1_call_59 1 rfl rfl ?_
        refine j_bipush (pc := 60) (v := (41)) hc dX1_call_60 rfl ?_
        obtain ⟨u16, eu16, hf15⟩ := ob_i hf14
        clear hf14
        rcases ob_t hf15 with ⟨z20, T18, ez20, hf16⟩ | ⟨q19, T18, eq19, hf16⟩
        · refine j_backI (pc := 62) (st2 := []) (c_X1_must (l := cf_l f) (g := cf_g f) (mo := mo) ez20).1 (runX_V (pc := 62) (As := [vi (41)]) (rest := []) hc ho cw_X1_134 (c_X1_must ez20).2 (Rc.of (g_cls_ok eu16) (by decide) (by decide) ci_X1) hrm ⟨by omega, by omega⟩ rfl (Nat.le_of_ble_eq_true rfl) dX1_call_62 rfl) rfl ?_
          refine j_aload_n (pc := 65) hc dX1_call_65 1 rfl rfl ?_
          refine j_dup (pc := 66) hc dX1_call_66 rfl ?_
          obtain ⟨v21, ev21, hf17⟩ := ob_i hf16
          clear hf16
          refine j_getI (pc := 67) hc ho fa_X1_180_2 dX1_call_67 ev21 ?_
          refine j_iconst (pc := 70) (v := (1)) hc dX1_call_70 rfl ?_
          refine j_isub (pc := 71) hc dX1_call_71 ?_
          obtain ⟨T22, eT22, hf18⟩ := ob_i hf17
          clear hf17
          refine j_putI (pc := 72) hc ho fa_X1_180_2 (Or.inl rfl) dX1_call_72 eT22 ?_
          refine j_aload_n (pc := 75) hc dX1_call_75 1 rfl rfl ?_
          refine j_ldcSW (pc := 76) hc ho (tx := ")") 15 rfl dX1_call_76 ?_
          obtain ⟨u23, eu23, hf19⟩ := ob_i hf18
          clear hf18
          obtain ⟨T24, eT24, hf20⟩ := ob_i hf19
          clear hf19
          refine j_callV (pc := 79) (As := [vr (some (h_ks T22 15))]) (rest := []) (st2 := []) hc ho cw_X1_177 (c_X1_tell eT24) (Rc.of (g_cls_ok eu23) (by decide) (by decide) ci_X1) hrm ⟨by omega, by omega⟩ rfl (Nat.le_of_ble_eq_true rfl) dX1_call_79 rfl rfl ?_
          obtain ⟨T25, eT25, hf21⟩ := ob_i hf20
          clear hf20
          refine j_new (pc := 82) hc ho fn_X1_260 dX1_call_82 eT25 ?_
          refine j_dup (pc := 85) hc dX1_call_85 rfl ?_
          refine j_iload_n (pc := 86) hc dX1_call_86 2 rfl rfl ?_
          refine j_iload_n (pc := 87) hc dX1_call_87 3 rfl rfl ?_
          refine j_iload_n (pc := 88) hc dX1_call_88 4 rfl rfl ?_
          refine j_aload (pc := 89) hc dX1_call_89 0 rfl ?_
          obtain ⟨T26, eT26, hf22⟩ := ob_i hf21
          clear hf21
          refine j_callI (pc := 91) (As := [vi x1, vi x2, vi x3, vr q15]) (rest := [vr (some (h_nx T24))]) (st2 := [vr (some (h_nx T24))]) hc ho cw_X1_262 (c_X8_init eT26) hrm ⟨by omega, by omega⟩ rfl (Nat.le_of_ble_eq_true rfl) dX1_call_91 rfl rfl ?_
          cases hf22
          exact j_aret (pc := 94) hc (QokX.ret hq) hre (Or.inl ⟨_, rfl⟩) dX1_call_94
        · cases hf16
          exact j_backT (pc := 62) (c_X1_must (l := cf_l f) (g := cf_g f) (mo := mo) eq19).1 (runX_V (pc := 62) (As := [vi (41)]) (rest := []) hc ho cw_X1_134 (c_X1_must eq19).2 (Rc.of (g_cls_ok eu16) (by decide) (by decide) ci_X1) hrm ⟨by omega, by omega⟩ rfl (Nat.le_of_ble_eq_true rfl) dX1_call_62 rfl) hex hq
      · cases hf14
        exact j_backT (pc := 54) (hkf (l := cf_l f) (g := cf_g f) (mo := mo) eq14).1 (runX_V (pc := 54) (As := []) (rest := []) hc ho cw_X1_186 (hkf eq14).2 (Rc.of (g_cls_ok eu11) (by decide) (by decide) ci_X1) hrm ⟨by omega, by omega⟩ rfl (Nat.le_of_ble_eq_true rfl) dX1_call_54 rfl) hex hq
    · have hf23 := (if_pos hh).symm.trans hf5
      clear hf5
      refine j_loc (L' := [(0, vr (some a0))]) [0] rfl ?_
      exact w_X1_call_n17 hc ho hnL hrm hre hct hex hq hkf hf23
theorem fa_X6_7_6 : FA "TableCatalog$Term" 7 6 0 116 (.int) 2 := ⟨RX7, TX7, 2, tyX7, 0, "TableCatalog$Term", CI_X7, by decide, rfl, rfl, by decide +kernel, Or.inl ⟨q778, fun _ => ⟨rfl, rfl⟩⟩, fun h => (by cases h), Or.inl rfl⟩
def f_X6_init_6 (a0 : Nat) (x1 : Int32) (S : HS) : Option HS :=
  (p_fI S 6 116 a0 x1).bind fun T1 =>
  some T1
set_option maxRecDepth 100000 in
set_option maxHeartbeats 2000000 in
theorem c_X6_init_6 {l : Launch} {g : PG} {mo : MO} {a0 : Nat} {x1 : Int32} {S S1 : HS} (hf : f_X6_init_6 a0 x1 S = some S1) : (h_nx S ≤ h_nx S1 ∧ h_sl S ≤ h_sl S1) ∧ Ct l g yX6_init (ws_ yX6_init cX6_init 2 none) 1 60 S mo [vr (some a0), vi x1] none S1 mo := by
  refine met_of true (by decide) (fun h => by first | rfl | cases h) rfl (Nat.le_of_ble_eq_true rfl) (fun f hl hg hc ho hnL hrm hre hct hex hq => ?_)
  subst hl
  subst hg
  unfold f_X6_init_6 at hf
  refine j_aload_n (pc := 0) hc dX6_init_0 0 rfl rfl ?_
  refine j_oini (pc := 1) hc ho q776 q_oi1 q_oi2 hrm ⟨by decide, Nat.le_of_ble_eq_true rfl⟩ dX6_init_1 ?_
  refine j_aload_n (pc := 4) hc dX6_init_4 0 rfl rfl ?_
  refine j_iload_n (pc := 5) hc dX6_init_5 1 rfl rfl ?_
  obtain ⟨T1, eT1, hf1⟩ := ob_i hf
  clear hf
  refine j_putI (pc := 6) hc ho fa_X6_7_6 (Or.inr ⟨rfl, hct⟩) dX6_init_6 eT1 ?_
  cases hf1
  exact j_vret (pc := 9) hc hq hre dX6_init_9
theorem cw_X7_1 : CT "TableCatalog$Given" 1 yX6_init cX6_init 2 1 := ⟨⟨q773, rfl, q774, q101, q775⟩, by decide, by decide, by decide +kernel⟩
def f_X7_init (a0 : Nat) (x1 : Int32) (x2 : Int32) (S : HS) : Option HS :=
  (f_X6_init_6 a0 x1 S).bind fun T1 =>
  (p_fN (.char) T1 6 117 a0 x2).bind fun T2 =>
  some T2
set_option maxRecDepth 100000 in
set_option maxHeartbeats 2000000 in
theorem c_X7_init {l : Launch} {g : PG} {mo : MO} {a0 : Nat} {x1 : Int32} {x2 : Int32} {S S1 : HS} (hf : f_X7_init a0 x1 x2 S = some S1) : (h_nx S ≤ h_nx S1 ∧ h_sl S ≤ h_sl S1) ∧ Ct l g yX7_init (ws_ yX7_init cX7_init 3 none) 2 81 S mo [vr (some a0), vi x1, vi x2] none S1 mo := by
  refine met_of true (by decide) (fun h => by first | rfl | cases h) rfl (Nat.le_of_ble_eq_true rfl) (fun f hl hg hc ho hnL hrm hre hct hex hq => ?_)
  subst hl
  subst hg
  unfold f_X7_init at hf
  refine j_aload_n (pc := 0) hc dX7_init_0 0 rfl rfl ?_
  refine j_iload_n (pc := 1) hc dX7_init_1 1 rfl rfl ?_
  obtain ⟨T1, eT1, hf1⟩ := ob_i hf
  clear hf
  refine j_callI (pc := 2) (As := [vi x1]) (rest := []) (st2 := []) hc ho cw_X7_1 (c_X6_init_6 eT1) hrm ⟨by decide, by decide⟩ rfl (Nat.le_of_ble_eq_true rfl) dX7_init_2 rfl rfl ?_
  refine j_aload_n (pc := 5) hc dX7_init_5 0 rfl rfl ?_
  refine j_iload_n (pc := 6) hc dX7_init_6 2 rfl rfl ?_
  obtain ⟨T2, eT2, hf2⟩ := ob_i hf1
  clear hf1
  refine j_putN (pc := 7) hc ho fa_X7_7_6 (Or.inr ⟨rfl, hct⟩) dX7_init_7 eT2 rfl ?_
  cases hf2
  exact j_vret (pc := 10) hc hq hre dX7_init_10
theorem fn_X1_253 : FN "TableCatalog$Reader" 253 6 2 := ⟨RX7, TX7, tyX7, CI_X7, q768, q769, q102, by decide +kernel⟩
theorem cw_X1_255 : CT "TableCatalog$Reader" 255 yX7_init cX7_init 3 2 := ⟨⟨q770, rfl, q771, q102, q772⟩, by decide, by decide, by decide +kernel⟩
def f_X1_letters_n50 (k_10 : Int32 → HS → Option (((Option Nat) ⊕ Nat) × HS)) (a0 : Nat) (x1 : Int32) (S : HS) : Option (((Option Nat) ⊕ Nat) × HS) :=
  (g_fI S 2 19 a0).bind fun v1 =>
  (p_fI S 2 19 a0 (v1 + (1))).bind fun T2 =>
  k_10 x1 T2
def f_X1_letters_n88 (a0 : Nat) (S : HS) : Option (((Option Nat) ⊕ Nat) × HS) :=
  (g_fI S 2 19 a0).bind fun v1 =>
  (g_cls S 2 a0).bind fun u2 =>
  o_bd (f_X1_wrong a0 (1) v1 S) fun q4 T3 =>
  (q4).bind fun a5 =>
  (g_thr T3 a5).bind fun u6 =>
  some (Sum.inr a5, T3)
def f_X1_letters_n63 (a0 : Nat) (x1 : Int32) (S : HS) : Option (((Option Nat) ⊕ Nat) × HS) :=
  (g_fI S 2 19 a0).bind fun v1 =>
  (g_fI S 2 18 a0).bind fun v2 =>
  if v1 = v2 then
    f_X1_letters_n88 a0 S
  else
    (g_fR S 2 17 a0).bind fun q3 =>
    (g_fI S 2 19 a0).bind fun v4 =>
    (q3).bind fun a5 =>
    (g_aI S 32 a5 v4).bind fun v6 =>
    if v6 = (39) then
      (g_fI S 2 19 a0).bind fun v7 =>
      (p_fI S 2 19 a0 (v7 + (1))).bind fun T8 =>
      (g_fI T8 2 19 a0).bind fun v9 =>
      (g_cls T8 2 a0).bind fun u10 =>
      o_bd (f_X1_cut a0 x1 v9 T8) fun q12 T11 =>
      (g_cls T11 2 a0).bind fun u13 =>
      (f_X1_tell a0 q12 T11).bind fun T14 =>
      (n_obj T14 6 2).bind fun T15 =>
      (f_X7_init (h_nx T14) x1 (116) T15).bind fun T16 =>
      some (Sum.inl (some (h_nx T14)), T16)
    else
      f_X1_letters_n88 a0 S
def f_X1_letters_n10 (a0 : Nat) : Nat → Int32 → HS → Option (((Option Nat) ⊕ Nat) × HS)
  | 0, _, _ => none
  | n + 1, x1, S =>
    (g_fI S 2 19 a0).bind fun v1 =>
    (g_fI S 2 18 a0).bind fun v2 =>
    if v2 ≤ v1 then
      f_X1_letters_n63 a0 x1 S
    else
      (g_fR S 2 17 a0).bind fun q3 =>
      (g_fI S 2 19 a0).bind fun v4 =>
      (q3).bind fun a5 =>
      (g_aI S 32 a5 v4).bind fun v6 =>
      (f_X0_isLetter v6).bind fun v7 =>
      if v7 = 0 then
        (g_fR S 2 17 a0).bind fun q8 =>
        (g_fI S 2 19 a0).bind fun v9 =>
        (q8).bind fun a10 =>
        (g_aI S 32 a10 v9).bind fun v11 =>
        if v11 = (32) then
          f_X1_letters_n50 (fun x1 S => f_X1_letters_n10 a0 n x1 S) a0 x1 S
        else
          f_X1_letters_n63 a0 x1 S
      else
        f_X1_letters_n50 (fun x1 S => f_X1_letters_n10 a0 n x1 S) a0 x1 S
def f_X1_letters (a0 : Nat) (x1 : Int32) (S : HS) : Option (((Option Nat) ⊕ Nat) × HS) :=
  (g_fI S 2 19 a0).bind fun v1 =>
  (p_fI S 2 19 a0 (v1 + (1))).bind fun T2 =>
  f_X1_letters_n10 a0 fu_ x1 T2
set_option maxRecDepth 100000 in
set_option maxHeartbeats 2000000 in
theorem w_X1_letters_n50 {f : CfT} {mo : MO} {a0 : Nat} {r : ((Option Nat) ⊕ Nat)} {S1 : HS} (hc : cf_cc f = cX1_letters) (ho : cf_ow f = "TableCatalog$Reader") (hnL : cf_nL f = 2) (hrm : cf_rm f = (7, 201)) (hre : cf_re f = (some (.object "TableCatalog$Term"))) (hct : cf_ct f = false) (hex : cf_ex f = []) (hq : QokX f (rs_r r) S1 mo) {k_10 : Int32 → HS → Option (((Option Nat) ⊕ Nat) × HS)} (hk_10 : ∀ (x1 : Int32) (S : HS), k_10 x1 S = some (r, S1) → JJ f S mo 10 [(0, vr (some a0)), (1, vi x1)] []) {x1 : Int32} {S : HS} (hf : f_X1_letters_n50 k_10 a0 x1 S = some (r, S1)) : JJ f S mo 50 [(0, vr (some a0)), (1, vi x1)] [] := by
  unfold f_X1_letters_n50 at hf
  refine j_aload_n (pc := 50) hc dX1_letters_50 0 rfl rfl ?_
  refine j_dup (pc := 51) hc dX1_letters_51 rfl ?_
  obtain ⟨v1, ev1, hf1⟩ := ob_i hf
  clear hf
  refine j_getI (pc := 52) hc ho fa_X1_50_2 dX1_letters_52 ev1 ?_
  refine j_iconst (pc := 55) (v := (1)) hc dX1_letters_55 rfl ?_
  refine j_iadd (pc := 56) hc dX1_letters_56 ?_
  obtain ⟨T2, eT2, hf2⟩ := ob_i hf1
  clear hf1
  refine j_putI (pc := 57) hc ho fa_X1_50_2 (Or.inl rfl) dX1_letters_57 eT2 ?_
  refine j_goto (pc := 60) hc dX1_letters_60 (tgt := 10) rfl ?_
  exact hk_10 _ _ hf2
set_option maxRecDepth 100000 in
set_option maxHeartbeats 2000000 in
theorem w_X1_letters_n88 {f : CfT} {mo : MO} {a0 : Nat} {r : ((Option Nat) ⊕ Nat)} {S1 : HS} (hc : cf_cc f = cX1_letters) (ho : cf_ow f = "TableCatalog$Reader") (hnL : cf_nL f = 2) (hrm : cf_rm f = (7, 201)) (hre : cf_re f = (some (.object "TableCatalog$Term"))) (hct : cf_ct f = false) (hex : cf_ex f = []) (hq : QokX f (rs_r r) S1 mo) {S : HS} (hf : f_X1_letters_n88 a0 S = some (r, S1)) : JJ f S mo 88 [(0, vr (some a0))] [] := by
  unfold f_X1_letters_n88 at hf
  refine j_aload_n (pc := 88) hc dX1_letters_88 0 rfl rfl ?_
  refine j_iconst (pc := 89) (v := (1)) hc dX1_letters_89 rfl ?_
  refine j_aload_n (pc := 90) hc dX1_letters_90 0 rfl rfl ?_
  obtain ⟨v1, ev1, hf1⟩ := ob_i hf
  clear hf
  refine j_getI (pc := 91) hc ho fa_X1_50_2 dX1_letters_91 ev1 ?_
  obtain ⟨u2, eu2, hf2⟩ := ob_i hf1
  clear hf1
  obtain ⟨q4, T3, eq4, hf3⟩ := ob_c hf2
  clear hf2
  refine j_callV (pc := 94) (As := [vi (1), vi v1]) (rest := []) (st2 := [vr q4]) hc ho cw_X1_67 (c_X1_wrong eq4) (Rc.of (g_cls_ok eu2) (by decide) (by decide) ci_X1) hrm ⟨by decide, by decide⟩ rfl (Nat.le_of_ble_eq_true rfl) dX1_letters_94 rfl rfl ?_
  obtain ⟨a5, ea5, hf4⟩ := ob_i hf3
  clear hf3
  subst ea5
  obtain ⟨u6, eu6, hf5⟩ := ob_i hf4
  clear hf4
  cases hf5
  exact j_athrow (pc := 97) hc hex hq dX1_letters_97 (g_thr_ok eu6)
set_option maxRecDepth 100000 in
set_option maxHeartbeats 2000000 in
theorem w_X1_letters_n63 {f : CfT} {mo : MO} {a0 : Nat} {r : ((Option Nat) ⊕ Nat)} {S1 : HS} (hc : cf_cc f = cX1_letters) (ho : cf_ow f = "TableCatalog$Reader") (hnL : cf_nL f = 2) (hrm : cf_rm f = (7, 201)) (hre : cf_re f = (some (.object "TableCatalog$Term"))) (hct : cf_ct f = false) (hex : cf_ex f = []) (hq : QokX f (rs_r r) S1 mo) {x1 : Int32} {S : HS} (hf : f_X1_letters_n63 a0 x1 S = some (r, S1)) : JJ f S mo 63 [(0, vr (some a0)), (1, vi x1)] [] := by
  unfold f_X1_letters_n63 at hf
  refine j_aload_n (pc := 63) hc dX1_letters_63 0 rfl rfl ?_
  obtain ⟨v1, ev1, hf1⟩ := ob_i hf
  clear hf
  refine j_getI (pc := 64) hc ho fa_X1_50_2 dX1_letters_64 ev1 ?_
  refine j_aload_n (pc := 67) hc dX1_letters_67 0 rfl rfl ?_
  obtain ⟨v2, ev2, hf2⟩ := ob_i hf1
  clear hf1
  refine j_getI (pc := 68) hc ho fa_X1_53_2 dX1_letters_68 ev2 ?_
  refine j_icmp_eq (pc := 71) hc dX1_letters_71 (tgt := 88) rfl (fun hh => ?_) (fun hh => ?_)
  · have hf3 := (if_pos hh).symm.trans hf2
    clear hf2
    refine j_loc (L' := [(0, vr (some a0))]) [0] rfl ?_
    exact w_X1_letters_n88 hc ho hnL hrm hre hct hex hq hf3
  · have hf4 := (if_neg hh).symm.trans hf2
    clear hf2
    refine j_aload_n (pc := 74) hc dX1_letters_74 0 rfl rfl ?_
    obtain ⟨q3, eq3, hf5⟩ := ob_i hf4
    clear hf4
    refine j_getR (pc := 75) hc ho fa_X1_56_2 dX1_letters_75 eq3 ?_
    refine j_aload_n (pc := 78) hc dX1_letters_78 0 rfl rfl ?_
    obtain ⟨v4, ev4, hf6⟩ := ob_i hf5
    clear hf5
    refine j_getI (pc := 79) hc ho fa_X1_50_2 dX1_letters_79 ev4 ?_
    obtain ⟨a5, ea5, hf7⟩ := ob_i hf6
    clear hf6
    subst ea5
    obtain ⟨v6, ev6, hf8⟩ := ob_i hf7
    clear hf7
    refine j_bald (pc := 82) hc dX1_letters_82 ev6 ?_
    refine j_bipush (pc := 83) (v := (39)) hc dX1_letters_83 rfl ?_
    refine j_icmp_eq (pc := 85) hc dX1_letters_85 (tgt := 98) rfl (fun hh => ?_) (fun hh => ?_)
    · have hf9 := (if_pos hh).symm.trans hf8
      clear hf8
      refine j_aload_n (pc := 98) hc dX1_letters_98 0 rfl rfl ?_
      refine j_dup (pc := 99) hc dX1_letters_99 rfl ?_
      obtain ⟨v7, ev7, hf10⟩ := ob_i hf9
      clear hf9
      refine j_getI (pc := 100) hc ho fa_X1_50_2 dX1_letters_100 ev7 ?_
      refine j_iconst (pc := 103) (v := (1)) hc dX1_letters_103 rfl ?_
      refine j_iadd (pc := 104) hc dX1_letters_104 ?_
      obtain ⟨T8, eT8, hf11⟩ := ob_i hf10
      clear hf10
      refine j_putI (pc := 105) hc ho fa_X1_50_2 (Or.inl rfl) dX1_letters_105 eT8 ?_
      refine j_aload_n (pc := 108) hc dX1_letters_108 0 rfl rfl ?_
      refine j_aload_n (pc := 109) hc dX1_letters_109 0 rfl rfl ?_
      refine j_iload_n (pc := 110) hc dX1_letters_110 1 rfl rfl ?_
      refine j_aload_n (pc := 111) hc dX1_letters_111 0 rfl rfl ?_
      obtain ⟨v9, ev9, hf12⟩ := ob_i hf11
      clear hf11
      refine j_getI (pc := 112) hc ho fa_X1_50_2 dX1_letters_112 ev9 ?_
      obtain ⟨u10, eu10, hf13⟩ := ob_i hf12
      clear hf12
      obtain ⟨q12, T11, eq12, hf14⟩ := ob_c hf13
      clear hf13
      refine j_callV (pc := 115) (As := [vi x1, vi v9]) (rest := [vr (some a0)]) (st2 := [vr q12, vr (some a0)]) hc ho cw_X1_84 (c_X1_cut eq12) (Rc.of (g_cls_ok eu10) (by decide) (by decide) ci_X1) hrm ⟨by decide, by decide⟩ rfl (Nat.le_of_ble_eq_true rfl) dX1_letters_115 rfl rfl ?_
      obtain ⟨u13, eu13, hf15⟩ := ob_i hf14
      clear hf14
      obtain ⟨T14, eT14, hf16⟩ := ob_i hf15
      clear hf15
      refine j_callV (pc := 118) (As := [vr q12]) (rest := []) (st2 := []) hc ho cw_X1_177 (c_X1_tell eT14) (Rc.of (g_cls_ok eu13) (by decide) (by decide) ci_X1) hrm ⟨by decide, by decide⟩ rfl (Nat.le_of_ble_eq_true rfl) dX1_letters_118 rfl rfl ?_
      obtain ⟨T15, eT15, hf17⟩ := ob_i hf16
      clear hf16
      refine j_new (pc := 121) hc ho fn_X1_253 dX1_letters_121 eT15 ?_
      refine j_dup (pc := 124) hc dX1_letters_124 rfl ?_
      refine j_iload_n (pc := 125) hc dX1_letters_125 1 rfl rfl ?_
      refine j_bipush (pc := 126) (v := (116)) hc dX1_letters_126 rfl ?_
      obtain ⟨T16, eT16, hf18⟩ := ob_i hf17
      clear hf17
      refine j_callI (pc := 128) (As := [vi x1, vi (116)]) (rest := [vr (some (h_nx T14))]) (st2 := [vr (some (h_nx T14))]) hc ho cw_X1_255 (c_X7_init eT16) hrm ⟨by decide, by decide⟩ rfl (Nat.le_of_ble_eq_true rfl) dX1_letters_128 rfl rfl ?_
      cases hf18
      exact j_aret (pc := 131) hc (QokX.ret hq) hre (Or.inl ⟨_, rfl⟩) dX1_letters_131
    · have hf19 := (if_neg hh).symm.trans hf8
      clear hf8
      refine j_loc (L' := [(0, vr (some a0))]) [0] rfl ?_
      exact w_X1_letters_n88 hc ho hnL hrm hre hct hex hq hf19
set_option maxRecDepth 100000 in
set_option maxHeartbeats 2000000 in
theorem w_X1_letters_n10 {f : CfT} {mo : MO} {a0 : Nat} {r : ((Option Nat) ⊕ Nat)} {S1 : HS} (hc : cf_cc f = cX1_letters) (ho : cf_ow f = "TableCatalog$Reader") (hnL : cf_nL f = 2) (hrm : cf_rm f = (7, 201)) (hre : cf_re f = (some (.object "TableCatalog$Term"))) (hct : cf_ct f = false) (hex : cf_ex f = []) (hq : QokX f (rs_r r) S1 mo) : ∀ (n : Nat) (x1 : Int32) (S : HS), f_X1_letters_n10 a0 n x1 S = some (r, S1) → JJ f S mo 10 [(0, vr (some a0)), (1, vi x1)] [] := by
  intro n
  induction n with
  | zero =>
    intro x1 S hf
    have hf : (none : Option (((Option Nat) ⊕ Nat) × HS)) = some (r, S1) := hf
    cases hf
  | succ n ih =>
    intro x1 S hf
    unfold f_X1_letters_n10 at hf
    have hk_10 := ih
    refine j_aload_n (pc := 10) hc dX1_letters_10 0 rfl rfl ?_
    obtain ⟨v1, ev1, hf1⟩ := ob_i hf
    clear hf
    refine j_getI (pc := 11) hc ho fa_X1_50_2 dX1_letters_11 ev1 ?_
    refine j_aload_n (pc := 14) hc dX1_letters_14 0 rfl rfl ?_
    obtain ⟨v2, ev2, hf2⟩ := ob_i hf1
    clear hf1
    refine j_getI (pc := 15) hc ho fa_X1_53_2 dX1_letters_15 ev2 ?_
    refine j_icmp_ge (pc := 18) hc dX1_letters_18 (tgt := 63) rfl (fun hh => ?_) (fun hh => ?_)
    · have hf3 := (if_pos hh).symm.trans hf2
      clear hf2
      exact w_X1_letters_n63 hc ho hnL hrm hre hct hex hq hf3
    · have hf4 := (if_neg hh).symm.trans hf2
      clear hf2
      refine j_aload_n (pc := 21) hc dX1_letters_21 0 rfl rfl ?_
      obtain ⟨q3, eq3, hf5⟩ := ob_i hf4
      clear hf4
      refine j_getR (pc := 22) hc ho fa_X1_56_2 dX1_letters_22 eq3 ?_
      refine j_aload_n (pc := 25) hc dX1_letters_25 0 rfl rfl ?_
      obtain ⟨v4, ev4, hf6⟩ := ob_i hf5
      clear hf5
      refine j_getI (pc := 26) hc ho fa_X1_50_2 dX1_letters_26 ev4 ?_
      obtain ⟨a5, ea5, hf7⟩ := ob_i hf6
      clear hf6
      subst ea5
      obtain ⟨v6, ev6, hf8⟩ := ob_i hf7
      clear hf7
      refine j_bald (pc := 29) hc dX1_letters_29 ev6 ?_
      obtain ⟨v7, ev7, hf9⟩ := ob_i hf8
      clear hf8
      refine j_callSN (pc := 30) (As := [vi v6]) (rest := []) (st2 := [vi v7]) hc ho cn_X1_77 q365 (c_X0_isLetter ev7) hrm ⟨by decide, by decide⟩ rfl (Nat.le_of_ble_eq_true rfl) dX1_letters_30 rfl rfl ?_
      refine j_if_ne (pc := 33) hc dX1_letters_33 (tgt := 50) rfl (fun hh => ?_) (fun hh => ?_)
      · have hf10 := (if_neg hh).symm.trans hf9
        clear hf9
        exact w_X1_letters_n50 hc ho hnL hrm hre hct hex hq hk_10 hf10
      · have hf11 := (if_pos hh).symm.trans hf9
        clear hf9
        refine j_aload_n (pc := 36) hc dX1_letters_36 0 rfl rfl ?_
        obtain ⟨q8, eq8, hf12⟩ := ob_i hf11
        clear hf11
        refine j_getR (pc := 37) hc ho fa_X1_56_2 dX1_letters_37 eq8 ?_
        refine j_aload_n (pc := 40) hc dX1_letters_40 0 rfl rfl ?_
        obtain ⟨v9, ev9, hf13⟩ := ob_i hf12
        clear hf12
        refine j_getI (pc := 41) hc ho fa_X1_50_2 dX1_letters_41 ev9 ?_
        obtain ⟨a10, ea10, hf14⟩ := ob_i hf13
        clear hf13
        subst ea10
        obtain ⟨v11, ev11, hf15⟩ := ob_i hf14
        clear hf14
        refine j_bald (pc := 44) hc dX1_letters_44 ev11 ?_
        refine j_bipush (pc := 45) (v := (32)) hc dX1_letters_45 rfl ?_
        refine j_icmp_ne (pc := 47) hc dX1_letters_47 (tgt := 63) rfl (fun hh => ?_) (fun hh => ?_)
        · have hf16 := (if_neg hh).symm.trans hf15
          clear hf15
          exact w_X1_letters_n63 hc ho hnL hrm hre hct hex hq hf16
        · have hf17 := (if_pos hh).symm.trans hf15
          clear hf15
          exact w_X1_letters_n50 hc ho hnL hrm hre hct hex hq hk_10 hf17
set_option maxRecDepth 100000 in
set_option maxHeartbeats 2000000 in
theorem c_X1_letters {l : Launch} {g : PG} {mo : MO} {a0 : Nat} {x1 : Int32} {r : ((Option Nat) ⊕ Nat)} {S S1 : HS} (hf : f_X1_letters a0 x1 S = some (r, S1)) : (h_nx S ≤ h_nx S1 ∧ h_sl S ≤ h_sl S1) ∧ Cx l g yX1_letters (ws_ yX1_letters cX1_letters 2 (some (.object "TableCatalog$Term"))) 7 201 S mo [vr (some a0), vi x1] (rs_r r) S1 mo := by
  refine met_ofX false (by decide) (fun h => by first | rfl | cases h) rfl (Nat.le_of_ble_eq_true rfl) (fun f hl hg hc ho hnL hrm hre hct hex hq => ?_)
  subst hl
  subst hg
  unfold f_X1_letters at hf
  refine j_aload_n (pc := 0) hc dX1_letters_0 0 rfl rfl ?_
  refine j_dup (pc := 1) hc dX1_letters_1 rfl ?_
  obtain ⟨v1, ev1, hf1⟩ := ob_i hf
  clear hf
  refine j_getI (pc := 2) hc ho fa_X1_50_2 dX1_letters_2 ev1 ?_
  refine j_iconst (pc := 5) (v := (1)) hc dX1_letters_5 rfl ?_
  refine j_iadd (pc := 6) hc dX1_letters_6 ?_
  obtain ⟨T2, eT2, hf2⟩ := ob_i hf1
  clear hf1
  refine j_putI (pc := 7) hc ho fa_X1_50_2 (Or.inl rfl) dX1_letters_7 eT2 ?_
  exact w_X1_letters_n10 hc ho hnL hrm hre hct hex hq fu_ _ _ hf2
theorem cn_X1_230 : CN "TableCatalog$Reader" 230 yX0_isDigit cX0_isDigit 1 (some (.boolean)) 1 := ⟨⟨"TableCatalog", q761, q81, q763⟩, by decide, by decide, by decide +kernel⟩
def f_X1_number_n59 (a0 : Nat) (x1 : Int32) (S : HS) : Option (((Option Nat) ⊕ Nat) × HS) :=
  (g_fI S 2 19 a0).bind fun v1 =>
  (g_cls S 2 a0).bind fun u2 =>
  o_bd (f_X1_cut a0 x1 v1 S) fun q4 T3 =>
  (g_cls T3 2 a0).bind fun u5 =>
  (f_X1_tell a0 q4 T3).bind fun T6 =>
  (n_obj T6 6 2).bind fun T7 =>
  (f_X7_init (h_nx T6) x1 (110) T7).bind fun T8 =>
  some (Sum.inl (some (h_nx T6)), T8)
def f_X1_number_n0 (a0 : Nat) : Nat → Int32 → HS → Option (((Option Nat) ⊕ Nat) × HS)
  | 0, _, _ => none
  | n + 1, x1, S =>
    (g_fI S 2 19 a0).bind fun v1 =>
    (g_fI S 2 18 a0).bind fun v2 =>
    if v2 ≤ v1 then
      f_X1_number_n59 a0 x1 S
    else
      (g_fR S 2 17 a0).bind fun q3 =>
      (g_fI S 2 19 a0).bind fun v4 =>
      (q3).bind fun a5 =>
      (g_aI S 32 a5 v4).bind fun v6 =>
      (f_X0_isDigit v6).bind fun v7 =>
      if v7 = 0 then
        f_X1_number_n59 a0 x1 S
      else
        (g_fI S 2 19 a0).bind fun v8 =>
        if (v8 - x1) = (4) then
          (g_fI S 2 19 a0).bind fun v11 =>
          (g_cls S 2 a0).bind fun u12 =>
          o_bd (f_X1_wrong a0 (1) v11 S) fun q14 T13 =>
          (q14).bind fun a15 =>
          (g_thr T13 a15).bind fun u16 =>
          some (Sum.inr a15, T13)
        else
          (g_fI S 2 19 a0).bind fun v9 =>
          (p_fI S 2 19 a0 (v9 + (1))).bind fun T10 =>
          (fun x1 S => f_X1_number_n0 a0 n x1 S) x1 T10
def f_X1_number (a0 : Nat) (x1 : Int32) (S : HS) : Option (((Option Nat) ⊕ Nat) × HS) :=
  f_X1_number_n0 a0 fu_ x1 S
set_option maxRecDepth 100000 in
set_option maxHeartbeats 2000000 in
theorem w_X1_number_n59 {f : CfT} {mo : MO} {a0 : Nat} {r : ((Option Nat) ⊕ Nat)} {S1 : HS} (hc : cf_cc f = cX1_number) (ho : cf_ow f = "TableCatalog$Reader") (hnL : cf_nL f = 2) (hrm : cf_rm f = (7, 201)) (hre : cf_re f = (some (.object "TableCatalog$Term"))) (hct : cf_ct f = false) (hex : cf_ex f = []) (hq : QokX f (rs_r r) S1 mo) {x1 : Int32} {S : HS} (hf : f_X1_number_n59 a0 x1 S = some (r, S1)) : JJ f S mo 59 [(0, vr (some a0)), (1, vi x1)] [] := by
  unfold f_X1_number_n59 at hf
  refine j_aload_n (pc := 59) hc dX1_number_59 0 rfl rfl ?_
  refine j_aload_n (pc := 60) hc dX1_number_60 0 rfl rfl ?_
  refine j_iload_n (pc := 61) hc dX1_number_61 1 rfl rfl ?_
  refine j_aload_n (pc := 62) hc dX1_number_62 0 rfl rfl ?_
  obtain ⟨v1, ev1, hf1⟩ := ob_i hf
  clear hf
  refine j_getI (pc := 63) hc ho fa_X1_50_2 dX1_number_63 ev1 ?_
  obtain ⟨u2, eu2, hf2⟩ := ob_i hf1
  clear hf1
  obtain ⟨q4, T3, eq4, hf3⟩ := ob_c hf2
  clear hf2
  refine j_callV (pc := 66) (As := [vi x1, vi v1]) (rest := [vr (some a0)]) (st2 := [vr q4, vr (some a0)]) hc ho cw_X1_84 (c_X1_cut eq4) (Rc.of (g_cls_ok eu2) (by decide) (by decide) ci_X1) hrm ⟨by decide, by decide⟩ rfl (Nat.le_of_ble_eq_true rfl) dX1_number_66 rfl rfl ?_
  obtain ⟨u5, eu5, hf4⟩ := ob_i hf3
  clear hf3
  obtain ⟨T6, eT6, hf5⟩ := ob_i hf4
  clear hf4
  refine j_callV (pc := 69) (As := [vr q4]) (rest := []) (st2 := []) hc ho cw_X1_177 (c_X1_tell eT6) (Rc.of (g_cls_ok eu5) (by decide) (by decide) ci_X1) hrm ⟨by decide, by decide⟩ rfl (Nat.le_of_ble_eq_true rfl) dX1_number_69 rfl rfl ?_
  obtain ⟨T7, eT7, hf6⟩ := ob_i hf5
  clear hf5
  refine j_new (pc := 72) hc ho fn_X1_253 dX1_number_72 eT7 ?_
  refine j_dup (pc := 75) hc dX1_number_75 rfl ?_
  refine j_iload_n (pc := 76) hc dX1_number_76 1 rfl rfl ?_
  refine j_bipush (pc := 77) (v := (110)) hc dX1_number_77 rfl ?_
  obtain ⟨T8, eT8, hf7⟩ := ob_i hf6
  clear hf6
  refine j_callI (pc := 79) (As := [vi x1, vi (110)]) (rest := [vr (some (h_nx T6))]) (st2 := [vr (some (h_nx T6))]) hc ho cw_X1_255 (c_X7_init eT8) hrm ⟨by decide, by decide⟩ rfl (Nat.le_of_ble_eq_true rfl) dX1_number_79 rfl rfl ?_
  cases hf7
  exact j_aret (pc := 82) hc (QokX.ret hq) hre (Or.inl ⟨_, rfl⟩) dX1_number_82
set_option maxRecDepth 100000 in
set_option maxHeartbeats 2000000 in
theorem w_X1_number_n0 {f : CfT} {mo : MO} {a0 : Nat} {r : ((Option Nat) ⊕ Nat)} {S1 : HS} (hc : cf_cc f = cX1_number) (ho : cf_ow f = "TableCatalog$Reader") (hnL : cf_nL f = 2) (hrm : cf_rm f = (7, 201)) (hre : cf_re f = (some (.object "TableCatalog$Term"))) (hct : cf_ct f = false) (hex : cf_ex f = []) (hq : QokX f (rs_r r) S1 mo) : ∀ (n : Nat) (x1 : Int32) (S : HS), f_X1_number_n0 a0 n x1 S = some (r, S1) → JJ f S mo 0 [(0, vr (some a0)), (1, vi x1)] [] := by
  intro n
  induction n with
  | zero =>
    intro x1 S hf
    have hf : (none : Option (((Option Nat) ⊕ Nat) × HS)) = some (r, S1) := hf
    cases hf
  | succ n ih =>
    intro x1 S hf
    unfold f_X1_number_n0 at hf
    have hk_0 := ih
    refine j_aload_n (pc := 0) hc dX1_number_0 0 rfl rfl ?_
    obtain ⟨v1, ev1, hf1⟩ := ob_i hf
    clear hf
    refine j_getI (pc := 1) hc ho fa_X1_50_2 dX1_number_1 ev1 ?_
    refine j_aload_n (pc := 4) hc dX1_number_4 0 rfl rfl ?_
    obtain ⟨v2, ev2, hf2⟩ := ob_i hf1
    clear hf1
    refine j_getI (pc := 5) hc ho fa_X1_53_2 dX1_number_5 ev2 ?_
    refine j_icmp_ge (pc := 8) hc dX1_number_8 (tgt := 59) rfl (fun hh => ?_) (fun hh => ?_)
    · have hf3 := (if_pos hh).symm.trans hf2
      clear hf2
      exact w_X1_number_n59 hc ho hnL hrm hre hct hex hq hf3
    · have hf4 := (if_neg hh).symm.trans hf2
      clear hf2
      refine j_aload_n (pc := 11) hc dX1_number_11 0 rfl rfl ?_
      obtain ⟨q3, eq3, hf5⟩ := ob_i hf4
      clear hf4
      refine j_getR (pc := 12) hc ho fa_X1_56_2 dX1_number_12 eq3 ?_
      refine j_aload_n (pc := 15) hc dX1_number_15 0 rfl rfl ?_
      obtain ⟨v4, ev4, hf6⟩ := ob_i hf5
      clear hf5
      refine j_getI (pc := 16) hc ho fa_X1_50_2 dX1_number_16 ev4 ?_
      obtain ⟨a5, ea5, hf7⟩ := ob_i hf6
      clear hf6
      subst ea5
      obtain ⟨v6, ev6, hf8⟩ := ob_i hf7
      clear hf7
      refine j_bald (pc := 19) hc dX1_number_19 ev6 ?_
      obtain ⟨v7, ev7, hf9⟩ := ob_i hf8
      clear hf8
      refine j_callSN (pc := 20) (As := [vi v6]) (rest := []) (st2 := [vi v7]) hc ho cn_X1_230 q762 (c_X0_isDigit ev7) hrm ⟨by decide, by decide⟩ rfl (Nat.le_of_ble_eq_true rfl) dX1_number_20 rfl rfl ?_
      refine j_if_eq (pc := 23) hc dX1_number_23 (tgt := 59) rfl (fun hh => ?_) (fun hh => ?_)
      · have hf10 := (if_pos hh).symm.trans hf9
        clear hf9
        exact w_X1_number_n59 hc ho hnL hrm hre hct hex hq hf10
      · have hf11 := (if_neg hh).symm.trans hf9
        clear hf9
        refine j_aload_n (pc := 26) hc dX1_number_26 0 rfl rfl ?_
        obtain ⟨v8, ev8, hf12⟩ := ob_i hf11
        clear hf11
        refine j_getI (pc := 27) hc ho fa_X1_50_2 dX1_number_27 ev8 ?_
        refine j_iload_n (pc := 30) hc dX1_number_30 1 rfl rfl ?_
        refine j_isub (pc := 31) hc dX1_number_31 ?_
        refine j_iconst (pc := 32) (v := (4)) hc dX1_number_32 rfl ?_
        refine j_icmp_ne (pc := 33) hc dX1_number_33 (tgt := 46) rfl (fun hh => ?_) (fun hh => ?_)
        · have hf13 := (if_neg hh).symm.trans hf12
          clear hf12
          refine j_aload_n (pc := 46) hc dX1_number_46 0 rfl rfl ?_
          refine j_dup (pc := 47) hc dX1_number_47 rfl ?_
          obtain ⟨v9, ev9, hf14⟩ := ob_i hf13
          clear hf13
          refine j_getI (pc := 48) hc ho fa_X1_50_2 dX1_number_48 ev9 ?_
          refine j_iconst (pc := 51) (v := (1)) hc dX1_number_51 rfl ?_
          refine j_iadd (pc := 52) hc dX1_number_52 ?_
          obtain ⟨T10, eT10, hf15⟩ := ob_i hf14
          clear hf14
          refine j_putI (pc := 53) hc ho fa_X1_50_2 (Or.inl rfl) dX1_number_53 eT10 ?_
          refine j_goto (pc := 56) hc dX1_number_56 (tgt := 0) rfl ?_
          exact hk_0 _ _ hf15
        · have hf16 := (if_pos hh).symm.trans hf12
          clear hf12
          refine j_aload_n (pc := 36) hc dX1_number_36 0 rfl rfl ?_
          refine j_iconst (pc := 37) (v := (1)) hc dX1_number_37 rfl ?_
          refine j_aload_n (pc := 38) hc dX1_number_38 0 rfl rfl ?_
          obtain ⟨v11, ev11, hf17⟩ := ob_i hf16
          clear hf16
          refine j_getI (pc := 39) hc ho fa_X1_50_2 dX1_number_39 ev11 ?_
          obtain ⟨u12, eu12, hf18⟩ := ob_i hf17
          clear hf17
          obtain ⟨q14, T13, eq14, hf19⟩ := ob_c hf18
          clear hf18
          refine j_callV (pc := 42) (As := [vi (1), vi v11]) (rest := []) (st2 := [vr q14]) hc ho cw_X1_67 (c_X1_wrong eq14) (Rc.of (g_cls_ok eu12) (by decide) (by decide) ci_X1) hrm ⟨by decide, by decide⟩ rfl (Nat.le_of_ble_eq_true rfl) dX1_number_42 rfl rfl ?_
          obtain ⟨a15, ea15, hf20⟩ := ob_i hf19
          clear hf19
          subst ea15
          obtain ⟨u16, eu16, hf21⟩ := ob_i hf20
          clear hf20
          cases hf21
          exact j_athrow (pc := 45) hc hex hq dX1_number_45 (g_thr_ok eu16)
set_option maxRecDepth 100000 in
set_option maxHeartbeats 2000000 in
theorem c_X1_number {l : Launch} {g : PG} {mo : MO} {a0 : Nat} {x1 : Int32} {r : ((Option Nat) ⊕ Nat)} {S S1 : HS} (hf : f_X1_number a0 x1 S = some (r, S1)) : (h_nx S ≤ h_nx S1 ∧ h_sl S ≤ h_sl S1) ∧ Cx l g yX1_number (ws_ yX1_number cX1_number 2 (some (.object "TableCatalog$Term"))) 7 201 S mo [vr (some a0), vi x1] (rs_r r) S1 mo := by
  refine met_ofX false (by decide) (fun h => by first | rfl | cases h) rfl (Nat.le_of_ble_eq_true rfl) (fun f hl hg hc ho hnL hrm hre hct hex hq => ?_)
  subst hl
  subst hg
  unfold f_X1_number at hf
  exact w_X1_number_n0 hc ho hnL hrm hre hct hex hq fu_ _ _ hf
theorem cw_X1_108 : CV "TableCatalog$Reader" 108 RX1 yX1_is cX1_is 3 (some (.boolean)) 1 := ⟨⟨q356, q358, qs2, q82, q359⟩, rfl, by decide, by decide, by decide +kernel⟩
theorem cw_X1_115 : CV "TableCatalog$Reader" 115 RX1 yX1_name cX1_name 3 (some (.object "java/lang/String")) 0 := ⟨⟨q469, q471, qs6, q82, q472⟩, rfl, by decide, by decide, by decide +kernel⟩
theorem fn_X1_248 : FN "TableCatalog$Reader" 248 8 5 := ⟨RX9, TX9, tyX9, CI_X9, q816, q817, q104, by decide +kernel⟩
theorem cw_X1_250 : CT "TableCatalog$Reader" 250 yX9_init cX9_init 5 4 := ⟨⟨q818, rfl, q819, q104, q820⟩, by decide, by decide, by decide +kernel⟩
theorem fa_X1_25_2 : FA "TableCatalog$Reader" 25 2 2 23 (.object "java/util/ArrayList") 2 := ⟨RX1, TX1, 15, tyX1, 7, "TableCatalog$Reader", CI_X1, by decide, rfl, rfl, by decide +kernel, Or.inl ⟨q237, fun _ => ⟨rfl, rfl⟩⟩, fun h => (by cases h), Or.inl rfl⟩
theorem cw_X1_242 : CV "TableCatalog$Reader" 242 RX1 yX1_call cX1_call 6 (some (.object "TableCatalog$Term")) 4 := ⟨⟨q793, q795, qs21, q82, q796⟩, rfl, by decide, by decide, by decide +kernel⟩
theorem cw_X1_237 : CV "TableCatalog$Reader" 237 RX1 yX1_letters cX1_letters 2 (some (.object "TableCatalog$Term")) 1 := ⟨⟨q788, q790, qs20, q82, q791⟩, rfl, by decide, by decide, by decide +kernel⟩
theorem cw_X1_233 : CV "TableCatalog$Reader" 233 RX1 yX1_number cX1_number 2 (some (.object "TableCatalog$Term")) 1 := ⟨⟨q764, q766, qs19, q82, q767⟩, rfl, by decide, by decide, by decide +kernel⟩
def f_X1_term (kf : Nat → HS → Option (((Option Nat) ⊕ Nat) × HS)) (a0 : Nat) (S : HS) : Option (((Option Nat) ⊕ Nat) × HS) :=
  (g_cls S 2 a0).bind fun u1 =>
  o_bd (f_X1_here a0 S) fun v3 T2 =>
  (g_fI T2 2 19 a0).bind fun v4 =>
  (f_X0_isDigit v3).bind fun v5 =>
  if v5 = 0 then
    if v3 = (39) then
      (g_cls T2 2 a0).bind fun u49 =>
      o_tr (f_X1_letters a0 v4 T2) (fun q53 T51 =>
        some (Sum.inl q53, T51)
      ) (fun q52 T51 =>
        some (Sum.inr q52, T51)
      )
    else
      (g_cls T2 2 a0).bind fun u6 =>
      o_bd (f_X1_is a0 (some (h_ks T2 14)) T2) fun v8 T7 =>
      if v8 = 0 then
        (g_cls T7 2 a0).bind fun u9 =>
        o_bd (f_X1_is a0 (some (h_ks T7 16)) T7) fun v11 T10 =>
        if v11 = 0 then
          (g_cls T10 2 a0).bind fun u12 =>
          o_tr (f_X1_name a0 T10) (fun q16 T14 =>
            (g_cls T14 2 a0).bind fun u17 =>
            o_tr (f_X1_must a0 (46) T14) (fun z21 T19 =>
              (g_cls T19 2 a0).bind fun u22 =>
              o_tr (f_X1_name a0 T19) (fun q26 T24 =>
                (g_cls T24 2 a0).bind fun u27 =>
                (f_X1_tell a0 q16 T24).bind fun T28 =>
                (g_cls T28 2 a0).bind fun u29 =>
                (f_X1_tell a0 q26 T28).bind fun T30 =>
                (n_obj T30 8 5).bind fun T31 =>
                (g_fI T31 2 20 a0).bind fun v32 =>
                (f_X9_init (h_nx T30) v4 q16 v32 q26 T31).bind fun T33 =>
                (g_fR T33 2 23 a0).bind fun q34 =>
                (q34).bind fun a35 =>
                (g_cls T33 12 a35).bind fun u36 =>
                o_bd (f_J5_add a35 (some (h_nx T30)) T33) fun v38 T37 =>
                some (Sum.inl (some (h_nx T30)), T37)
              ) (fun q25 T24 =>
                some (Sum.inr q25, T24)
              )
            ) (fun q20 T19 =>
              some (Sum.inr q20, T19)
            )
          ) (fun q15 T14 =>
            some (Sum.inr q15, T14)
          )
        else
          (g_cls T10 2 a0).bind fun u39 =>
          o_tr (f_X1_call kf a0 v4 (110) (116) (some (h_ks T10 16)) T10) (fun q43 T41 =>
            some (Sum.inl q43, T41)
          ) (fun q42 T41 =>
            some (Sum.inr q42, T41)
          )
      else
        (g_cls T7 2 a0).bind fun u44 =>
        o_tr (f_X1_call kf a0 v4 (116) (110) (some (h_ks T7 14)) T7) (fun q48 T46 =>
          some (Sum.inl q48, T46)
        ) (fun q47 T46 =>
          some (Sum.inr q47, T46)
        )
  else
    (g_cls T2 2 a0).bind fun u54 =>
    o_tr (f_X1_number a0 v4 T2) (fun q58 T56 =>
      some (Sum.inl q58, T56)
    ) (fun q57 T56 =>
      some (Sum.inr q57, T56)
    )
set_option maxRecDepth 100000 in
set_option maxHeartbeats 2000000 in
theorem c_X1_term {l : Launch} {g : PG} {mo : MO} {a0 : Nat} {r : ((Option Nat) ⊕ Nat)} {S S1 : HS} {frK loK : Nat} {kf : Nat → HS → Option (((Option Nat) ⊕ Nat) × HS)} (hkf : ∀ {l : Launch} {g : PG} {mo : MO} {a : Nat} {S : HS} {S1 : HS} {r : ((Option Nat) ⊕ Nat)}, kf a S = some (r, S1) → (h_nx S ≤ h_nx S1 ∧ h_sl S ≤ h_sl S1) ∧ Cx l g yX1_formula (ws_ yX1_formula cX1_formula 4 (some (.object "TableCatalog$Formula"))) frK loK S mo [vr (some a)] (rs_r r) S1 mo) (hf : f_X1_term kf a0 S = some (r, S1)) : (h_nx S ≤ h_nx S1 ∧ h_sl S ≤ h_sl S1) ∧ Cx l g yX1_term (ws_ yX1_term cX1_term 6 (some (.object "TableCatalog$Term"))) (frK + 8) (loK + 223) S mo [vr (some a0)] (rs_r r) S1 mo := by
  refine met_ofX false (by decide) (fun h => by first | rfl | cases h) rfl (Nat.le_of_ble_eq_true rfl) (fun f hl hg hc ho hnL hrm hre hct hex hq => ?_)
  subst hl
  subst hg
  unfold f_X1_term at hf
  refine j_aload_n (pc := 0) hc dX1_term_0 0 rfl rfl ?_
  obtain ⟨u1, eu1, hf1⟩ := ob_i hf
  clear hf
  obtain ⟨v3, T2, ev3, hf2⟩ := ob_c hf1
  clear hf1
  refine j_callV (pc := 1) (As := []) (rest := []) (st2 := [vi v3]) hc ho cw_X1_63 (c_X1_here ev3) (Rc.of (g_cls_ok eu1) (by decide) (by decide) ci_X1) hrm ⟨by omega, by omega⟩ rfl (Nat.le_of_ble_eq_true rfl) dX1_term_1 rfl rfl ?_
  refine j_istore_n (pc := 4) (L' := [(1, vi v3), (0, vr (some a0))]) hc dX1_term_4 rfl hnL (by decide) rfl ?_
  refine j_aload_n (pc := 5) hc dX1_term_5 1 rfl rfl ?_
  obtain ⟨v4, ev4, hf3⟩ := ob_i hf2
  clear hf2
  refine j_getI (pc := 6) hc ho fa_X1_50_2 dX1_term_6 ev4 ?_
  refine j_istore_n (pc := 9) (L' := [(2, vi v4), (1, vi v3), (0, vr (some a0))]) hc dX1_term_9 rfl hnL (by decide) rfl ?_
  refine j_iload_n (pc := 10) hc dX1_term_10 1 rfl rfl ?_
  obtain ⟨v5, ev5, hf4⟩ := ob_i hf3
  clear hf3
  refine j_callSN (pc := 11) (As := [vi v3]) (rest := []) (st2 := [vi v5]) hc ho cn_X1_230 q762 (c_X0_isDigit ev5) hrm ⟨by omega, by omega⟩ rfl (Nat.le_of_ble_eq_true rfl) dX1_term_11 rfl rfl ?_
  refine j_if_eq (pc := 14) hc dX1_term_14 (tgt := 23) rfl (fun hh => ?_) (fun hh => ?_)
  · have hf5 := (if_pos hh).symm.trans hf4
    clear hf4
    refine j_iload_n (pc := 23) hc dX1_term_23 1 rfl rfl ?_
    refine j_bipush (pc := 24) (v := (39)) hc dX1_term_24 rfl ?_
    refine j_icmp_ne (pc := 26) hc dX1_term_26 (tgt := 35) rfl (fun hh => ?_) (fun hh => ?_)
    · have hf6 := (if_neg hh).symm.trans hf5
      clear hf5
      refine j_aload_n (pc := 35) hc dX1_term_35 2 rfl rfl ?_
      refine j_ldcS (pc := 36) hc ho (tx := "len") 14 rfl dX1_term_36 ?_
      obtain ⟨u6, eu6, hf7⟩ := ob_i hf6
      clear hf6
      obtain ⟨v8, T7, ev8, hf8⟩ := ob_c hf7
      clear hf7
      refine j_callV (pc := 38) (As := [vr (some (h_ks T2 14))]) (rest := []) (st2 := [vi v8]) hc ho cw_X1_108 (c_X1_is ev8) (Rc.of (g_cls_ok eu6) (by decide) (by decide) ci_X1) hrm ⟨by omega, by omega⟩ rfl (Nat.le_of_ble_eq_true rfl) dX1_term_38 rfl rfl ?_
      refine j_if_eq (pc := 41) hc dX1_term_41 (tgt := 56) rfl (fun hh => ?_) (fun hh => ?_)
      · have hf9 := (if_pos hh).symm.trans hf8
        clear hf8
        refine j_aload_n (pc := 56) hc dX1_term_56 2 rfl rfl ?_
        refine j_ldcS (pc := 57) hc ho (tx := "str") 16 rfl dX1_term_57 ?_
        obtain ⟨u9, eu9, hf10⟩ := ob_i hf9
        clear hf9
        obtain ⟨v11, T10, ev11, hf11⟩ := ob_c hf10
        clear hf10
        refine j_callV (pc := 59) (As := [vr (some (h_ks T7 16))]) (rest := []) (st2 := [vi v11]) hc ho cw_X1_108 (c_X1_is ev11) (Rc.of (g_cls_ok eu9) (by decide) (by decide) ci_X1) hrm ⟨by omega, by omega⟩ rfl (Nat.le_of_ble_eq_true rfl) dX1_term_59 rfl rfl ?_
        refine j_if_eq (pc := 62) hc dX1_term_62 (tgt := 77) rfl (fun hh => ?_) (fun hh => ?_)
        · have hf12 := (if_pos hh).symm.trans hf11
          clear hf11
          refine j_aload_n (pc := 77) hc dX1_term_77 2 rfl rfl ?_
          obtain ⟨u12, eu12, hf13⟩ := ob_i hf12
          clear hf12
          rcases ob_t hf13 with ⟨q16, T14, eq16, hf14⟩ | ⟨q15, T14, eq15, hf14⟩
          · refine j_backI (pc := 78) (st2 := [vr q16]) (c_X1_name (l := cf_l f) (g := cf_g f) (mo := mo) eq16).1 (runX_V (pc := 78) (As := []) (rest := []) hc ho cw_X1_115 (c_X1_name eq16).2 (Rc.of (g_cls_ok eu12) (by decide) (by decide) ci_X1) hrm ⟨by omega, by omega⟩ rfl (Nat.le_of_ble_eq_true rfl) dX1_term_78 rfl) rfl ?_
            refine j_astore_n (pc := 81) (L' := [(3, vr q16), (2, vi v4), (1, vi v3), (0, vr (some a0))]) hc dX1_term_81 rfl hnL (by decide) rfl ?_
            refine j_aload_n (pc := 82) hc dX1_term_82 3 rfl rfl ?_
            refine j_bipush (pc := 83) (v := (46)) hc dX1_term_83 rfl ?_
            obtain ⟨u17, eu17, hf15⟩ := ob_i hf14
            clear hf14
            rcases ob_t hf15 with ⟨z21, T19, ez21, hf16⟩ | ⟨q20, T19, eq20, hf16⟩
            · refine j_backI (pc := 85) (st2 := []) (c_X1_must (l := cf_l f) (g := cf_g f) (mo := mo) ez21).1 (runX_V (pc := 85) (As := [vi (46)]) (rest := []) hc ho cw_X1_134 (c_X1_must ez21).2 (Rc.of (g_cls_ok eu17) (by decide) (by decide) ci_X1) hrm ⟨by omega, by omega⟩ rfl (Nat.le_of_ble_eq_true rfl) dX1_term_85 rfl) rfl ?_
              refine j_aload_n (pc := 88) hc dX1_term_88 3 rfl rfl ?_
              obtain ⟨u22, eu22, hf17⟩ := ob_i hf16
              clear hf16
              rcases ob_t hf17 with ⟨q26, T24, eq26, hf18⟩ | ⟨q25, T24, eq25, hf18⟩
              · refine j_backI (pc := 89) (st2 := [vr q26]) (c_X1_name (l := cf_l f) (g := cf_g f) (mo := mo) eq26).1 (runX_V (pc := 89) (As := []) (rest := []) hc ho cw_X1_115 (c_X1_name eq26).2 (Rc.of (g_cls_ok eu22) (by decide) (by decide) ci_X1) hrm ⟨by omega, by omega⟩ rfl (Nat.le_of_ble_eq_true rfl) dX1_term_89 rfl) rfl ?_
                refine j_astore (pc := 92) (L' := [(4, vr q26), (3, vr q16), (2, vi v4), (1, vi v3), (0, vr (some a0))]) hc dX1_term_92 hnL (by decide) rfl ?_
                refine j_aload_n (pc := 94) hc dX1_term_94 4 rfl rfl ?_
                refine j_aload_n (pc := 95) hc dX1_term_95 1 rfl rfl ?_
                obtain ⟨u27, eu27, hf19⟩ := ob_i hf18
                clear hf18
                obtain ⟨T28, eT28, hf20⟩ := ob_i hf19
                clear hf19
                refine j_callV (pc := 96) (As := [vr q16]) (rest := []) (st2 := []) hc ho cw_X1_177 (c_X1_tell eT28) (Rc.of (g_cls_ok eu27) (by decide) (by decide) ci_X1) hrm ⟨by omega, by omega⟩ rfl (Nat.le_of_ble_eq_true rfl) dX1_term_96 rfl rfl ?_
                refine j_aload_n (pc := 99) hc dX1_term_99 4 rfl rfl ?_
                refine j_aload (pc := 100) hc dX1_term_100 0 rfl ?_
                obtain ⟨u29, eu29, hf21⟩ := ob_i hf20
                clear hf20
                obtain ⟨T30, eT30, hf22⟩ := ob_i hf21
                clear hf21
                refine j_callV (pc := 102) (As := [vr q26]) (rest := []) (st2 := []) hc ho cw_X1_177 (c_X1_tell eT30) (Rc.of (g_cls_ok eu29) (by decide) (by decide) ci_X1) hrm ⟨by omega, by omega⟩ rfl (Nat.le_of_ble_eq_true rfl) dX1_term_102 rfl rfl ?_
                obtain ⟨T31, eT31, hf23⟩ := ob_i hf22
                clear hf22
                refine j_new (pc := 105) hc ho fn_X1_248 dX1_term_105 eT31 ?_
                refine j_dup (pc := 108) hc dX1_term_108 rfl ?_
                refine j_iload_n (pc := 109) hc dX1_term_109 2 rfl rfl ?_
                refine j_aload_n (pc := 110) hc dX1_term_110 1 rfl rfl ?_
                refine j_aload_n (pc := 111) hc dX1_term_111 4 rfl rfl ?_
                obtain ⟨v32, ev32, hf24⟩ := ob_i hf23
                clear hf23
                refine j_getI (pc := 112) hc ho fa_X1_60_2 dX1_term_112 ev32 ?_
                refine j_aload (pc := 115) hc dX1_term_115 0 rfl ?_
                obtain ⟨T33, eT33, hf25⟩ := ob_i hf24
                clear hf24
                refine j_callI (pc := 117) (As := [vi v4, vr q16, vi v32, vr q26]) (rest := [vr (some (h_nx T30))]) (st2 := [vr (some (h_nx T30))]) hc ho cw_X1_250 (c_X9_init eT33) hrm ⟨by omega, by omega⟩ rfl (Nat.le_of_ble_eq_true rfl) dX1_term_117 rfl rfl ?_
                refine j_astore (pc := 120) (L' := [(5, vr (some (h_nx T30))), (4, vr q26), (3, vr q16), (2, vi v4), (1, vi v3), (0, vr (some a0))]) hc dX1_term_120 hnL (by decide) rfl ?_
                refine j_aload_n (pc := 122) hc dX1_term_122 5 rfl rfl ?_
                obtain ⟨q34, eq34, hf26⟩ := ob_i hf25
                clear hf25
                refine j_getR (pc := 123) hc ho fa_X1_25_2 dX1_term_123 eq34 ?_
                refine j_aload (pc := 126) hc dX1_term_126 0 rfl ?_
                obtain ⟨a35, ea35, hf27⟩ := ob_i hf26
                clear hf26
                subst ea35
                obtain ⟨u36, eu36, hf28⟩ := ob_i hf27
                clear hf27
                obtain ⟨v38, T37, ev38, hf29⟩ := ob_c hf28
                clear hf28
                refine j_callV (pc := 128) (As := [vr (some (h_nx T30))]) (rest := []) (st2 := [vi v38]) hc ho cw_X1_152 (c_J5_add ev38) (Rc.of (g_cls_ok eu36) (by decide) (by decide) ci_J5) hrm ⟨by omega, by omega⟩ rfl (Nat.le_of_ble_eq_true rfl) dX1_term_128 rfl rfl ?_
                refine j_pop (pc := 131) hc dX1_term_131 rfl ?_
                refine j_aload (pc := 132) hc dX1_term_132 0 rfl ?_
                cases hf29
                exact j_aret (pc := 134) hc (QokX.ret hq) hre (Or.inl ⟨_, rfl⟩) dX1_term_134
              · cases hf18
                exact j_backT (pc := 89) (c_X1_name (l := cf_l f) (g := cf_g f) (mo := mo) eq25).1 (runX_V (pc := 89) (As := []) (rest := []) hc ho cw_X1_115 (c_X1_name eq25).2 (Rc.of (g_cls_ok eu22) (by decide) (by decide) ci_X1) hrm ⟨by omega, by omega⟩ rfl (Nat.le_of_ble_eq_true rfl) dX1_term_89 rfl) hex hq
            · cases hf16
              exact j_backT (pc := 85) (c_X1_must (l := cf_l f) (g := cf_g f) (mo := mo) eq20).1 (runX_V (pc := 85) (As := [vi (46)]) (rest := []) hc ho cw_X1_134 (c_X1_must eq20).2 (Rc.of (g_cls_ok eu17) (by decide) (by decide) ci_X1) hrm ⟨by omega, by omega⟩ rfl (Nat.le_of_ble_eq_true rfl) dX1_term_85 rfl) hex hq
          · cases hf14
            exact j_backT (pc := 78) (c_X1_name (l := cf_l f) (g := cf_g f) (mo := mo) eq15).1 (runX_V (pc := 78) (As := []) (rest := []) hc ho cw_X1_115 (c_X1_name eq15).2 (Rc.of (g_cls_ok eu12) (by decide) (by decide) ci_X1) hrm ⟨by omega, by omega⟩ rfl (Nat.le_of_ble_eq_true rfl) dX1_term_78 rfl) hex hq
        · have hf30 := (if_neg hh).symm.trans hf11
          clear hf11
          refine j_aload_n (pc := 65) hc dX1_term_65 2 rfl rfl ?_
          refine j_iload_n (pc := 66) hc dX1_term_66 0 rfl rfl ?_
          refine j_bipush (pc := 67) (v := (110)) hc dX1_term_67 rfl ?_
          refine j_bipush (pc := 69) (v := (116)) hc dX1_term_69 rfl ?_
          refine j_ldcS (pc := 71) hc ho (tx := "str") 16 rfl dX1_term_71 ?_
          obtain ⟨u39, eu39, hf31⟩ := ob_i hf30
          clear hf30
          rcases ob_t hf31 with ⟨q43, T41, eq43, hf32⟩ | ⟨q42, T41, eq42, hf32⟩
          · refine j_backI (pc := 73) (st2 := [vr q43]) (c_X1_call hkf (l := cf_l f) (g := cf_g f) (mo := mo) eq43).1 (runX_V (pc := 73) (As := [vi v4, vi (110), vi (116), vr (some (h_ks T10 16))]) (rest := []) hc ho cw_X1_242 (c_X1_call hkf eq43).2 (Rc.of (g_cls_ok eu39) (by decide) (by decide) ci_X1) hrm ⟨by omega, by omega⟩ rfl (Nat.le_of_ble_eq_true rfl) dX1_term_73 rfl) rfl ?_
            cases hf32
            exact j_aret (pc := 76) hc (QokX.ret hq) hre (Or.inl ⟨_, rfl⟩) dX1_term_76
          · cases hf32
            exact j_backT (pc := 73) (c_X1_call hkf (l := cf_l f) (g := cf_g f) (mo := mo) eq42).1 (runX_V (pc := 73) (As := [vi v4, vi (110), vi (116), vr (some (h_ks T10 16))]) (rest := []) hc ho cw_X1_242 (c_X1_call hkf eq42).2 (Rc.of (g_cls_ok eu39) (by decide) (by decide) ci_X1) hrm ⟨by omega, by omega⟩ rfl (Nat.le_of_ble_eq_true rfl) dX1_term_73 rfl) hex hq
      · have hf33 := (if_neg hh).symm.trans hf8
        clear hf8
        refine j_aload_n (pc := 44) hc dX1_term_44 2 rfl rfl ?_
        refine j_iload_n (pc := 45) hc dX1_term_45 0 rfl rfl ?_
        refine j_bipush (pc := 46) (v := (116)) hc dX1_term_46 rfl ?_
        refine j_bipush (pc := 48) (v := (110)) hc dX1_term_48 rfl ?_
        refine j_ldcS (pc := 50) hc ho (tx := "len") 14 rfl dX1_term_50 ?_
        obtain ⟨u44, eu44, hf34⟩ := ob_i hf33
        clear hf33
        rcases ob_t hf34 with ⟨q48, T46, eq48, hf35⟩ | ⟨q47, T46, eq47, hf35⟩
        · refine j_backI (pc := 52) (st2 := [vr q48]) (c_X1_call hkf (l := cf_l f) (g := cf_g f) (mo := mo) eq48).1 (runX_V (pc := 52) (As := [vi v4, vi (116), vi (110), vr (some (h_ks T7 14))]) (rest := []) hc ho cw_X1_242 (c_X1_call hkf eq48).2 (Rc.of (g_cls_ok eu44) (by decide) (by decide) ci_X1) hrm ⟨by omega, by omega⟩ rfl (Nat.le_of_ble_eq_true rfl) dX1_term_52 rfl) rfl ?_
          cases hf35
          exact j_aret (pc := 55) hc (QokX.ret hq) hre (Or.inl ⟨_, rfl⟩) dX1_term_55
        · cases hf35
          exact j_backT (pc := 52) (c_X1_call hkf (l := cf_l f) (g := cf_g f) (mo := mo) eq47).1 (runX_V (pc := 52) (As := [vi v4, vi (116), vi (110), vr (some (h_ks T7 14))]) (rest := []) hc ho cw_X1_242 (c_X1_call hkf eq47).2 (Rc.of (g_cls_ok eu44) (by decide) (by decide) ci_X1) hrm ⟨by omega, by omega⟩ rfl (Nat.le_of_ble_eq_true rfl) dX1_term_52 rfl) hex hq
    · have hf36 := (if_pos hh).symm.trans hf5
      clear hf5
      refine j_aload_n (pc := 29) hc dX1_term_29 2 rfl rfl ?_
      refine j_iload_n (pc := 30) hc dX1_term_30 0 rfl rfl ?_
      obtain ⟨u49, eu49, hf37⟩ := ob_i hf36
      clear hf36
      rcases ob_t hf37 with ⟨q53, T51, eq53, hf38⟩ | ⟨q52, T51, eq52, hf38⟩
      · refine j_backI (pc := 31) (st2 := [vr q53]) (c_X1_letters (l := cf_l f) (g := cf_g f) (mo := mo) eq53).1 (runX_V (pc := 31) (As := [vi v4]) (rest := []) hc ho cw_X1_237 (c_X1_letters eq53).2 (Rc.of (g_cls_ok eu49) (by decide) (by decide) ci_X1) hrm ⟨by omega, by omega⟩ rfl (Nat.le_of_ble_eq_true rfl) dX1_term_31 rfl) rfl ?_
        cases hf38
        exact j_aret (pc := 34) hc (QokX.ret hq) hre (Or.inl ⟨_, rfl⟩) dX1_term_34
      · cases hf38
        exact j_backT (pc := 31) (c_X1_letters (l := cf_l f) (g := cf_g f) (mo := mo) eq52).1 (runX_V (pc := 31) (As := [vi v4]) (rest := []) hc ho cw_X1_237 (c_X1_letters eq52).2 (Rc.of (g_cls_ok eu49) (by decide) (by decide) ci_X1) hrm ⟨by omega, by omega⟩ rfl (Nat.le_of_ble_eq_true rfl) dX1_term_31 rfl) hex hq
  · have hf39 := (if_neg hh).symm.trans hf4
    clear hf4
    refine j_aload_n (pc := 17) hc dX1_term_17 2 rfl rfl ?_
    refine j_iload_n (pc := 18) hc dX1_term_18 0 rfl rfl ?_
    obtain ⟨u54, eu54, hf40⟩ := ob_i hf39
    clear hf39
    rcases ob_t hf40 with ⟨q58, T56, eq58, hf41⟩ | ⟨q57, T56, eq57, hf41⟩
    · refine j_backI (pc := 19) (st2 := [vr q58]) (c_X1_number (l := cf_l f) (g := cf_g f) (mo := mo) eq58).1 (runX_V (pc := 19) (As := [vi v4]) (rest := []) hc ho cw_X1_233 (c_X1_number eq58).2 (Rc.of (g_cls_ok eu54) (by decide) (by decide) ci_X1) hrm ⟨by omega, by omega⟩ rfl (Nat.le_of_ble_eq_true rfl) dX1_term_19 rfl) rfl ?_
      cases hf41
      exact j_aret (pc := 22) hc (QokX.ret hq) hre (Or.inl ⟨_, rfl⟩) dX1_term_22
    · cases hf41
      exact j_backT (pc := 19) (c_X1_number (l := cf_l f) (g := cf_g f) (mo := mo) eq57).1 (runX_V (pc := 19) (As := [vi v4]) (rest := []) hc ho cw_X1_233 (c_X1_number eq57).2 (Rc.of (g_cls_ok eu54) (by decide) (by decide) ci_X1) hrm ⟨by omega, by omega⟩ rfl (Nat.le_of_ble_eq_true rfl) dX1_term_19 rfl) hex hq
theorem fa_X1_211_5 : FA "TableCatalog$Reader" 211 5 2 113 (.object "java/util/ArrayList") 0 := ⟨RX5, TX5, 3, tyX5, 0, "TableCatalog$Formula", CI_X5, by decide, rfl, rfl, by decide +kernel, Or.inr ⟨by decide, "TableCatalog", q745⟩, fun h => (by cases h), Or.inl rfl⟩
theorem cw_X1_214 : CV "TableCatalog$Reader" 214 RX1 yX1_term cX1_term 6 (some (.object "TableCatalog$Term")) 0 := ⟨⟨q757, q759, qs18, q82, q760⟩, rfl, by decide, by decide, by decide +kernel⟩
theorem fa_X1_218_5 : FA "TableCatalog$Reader" 218 5 2 114 (.array .int) 0 := ⟨RX5, TX5, 3, tyX5, 1, "TableCatalog$Formula", CI_X5, by decide, rfl, rfl, by decide +kernel, Or.inr ⟨by decide, "TableCatalog", q747⟩, fun h => (by cases h), Or.inl rfl⟩
theorem fa_X1_221_5 : FA "TableCatalog$Reader" 221 5 2 115 (.array .int) 0 := ⟨RX5, TX5, 3, tyX5, 2, "TableCatalog$Formula", CI_X5, by decide, rfl, rfl, by decide +kernel, Or.inr ⟨by decide, "TableCatalog", q749⟩, fun h => (by cases h), Or.inl rfl⟩
theorem fn_X1_208 : FN "TableCatalog$Reader" 208 5 3 := ⟨RX5, TX5, tyX5, CI_X5, q736, q737, q100, by decide +kernel⟩
theorem cn_X1_210 : CN "TableCatalog$Reader" 210 yX5_init cX5_init 1 none 0 := ⟨⟨"TableCatalog", q738, q100, q740⟩, by decide, by decide, by decide +kernel⟩
def f_X1_formula_n109 (kf : Nat → HS → Option (((Option Nat) ⊕ Nat) × HS)) (k_25 : Option Nat → Int32 → HS → Option (((Option Nat) ⊕ Nat) × HS)) (a0 : Nat) (r1 : Option Nat) (sr1 : Option Nat) (S : HS) : Option (((Option Nat) ⊕ Nat) × HS) :=
  (g_cls S 2 a0).bind fun u1 =>
  (f_X1_tell a0 sr1 S).bind fun T2 =>
  (g_fI T2 2 19 a0).bind fun v3 =>
  (p_fI T2 2 19 a0 (v3 + (1))).bind fun T4 =>
  (r1).bind fun a5 =>
  (g_fR T4 5 113 a5).bind fun q6 =>
  (g_cls T4 2 a0).bind fun u7 =>
  o_tr (f_X1_term kf a0 T4) (fun q11 T9 =>
    (q6).bind fun a12 =>
    (g_cls T9 12 a12).bind fun u13 =>
    o_bd (f_J5_add a12 q11 T9) fun v15 T14 =>
    (g_cls T14 2 a0).bind fun u16 =>
    o_bd (f_X1_here a0 T14) fun v18 T17 =>
    k_25 (some a5) v18 T17
  ) (fun q10 T9 =>
    some (Sum.inr q10, T9)
  )
def f_X1_formula_n43 (kf : Nat → HS → Option (((Option Nat) ⊕ Nat) × HS)) (k_25 : Option Nat → Int32 → HS → Option (((Option Nat) ⊕ Nat) × HS)) (a0 : Nat) (r1 : Option Nat) (x2 : Int32) (S : HS) : Option (((Option Nat) ⊕ Nat) × HS) :=
  (r1).bind fun a1 =>
  (g_fR S 5 113 a1).bind fun q2 =>
  (q2).bind fun a3 =>
  (g_cls S 12 a3).bind fun u4 =>
  o_bd (f_J5_size a3 S) fun v6 T5 =>
  if v6 = (6) then
    (g_fI T5 2 19 a0).bind fun v14 =>
    (g_cls T5 2 a0).bind fun u15 =>
    o_bd (f_X1_wrong a0 (1) v14 T5) fun q17 T16 =>
    (q17).bind fun a18 =>
    (g_thr T16 a18).bind fun u19 =>
    some (Sum.inr a18, T16)
  else
    (g_fR T5 5 114 a1).bind fun q7 =>
    (q7).bind fun a8 =>
    (p_aI T5 31 a8 v6 x2).bind fun T9 =>
    (g_fR T9 5 115 a1).bind fun q10 =>
    (g_fI T9 2 19 a0).bind fun v11 =>
    (q10).bind fun a12 =>
    (p_aI T9 31 a12 v6 v11).bind fun T13 =>
    if x2 = (43) then
      f_X1_formula_n109 kf k_25 a0 (some a1) (some (h_ks T13 17)) T13
    else
      if x2 = (45) then
        f_X1_formula_n109 kf k_25 a0 (some a1) (some (h_ks T13 18)) T13
      else
        f_X1_formula_n109 kf k_25 a0 (some a1) (some (h_ks T13 19)) T13
def f_X1_formula_n25 (kf : Nat → HS → Option (((Option Nat) ⊕ Nat) × HS)) (a0 : Nat) : Nat → Option Nat → Int32 → HS → Option (((Option Nat) ⊕ Nat) × HS)
  | 0, _, _, _ => none
  | n + 1, r1, x2, S =>
    if x2 = (43) then
      f_X1_formula_n43 kf (fun r1 x2 S => f_X1_formula_n25 kf a0 n r1 x2 S) a0 r1 x2 S
    else
      if x2 = (45) then
        f_X1_formula_n43 kf (fun r1 x2 S => f_X1_formula_n25 kf a0 n r1 x2 S) a0 r1 x2 S
      else
        if x2 = (38) then
          f_X1_formula_n43 kf (fun r1 x2 S => f_X1_formula_n25 kf a0 n r1 x2 S) a0 r1 x2 S
        else
          some (Sum.inl r1, S)
def f_X1_formula_b (kf : Nat → HS → Option (((Option Nat) ⊕ Nat) × HS)) (a0 : Nat) (S : HS) : Option (((Option Nat) ⊕ Nat) × HS) :=
  (n_obj S 5 3).bind fun T1 =>
  (f_X5_init (h_nx S) T1).bind fun T2 =>
  (g_fR T2 5 113 (h_nx S)).bind fun q3 =>
  (g_cls T2 2 a0).bind fun u4 =>
  o_tr (f_X1_term kf a0 T2) (fun q8 T6 =>
    (q3).bind fun a9 =>
    (g_cls T6 12 a9).bind fun u10 =>
    o_bd (f_J5_add a9 q8 T6) fun v12 T11 =>
    (g_cls T11 2 a0).bind fun u13 =>
    o_bd (f_X1_here a0 T11) fun v15 T14 =>
    f_X1_formula_n25 kf a0 fu_ (some (h_nx S)) v15 T14
  ) (fun q7 T6 =>
    some (Sum.inr q7, T6)
  )
def f_X1_formula : Nat → Nat → HS → Option (((Option Nat) ⊕ Nat) × HS)
  | 0, _, _ => none
  | d + 1, a0, S => f_X1_formula_b (f_X1_formula d) a0 S
set_option maxRecDepth 100000 in
set_option maxHeartbeats 2000000 in
theorem w_X1_formula_n109 {f : CfT} {mo : MO} {a0 : Nat} {r : ((Option Nat) ⊕ Nat)} {S1 : HS} {frK loK : Nat} {kf : Nat → HS → Option (((Option Nat) ⊕ Nat) × HS)} (hc : cf_cc f = cX1_formula) (ho : cf_ow f = "TableCatalog$Reader") (hnL : cf_nL f = 4) (hrm : cf_rm f = ((frK + 9), (loK + 248))) (hre : cf_re f = (some (.object "TableCatalog$Formula"))) (hct : cf_ct f = false) (hex : cf_ex f = []) (hq : QokX f (rs_r r) S1 mo) (hkf : ∀ {l : Launch} {g : PG} {mo : MO} {a : Nat} {S : HS} {S1 : HS} {r : ((Option Nat) ⊕ Nat)}, kf a S = some (r, S1) → (h_nx S ≤ h_nx S1 ∧ h_sl S ≤ h_sl S1) ∧ Cx l g yX1_formula (ws_ yX1_formula cX1_formula 4 (some (.object "TableCatalog$Formula"))) frK loK S mo [vr (some a)] (rs_r r) S1 mo) {k_25 : Option Nat → Int32 → HS → Option (((Option Nat) ⊕ Nat) × HS)} (hk_25 : ∀ (r1 : Option Nat) (x2 : Int32) (S : HS), k_25 r1 x2 S = some (r, S1) → JJ f S mo 25 [(0, vr (some a0)), (1, vr r1), (2, vi x2)] []) {r1 : Option Nat} {sr1 : Option Nat} {S : HS} (hf : f_X1_formula_n109 kf k_25 a0 r1 sr1 S = some (r, S1)) : JJ f S mo 109 [(0, vr (some a0)), (1, vr r1)] [vr sr1, vr (some a0)] := by
  unfold f_X1_formula_n109 at hf
  obtain ⟨u1, eu1, hf1⟩ := ob_i hf
  clear hf
  obtain ⟨T2, eT2, hf2⟩ := ob_i hf1
  clear hf1
  refine j_callV (pc := 109) (As := [vr sr1]) (rest := []) (st2 := []) hc ho cw_X1_177 (c_X1_tell eT2) (Rc.of (g_cls_ok eu1) (by decide) (by decide) ci_X1) hrm ⟨by omega, by omega⟩ rfl (Nat.le_of_ble_eq_true rfl) dX1_formula_109 rfl rfl ?_
  refine j_aload_n (pc := 112) hc dX1_formula_112 0 rfl rfl ?_
  refine j_dup (pc := 113) hc dX1_formula_113 rfl ?_
  obtain ⟨v3, ev3, hf3⟩ := ob_i hf2
  clear hf2
  refine j_getI (pc := 114) hc ho fa_X1_50_2 dX1_formula_114 ev3 ?_
  refine j_iconst (pc := 117) (v := (1)) hc dX1_formula_117 rfl ?_
  refine j_iadd (pc := 118) hc dX1_formula_118 ?_
  obtain ⟨T4, eT4, hf4⟩ := ob_i hf3
  clear hf3
  refine j_putI (pc := 119) hc ho fa_X1_50_2 (Or.inl rfl) dX1_formula_119 eT4 ?_
  refine j_aload_n (pc := 122) hc dX1_formula_122 1 rfl rfl ?_
  obtain ⟨a5, ea5, hf5⟩ := ob_i hf4
  clear hf4
  subst ea5
  obtain ⟨q6, eq6, hf6⟩ := ob_i hf5
  clear hf5
  refine j_getR (pc := 123) hc ho fa_X1_211_5 dX1_formula_123 eq6 ?_
  refine j_aload_n (pc := 126) hc dX1_formula_126 0 rfl rfl ?_
  obtain ⟨u7, eu7, hf7⟩ := ob_i hf6
  clear hf6
  rcases ob_t hf7 with ⟨q11, T9, eq11, hf8⟩ | ⟨q10, T9, eq10, hf8⟩
  · refine j_backI (pc := 127) (st2 := [vr q11, vr q6]) (c_X1_term hkf (l := cf_l f) (g := cf_g f) (mo := mo) eq11).1 (runX_V (pc := 127) (As := []) (rest := [vr q6]) hc ho cw_X1_214 (c_X1_term hkf eq11).2 (Rc.of (g_cls_ok eu7) (by decide) (by decide) ci_X1) hrm ⟨by omega, by omega⟩ rfl (Nat.le_of_ble_eq_true rfl) dX1_formula_127 rfl) rfl ?_
    obtain ⟨a12, ea12, hf9⟩ := ob_i hf8
    clear hf8
    subst ea12
    obtain ⟨u13, eu13, hf10⟩ := ob_i hf9
    clear hf9
    obtain ⟨v15, T14, ev15, hf11⟩ := ob_c hf10
    clear hf10
    refine j_callV (pc := 130) (As := [vr q11]) (rest := []) (st2 := [vi v15]) hc ho cw_X1_152 (c_J5_add ev15) (Rc.of (g_cls_ok eu13) (by decide) (by decide) ci_J5) hrm ⟨by omega, by omega⟩ rfl (Nat.le_of_ble_eq_true rfl) dX1_formula_130 rfl rfl ?_
    refine j_pop (pc := 133) hc dX1_formula_133 rfl ?_
    refine j_aload_n (pc := 134) hc dX1_formula_134 0 rfl rfl ?_
    obtain ⟨u16, eu16, hf12⟩ := ob_i hf11
    clear hf11
    obtain ⟨v18, T17, ev18, hf13⟩ := ob_c hf12
    clear hf12
    refine j_callV (pc := 135) (As := []) (rest := []) (st2 := [vi v18]) hc ho cw_X1_63 (c_X1_here ev18) (Rc.of (g_cls_ok eu16) (by decide) (by decide) ci_X1) hrm ⟨by omega, by omega⟩ rfl (Nat.le_of_ble_eq_true rfl) dX1_formula_135 rfl rfl ?_
    refine j_istore_n (pc := 138) (L' := [(2, vi v18), (0, vr (some a0)), (1, vr (some a5))]) hc dX1_formula_138 rfl hnL (by decide) rfl ?_
    refine j_goto (pc := 139) hc dX1_formula_139 (tgt := 25) rfl ?_
    refine j_loc (L' := [(0, vr (some a0)), (1, vr (some a5)), (2, vi v18)]) [1, 2, 0] rfl ?_
    exact hk_25 _ _ _ hf13
  · cases hf8
    exact j_backT (pc := 127) (c_X1_term hkf (l := cf_l f) (g := cf_g f) (mo := mo) eq10).1 (runX_V (pc := 127) (As := []) (rest := [vr q6]) hc ho cw_X1_214 (c_X1_term hkf eq10).2 (Rc.of (g_cls_ok eu7) (by decide) (by decide) ci_X1) hrm ⟨by omega, by omega⟩ rfl (Nat.le_of_ble_eq_true rfl) dX1_formula_127 rfl) hex hq
set_option maxRecDepth 100000 in
set_option maxHeartbeats 2000000 in
theorem w_X1_formula_n43 {f : CfT} {mo : MO} {a0 : Nat} {r : ((Option Nat) ⊕ Nat)} {S1 : HS} {frK loK : Nat} {kf : Nat → HS → Option (((Option Nat) ⊕ Nat) × HS)} (hc : cf_cc f = cX1_formula) (ho : cf_ow f = "TableCatalog$Reader") (hnL : cf_nL f = 4) (hrm : cf_rm f = ((frK + 9), (loK + 248))) (hre : cf_re f = (some (.object "TableCatalog$Formula"))) (hct : cf_ct f = false) (hex : cf_ex f = []) (hq : QokX f (rs_r r) S1 mo) (hkf : ∀ {l : Launch} {g : PG} {mo : MO} {a : Nat} {S : HS} {S1 : HS} {r : ((Option Nat) ⊕ Nat)}, kf a S = some (r, S1) → (h_nx S ≤ h_nx S1 ∧ h_sl S ≤ h_sl S1) ∧ Cx l g yX1_formula (ws_ yX1_formula cX1_formula 4 (some (.object "TableCatalog$Formula"))) frK loK S mo [vr (some a)] (rs_r r) S1 mo) {k_25 : Option Nat → Int32 → HS → Option (((Option Nat) ⊕ Nat) × HS)} (hk_25 : ∀ (r1 : Option Nat) (x2 : Int32) (S : HS), k_25 r1 x2 S = some (r, S1) → JJ f S mo 25 [(0, vr (some a0)), (1, vr r1), (2, vi x2)] []) {r1 : Option Nat} {x2 : Int32} {S : HS} (hf : f_X1_formula_n43 kf k_25 a0 r1 x2 S = some (r, S1)) : JJ f S mo 43 [(0, vr (some a0)), (1, vr r1), (2, vi x2)] [] := by
  unfold f_X1_formula_n43 at hf
  refine j_aload_n (pc := 43) hc dX1_formula_43 1 rfl rfl ?_
  obtain ⟨a1, ea1, hf1⟩ := ob_i hf
  clear hf
  subst ea1
  obtain ⟨q2, eq2, hf2⟩ := ob_i hf1
  clear hf1
  refine j_getR (pc := 44) hc ho fa_X1_211_5 dX1_formula_44 eq2 ?_
  obtain ⟨a3, ea3, hf3⟩ := ob_i hf2
  clear hf2
  subst ea3
  obtain ⟨u4, eu4, hf4⟩ := ob_i hf3
  clear hf3
  obtain ⟨v6, T5, ev6, hf5⟩ := ob_c hf4
  clear hf4
  refine j_callV (pc := 47) (As := []) (rest := []) (st2 := [vi v6]) hc ho cw_X1_150 (c_J5_size ev6) (Rc.of (g_cls_ok eu4) (by decide) (by decide) ci_J5) hrm ⟨by omega, by omega⟩ rfl (Nat.le_of_ble_eq_true rfl) dX1_formula_47 rfl rfl ?_
  refine j_istore_n (pc := 50) (L' := [(3, vi v6), (0, vr (some a0)), (1, vr (some a1)), (2, vi x2)]) hc dX1_formula_50 rfl hnL (by decide) rfl ?_
  refine j_iload_n (pc := 51) hc dX1_formula_51 0 rfl rfl ?_
  refine j_bipush (pc := 52) (v := (6)) hc dX1_formula_52 rfl ?_
  refine j_icmp_ne (pc := 54) hc dX1_formula_54 (tgt := 67) rfl (fun hh => ?_) (fun hh => ?_)
  · have hf6 := (if_neg hh).symm.trans hf5
    clear hf5
    refine j_aload_n (pc := 67) hc dX1_formula_67 2 rfl rfl ?_
    obtain ⟨q7, eq7, hf7⟩ := ob_i hf6
    clear hf6
    refine j_getR (pc := 68) hc ho fa_X1_218_5 dX1_formula_68 eq7 ?_
    refine j_iload_n (pc := 71) hc dX1_formula_71 0 rfl rfl ?_
    refine j_iload_n (pc := 72) hc dX1_formula_72 3 rfl rfl ?_
    obtain ⟨a8, ea8, hf8⟩ := ob_i hf7
    clear hf7
    subst ea8
    obtain ⟨T9, eT9, hf9⟩ := ob_i hf8
    clear hf8
    refine j_iast (pc := 73) hc dX1_formula_73 eT9 ?_
    refine j_aload_n (pc := 74) hc dX1_formula_74 2 rfl rfl ?_
    obtain ⟨q10, eq10, hf10⟩ := ob_i hf9
    clear hf9
    refine j_getR (pc := 75) hc ho fa_X1_221_5 dX1_formula_75 eq10 ?_
    refine j_iload_n (pc := 78) hc dX1_formula_78 0 rfl rfl ?_
    refine j_aload_n (pc := 79) hc dX1_formula_79 1 rfl rfl ?_
    obtain ⟨v11, ev11, hf11⟩ := ob_i hf10
    clear hf10
    refine j_getI (pc := 80) hc ho fa_X1_50_2 dX1_formula_80 ev11 ?_
    obtain ⟨a12, ea12, hf12⟩ := ob_i hf11
    clear hf11
    subst ea12
    obtain ⟨T13, eT13, hf13⟩ := ob_i hf12
    clear hf12
    refine j_iast (pc := 83) hc dX1_formula_83 eT13 ?_
    refine j_aload_n (pc := 84) hc dX1_formula_84 1 rfl rfl ?_
    refine j_iload_n (pc := 85) hc dX1_formula_85 3 rfl rfl ?_
    refine j_bipush (pc := 86) (v := (43)) hc dX1_formula_86 rfl ?_
    refine j_icmp_ne (pc := 88) hc dX1_formula_88 (tgt := 96) rfl (fun hh => ?_) (fun hh => ?_)
    · have hf14 := (if_neg hh).symm.trans hf13
      clear hf13
      refine j_iload_n (pc := 96) hc dX1_formula_96 3 rfl rfl ?_
      refine j_bipush (pc := 97) (v := (45)) hc dX1_formula_97 rfl ?_
      refine j_icmp_ne (pc := 99) hc dX1_formula_99 (tgt := 107) rfl (fun hh => ?_) (fun hh => ?_)
      · have hf15 := (if_neg hh).symm.trans hf14
        clear hf14
        refine j_ldcS (pc := 107) hc ho (tx := "&") 19 rfl dX1_formula_107 ?_
        refine j_loc (L' := [(0, vr (some a0)), (1, vr (some a1))]) [1, 2] rfl ?_
        exact w_X1_formula_n109 hc ho hnL hrm hre hct hex hq hkf hk_25 hf15
      · have hf16 := (if_pos hh).symm.trans hf14
        clear hf14
        refine j_ldcS (pc := 102) hc ho (tx := "-") 18 rfl dX1_formula_102 ?_
        refine j_goto (pc := 104) hc dX1_formula_104 (tgt := 109) rfl ?_
        refine j_loc (L' := [(0, vr (some a0)), (1, vr (some a1))]) [1, 2] rfl ?_
        exact w_X1_formula_n109 hc ho hnL hrm hre hct hex hq hkf hk_25 hf16
    · have hf17 := (if_pos hh).symm.trans hf13
      clear hf13
      refine j_ldcS (pc := 91) hc ho (tx := "+") 17 rfl dX1_formula_91 ?_
      refine j_goto (pc := 93) hc dX1_formula_93 (tgt := 109) rfl ?_
      refine j_loc (L' := [(0, vr (some a0)), (1, vr (some a1))]) [1, 2] rfl ?_
      exact w_X1_formula_n109 hc ho hnL hrm hre hct hex hq hkf hk_25 hf17
  · have hf18 := (if_pos hh).symm.trans hf5
    clear hf5
    refine j_aload_n (pc := 57) hc dX1_formula_57 1 rfl rfl ?_
    refine j_iconst (pc := 58) (v := (1)) hc dX1_formula_58 rfl ?_
    refine j_aload_n (pc := 59) hc dX1_formula_59 1 rfl rfl ?_
    obtain ⟨v14, ev14, hf19⟩ := ob_i hf18
    clear hf18
    refine j_getI (pc := 60) hc ho fa_X1_50_2 dX1_formula_60 ev14 ?_
    obtain ⟨u15, eu15, hf20⟩ := ob_i hf19
    clear hf19
    obtain ⟨q17, T16, eq17, hf21⟩ := ob_c hf20
    clear hf20
    refine j_callV (pc := 63) (As := [vi (1), vi v14]) (rest := []) (st2 := [vr q17]) hc ho cw_X1_67 (c_X1_wrong eq17) (Rc.of (g_cls_ok eu15) (by decide) (by decide) ci_X1) hrm ⟨by omega, by omega⟩ rfl (Nat.le_of_ble_eq_true rfl) dX1_formula_63 rfl rfl ?_
    obtain ⟨a18, ea18, hf22⟩ := ob_i hf21
    clear hf21
    subst ea18
    obtain ⟨u19, eu19, hf23⟩ := ob_i hf22
    clear hf22
    cases hf23
    exact j_athrow (pc := 66) hc hex hq dX1_formula_66 (g_thr_ok eu19)
set_option maxRecDepth 100000 in
set_option maxHeartbeats 2000000 in
theorem w_X1_formula_n25 {f : CfT} {mo : MO} {a0 : Nat} {r : ((Option Nat) ⊕ Nat)} {S1 : HS} {frK loK : Nat} {kf : Nat → HS → Option (((Option Nat) ⊕ Nat) × HS)} (hc : cf_cc f = cX1_formula) (ho : cf_ow f = "TableCatalog$Reader") (hnL : cf_nL f = 4) (hrm : cf_rm f = ((frK + 9), (loK + 248))) (hre : cf_re f = (some (.object "TableCatalog$Formula"))) (hct : cf_ct f = false) (hex : cf_ex f = []) (hq : QokX f (rs_r r) S1 mo) (hkf : ∀ {l : Launch} {g : PG} {mo : MO} {a : Nat} {S : HS} {S1 : HS} {r : ((Option Nat) ⊕ Nat)}, kf a S = some (r, S1) → (h_nx S ≤ h_nx S1 ∧ h_sl S ≤ h_sl S1) ∧ Cx l g yX1_formula (ws_ yX1_formula cX1_formula 4 (some (.object "TableCatalog$Formula"))) frK loK S mo [vr (some a)] (rs_r r) S1 mo) : ∀ (n : Nat) (r1 : Option Nat) (x2 : Int32) (S : HS), f_X1_formula_n25 kf a0 n r1 x2 S = some (r, S1) → JJ f S mo 25 [(0, vr (some a0)), (1, vr r1), (2, vi x2)] [] := by
  intro n
  induction n with
  | zero =>
    intro r1 x2 S hf
    have hf : (none : Option (((Option Nat) ⊕ Nat) × HS)) = some (r, S1) := hf
    cases hf
  | succ n ih =>
    intro r1 x2 S hf
    unfold f_X1_formula_n25 at hf
    have hk_25 := ih
    refine j_iload_n (pc := 25) hc dX1_formula_25 2 rfl rfl ?_
    refine j_bipush (pc := 26) (v := (43)) hc dX1_formula_26 rfl ?_
    refine j_icmp_eq (pc := 28) hc dX1_formula_28 (tgt := 43) rfl (fun hh => ?_) (fun hh => ?_)
    · have hf1 := (if_pos hh).symm.trans hf
      clear hf
      exact w_X1_formula_n43 hc ho hnL hrm hre hct hex hq hkf hk_25 hf1
    · have hf2 := (if_neg hh).symm.trans hf
      clear hf
      refine j_iload_n (pc := 31) hc dX1_formula_31 2 rfl rfl ?_
      refine j_bipush (pc := 32) (v := (45)) hc dX1_formula_32 rfl ?_
      refine j_icmp_eq (pc := 34) hc dX1_formula_34 (tgt := 43) rfl (fun hh => ?_) (fun hh => ?_)
      · have hf3 := (if_pos hh).symm.trans hf2
        clear hf2
        exact w_X1_formula_n43 hc ho hnL hrm hre hct hex hq hkf hk_25 hf3
      · have hf4 := (if_neg hh).symm.trans hf2
        clear hf2
        refine j_iload_n (pc := 37) hc dX1_formula_37 2 rfl rfl ?_
        refine j_bipush (pc := 38) (v := (38)) hc dX1_formula_38 rfl ?_
        refine j_icmp_ne (pc := 40) hc dX1_formula_40 (tgt := 142) rfl (fun hh => ?_) (fun hh => ?_)
        · have hf5 := (if_neg hh).symm.trans hf4
          clear hf4
          refine j_aload_n (pc := 142) hc dX1_formula_142 1 rfl rfl ?_
          cases hf5
          exact j_aret (pc := 143) hc (QokX.ret hq) hre (Or.inl ⟨_, rfl⟩) dX1_formula_143
        · have hf6 := (if_pos hh).symm.trans hf4
          clear hf4
          exact w_X1_formula_n43 hc ho hnL hrm hre hct hex hq hkf hk_25 hf6
set_option maxRecDepth 100000 in
set_option maxHeartbeats 2000000 in
theorem c_X1_formula_b {l : Launch} {g : PG} {mo : MO} {a0 : Nat} {r : ((Option Nat) ⊕ Nat)} {S S1 : HS} {frK loK : Nat} {kf : Nat → HS → Option (((Option Nat) ⊕ Nat) × HS)} (hkf : ∀ {l : Launch} {g : PG} {mo : MO} {a : Nat} {S : HS} {S1 : HS} {r : ((Option Nat) ⊕ Nat)}, kf a S = some (r, S1) → (h_nx S ≤ h_nx S1 ∧ h_sl S ≤ h_sl S1) ∧ Cx l g yX1_formula (ws_ yX1_formula cX1_formula 4 (some (.object "TableCatalog$Formula"))) frK loK S mo [vr (some a)] (rs_r r) S1 mo) (hf : f_X1_formula_b kf a0 S = some (r, S1)) : (h_nx S ≤ h_nx S1 ∧ h_sl S ≤ h_sl S1) ∧ Cx l g yX1_formula (ws_ yX1_formula cX1_formula 4 (some (.object "TableCatalog$Formula"))) (frK + 9) (loK + 248) S mo [vr (some a0)] (rs_r r) S1 mo := by
  refine met_ofX false (by decide) (fun h => by first | rfl | cases h) rfl (Nat.le_of_ble_eq_true rfl) (fun f hl hg hc ho hnL hrm hre hct hex hq => ?_)
  subst hl
  subst hg
  unfold f_X1_formula_b at hf
  obtain ⟨T1, eT1, hf1⟩ := ob_i hf
  clear hf
  refine j_new (pc := 0) hc ho fn_X1_208 dX1_formula_0 eT1 ?_
  refine j_dup (pc := 3) hc dX1_formula_3 rfl ?_
  obtain ⟨T2, eT2, hf2⟩ := ob_i hf1
  clear hf1
  refine j_callIN (pc := 4) (As := []) (rest := [vr (some (h_nx S))]) (st2 := [vr (some (h_nx S))]) hc ho cn_X1_210 rfl q739 (c_X5_init eT2) hrm ⟨by omega, by omega⟩ rfl (Nat.le_of_ble_eq_true rfl) dX1_formula_4 rfl rfl ?_
  refine j_astore_n (pc := 7) (L' := [(1, vr (some (h_nx S))), (0, vr (some a0))]) hc dX1_formula_7 rfl hnL (by decide) rfl ?_
  refine j_aload_n (pc := 8) hc dX1_formula_8 0 rfl rfl ?_
  obtain ⟨q3, eq3, hf3⟩ := ob_i hf2
  clear hf2
  refine j_getR (pc := 9) hc ho fa_X1_211_5 dX1_formula_9 eq3 ?_
  refine j_aload_n (pc := 12) hc dX1_formula_12 1 rfl rfl ?_
  obtain ⟨u4, eu4, hf4⟩ := ob_i hf3
  clear hf3
  rcases ob_t hf4 with ⟨q8, T6, eq8, hf5⟩ | ⟨q7, T6, eq7, hf5⟩
  · refine j_backI (pc := 13) (st2 := [vr q8, vr q3]) (c_X1_term hkf (l := cf_l f) (g := cf_g f) (mo := mo) eq8).1 (runX_V (pc := 13) (As := []) (rest := [vr q3]) hc ho cw_X1_214 (c_X1_term hkf eq8).2 (Rc.of (g_cls_ok eu4) (by decide) (by decide) ci_X1) hrm ⟨by omega, by omega⟩ rfl (Nat.le_of_ble_eq_true rfl) dX1_formula_13 rfl) rfl ?_
    obtain ⟨a9, ea9, hf6⟩ := ob_i hf5
    clear hf5
    subst ea9
    obtain ⟨u10, eu10, hf7⟩ := ob_i hf6
    clear hf6
    obtain ⟨v12, T11, ev12, hf8⟩ := ob_c hf7
    clear hf7
    refine j_callV (pc := 16) (As := [vr q8]) (rest := []) (st2 := [vi v12]) hc ho cw_X1_152 (c_J5_add ev12) (Rc.of (g_cls_ok eu10) (by decide) (by decide) ci_J5) hrm ⟨by omega, by omega⟩ rfl (Nat.le_of_ble_eq_true rfl) dX1_formula_16 rfl rfl ?_
    refine j_pop (pc := 19) hc dX1_formula_19 rfl ?_
    refine j_aload_n (pc := 20) hc dX1_formula_20 1 rfl rfl ?_
    obtain ⟨u13, eu13, hf9⟩ := ob_i hf8
    clear hf8
    obtain ⟨v15, T14, ev15, hf10⟩ := ob_c hf9
    clear hf9
    refine j_callV (pc := 21) (As := []) (rest := []) (st2 := [vi v15]) hc ho cw_X1_63 (c_X1_here ev15) (Rc.of (g_cls_ok eu13) (by decide) (by decide) ci_X1) hrm ⟨by omega, by omega⟩ rfl (Nat.le_of_ble_eq_true rfl) dX1_formula_21 rfl rfl ?_
    refine j_istore_n (pc := 24) (L' := [(2, vi v15), (1, vr (some (h_nx S))), (0, vr (some a0))]) hc dX1_formula_24 rfl hnL (by decide) rfl ?_
    refine j_loc (L' := [(0, vr (some a0)), (1, vr (some (h_nx S))), (2, vi v15)]) [2, 1, 0] rfl ?_
    exact w_X1_formula_n25 hc ho hnL hrm hre hct hex hq hkf fu_ _ _ _ hf10
  · cases hf5
    exact j_backT (pc := 13) (c_X1_term hkf (l := cf_l f) (g := cf_g f) (mo := mo) eq7).1 (runX_V (pc := 13) (As := []) (rest := [vr q3]) hc ho cw_X1_214 (c_X1_term hkf eq7).2 (Rc.of (g_cls_ok eu4) (by decide) (by decide) ci_X1) hrm ⟨by omega, by omega⟩ rfl (Nat.le_of_ble_eq_true rfl) dX1_formula_13 rfl) hex hq
theorem cd_X1_formula : ∀ (d : Nat) {l : Launch} {g : PG} {mo : MO} {a0 : Nat} {r : ((Option Nat) ⊕ Nat)} {S S1 : HS} , f_X1_formula d a0 S = some (r, S1) → (h_nx S ≤ h_nx S1 ∧ h_sl S ≤ h_sl S1) ∧ Cx l g yX1_formula (ws_ yX1_formula cX1_formula 4 (some (.object "TableCatalog$Formula"))) (9 * d) (248 * d) S mo [vr (some a0)] (rs_r r) S1 mo := by
  intro d
  induction d with
  | zero =>
    intro l g mo a0 r S S1 hf
    have hf : (none : Option (((Option Nat) ⊕ Nat) × HS)) = some (r, S1) := hf
    cases hf
  | succ d ih =>
    intro l g mo a0 r S S1 hf
    have h9 := c_X1_formula_b (l := l) (g := g) (mo := mo) (frK := 9 * d) (loK := 248 * d) (kf := f_X1_formula d) (fun {l g mo a S S1 r} h => ih h) hf
    exact h9
theorem c_X1_formula (d : Nat) {l : Launch} {g : PG} {mo : MO} {a0 : Nat} {r : ((Option Nat) ⊕ Nat)} {S S1 : HS} (hf : f_X1_formula d a0 S = some (r, S1)) : (h_nx S ≤ h_nx S1 ∧ h_sl S ≤ h_sl S1) ∧ Cx l g yX1_formula (ws_ yX1_formula cX1_formula 4 (some (.object "TableCatalog$Formula"))) (9 * d) (248 * d) S mo [vr (some a0)] (rs_r r) S1 mo := cd_X1_formula d hf
def f_X1_goesOn (a0 : Nat) (x1 : Int32) (x2 : Int32) (S : HS) : Option ((Int32 ⊕ Nat) × HS) :=
  (g_cls S 2 a0).bind fun u1 =>
  o_bd (f_X1_here a0 S) fun v3 T2 =>
  if v3 = (44) then
    (g_fI T2 2 19 a0).bind fun v4 =>
    (p_fI T2 2 19 a0 (v4 + (1))).bind fun T5 =>
    if x1 = x2 then
      (g_cls T5 2 a0).bind fun u6 =>
      o_bd (f_X1_here a0 T5) fun v8 T7 =>
      (f_X0_isLetter v8).bind fun v9 =>
      if v9 = 0 then
        some (Sum.inl (1), T7)
      else
        (g_fI T7 2 19 a0).bind fun v10 =>
        (g_cls T7 2 a0).bind fun u11 =>
        o_bd (f_X1_wrong a0 (1) v10 T7) fun q13 T12 =>
        (q13).bind fun a14 =>
        (g_thr T12 a14).bind fun u15 =>
        some (Sum.inr a14, T12)
    else
      some (Sum.inl (1), T5)
  else
    some (Sum.inl (0), T2)
set_option maxRecDepth 100000 in
set_option maxHeartbeats 2000000 in
theorem c_X1_goesOn {l : Launch} {g : PG} {mo : MO} {a0 : Nat} {x1 : Int32} {x2 : Int32} {r : (Int32 ⊕ Nat)} {S S1 : HS} (hf : f_X1_goesOn a0 x1 x2 S = some (r, S1)) : (h_nx S ≤ h_nx S1 ∧ h_sl S ≤ h_sl S1) ∧ Cx l g yX1_goesOn (ws_ yX1_goesOn cX1_goesOn 3 (some (.boolean))) 2 82 S mo [vr (some a0), vi x1, vi x2] (rs_i r) S1 mo := by
  refine met_ofX false (by decide) (fun h => by first | rfl | cases h) rfl (Nat.le_of_ble_eq_true rfl) (fun f hl hg hc ho hnL hrm hre hct hex hq => ?_)
  subst hl
  subst hg
  unfold f_X1_goesOn at hf
  refine j_aload_n (pc := 0) hc dX1_goesOn_0 0 rfl rfl ?_
  obtain ⟨u1, eu1, hf1⟩ := ob_i hf
  clear hf
  obtain ⟨v3, T2, ev3, hf2⟩ := ob_c hf1
  clear hf1
  refine j_callV (pc := 1) (As := []) (rest := []) (st2 := [vi v3]) hc ho cw_X1_63 (c_X1_here ev3) (Rc.of (g_cls_ok eu1) (by decide) (by decide) ci_X1) hrm ⟨by decide, by decide⟩ rfl (Nat.le_of_ble_eq_true rfl) dX1_goesOn_1 rfl rfl ?_
  refine j_bipush (pc := 4) (v := (44)) hc dX1_goesOn_4 rfl ?_
  refine j_icmp_eq (pc := 6) hc dX1_goesOn_6 (tgt := 11) rfl (fun hh => ?_) (fun hh => ?_)
  · have hf3 := (if_pos hh).symm.trans hf2
    clear hf2
    refine j_aload_n (pc := 11) hc dX1_goesOn_11 0 rfl rfl ?_
    refine j_dup (pc := 12) hc dX1_goesOn_12 rfl ?_
    obtain ⟨v4, ev4, hf4⟩ := ob_i hf3
    clear hf3
    refine j_getI (pc := 13) hc ho fa_X1_50_2 dX1_goesOn_13 ev4 ?_
    refine j_iconst (pc := 16) (v := (1)) hc dX1_goesOn_16 rfl ?_
    refine j_iadd (pc := 17) hc dX1_goesOn_17 ?_
    obtain ⟨T5, eT5, hf5⟩ := ob_i hf4
    clear hf4
    refine j_putI (pc := 18) hc ho fa_X1_50_2 (Or.inl rfl) dX1_goesOn_18 eT5 ?_
    refine j_iload_n (pc := 21) hc dX1_goesOn_21 1 rfl rfl ?_
    refine j_iload_n (pc := 22) hc dX1_goesOn_22 2 rfl rfl ?_
    refine j_icmp_ne (pc := 23) hc dX1_goesOn_23 (tgt := 46) rfl (fun hh => ?_) (fun hh => ?_)
    · have hf6 := (if_neg hh).symm.trans hf5
      clear hf5
      refine j_iconst (pc := 46) (v := (1)) hc dX1_goesOn_46 rfl ?_
      cases hf6
      exact j_iret (pc := 47) hc (QokX.ret hq) hre rfl dX1_goesOn_47
    · have hf7 := (if_pos hh).symm.trans hf5
      clear hf5
      refine j_aload_n (pc := 26) hc dX1_goesOn_26 0 rfl rfl ?_
      obtain ⟨u6, eu6, hf8⟩ := ob_i hf7
      clear hf7
      obtain ⟨v8, T7, ev8, hf9⟩ := ob_c hf8
      clear hf8
      refine j_callV (pc := 27) (As := []) (rest := []) (st2 := [vi v8]) hc ho cw_X1_63 (c_X1_here ev8) (Rc.of (g_cls_ok eu6) (by decide) (by decide) ci_X1) hrm ⟨by decide, by decide⟩ rfl (Nat.le_of_ble_eq_true rfl) dX1_goesOn_27 rfl rfl ?_
      obtain ⟨v9, ev9, hf10⟩ := ob_i hf9
      clear hf9
      refine j_callSN (pc := 30) (As := [vi v8]) (rest := []) (st2 := [vi v9]) hc ho cn_X1_77 q365 (c_X0_isLetter ev9) hrm ⟨by decide, by decide⟩ rfl (Nat.le_of_ble_eq_true rfl) dX1_goesOn_30 rfl rfl ?_
      refine j_if_eq (pc := 33) hc dX1_goesOn_33 (tgt := 46) rfl (fun hh => ?_) (fun hh => ?_)
      · have hf11 := (if_pos hh).symm.trans hf10
        clear hf10
        refine j_iconst (pc := 46) (v := (1)) hc dX1_goesOn_46 rfl ?_
        cases hf11
        exact j_iret (pc := 47) hc (QokX.ret hq) hre rfl dX1_goesOn_47
      · have hf12 := (if_neg hh).symm.trans hf10
        clear hf10
        refine j_aload_n (pc := 36) hc dX1_goesOn_36 0 rfl rfl ?_
        refine j_iconst (pc := 37) (v := (1)) hc dX1_goesOn_37 rfl ?_
        refine j_aload_n (pc := 38) hc dX1_goesOn_38 0 rfl rfl ?_
        obtain ⟨v10, ev10, hf13⟩ := ob_i hf12
        clear hf12
        refine j_getI (pc := 39) hc ho fa_X1_50_2 dX1_goesOn_39 ev10 ?_
        obtain ⟨u11, eu11, hf14⟩ := ob_i hf13
        clear hf13
        obtain ⟨q13, T12, eq13, hf15⟩ := ob_c hf14
        clear hf14
        refine j_callV (pc := 42) (As := [vi (1), vi v10]) (rest := []) (st2 := [vr q13]) hc ho cw_X1_67 (c_X1_wrong eq13) (Rc.of (g_cls_ok eu11) (by decide) (by decide) ci_X1) hrm ⟨by decide, by decide⟩ rfl (Nat.le_of_ble_eq_true rfl) dX1_goesOn_42 rfl rfl ?_
        obtain ⟨a14, ea14, hf16⟩ := ob_i hf15
        clear hf15
        subst ea14
        obtain ⟨u15, eu15, hf17⟩ := ob_i hf16
        clear hf16
        cases hf17
        exact j_athrow (pc := 45) hc hex hq dX1_goesOn_45 (g_thr_ok eu15)
  · have hf18 := (if_neg hh).symm.trans hf2
    clear hf2
    refine j_iconst (pc := 9) (v := (0)) hc dX1_goesOn_9 rfl ?_
    cases hf18
    exact j_iret (pc := 10) hc (QokX.ret hq) hre rfl dX1_goesOn_10
theorem fa_X1_205_4 : FA "TableCatalog$Reader" 205 4 2 106 (.object "TableCatalog$Formula") 1 := ⟨RX4, TX4, 15, tyX4, 8, "TableCatalog$Table", CI_X4, by decide, rfl, rfl, by decide +kernel, Or.inr ⟨by decide, "TableCatalog", q572⟩, fun _ => rfl, Or.inl rfl⟩
theorem fa_X1_198_4 : FA "TableCatalog$Reader" 198 4 0 107 (.int) 1 := ⟨RX4, TX4, 15, tyX4, 9, "TableCatalog$Table", CI_X4, by decide, rfl, rfl, by decide +kernel, Or.inr ⟨by decide, "TableCatalog", q574⟩, fun _ => rfl, Or.inl rfl⟩
theorem fa_X1_32_2 : FA "TableCatalog$Reader" 32 2 2 25 (.array .int) 2 := ⟨RX1, TX1, 15, tyX1, 9, "TableCatalog$Reader", CI_X1, by decide, rfl, rfl, by decide +kernel, Or.inl ⟨q241, fun _ => ⟨rfl, rfl⟩⟩, fun h => (by cases h), Or.inl rfl⟩
theorem fa_X1_29_2 : FA "TableCatalog$Reader" 29 2 2 24 (.object "java/util/ArrayList") 2 := ⟨RX1, TX1, 15, tyX1, 8, "TableCatalog$Reader", CI_X1, by decide, rfl, rfl, by decide +kernel, Or.inl ⟨q239, fun _ => ⟨rfl, rfl⟩⟩, fun h => (by cases h), Or.inl rfl⟩
theorem cw_X1_173 : CV "TableCatalog$Reader" 173 RX1 yX1_goesOn cX1_goesOn 3 (some (.boolean)) 2 := ⟨⟨q720, q722, qs14, q82, q723⟩, rfl, by decide, by decide, by decide +kernel⟩
theorem fa_X1_194_4 : FA "TableCatalog$Reader" 194 4 2 105 (.object "TableCatalog$Formula") 1 := ⟨RX4, TX4, 15, tyX4, 7, "TableCatalog$Table", CI_X4, by decide, rfl, rfl, by decide +kernel, Or.inr ⟨by decide, "TableCatalog", q570⟩, fun _ => rfl, Or.inl rfl⟩
theorem cw_X1_155 : CV "TableCatalog$Reader" 155 RX1 yX1_column cX1_column 2 none 1 := ⟨⟨q625, q627, qs9, q82, q628⟩, rfl, by decide, by decide, by decide +kernel⟩
theorem fa_X1_183_4 : FA "TableCatalog$Reader" 183 4 2 101 (.object "java/util/ArrayList") 0 := ⟨RX4, TX4, 15, tyX4, 3, "TableCatalog$Table", CI_X4, by decide, rfl, rfl, by decide +kernel, Or.inr ⟨by decide, "TableCatalog", q561⟩, fun h => (by cases h), Or.inl rfl⟩
def f_X1_select_n228 (a0 : Nat) (sr1 : Option Nat) (S : HS) : Option ((Unit ⊕ Nat) × HS) :=
  (g_cls S 2 a0).bind fun u1 =>
  (f_X1_tell a0 sr1 S).bind fun T2 =>
  (g_fI T2 2 19 a0).bind fun v3 =>
  (p_fI T2 2 19 a0 (v3 + (1))).bind fun T4 =>
  (g_fR T4 2 22 a0).bind fun q5 =>
  (g_cls T4 2 a0).bind fun u6 =>
  o_tr (f_X1_formula 40 a0 T4) (fun q10 T8 =>
    (q5).bind fun a11 =>
    (p_fR T8 4 106 a11 q10).bind fun T12 =>
    some (Sum.inl (), T12)
  ) (fun q9 T8 =>
    some (Sum.inr q9, T8)
  )
def f_X1_select_n195 (a0 : Nat) (S : HS) : Option ((Unit ⊕ Nat) × HS) :=
  (g_fR S 2 22 a0).bind fun q1 =>
  (g_fI S 2 19 a0).bind fun v2 =>
  (q1).bind fun a3 =>
  (p_fI S 4 107 a3 v2).bind fun T4 =>
  (g_fR T4 2 17 a0).bind fun q5 =>
  (g_fI T4 2 19 a0).bind fun v6 =>
  (q5).bind fun a7 =>
  (g_aI T4 32 a7 v6).bind fun v8 =>
  if v8 = (60) then
    f_X1_select_n228 a0 (some (h_ks T4 22)) T4
  else
    f_X1_select_n228 a0 (some (h_ks T4 23)) T4
def f_X1_select_n85 (a0 : Nat) : Nat → HS → Option ((Unit ⊕ Nat) × HS)
  | 0, _ => none
  | n + 1, S =>
    (g_cls S 2 a0).bind fun u1 =>
    o_tr (f_X1_name a0 S) (fun q5 T3 =>
      (g_fR T3 2 25 a0).bind fun q6 =>
      (g_fR T3 2 24 a0).bind fun q7 =>
      (q7).bind fun a8 =>
      (g_cls T3 12 a8).bind fun u9 =>
      o_bd (f_J5_size a8 T3) fun v11 T10 =>
      (g_fI T10 2 20 a0).bind fun v12 =>
      (q6).bind fun a13 =>
      (p_aI T10 31 a13 v11 v12).bind fun T14 =>
      (g_fR T14 2 24 a0).bind fun q15 =>
      (q15).bind fun a16 =>
      (g_cls T14 12 a16).bind fun u17 =>
      o_bd (f_J5_add a16 q5 T14) fun v19 T18 =>
      (g_cls T18 2 a0).bind fun u20 =>
      (f_X1_tell a0 q5 T18).bind fun T21 =>
      (g_fR T21 2 24 a0).bind fun q22 =>
      (q22).bind fun a23 =>
      (g_cls T21 12 a23).bind fun u24 =>
      o_bd (f_J5_size a23 T21) fun v26 T25 =>
      (g_cls T25 2 a0).bind fun u27 =>
      o_tr (f_X1_goesOn a0 v26 (3) T25) (fun v31 T29 =>
        if v31 = 0 then
          (g_cls T29 2 a0).bind fun u32 =>
          o_bd (f_X1_is a0 (some (h_ks T29 21)) T29) fun v34 T33 =>
          if v34 = 0 then
            some (Sum.inl (), T33)
          else
            (g_cls T33 2 a0).bind fun u35 =>
            (f_X1_tell a0 (some (h_ks T33 21)) T33).bind fun T36 =>
            (p_fI T36 2 21 a0 (0)).bind fun T37 =>
            (g_fR T37 2 22 a0).bind fun q38 =>
            (g_cls T37 2 a0).bind fun u39 =>
            o_tr (f_X1_formula 40 a0 T37) (fun q43 T41 =>
              (q38).bind fun a44 =>
              (p_fR T41 4 105 a44 q43).bind fun T45 =>
              (g_cls T45 2 a0).bind fun u46 =>
              o_bd (f_X1_here a0 T45) fun v48 T47 =>
              if v48 = (60) then
                f_X1_select_n195 a0 T47
              else
                (g_cls T47 2 a0).bind fun u49 =>
                o_bd (f_X1_here a0 T47) fun v51 T50 =>
                if v51 = (61) then
                  f_X1_select_n195 a0 T50
                else
                  (g_fI T50 2 19 a0).bind fun v52 =>
                  (g_cls T50 2 a0).bind fun u53 =>
                  o_bd (f_X1_wrong a0 (1) v52 T50) fun q55 T54 =>
                  (q55).bind fun a56 =>
                  (g_thr T54 a56).bind fun u57 =>
                  some (Sum.inr a56, T54)
            ) (fun q42 T41 =>
              some (Sum.inr q42, T41)
            )
        else
          (fun  S => f_X1_select_n85 a0 n  S) T29
      ) (fun q30 T29 =>
        some (Sum.inr q30, T29)
      )
    ) (fun q4 T3 =>
      some (Sum.inr q4, T3)
    )
def f_X1_select_n0 (a0 : Nat) : Nat → HS → Option ((Unit ⊕ Nat) × HS)
  | 0, _ => none
  | n + 1, S =>
    (g_cls S 2 a0).bind fun u1 =>
    o_tr (f_X1_name a0 S) (fun q5 T3 =>
      (g_cls T3 2 a0).bind fun u6 =>
      (f_X1_column a0 q5 T3).bind fun T7 =>
      (g_cls T7 2 a0).bind fun u8 =>
      o_tr (f_X1_must a0 (58) T7) (fun z12 T10 =>
        (g_cls T10 2 a0).bind fun u13 =>
        (f_X1_tell a0 q5 T10).bind fun T14 =>
        (p_fI T14 2 21 a0 (0)).bind fun T15 =>
        (g_fR T15 2 22 a0).bind fun q16 =>
        (q16).bind fun a17 =>
        (g_fR T15 4 101 a17).bind fun q18 =>
        (g_cls T15 2 a0).bind fun u19 =>
        o_tr (f_X1_formula 40 a0 T15) (fun q23 T21 =>
          (q18).bind fun a24 =>
          (g_cls T21 12 a24).bind fun u25 =>
          o_bd (f_J5_add a24 q23 T21) fun v27 T26 =>
          (g_fR T26 2 22 a0).bind fun q28 =>
          (q28).bind fun a29 =>
          (g_fR T26 4 100 a29).bind fun q30 =>
          (q30).bind fun a31 =>
          (g_cls T26 12 a31).bind fun u32 =>
          o_bd (f_J5_size a31 T26) fun v34 T33 =>
          (g_cls T33 2 a0).bind fun u35 =>
          o_tr (f_X1_goesOn a0 v34 (6) T33) (fun v39 T37 =>
            if v39 = 0 then
              (g_cls T37 2 a0).bind fun u40 =>
              o_bd (f_X1_is a0 (some (h_ks T37 20)) T37) fun v42 T41 =>
              if v42 = 0 then
                (g_fI T41 2 20 a0).bind fun v45 =>
                (g_cls T41 2 a0).bind fun u46 =>
                o_bd (f_X1_wrong a0 (1) v45 T41) fun q48 T47 =>
                (q48).bind fun a49 =>
                (g_thr T47 a49).bind fun u50 =>
                some (Sum.inr a49, T47)
              else
                (g_cls T41 2 a0).bind fun u43 =>
                (f_X1_tell a0 (some (h_ks T41 20)) T41).bind fun T44 =>
                f_X1_select_n85 a0 fu_ T44
            else
              (fun  S => f_X1_select_n0 a0 n  S) T37
          ) (fun q38 T37 =>
            some (Sum.inr q38, T37)
          )
        ) (fun q22 T21 =>
          some (Sum.inr q22, T21)
        )
      ) (fun q11 T10 =>
        some (Sum.inr q11, T10)
      )
    ) (fun q4 T3 =>
      some (Sum.inr q4, T3)
    )
def f_X1_select (a0 : Nat) (S : HS) : Option ((Unit ⊕ Nat) × HS) :=
  f_X1_select_n0 a0 fu_ S
set_option maxRecDepth 100000 in
set_option maxHeartbeats 2000000 in
theorem w_X1_select_n228 {f : CfT} {mo : MO} {a0 : Nat} {r : (Unit ⊕ Nat)} {S1 : HS} (hc : cf_cc f = cX1_select) (ho : cf_ow f = "TableCatalog$Reader") (hnL : cf_nL f = 2) (hrm : cf_rm f = (361, 9943)) (hre : cf_re f = none) (hct : cf_ct f = false) (hex : cf_ex f = []) (hq : QokX f (rs_v r) S1 mo) {sr1 : Option Nat} {S : HS} (hf : f_X1_select_n228 a0 sr1 S = some (r, S1)) : JJ f S mo 228 [(0, vr (some a0))] [vr sr1, vr (some a0)] := by
  unfold f_X1_select_n228 at hf
  obtain ⟨u1, eu1, hf1⟩ := ob_i hf
  clear hf
  obtain ⟨T2, eT2, hf2⟩ := ob_i hf1
  clear hf1
  refine j_callV (pc := 228) (As := [vr sr1]) (rest := []) (st2 := []) hc ho cw_X1_177 (c_X1_tell eT2) (Rc.of (g_cls_ok eu1) (by decide) (by decide) ci_X1) hrm ⟨by decide, by decide⟩ rfl (Nat.le_of_ble_eq_true rfl) dX1_select_228 rfl rfl ?_
  refine j_aload_n (pc := 231) hc dX1_select_231 0 rfl rfl ?_
  refine j_dup (pc := 232) hc dX1_select_232 rfl ?_
  obtain ⟨v3, ev3, hf3⟩ := ob_i hf2
  clear hf2
  refine j_getI (pc := 233) hc ho fa_X1_50_2 dX1_select_233 ev3 ?_
  refine j_iconst (pc := 236) (v := (1)) hc dX1_select_236 rfl ?_
  refine j_iadd (pc := 237) hc dX1_select_237 ?_
  obtain ⟨T4, eT4, hf4⟩ := ob_i hf3
  clear hf3
  refine j_putI (pc := 238) hc ho fa_X1_50_2 (Or.inl rfl) dX1_select_238 eT4 ?_
  refine j_aload_n (pc := 241) hc dX1_select_241 0 rfl rfl ?_
  obtain ⟨q5, eq5, hf5⟩ := ob_i hf4
  clear hf4
  refine j_getR (pc := 242) hc ho fa_X1_127_2 dX1_select_242 eq5 ?_
  refine j_aload_n (pc := 245) hc dX1_select_245 0 rfl rfl ?_
  obtain ⟨u6, eu6, hf6⟩ := ob_i hf5
  clear hf5
  rcases ob_t hf6 with ⟨q10, T8, eq10, hf7⟩ | ⟨q9, T8, eq9, hf7⟩
  · refine j_backI (pc := 246) (st2 := [vr q10, vr q5]) (c_X1_formula 40 (l := cf_l f) (g := cf_g f) (mo := mo) eq10).1 (runX_V (pc := 246) (As := []) (rest := [vr q5]) hc ho cw_X1_186 (c_X1_formula 40 eq10).2 (Rc.of (g_cls_ok eu6) (by decide) (by decide) ci_X1) hrm ⟨by decide, by decide⟩ rfl (Nat.le_of_ble_eq_true rfl) dX1_select_246 rfl) rfl ?_
    obtain ⟨a11, ea11, hf8⟩ := ob_i hf7
    clear hf7
    subst ea11
    obtain ⟨T12, eT12, hf9⟩ := ob_i hf8
    clear hf8
    refine j_putR (pc := 249) hc ho fa_X1_205_4 rfl (Or.inl rfl) dX1_select_249 eT12 ?_
    cases hf9
    exact j_vret (pc := 252) hc (QokX.ret hq) hre dX1_select_252
  · cases hf7
    exact j_backT (pc := 246) (c_X1_formula 40 (l := cf_l f) (g := cf_g f) (mo := mo) eq9).1 (runX_V (pc := 246) (As := []) (rest := [vr q5]) hc ho cw_X1_186 (c_X1_formula 40 eq9).2 (Rc.of (g_cls_ok eu6) (by decide) (by decide) ci_X1) hrm ⟨by decide, by decide⟩ rfl (Nat.le_of_ble_eq_true rfl) dX1_select_246 rfl) hex hq
set_option maxRecDepth 100000 in
set_option maxHeartbeats 2000000 in
theorem w_X1_select_n195 {f : CfT} {mo : MO} {a0 : Nat} {r : (Unit ⊕ Nat)} {S1 : HS} (hc : cf_cc f = cX1_select) (ho : cf_ow f = "TableCatalog$Reader") (hnL : cf_nL f = 2) (hrm : cf_rm f = (361, 9943)) (hre : cf_re f = none) (hct : cf_ct f = false) (hex : cf_ex f = []) (hq : QokX f (rs_v r) S1 mo) {S : HS} (hf : f_X1_select_n195 a0 S = some (r, S1)) : JJ f S mo 195 [(0, vr (some a0))] [] := by
  unfold f_X1_select_n195 at hf
  refine j_aload_n (pc := 195) hc dX1_select_195 0 rfl rfl ?_
  obtain ⟨q1, eq1, hf1⟩ := ob_i hf
  clear hf
  refine j_getR (pc := 196) hc ho fa_X1_127_2 dX1_select_196 eq1 ?_
  refine j_aload_n (pc := 199) hc dX1_select_199 0 rfl rfl ?_
  obtain ⟨v2, ev2, hf2⟩ := ob_i hf1
  clear hf1
  refine j_getI (pc := 200) hc ho fa_X1_50_2 dX1_select_200 ev2 ?_
  obtain ⟨a3, ea3, hf3⟩ := ob_i hf2
  clear hf2
  subst ea3
  obtain ⟨T4, eT4, hf4⟩ := ob_i hf3
  clear hf3
  refine j_putI (pc := 203) hc ho fa_X1_198_4 (Or.inl rfl) dX1_select_203 eT4 ?_
  refine j_aload_n (pc := 206) hc dX1_select_206 0 rfl rfl ?_
  refine j_aload_n (pc := 207) hc dX1_select_207 0 rfl rfl ?_
  obtain ⟨q5, eq5, hf5⟩ := ob_i hf4
  clear hf4
  refine j_getR (pc := 208) hc ho fa_X1_56_2 dX1_select_208 eq5 ?_
  refine j_aload_n (pc := 211) hc dX1_select_211 0 rfl rfl ?_
  obtain ⟨v6, ev6, hf6⟩ := ob_i hf5
  clear hf5
  refine j_getI (pc := 212) hc ho fa_X1_50_2 dX1_select_212 ev6 ?_
  obtain ⟨a7, ea7, hf7⟩ := ob_i hf6
  clear hf6
  subst ea7
  obtain ⟨v8, ev8, hf8⟩ := ob_i hf7
  clear hf7
  refine j_bald (pc := 215) hc dX1_select_215 ev8 ?_
  refine j_bipush (pc := 216) (v := (60)) hc dX1_select_216 rfl ?_
  refine j_icmp_ne (pc := 218) hc dX1_select_218 (tgt := 226) rfl (fun hh => ?_) (fun hh => ?_)
  · have hf9 := (if_neg hh).symm.trans hf8
    clear hf8
    refine j_ldcS (pc := 226) hc ho (tx := "=") 23 rfl dX1_select_226 ?_
    exact w_X1_select_n228 hc ho hnL hrm hre hct hex hq hf9
  · have hf10 := (if_pos hh).symm.trans hf8
    clear hf8
    refine j_ldcS (pc := 221) hc ho (tx := "<") 22 rfl dX1_select_221 ?_
    refine j_goto (pc := 223) hc dX1_select_223 (tgt := 228) rfl ?_
    exact w_X1_select_n228 hc ho hnL hrm hre hct hex hq hf10
set_option maxRecDepth 100000 in
set_option maxHeartbeats 2000000 in
theorem w_X1_select_n85 {f : CfT} {mo : MO} {a0 : Nat} {r : (Unit ⊕ Nat)} {S1 : HS} (hc : cf_cc f = cX1_select) (ho : cf_ow f = "TableCatalog$Reader") (hnL : cf_nL f = 2) (hrm : cf_rm f = (361, 9943)) (hre : cf_re f = none) (hct : cf_ct f = false) (hex : cf_ex f = []) (hq : QokX f (rs_v r) S1 mo) : ∀ (n : Nat)  (S : HS), f_X1_select_n85 a0 n S = some (r, S1) → JJ f S mo 85 [(0, vr (some a0))] [] := by
  intro n
  induction n with
  | zero =>
    intro S hf
    have hf : (none : Option ((Unit ⊕ Nat) × HS)) = some (r, S1) := hf
    cases hf
  | succ n ih =>
    intro S hf
    unfold f_X1_select_n85 at hf
    have hk_85 := ih
    refine j_aload_n (pc := 85) hc dX1_select_85 0 rfl rfl ?_
    obtain ⟨u1, eu1, hf1⟩ := ob_i hf
    clear hf
    rcases ob_t hf1 with ⟨q5, T3, eq5, hf2⟩ | ⟨q4, T3, eq4, hf2⟩
    · refine j_backI (pc := 86) (st2 := [vr q5]) (c_X1_name (l := cf_l f) (g := cf_g f) (mo := mo) eq5).1 (runX_V (pc := 86) (As := []) (rest := []) hc ho cw_X1_115 (c_X1_name eq5).2 (Rc.of (g_cls_ok eu1) (by decide) (by decide) ci_X1) hrm ⟨by decide, by decide⟩ rfl (Nat.le_of_ble_eq_true rfl) dX1_select_86 rfl) rfl ?_
      refine j_astore_n (pc := 89) (L' := [(1, vr q5), (0, vr (some a0))]) hc dX1_select_89 rfl hnL (by decide) rfl ?_
      refine j_aload_n (pc := 90) hc dX1_select_90 1 rfl rfl ?_
      obtain ⟨q6, eq6, hf3⟩ := ob_i hf2
      clear hf2
      refine j_getR (pc := 91) hc ho fa_X1_32_2 dX1_select_91 eq6 ?_
      refine j_aload_n (pc := 94) hc dX1_select_94 1 rfl rfl ?_
      obtain ⟨q7, eq7, hf4⟩ := ob_i hf3
      clear hf3
      refine j_getR (pc := 95) hc ho fa_X1_29_2 dX1_select_95 eq7 ?_
      obtain ⟨a8, ea8, hf5⟩ := ob_i hf4
      clear hf4
      subst ea8
      obtain ⟨u9, eu9, hf6⟩ := ob_i hf5
      clear hf5
      obtain ⟨v11, T10, ev11, hf7⟩ := ob_c hf6
      clear hf6
      refine j_callV (pc := 98) (As := []) (rest := [vr q6]) (st2 := [vi v11, vr q6]) hc ho cw_X1_150 (c_J5_size ev11) (Rc.of (g_cls_ok eu9) (by decide) (by decide) ci_J5) hrm ⟨by decide, by decide⟩ rfl (Nat.le_of_ble_eq_true rfl) dX1_select_98 rfl rfl ?_
      refine j_aload_n (pc := 101) hc dX1_select_101 1 rfl rfl ?_
      obtain ⟨v12, ev12, hf8⟩ := ob_i hf7
      clear hf7
      refine j_getI (pc := 102) hc ho fa_X1_60_2 dX1_select_102 ev12 ?_
      obtain ⟨a13, ea13, hf9⟩ := ob_i hf8
      clear hf8
      subst ea13
      obtain ⟨T14, eT14, hf10⟩ := ob_i hf9
      clear hf9
      refine j_iast (pc := 105) hc dX1_select_105 eT14 ?_
      refine j_aload_n (pc := 106) hc dX1_select_106 1 rfl rfl ?_
      obtain ⟨q15, eq15, hf11⟩ := ob_i hf10
      clear hf10
      refine j_getR (pc := 107) hc ho fa_X1_29_2 dX1_select_107 eq15 ?_
      refine j_aload_n (pc := 110) hc dX1_select_110 0 rfl rfl ?_
      obtain ⟨a16, ea16, hf12⟩ := ob_i hf11
      clear hf11
      subst ea16
      obtain ⟨u17, eu17, hf13⟩ := ob_i hf12
      clear hf12
      obtain ⟨v19, T18, ev19, hf14⟩ := ob_c hf13
      clear hf13
      refine j_callV (pc := 111) (As := [vr q5]) (rest := []) (st2 := [vi v19]) hc ho cw_X1_152 (c_J5_add ev19) (Rc.of (g_cls_ok eu17) (by decide) (by decide) ci_J5) hrm ⟨by decide, by decide⟩ rfl (Nat.le_of_ble_eq_true rfl) dX1_select_111 rfl rfl ?_
      refine j_pop (pc := 114) hc dX1_select_114 rfl ?_
      refine j_aload_n (pc := 115) hc dX1_select_115 1 rfl rfl ?_
      refine j_aload_n (pc := 116) hc dX1_select_116 0 rfl rfl ?_
      obtain ⟨u20, eu20, hf15⟩ := ob_i hf14
      clear hf14
      obtain ⟨T21, eT21, hf16⟩ := ob_i hf15
      clear hf15
      refine j_callV (pc := 117) (As := [vr q5]) (rest := []) (st2 := []) hc ho cw_X1_177 (c_X1_tell eT21) (Rc.of (g_cls_ok eu20) (by decide) (by decide) ci_X1) hrm ⟨by decide, by decide⟩ rfl (Nat.le_of_ble_eq_true rfl) dX1_select_117 rfl rfl ?_
      refine j_aload_n (pc := 120) hc dX1_select_120 1 rfl rfl ?_
      refine j_aload_n (pc := 121) hc dX1_select_121 1 rfl rfl ?_
      obtain ⟨q22, eq22, hf17⟩ := ob_i hf16
      clear hf16
      refine j_getR (pc := 122) hc ho fa_X1_29_2 dX1_select_122 eq22 ?_
      obtain ⟨a23, ea23, hf18⟩ := ob_i hf17
      clear hf17
      subst ea23
      obtain ⟨u24, eu24, hf19⟩ := ob_i hf18
      clear hf18
      obtain ⟨v26, T25, ev26, hf20⟩ := ob_c hf19
      clear hf19
      refine j_callV (pc := 125) (As := []) (rest := [vr (some a0)]) (st2 := [vi v26, vr (some a0)]) hc ho cw_X1_150 (c_J5_size ev26) (Rc.of (g_cls_ok eu24) (by decide) (by decide) ci_J5) hrm ⟨by decide, by decide⟩ rfl (Nat.le_of_ble_eq_true rfl) dX1_select_125 rfl rfl ?_
      refine j_iconst (pc := 128) (v := (3)) hc dX1_select_128 rfl ?_
      obtain ⟨u27, eu27, hf21⟩ := ob_i hf20
      clear hf20
      rcases ob_t hf21 with ⟨v31, T29, ev31, hf22⟩ | ⟨q30, T29, eq30, hf22⟩
      · refine j_backI (pc := 129) (st2 := [vi v31]) (c_X1_goesOn (l := cf_l f) (g := cf_g f) (mo := mo) ev31).1 (runX_V (pc := 129) (As := [vi v26, vi (3)]) (rest := []) hc ho cw_X1_173 (c_X1_goesOn ev31).2 (Rc.of (g_cls_ok eu27) (by decide) (by decide) ci_X1) hrm ⟨by decide, by decide⟩ rfl (Nat.le_of_ble_eq_true rfl) dX1_select_129 rfl) rfl ?_
        refine j_if_ne (pc := 132) hc dX1_select_132 (tgt := 85) rfl (fun hh => ?_) (fun hh => ?_)
        · have hf23 := (if_neg hh).symm.trans hf22
          clear hf22
          refine j_loc (L' := [(0, vr (some a0))]) [1] rfl ?_
          exact hk_85 _ hf23
        · have hf24 := (if_pos hh).symm.trans hf22
          clear hf22
          refine j_aload_n (pc := 135) hc dX1_select_135 1 rfl rfl ?_
          refine j_ldcS (pc := 136) hc ho (tx := "where") 21 rfl dX1_select_136 ?_
          obtain ⟨u32, eu32, hf25⟩ := ob_i hf24
          clear hf24
          obtain ⟨v34, T33, ev34, hf26⟩ := ob_c hf25
          clear hf25
          refine j_callV (pc := 138) (As := [vr (some (h_ks T29 21))]) (rest := []) (st2 := [vi v34]) hc ho cw_X1_108 (c_X1_is ev34) (Rc.of (g_cls_ok eu32) (by decide) (by decide) ci_X1) hrm ⟨by decide, by decide⟩ rfl (Nat.le_of_ble_eq_true rfl) dX1_select_138 rfl rfl ?_
          refine j_if_ne (pc := 141) hc dX1_select_141 (tgt := 145) rfl (fun hh => ?_) (fun hh => ?_)
          · have hf27 := (if_neg hh).symm.trans hf26
            clear hf26
            refine j_aload_n (pc := 145) hc dX1_select_145 1 rfl rfl ?_
            refine j_ldcS (pc := 146) hc ho (tx := "where") 21 rfl dX1_select_146 ?_
            obtain ⟨u35, eu35, hf28⟩ := ob_i hf27
            clear hf27
            obtain ⟨T36, eT36, hf29⟩ := ob_i hf28
            clear hf28
            refine j_callV (pc := 148) (As := [vr (some (h_ks T33 21))]) (rest := []) (st2 := []) hc ho cw_X1_177 (c_X1_tell eT36) (Rc.of (g_cls_ok eu35) (by decide) (by decide) ci_X1) hrm ⟨by decide, by decide⟩ rfl (Nat.le_of_ble_eq_true rfl) dX1_select_148 rfl rfl ?_
            refine j_aload_n (pc := 151) hc dX1_select_151 1 rfl rfl ?_
            refine j_iconst (pc := 152) (v := (0)) hc dX1_select_152 rfl ?_
            obtain ⟨T37, eT37, hf30⟩ := ob_i hf29
            clear hf29
            refine j_putI (pc := 153) hc ho fa_X1_180_2 (Or.inl rfl) dX1_select_153 eT37 ?_
            refine j_aload_n (pc := 156) hc dX1_select_156 1 rfl rfl ?_
            obtain ⟨q38, eq38, hf31⟩ := ob_i hf30
            clear hf30
            refine j_getR (pc := 157) hc ho fa_X1_127_2 dX1_select_157 eq38 ?_
            refine j_aload_n (pc := 160) hc dX1_select_160 1 rfl rfl ?_
            obtain ⟨u39, eu39, hf32⟩ := ob_i hf31
            clear hf31
            rcases ob_t hf32 with ⟨q43, T41, eq43, hf33⟩ | ⟨q42, T41, eq42, hf33⟩
            · refine j_backI (pc := 161) (st2 := [vr q43, vr q38]) (c_X1_formula 40 (l := cf_l f) (g := cf_g f) (mo := mo) eq43).1 (runX_V (pc := 161) (As := []) (rest := [vr q38]) hc ho cw_X1_186 (c_X1_formula 40 eq43).2 (Rc.of (g_cls_ok eu39) (by decide) (by decide) ci_X1) hrm ⟨by decide, by decide⟩ rfl (Nat.le_of_ble_eq_true rfl) dX1_select_161 rfl) rfl ?_
              obtain ⟨a44, ea44, hf34⟩ := ob_i hf33
              clear hf33
              subst ea44
              obtain ⟨T45, eT45, hf35⟩ := ob_i hf34
              clear hf34
              refine j_putR (pc := 164) hc ho fa_X1_194_4 rfl (Or.inl rfl) dX1_select_164 eT45 ?_
              refine j_aload_n (pc := 167) hc dX1_select_167 1 rfl rfl ?_
              obtain ⟨u46, eu46, hf36⟩ := ob_i hf35
              clear hf35
              obtain ⟨v48, T47, ev48, hf37⟩ := ob_c hf36
              clear hf36
              refine j_callV (pc := 168) (As := []) (rest := []) (st2 := [vi v48]) hc ho cw_X1_63 (c_X1_here ev48) (Rc.of (g_cls_ok eu46) (by decide) (by decide) ci_X1) hrm ⟨by decide, by decide⟩ rfl (Nat.le_of_ble_eq_true rfl) dX1_select_168 rfl rfl ?_
              refine j_bipush (pc := 171) (v := (60)) hc dX1_select_171 rfl ?_
              refine j_icmp_eq (pc := 173) hc dX1_select_173 (tgt := 195) rfl (fun hh => ?_) (fun hh => ?_)
              · have hf38 := (if_pos hh).symm.trans hf37
                clear hf37
                refine j_loc (L' := [(0, vr (some a0))]) [1] rfl ?_
                exact w_X1_select_n195 hc ho hnL hrm hre hct hex hq hf38
              · have hf39 := (if_neg hh).symm.trans hf37
                clear hf37
                refine j_aload_n (pc := 176) hc dX1_select_176 1 rfl rfl ?_
                obtain ⟨u49, eu49, hf40⟩ := ob_i hf39
                clear hf39
                obtain ⟨v51, T50, ev51, hf41⟩ := ob_c hf40
                clear hf40
                refine j_callV (pc := 177) (As := []) (rest := []) (st2 := [vi v51]) hc ho cw_X1_63 (c_X1_here ev51) (Rc.of (g_cls_ok eu49) (by decide) (by decide) ci_X1) hrm ⟨by decide, by decide⟩ rfl (Nat.le_of_ble_eq_true rfl) dX1_select_177 rfl rfl ?_
                refine j_bipush (pc := 180) (v := (61)) hc dX1_select_180 rfl ?_
                refine j_icmp_eq (pc := 182) hc dX1_select_182 (tgt := 195) rfl (fun hh => ?_) (fun hh => ?_)
                · have hf42 := (if_pos hh).symm.trans hf41
                  clear hf41
                  refine j_loc (L' := [(0, vr (some a0))]) [1] rfl ?_
                  exact w_X1_select_n195 hc ho hnL hrm hre hct hex hq hf42
                · have hf43 := (if_neg hh).symm.trans hf41
                  clear hf41
                  refine j_aload_n (pc := 185) hc dX1_select_185 1 rfl rfl ?_
                  refine j_iconst (pc := 186) (v := (1)) hc dX1_select_186 rfl ?_
                  refine j_aload_n (pc := 187) hc dX1_select_187 1 rfl rfl ?_
                  obtain ⟨v52, ev52, hf44⟩ := ob_i hf43
                  clear hf43
                  refine j_getI (pc := 188) hc ho fa_X1_50_2 dX1_select_188 ev52 ?_
                  obtain ⟨u53, eu53, hf45⟩ := ob_i hf44
                  clear hf44
                  obtain ⟨q55, T54, eq55, hf46⟩ := ob_c hf45
                  clear hf45
                  refine j_callV (pc := 191) (As := [vi (1), vi v52]) (rest := []) (st2 := [vr q55]) hc ho cw_X1_67 (c_X1_wrong eq55) (Rc.of (g_cls_ok eu53) (by decide) (by decide) ci_X1) hrm ⟨by decide, by decide⟩ rfl (Nat.le_of_ble_eq_true rfl) dX1_select_191 rfl rfl ?_
                  obtain ⟨a56, ea56, hf47⟩ := ob_i hf46
                  clear hf46
                  subst ea56
                  obtain ⟨u57, eu57, hf48⟩ := ob_i hf47
                  clear hf47
                  cases hf48
                  exact j_athrow (pc := 194) hc hex hq dX1_select_194 (g_thr_ok eu57)
            · cases hf33
              exact j_backT (pc := 161) (c_X1_formula 40 (l := cf_l f) (g := cf_g f) (mo := mo) eq42).1 (runX_V (pc := 161) (As := []) (rest := [vr q38]) hc ho cw_X1_186 (c_X1_formula 40 eq42).2 (Rc.of (g_cls_ok eu39) (by decide) (by decide) ci_X1) hrm ⟨by decide, by decide⟩ rfl (Nat.le_of_ble_eq_true rfl) dX1_select_161 rfl) hex hq
          · have hf49 := (if_pos hh).symm.trans hf26
            clear hf26
            cases hf49
            exact j_vret (pc := 144) hc (QokX.ret hq) hre dX1_select_144
      · cases hf22
        exact j_backT (pc := 129) (c_X1_goesOn (l := cf_l f) (g := cf_g f) (mo := mo) eq30).1 (runX_V (pc := 129) (As := [vi v26, vi (3)]) (rest := []) hc ho cw_X1_173 (c_X1_goesOn eq30).2 (Rc.of (g_cls_ok eu27) (by decide) (by decide) ci_X1) hrm ⟨by decide, by decide⟩ rfl (Nat.le_of_ble_eq_true rfl) dX1_select_129 rfl) hex hq
    · cases hf2
      exact j_backT (pc := 86) (c_X1_name (l := cf_l f) (g := cf_g f) (mo := mo) eq4).1 (runX_V (pc := 86) (As := []) (rest := []) hc ho cw_X1_115 (c_X1_name eq4).2 (Rc.of (g_cls_ok eu1) (by decide) (by decide) ci_X1) hrm ⟨by decide, by decide⟩ rfl (Nat.le_of_ble_eq_true rfl) dX1_select_86 rfl) hex hq
set_option maxRecDepth 100000 in
set_option maxHeartbeats 2000000 in
theorem w_X1_select_n0 {f : CfT} {mo : MO} {a0 : Nat} {r : (Unit ⊕ Nat)} {S1 : HS} (hc : cf_cc f = cX1_select) (ho : cf_ow f = "TableCatalog$Reader") (hnL : cf_nL f = 2) (hrm : cf_rm f = (361, 9943)) (hre : cf_re f = none) (hct : cf_ct f = false) (hex : cf_ex f = []) (hq : QokX f (rs_v r) S1 mo) : ∀ (n : Nat)  (S : HS), f_X1_select_n0 a0 n S = some (r, S1) → JJ f S mo 0 [(0, vr (some a0))] [] := by
  intro n
  induction n with
  | zero =>
    intro S hf
    have hf : (none : Option ((Unit ⊕ Nat) × HS)) = some (r, S1) := hf
    cases hf
  | succ n ih =>
    intro S hf
    unfold f_X1_select_n0 at hf
    have hk_0 := ih
    refine j_aload_n (pc := 0) hc dX1_select_0 0 rfl rfl ?_
    obtain ⟨u1, eu1, hf1⟩ := ob_i hf
    clear hf
    rcases ob_t hf1 with ⟨q5, T3, eq5, hf2⟩ | ⟨q4, T3, eq4, hf2⟩
    · refine j_backI (pc := 1) (st2 := [vr q5]) (c_X1_name (l := cf_l f) (g := cf_g f) (mo := mo) eq5).1 (runX_V (pc := 1) (As := []) (rest := []) hc ho cw_X1_115 (c_X1_name eq5).2 (Rc.of (g_cls_ok eu1) (by decide) (by decide) ci_X1) hrm ⟨by decide, by decide⟩ rfl (Nat.le_of_ble_eq_true rfl) dX1_select_1 rfl) rfl ?_
      refine j_astore_n (pc := 4) (L' := [(1, vr q5), (0, vr (some a0))]) hc dX1_select_4 rfl hnL (by decide) rfl ?_
      refine j_aload_n (pc := 5) hc dX1_select_5 1 rfl rfl ?_
      refine j_aload_n (pc := 6) hc dX1_select_6 0 rfl rfl ?_
      obtain ⟨u6, eu6, hf3⟩ := ob_i hf2
      clear hf2
      obtain ⟨T7, eT7, hf4⟩ := ob_i hf3
      clear hf3
      refine j_callV (pc := 7) (As := [vr q5]) (rest := []) (st2 := []) hc ho cw_X1_155 (c_X1_column eT7) (Rc.of (g_cls_ok eu6) (by decide) (by decide) ci_X1) hrm ⟨by decide, by decide⟩ rfl (Nat.le_of_ble_eq_true rfl) dX1_select_7 rfl rfl ?_
      refine j_aload_n (pc := 10) hc dX1_select_10 1 rfl rfl ?_
      refine j_bipush (pc := 11) (v := (58)) hc dX1_select_11 rfl ?_
      obtain ⟨u8, eu8, hf5⟩ := ob_i hf4
      clear hf4
      rcases ob_t hf5 with ⟨z12, T10, ez12, hf6⟩ | ⟨q11, T10, eq11, hf6⟩
      · refine j_backI (pc := 13) (st2 := []) (c_X1_must (l := cf_l f) (g := cf_g f) (mo := mo) ez12).1 (runX_V (pc := 13) (As := [vi (58)]) (rest := []) hc ho cw_X1_134 (c_X1_must ez12).2 (Rc.of (g_cls_ok eu8) (by decide) (by decide) ci_X1) hrm ⟨by decide, by decide⟩ rfl (Nat.le_of_ble_eq_true rfl) dX1_select_13 rfl) rfl ?_
        refine j_aload_n (pc := 16) hc dX1_select_16 1 rfl rfl ?_
        refine j_aload_n (pc := 17) hc dX1_select_17 0 rfl rfl ?_
        obtain ⟨u13, eu13, hf7⟩ := ob_i hf6
        clear hf6
        obtain ⟨T14, eT14, hf8⟩ := ob_i hf7
        clear hf7
        refine j_callV (pc := 18) (As := [vr q5]) (rest := []) (st2 := []) hc ho cw_X1_177 (c_X1_tell eT14) (Rc.of (g_cls_ok eu13) (by decide) (by decide) ci_X1) hrm ⟨by decide, by decide⟩ rfl (Nat.le_of_ble_eq_true rfl) dX1_select_18 rfl rfl ?_
        refine j_aload_n (pc := 21) hc dX1_select_21 1 rfl rfl ?_
        refine j_iconst (pc := 22) (v := (0)) hc dX1_select_22 rfl ?_
        obtain ⟨T15, eT15, hf9⟩ := ob_i hf8
        clear hf8
        refine j_putI (pc := 23) hc ho fa_X1_180_2 (Or.inl rfl) dX1_select_23 eT15 ?_
        refine j_aload_n (pc := 26) hc dX1_select_26 1 rfl rfl ?_
        obtain ⟨q16, eq16, hf10⟩ := ob_i hf9
        clear hf9
        refine j_getR (pc := 27) hc ho fa_X1_127_2 dX1_select_27 eq16 ?_
        obtain ⟨a17, ea17, hf11⟩ := ob_i hf10
        clear hf10
        subst ea17
        obtain ⟨q18, eq18, hf12⟩ := ob_i hf11
        clear hf11
        refine j_getR (pc := 30) hc ho fa_X1_183_4 dX1_select_30 eq18 ?_
        refine j_aload_n (pc := 33) hc dX1_select_33 1 rfl rfl ?_
        obtain ⟨u19, eu19, hf13⟩ := ob_i hf12
        clear hf12
        rcases ob_t hf13 with ⟨q23, T21, eq23, hf14⟩ | ⟨q22, T21, eq22, hf14⟩
        · refine j_backI (pc := 34) (st2 := [vr q23, vr q18]) (c_X1_formula 40 (l := cf_l f) (g := cf_g f) (mo := mo) eq23).1 (runX_V (pc := 34) (As := []) (rest := [vr q18]) hc ho cw_X1_186 (c_X1_formula 40 eq23).2 (Rc.of (g_cls_ok eu19) (by decide) (by decide) ci_X1) hrm ⟨by decide, by decide⟩ rfl (Nat.le_of_ble_eq_true rfl) dX1_select_34 rfl) rfl ?_
          obtain ⟨a24, ea24, hf15⟩ := ob_i hf14
          clear hf14
          subst ea24
          obtain ⟨u25, eu25, hf16⟩ := ob_i hf15
          clear hf15
          obtain ⟨v27, T26, ev27, hf17⟩ := ob_c hf16
          clear hf16
          refine j_callV (pc := 37) (As := [vr q23]) (rest := []) (st2 := [vi v27]) hc ho cw_X1_152 (c_J5_add ev27) (Rc.of (g_cls_ok eu25) (by decide) (by decide) ci_J5) hrm ⟨by decide, by decide⟩ rfl (Nat.le_of_ble_eq_true rfl) dX1_select_37 rfl rfl ?_
          refine j_pop (pc := 40) hc dX1_select_40 rfl ?_
          refine j_aload_n (pc := 41) hc dX1_select_41 1 rfl rfl ?_
          refine j_aload_n (pc := 42) hc dX1_select_42 1 rfl rfl ?_
          obtain ⟨q28, eq28, hf18⟩ := ob_i hf17
          clear hf17
          refine j_getR (pc := 43) hc ho fa_X1_127_2 dX1_select_43 eq28 ?_
          obtain ⟨a29, ea29, hf19⟩ := ob_i hf18
          clear hf18
          subst ea29
          obtain ⟨q30, eq30, hf20⟩ := ob_i hf19
          clear hf19
          refine j_getR (pc := 46) hc ho fa_X1_147_4 dX1_select_46 eq30 ?_
          obtain ⟨a31, ea31, hf21⟩ := ob_i hf20
          clear hf20
          subst ea31
          obtain ⟨u32, eu32, hf22⟩ := ob_i hf21
          clear hf21
          obtain ⟨v34, T33, ev34, hf23⟩ := ob_c hf22
          clear hf22
          refine j_callV (pc := 49) (As := []) (rest := [vr (some a0)]) (st2 := [vi v34, vr (some a0)]) hc ho cw_X1_150 (c_J5_size ev34) (Rc.of (g_cls_ok eu32) (by decide) (by decide) ci_J5) hrm ⟨by decide, by decide⟩ rfl (Nat.le_of_ble_eq_true rfl) dX1_select_49 rfl rfl ?_
          refine j_bipush (pc := 52) (v := (6)) hc dX1_select_52 rfl ?_
          obtain ⟨u35, eu35, hf24⟩ := ob_i hf23
          clear hf23
          rcases ob_t hf24 with ⟨v39, T37, ev39, hf25⟩ | ⟨q38, T37, eq38, hf25⟩
          · refine j_backI (pc := 54) (st2 := [vi v39]) (c_X1_goesOn (l := cf_l f) (g := cf_g f) (mo := mo) ev39).1 (runX_V (pc := 54) (As := [vi v34, vi (6)]) (rest := []) hc ho cw_X1_173 (c_X1_goesOn ev39).2 (Rc.of (g_cls_ok eu35) (by decide) (by decide) ci_X1) hrm ⟨by decide, by decide⟩ rfl (Nat.le_of_ble_eq_true rfl) dX1_select_54 rfl) rfl ?_
            refine j_if_ne (pc := 57) hc dX1_select_57 (tgt := 0) rfl (fun hh => ?_) (fun hh => ?_)
            · have hf26 := (if_neg hh).symm.trans hf25
              clear hf25
              refine j_loc (L' := [(0, vr (some a0))]) [1] rfl ?_
              exact hk_0 _ hf26
            · have hf27 := (if_pos hh).symm.trans hf25
              clear hf25
              refine j_aload_n (pc := 60) hc dX1_select_60 1 rfl rfl ?_
              refine j_ldcS (pc := 61) hc ho (tx := "from") 20 rfl dX1_select_61 ?_
              obtain ⟨u40, eu40, hf28⟩ := ob_i hf27
              clear hf27
              obtain ⟨v42, T41, ev42, hf29⟩ := ob_c hf28
              clear hf28
              refine j_callV (pc := 63) (As := [vr (some (h_ks T37 20))]) (rest := []) (st2 := [vi v42]) hc ho cw_X1_108 (c_X1_is ev42) (Rc.of (g_cls_ok eu40) (by decide) (by decide) ci_X1) hrm ⟨by decide, by decide⟩ rfl (Nat.le_of_ble_eq_true rfl) dX1_select_63 rfl rfl ?_
              refine j_if_ne (pc := 66) hc dX1_select_66 (tgt := 79) rfl (fun hh => ?_) (fun hh => ?_)
              · have hf30 := (if_neg hh).symm.trans hf29
                clear hf29
                refine j_aload_n (pc := 79) hc dX1_select_79 1 rfl rfl ?_
                refine j_ldcS (pc := 80) hc ho (tx := "from") 20 rfl dX1_select_80 ?_
                obtain ⟨u43, eu43, hf31⟩ := ob_i hf30
                clear hf30
                obtain ⟨T44, eT44, hf32⟩ := ob_i hf31
                clear hf31
                refine j_callV (pc := 82) (As := [vr (some (h_ks T41 20))]) (rest := []) (st2 := []) hc ho cw_X1_177 (c_X1_tell eT44) (Rc.of (g_cls_ok eu43) (by decide) (by decide) ci_X1) hrm ⟨by decide, by decide⟩ rfl (Nat.le_of_ble_eq_true rfl) dX1_select_82 rfl rfl ?_
                refine j_loc (L' := [(0, vr (some a0))]) [1] rfl ?_
                exact w_X1_select_n85 hc ho hnL hrm hre hct hex hq fu_ _ hf32
              · have hf33 := (if_pos hh).symm.trans hf29
                clear hf29
                refine j_aload_n (pc := 69) hc dX1_select_69 1 rfl rfl ?_
                refine j_iconst (pc := 70) (v := (1)) hc dX1_select_70 rfl ?_
                refine j_aload_n (pc := 71) hc dX1_select_71 1 rfl rfl ?_
                obtain ⟨v45, ev45, hf34⟩ := ob_i hf33
                clear hf33
                refine j_getI (pc := 72) hc ho fa_X1_60_2 dX1_select_72 ev45 ?_
                obtain ⟨u46, eu46, hf35⟩ := ob_i hf34
                clear hf34
                obtain ⟨q48, T47, eq48, hf36⟩ := ob_c hf35
                clear hf35
                refine j_callV (pc := 75) (As := [vi (1), vi v45]) (rest := []) (st2 := [vr q48]) hc ho cw_X1_67 (c_X1_wrong eq48) (Rc.of (g_cls_ok eu46) (by decide) (by decide) ci_X1) hrm ⟨by decide, by decide⟩ rfl (Nat.le_of_ble_eq_true rfl) dX1_select_75 rfl rfl ?_
                obtain ⟨a49, ea49, hf37⟩ := ob_i hf36
                clear hf36
                subst ea49
                obtain ⟨u50, eu50, hf38⟩ := ob_i hf37
                clear hf37
                cases hf38
                exact j_athrow (pc := 78) hc hex hq dX1_select_78 (g_thr_ok eu50)
          · cases hf25
            exact j_backT (pc := 54) (c_X1_goesOn (l := cf_l f) (g := cf_g f) (mo := mo) eq38).1 (runX_V (pc := 54) (As := [vi v34, vi (6)]) (rest := []) hc ho cw_X1_173 (c_X1_goesOn eq38).2 (Rc.of (g_cls_ok eu35) (by decide) (by decide) ci_X1) hrm ⟨by decide, by decide⟩ rfl (Nat.le_of_ble_eq_true rfl) dX1_select_54 rfl) hex hq
        · cases hf14
          exact j_backT (pc := 34) (c_X1_formula 40 (l := cf_l f) (g := cf_g f) (mo := mo) eq22).1 (runX_V (pc := 34) (As := []) (rest := [vr q18]) hc ho cw_X1_186 (c_X1_formula 40 eq22).2 (Rc.of (g_cls_ok eu19) (by decide) (by decide) ci_X1) hrm ⟨by decide, by decide⟩ rfl (Nat.le_of_ble_eq_true rfl) dX1_select_34 rfl) hex hq
      · cases hf6
        exact j_backT (pc := 13) (c_X1_must (l := cf_l f) (g := cf_g f) (mo := mo) eq11).1 (runX_V (pc := 13) (As := [vi (58)]) (rest := []) hc ho cw_X1_134 (c_X1_must eq11).2 (Rc.of (g_cls_ok eu8) (by decide) (by decide) ci_X1) hrm ⟨by decide, by decide⟩ rfl (Nat.le_of_ble_eq_true rfl) dX1_select_13 rfl) hex hq
    · cases hf2
      exact j_backT (pc := 1) (c_X1_name (l := cf_l f) (g := cf_g f) (mo := mo) eq4).1 (runX_V (pc := 1) (As := []) (rest := []) hc ho cw_X1_115 (c_X1_name eq4).2 (Rc.of (g_cls_ok eu1) (by decide) (by decide) ci_X1) hrm ⟨by decide, by decide⟩ rfl (Nat.le_of_ble_eq_true rfl) dX1_select_1 rfl) hex hq
set_option maxRecDepth 100000 in
set_option maxHeartbeats 2000000 in
theorem c_X1_select {l : Launch} {g : PG} {mo : MO} {a0 : Nat} {r : (Unit ⊕ Nat)} {S S1 : HS} (hf : f_X1_select a0 S = some (r, S1)) : (h_nx S ≤ h_nx S1 ∧ h_sl S ≤ h_sl S1) ∧ Cx l g yX1_select (ws_ yX1_select cX1_select 2 none) 361 9943 S mo [vr (some a0)] (rs_v r) S1 mo := by
  refine met_ofX false (by decide) (fun h => by first | rfl | cases h) rfl (Nat.le_of_ble_eq_true rfl) (fun f hl hg hc ho hnL hrm hre hct hex hq => ?_)
  subst hl
  subst hg
  unfold f_X1_select at hf
  exact w_X1_select_n0 hc ho hnL hrm hre hct hex hq fu_ _ hf
theorem fa_X1_170_4 : FA "TableCatalog$Reader" 170 4 2 102 (.array .char) 0 := ⟨RX4, TX4, 15, tyX4, 4, "TableCatalog$Table", CI_X4, by decide, rfl, rfl, by decide +kernel, Or.inr ⟨by decide, "TableCatalog", q565⟩, fun h => (by cases h), Or.inl rfl⟩
theorem cw_X1_159 : CV "TableCatalog$Reader" 159 RX1 yX1_word cX1_word 2 (some (.object "java/lang/String")) 0 := ⟨⟨q692, q694, qs13, q82, q695⟩, rfl, by decide, by decide, by decide +kernel⟩
def f_X1_source_n75 (k_6 : HS → Option ((Unit ⊕ Nat) × HS)) (a0 : Nat) (r3 : Option Nat) (S : HS) : Option ((Unit ⊕ Nat) × HS) :=
  (g_fR S 2 22 a0).bind fun q1 =>
  (q1).bind fun a2 =>
  (g_fR S 4 102 a2).bind fun q3 =>
  (g_fR S 2 22 a0).bind fun q4 =>
  (q4).bind fun a5 =>
  (g_fR S 4 100 a5).bind fun q6 =>
  (q6).bind fun a7 =>
  (g_cls S 12 a7).bind fun u8 =>
  o_bd (f_J5_size a7 S) fun v10 T9 =>
  (r3).bind fun a11 =>
  (g_cls T9 13 a11).bind fun u12 =>
  o_bd (f_J6_charAt a11 (0) T9) fun v14 T13 =>
  (q3).bind fun a15 =>
  (p_aI T13 33 a15 (v10 - (1)) (vp_nar .char v14)).bind fun T16 =>
  (g_fR T16 2 22 a0).bind fun q17 =>
  (q17).bind fun a18 =>
  (g_fR T16 4 100 a18).bind fun q19 =>
  (q19).bind fun a20 =>
  (g_cls T16 12 a20).bind fun u21 =>
  o_bd (f_J5_size a20 T16) fun v23 T22 =>
  (g_cls T22 2 a0).bind fun u24 =>
  o_tr (f_X1_goesOn a0 v23 (6) T22) (fun v28 T26 =>
    if v28 = 0 then
      (g_cls T26 2 a0).bind fun u29 =>
      o_tr (f_X1_must a0 (41) T26) (fun z33 T31 =>
        some (Sum.inl (), T31)
      ) (fun q32 T31 =>
        some (Sum.inr q32, T31)
      )
    else
      k_6 T26
  ) (fun q27 T26 =>
    some (Sum.inr q27, T26)
  )
def f_X1_source_n40 (k_6 : HS → Option ((Unit ⊕ Nat) × HS)) (a0 : Nat) (x2 : Int32) (sr0 : Option Nat) (S : HS) : Option ((Unit ⊕ Nat) × HS) :=
  (sr0).bind fun a1 =>
  (g_cls S 13 a1).bind fun u2 =>
  o_bd (f_J6_equals a1 (some (h_ks S 11)) S) fun v4 T3 =>
  if v4 = 0 then
    (g_cls T3 13 a1).bind fun u5 =>
    o_bd (f_J6_equals a1 (some (h_ks T3 12)) T3) fun v7 T6 =>
    if v7 = 0 then
      (g_cls T6 13 a1).bind fun u8 =>
      o_bd (f_J6_equals a1 (some (h_ks T6 13)) T6) fun v10 T9 =>
      if v10 = 0 then
        (g_cls T9 2 a0).bind fun u11 =>
        o_bd (f_X1_wrong a0 (1) x2 T9) fun q13 T12 =>
        (q13).bind fun a14 =>
        (g_thr T12 a14).bind fun u15 =>
        some (Sum.inr a14, T12)
      else
        f_X1_source_n75 k_6 a0 (some a1) T9
    else
      f_X1_source_n75 k_6 a0 (some a1) T6
  else
    f_X1_source_n75 k_6 a0 (some a1) T3
def f_X1_source_n6 (a0 : Nat) : Nat → HS → Option ((Unit ⊕ Nat) × HS)
  | 0, _ => none
  | n + 1, S =>
    (g_cls S 2 a0).bind fun u1 =>
    o_tr (f_X1_name a0 S) (fun q5 T3 =>
      (g_cls T3 2 a0).bind fun u6 =>
      (f_X1_column a0 q5 T3).bind fun T7 =>
      (g_cls T7 2 a0).bind fun u8 =>
      o_bd (f_X1_here a0 T7) fun v10 T9 =>
      (g_fI T9 2 19 a0).bind fun v11 =>
      (f_X0_isLetter v10).bind fun v12 =>
      if v12 = 0 then
        f_X1_source_n40 (fun  S => f_X1_source_n6 a0 n  S) a0 v11 (some (h_ks T9 10)) T9
      else
        (g_cls T9 2 a0).bind fun u13 =>
        o_bd (f_X1_word a0 T9) fun q15 T14 =>
        f_X1_source_n40 (fun  S => f_X1_source_n6 a0 n  S) a0 v11 q15 T14
    ) (fun q4 T3 =>
      some (Sum.inr q4, T3)
    )
def f_X1_source (a0 : Nat) (S : HS) : Option ((Unit ⊕ Nat) × HS) :=
  (g_cls S 2 a0).bind fun u1 =>
  o_tr (f_X1_must a0 (40) S) (fun z5 T3 =>
    f_X1_source_n6 a0 fu_ T3
  ) (fun q4 T3 =>
    some (Sum.inr q4, T3)
  )
set_option maxRecDepth 100000 in
set_option maxHeartbeats 2000000 in
theorem w_X1_source_n75 {f : CfT} {mo : MO} {a0 : Nat} {r : (Unit ⊕ Nat)} {S1 : HS} (hc : cf_cc f = cX1_source) (ho : cf_ow f = "TableCatalog$Reader") (hnL : cf_nL f = 4) (hrm : cf_rm f = (8, 223)) (hre : cf_re f = none) (hct : cf_ct f = false) (hex : cf_ex f = []) (hq : QokX f (rs_v r) S1 mo) {k_6 : HS → Option ((Unit ⊕ Nat) × HS)} (hk_6 : ∀  (S : HS), k_6 S = some (r, S1) → JJ f S mo 6 [(0, vr (some a0))] []) {r3 : Option Nat} {S : HS} (hf : f_X1_source_n75 k_6 a0 r3 S = some (r, S1)) : JJ f S mo 75 [(0, vr (some a0)), (3, vr r3)] [] := by
  unfold f_X1_source_n75 at hf
  refine j_aload_n (pc := 75) hc dX1_source_75 0 rfl rfl ?_
  obtain ⟨q1, eq1, hf1⟩ := ob_i hf
  clear hf
  refine j_getR (pc := 76) hc ho fa_X1_127_2 dX1_source_76 eq1 ?_
  obtain ⟨a2, ea2, hf2⟩ := ob_i hf1
  clear hf1
  subst ea2
  obtain ⟨q3, eq3, hf3⟩ := ob_i hf2
  clear hf2
  refine j_getR (pc := 79) hc ho fa_X1_170_4 dX1_source_79 eq3 ?_
  refine j_aload_n (pc := 82) hc dX1_source_82 0 rfl rfl ?_
  obtain ⟨q4, eq4, hf4⟩ := ob_i hf3
  clear hf3
  refine j_getR (pc := 83) hc ho fa_X1_127_2 dX1_source_83 eq4 ?_
  obtain ⟨a5, ea5, hf5⟩ := ob_i hf4
  clear hf4
  subst ea5
  obtain ⟨q6, eq6, hf6⟩ := ob_i hf5
  clear hf5
  refine j_getR (pc := 86) hc ho fa_X1_147_4 dX1_source_86 eq6 ?_
  obtain ⟨a7, ea7, hf7⟩ := ob_i hf6
  clear hf6
  subst ea7
  obtain ⟨u8, eu8, hf8⟩ := ob_i hf7
  clear hf7
  obtain ⟨v10, T9, ev10, hf9⟩ := ob_c hf8
  clear hf8
  refine j_callV (pc := 89) (As := []) (rest := [vr q3]) (st2 := [vi v10, vr q3]) hc ho cw_X1_150 (c_J5_size ev10) (Rc.of (g_cls_ok eu8) (by decide) (by decide) ci_J5) hrm ⟨by decide, by decide⟩ rfl (Nat.le_of_ble_eq_true rfl) dX1_source_89 rfl rfl ?_
  refine j_iconst (pc := 92) (v := (1)) hc dX1_source_92 rfl ?_
  refine j_isub (pc := 93) hc dX1_source_93 ?_
  refine j_aload_n (pc := 94) hc dX1_source_94 1 rfl rfl ?_
  refine j_iconst (pc := 95) (v := (0)) hc dX1_source_95 rfl ?_
  obtain ⟨a11, ea11, hf10⟩ := ob_i hf9
  clear hf9
  subst ea11
  obtain ⟨u12, eu12, hf11⟩ := ob_i hf10
  clear hf10
  obtain ⟨v14, T13, ev14, hf12⟩ := ob_c hf11
  clear hf11
  refine j_callV (pc := 96) (As := [vi (0)]) (rest := [vi (v10 - (1)), vr q3]) (st2 := [vi v14, vi (v10 - (1)), vr q3]) hc ho cw_X1_99 (c_J6_charAt ev14) (Rc.of (g_cls_ok eu12) (by decide) (by decide) ci_J6) hrm ⟨by decide, by decide⟩ rfl (Nat.le_of_ble_eq_true rfl) dX1_source_96 rfl rfl ?_
  obtain ⟨a15, ea15, hf13⟩ := ob_i hf12
  clear hf12
  subst ea15
  obtain ⟨T16, eT16, hf14⟩ := ob_i hf13
  clear hf13
  refine j_cast (pc := 99) hc dX1_source_99 eT16 ?_
  refine j_aload_n (pc := 100) hc dX1_source_100 0 rfl rfl ?_
  refine j_aload_n (pc := 101) hc dX1_source_101 0 rfl rfl ?_
  obtain ⟨q17, eq17, hf15⟩ := ob_i hf14
  clear hf14
  refine j_getR (pc := 102) hc ho fa_X1_127_2 dX1_source_102 eq17 ?_
  obtain ⟨a18, ea18, hf16⟩ := ob_i hf15
  clear hf15
  subst ea18
  obtain ⟨q19, eq19, hf17⟩ := ob_i hf16
  clear hf16
  refine j_getR (pc := 105) hc ho fa_X1_147_4 dX1_source_105 eq19 ?_
  obtain ⟨a20, ea20, hf18⟩ := ob_i hf17
  clear hf17
  subst ea20
  obtain ⟨u21, eu21, hf19⟩ := ob_i hf18
  clear hf18
  obtain ⟨v23, T22, ev23, hf20⟩ := ob_c hf19
  clear hf19
  refine j_callV (pc := 108) (As := []) (rest := [vr (some a0)]) (st2 := [vi v23, vr (some a0)]) hc ho cw_X1_150 (c_J5_size ev23) (Rc.of (g_cls_ok eu21) (by decide) (by decide) ci_J5) hrm ⟨by decide, by decide⟩ rfl (Nat.le_of_ble_eq_true rfl) dX1_source_108 rfl rfl ?_
  refine j_bipush (pc := 111) (v := (6)) hc dX1_source_111 rfl ?_
  obtain ⟨u24, eu24, hf21⟩ := ob_i hf20
  clear hf20
  rcases ob_t hf21 with ⟨v28, T26, ev28, hf22⟩ | ⟨q27, T26, eq27, hf22⟩
  · refine j_backI (pc := 113) (st2 := [vi v28]) (c_X1_goesOn (l := cf_l f) (g := cf_g f) (mo := mo) ev28).1 (runX_V (pc := 113) (As := [vi v23, vi (6)]) (rest := []) hc ho cw_X1_173 (c_X1_goesOn ev28).2 (Rc.of (g_cls_ok eu24) (by decide) (by decide) ci_X1) hrm ⟨by decide, by decide⟩ rfl (Nat.le_of_ble_eq_true rfl) dX1_source_113 rfl) rfl ?_
    refine j_if_ne (pc := 116) hc dX1_source_116 (tgt := 6) rfl (fun hh => ?_) (fun hh => ?_)
    · have hf23 := (if_neg hh).symm.trans hf22
      clear hf22
      refine j_loc (L' := [(0, vr (some a0))]) [0] rfl ?_
      exact hk_6 _ hf23
    · have hf24 := (if_pos hh).symm.trans hf22
      clear hf22
      refine j_aload_n (pc := 119) hc dX1_source_119 0 rfl rfl ?_
      refine j_bipush (pc := 120) (v := (41)) hc dX1_source_120 rfl ?_
      obtain ⟨u29, eu29, hf25⟩ := ob_i hf24
      clear hf24
      rcases ob_t hf25 with ⟨z33, T31, ez33, hf26⟩ | ⟨q32, T31, eq32, hf26⟩
      · refine j_backI (pc := 122) (st2 := []) (c_X1_must (l := cf_l f) (g := cf_g f) (mo := mo) ez33).1 (runX_V (pc := 122) (As := [vi (41)]) (rest := []) hc ho cw_X1_134 (c_X1_must ez33).2 (Rc.of (g_cls_ok eu29) (by decide) (by decide) ci_X1) hrm ⟨by decide, by decide⟩ rfl (Nat.le_of_ble_eq_true rfl) dX1_source_122 rfl) rfl ?_
        cases hf26
        exact j_vret (pc := 125) hc (QokX.ret hq) hre dX1_source_125
      · cases hf26
        exact j_backT (pc := 122) (c_X1_must (l := cf_l f) (g := cf_g f) (mo := mo) eq32).1 (runX_V (pc := 122) (As := [vi (41)]) (rest := []) hc ho cw_X1_134 (c_X1_must eq32).2 (Rc.of (g_cls_ok eu29) (by decide) (by decide) ci_X1) hrm ⟨by decide, by decide⟩ rfl (Nat.le_of_ble_eq_true rfl) dX1_source_122 rfl) hex hq
  · cases hf22
    exact j_backT (pc := 113) (c_X1_goesOn (l := cf_l f) (g := cf_g f) (mo := mo) eq27).1 (runX_V (pc := 113) (As := [vi v23, vi (6)]) (rest := []) hc ho cw_X1_173 (c_X1_goesOn eq27).2 (Rc.of (g_cls_ok eu24) (by decide) (by decide) ci_X1) hrm ⟨by decide, by decide⟩ rfl (Nat.le_of_ble_eq_true rfl) dX1_source_113 rfl) hex hq
set_option maxRecDepth 100000 in
set_option maxHeartbeats 2000000 in
theorem w_X1_source_n40 {f : CfT} {mo : MO} {a0 : Nat} {r : (Unit ⊕ Nat)} {S1 : HS} (hc : cf_cc f = cX1_source) (ho : cf_ow f = "TableCatalog$Reader") (hnL : cf_nL f = 4) (hrm : cf_rm f = (8, 223)) (hre : cf_re f = none) (hct : cf_ct f = false) (hex : cf_ex f = []) (hq : QokX f (rs_v r) S1 mo) {k_6 : HS → Option ((Unit ⊕ Nat) × HS)} (hk_6 : ∀  (S : HS), k_6 S = some (r, S1) → JJ f S mo 6 [(0, vr (some a0))] []) {x2 : Int32} {sr0 : Option Nat} {S : HS} (hf : f_X1_source_n40 k_6 a0 x2 sr0 S = some (r, S1)) : JJ f S mo 40 [(0, vr (some a0)), (2, vi x2)] [vr sr0] := by
  unfold f_X1_source_n40 at hf
  refine j_astore_n (pc := 40) (L' := [(3, vr sr0), (0, vr (some a0)), (2, vi x2)]) hc dX1_source_40 rfl hnL (by decide) rfl ?_
  refine j_aload_n (pc := 41) hc dX1_source_41 0 rfl rfl ?_
  refine j_ldcS (pc := 42) hc ho (tx := "n") 11 rfl dX1_source_42 ?_
  obtain ⟨a1, ea1, hf1⟩ := ob_i hf
  clear hf
  subst ea1
  obtain ⟨u2, eu2, hf2⟩ := ob_i hf1
  clear hf1
  obtain ⟨v4, T3, ev4, hf3⟩ := ob_c hf2
  clear hf2
  refine j_callV (pc := 44) (As := [vr (some (h_ks S 11))]) (rest := []) (st2 := [vi v4]) hc ho cw_X1_88 (c_J6_equals ev4) (Rc.of (g_cls_ok eu2) (by decide) (by decide) ci_J6) hrm ⟨by decide, by decide⟩ rfl (Nat.le_of_ble_eq_true rfl) dX1_source_44 rfl rfl ?_
  refine j_if_ne (pc := 47) hc dX1_source_47 (tgt := 75) rfl (fun hh => ?_) (fun hh => ?_)
  · have hf4 := (if_neg hh).symm.trans hf3
    clear hf3
    refine j_loc (L' := [(0, vr (some a0)), (3, vr (some a1))]) [1, 0] rfl ?_
    exact w_X1_source_n75 hc ho hnL hrm hre hct hex hq hk_6 hf4
  · have hf5 := (if_pos hh).symm.trans hf3
    clear hf3
    refine j_aload_n (pc := 50) hc dX1_source_50 0 rfl rfl ?_
    refine j_ldcS (pc := 51) hc ho (tx := "t") 12 rfl dX1_source_51 ?_
    obtain ⟨u5, eu5, hf6⟩ := ob_i hf5
    clear hf5
    obtain ⟨v7, T6, ev7, hf7⟩ := ob_c hf6
    clear hf6
    refine j_callV (pc := 53) (As := [vr (some (h_ks T3 12))]) (rest := []) (st2 := [vi v7]) hc ho cw_X1_88 (c_J6_equals ev7) (Rc.of (g_cls_ok eu5) (by decide) (by decide) ci_J6) hrm ⟨by decide, by decide⟩ rfl (Nat.le_of_ble_eq_true rfl) dX1_source_53 rfl rfl ?_
    refine j_if_ne (pc := 56) hc dX1_source_56 (tgt := 75) rfl (fun hh => ?_) (fun hh => ?_)
    · have hf8 := (if_neg hh).symm.trans hf7
      clear hf7
      refine j_loc (L' := [(0, vr (some a0)), (3, vr (some a1))]) [1, 0] rfl ?_
      exact w_X1_source_n75 hc ho hnL hrm hre hct hex hq hk_6 hf8
    · have hf9 := (if_pos hh).symm.trans hf7
      clear hf7
      refine j_aload_n (pc := 59) hc dX1_source_59 0 rfl rfl ?_
      refine j_ldcS (pc := 60) hc ho (tx := "d") 13 rfl dX1_source_60 ?_
      obtain ⟨u8, eu8, hf10⟩ := ob_i hf9
      clear hf9
      obtain ⟨v10, T9, ev10, hf11⟩ := ob_c hf10
      clear hf10
      refine j_callV (pc := 62) (As := [vr (some (h_ks T6 13))]) (rest := []) (st2 := [vi v10]) hc ho cw_X1_88 (c_J6_equals ev10) (Rc.of (g_cls_ok eu8) (by decide) (by decide) ci_J6) hrm ⟨by decide, by decide⟩ rfl (Nat.le_of_ble_eq_true rfl) dX1_source_62 rfl rfl ?_
      refine j_if_ne (pc := 65) hc dX1_source_65 (tgt := 75) rfl (fun hh => ?_) (fun hh => ?_)
      · have hf12 := (if_neg hh).symm.trans hf11
        clear hf11
        refine j_loc (L' := [(0, vr (some a0)), (3, vr (some a1))]) [1, 0] rfl ?_
        exact w_X1_source_n75 hc ho hnL hrm hre hct hex hq hk_6 hf12
      · have hf13 := (if_pos hh).symm.trans hf11
        clear hf11
        refine j_aload_n (pc := 68) hc dX1_source_68 1 rfl rfl ?_
        refine j_iconst (pc := 69) (v := (1)) hc dX1_source_69 rfl ?_
        refine j_iload_n (pc := 70) hc dX1_source_70 2 rfl rfl ?_
        obtain ⟨u11, eu11, hf14⟩ := ob_i hf13
        clear hf13
        obtain ⟨q13, T12, eq13, hf15⟩ := ob_c hf14
        clear hf14
        refine j_callV (pc := 71) (As := [vi (1), vi x2]) (rest := []) (st2 := [vr q13]) hc ho cw_X1_67 (c_X1_wrong eq13) (Rc.of (g_cls_ok eu11) (by decide) (by decide) ci_X1) hrm ⟨by decide, by decide⟩ rfl (Nat.le_of_ble_eq_true rfl) dX1_source_71 rfl rfl ?_
        obtain ⟨a14, ea14, hf16⟩ := ob_i hf15
        clear hf15
        subst ea14
        obtain ⟨u15, eu15, hf17⟩ := ob_i hf16
        clear hf16
        cases hf17
        exact j_athrow (pc := 74) hc hex hq dX1_source_74 (g_thr_ok eu15)
set_option maxRecDepth 100000 in
set_option maxHeartbeats 2000000 in
theorem w_X1_source_n6 {f : CfT} {mo : MO} {a0 : Nat} {r : (Unit ⊕ Nat)} {S1 : HS} (hc : cf_cc f = cX1_source) (ho : cf_ow f = "TableCatalog$Reader") (hnL : cf_nL f = 4) (hrm : cf_rm f = (8, 223)) (hre : cf_re f = none) (hct : cf_ct f = false) (hex : cf_ex f = []) (hq : QokX f (rs_v r) S1 mo) : ∀ (n : Nat)  (S : HS), f_X1_source_n6 a0 n S = some (r, S1) → JJ f S mo 6 [(0, vr (some a0))] [] := by
  intro n
  induction n with
  | zero =>
    intro S hf
    have hf : (none : Option ((Unit ⊕ Nat) × HS)) = some (r, S1) := hf
    cases hf
  | succ n ih =>
    intro S hf
    unfold f_X1_source_n6 at hf
    have hk_6 := ih
    refine j_aload_n (pc := 6) hc dX1_source_6 0 rfl rfl ?_
    refine j_aload_n (pc := 7) hc dX1_source_7 0 rfl rfl ?_
    obtain ⟨u1, eu1, hf1⟩ := ob_i hf
    clear hf
    rcases ob_t hf1 with ⟨q5, T3, eq5, hf2⟩ | ⟨q4, T3, eq4, hf2⟩
    · refine j_backI (pc := 8) (st2 := [vr q5, vr (some a0)]) (c_X1_name (l := cf_l f) (g := cf_g f) (mo := mo) eq5).1 (runX_V (pc := 8) (As := []) (rest := [vr (some a0)]) hc ho cw_X1_115 (c_X1_name eq5).2 (Rc.of (g_cls_ok eu1) (by decide) (by decide) ci_X1) hrm ⟨by decide, by decide⟩ rfl (Nat.le_of_ble_eq_true rfl) dX1_source_8 rfl) rfl ?_
      obtain ⟨u6, eu6, hf3⟩ := ob_i hf2
      clear hf2
      obtain ⟨T7, eT7, hf4⟩ := ob_i hf3
      clear hf3
      refine j_callV (pc := 11) (As := [vr q5]) (rest := []) (st2 := []) hc ho cw_X1_155 (c_X1_column eT7) (Rc.of (g_cls_ok eu6) (by decide) (by decide) ci_X1) hrm ⟨by decide, by decide⟩ rfl (Nat.le_of_ble_eq_true rfl) dX1_source_11 rfl rfl ?_
      refine j_aload_n (pc := 14) hc dX1_source_14 0 rfl rfl ?_
      obtain ⟨u8, eu8, hf5⟩ := ob_i hf4
      clear hf4
      obtain ⟨v10, T9, ev10, hf6⟩ := ob_c hf5
      clear hf5
      refine j_callV (pc := 15) (As := []) (rest := []) (st2 := [vi v10]) hc ho cw_X1_63 (c_X1_here ev10) (Rc.of (g_cls_ok eu8) (by decide) (by decide) ci_X1) hrm ⟨by decide, by decide⟩ rfl (Nat.le_of_ble_eq_true rfl) dX1_source_15 rfl rfl ?_
      refine j_istore_n (pc := 18) (L' := [(1, vi v10), (0, vr (some a0))]) hc dX1_source_18 rfl hnL (by decide) rfl ?_
      refine j_aload_n (pc := 19) hc dX1_source_19 1 rfl rfl ?_
      obtain ⟨v11, ev11, hf7⟩ := ob_i hf6
      clear hf6
      refine j_getI (pc := 20) hc ho fa_X1_50_2 dX1_source_20 ev11 ?_
      refine j_istore_n (pc := 23) (L' := [(2, vi v11), (1, vi v10), (0, vr (some a0))]) hc dX1_source_23 rfl hnL (by decide) rfl ?_
      refine j_iload_n (pc := 24) hc dX1_source_24 1 rfl rfl ?_
      obtain ⟨v12, ev12, hf8⟩ := ob_i hf7
      clear hf7
      refine j_callSN (pc := 25) (As := [vi v10]) (rest := []) (st2 := [vi v12]) hc ho cn_X1_77 q365 (c_X0_isLetter ev12) hrm ⟨by decide, by decide⟩ rfl (Nat.le_of_ble_eq_true rfl) dX1_source_25 rfl rfl ?_
      refine j_if_eq (pc := 28) hc dX1_source_28 (tgt := 38) rfl (fun hh => ?_) (fun hh => ?_)
      · have hf9 := (if_pos hh).symm.trans hf8
        clear hf8
        refine j_ldcS (pc := 38) hc ho (tx := "") 10 rfl dX1_source_38 ?_
        refine j_loc (L' := [(0, vr (some a0)), (2, vi v11)]) [2, 0] rfl ?_
        exact w_X1_source_n40 hc ho hnL hrm hre hct hex hq hk_6 hf9
      · have hf10 := (if_neg hh).symm.trans hf8
        clear hf8
        refine j_aload_n (pc := 31) hc dX1_source_31 2 rfl rfl ?_
        obtain ⟨u13, eu13, hf11⟩ := ob_i hf10
        clear hf10
        obtain ⟨q15, T14, eq15, hf12⟩ := ob_c hf11
        clear hf11
        refine j_callV (pc := 32) (As := []) (rest := []) (st2 := [vr q15]) hc ho cw_X1_159 (c_X1_word eq15) (Rc.of (g_cls_ok eu13) (by decide) (by decide) ci_X1) hrm ⟨by decide, by decide⟩ rfl (Nat.le_of_ble_eq_true rfl) dX1_source_32 rfl rfl ?_
        refine j_goto (pc := 35) hc dX1_source_35 (tgt := 40) rfl ?_
        refine j_loc (L' := [(0, vr (some a0)), (2, vi v11)]) [2, 0] rfl ?_
        exact w_X1_source_n40 hc ho hnL hrm hre hct hex hq hk_6 hf12
    · cases hf2
      exact j_backT (pc := 8) (c_X1_name (l := cf_l f) (g := cf_g f) (mo := mo) eq4).1 (runX_V (pc := 8) (As := []) (rest := [vr (some a0)]) hc ho cw_X1_115 (c_X1_name eq4).2 (Rc.of (g_cls_ok eu1) (by decide) (by decide) ci_X1) hrm ⟨by decide, by decide⟩ rfl (Nat.le_of_ble_eq_true rfl) dX1_source_8 rfl) hex hq
set_option maxRecDepth 100000 in
set_option maxHeartbeats 2000000 in
theorem c_X1_source {l : Launch} {g : PG} {mo : MO} {a0 : Nat} {r : (Unit ⊕ Nat)} {S S1 : HS} (hf : f_X1_source a0 S = some (r, S1)) : (h_nx S ≤ h_nx S1 ∧ h_sl S ≤ h_sl S1) ∧ Cx l g yX1_source (ws_ yX1_source cX1_source 4 none) 8 223 S mo [vr (some a0)] (rs_v r) S1 mo := by
  refine met_ofX false (by decide) (fun h => by first | rfl | cases h) rfl (Nat.le_of_ble_eq_true rfl) (fun f hl hg hc ho hnL hrm hre hct hex hq => ?_)
  subst hl
  subst hg
  unfold f_X1_source at hf
  refine j_aload_n (pc := 0) hc dX1_source_0 0 rfl rfl ?_
  refine j_bipush (pc := 1) (v := (40)) hc dX1_source_1 rfl ?_
  obtain ⟨u1, eu1, hf1⟩ := ob_i hf
  clear hf
  rcases ob_t hf1 with ⟨z5, T3, ez5, hf2⟩ | ⟨q4, T3, eq4, hf2⟩
  · refine j_backI (pc := 3) (st2 := []) (c_X1_must (l := cf_l f) (g := cf_g f) (mo := mo) ez5).1 (runX_V (pc := 3) (As := [vi (40)]) (rest := []) hc ho cw_X1_134 (c_X1_must ez5).2 (Rc.of (g_cls_ok eu1) (by decide) (by decide) ci_X1) hrm ⟨by decide, by decide⟩ rfl (Nat.le_of_ble_eq_true rfl) dX1_source_3 rfl) rfl ?_
    exact w_X1_source_n6 hc ho hnL hrm hre hct hex hq fu_ _ hf2
  · cases hf2
    exact j_backT (pc := 3) (c_X1_must (l := cf_l f) (g := cf_g f) (mo := mo) eq4).1 (runX_V (pc := 3) (As := [vi (40)]) (rest := []) hc ho cw_X1_134 (c_X1_must eq4).2 (Rc.of (g_cls_ok eu1) (by decide) (by decide) ci_X1) hrm ⟨by decide, by decide⟩ rfl (Nat.le_of_ble_eq_true rfl) dX1_source_3 rfl) hex hq
theorem fa_X1_119_2 : FA "TableCatalog$Reader" 119 2 0 27 (.int) 1 := ⟨RX1, TX1, 15, tyX1, 11, "TableCatalog$Reader", CI_X1, by decide, rfl, rfl, by decide +kernel, Or.inl ⟨q245, fun h => (by cases h)⟩, fun _ => rfl, Or.inl rfl⟩
theorem fn_X1_122 : FN "TableCatalog$Reader" 122 4 15 := ⟨RX4, TX4, tyX4, CI_X4, q537, q538, q96, by decide +kernel⟩
theorem cw_X1_124 : CT "TableCatalog$Reader" 124 yX4_init cX4_init 3 2 := ⟨⟨q539, rfl, q540, q96, q541⟩, by decide, by decide, by decide +kernel⟩
theorem cw_X1_138 : CV "TableCatalog$Reader" 138 RX1 yX1_select cX1_select 2 none 0 := ⟨⟨q724, q726, qs15, q82, q727⟩, rfl, by decide, by decide, by decide +kernel⟩
theorem cw_X1_141 : CS "TableCatalog$Reader" 141 yJ6_valueOf_2 cJ6_valueOf_2 3 (some (.object "java/lang/String")) 3 := ⟨⟨q847, q848, q91, q849⟩, by decide, by decide, by decide +kernel⟩
theorem fa_X1_144_4 : FA "TableCatalog$Reader" 144 4 2 108 (.object "java/lang/String") 1 := ⟨RX4, TX4, 15, tyX4, 10, "TableCatalog$Table", CI_X4, by decide, rfl, rfl, by decide +kernel, Or.inr ⟨by decide, "TableCatalog", q576⟩, fun _ => rfl, Or.inl rfl⟩
theorem cw_X1_131 : CV "TableCatalog$Reader" 131 RX1 yX1_source cX1_source 4 none 0 := ⟨⟨q617, q619, qs7, q82, q620⟩, rfl, by decide, by decide, by decide +kernel⟩
theorem cw_X1_103 : CV "TableCatalog$Reader" 103 RJ5 yJ5_clear cJ5_clear 4 none 0 := ⟨⟨q351, q352, q353, q89, q354⟩, rfl, by decide, by decide, by decide +kernel⟩
def f_X1_all_n158 (a0 : Nat) (S : HS) : Option (((Option Nat) ⊕ Nat) × HS) :=
  (g_cls S 2 a0).bind fun u1 =>
  o_tr (f_X1_must a0 (59) S) (fun z5 T3 =>
    (g_cls T3 2 a0).bind fun u6 =>
    o_bd (f_X1_here a0 T3) fun v8 T7 =>
    if v8 = (-1) then
      (g_fR T7 2 22 a0).bind fun q9 =>
      some (Sum.inl q9, T7)
    else
      (g_fI T7 2 19 a0).bind fun v10 =>
      (g_cls T7 2 a0).bind fun u11 =>
      o_bd (f_X1_wrong a0 (1) v10 T7) fun q13 T12 =>
      (q13).bind fun a14 =>
      (g_thr T12 a14).bind fun u15 =>
      some (Sum.inr a14, T12)
  ) (fun q4 T3 =>
    some (Sum.inr q4, T3)
  )
def f_X1_all_n69 (a0 : Nat) (sx0 : Int32) (S : HS) : Option (((Option Nat) ⊕ Nat) × HS) :=
  if sx0 = (-1) then
    (g_fI S 2 20 a0).bind fun v34 =>
    (g_cls S 2 a0).bind fun u35 =>
    o_bd (f_X1_wrong a0 (1) v34 S) fun q37 T36 =>
    (q37).bind fun a38 =>
    (g_thr T36 a38).bind fun u39 =>
    some (Sum.inr a38, T36)
  else
    (g_cls S 2 a0).bind fun u1 =>
    o_tr (f_X1_name a0 S) (fun q5 T3 =>
      (g_fI T3 2 20 a0).bind fun v6 =>
      (p_fI T3 2 27 a0 v6).bind fun T7 =>
      (n_obj T7 4 15).bind fun T8 =>
      (f_X4_init (h_nx T7) q5 sx0 T8).bind fun T9 =>
      (p_fR T9 2 22 a0 (some (h_nx T7))).bind fun T10 =>
      if sx0 = 0 then
        (g_cls T10 2 a0).bind fun u29 =>
        o_tr (f_X1_source a0 T10) (fun z33 T31 =>
          f_X1_all_n158 a0 T31
        ) (fun q32 T31 =>
          some (Sum.inr q32, T31)
        )
      else
        (g_cls T10 2 a0).bind fun u11 =>
        o_tr (f_X1_must a0 (61) T10) (fun z15 T13 =>
          (p_fI T13 2 29 a0 (0)).bind fun T16 =>
          (g_cls T16 2 a0).bind fun u17 =>
          o_tr (f_X1_select a0 T16) (fun z21 T19 =>
            (g_fR T19 2 22 a0).bind fun q22 =>
            (g_fR T19 2 28 a0).bind fun q23 =>
            (g_fI T19 2 29 a0).bind fun v24 =>
            o_bd (f_J6_valueOf_2 q23 (0) v24 T19) fun q26 T25 =>
            (q22).bind fun a27 =>
            (p_fR T25 4 108 a27 q26).bind fun T28 =>
            f_X1_all_n158 a0 T28
          ) (fun q20 T19 =>
            some (Sum.inr q20, T19)
          )
        ) (fun q14 T13 =>
          some (Sum.inr q14, T13)
        )
    ) (fun q4 T3 =>
      some (Sum.inr q4, T3)
    )
def f_X1_all (a0 : Nat) (r1 : Option Nat) (x2 : Int32) (S : HS) : Option (((Option Nat) ⊕ Nat) × HS) :=
  (p_fR S 2 17 a0 r1).bind fun T1 =>
  (p_fI T1 2 18 a0 x2).bind fun T2 =>
  (p_fI T2 2 19 a0 (0)).bind fun T3 =>
  (g_fR T3 2 23 a0).bind fun q4 =>
  (q4).bind fun a5 =>
  (g_cls T3 12 a5).bind fun u6 =>
  (f_J5_clear a5 T3).bind fun T7 =>
  (g_fR T7 2 24 a0).bind fun q8 =>
  (q8).bind fun a9 =>
  (g_cls T7 12 a9).bind fun u10 =>
  (f_J5_clear a9 T7).bind fun T11 =>
  (g_cls T11 2 a0).bind fun u12 =>
  o_bd (f_X1_is a0 (some (h_ks T11 7)) T11) fun v14 T13 =>
  if v14 = 0 then
    (g_cls T13 2 a0).bind fun u15 =>
    o_bd (f_X1_is a0 (some (h_ks T13 8)) T13) fun v17 T16 =>
    if v17 = 0 then
      (g_cls T16 2 a0).bind fun u18 =>
      o_bd (f_X1_is a0 (some (h_ks T16 9)) T16) fun v20 T19 =>
      if v20 = 0 then
        f_X1_all_n69 a0 (-1) T19
      else
        f_X1_all_n69 a0 (2) T19
    else
      f_X1_all_n69 a0 (1) T16
  else
    f_X1_all_n69 a0 (0) T13
set_option maxRecDepth 100000 in
set_option maxHeartbeats 2000000 in
theorem w_X1_all_n158 {f : CfT} {mo : MO} {a0 : Nat} {r : ((Option Nat) ⊕ Nat)} {S1 : HS} (hc : cf_cc f = cX1_all) (ho : cf_ow f = "TableCatalog$Reader") (hnL : cf_nL f = 5) (hrm : cf_rm f = (362, 9964)) (hre : cf_re f = (some (.object "TableCatalog$Table"))) (hct : cf_ct f = false) (hex : cf_ex f = []) (hq : QokX f (rs_r r) S1 mo) {S : HS} (hf : f_X1_all_n158 a0 S = some (r, S1)) : JJ f S mo 158 [(0, vr (some a0))] [] := by
  unfold f_X1_all_n158 at hf
  refine j_aload_n (pc := 158) hc dX1_all_158 0 rfl rfl ?_
  refine j_bipush (pc := 159) (v := (59)) hc dX1_all_159 rfl ?_
  obtain ⟨u1, eu1, hf1⟩ := ob_i hf
  clear hf
  rcases ob_t hf1 with ⟨z5, T3, ez5, hf2⟩ | ⟨q4, T3, eq4, hf2⟩
  · refine j_backI (pc := 161) (st2 := []) (c_X1_must (l := cf_l f) (g := cf_g f) (mo := mo) ez5).1 (runX_V (pc := 161) (As := [vi (59)]) (rest := []) hc ho cw_X1_134 (c_X1_must ez5).2 (Rc.of (g_cls_ok eu1) (by decide) (by decide) ci_X1) hrm ⟨by decide, by decide⟩ rfl (Nat.le_of_ble_eq_true rfl) dX1_all_161 rfl) rfl ?_
    refine j_aload_n (pc := 164) hc dX1_all_164 0 rfl rfl ?_
    obtain ⟨u6, eu6, hf3⟩ := ob_i hf2
    clear hf2
    obtain ⟨v8, T7, ev8, hf4⟩ := ob_c hf3
    clear hf3
    refine j_callV (pc := 165) (As := []) (rest := []) (st2 := [vi v8]) hc ho cw_X1_63 (c_X1_here ev8) (Rc.of (g_cls_ok eu6) (by decide) (by decide) ci_X1) hrm ⟨by decide, by decide⟩ rfl (Nat.le_of_ble_eq_true rfl) dX1_all_165 rfl rfl ?_
    refine j_iconst (pc := 168) (v := (-1)) hc dX1_all_168 rfl ?_
    refine j_icmp_eq (pc := 169) hc dX1_all_169 (tgt := 182) rfl (fun hh => ?_) (fun hh => ?_)
    · have hf5 := (if_pos hh).symm.trans hf4
      clear hf4
      refine j_aload_n (pc := 182) hc dX1_all_182 0 rfl rfl ?_
      obtain ⟨q9, eq9, hf6⟩ := ob_i hf5
      clear hf5
      refine j_getR (pc := 183) hc ho fa_X1_127_2 dX1_all_183 eq9 ?_
      cases hf6
      exact j_aret (pc := 186) hc (QokX.ret hq) hre (Or.inl ⟨_, rfl⟩) dX1_all_186
    · have hf7 := (if_neg hh).symm.trans hf4
      clear hf4
      refine j_aload_n (pc := 172) hc dX1_all_172 0 rfl rfl ?_
      refine j_iconst (pc := 173) (v := (1)) hc dX1_all_173 rfl ?_
      refine j_aload_n (pc := 174) hc dX1_all_174 0 rfl rfl ?_
      obtain ⟨v10, ev10, hf8⟩ := ob_i hf7
      clear hf7
      refine j_getI (pc := 175) hc ho fa_X1_50_2 dX1_all_175 ev10 ?_
      obtain ⟨u11, eu11, hf9⟩ := ob_i hf8
      clear hf8
      obtain ⟨q13, T12, eq13, hf10⟩ := ob_c hf9
      clear hf9
      refine j_callV (pc := 178) (As := [vi (1), vi v10]) (rest := []) (st2 := [vr q13]) hc ho cw_X1_67 (c_X1_wrong eq13) (Rc.of (g_cls_ok eu11) (by decide) (by decide) ci_X1) hrm ⟨by decide, by decide⟩ rfl (Nat.le_of_ble_eq_true rfl) dX1_all_178 rfl rfl ?_
      obtain ⟨a14, ea14, hf11⟩ := ob_i hf10
      clear hf10
      subst ea14
      obtain ⟨u15, eu15, hf12⟩ := ob_i hf11
      clear hf11
      cases hf12
      exact j_athrow (pc := 181) hc hex hq dX1_all_181 (g_thr_ok eu15)
  · cases hf2
    exact j_backT (pc := 161) (c_X1_must (l := cf_l f) (g := cf_g f) (mo := mo) eq4).1 (runX_V (pc := 161) (As := [vi (59)]) (rest := []) hc ho cw_X1_134 (c_X1_must eq4).2 (Rc.of (g_cls_ok eu1) (by decide) (by decide) ci_X1) hrm ⟨by decide, by decide⟩ rfl (Nat.le_of_ble_eq_true rfl) dX1_all_161 rfl) hex hq
set_option maxRecDepth 100000 in
set_option maxHeartbeats 2000000 in
theorem w_X1_all_n69 {f : CfT} {mo : MO} {a0 : Nat} {r : ((Option Nat) ⊕ Nat)} {S1 : HS} (hc : cf_cc f = cX1_all) (ho : cf_ow f = "TableCatalog$Reader") (hnL : cf_nL f = 5) (hrm : cf_rm f = (362, 9964)) (hre : cf_re f = (some (.object "TableCatalog$Table"))) (hct : cf_ct f = false) (hex : cf_ex f = []) (hq : QokX f (rs_r r) S1 mo) {sx0 : Int32} {S : HS} (hf : f_X1_all_n69 a0 sx0 S = some (r, S1)) : JJ f S mo 69 [(0, vr (some a0))] [vi sx0] := by
  unfold f_X1_all_n69 at hf
  refine j_istore_n (pc := 69) (L' := [(3, vi sx0), (0, vr (some a0))]) hc dX1_all_69 rfl hnL (by decide) rfl ?_
  refine j_iload_n (pc := 70) hc dX1_all_70 0 rfl rfl ?_
  refine j_iconst (pc := 71) (v := (-1)) hc dX1_all_71 rfl ?_
  refine j_icmp_ne (pc := 72) hc dX1_all_72 (tgt := 85) rfl (fun hh => ?_) (fun hh => ?_)
  · have hf1 := (if_neg hh).symm.trans hf
    clear hf
    refine j_aload_n (pc := 85) hc dX1_all_85 1 rfl rfl ?_
    obtain ⟨u1, eu1, hf2⟩ := ob_i hf1
    clear hf1
    rcases ob_t hf2 with ⟨q5, T3, eq5, hf3⟩ | ⟨q4, T3, eq4, hf3⟩
    · refine j_backI (pc := 86) (st2 := [vr q5]) (c_X1_name (l := cf_l f) (g := cf_g f) (mo := mo) eq5).1 (runX_V (pc := 86) (As := []) (rest := []) hc ho cw_X1_115 (c_X1_name eq5).2 (Rc.of (g_cls_ok eu1) (by decide) (by decide) ci_X1) hrm ⟨by decide, by decide⟩ rfl (Nat.le_of_ble_eq_true rfl) dX1_all_86 rfl) rfl ?_
      refine j_astore (pc := 89) (L' := [(4, vr q5), (3, vi sx0), (0, vr (some a0))]) hc dX1_all_89 hnL (by decide) rfl ?_
      refine j_aload_n (pc := 91) hc dX1_all_91 2 rfl rfl ?_
      refine j_aload_n (pc := 92) hc dX1_all_92 2 rfl rfl ?_
      obtain ⟨v6, ev6, hf4⟩ := ob_i hf3
      clear hf3
      refine j_getI (pc := 93) hc ho fa_X1_60_2 dX1_all_93 ev6 ?_
      obtain ⟨T7, eT7, hf5⟩ := ob_i hf4
      clear hf4
      refine j_putI (pc := 96) hc ho fa_X1_119_2 (Or.inl rfl) dX1_all_96 eT7 ?_
      refine j_aload_n (pc := 99) hc dX1_all_99 2 rfl rfl ?_
      obtain ⟨T8, eT8, hf6⟩ := ob_i hf5
      clear hf5
      refine j_new (pc := 100) hc ho fn_X1_122 dX1_all_100 eT8 ?_
      refine j_dup (pc := 103) hc dX1_all_103 rfl ?_
      refine j_aload (pc := 104) hc dX1_all_104 0 rfl ?_
      refine j_iload_n (pc := 106) hc dX1_all_106 1 rfl rfl ?_
      obtain ⟨T9, eT9, hf7⟩ := ob_i hf6
      clear hf6
      refine j_callI (pc := 107) (As := [vr q5, vi sx0]) (rest := [vr (some (h_nx T7)), vr (some a0)]) (st2 := [vr (some (h_nx T7)), vr (some a0)]) hc ho cw_X1_124 (c_X4_init eT9) hrm ⟨by decide, by decide⟩ rfl (Nat.le_of_ble_eq_true rfl) dX1_all_107 rfl rfl ?_
      obtain ⟨T10, eT10, hf8⟩ := ob_i hf7
      clear hf7
      refine j_putR (pc := 110) hc ho fa_X1_127_2 rfl (Or.inl rfl) dX1_all_110 eT10 ?_
      refine j_iload_n (pc := 113) hc dX1_all_113 1 rfl rfl ?_
      refine j_if_ne (pc := 114) hc dX1_all_114 (tgt := 124) rfl (fun hh => ?_) (fun hh => ?_)
      · have hf9 := (if_neg hh).symm.trans hf8
        clear hf8
        refine j_aload_n (pc := 124) hc dX1_all_124 2 rfl rfl ?_
        refine j_bipush (pc := 125) (v := (61)) hc dX1_all_125 rfl ?_
        obtain ⟨u11, eu11, hf10⟩ := ob_i hf9
        clear hf9
        rcases ob_t hf10 with ⟨z15, T13, ez15, hf11⟩ | ⟨q14, T13, eq14, hf11⟩
        · refine j_backI (pc := 127) (st2 := []) (c_X1_must (l := cf_l f) (g := cf_g f) (mo := mo) ez15).1 (runX_V (pc := 127) (As := [vi (61)]) (rest := []) hc ho cw_X1_134 (c_X1_must ez15).2 (Rc.of (g_cls_ok eu11) (by decide) (by decide) ci_X1) hrm ⟨by decide, by decide⟩ rfl (Nat.le_of_ble_eq_true rfl) dX1_all_127 rfl) rfl ?_
          refine j_aload_n (pc := 130) hc dX1_all_130 2 rfl rfl ?_
          refine j_iconst (pc := 131) (v := (0)) hc dX1_all_131 rfl ?_
          obtain ⟨T16, eT16, hf12⟩ := ob_i hf11
          clear hf11
          refine j_putI (pc := 132) hc ho fa_X1_96_2 (Or.inl rfl) dX1_all_132 eT16 ?_
          refine j_aload_n (pc := 135) hc dX1_all_135 2 rfl rfl ?_
          obtain ⟨u17, eu17, hf13⟩ := ob_i hf12
          clear hf12
          rcases ob_t hf13 with ⟨z21, T19, ez21, hf14⟩ | ⟨q20, T19, eq20, hf14⟩
          · refine j_backI (pc := 136) (st2 := []) (c_X1_select (l := cf_l f) (g := cf_g f) (mo := mo) ez21).1 (runX_V (pc := 136) (As := []) (rest := []) hc ho cw_X1_138 (c_X1_select ez21).2 (Rc.of (g_cls_ok eu17) (by decide) (by decide) ci_X1) hrm ⟨by decide, by decide⟩ rfl (Nat.le_of_ble_eq_true rfl) dX1_all_136 rfl) rfl ?_
            refine j_aload_n (pc := 139) hc dX1_all_139 2 rfl rfl ?_
            obtain ⟨q22, eq22, hf15⟩ := ob_i hf14
            clear hf14
            refine j_getR (pc := 140) hc ho fa_X1_127_2 dX1_all_140 eq22 ?_
            refine j_aload_n (pc := 143) hc dX1_all_143 2 rfl rfl ?_
            obtain ⟨q23, eq23, hf16⟩ := ob_i hf15
            clear hf15
            refine j_getR (pc := 144) hc ho fa_X1_39_2 dX1_all_144 eq23 ?_
            refine j_iconst (pc := 147) (v := (0)) hc dX1_all_147 rfl ?_
            refine j_aload_n (pc := 148) hc dX1_all_148 2 rfl rfl ?_
            obtain ⟨v24, ev24, hf17⟩ := ob_i hf16
            clear hf16
            refine j_getI (pc := 149) hc ho fa_X1_96_2 dX1_all_149 ev24 ?_
            obtain ⟨q26, T25, eq26, hf18⟩ := ob_c hf17
            clear hf17
            refine j_callS (pc := 152) (As := [vr q23, vi (0), vi v24]) (rest := [vr q22]) (st2 := [vr q26, vr q22]) hc ho cw_X1_141 (c_J6_valueOf_2 eq26) hrm ⟨by decide, by decide⟩ rfl (Nat.le_of_ble_eq_true rfl) dX1_all_152 rfl rfl ?_
            obtain ⟨a27, ea27, hf19⟩ := ob_i hf18
            clear hf18
            subst ea27
            obtain ⟨T28, eT28, hf20⟩ := ob_i hf19
            clear hf19
            refine j_putR (pc := 155) hc ho fa_X1_144_4 rfl (Or.inl rfl) dX1_all_155 eT28 ?_
            refine j_loc (L' := [(0, vr (some a0))]) [2] rfl ?_
            exact w_X1_all_n158 hc ho hnL hrm hre hct hex hq hf20
          · cases hf14
            exact j_backT (pc := 136) (c_X1_select (l := cf_l f) (g := cf_g f) (mo := mo) eq20).1 (runX_V (pc := 136) (As := []) (rest := []) hc ho cw_X1_138 (c_X1_select eq20).2 (Rc.of (g_cls_ok eu17) (by decide) (by decide) ci_X1) hrm ⟨by decide, by decide⟩ rfl (Nat.le_of_ble_eq_true rfl) dX1_all_136 rfl) hex hq
        · cases hf11
          exact j_backT (pc := 127) (c_X1_must (l := cf_l f) (g := cf_g f) (mo := mo) eq14).1 (runX_V (pc := 127) (As := [vi (61)]) (rest := []) hc ho cw_X1_134 (c_X1_must eq14).2 (Rc.of (g_cls_ok eu11) (by decide) (by decide) ci_X1) hrm ⟨by decide, by decide⟩ rfl (Nat.le_of_ble_eq_true rfl) dX1_all_127 rfl) hex hq
      · have hf21 := (if_pos hh).symm.trans hf8
        clear hf8
        refine j_aload_n (pc := 117) hc dX1_all_117 2 rfl rfl ?_
        obtain ⟨u29, eu29, hf22⟩ := ob_i hf21
        clear hf21
        rcases ob_t hf22 with ⟨z33, T31, ez33, hf23⟩ | ⟨q32, T31, eq32, hf23⟩
        · refine j_backI (pc := 118) (st2 := []) (c_X1_source (l := cf_l f) (g := cf_g f) (mo := mo) ez33).1 (runX_V (pc := 118) (As := []) (rest := []) hc ho cw_X1_131 (c_X1_source ez33).2 (Rc.of (g_cls_ok eu29) (by decide) (by decide) ci_X1) hrm ⟨by decide, by decide⟩ rfl (Nat.le_of_ble_eq_true rfl) dX1_all_118 rfl) rfl ?_
          refine j_goto (pc := 121) hc dX1_all_121 (tgt := 158) rfl ?_
          refine j_loc (L' := [(0, vr (some a0))]) [2] rfl ?_
          exact w_X1_all_n158 hc ho hnL hrm hre hct hex hq hf23
        · cases hf23
          exact j_backT (pc := 118) (c_X1_source (l := cf_l f) (g := cf_g f) (mo := mo) eq32).1 (runX_V (pc := 118) (As := []) (rest := []) hc ho cw_X1_131 (c_X1_source eq32).2 (Rc.of (g_cls_ok eu29) (by decide) (by decide) ci_X1) hrm ⟨by decide, by decide⟩ rfl (Nat.le_of_ble_eq_true rfl) dX1_all_118 rfl) hex hq
    · cases hf3
      exact j_backT (pc := 86) (c_X1_name (l := cf_l f) (g := cf_g f) (mo := mo) eq4).1 (runX_V (pc := 86) (As := []) (rest := []) hc ho cw_X1_115 (c_X1_name eq4).2 (Rc.of (g_cls_ok eu1) (by decide) (by decide) ci_X1) hrm ⟨by decide, by decide⟩ rfl (Nat.le_of_ble_eq_true rfl) dX1_all_86 rfl) hex hq
  · have hf24 := (if_pos hh).symm.trans hf
    clear hf
    refine j_aload_n (pc := 75) hc dX1_all_75 1 rfl rfl ?_
    refine j_iconst (pc := 76) (v := (1)) hc dX1_all_76 rfl ?_
    refine j_aload_n (pc := 77) hc dX1_all_77 1 rfl rfl ?_
    obtain ⟨v34, ev34, hf25⟩ := ob_i hf24
    clear hf24
    refine j_getI (pc := 78) hc ho fa_X1_60_2 dX1_all_78 ev34 ?_
    obtain ⟨u35, eu35, hf26⟩ := ob_i hf25
    clear hf25
    obtain ⟨q37, T36, eq37, hf27⟩ := ob_c hf26
    clear hf26
    refine j_callV (pc := 81) (As := [vi (1), vi v34]) (rest := []) (st2 := [vr q37]) hc ho cw_X1_67 (c_X1_wrong eq37) (Rc.of (g_cls_ok eu35) (by decide) (by decide) ci_X1) hrm ⟨by decide, by decide⟩ rfl (Nat.le_of_ble_eq_true rfl) dX1_all_81 rfl rfl ?_
    obtain ⟨a38, ea38, hf28⟩ := ob_i hf27
    clear hf27
    subst ea38
    obtain ⟨u39, eu39, hf29⟩ := ob_i hf28
    clear hf28
    cases hf29
    exact j_athrow (pc := 84) hc hex hq dX1_all_84 (g_thr_ok eu39)
set_option maxRecDepth 100000 in
set_option maxHeartbeats 2000000 in
theorem c_X1_all {l : Launch} {g : PG} {mo : MO} {a0 : Nat} {r1 : Option Nat} {x2 : Int32} {r : ((Option Nat) ⊕ Nat)} {S S1 : HS} (hf : f_X1_all a0 r1 x2 S = some (r, S1)) : (h_nx S ≤ h_nx S1 ∧ h_sl S ≤ h_sl S1) ∧ Cx l g yX1_all (ws_ yX1_all cX1_all 5 (some (.object "TableCatalog$Table"))) 362 9964 S mo [vr (some a0), vr r1, vi x2] (rs_r r) S1 mo := by
  refine met_ofX false (by decide) (fun h => by first | rfl | cases h) rfl (Nat.le_of_ble_eq_true rfl) (fun f hl hg hc ho hnL hrm hre hct hex hq => ?_)
  subst hl
  subst hg
  unfold f_X1_all at hf
  refine j_aload_n (pc := 0) hc dX1_all_0 0 rfl rfl ?_
  refine j_aload_n (pc := 1) hc dX1_all_1 1 rfl rfl ?_
  obtain ⟨T1, eT1, hf1⟩ := ob_i hf
  clear hf
  refine j_putR (pc := 2) hc ho fa_X1_56_2 rfl (Or.inl rfl) dX1_all_2 eT1 ?_
  refine j_aload_n (pc := 5) hc dX1_all_5 0 rfl rfl ?_
  refine j_iload_n (pc := 6) hc dX1_all_6 2 rfl rfl ?_
  obtain ⟨T2, eT2, hf2⟩ := ob_i hf1
  clear hf1
  refine j_putI (pc := 7) hc ho fa_X1_53_2 (Or.inl rfl) dX1_all_7 eT2 ?_
  refine j_aload_n (pc := 10) hc dX1_all_10 0 rfl rfl ?_
  refine j_iconst (pc := 11) (v := (0)) hc dX1_all_11 rfl ?_
  obtain ⟨T3, eT3, hf3⟩ := ob_i hf2
  clear hf2
  refine j_putI (pc := 12) hc ho fa_X1_50_2 (Or.inl rfl) dX1_all_12 eT3 ?_
  refine j_aload_n (pc := 15) hc dX1_all_15 0 rfl rfl ?_
  obtain ⟨q4, eq4, hf4⟩ := ob_i hf3
  clear hf3
  refine j_getR (pc := 16) hc ho fa_X1_25_2 dX1_all_16 eq4 ?_
  obtain ⟨a5, ea5, hf5⟩ := ob_i hf4
  clear hf4
  subst ea5
  obtain ⟨u6, eu6, hf6⟩ := ob_i hf5
  clear hf5
  obtain ⟨T7, eT7, hf7⟩ := ob_i hf6
  clear hf6
  refine j_callV (pc := 19) (As := []) (rest := []) (st2 := []) hc ho cw_X1_103 (c_J5_clear eT7) (Rc.of (g_cls_ok eu6) (by decide) (by decide) ci_J5) hrm ⟨by decide, by decide⟩ rfl (Nat.le_of_ble_eq_true rfl) dX1_all_19 rfl rfl ?_
  refine j_aload_n (pc := 22) hc dX1_all_22 0 rfl rfl ?_
  obtain ⟨q8, eq8, hf8⟩ := ob_i hf7
  clear hf7
  refine j_getR (pc := 23) hc ho fa_X1_29_2 dX1_all_23 eq8 ?_
  obtain ⟨a9, ea9, hf9⟩ := ob_i hf8
  clear hf8
  subst ea9
  obtain ⟨u10, eu10, hf10⟩ := ob_i hf9
  clear hf9
  obtain ⟨T11, eT11, hf11⟩ := ob_i hf10
  clear hf10
  refine j_callV (pc := 26) (As := []) (rest := []) (st2 := []) hc ho cw_X1_103 (c_J5_clear eT11) (Rc.of (g_cls_ok eu10) (by decide) (by decide) ci_J5) hrm ⟨by decide, by decide⟩ rfl (Nat.le_of_ble_eq_true rfl) dX1_all_26 rfl rfl ?_
  refine j_aload_n (pc := 29) hc dX1_all_29 0 rfl rfl ?_
  refine j_ldcS (pc := 30) hc ho (tx := "table") 7 rfl dX1_all_30 ?_
  obtain ⟨u12, eu12, hf12⟩ := ob_i hf11
  clear hf11
  obtain ⟨v14, T13, ev14, hf13⟩ := ob_c hf12
  clear hf12
  refine j_callV (pc := 32) (As := [vr (some (h_ks T11 7))]) (rest := []) (st2 := [vi v14]) hc ho cw_X1_108 (c_X1_is ev14) (Rc.of (g_cls_ok eu12) (by decide) (by decide) ci_X1) hrm ⟨by decide, by decide⟩ rfl (Nat.le_of_ble_eq_true rfl) dX1_all_32 rfl rfl ?_
  refine j_if_eq (pc := 35) hc dX1_all_35 (tgt := 42) rfl (fun hh => ?_) (fun hh => ?_)
  · have hf14 := (if_pos hh).symm.trans hf13
    clear hf13
    refine j_aload_n (pc := 42) hc dX1_all_42 0 rfl rfl ?_
    refine j_ldcS (pc := 43) hc ho (tx := "view") 8 rfl dX1_all_43 ?_
    obtain ⟨u15, eu15, hf15⟩ := ob_i hf14
    clear hf14
    obtain ⟨v17, T16, ev17, hf16⟩ := ob_c hf15
    clear hf15
    refine j_callV (pc := 45) (As := [vr (some (h_ks T13 8))]) (rest := []) (st2 := [vi v17]) hc ho cw_X1_108 (c_X1_is ev17) (Rc.of (g_cls_ok eu15) (by decide) (by decide) ci_X1) hrm ⟨by decide, by decide⟩ rfl (Nat.le_of_ble_eq_true rfl) dX1_all_45 rfl rfl ?_
    refine j_if_eq (pc := 48) hc dX1_all_48 (tgt := 55) rfl (fun hh => ?_) (fun hh => ?_)
    · have hf17 := (if_pos hh).symm.trans hf16
      clear hf16
      refine j_aload_n (pc := 55) hc dX1_all_55 0 rfl rfl ?_
      refine j_ldcS (pc := 56) hc ho (tx := "copy") 9 rfl dX1_all_56 ?_
      obtain ⟨u18, eu18, hf18⟩ := ob_i hf17
      clear hf17
      obtain ⟨v20, T19, ev20, hf19⟩ := ob_c hf18
      clear hf18
      refine j_callV (pc := 58) (As := [vr (some (h_ks T16 9))]) (rest := []) (st2 := [vi v20]) hc ho cw_X1_108 (c_X1_is ev20) (Rc.of (g_cls_ok eu18) (by decide) (by decide) ci_X1) hrm ⟨by decide, by decide⟩ rfl (Nat.le_of_ble_eq_true rfl) dX1_all_58 rfl rfl ?_
      refine j_if_eq (pc := 61) hc dX1_all_61 (tgt := 68) rfl (fun hh => ?_) (fun hh => ?_)
      · have hf20 := (if_pos hh).symm.trans hf19
        clear hf19
        refine j_iconst (pc := 68) (v := (-1)) hc dX1_all_68 rfl ?_
        refine j_loc (L' := [(0, vr (some a0))]) [0] rfl ?_
        exact w_X1_all_n69 hc ho hnL hrm hre hct hex hq hf20
      · have hf21 := (if_neg hh).symm.trans hf19
        clear hf19
        refine j_iconst (pc := 64) (v := (2)) hc dX1_all_64 rfl ?_
        refine j_goto (pc := 65) hc dX1_all_65 (tgt := 69) rfl ?_
        refine j_loc (L' := [(0, vr (some a0))]) [0] rfl ?_
        exact w_X1_all_n69 hc ho hnL hrm hre hct hex hq hf21
    · have hf22 := (if_neg hh).symm.trans hf16
      clear hf16
      refine j_iconst (pc := 51) (v := (1)) hc dX1_all_51 rfl ?_
      refine j_goto (pc := 52) hc dX1_all_52 (tgt := 69) rfl ?_
      refine j_loc (L' := [(0, vr (some a0))]) [0] rfl ?_
      exact w_X1_all_n69 hc ho hnL hrm hre hct hex hq hf22
  · have hf23 := (if_neg hh).symm.trans hf13
    clear hf13
    refine j_iconst (pc := 38) (v := (0)) hc dX1_all_38 rfl ?_
    refine j_goto (pc := 39) hc dX1_all_39 (tgt := 69) rfl ?_
    refine j_loc (L' := [(0, vr (some a0))]) [0] rfl ?_
    exact w_X1_all_n69 hc ho hnL hrm hre hct hex hq hf23
