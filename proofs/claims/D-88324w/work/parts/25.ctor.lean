set_option linter.unusedVariables false
theorem fa_J0_31_11 : FA "java/lang/Throwable" 31 11 2 133 (.object "java/lang/String") 1 := ⟨RX2, TX2, 8, tyX2, 3, "java/lang/Throwable", CI_X2, by decide, rfl, rfl, by decide +kernel, Or.inl ⟨q183, fun h => (by cases h)⟩, fun _ => rfl, Or.inl rfl⟩
theorem fa_J0_7_11 : FA "java/lang/Throwable" 7 11 2 130 (.object "java/lang/Throwable") 1 := ⟨RX2, TX2, 8, tyX2, 0, "java/lang/Throwable", CI_X2, by decide, rfl, rfl, by decide +kernel, Or.inl ⟨q184, fun h => (by cases h)⟩, fun _ => rfl, Or.inl rfl⟩
theorem fa_J0_24_11 : FA "java/lang/Throwable" 24 11 2 132 (.object "java/util/List") 1 := ⟨RX2, TX2, 8, tyX2, 2, "java/lang/Throwable", CI_X2, by decide, rfl, rfl, by decide +kernel, Or.inl ⟨q186, fun h => (by cases h)⟩, fun _ => rfl, Or.inl rfl⟩
theorem fa_J0_17_11 : FA "java/lang/Throwable" 17 11 2 131 (.array (.object "java/lang/StackTraceElement")) 1 := ⟨RX2, TX2, 8, tyX2, 1, "java/lang/Throwable", CI_X2, by decide, rfl, rfl, by decide +kernel, Or.inl ⟨q185, fun h => (by cases h)⟩, fun _ => rfl, Or.inl rfl⟩
def f_J0_init_2_n41 (a0 : Nat) (r1 : Option Nat) (r2 : Option Nat) (x3 : Int32) (S : HS) : Option HS :=
  (p_fR S 11 133 a0 r1).bind fun T1 =>
  (p_fR T1 11 130 a0 r2).bind fun T2 =>
  if x3 = 0 then
    (p_fR T2 11 132 a0 none).bind fun T3 =>
    some T3
  else
    some T2
def f_J0_init_2 (a0 : Nat) (r1 : Option Nat) (r2 : Option Nat) (x3 : Int32) (x4 : Int32) (S : HS) : Option HS :=
  (p_fR S 11 130 a0 (some a0)).bind fun T1 =>
  (p_fR T1 11 131 a0 (h_kr T1 0)).bind fun T2 =>
  (p_fR T2 11 132 a0 (h_kr T2 1)).bind fun T3 =>
  if x4 = 0 then
    (p_fR T3 11 131 a0 none).bind fun T4 =>
    f_J0_init_2_n41 a0 r1 r2 x3 T4
  else
    none
set_option maxRecDepth 100000 in
set_option maxHeartbeats 2000000 in
theorem w_J0_init_2_n41 {f : CfT} {mo : MO} {a0 : Nat} {S1 : HS} (hc : cf_cc f = cJ0_init_2) (ho : cf_ow f = "java/lang/Throwable") (hnL : cf_nL f = 5) (hrm : cf_rm f = (1, 60)) (hre : cf_re f = none) (hct : cf_ct f = true) (hq : Qok f none S1 mo) {r1 : Option Nat} {r2 : Option Nat} {x3 : Int32} {S : HS} (hf : f_J0_init_2_n41 a0 r1 r2 x3 S = some S1) : JJ f S mo 41 [(0, vr (some a0)), (1, vr r1), (2, vr r2), (3, vi x3)] [] := by
  unfold f_J0_init_2_n41 at hf
  refine j_aload_n (pc := 41) hc dJ0_init_2_41 0 rfl rfl ?_
  refine j_aload_n (pc := 42) hc dJ0_init_2_42 1 rfl rfl ?_
  obtain ⟨T1, eT1, hf1⟩ := ob_i hf
  clear hf
  refine j_putR (pc := 43) hc ho fa_J0_31_11 rfl (Or.inl rfl) dJ0_init_2_43 eT1 ?_
  refine j_aload_n (pc := 46) hc dJ0_init_2_46 0 rfl rfl ?_
  refine j_aload_n (pc := 47) hc dJ0_init_2_47 2 rfl rfl ?_
  obtain ⟨T2, eT2, hf2⟩ := ob_i hf1
  clear hf1
  refine j_putR (pc := 48) hc ho fa_J0_7_11 rfl (Or.inl rfl) dJ0_init_2_48 eT2 ?_
  refine j_iload_n (pc := 51) hc dJ0_init_2_51 3 rfl rfl ?_
  refine j_if_ne (pc := 52) hc dJ0_init_2_52 (tgt := 60) rfl (fun hh => ?_) (fun hh => ?_)
  · have hf3 := (if_neg hh).symm.trans hf2
    clear hf2
    cases hf3
    exact j_vret (pc := 60) hc hq hre dJ0_init_2_60
  · have hf4 := (if_pos hh).symm.trans hf2
    clear hf2
    refine j_aload_n (pc := 55) hc dJ0_init_2_55 0 rfl rfl ?_
    refine j_null (pc := 56) hc dJ0_init_2_56 ?_
    obtain ⟨T3, eT3, hf5⟩ := ob_i hf4
    clear hf4
    refine j_putR (pc := 57) hc ho fa_J0_24_11 rfl (Or.inl rfl) dJ0_init_2_57 eT3 ?_
    cases hf5
    exact j_vret (pc := 60) hc hq hre dJ0_init_2_60
set_option maxRecDepth 100000 in
set_option maxHeartbeats 2000000 in
theorem c_J0_init_2 {l : Launch} {g : PG} {mo : MO} {a0 : Nat} {r1 : Option Nat} {r2 : Option Nat} {x3 : Int32} {x4 : Int32} {S S1 : HS} (hf : f_J0_init_2 a0 r1 r2 x3 x4 S = some S1) : (h_nx S ≤ h_nx S1 ∧ h_sl S ≤ h_sl S1) ∧ Ct l g yJ0_init_2 (ws_ yJ0_init_2 cJ0_init_2 5 none) 1 60 S mo [vr (some a0), vr r1, vr r2, vi x3, vi x4] none S1 mo := by
  refine met_of true (by decide) (fun h => by first | rfl | cases h) rfl (Nat.le_of_ble_eq_true rfl) (fun f hl hg hc ho hnL hrm hre hct hex hq => ?_)
  subst hl
  subst hg
  unfold f_J0_init_2 at hf
  refine j_aload_n (pc := 0) hc dJ0_init_2_0 0 rfl rfl ?_
  refine j_oini (pc := 1) hc ho q152 q_oi1 q_oi2 hrm ⟨by decide, Nat.le_of_ble_eq_true rfl⟩ dJ0_init_2_1 ?_
  refine j_aload_n (pc := 4) hc dJ0_init_2_4 0 rfl rfl ?_
  refine j_aload_n (pc := 5) hc dJ0_init_2_5 0 rfl rfl ?_
  obtain ⟨T1, eT1, hf1⟩ := ob_i hf
  clear hf
  refine j_putR (pc := 6) hc ho fa_J0_7_11 rfl (Or.inl rfl) dJ0_init_2_6 eT1 ?_
  refine j_aload_n (pc := 9) hc dJ0_init_2_9 0 rfl rfl ?_
  refine j_gets (pc := 10) (v := vr (h_kr T1 0)) hc ho q153 zs_una dJ0_init_2_10 ?_
  obtain ⟨T2, eT2, hf2⟩ := ob_i hf1
  clear hf1
  refine j_putR (pc := 13) hc ho fa_J0_17_11 rfl (Or.inl rfl) dJ0_init_2_13 eT2 ?_
  refine j_aload_n (pc := 16) hc dJ0_init_2_16 0 rfl rfl ?_
  refine j_gets (pc := 17) (v := vr (h_kr T2 1)) hc ho q155 zs_sup dJ0_init_2_17 ?_
  obtain ⟨T3, eT3, hf3⟩ := ob_i hf2
  clear hf2
  refine j_putR (pc := 20) hc ho fa_J0_24_11 rfl (Or.inl rfl) dJ0_init_2_20 eT3 ?_
  refine j_iload (pc := 23) hc dJ0_init_2_23 4 rfl ?_
  refine j_if_eq (pc := 25) hc dJ0_init_2_25 (tgt := 36) rfl (fun hh => ?_) (fun hh => ?_)
  · have hf4 := (if_pos hh).symm.trans hf3
    clear hf3
    refine j_aload_n (pc := 36) hc dJ0_init_2_36 0 rfl rfl ?_
    refine j_null (pc := 37) hc dJ0_init_2_37 ?_
    obtain ⟨T4, eT4, hf5⟩ := ob_i hf4
    clear hf4
    refine j_putR (pc := 38) hc ho fa_J0_17_11 rfl (Or.inl rfl) dJ0_init_2_38 eT4 ?_
    refine j_loc (L' := [(0, vr (some a0)), (1, vr r1), (2, vr r2), (3, vi x3)]) [0, 1, 2, 3] rfl ?_
    exact w_J0_init_2_n41 hc ho hnL hrm hre hct hq hf5
  · have hf6 := (if_neg hh).symm.trans hf3
    clear hf3
    refine j_aload_n (pc := 28) hc dJ0_init_2_28 0 rfl rfl ?_
    cases hf6
theorem cw_J1_16 : CT "java/lang/Exception" 16 yJ0_init_2 cJ0_init_2 5 4 := ⟨⟨q175, rfl, q176, q83, q177⟩, by decide, by decide, by decide +kernel⟩
def f_J1_init (a0 : Nat) (r1 : Option Nat) (r2 : Option Nat) (x3 : Int32) (x4 : Int32) (S : HS) : Option HS :=
  (f_J0_init_2 a0 r1 r2 x3 x4 S).bind fun T1 =>
  some T1
set_option maxRecDepth 100000 in
set_option maxHeartbeats 2000000 in
theorem c_J1_init {l : Launch} {g : PG} {mo : MO} {a0 : Nat} {r1 : Option Nat} {r2 : Option Nat} {x3 : Int32} {x4 : Int32} {S S1 : HS} (hf : f_J1_init a0 r1 r2 x3 x4 S = some S1) : (h_nx S ≤ h_nx S1 ∧ h_sl S ≤ h_sl S1) ∧ Ct l g yJ1_init (ws_ yJ1_init cJ1_init 5 none) 2 84 S mo [vr (some a0), vr r1, vr r2, vi x3, vi x4] none S1 mo := by
  refine met_of true (by decide) (fun h => by first | rfl | cases h) rfl (Nat.le_of_ble_eq_true rfl) (fun f hl hg hc ho hnL hrm hre hct hex hq => ?_)
  subst hl
  subst hg
  unfold f_J1_init at hf
  refine j_aload_n (pc := 0) hc dJ1_init_0 0 rfl rfl ?_
  refine j_aload_n (pc := 1) hc dJ1_init_1 1 rfl rfl ?_
  refine j_aload_n (pc := 2) hc dJ1_init_2 2 rfl rfl ?_
  refine j_iload_n (pc := 3) hc dJ1_init_3 3 rfl rfl ?_
  refine j_iload (pc := 4) hc dJ1_init_4 4 rfl ?_
  obtain ⟨T1, eT1, hf1⟩ := ob_i hf
  clear hf
  refine j_callI (pc := 6) (As := [vr r1, vr r2, vi x3, vi x4]) (rest := []) (st2 := []) hc ho cw_J1_16 (c_J0_init_2 eT1) hrm ⟨by decide, by decide⟩ rfl (Nat.le_of_ble_eq_true rfl) dJ1_init_6 rfl rfl ?_
  cases hf1
  exact j_vret (pc := 9) hc hq hre dJ1_init_9
theorem cw_J2_16 : CT "java/lang/RuntimeException" 16 yJ1_init cJ1_init 5 4 := ⟨⟨q172, rfl, q173, q84, q174⟩, by decide, by decide, by decide +kernel⟩
def f_J2_init (a0 : Nat) (r1 : Option Nat) (r2 : Option Nat) (x3 : Int32) (x4 : Int32) (S : HS) : Option HS :=
  (f_J1_init a0 r1 r2 x3 x4 S).bind fun T1 =>
  some T1
set_option maxRecDepth 100000 in
set_option maxHeartbeats 2000000 in
theorem c_J2_init {l : Launch} {g : PG} {mo : MO} {a0 : Nat} {r1 : Option Nat} {r2 : Option Nat} {x3 : Int32} {x4 : Int32} {S S1 : HS} (hf : f_J2_init a0 r1 r2 x3 x4 S = some S1) : (h_nx S ≤ h_nx S1 ∧ h_sl S ≤ h_sl S1) ∧ Ct l g yJ2_init (ws_ yJ2_init cJ2_init 5 none) 3 108 S mo [vr (some a0), vr r1, vr r2, vi x3, vi x4] none S1 mo := by
  refine met_of true (by decide) (fun h => by first | rfl | cases h) rfl (Nat.le_of_ble_eq_true rfl) (fun f hl hg hc ho hnL hrm hre hct hex hq => ?_)
  subst hl
  subst hg
  unfold f_J2_init at hf
  refine j_aload_n (pc := 0) hc dJ2_init_0 0 rfl rfl ?_
  refine j_aload_n (pc := 1) hc dJ2_init_1 1 rfl rfl ?_
  refine j_aload_n (pc := 2) hc dJ2_init_2 2 rfl rfl ?_
  refine j_iload_n (pc := 3) hc dJ2_init_3 3 rfl rfl ?_
  refine j_iload (pc := 4) hc dJ2_init_4 4 rfl ?_
  obtain ⟨T1, eT1, hf1⟩ := ob_i hf
  clear hf
  refine j_callI (pc := 6) (As := [vr r1, vr r2, vi x3, vi x4]) (rest := []) (st2 := []) hc ho cw_J2_16 (c_J1_init eT1) hrm ⟨by decide, by decide⟩ rfl (Nat.le_of_ble_eq_true rfl) dJ2_init_6 rfl rfl ?_
  cases hf1
  exact j_vret (pc := 9) hc hq hre dJ2_init_9
theorem cw_X2_1 : CT "TableCatalog$Fault" 1 yJ2_init cJ2_init 5 4 := ⟨⟨q169, rfl, q170, q85, q171⟩, by decide, by decide, by decide +kernel⟩
def f_X2_init (a0 : Nat) (S : HS) : Option HS :=
  (f_J2_init a0 none none (0) (0) S).bind fun T1 =>
  some T1
set_option maxRecDepth 100000 in
set_option maxHeartbeats 2000000 in
theorem c_X2_init {l : Launch} {g : PG} {mo : MO} {a0 : Nat} {S S1 : HS} (hf : f_X2_init a0 S = some S1) : (h_nx S ≤ h_nx S1 ∧ h_sl S ≤ h_sl S1) ∧ Ct l g yX2_init (ws_ yX2_init cX2_init 1 none) 4 132 S mo [vr (some a0)] none S1 mo := by
  refine met_of true (by decide) (fun h => by first | rfl | cases h) rfl (Nat.le_of_ble_eq_true rfl) (fun f hl hg hc ho hnL hrm hre hct hex hq => ?_)
  subst hl
  subst hg
  unfold f_X2_init at hf
  refine j_aload_n (pc := 0) hc dX2_init_0 0 rfl rfl ?_
  refine j_null (pc := 1) hc dX2_init_1 ?_
  refine j_null (pc := 2) hc dX2_init_2 ?_
  refine j_iconst (pc := 3) (v := (0)) hc dX2_init_3 rfl ?_
  refine j_iconst (pc := 4) (v := (0)) hc dX2_init_4 rfl ?_
  obtain ⟨T1, eT1, hf1⟩ := ob_i hf
  clear hf
  refine j_callI (pc := 5) (As := [vr none, vr none, vi (0), vi (0)]) (rest := []) (st2 := []) hc ho cw_X2_1 (c_J2_init eT1) hrm ⟨by decide, by decide⟩ rfl (Nat.le_of_ble_eq_true rfl) dX2_init_5 rfl rfl ?_
  cases hf1
  exact j_vret (pc := 8) hc hq hre dX2_init_8
theorem fa_X1_3_2 : FA "TableCatalog$Reader" 3 2 2 30 (.object "TableCatalog") 2 := ⟨RX1, TX1, 15, tyX1, 14, "TableCatalog$Reader", CI_X1, by decide, rfl, rfl, by decide +kernel, Or.inl ⟨q249, fun _ => ⟨rfl, rfl⟩⟩, fun h => (by cases h), Or.inl rfl⟩
theorem fn_X1_15 : FN "TableCatalog$Reader" 15 11 8 := ⟨RX2, TX2, tyX2, CI_X2, q127, q128, q86, by decide +kernel⟩
theorem cw_X1_17 : CT "TableCatalog$Reader" 17 yX2_init cX2_init 1 0 := ⟨⟨q166, rfl, q167, q86, q168⟩, by decide, by decide, by decide +kernel⟩
theorem fn_X1_22 : FN "TableCatalog$Reader" 22 12 3 := ⟨RJ5, TJ5, tyJ5, CI_J5, q201, q202, q89, by decide +kernel⟩
theorem cw_X1_24 : CT "TableCatalog$Reader" 24 yJ5_init cJ5_init 1 0 := ⟨⟨q203, rfl, q204, q89, q205⟩, by decide, by decide, by decide +kernel⟩
def f_X1_init (a0 : Nat) (r1 : Option Nat) (S : HS) : Option HS :=
  (p_fR S 2 30 a0 r1).bind fun T1 =>
  (n_obj T1 11 8).bind fun T2 =>
  (f_X2_init (h_nx T1) T2).bind fun T3 =>
  (p_fR T3 2 16 a0 (some (h_nx T1))).bind fun T4 =>
  (n_obj T4 12 3).bind fun T5 =>
  (f_J5_init (h_nx T4) T5).bind fun T6 =>
  (p_fR T6 2 23 a0 (some (h_nx T4))).bind fun T7 =>
  (n_obj T7 12 3).bind fun T8 =>
  (f_J5_init (h_nx T7) T8).bind fun T9 =>
  (p_fR T9 2 24 a0 (some (h_nx T7))).bind fun T10 =>
  (n_arr T10 31 (3)).bind fun T11 =>
  (p_fR T11 2 25 a0 (some (h_nx T10))).bind fun T12 =>
  (n_arr T12 31 (6)).bind fun T13 =>
  (p_fR T13 2 26 a0 (some (h_nx T12))).bind fun T14 =>
  (n_arr T14 33 (1200)).bind fun T15 =>
  (p_fR T15 2 28 a0 (some (h_nx T14))).bind fun T16 =>
  some T16
set_option maxRecDepth 100000 in
set_option maxHeartbeats 2000000 in
theorem c_X1_init {l : Launch} {g : PG} {mo : MO} {a0 : Nat} {r1 : Option Nat} {S S1 : HS} (hf : f_X1_init a0 r1 S = some S1) : (h_nx S ≤ h_nx S1 ∧ h_sl S ≤ h_sl S1) ∧ Ct l g yX1_init (ws_ yX1_init cX1_init 2 none) 5 152 S mo [vr (some a0), vr r1] none S1 mo := by
  refine met_of true (by decide) (fun h => by first | rfl | cases h) rfl (Nat.le_of_ble_eq_true rfl) (fun f hl hg hc ho hnL hrm hre hct hex hq => ?_)
  subst hl
  subst hg
  unfold f_X1_init at hf
  refine j_aload_n (pc := 0) hc dX1_init_0 0 rfl rfl ?_
  refine j_aload_n (pc := 1) hc dX1_init_1 1 rfl rfl ?_
  obtain ⟨T1, eT1, hf1⟩ := ob_i hf
  clear hf
  refine j_putR (pc := 2) hc ho fa_X1_3_2 rfl (Or.inr ⟨rfl, hct⟩) dX1_init_2 eT1 ?_
  refine j_aload_n (pc := 5) hc dX1_init_5 0 rfl rfl ?_
  refine j_oini (pc := 6) hc ho q126 q_oi1 q_oi2 hrm ⟨by decide, Nat.le_of_ble_eq_true rfl⟩ dX1_init_6 ?_
  refine j_aload_n (pc := 9) hc dX1_init_9 0 rfl rfl ?_
  obtain ⟨T2, eT2, hf2⟩ := ob_i hf1
  clear hf1
  refine j_new (pc := 10) hc ho fn_X1_15 dX1_init_10 eT2 ?_
  refine j_dup (pc := 13) hc dX1_init_13 rfl ?_
  obtain ⟨T3, eT3, hf3⟩ := ob_i hf2
  clear hf2
  refine j_callI (pc := 14) (As := []) (rest := [vr (some (h_nx T1)), vr (some a0)]) (st2 := [vr (some (h_nx T1)), vr (some a0)]) hc ho cw_X1_17 (c_X2_init eT3) hrm ⟨by decide, by decide⟩ rfl (Nat.le_of_ble_eq_true rfl) dX1_init_14 rfl rfl ?_
  obtain ⟨T4, eT4, hf4⟩ := ob_i hf3
  clear hf3
  refine j_putR (pc := 17) hc ho fa_X1_18_2 rfl (Or.inr ⟨rfl, hct⟩) dX1_init_17 eT4 ?_
  refine j_aload_n (pc := 20) hc dX1_init_20 0 rfl rfl ?_
  obtain ⟨T5, eT5, hf5⟩ := ob_i hf4
  clear hf4
  refine j_new (pc := 21) hc ho fn_X1_22 dX1_init_21 eT5 ?_
  refine j_dup (pc := 24) hc dX1_init_24 rfl ?_
  obtain ⟨T6, eT6, hf6⟩ := ob_i hf5
  clear hf5
  refine j_callI (pc := 25) (As := []) (rest := [vr (some (h_nx T4)), vr (some a0)]) (st2 := [vr (some (h_nx T4)), vr (some a0)]) hc ho cw_X1_24 (c_J5_init eT6) hrm ⟨by decide, by decide⟩ rfl (Nat.le_of_ble_eq_true rfl) dX1_init_25 rfl rfl ?_
  obtain ⟨T7, eT7, hf7⟩ := ob_i hf6
  clear hf6
  refine j_putR (pc := 28) hc ho fa_X1_25_2 rfl (Or.inr ⟨rfl, hct⟩) dX1_init_28 eT7 ?_
  refine j_aload_n (pc := 31) hc dX1_init_31 0 rfl rfl ?_
  obtain ⟨T8, eT8, hf8⟩ := ob_i hf7
  clear hf7
  refine j_new (pc := 32) hc ho fn_X1_22 dX1_init_32 eT8 ?_
  refine j_dup (pc := 35) hc dX1_init_35 rfl ?_
  obtain ⟨T9, eT9, hf9⟩ := ob_i hf8
  clear hf8
  refine j_callI (pc := 36) (As := []) (rest := [vr (some (h_nx T7)), vr (some a0)]) (st2 := [vr (some (h_nx T7)), vr (some a0)]) hc ho cw_X1_24 (c_J5_init eT9) hrm ⟨by decide, by decide⟩ rfl (Nat.le_of_ble_eq_true rfl) dX1_init_36 rfl rfl ?_
  obtain ⟨T10, eT10, hf10⟩ := ob_i hf9
  clear hf9
  refine j_putR (pc := 39) hc ho fa_X1_29_2 rfl (Or.inr ⟨rfl, hct⟩) dX1_init_39 eT10 ?_
  refine j_aload_n (pc := 42) hc dX1_init_42 0 rfl rfl ?_
  refine j_iconst (pc := 43) (v := (3)) hc dX1_init_43 rfl ?_
  obtain ⟨T11, eT11, hf11⟩ := ob_i hf10
  clear hf10
  refine j_na31 (pc := 44) hc dX1_init_44 eT11 ?_
  obtain ⟨T12, eT12, hf12⟩ := ob_i hf11
  clear hf11
  refine j_putR (pc := 46) hc ho fa_X1_32_2 rfl (Or.inr ⟨rfl, hct⟩) dX1_init_46 eT12 ?_
  refine j_aload_n (pc := 49) hc dX1_init_49 0 rfl rfl ?_
  refine j_bipush (pc := 50) (v := (6)) hc dX1_init_50 rfl ?_
  obtain ⟨T13, eT13, hf13⟩ := ob_i hf12
  clear hf12
  refine j_na31 (pc := 52) hc dX1_init_52 eT13 ?_
  obtain ⟨T14, eT14, hf14⟩ := ob_i hf13
  clear hf13
  refine j_putR (pc := 54) hc ho fa_X1_36_2 rfl (Or.inr ⟨rfl, hct⟩) dX1_init_54 eT14 ?_
  refine j_aload_n (pc := 57) hc dX1_init_57 0 rfl rfl ?_
  refine j_sipush (pc := 58) (v := (1200)) hc dX1_init_58 rfl ?_
  obtain ⟨T15, eT15, hf15⟩ := ob_i hf14
  clear hf14
  refine j_na33 (pc := 61) hc dX1_init_61 eT15 ?_
  obtain ⟨T16, eT16, hf16⟩ := ob_i hf15
  clear hf15
  refine j_putR (pc := 63) hc ho fa_X1_39_2 rfl (Or.inr ⟨rfl, hct⟩) dX1_init_63 eT16 ?_
  cases hf16
  exact j_vret (pc := 66) hc hq hre dX1_init_66
theorem fn_X0_56 : FN "TableCatalog" 56 2 15 := ⟨RX1, TX1, tyX1, CI_X1, q121, q122, q82, by decide +kernel⟩
theorem cn_X0_58 : CN "TableCatalog" 58 yX1_init cX1_init 2 none 1 := ⟨⟨"TableCatalog", q123, q82, q125⟩, by decide, by decide, by decide +kernel⟩
def f_X0_init (a0 : Nat) (S : HS) : Option HS :=
  (n_arr S 36 (16)).bind fun T1 =>
  (p_fR T1 1 1 a0 (some (h_nx S))).bind fun T2 =>
  (p_fI T2 1 7 a0 (-1)).bind fun T3 =>
  (n_arr T3 32 (400)).bind fun T4 =>
  (p_fR T4 1 9 a0 (some (h_nx T3))).bind fun T5 =>
  (n_arr T5 31 (128)).bind fun T6 =>
  (p_fR T6 1 10 a0 (some (h_nx T5))).bind fun T7 =>
  (n_mul T7 (40) (4)).bind fun T8 =>
  (p_fR T8 1 11 a0 (some (h_nx T7))).bind fun T9 =>
  (n_obj T9 2 15).bind fun T10 =>
  (f_X1_init (h_nx T9) (some a0) T10).bind fun T11 =>
  (p_fR T11 1 12 a0 (some (h_nx T9))).bind fun T12 =>
  (n_arr T12 34 (128)).bind fun T13 =>
  (p_fR T13 1 13 a0 (some (h_nx T12))).bind fun T14 =>
  (n_arr T14 34 (128)).bind fun T15 =>
  (p_fR T15 1 14 a0 (some (h_nx T14))).bind fun T16 =>
  (n_arr T16 33 (128)).bind fun T17 =>
  (p_fR T17 1 15 a0 (some (h_nx T16))).bind fun T18 =>
  some T18
set_option maxRecDepth 100000 in
set_option maxHeartbeats 2000000 in
theorem c_X0_init {l : Launch} {g : PG} {mo : MO} {a0 : Nat} {S S1 : HS} (hf : f_X0_init a0 S = some S1) : (h_nx S ≤ h_nx S1 ∧ h_sl S ≤ h_sl S1) ∧ Ct l g yX0_init (ws_ yX0_init cX0_init 1 none) 6 173 S mo [vr (some a0)] none S1 mo := by
  refine met_of true (by decide) (fun h => by first | rfl | cases h) rfl (Nat.le_of_ble_eq_true rfl) (fun f hl hg hc ho hnL hrm hre hct hex hq => ?_)
  subst hl
  subst hg
  unfold f_X0_init at hf
  refine j_aload_n (pc := 0) hc dX0_init_0 0 rfl rfl ?_
  refine j_oini (pc := 1) hc ho q114 q_oi1 q_oi2 hrm ⟨by decide, Nat.le_of_ble_eq_true rfl⟩ dX0_init_1 ?_
  refine j_aload_n (pc := 4) hc dX0_init_4 0 rfl rfl ?_
  refine j_bipush (pc := 5) (v := (16)) hc dX0_init_5 rfl ?_
  obtain ⟨T1, eT1, hf1⟩ := ob_i hf
  clear hf
  refine j_anew (pc := 7) hc ho (t := 36) rfl (by decide) q117 q118 dX0_init_7 eT1 ?_
  obtain ⟨T2, eT2, hf2⟩ := ob_i hf1
  clear hf1
  refine j_putR (pc := 10) hc ho fa_X0_35_1 rfl (Or.inr ⟨rfl, hct⟩) dX0_init_10 eT2 ?_
  refine j_aload_n (pc := 13) hc dX0_init_13 0 rfl rfl ?_
  refine j_iconst (pc := 14) (v := (-1)) hc dX0_init_14 rfl ?_
  obtain ⟨T3, eT3, hf3⟩ := ob_i hf2
  clear hf2
  refine j_putI (pc := 15) hc ho fa_X0_39_1 (Or.inl rfl) dX0_init_15 eT3 ?_
  refine j_aload_n (pc := 18) hc dX0_init_18 0 rfl rfl ?_
  refine j_sipush (pc := 19) (v := (400)) hc dX0_init_19 rfl ?_
  obtain ⟨T4, eT4, hf4⟩ := ob_i hf3
  clear hf3
  refine j_na32 (pc := 22) hc dX0_init_22 eT4 ?_
  obtain ⟨T5, eT5, hf5⟩ := ob_i hf4
  clear hf4
  refine j_putR (pc := 24) hc ho fa_X0_43_1 rfl (Or.inr ⟨rfl, hct⟩) dX0_init_24 eT5 ?_
  refine j_aload_n (pc := 27) hc dX0_init_27 0 rfl rfl ?_
  refine j_sipush (pc := 28) (v := (128)) hc dX0_init_28 rfl ?_
  obtain ⟨T6, eT6, hf6⟩ := ob_i hf5
  clear hf5
  refine j_na31 (pc := 31) hc dX0_init_31 eT6 ?_
  obtain ⟨T7, eT7, hf7⟩ := ob_i hf6
  clear hf6
  refine j_putR (pc := 33) hc ho fa_X0_47_1 rfl (Or.inr ⟨rfl, hct⟩) dX0_init_33 eT7 ?_
  refine j_aload_n (pc := 36) hc dX0_init_36 0 rfl rfl ?_
  refine j_bipush (pc := 37) (v := (40)) hc dX0_init_37 rfl ?_
  refine j_iconst (pc := 39) (v := (4)) hc dX0_init_39 rfl ?_
  obtain ⟨T8, eT8, hf8⟩ := ob_i hf7
  clear hf7
  refine j_mul (pc := 40) hc ho q119 q200 dX0_init_40 eT8 ?_
  obtain ⟨T9, eT9, hf9⟩ := ob_i hf8
  clear hf8
  refine j_putR (pc := 44) hc ho fa_X0_53_1 rfl (Or.inr ⟨rfl, hct⟩) dX0_init_44 eT9 ?_
  refine j_aload_n (pc := 47) hc dX0_init_47 0 rfl rfl ?_
  obtain ⟨T10, eT10, hf10⟩ := ob_i hf9
  clear hf9
  refine j_new (pc := 48) hc ho fn_X0_56 dX0_init_48 eT10 ?_
  refine j_dup (pc := 51) hc dX0_init_51 rfl ?_
  refine j_aload_n (pc := 52) hc dX0_init_52 0 rfl rfl ?_
  obtain ⟨T11, eT11, hf11⟩ := ob_i hf10
  clear hf10
  refine j_callIN (pc := 53) (As := [vr (some a0)]) (rest := [vr (some (h_nx T9)), vr (some a0)]) (st2 := [vr (some (h_nx T9)), vr (some a0)]) hc ho cn_X0_58 rfl q124 (c_X1_init eT11) hrm ⟨by decide, by decide⟩ rfl (Nat.le_of_ble_eq_true rfl) dX0_init_53 rfl rfl ?_
  obtain ⟨T12, eT12, hf12⟩ := ob_i hf11
  clear hf11
  refine j_putR (pc := 56) hc ho fa_X0_61_1 rfl (Or.inr ⟨rfl, hct⟩) dX0_init_56 eT12 ?_
  refine j_aload_n (pc := 59) hc dX0_init_59 0 rfl rfl ?_
  refine j_sipush (pc := 60) (v := (128)) hc dX0_init_60 rfl ?_
  obtain ⟨T13, eT13, hf13⟩ := ob_i hf12
  clear hf12
  refine j_na34 (pc := 63) hc dX0_init_63 eT13 ?_
  obtain ⟨T14, eT14, hf14⟩ := ob_i hf13
  clear hf13
  refine j_putR (pc := 65) hc ho fa_X0_65_1 rfl (Or.inr ⟨rfl, hct⟩) dX0_init_65 eT14 ?_
  refine j_aload_n (pc := 68) hc dX0_init_68 0 rfl rfl ?_
  refine j_sipush (pc := 69) (v := (128)) hc dX0_init_69 rfl ?_
  obtain ⟨T15, eT15, hf15⟩ := ob_i hf14
  clear hf14
  refine j_na34 (pc := 72) hc dX0_init_72 eT15 ?_
  obtain ⟨T16, eT16, hf16⟩ := ob_i hf15
  clear hf15
  refine j_putR (pc := 74) hc ho fa_X0_69_1 rfl (Or.inr ⟨rfl, hct⟩) dX0_init_74 eT16 ?_
  refine j_aload_n (pc := 77) hc dX0_init_77 0 rfl rfl ?_
  refine j_sipush (pc := 78) (v := (128)) hc dX0_init_78 rfl ?_
  obtain ⟨T17, eT17, hf17⟩ := ob_i hf16
  clear hf16
  refine j_na33 (pc := 81) hc dX0_init_81 eT17 ?_
  obtain ⟨T18, eT18, hf18⟩ := ob_i hf17
  clear hf17
  refine j_putR (pc := 83) hc ho fa_X0_72_1 rfl (Or.inr ⟨rfl, hct⟩) dX0_init_83 eT18 ?_
  cases hf18
  exact j_vret (pc := 86) hc hq hre dX0_init_86
