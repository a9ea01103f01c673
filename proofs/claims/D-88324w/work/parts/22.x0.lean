set_option linter.unusedVariables false
theorem fa_X0_43_1 : FA "TableCatalog" 43 1 2 9 (.array .byte) 2 := ⟨RX0, TX0, 15, tyX0, 8, "TableCatalog", CI_X0, by decide, rfl, rfl, by decide +kernel, Or.inl ⟨q291, fun _ => ⟨rfl, rfl⟩⟩, fun h => (by cases h), Or.inl rfl⟩
theorem fa_X0_76_1 : FA "TableCatalog" 76 1 0 8 (.int) 1 := ⟨RX0, TX0, 15, tyX0, 7, "TableCatalog", CI_X0, by decide, rfl, rfl, by decide +kernel, Or.inl ⟨q290, fun h => (by cases h)⟩, fun _ => rfl, Or.inl rfl⟩
def f_X0_put_n3 (a0 : Nat) : Nat → Int32 → Int32 → HS → Option HS
  | 0, _, _, _ => none
  | n + 1, x1, x2, S =>
    if x2 < 0 then
      some S
    else
      (g_fR S 1 9 a0).bind fun q1 =>
      (g_fI S 1 8 a0).bind fun v2 =>
      (p_fI S 1 8 a0 (v2 + (1))).bind fun T3 =>
      (q1).bind fun a4 =>
      (p_aI T3 32 a4 v2 (vp_nar .byte (Int8.toInt32 (Int32.toInt8 (x1 >>> (x2 &&& 31)))))).bind fun T5 =>
      (fun x1 x2 S => f_X0_put_n3 a0 n x1 x2 S) x1 (x2 + (-8)) T5
def f_X0_put (a0 : Nat) (x1 : Int32) (S : HS) : Option HS :=
  f_X0_put_n3 a0 fu_ x1 (24) S
set_option maxRecDepth 100000 in
set_option maxHeartbeats 2000000 in
theorem w_X0_put_n3 {f : CfT} {mo : MO} {a0 : Nat} {S1 : HS} (hc : cf_cc f = cX0_put) (ho : cf_ow f = "TableCatalog") (hnL : cf_nL f = 3) (hrm : cf_rm f = (1, 60)) (hre : cf_re f = none) (hct : cf_ct f = false) (hq : Qok f none S1 mo) : ∀ (n : Nat) (x1 : Int32) (x2 : Int32) (S : HS), f_X0_put_n3 a0 n x1 x2 S = some S1 → JJ f S mo 3 [(0, vr (some a0)), (1, vi x1), (2, vi x2)] [] := by
  intro n
  induction n with
  | zero =>
    intro x1 x2 S hf
    have hf : (none : Option HS) = some S1 := hf
    cases hf
  | succ n ih =>
    intro x1 x2 S hf
    unfold f_X0_put_n3 at hf
    have hk_3 := ih
    refine j_iload_n (pc := 3) hc dX0_put_3 2 rfl rfl ?_
    refine j_if_lt (pc := 4) hc dX0_put_4 (tgt := 33) rfl (fun hh => ?_) (fun hh => ?_)
    · have hf1 := (if_pos hh).symm.trans hf
      clear hf
      cases hf1
      exact j_vret (pc := 33) hc hq hre dX0_put_33
    · have hf2 := (if_neg hh).symm.trans hf
      clear hf
      refine j_aload_n (pc := 7) hc dX0_put_7 0 rfl rfl ?_
      obtain ⟨q1, eq1, hf3⟩ := ob_i hf2
      clear hf2
      refine j_getR (pc := 8) hc ho fa_X0_43_1 dX0_put_8 eq1 ?_
      refine j_aload_n (pc := 11) hc dX0_put_11 0 rfl rfl ?_
      refine j_dup (pc := 12) hc dX0_put_12 rfl ?_
      obtain ⟨v2, ev2, hf4⟩ := ob_i hf3
      clear hf3
      refine j_getI (pc := 13) hc ho fa_X0_76_1 dX0_put_13 ev2 ?_
      refine j_dup_x1 (pc := 16) hc dX0_put_16 rfl rfl ?_
      refine j_iconst (pc := 17) (v := (1)) hc dX0_put_17 rfl ?_
      refine j_iadd (pc := 18) hc dX0_put_18 ?_
      obtain ⟨T3, eT3, hf5⟩ := ob_i hf4
      clear hf4
      refine j_putI (pc := 19) hc ho fa_X0_76_1 (Or.inl rfl) dX0_put_19 eT3 ?_
      refine j_iload_n (pc := 22) hc dX0_put_22 1 rfl rfl ?_
      refine j_iload_n (pc := 23) hc dX0_put_23 2 rfl rfl ?_
      refine j_ishr (pc := 24) hc dX0_put_24 ?_
      refine j_i2b (pc := 25) hc dX0_put_25 ?_
      obtain ⟨a4, ea4, hf6⟩ := ob_i hf5
      clear hf5
      subst ea4
      obtain ⟨T5, eT5, hf7⟩ := ob_i hf6
      clear hf6
      refine j_bast (pc := 26) hc dX0_put_26 eT5 ?_
      refine j_iinc (pc := 27) (L' := [(2, vi (x2 + (-8))), (0, vr (some a0)), (1, vi x1)]) (v := (x2 + (-8))) hc dX0_put_27 2 rfl rfl hnL (by decide) rfl ?_
      refine j_goto (pc := 30) hc dX0_put_30 (tgt := 3) rfl ?_
      refine j_loc (L' := [(0, vr (some a0)), (1, vi x1), (2, vi (x2 + (-8)))]) [1, 2, 0] rfl ?_
      exact hk_3 _ _ _ hf7
set_option maxRecDepth 100000 in
set_option maxHeartbeats 2000000 in
theorem c_X0_put {l : Launch} {g : PG} {mo : MO} {a0 : Nat} {x1 : Int32} {S S1 : HS} (hf : f_X0_put a0 x1 S = some S1) : (h_nx S ≤ h_nx S1 ∧ h_sl S ≤ h_sl S1) ∧ Ct l g yX0_put (ws_ yX0_put cX0_put 3 none) 1 60 S mo [vr (some a0), vi x1] none S1 mo := by
  refine met_of false (by decide) (fun h => by first | rfl | cases h) rfl (Nat.le_of_ble_eq_true rfl) (fun f hl hg hc ho hnL hrm hre hct hex hq => ?_)
  subst hl
  subst hg
  unfold f_X0_put at hf
  refine j_bipush (pc := 0) (v := (24)) hc dX0_put_0 rfl ?_
  refine j_istore_n (pc := 2) (L' := [(2, vi (24)), (0, vr (some a0)), (1, vi x1)]) hc dX0_put_2 rfl hnL (by decide) rfl ?_
  refine j_loc (L' := [(0, vr (some a0)), (1, vi x1), (2, vi (24))]) [1, 2, 0] rfl ?_
  exact w_X0_put_n3 hc ho hnL hrm hre hct hq fu_ _ _ _ hf
theorem cw_X0_79 : CV "TableCatalog" 79 RX0 yX0_put cX0_put 3 none 1 := ⟨⟨q334, q336, qs1, q81, q337⟩, rfl, by decide, by decide, by decide +kernel⟩
def f_X0_feed (a0 : Nat) (x1 : Int32) (x2 : Int32) (x3 : Int32) (x4 : Int32) (x5 : Int32) (S : HS) : Option (Int32 × HS) :=
  (g_fI S 1 8 a0).bind fun v1 =>
  if (v1 + (20)) ≤ (400) then
    (g_cls S 1 a0).bind fun u2 =>
    (f_X0_put a0 x1 S).bind fun T3 =>
    (g_cls T3 1 a0).bind fun u4 =>
    (f_X0_put a0 x2 T3).bind fun T5 =>
    (g_cls T5 1 a0).bind fun u6 =>
    (f_X0_put a0 x3 T5).bind fun T7 =>
    (g_cls T7 1 a0).bind fun u8 =>
    (f_X0_put a0 x4 T7).bind fun T9 =>
    (g_cls T9 1 a0).bind fun u10 =>
    (f_X0_put a0 x5 T9).bind fun T11 =>
    (g_fI T11 1 8 a0).bind fun v12 =>
    some (v12, T11)
  else
    some ((-1), S)
set_option maxRecDepth 100000 in
set_option maxHeartbeats 2000000 in
theorem c_X0_feed {l : Launch} {g : PG} {mo : MO} {a0 : Nat} {x1 : Int32} {x2 : Int32} {x3 : Int32} {x4 : Int32} {x5 : Int32} {r : Int32} {S S1 : HS} (hf : f_X0_feed a0 x1 x2 x3 x4 x5 S = some (r, S1)) : (h_nx S ≤ h_nx S1 ∧ h_sl S ≤ h_sl S1) ∧ Ct l g yX0_feed (ws_ yX0_feed cX0_feed 6 (some (.int))) 2 82 S mo [vr (some a0), vi x1, vi x2, vi x3, vi x4, vi x5] (some (vi r)) S1 mo := by
  refine met_of false (by decide) (fun h => by first | rfl | cases h) rfl (Nat.le_of_ble_eq_true rfl) (fun f hl hg hc ho hnL hrm hre hct hex hq => ?_)
  subst hl
  subst hg
  unfold f_X0_feed at hf
  refine j_aload_n (pc := 0) hc dX0_feed_0 0 rfl rfl ?_
  obtain ⟨v1, ev1, hf1⟩ := ob_i hf
  clear hf
  refine j_getI (pc := 1) hc ho fa_X0_76_1 dX0_feed_1 ev1 ?_
  refine j_bipush (pc := 4) (v := (20)) hc dX0_feed_4 rfl ?_
  refine j_iadd (pc := 6) hc dX0_feed_6 ?_
  refine j_sipush (pc := 7) (v := (400)) hc dX0_feed_7 rfl ?_
  refine j_icmp_le (pc := 10) hc dX0_feed_10 (tgt := 15) rfl (fun hh => ?_) (fun hh => ?_)
  · have hf2 := (if_pos hh).symm.trans hf1
    clear hf1
    refine j_aload_n (pc := 15) hc dX0_feed_15 0 rfl rfl ?_
    refine j_iload_n (pc := 16) hc dX0_feed_16 1 rfl rfl ?_
    obtain ⟨u2, eu2, hf3⟩ := ob_i hf2
    clear hf2
    obtain ⟨T3, eT3, hf4⟩ := ob_i hf3
    clear hf3
    refine j_callV (pc := 17) (As := [vi x1]) (rest := []) (st2 := []) hc ho cw_X0_79 (c_X0_put eT3) (Rc.of (g_cls_ok eu2) (by decide) (by decide) ci_X0) hrm ⟨by decide, by decide⟩ rfl (Nat.le_of_ble_eq_true rfl) dX0_feed_17 rfl rfl ?_
    refine j_aload_n (pc := 20) hc dX0_feed_20 0 rfl rfl ?_
    refine j_iload_n (pc := 21) hc dX0_feed_21 2 rfl rfl ?_
    obtain ⟨u4, eu4, hf5⟩ := ob_i hf4
    clear hf4
    obtain ⟨T5, eT5, hf6⟩ := ob_i hf5
    clear hf5
    refine j_callV (pc := 22) (As := [vi x2]) (rest := []) (st2 := []) hc ho cw_X0_79 (c_X0_put eT5) (Rc.of (g_cls_ok eu4) (by decide) (by decide) ci_X0) hrm ⟨by decide, by decide⟩ rfl (Nat.le_of_ble_eq_true rfl) dX0_feed_22 rfl rfl ?_
    refine j_aload_n (pc := 25) hc dX0_feed_25 0 rfl rfl ?_
    refine j_iload_n (pc := 26) hc dX0_feed_26 3 rfl rfl ?_
    obtain ⟨u6, eu6, hf7⟩ := ob_i hf6
    clear hf6
    obtain ⟨T7, eT7, hf8⟩ := ob_i hf7
    clear hf7
    refine j_callV (pc := 27) (As := [vi x3]) (rest := []) (st2 := []) hc ho cw_X0_79 (c_X0_put eT7) (Rc.of (g_cls_ok eu6) (by decide) (by decide) ci_X0) hrm ⟨by decide, by decide⟩ rfl (Nat.le_of_ble_eq_true rfl) dX0_feed_27 rfl rfl ?_
    refine j_aload_n (pc := 30) hc dX0_feed_30 0 rfl rfl ?_
    refine j_iload (pc := 31) hc dX0_feed_31 4 rfl ?_
    obtain ⟨u8, eu8, hf9⟩ := ob_i hf8
    clear hf8
    obtain ⟨T9, eT9, hf10⟩ := ob_i hf9
    clear hf9
    refine j_callV (pc := 33) (As := [vi x4]) (rest := []) (st2 := []) hc ho cw_X0_79 (c_X0_put eT9) (Rc.of (g_cls_ok eu8) (by decide) (by decide) ci_X0) hrm ⟨by decide, by decide⟩ rfl (Nat.le_of_ble_eq_true rfl) dX0_feed_33 rfl rfl ?_
    refine j_aload_n (pc := 36) hc dX0_feed_36 0 rfl rfl ?_
    refine j_iload (pc := 37) hc dX0_feed_37 5 rfl ?_
    obtain ⟨u10, eu10, hf11⟩ := ob_i hf10
    clear hf10
    obtain ⟨T11, eT11, hf12⟩ := ob_i hf11
    clear hf11
    refine j_callV (pc := 39) (As := [vi x5]) (rest := []) (st2 := []) hc ho cw_X0_79 (c_X0_put eT11) (Rc.of (g_cls_ok eu10) (by decide) (by decide) ci_X0) hrm ⟨by decide, by decide⟩ rfl (Nat.le_of_ble_eq_true rfl) dX0_feed_39 rfl rfl ?_
    refine j_aload_n (pc := 42) hc dX0_feed_42 0 rfl rfl ?_
    obtain ⟨v12, ev12, hf13⟩ := ob_i hf12
    clear hf12
    refine j_getI (pc := 43) hc ho fa_X0_76_1 dX0_feed_43 ev12 ?_
    cases hf13
    exact j_iret (pc := 46) hc hq hre rfl dX0_feed_46
  · have hf14 := (if_neg hh).symm.trans hf1
    clear hf1
    refine j_iconst (pc := 13) (v := (-1)) hc dX0_feed_13 rfl ?_
    cases hf14
    exact j_iret (pc := 14) hc hq hre rfl dX0_feed_14
def f_X0_end (a0 : Nat) (x1 : Int32) (S : HS) : Option (Int32 × HS) :=
  if x1 < 0 then
    some ((0), S)
  else
    (g_fI S 1 8 a0).bind fun v1 =>
    if x1 ≤ v1 then
      (p_fI S 1 8 a0 x1).bind fun T2 =>
      some ((1), T2)
    else
      some ((0), S)
set_option maxRecDepth 100000 in
set_option maxHeartbeats 2000000 in
theorem c_X0_end {l : Launch} {g : PG} {mo : MO} {a0 : Nat} {x1 : Int32} {r : Int32} {S S1 : HS} (hf : f_X0_end a0 x1 S = some (r, S1)) : (h_nx S ≤ h_nx S1 ∧ h_sl S ≤ h_sl S1) ∧ Ct l g yX0_end (ws_ yX0_end cX0_end 2 (some (.boolean))) 1 60 S mo [vr (some a0), vi x1] (some (vi r)) S1 mo := by
  refine met_of false (by decide) (fun h => by first | rfl | cases h) rfl (Nat.le_of_ble_eq_true rfl) (fun f hl hg hc ho hnL hrm hre hct hex hq => ?_)
  subst hl
  subst hg
  unfold f_X0_end at hf
  refine j_iload_n (pc := 0) hc dX0_end_0 1 rfl rfl ?_
  refine j_if_lt (pc := 1) hc dX0_end_1 (tgt := 12) rfl (fun hh => ?_) (fun hh => ?_)
  · have hf1 := (if_pos hh).symm.trans hf
    clear hf
    refine j_iconst (pc := 12) (v := (0)) hc dX0_end_12 rfl ?_
    cases hf1
    exact j_iret (pc := 13) hc hq hre rfl dX0_end_13
  · have hf2 := (if_neg hh).symm.trans hf
    clear hf
    refine j_iload_n (pc := 4) hc dX0_end_4 1 rfl rfl ?_
    refine j_aload_n (pc := 5) hc dX0_end_5 0 rfl rfl ?_
    obtain ⟨v1, ev1, hf3⟩ := ob_i hf2
    clear hf2
    refine j_getI (pc := 6) hc ho fa_X0_76_1 dX0_end_6 ev1 ?_
    refine j_icmp_le (pc := 9) hc dX0_end_9 (tgt := 14) rfl (fun hh => ?_) (fun hh => ?_)
    · have hf4 := (if_pos hh).symm.trans hf3
      clear hf3
      refine j_aload_n (pc := 14) hc dX0_end_14 0 rfl rfl ?_
      refine j_iload_n (pc := 15) hc dX0_end_15 1 rfl rfl ?_
      obtain ⟨T2, eT2, hf5⟩ := ob_i hf4
      clear hf4
      refine j_putI (pc := 16) hc ho fa_X0_76_1 (Or.inl rfl) dX0_end_16 eT2 ?_
      refine j_iconst (pc := 19) (v := (1)) hc dX0_end_19 rfl ?_
      cases hf5
      exact j_iret (pc := 20) hc hq hre rfl dX0_end_20
    · have hf6 := (if_neg hh).symm.trans hf3
      clear hf3
      refine j_iconst (pc := 12) (v := (0)) hc dX0_end_12 rfl ?_
      cases hf6
      exact j_iret (pc := 13) hc hq hre rfl dX0_end_13
theorem fn_X0_168 : FN "TableCatalog" 168 10 2 := ⟨RX12, TX12, tyX12, CI_X12, q942, q943, q108, by decide +kernel⟩
theorem cn_X0_170 : CN "TableCatalog" 170 yX12_init cX12_init 2 none 1 := ⟨⟨"TableCatalog", q944, q108, q946⟩, by decide, by decide, by decide +kernel⟩
theorem cw_X0_171 : CV "TableCatalog" 171 RX5 yX5_type cX5_type 5 (some (.char)) 1 := ⟨⟨q960, q961, q962, q100, q963⟩, rfl, by decide, by decide, by decide +kernel⟩
theorem cu_X0_175_X12 : CU "TableCatalog" 175 "TableCatalog$Known" ⟨"TableCatalog$Checker", "isWrong", "()Z"⟩ yX11_isWrong cX11_isWrong 1 (some (.boolean)) 0 := ⟨⟨q996, q998, q999, q997, q107, q1000⟩, Or.inl ⟨q997, _, _, _, q1000⟩, by decide, by decide, by decide +kernel⟩
theorem fa_X0_180_10 : FA "TableCatalog" 180 10 0 128 (.int) 1 := ⟨RX12, TX12, 2, tyX12, 0, "TableCatalog$Checker", CI_X12, by decide, rfl, rfl, by decide +kernel, Or.inr ⟨by decide, "TableCatalog", q954⟩, fun _ => rfl, Or.inl rfl⟩
theorem cw_X0_97 : CV "TableCatalog" 97 RX10 yX10_is cX10_is 3 none 2 := ⟨⟨q884, q885, q886, q105, q887⟩, rfl, by decide, by decide, by decide +kernel⟩
def f_X0_checked (a0 : Nat) (r1 : Option Nat) (r2 : Option Nat) (S : HS) : Option (Int32 × HS) :=
  (n_obj S 10 2).bind fun T1 =>
  (f_X12_init (h_nx S) (some a0) T1).bind fun T2 =>
  (r1).bind fun a3 =>
  (g_cls T2 5 a3).bind fun u4 =>
  o_bd (f_X5_type 40 a3 (some (h_nx S)) T2) fun v6 T5 =>
  if h_cl T5 (h_nx S) = 10 then
    o_bd (f_X11_isWrong (h_nx S) T5) fun v8 T7 =>
    if v8 = 0 then
      if vp_nar .char v6 = v6 then
        some (v6, T7)
      else
        none
    else
      (g_fI T7 10 128 (h_nx S)).bind fun v9 =>
      (r2).bind fun a10 =>
      (g_cls T7 9 a10).bind fun u11 =>
      (f_X10_is a10 (3) v9 T7).bind fun T12 =>
      if vp_nar .char v6 = v6 then
        some (v6, T12)
      else
        none
  else
    none
set_option maxRecDepth 100000 in
set_option maxHeartbeats 2000000 in
theorem c_X0_checked {l : Launch} {g : PG} {mo : MO} {a0 : Nat} {r1 : Option Nat} {r2 : Option Nat} {r : Int32} {S S1 : HS} (hf : f_X0_checked a0 r1 r2 S = some (r, S1)) : (h_nx S ≤ h_nx S1 ∧ h_sl S ≤ h_sl S1) ∧ Ct l g yX0_checked (ws_ yX0_checked cX0_checked 5 (some (.char))) 161 4984 S mo [vr (some a0), vr r1, vr r2] (some (vi r)) S1 mo := by
  refine met_of false (by decide) (fun h => by first | rfl | cases h) rfl (Nat.le_of_ble_eq_true rfl) (fun f hl hg hc ho hnL hrm hre hct hex hq => ?_)
  subst hl
  subst hg
  unfold f_X0_checked at hf
  obtain ⟨T1, eT1, hf1⟩ := ob_i hf
  clear hf
  refine j_new (pc := 0) hc ho fn_X0_168 dX0_checked_0 eT1 ?_
  refine j_dup (pc := 3) hc dX0_checked_3 rfl ?_
  refine j_aload_n (pc := 4) hc dX0_checked_4 0 rfl rfl ?_
  obtain ⟨T2, eT2, hf2⟩ := ob_i hf1
  clear hf1
  refine j_callIN (pc := 5) (As := [vr (some a0)]) (rest := [vr (some (h_nx S))]) (st2 := [vr (some (h_nx S))]) hc ho cn_X0_170 rfl q945 (c_X12_init eT2) hrm ⟨by decide, by decide⟩ rfl (Nat.le_of_ble_eq_true rfl) dX0_checked_5 rfl rfl ?_
  refine j_astore_n (pc := 8) (L' := [(3, vr (some (h_nx S))), (0, vr (some a0)), (1, vr r1), (2, vr r2)]) hc dX0_checked_8 rfl hnL (by decide) rfl ?_
  refine j_aload_n (pc := 9) hc dX0_checked_9 2 rfl rfl ?_
  refine j_aload_n (pc := 10) hc dX0_checked_10 0 rfl rfl ?_
  obtain ⟨a3, ea3, hf3⟩ := ob_i hf2
  clear hf2
  subst ea3
  obtain ⟨u4, eu4, hf4⟩ := ob_i hf3
  clear hf3
  obtain ⟨v6, T5, ev6, hf5⟩ := ob_c hf4
  clear hf4
  refine j_callV (pc := 11) (As := [vr (some (h_nx S))]) (rest := []) (st2 := [vi v6]) hc ho cw_X0_171 (c_X5_type 40 ev6) (Rc.of (g_cls_ok eu4) (by decide) (by decide) ci_X5) hrm ⟨by decide, by decide⟩ rfl (Nat.le_of_ble_eq_true rfl) dX0_checked_11 rfl rfl ?_
  refine j_istore (pc := 14) (L' := [(4, vi v6), (3, vr (some (h_nx S))), (0, vr (some a0)), (1, vr (some a3)), (2, vr r2)]) hc dX0_checked_14 hnL (by decide) rfl ?_
  refine j_aload_n (pc := 16) hc dX0_checked_16 1 rfl rfl ?_
  by_cases hk : h_cl T5 (h_nx S) = 10
  · have hf6 := (if_pos hk).symm.trans hf5
    clear hf5
    obtain ⟨v8, T7, ev8, hf7⟩ := ob_c hf6
    clear hf6
    refine j_callU (pc := 17) (As := []) (rest := []) (st2 := [vi v8]) hc ho cu_X0_175_X12 (c_X11_isWrong ev8) (Rc.of hk (by decide) (by decide) ci_X12) hrm ⟨by decide, by decide⟩ rfl (Nat.le_of_ble_eq_true rfl) dX0_checked_17 rfl rfl ?_
    refine j_if_eq (pc := 20) hc dX0_checked_20 (tgt := 32) rfl (fun hh => ?_) (fun hh => ?_)
    · have hf8 := (if_pos hh).symm.trans hf7
      clear hf7
      refine j_iload (pc := 32) hc dX0_checked_32 0 rfl ?_
      by_cases hh : vp_nar .char v6 = v6
      · have hf9 := (if_pos hh).symm.trans hf8
        clear hf8
        cases hf9
        exact j_iret (pc := 34) hc hq hre (nar_c hh) dX0_checked_34
      · have hf10 := (if_neg hh).symm.trans hf8
        clear hf8
        cases hf10
    · have hf11 := (if_neg hh).symm.trans hf7
      clear hf7
      refine j_aload_n (pc := 23) hc dX0_checked_23 4 rfl rfl ?_
      refine j_iconst (pc := 24) (v := (3)) hc dX0_checked_24 rfl ?_
      refine j_aload_n (pc := 25) hc dX0_checked_25 1 rfl rfl ?_
      obtain ⟨v9, ev9, hf12⟩ := ob_i hf11
      clear hf11
      refine j_getI (pc := 26) hc ho fa_X0_180_10 dX0_checked_26 ev9 ?_
      obtain ⟨a10, ea10, hf13⟩ := ob_i hf12
      clear hf12
      subst ea10
      obtain ⟨u11, eu11, hf14⟩ := ob_i hf13
      clear hf13
      obtain ⟨T12, eT12, hf15⟩ := ob_i hf14
      clear hf14
      refine j_callV (pc := 29) (As := [vi (3), vi v9]) (rest := []) (st2 := []) hc ho cw_X0_97 (c_X10_is eT12) (Rc.of (g_cls_ok eu11) (by decide) (by decide) ci_X10) hrm ⟨by decide, by decide⟩ rfl (Nat.le_of_ble_eq_true rfl) dX0_checked_29 rfl rfl ?_
      refine j_iload (pc := 32) hc dX0_checked_32 0 rfl ?_
      by_cases hh : vp_nar .char v6 = v6
      · have hf16 := (if_pos hh).symm.trans hf15
        clear hf15
        cases hf16
        exact j_iret (pc := 34) hc hq hre (nar_c hh) dX0_checked_34
      · have hf17 := (if_neg hh).symm.trans hf15
        clear hf15
        cases hf17
  · have hf18 := (if_neg hk).symm.trans hf5
    clear hf5
    cases hf18
theorem fa_X0_61_1 : FA "TableCatalog" 61 1 2 12 (.object "TableCatalog$Reader") 2 := ⟨RX0, TX0, 15, tyX0, 11, "TableCatalog", CI_X0, by decide, rfl, rfl, by decide +kernel, Or.inl ⟨q294, fun _ => ⟨rfl, rfl⟩⟩, fun h => (by cases h), Or.inl rfl⟩
theorem fa_X0_123_2 : FA "TableCatalog" 123 2 2 24 (.object "java/util/ArrayList") 0 := ⟨RX1, TX1, 15, tyX1, 8, "TableCatalog$Reader", CI_X1, by decide, rfl, rfl, by decide +kernel, Or.inr ⟨by decide, "TableCatalog", q240⟩, fun h => (by cases h), Or.inl rfl⟩
theorem fa_X0_183_8 : FA "TableCatalog" 183 8 2 121 (.object "java/lang/String") 0 := ⟨RX9, TX9, 5, tyX9, 1, "TableCatalog$Part", CI_X9, by decide, rfl, rfl, by decide +kernel, Or.inr ⟨by decide, "TableCatalog", q823⟩, fun h => (by cases h), Or.inl rfl⟩
theorem cw_X0_116 : CV "TableCatalog" 116 RJ5 yJ5_indexOf cJ5_indexOf 2 (some (.int)) 1 := ⟨⟨q901, q902, q903, q89, q904⟩, rfl, by decide, by decide, by decide +kernel⟩
theorem fa_X0_126_4 : FA "TableCatalog" 126 4 2 103 (.array .int) 0 := ⟨RX4, TX4, 15, tyX4, 5, "TableCatalog$Table", CI_X4, by decide, rfl, rfl, by decide +kernel, Or.inr ⟨by decide, "TableCatalog", q567⟩, fun h => (by cases h), Or.inl rfl⟩
theorem fa_X0_35_1 : FA "TableCatalog" 35 1 2 1 (.array (.object "TableCatalog$Table")) 2 := ⟨RX0, TX0, 15, tyX0, 0, "TableCatalog", CI_X0, by decide, rfl, rfl, by decide +kernel, Or.inl ⟨q283, fun _ => ⟨rfl, rfl⟩⟩, fun h => (by cases h), Or.inl rfl⟩
theorem fa_X0_103_4 : FA "TableCatalog" 103 4 2 100 (.object "java/util/ArrayList") 0 := ⟨RX4, TX4, 15, tyX4, 2, "TableCatalog$Table", CI_X4, by decide, rfl, rfl, by decide +kernel, Or.inr ⟨by decide, "TableCatalog", q558⟩, fun h => (by cases h), Or.inl rfl⟩
theorem fa_X0_188_8 : FA "TableCatalog" 188 8 2 122 (.object "java/lang/String") 0 := ⟨RX9, TX9, 5, tyX9, 2, "TableCatalog$Part", CI_X9, by decide, rfl, rfl, by decide +kernel, Or.inr ⟨by decide, "TableCatalog", q825⟩, fun h => (by cases h), Or.inl rfl⟩
theorem fa_X0_194_8 : FA "TableCatalog" 194 8 0 124 (.int) 1 := ⟨RX9, TX9, 5, tyX9, 4, "TableCatalog$Part", CI_X9, by decide, rfl, rfl, by decide +kernel, Or.inr ⟨by decide, "TableCatalog", q829⟩, fun _ => rfl, Or.inl rfl⟩
theorem fa_X0_191_8 : FA "TableCatalog" 191 8 0 123 (.int) 0 := ⟨RX9, TX9, 5, tyX9, 3, "TableCatalog$Part", CI_X9, by decide, rfl, rfl, by decide +kernel, Or.inr ⟨by decide, "TableCatalog", q827⟩, fun h => (by cases h), Or.inl rfl⟩
theorem fa_X0_185_8 : FA "TableCatalog" 185 8 0 116 (.int) 0 := ⟨RX9, TX9, 5, tyX9, 0, "TableCatalog$Part", CI_X9, by decide, rfl, rfl, by decide +kernel, Or.inl ⟨q781, fun h => (by cases h)⟩, fun h => (by cases h), Or.inr q782⟩
def f_X0_finds_2 (a0 : Nat) (r1 : Option Nat) (r2 : Option Nat) (r3 : Option Nat) (S : HS) : Option HS :=
  (g_fR S 1 12 a0).bind fun q1 =>
  (q1).bind fun a2 =>
  (g_fR S 2 24 a2).bind fun q3 =>
  (r2).bind fun a4 =>
  (g_fR S 8 121 a4).bind fun q5 =>
  (q3).bind fun a6 =>
  (g_cls S 12 a6).bind fun u7 =>
  o_bd (f_J5_indexOf a6 q5 S) fun v9 T8 =>
  if v9 = (-1) then
    (g_fI T8 8 116 a4).bind fun v35 =>
    (r3).bind fun a36 =>
    (g_cls T8 9 a36).bind fun u37 =>
    (f_X10_is a36 (2) v35 T8).bind fun T38 =>
    some T38
  else
    (r1).bind fun a10 =>
    (g_fR T8 4 103 a10).bind fun q11 =>
    (q11).bind fun a12 =>
    (g_aI T8 31 a12 v9).bind fun v13 =>
    if v13 = (-1) then
      some T8
    else
      (g_fR T8 1 1 a0).bind fun q14 =>
      (g_fR T8 4 103 a10).bind fun q15 =>
      (q15).bind fun a16 =>
      (g_aI T8 31 a16 v9).bind fun v17 =>
      (q14).bind fun a18 =>
      (g_aR T8 36 a18 v17).bind fun q19 =>
      (q19).bind fun a20 =>
      (g_fR T8 4 100 a20).bind fun q21 =>
      (g_fR T8 8 122 a4).bind fun q22 =>
      (q21).bind fun a23 =>
      (g_cls T8 12 a23).bind fun u24 =>
      o_bd (f_J5_indexOf a23 q22 T8) fun v26 T25 =>
      if v26 = (-1) then
        (g_fI T25 8 123 a4).bind fun v31 =>
        (r3).bind fun a32 =>
        (g_cls T25 9 a32).bind fun u33 =>
        (f_X10_is a32 (2) v31 T25).bind fun T34 =>
        some T34
      else
        (g_fR T25 4 103 a10).bind fun q27 =>
        (q27).bind fun a28 =>
        (g_aI T25 31 a28 v9).bind fun v29 =>
        (p_fI T25 8 124 a4 (((8) * v29) + v26)).bind fun T30 =>
        some T30
set_option maxRecDepth 100000 in
set_option maxHeartbeats 2000000 in
theorem c_X0_finds_2 {l : Launch} {g : PG} {mo : MO} {a0 : Nat} {r1 : Option Nat} {r2 : Option Nat} {r3 : Option Nat} {S S1 : HS} (hf : f_X0_finds_2 a0 r1 r2 r3 S = some S1) : (h_nx S ≤ h_nx S1 ∧ h_sl S ≤ h_sl S1) ∧ Ct l g yX0_finds_2 (ws_ yX0_finds_2 cX0_finds_2 6 none) 5 150 S mo [vr (some a0), vr r1, vr r2, vr r3] none S1 mo := by
  refine met_of false (by decide) (fun h => by first | rfl | cases h) rfl (Nat.le_of_ble_eq_true rfl) (fun f hl hg hc ho hnL hrm hre hct hex hq => ?_)
  subst hl
  subst hg
  unfold f_X0_finds_2 at hf
  refine j_aload_n (pc := 0) hc dX0_finds_2_0 0 rfl rfl ?_
  obtain ⟨q1, eq1, hf1⟩ := ob_i hf
  clear hf
  refine j_getR (pc := 1) hc ho fa_X0_61_1 dX0_finds_2_1 eq1 ?_
  obtain ⟨a2, ea2, hf2⟩ := ob_i hf1
  clear hf1
  subst ea2
  obtain ⟨q3, eq3, hf3⟩ := ob_i hf2
  clear hf2
  refine j_getR (pc := 4) hc ho fa_X0_123_2 dX0_finds_2_4 eq3 ?_
  refine j_aload_n (pc := 7) hc dX0_finds_2_7 2 rfl rfl ?_
  obtain ⟨a4, ea4, hf4⟩ := ob_i hf3
  clear hf3
  subst ea4
  obtain ⟨q5, eq5, hf5⟩ := ob_i hf4
  clear hf4
  refine j_getR (pc := 8) hc ho fa_X0_183_8 dX0_finds_2_8 eq5 ?_
  obtain ⟨a6, ea6, hf6⟩ := ob_i hf5
  clear hf5
  subst ea6
  obtain ⟨u7, eu7, hf7⟩ := ob_i hf6
  clear hf6
  obtain ⟨v9, T8, ev9, hf8⟩ := ob_c hf7
  clear hf7
  refine j_callV (pc := 11) (As := [vr q5]) (rest := []) (st2 := [vi v9]) hc ho cw_X0_116 (c_J5_indexOf ev9) (Rc.of (g_cls_ok eu7) (by decide) (by decide) ci_J5) hrm ⟨by decide, by decide⟩ rfl (Nat.le_of_ble_eq_true rfl) dX0_finds_2_11 rfl rfl ?_
  refine j_istore (pc := 14) (L' := [(4, vi v9), (0, vr (some a0)), (1, vr r1), (2, vr (some a4)), (3, vr r3)]) hc dX0_finds_2_14 hnL (by decide) rfl ?_
  refine j_iload (pc := 16) hc dX0_finds_2_16 0 rfl ?_
  refine j_iconst (pc := 18) (v := (-1)) hc dX0_finds_2_18 rfl ?_
  refine j_icmp_ne (pc := 19) hc dX0_finds_2_19 (tgt := 32) rfl (fun hh => ?_) (fun hh => ?_)
  · have hf9 := (if_neg hh).symm.trans hf8
    clear hf8
    refine j_aload_n (pc := 32) hc dX0_finds_2_32 2 rfl rfl ?_
    obtain ⟨a10, ea10, hf10⟩ := ob_i hf9
    clear hf9
    subst ea10
    obtain ⟨q11, eq11, hf11⟩ := ob_i hf10
    clear hf10
    refine j_getR (pc := 33) hc ho fa_X0_126_4 dX0_finds_2_33 eq11 ?_
    refine j_iload (pc := 36) hc dX0_finds_2_36 0 rfl ?_
    obtain ⟨a12, ea12, hf12⟩ := ob_i hf11
    clear hf11
    subst ea12
    obtain ⟨v13, ev13, hf13⟩ := ob_i hf12
    clear hf12
    refine j_iald (pc := 38) hc dX0_finds_2_38 ev13 ?_
    refine j_iconst (pc := 39) (v := (-1)) hc dX0_finds_2_39 rfl ?_
    refine j_icmp_ne (pc := 40) hc dX0_finds_2_40 (tgt := 44) rfl (fun hh => ?_) (fun hh => ?_)
    · have hf14 := (if_neg hh).symm.trans hf13
      clear hf13
      refine j_aload_n (pc := 44) hc dX0_finds_2_44 1 rfl rfl ?_
      obtain ⟨q14, eq14, hf15⟩ := ob_i hf14
      clear hf14
      refine j_getR (pc := 45) hc ho fa_X0_35_1 dX0_finds_2_45 eq14 ?_
      refine j_aload_n (pc := 48) hc dX0_finds_2_48 2 rfl rfl ?_
      obtain ⟨q15, eq15, hf16⟩ := ob_i hf15
      clear hf15
      refine j_getR (pc := 49) hc ho fa_X0_126_4 dX0_finds_2_49 eq15 ?_
      refine j_iload (pc := 52) hc dX0_finds_2_52 0 rfl ?_
      obtain ⟨a16, ea16, hf17⟩ := ob_i hf16
      clear hf16
      subst ea16
      obtain ⟨v17, ev17, hf18⟩ := ob_i hf17
      clear hf17
      refine j_iald (pc := 54) hc dX0_finds_2_54 ev17 ?_
      obtain ⟨a18, ea18, hf19⟩ := ob_i hf18
      clear hf18
      subst ea18
      obtain ⟨q19, eq19, hf20⟩ := ob_i hf19
      clear hf19
      refine j_aald (pc := 55) hc dX0_finds_2_55 (by decide) eq19 ?_
      obtain ⟨a20, ea20, hf21⟩ := ob_i hf20
      clear hf20
      subst ea20
      obtain ⟨q21, eq21, hf22⟩ := ob_i hf21
      clear hf21
      refine j_getR (pc := 56) hc ho fa_X0_103_4 dX0_finds_2_56 eq21 ?_
      refine j_aload_n (pc := 59) hc dX0_finds_2_59 3 rfl rfl ?_
      obtain ⟨q22, eq22, hf23⟩ := ob_i hf22
      clear hf22
      refine j_getR (pc := 60) hc ho fa_X0_188_8 dX0_finds_2_60 eq22 ?_
      obtain ⟨a23, ea23, hf24⟩ := ob_i hf23
      clear hf23
      subst ea23
      obtain ⟨u24, eu24, hf25⟩ := ob_i hf24
      clear hf24
      obtain ⟨v26, T25, ev26, hf26⟩ := ob_c hf25
      clear hf25
      refine j_callV (pc := 63) (As := [vr q22]) (rest := []) (st2 := [vi v26]) hc ho cw_X0_116 (c_J5_indexOf ev26) (Rc.of (g_cls_ok eu24) (by decide) (by decide) ci_J5) hrm ⟨by decide, by decide⟩ rfl (Nat.le_of_ble_eq_true rfl) dX0_finds_2_63 rfl rfl ?_
      refine j_istore (pc := 66) (L' := [(5, vi v26), (4, vi v9), (0, vr (some a0)), (1, vr (some a10)), (2, vr (some a4)), (3, vr r3)]) hc dX0_finds_2_66 hnL (by decide) rfl ?_
      refine j_iload (pc := 68) hc dX0_finds_2_68 0 rfl ?_
      refine j_iconst (pc := 70) (v := (-1)) hc dX0_finds_2_70 rfl ?_
      refine j_icmp_ne (pc := 71) hc dX0_finds_2_71 (tgt := 86) rfl (fun hh => ?_) (fun hh => ?_)
      · have hf27 := (if_neg hh).symm.trans hf26
        clear hf26
        refine j_aload_n (pc := 86) hc dX0_finds_2_86 4 rfl rfl ?_
        refine j_bipush (pc := 87) (v := (8)) hc dX0_finds_2_87 rfl ?_
        refine j_aload_n (pc := 89) hc dX0_finds_2_89 3 rfl rfl ?_
        obtain ⟨q27, eq27, hf28⟩ := ob_i hf27
        clear hf27
        refine j_getR (pc := 90) hc ho fa_X0_126_4 dX0_finds_2_90 eq27 ?_
        refine j_iload (pc := 93) hc dX0_finds_2_93 1 rfl ?_
        obtain ⟨a28, ea28, hf29⟩ := ob_i hf28
        clear hf28
        subst ea28
        obtain ⟨v29, ev29, hf30⟩ := ob_i hf29
        clear hf29
        refine j_iald (pc := 95) hc dX0_finds_2_95 ev29 ?_
        refine j_imul (pc := 96) hc dX0_finds_2_96 ?_
        refine j_iload (pc := 97) hc dX0_finds_2_97 0 rfl ?_
        refine j_iadd (pc := 99) hc dX0_finds_2_99 ?_
        obtain ⟨T30, eT30, hf31⟩ := ob_i hf30
        clear hf30
        refine j_putI (pc := 100) hc ho fa_X0_194_8 (Or.inl rfl) dX0_finds_2_100 eT30 ?_
        cases hf31
        exact j_vret (pc := 103) hc hq hre dX0_finds_2_103
      · have hf32 := (if_pos hh).symm.trans hf26
        clear hf26
        refine j_aload_n (pc := 74) hc dX0_finds_2_74 5 rfl rfl ?_
        refine j_iconst (pc := 75) (v := (2)) hc dX0_finds_2_75 rfl ?_
        refine j_aload_n (pc := 76) hc dX0_finds_2_76 4 rfl rfl ?_
        obtain ⟨v31, ev31, hf33⟩ := ob_i hf32
        clear hf32
        refine j_getI (pc := 77) hc ho fa_X0_191_8 dX0_finds_2_77 ev31 ?_
        obtain ⟨a32, ea32, hf34⟩ := ob_i hf33
        clear hf33
        subst ea32
        obtain ⟨u33, eu33, hf35⟩ := ob_i hf34
        clear hf34
        obtain ⟨T34, eT34, hf36⟩ := ob_i hf35
        clear hf35
        refine j_callV (pc := 80) (As := [vi (2), vi v31]) (rest := []) (st2 := []) hc ho cw_X0_97 (c_X10_is eT34) (Rc.of (g_cls_ok eu33) (by decide) (by decide) ci_X10) hrm ⟨by decide, by decide⟩ rfl (Nat.le_of_ble_eq_true rfl) dX0_finds_2_80 rfl rfl ?_
        refine j_goto (pc := 83) hc dX0_finds_2_83 (tgt := 103) rfl ?_
        cases hf36
        exact j_vret (pc := 103) hc hq hre dX0_finds_2_103
    · have hf37 := (if_pos hh).symm.trans hf13
      clear hf13
      cases hf37
      exact j_vret (pc := 43) hc hq hre dX0_finds_2_43
  · have hf38 := (if_pos hh).symm.trans hf8
    clear hf8
    refine j_aload_n (pc := 22) hc dX0_finds_2_22 4 rfl rfl ?_
    refine j_iconst (pc := 23) (v := (2)) hc dX0_finds_2_23 rfl ?_
    refine j_aload_n (pc := 24) hc dX0_finds_2_24 3 rfl rfl ?_
    obtain ⟨v35, ev35, hf39⟩ := ob_i hf38
    clear hf38
    refine j_getI (pc := 25) hc ho fa_X0_185_8 dX0_finds_2_25 ev35 ?_
    obtain ⟨a36, ea36, hf40⟩ := ob_i hf39
    clear hf39
    subst ea36
    obtain ⟨u37, eu37, hf41⟩ := ob_i hf40
    clear hf40
    obtain ⟨T38, eT38, hf42⟩ := ob_i hf41
    clear hf41
    refine j_callV (pc := 28) (As := [vi (2), vi v35]) (rest := []) (st2 := []) hc ho cw_X0_97 (c_X10_is eT38) (Rc.of (g_cls_ok eu37) (by decide) (by decide) ci_X10) hrm ⟨by decide, by decide⟩ rfl (Nat.le_of_ble_eq_true rfl) dX0_finds_2_28 rfl rfl ?_
    cases hf42
    exact j_vret (pc := 31) hc hq hre dX0_finds_2_31
theorem fa_X0_83_1 : FA "TableCatalog" 83 1 0 2 (.int) 1 := ⟨RX0, TX0, 15, tyX0, 1, "TableCatalog", CI_X0, by decide, rfl, rfl, by decide +kernel, Or.inl ⟨q284, fun h => (by cases h)⟩, fun _ => rfl, Or.inl rfl⟩
theorem fa_X0_86_4 : FA "TableCatalog" 86 4 2 98 (.object "java/lang/String") 0 := ⟨RX4, TX4, 15, tyX4, 0, "TableCatalog$Table", CI_X4, by decide, rfl, rfl, by decide +kernel, Or.inr ⟨by decide, "TableCatalog", q553⟩, fun h => (by cases h), Or.inl rfl⟩
def f_X0_numberOf_n2 (a0 : Nat) : Nat → Option Nat → Int32 → HS → Option (Int32 × HS)
  | 0, _, _, _ => none
  | n + 1, r1, x2, S =>
    (g_fI S 1 2 a0).bind fun v1 =>
    if v1 ≤ x2 then
      some ((-1), S)
    else
      (g_fR S 1 1 a0).bind fun q2 =>
      (q2).bind fun a3 =>
      (g_aR S 36 a3 x2).bind fun q4 =>
      o_case q4 (
        (fun r1 x2 S => f_X0_numberOf_n2 a0 n r1 x2 S) r1 (x2 + (1)) S
      ) (fun a5 =>
        (g_fR S 1 1 a0).bind fun q6 =>
        (q6).bind fun a7 =>
        (g_aR S 36 a7 x2).bind fun q8 =>
        (q8).bind fun a9 =>
        (g_fR S 4 98 a9).bind fun q10 =>
        (q10).bind fun a11 =>
        (g_cls S 13 a11).bind fun u12 =>
        o_bd (f_J6_equals a11 r1 S) fun v14 T13 =>
        if v14 = 0 then
          (fun r1 x2 S => f_X0_numberOf_n2 a0 n r1 x2 S) r1 (x2 + (1)) T13
        else
          some (x2, T13)
      )
def f_X0_numberOf (a0 : Nat) (r1 : Option Nat) (S : HS) : Option (Int32 × HS) :=
  f_X0_numberOf_n2 a0 fu_ r1 (0) S
set_option maxRecDepth 100000 in
set_option maxHeartbeats 2000000 in
theorem w_X0_numberOf_n2 {f : CfT} {mo : MO} {a0 : Nat} {r : Int32} {S1 : HS} (hc : cf_cc f = cX0_numberOf) (ho : cf_ow f = "TableCatalog") (hnL : cf_nL f = 3) (hrm : cf_rm f = (3, 104)) (hre : cf_re f = (some (.int))) (hct : cf_ct f = false) (hq : Qok f (some (vi r)) S1 mo) : ∀ (n : Nat) (r1 : Option Nat) (x2 : Int32) (S : HS), f_X0_numberOf_n2 a0 n r1 x2 S = some (r, S1) → JJ f S mo 2 [(0, vr (some a0)), (1, vr r1), (2, vi x2)] [] := by
  intro n
  induction n with
  | zero =>
    intro r1 x2 S hf
    have hf : (none : Option (Int32 × HS)) = some (r, S1) := hf
    cases hf
  | succ n ih =>
    intro r1 x2 S hf
    unfold f_X0_numberOf_n2 at hf
    have hk_2 := ih
    refine j_iload_n (pc := 2) hc dX0_numberOf_2 2 rfl rfl ?_
    refine j_aload_n (pc := 3) hc dX0_numberOf_3 0 rfl rfl ?_
    obtain ⟨v1, ev1, hf1⟩ := ob_i hf
    clear hf
    refine j_getI (pc := 4) hc ho fa_X0_83_1 dX0_numberOf_4 ev1 ?_
    refine j_icmp_ge (pc := 7) hc dX0_numberOf_7 (tgt := 43) rfl (fun hh => ?_) (fun hh => ?_)
    · have hf2 := (if_pos hh).symm.trans hf1
      clear hf1
      refine j_iconst (pc := 43) (v := (-1)) hc dX0_numberOf_43 rfl ?_
      cases hf2
      exact j_iret (pc := 44) hc hq hre rfl dX0_numberOf_44
    · have hf3 := (if_neg hh).symm.trans hf1
      clear hf1
      refine j_aload_n (pc := 10) hc dX0_numberOf_10 0 rfl rfl ?_
      obtain ⟨q2, eq2, hf4⟩ := ob_i hf3
      clear hf3
      refine j_getR (pc := 11) hc ho fa_X0_35_1 dX0_numberOf_11 eq2 ?_
      refine j_iload_n (pc := 14) hc dX0_numberOf_14 2 rfl rfl ?_
      obtain ⟨a3, ea3, hf5⟩ := ob_i hf4
      clear hf4
      subst ea3
      obtain ⟨q4, eq4, hf6⟩ := ob_i hf5
      clear hf5
      refine j_aald (pc := 15) hc dX0_numberOf_15 (by decide) eq4 ?_
      refine j_ifnull (pc := 16) hc dX0_numberOf_16 (tgt := 37) rfl (fun hh => ?_) (fun a5 hh => ?_)
      · subst hh
        refine j_iinc (pc := 37) (L' := [(2, vi (x2 + (1))), (0, vr (some a0)), (1, vr r1)]) (v := (x2 + (1))) hc dX0_numberOf_37 2 rfl rfl hnL (by decide) rfl ?_
        refine j_goto (pc := 40) hc dX0_numberOf_40 (tgt := 2) rfl ?_
        refine j_loc (L' := [(0, vr (some a0)), (1, vr r1), (2, vi (x2 + (1)))]) [1, 2, 0] rfl ?_
        exact hk_2 _ _ _ hf6
      · subst hh
        refine j_aload_n (pc := 19) hc dX0_numberOf_19 0 rfl rfl ?_
        obtain ⟨q6, eq6, hf7⟩ := ob_i hf6
        clear hf6
        refine j_getR (pc := 20) hc ho fa_X0_35_1 dX0_numberOf_20 eq6 ?_
        refine j_iload_n (pc := 23) hc dX0_numberOf_23 2 rfl rfl ?_
        obtain ⟨a7, ea7, hf8⟩ := ob_i hf7
        clear hf7
        subst ea7
        obtain ⟨q8, eq8, hf9⟩ := ob_i hf8
        clear hf8
        refine j_aald (pc := 24) hc dX0_numberOf_24 (by decide) eq8 ?_
        obtain ⟨a9, ea9, hf10⟩ := ob_i hf9
        clear hf9
        subst ea9
        obtain ⟨q10, eq10, hf11⟩ := ob_i hf10
        clear hf10
        refine j_getR (pc := 25) hc ho fa_X0_86_4 dX0_numberOf_25 eq10 ?_
        refine j_aload_n (pc := 28) hc dX0_numberOf_28 1 rfl rfl ?_
        obtain ⟨a11, ea11, hf12⟩ := ob_i hf11
        clear hf11
        subst ea11
        obtain ⟨u12, eu12, hf13⟩ := ob_i hf12
        clear hf12
        obtain ⟨v14, T13, ev14, hf14⟩ := ob_c hf13
        clear hf13
        refine j_callV (pc := 29) (As := [vr r1]) (rest := []) (st2 := [vi v14]) hc ho cw_X0_11 (c_J6_equals ev14) (Rc.of (g_cls_ok eu12) (by decide) (by decide) ci_J6) hrm ⟨by decide, by decide⟩ rfl (Nat.le_of_ble_eq_true rfl) dX0_numberOf_29 rfl rfl ?_
        refine j_if_eq (pc := 32) hc dX0_numberOf_32 (tgt := 37) rfl (fun hh => ?_) (fun hh => ?_)
        · have hf15 := (if_pos hh).symm.trans hf14
          clear hf14
          refine j_iinc (pc := 37) (L' := [(2, vi (x2 + (1))), (0, vr (some a0)), (1, vr r1)]) (v := (x2 + (1))) hc dX0_numberOf_37 2 rfl rfl hnL (by decide) rfl ?_
          refine j_goto (pc := 40) hc dX0_numberOf_40 (tgt := 2) rfl ?_
          refine j_loc (L' := [(0, vr (some a0)), (1, vr r1), (2, vi (x2 + (1)))]) [1, 2, 0] rfl ?_
          exact hk_2 _ _ _ hf15
        · have hf16 := (if_neg hh).symm.trans hf14
          clear hf14
          refine j_iload_n (pc := 35) hc dX0_numberOf_35 2 rfl rfl ?_
          cases hf16
          exact j_iret (pc := 36) hc hq hre rfl dX0_numberOf_36
set_option maxRecDepth 100000 in
set_option maxHeartbeats 2000000 in
theorem c_X0_numberOf {l : Launch} {g : PG} {mo : MO} {a0 : Nat} {r1 : Option Nat} {r : Int32} {S S1 : HS} (hf : f_X0_numberOf a0 r1 S = some (r, S1)) : (h_nx S ≤ h_nx S1 ∧ h_sl S ≤ h_sl S1) ∧ Ct l g yX0_numberOf (ws_ yX0_numberOf cX0_numberOf 3 (some (.int))) 3 104 S mo [vr (some a0), vr r1] (some (vi r)) S1 mo := by
  refine met_of false (by decide) (fun h => by first | rfl | cases h) rfl (Nat.le_of_ble_eq_true rfl) (fun f hl hg hc ho hnL hrm hre hct hex hq => ?_)
  subst hl
  subst hg
  unfold f_X0_numberOf at hf
  refine j_iconst (pc := 0) (v := (0)) hc dX0_numberOf_0 rfl ?_
  refine j_istore_n (pc := 1) (L' := [(2, vi (0)), (0, vr (some a0)), (1, vr r1)]) hc dX0_numberOf_1 rfl hnL (by decide) rfl ?_
  refine j_loc (L' := [(0, vr (some a0)), (1, vr r1), (2, vi (0))]) [1, 2, 0] rfl ?_
  exact w_X0_numberOf_n2 hc ho hnL hrm hre hct hq fu_ _ _ _ hf
theorem fa_X0_128_2 : FA "TableCatalog" 128 2 2 25 (.array .int) 0 := ⟨RX1, TX1, 15, tyX1, 9, "TableCatalog$Reader", CI_X1, by decide, rfl, rfl, by decide +kernel, Or.inr ⟨by decide, "TableCatalog", q242⟩, fun h => (by cases h), Or.inl rfl⟩
theorem fa_X0_146_4 : FA "TableCatalog" 146 4 2 101 (.object "java/util/ArrayList") 0 := ⟨RX4, TX4, 15, tyX4, 3, "TableCatalog$Table", CI_X4, by decide, rfl, rfl, by decide +kernel, Or.inr ⟨by decide, "TableCatalog", q560⟩, fun h => (by cases h), Or.inl rfl⟩
theorem cw_X0_107 : CV "TableCatalog" 107 RJ5 yJ5_size cJ5_size 1 (some (.int)) 0 := ⟨⟨q888, q630, q631, q89, q632⟩, rfl, by decide, by decide, by decide +kernel⟩
theorem fa_X0_158_4 : FA "TableCatalog" 158 4 2 105 (.object "TableCatalog$Formula") 1 := ⟨RX4, TX4, 15, tyX4, 7, "TableCatalog$Table", CI_X4, by decide, rfl, rfl, by decide +kernel, Or.inr ⟨by decide, "TableCatalog", q569⟩, fun _ => rfl, Or.inl rfl⟩
theorem cw_X0_154 : CV "TableCatalog" 154 RX0 yX0_checked cX0_checked 5 (some (.char)) 2 := ⟨⟨q938, q940, qs25, q81, q941⟩, rfl, by decide, by decide, by decide +kernel⟩
theorem fa_X0_162_4 : FA "TableCatalog" 162 4 2 106 (.object "TableCatalog$Formula") 1 := ⟨RX4, TX4, 15, tyX4, 8, "TableCatalog$Table", CI_X4, by decide, rfl, rfl, by decide +kernel, Or.inr ⟨by decide, "TableCatalog", q571⟩, fun _ => rfl, Or.inl rfl⟩
theorem fa_X0_165_4 : FA "TableCatalog" 165 4 0 107 (.int) 1 := ⟨RX4, TX4, 15, tyX4, 9, "TableCatalog$Table", CI_X4, by decide, rfl, rfl, by decide +kernel, Or.inr ⟨by decide, "TableCatalog", q573⟩, fun _ => rfl, Or.inl rfl⟩
theorem fa_X0_149_4 : FA "TableCatalog" 149 4 2 102 (.array .char) 0 := ⟨RX4, TX4, 15, tyX4, 4, "TableCatalog$Table", CI_X4, by decide, rfl, rfl, by decide +kernel, Or.inr ⟨by decide, "TableCatalog", q564⟩, fun h => (by cases h), Or.inl rfl⟩
theorem cw_X0_112 : CV "TableCatalog" 112 RJ5 yJ5_get cJ5_get 2 (some (.object "java/lang/Object")) 1 := ⟨⟨q889, q890, q891, q89, q892⟩, rfl, by decide, by decide, by decide +kernel⟩
theorem fc_X0_152_5 : FC "TableCatalog" 152 [5] := ⟨"TableCatalog$Formula", q937, fun c h => by
  cases List.mem_singleton.mp h
  exact ⟨by decide, by decide, _, ci_X5, Or.inl rfl⟩⟩
theorem fa_X0_133_2 : FA "TableCatalog" 133 2 2 23 (.object "java/util/ArrayList") 0 := ⟨RX1, TX1, 15, tyX1, 7, "TableCatalog$Reader", CI_X1, by decide, rfl, rfl, by decide +kernel, Or.inr ⟨by decide, "TableCatalog", q238⟩, fun h => (by cases h), Or.inl rfl⟩
theorem cw_X0_142 : CV "TableCatalog" 142 RX4 yX4_isMade cX4_isMade 1 (some (.boolean)) 0 := ⟨⟨q933, q934, q935, q96, q936⟩, rfl, by decide, by decide, by decide +kernel⟩
theorem fc_X0_136_8 : FC "TableCatalog" 136 [8] := ⟨"TableCatalog$Part", q928, fun c h => by
  cases List.mem_singleton.mp h
  exact ⟨by decide, by decide, _, ci_X9, Or.inl rfl⟩⟩
theorem cw_X0_138 : CV "TableCatalog" 138 RX0 yX0_finds_2 cX0_finds_2 6 none 3 := ⟨⟨q929, q931, qs24, q81, q932⟩, rfl, by decide, by decide, by decide +kernel⟩
theorem fa_X0_131_4 : FA "TableCatalog" 131 4 0 104 (.int) 1 := ⟨RX4, TX4, 15, tyX4, 6, "TableCatalog$Table", CI_X4, by decide, rfl, rfl, by decide +kernel, Or.inr ⟨by decide, "TableCatalog", q568⟩, fun _ => rfl, Or.inl rfl⟩
theorem fc_X0_4_13 : FC "TableCatalog" 4 [13] := ⟨"java/lang/String", q927, fun c h => by
  cases List.mem_singleton.mp h
  exact ⟨by decide, by decide, _, ci_J6, Or.inl rfl⟩⟩
theorem cw_X0_90 : CV "TableCatalog" 90 RX0 yX0_numberOf cX0_numberOf 3 (some (.int)) 1 := ⟨⟨q880, q882, qs23, q81, q883⟩, rfl, by decide, by decide, by decide +kernel⟩
theorem fa_X0_120_2 : FA "TableCatalog" 120 2 2 26 (.array .int) 0 := ⟨RX1, TX1, 15, tyX1, 10, "TableCatalog$Reader", CI_X1, by decide, rfl, rfl, by decide +kernel, Or.inr ⟨by decide, "TableCatalog", q244⟩, fun h => (by cases h), Or.inl rfl⟩
theorem fa_X0_94_2 : FA "TableCatalog" 94 2 0 27 (.int) 1 := ⟨RX1, TX1, 15, tyX1, 11, "TableCatalog$Reader", CI_X1, by decide, rfl, rfl, by decide +kernel, Or.inr ⟨by decide, "TableCatalog", q246⟩, fun _ => rfl, Or.inl rfl⟩
def f_X0_finds_n150 (k_78 : Option Nat → Option Nat → Int32 → HS → Option HS) (a0 : Nat) (r1 : Option Nat) (r2 : Option Nat) (x3 : Int32) (S : HS) : Option HS :=
  (r1).bind fun a1 =>
  (g_fR S 4 103 a1).bind fun q2 =>
  (q2).bind fun a3 =>
  (g_aI S 31 a3 x3).bind fun v4 =>
  if v4 = (-1) then
    (g_fR S 1 12 a0).bind fun q5 =>
    (q5).bind fun a6 =>
    (g_fR S 2 25 a6).bind fun q7 =>
    (q7).bind fun a8 =>
    (g_aI S 31 a8 x3).bind fun v9 =>
    (r2).bind fun a10 =>
    (g_cls S 9 a10).bind fun u11 =>
    (f_X10_is a10 (2) v9 S).bind fun T12 =>
    k_78 (some a1) (some a10) (x3 + (1)) T12
  else
    k_78 (some a1) r2 (x3 + (1)) S
def f_X0_finds_n246 (a0 : Nat) : Nat → Option Nat → Option Nat → Int32 → HS → Option HS
  | 0, _, _, _, _ => none
  | n + 1, r1, r2, x3, S =>
    (r1).bind fun a1 =>
    (g_fR S 4 101 a1).bind fun q2 =>
    (q2).bind fun a3 =>
    (g_cls S 12 a3).bind fun u4 =>
    o_bd (f_J5_size a3 S) fun v6 T5 =>
    if v6 ≤ x3 then
      (g_fR T5 4 105 a1).bind fun q7 =>
      o_case q7 (
        some T5
      ) (fun a8 =>
        (g_fR T5 4 105 a1).bind fun q9 =>
        (g_cls T5 1 a0).bind fun u10 =>
        o_bd (f_X0_checked a0 q9 r2 T5) fun v12 T11 =>
        (g_fR T11 4 106 a1).bind fun q13 =>
        (g_cls T11 1 a0).bind fun u14 =>
        o_bd (f_X0_checked a0 q13 r2 T11) fun v16 T15 =>
        if v12 = v16 then
          some T15
        else
          if v12 = (63) then
            some T15
          else
            if v16 = (63) then
              some T15
            else
              (g_fI T15 4 107 a1).bind fun v17 =>
              (r2).bind fun a18 =>
              (g_cls T15 9 a18).bind fun u19 =>
              (f_X10_is a18 (3) v17 T15).bind fun T20 =>
              some T20
      )
    else
      (g_fR T5 4 102 a1).bind fun q21 =>
      (g_fR T5 4 101 a1).bind fun q22 =>
      (q22).bind fun a23 =>
      (g_cls T5 12 a23).bind fun u24 =>
      o_bd (f_J5_get a23 x3 T5) fun q26 T25 =>
      (g_cast T25 [5] q26).bind fun u27 =>
      (g_cls T25 1 a0).bind fun u28 =>
      o_bd (f_X0_checked a0 q26 r2 T25) fun v30 T29 =>
      (q21).bind fun a31 =>
      (p_aI T29 33 a31 x3 (vp_nar .char v30)).bind fun T32 =>
      (fun r1 r2 x3 S => f_X0_finds_n246 a0 n r1 r2 x3 S) (some a1) r2 (x3 + (1)) T32
def f_X0_finds_n196 (a0 : Nat) : Nat → Option Nat → Option Nat → Int32 → HS → Option HS
  | 0, _, _, _, _ => none
  | n + 1, r1, r2, x3, S =>
    (g_fR S 1 12 a0).bind fun q1 =>
    (q1).bind fun a2 =>
    (g_fR S 2 23 a2).bind fun q3 =>
    (q3).bind fun a4 =>
    (g_cls S 12 a4).bind fun u5 =>
    o_bd (f_J5_size a4 S) fun v7 T6 =>
    if v7 ≤ x3 then
      (r1).bind fun a8 =>
      (g_cls T6 4 a8).bind fun u9 =>
      o_bd (f_X4_isMade a8 T6) fun v11 T10 =>
      if v11 = 0 then
        some T10
      else
        f_X0_finds_n246 a0 fu_ (some a8) r2 (0) T10
    else
      (g_fR T6 1 12 a0).bind fun q12 =>
      (q12).bind fun a13 =>
      (g_fR T6 2 23 a13).bind fun q14 =>
      (q14).bind fun a15 =>
      (g_cls T6 12 a15).bind fun u16 =>
      o_bd (f_J5_get a15 x3 T6) fun q18 T17 =>
      (g_cast T17 [8] q18).bind fun u19 =>
      (g_cls T17 1 a0).bind fun u20 =>
      (f_X0_finds_2 a0 r1 q18 r2 T17).bind fun T21 =>
      (fun r1 r2 x3 S => f_X0_finds_n196 a0 n r1 r2 x3 S) r1 r2 (x3 + (1)) T21
def f_X0_finds_n78 (a0 : Nat) : Nat → Option Nat → Option Nat → Int32 → HS → Option HS
  | 0, _, _, _, _ => none
  | n + 1, r1, r2, x3, S =>
    (g_fR S 1 12 a0).bind fun q1 =>
    (q1).bind fun a2 =>
    (g_fR S 2 24 a2).bind fun q3 =>
    (q3).bind fun a4 =>
    (g_cls S 12 a4).bind fun u5 =>
    o_bd (f_J5_size a4 S) fun v7 T6 =>
    if v7 ≤ x3 then
      (g_fR T6 1 12 a0).bind fun q8 =>
      (q8).bind fun a9 =>
      (g_fR T6 2 24 a9).bind fun q10 =>
      (q10).bind fun a11 =>
      (g_cls T6 12 a11).bind fun u12 =>
      o_bd (f_J5_size a11 T6) fun v14 T13 =>
      (r1).bind fun a15 =>
      (p_fI T13 4 104 a15 v14).bind fun T16 =>
      f_X0_finds_n196 a0 fu_ (some a15) r2 (0) T16
    else
      (g_fR T6 1 12 a0).bind fun q17 =>
      (q17).bind fun a18 =>
      (g_fR T6 2 24 a18).bind fun q19 =>
      (q19).bind fun a20 =>
      (g_cls T6 12 a20).bind fun u21 =>
      o_bd (f_J5_get a20 x3 T6) fun q23 T22 =>
      (g_cast T22 [13] q23).bind fun u24 =>
      (r1).bind fun a25 =>
      (g_fR T22 4 103 a25).bind fun q26 =>
      (g_cls T22 1 a0).bind fun u27 =>
      o_bd (f_X0_numberOf a0 q23 T22) fun v29 T28 =>
      (q26).bind fun a30 =>
      (p_aI T28 31 a30 x3 v29).bind fun T31 =>
      (g_fR T31 1 12 a0).bind fun q32 =>
      (q32).bind fun a33 =>
      (g_fR T31 2 24 a33).bind fun q34 =>
      (q34).bind fun a35 =>
      (g_cls T31 12 a35).bind fun u36 =>
      o_bd (f_J5_indexOf a35 q23 T31) fun v38 T37 =>
      if x3 ≤ v38 then
        f_X0_finds_n150 (fun r1 r2 x3 S => f_X0_finds_n78 a0 n r1 r2 x3 S) a0 (some a25) r2 x3 T37
      else
        (g_fR T37 1 12 a0).bind fun q39 =>
        (q39).bind fun a40 =>
        (g_fR T37 2 25 a40).bind fun q41 =>
        (q41).bind fun a42 =>
        (g_aI T37 31 a42 x3).bind fun v43 =>
        (r2).bind fun a44 =>
        (g_cls T37 9 a44).bind fun u45 =>
        (f_X10_is a44 (4) v43 T37).bind fun T46 =>
        f_X0_finds_n150 (fun r1 r2 x3 S => f_X0_finds_n78 a0 n r1 r2 x3 S) a0 (some a25) (some a44) x3 T46
def f_X0_finds_n26 (a0 : Nat) : Nat → Option Nat → Option Nat → Int32 → HS → Option HS
  | 0, _, _, _, _ => none
  | n + 1, r1, r2, x3, S =>
    (r1).bind fun a1 =>
    (g_fR S 4 100 a1).bind fun q2 =>
    (q2).bind fun a3 =>
    (g_cls S 12 a3).bind fun u4 =>
    o_bd (f_J5_size a3 S) fun v6 T5 =>
    if v6 ≤ x3 then
      f_X0_finds_n78 a0 fu_ (some a1) r2 (0) T5
    else
      (g_fR T5 4 100 a1).bind fun q7 =>
      (g_fR T5 4 100 a1).bind fun q8 =>
      (q8).bind fun a9 =>
      (g_cls T5 12 a9).bind fun u10 =>
      o_bd (f_J5_get a9 x3 T5) fun q12 T11 =>
      (q7).bind fun a13 =>
      (g_cls T11 12 a13).bind fun u14 =>
      o_bd (f_J5_indexOf a13 q12 T11) fun v16 T15 =>
      if x3 ≤ v16 then
        (fun r1 r2 x3 S => f_X0_finds_n26 a0 n r1 r2 x3 S) (some a1) r2 (x3 + (1)) T15
      else
        (g_fR T15 1 12 a0).bind fun q17 =>
        (q17).bind fun a18 =>
        (g_fR T15 2 26 a18).bind fun q19 =>
        (q19).bind fun a20 =>
        (g_aI T15 31 a20 x3).bind fun v21 =>
        (r2).bind fun a22 =>
        (g_cls T15 9 a22).bind fun u23 =>
        (f_X10_is a22 (4) v21 T15).bind fun T24 =>
        (fun r1 r2 x3 S => f_X0_finds_n26 a0 n r1 r2 x3 S) (some a1) (some a22) (x3 + (1)) T24
def f_X0_finds (a0 : Nat) (r1 : Option Nat) (r2 : Option Nat) (S : HS) : Option HS :=
  (r1).bind fun a1 =>
  (g_fR S 4 98 a1).bind fun q2 =>
  (g_cls S 1 a0).bind fun u3 =>
  o_bd (f_X0_numberOf a0 q2 S) fun v5 T4 =>
  if v5 = (-1) then
    f_X0_finds_n26 a0 fu_ (some a1) r2 (0) T4
  else
    (g_fR T4 1 12 a0).bind fun q6 =>
    (q6).bind fun a7 =>
    (g_fI T4 2 27 a7).bind fun v8 =>
    (r2).bind fun a9 =>
    (g_cls T4 9 a9).bind fun u10 =>
    (f_X10_is a9 (4) v8 T4).bind fun T11 =>
    f_X0_finds_n26 a0 fu_ (some a1) (some a9) (0) T11
set_option maxRecDepth 100000 in
set_option maxHeartbeats 2000000 in
theorem w_X0_finds_n150 {f : CfT} {mo : MO} {a0 : Nat} {S1 : HS} (hc : cf_cc f = cX0_finds) (ho : cf_ow f = "TableCatalog") (hnL : cf_nL f = 5) (hrm : cf_rm f = (162, 5008)) (hre : cf_re f = none) (hct : cf_ct f = false) (hq : Qok f none S1 mo) {k_78 : Option Nat → Option Nat → Int32 → HS → Option HS} (hk_78 : ∀ (r1 : Option Nat) (r2 : Option Nat) (x3 : Int32) (S : HS), k_78 r1 r2 x3 S = some S1 → JJ f S mo 78 [(0, vr (some a0)), (1, vr r1), (2, vr r2), (3, vi x3)] []) {r1 : Option Nat} {r2 : Option Nat} {x3 : Int32} {S : HS} (hf : f_X0_finds_n150 k_78 a0 r1 r2 x3 S = some S1) : JJ f S mo 150 [(0, vr (some a0)), (1, vr r1), (2, vr r2), (3, vi x3)] [] := by
  unfold f_X0_finds_n150 at hf
  refine j_aload_n (pc := 150) hc dX0_finds_150 1 rfl rfl ?_
  obtain ⟨a1, ea1, hf1⟩ := ob_i hf
  clear hf
  subst ea1
  obtain ⟨q2, eq2, hf2⟩ := ob_i hf1
  clear hf1
  refine j_getR (pc := 151) hc ho fa_X0_126_4 dX0_finds_151 eq2 ?_
  refine j_iload_n (pc := 154) hc dX0_finds_154 3 rfl rfl ?_
  obtain ⟨a3, ea3, hf3⟩ := ob_i hf2
  clear hf2
  subst ea3
  obtain ⟨v4, ev4, hf4⟩ := ob_i hf3
  clear hf3
  refine j_iald (pc := 155) hc dX0_finds_155 ev4 ?_
  refine j_iconst (pc := 156) (v := (-1)) hc dX0_finds_156 rfl ?_
  refine j_icmp_ne (pc := 157) hc dX0_finds_157 (tgt := 174) rfl (fun hh => ?_) (fun hh => ?_)
  · have hf5 := (if_neg hh).symm.trans hf4
    clear hf4
    refine j_iinc (pc := 174) (L' := [(3, vi (x3 + (1))), (0, vr (some a0)), (1, vr (some a1)), (2, vr r2)]) (v := (x3 + (1))) hc dX0_finds_174 3 rfl rfl hnL (by decide) rfl ?_
    refine j_goto (pc := 177) hc dX0_finds_177 (tgt := 78) rfl ?_
    refine j_loc (L' := [(0, vr (some a0)), (1, vr (some a1)), (2, vr r2), (3, vi (x3 + (1)))]) [1, 2, 3, 0] rfl ?_
    exact hk_78 _ _ _ _ hf5
  · have hf6 := (if_pos hh).symm.trans hf4
    clear hf4
    refine j_aload_n (pc := 160) hc dX0_finds_160 2 rfl rfl ?_
    refine j_iconst (pc := 161) (v := (2)) hc dX0_finds_161 rfl ?_
    refine j_aload_n (pc := 162) hc dX0_finds_162 0 rfl rfl ?_
    obtain ⟨q5, eq5, hf7⟩ := ob_i hf6
    clear hf6
    refine j_getR (pc := 163) hc ho fa_X0_61_1 dX0_finds_163 eq5 ?_
    obtain ⟨a6, ea6, hf8⟩ := ob_i hf7
    clear hf7
    subst ea6
    obtain ⟨q7, eq7, hf9⟩ := ob_i hf8
    clear hf8
    refine j_getR (pc := 166) hc ho fa_X0_128_2 dX0_finds_166 eq7 ?_
    refine j_iload_n (pc := 169) hc dX0_finds_169 3 rfl rfl ?_
    obtain ⟨a8, ea8, hf10⟩ := ob_i hf9
    clear hf9
    subst ea8
    obtain ⟨v9, ev9, hf11⟩ := ob_i hf10
    clear hf10
    refine j_iald (pc := 170) hc dX0_finds_170 ev9 ?_
    obtain ⟨a10, ea10, hf12⟩ := ob_i hf11
    clear hf11
    subst ea10
    obtain ⟨u11, eu11, hf13⟩ := ob_i hf12
    clear hf12
    obtain ⟨T12, eT12, hf14⟩ := ob_i hf13
    clear hf13
    refine j_callV (pc := 171) (As := [vi (2), vi v9]) (rest := []) (st2 := []) hc ho cw_X0_97 (c_X10_is eT12) (Rc.of (g_cls_ok eu11) (by decide) (by decide) ci_X10) hrm ⟨by decide, by decide⟩ rfl (Nat.le_of_ble_eq_true rfl) dX0_finds_171 rfl rfl ?_
    refine j_iinc (pc := 174) (L' := [(3, vi (x3 + (1))), (0, vr (some a0)), (1, vr (some a1)), (2, vr (some a10))]) (v := (x3 + (1))) hc dX0_finds_174 3 rfl rfl hnL (by decide) rfl ?_
    refine j_goto (pc := 177) hc dX0_finds_177 (tgt := 78) rfl ?_
    refine j_loc (L' := [(0, vr (some a0)), (1, vr (some a1)), (2, vr (some a10)), (3, vi (x3 + (1)))]) [1, 2, 3, 0] rfl ?_
    exact hk_78 _ _ _ _ hf14
set_option maxRecDepth 100000 in
set_option maxHeartbeats 2000000 in
theorem w_X0_finds_n246 {f : CfT} {mo : MO} {a0 : Nat} {S1 : HS} (hc : cf_cc f = cX0_finds) (ho : cf_ow f = "TableCatalog") (hnL : cf_nL f = 5) (hrm : cf_rm f = (162, 5008)) (hre : cf_re f = none) (hct : cf_ct f = false) (hq : Qok f none S1 mo) : ∀ (n : Nat) (r1 : Option Nat) (r2 : Option Nat) (x3 : Int32) (S : HS), f_X0_finds_n246 a0 n r1 r2 x3 S = some S1 → JJ f S mo 246 [(0, vr (some a0)), (1, vr r1), (2, vr r2), (3, vi x3)] [] := by
  intro n
  induction n with
  | zero =>
    intro r1 r2 x3 S hf
    have hf : (none : Option HS) = some S1 := hf
    cases hf
  | succ n ih =>
    intro r1 r2 x3 S hf
    unfold f_X0_finds_n246 at hf
    have hk_246 := ih
    refine j_iload_n (pc := 246) hc dX0_finds_246 3 rfl rfl ?_
    refine j_aload_n (pc := 247) hc dX0_finds_247 1 rfl rfl ?_
    obtain ⟨a1, ea1, hf1⟩ := ob_i hf
    clear hf
    subst ea1
    obtain ⟨q2, eq2, hf2⟩ := ob_i hf1
    clear hf1
    refine j_getR (pc := 248) hc ho fa_X0_146_4 dX0_finds_248 eq2 ?_
    obtain ⟨a3, ea3, hf3⟩ := ob_i hf2
    clear hf2
    subst ea3
    obtain ⟨u4, eu4, hf4⟩ := ob_i hf3
    clear hf3
    obtain ⟨v6, T5, ev6, hf5⟩ := ob_c hf4
    clear hf4
    refine j_callV (pc := 251) (As := []) (rest := [vi x3]) (st2 := [vi v6, vi x3]) hc ho cw_X0_107 (c_J5_size ev6) (Rc.of (g_cls_ok eu4) (by decide) (by decide) ci_J5) hrm ⟨by decide, by decide⟩ rfl (Nat.le_of_ble_eq_true rfl) dX0_finds_251 rfl rfl ?_
    refine j_icmp_ge (pc := 254) hc dX0_finds_254 (tgt := 285) rfl (fun hh => ?_) (fun hh => ?_)
    · have hf6 := (if_pos hh).symm.trans hf5
      clear hf5
      refine j_aload_n (pc := 285) hc dX0_finds_285 1 rfl rfl ?_
      obtain ⟨q7, eq7, hf7⟩ := ob_i hf6
      clear hf6
      refine j_getR (pc := 286) hc ho fa_X0_158_4 dX0_finds_286 eq7 ?_
      refine j_ifnonnull (pc := 289) hc dX0_finds_289 (tgt := 293) rfl (fun a8 hh => ?_) (fun hh => ?_)
      · subst hh
        refine j_aload_n (pc := 293) hc dX0_finds_293 0 rfl rfl ?_
        refine j_aload_n (pc := 294) hc dX0_finds_294 1 rfl rfl ?_
        obtain ⟨q9, eq9, hf8⟩ := ob_i hf7
        clear hf7
        refine j_getR (pc := 295) hc ho fa_X0_158_4 dX0_finds_295 eq9 ?_
        refine j_aload_n (pc := 298) hc dX0_finds_298 2 rfl rfl ?_
        obtain ⟨u10, eu10, hf9⟩ := ob_i hf8
        clear hf8
        obtain ⟨v12, T11, ev12, hf10⟩ := ob_c hf9
        clear hf9
        refine j_callV (pc := 299) (As := [vr q9, vr r2]) (rest := []) (st2 := [vi v12]) hc ho cw_X0_154 (c_X0_checked ev12) (Rc.of (g_cls_ok eu10) (by decide) (by decide) ci_X0) hrm ⟨by decide, by decide⟩ rfl (Nat.le_of_ble_eq_true rfl) dX0_finds_299 rfl rfl ?_
        refine j_istore_n (pc := 302) (L' := [(3, vi v12), (0, vr (some a0)), (1, vr (some a1)), (2, vr r2)]) hc dX0_finds_302 rfl hnL (by decide) rfl ?_
        refine j_aload_n (pc := 303) hc dX0_finds_303 1 rfl rfl ?_
        refine j_aload_n (pc := 304) hc dX0_finds_304 2 rfl rfl ?_
        obtain ⟨q13, eq13, hf11⟩ := ob_i hf10
        clear hf10
        refine j_getR (pc := 305) hc ho fa_X0_162_4 dX0_finds_305 eq13 ?_
        refine j_aload_n (pc := 308) hc dX0_finds_308 3 rfl rfl ?_
        obtain ⟨u14, eu14, hf12⟩ := ob_i hf11
        clear hf11
        obtain ⟨v16, T15, ev16, hf13⟩ := ob_c hf12
        clear hf12
        refine j_callV (pc := 309) (As := [vr q13, vr r2]) (rest := []) (st2 := [vi v16]) hc ho cw_X0_154 (c_X0_checked ev16) (Rc.of (g_cls_ok eu14) (by decide) (by decide) ci_X0) hrm ⟨by decide, by decide⟩ rfl (Nat.le_of_ble_eq_true rfl) dX0_finds_309 rfl rfl ?_
        refine j_istore (pc := 312) (L' := [(4, vi v16), (3, vi v12), (0, vr (some a0)), (1, vr (some a1)), (2, vr r2)]) hc dX0_finds_312 hnL (by decide) rfl ?_
        refine j_iload_n (pc := 314) hc dX0_finds_314 1 rfl rfl ?_
        refine j_iload (pc := 315) hc dX0_finds_315 0 rfl ?_
        refine j_icmp_eq (pc := 317) hc dX0_finds_317 (tgt := 342) rfl (fun hh => ?_) (fun hh => ?_)
        · have hf14 := (if_pos hh).symm.trans hf13
          clear hf13
          cases hf14
          exact j_vret (pc := 342) hc hq hre dX0_finds_342
        · have hf15 := (if_neg hh).symm.trans hf13
          clear hf13
          refine j_iload_n (pc := 320) hc dX0_finds_320 1 rfl rfl ?_
          refine j_bipush (pc := 321) (v := (63)) hc dX0_finds_321 rfl ?_
          refine j_icmp_eq (pc := 323) hc dX0_finds_323 (tgt := 342) rfl (fun hh => ?_) (fun hh => ?_)
          · have hf16 := (if_pos hh).symm.trans hf15
            clear hf15
            cases hf16
            exact j_vret (pc := 342) hc hq hre dX0_finds_342
          · have hf17 := (if_neg hh).symm.trans hf15
            clear hf15
            refine j_iload (pc := 326) hc dX0_finds_326 0 rfl ?_
            refine j_bipush (pc := 328) (v := (63)) hc dX0_finds_328 rfl ?_
            refine j_icmp_eq (pc := 330) hc dX0_finds_330 (tgt := 342) rfl (fun hh => ?_) (fun hh => ?_)
            · have hf18 := (if_pos hh).symm.trans hf17
              clear hf17
              cases hf18
              exact j_vret (pc := 342) hc hq hre dX0_finds_342
            · have hf19 := (if_neg hh).symm.trans hf17
              clear hf17
              refine j_aload_n (pc := 333) hc dX0_finds_333 4 rfl rfl ?_
              refine j_iconst (pc := 334) (v := (3)) hc dX0_finds_334 rfl ?_
              refine j_aload_n (pc := 335) hc dX0_finds_335 3 rfl rfl ?_
              obtain ⟨v17, ev17, hf20⟩ := ob_i hf19
              clear hf19
              refine j_getI (pc := 336) hc ho fa_X0_165_4 dX0_finds_336 ev17 ?_
              obtain ⟨a18, ea18, hf21⟩ := ob_i hf20
              clear hf20
              subst ea18
              obtain ⟨u19, eu19, hf22⟩ := ob_i hf21
              clear hf21
              obtain ⟨T20, eT20, hf23⟩ := ob_i hf22
              clear hf22
              refine j_callV (pc := 339) (As := [vi (3), vi v17]) (rest := []) (st2 := []) hc ho cw_X0_97 (c_X10_is eT20) (Rc.of (g_cls_ok eu19) (by decide) (by decide) ci_X10) hrm ⟨by decide, by decide⟩ rfl (Nat.le_of_ble_eq_true rfl) dX0_finds_339 rfl rfl ?_
              cases hf23
              exact j_vret (pc := 342) hc hq hre dX0_finds_342
      · subst hh
        cases hf7
        exact j_vret (pc := 292) hc hq hre dX0_finds_292
    · have hf24 := (if_neg hh).symm.trans hf5
      clear hf5
      refine j_aload_n (pc := 257) hc dX0_finds_257 1 rfl rfl ?_
      obtain ⟨q21, eq21, hf25⟩ := ob_i hf24
      clear hf24
      refine j_getR (pc := 258) hc ho fa_X0_149_4 dX0_finds_258 eq21 ?_
      refine j_iload_n (pc := 261) hc dX0_finds_261 3 rfl rfl ?_
      refine j_aload_n (pc := 262) hc dX0_finds_262 0 rfl rfl ?_
      refine j_aload_n (pc := 263) hc dX0_finds_263 1 rfl rfl ?_
      obtain ⟨q22, eq22, hf26⟩ := ob_i hf25
      clear hf25
      refine j_getR (pc := 264) hc ho fa_X0_146_4 dX0_finds_264 eq22 ?_
      refine j_iload_n (pc := 267) hc dX0_finds_267 3 rfl rfl ?_
      obtain ⟨a23, ea23, hf27⟩ := ob_i hf26
      clear hf26
      subst ea23
      obtain ⟨u24, eu24, hf28⟩ := ob_i hf27
      clear hf27
      obtain ⟨q26, T25, eq26, hf29⟩ := ob_c hf28
      clear hf28
      refine j_callV (pc := 268) (As := [vi x3]) (rest := [vr (some a0), vi x3, vr q21]) (st2 := [vr q26, vr (some a0), vi x3, vr q21]) hc ho cw_X0_112 (c_J5_get eq26) (Rc.of (g_cls_ok eu24) (by decide) (by decide) ci_J5) hrm ⟨by decide, by decide⟩ rfl (Nat.le_of_ble_eq_true rfl) dX0_finds_268 rfl rfl ?_
      obtain ⟨u27, eu27, hf30⟩ := ob_i hf29
      clear hf29
      refine j_ccast (pc := 271) hc ho fc_X0_152_5 dX0_finds_271 eu27 ?_
      refine j_aload_n (pc := 274) hc dX0_finds_274 2 rfl rfl ?_
      obtain ⟨u28, eu28, hf31⟩ := ob_i hf30
      clear hf30
      obtain ⟨v30, T29, ev30, hf32⟩ := ob_c hf31
      clear hf31
      refine j_callV (pc := 275) (As := [vr q26, vr r2]) (rest := [vi x3, vr q21]) (st2 := [vi v30, vi x3, vr q21]) hc ho cw_X0_154 (c_X0_checked ev30) (Rc.of (g_cls_ok eu28) (by decide) (by decide) ci_X0) hrm ⟨by decide, by decide⟩ rfl (Nat.le_of_ble_eq_true rfl) dX0_finds_275 rfl rfl ?_
      obtain ⟨a31, ea31, hf33⟩ := ob_i hf32
      clear hf32
      subst ea31
      obtain ⟨T32, eT32, hf34⟩ := ob_i hf33
      clear hf33
      refine j_cast (pc := 278) hc dX0_finds_278 eT32 ?_
      refine j_iinc (pc := 279) (L' := [(3, vi (x3 + (1))), (0, vr (some a0)), (1, vr (some a1)), (2, vr r2)]) (v := (x3 + (1))) hc dX0_finds_279 3 rfl rfl hnL (by decide) rfl ?_
      refine j_goto (pc := 282) hc dX0_finds_282 (tgt := 246) rfl ?_
      refine j_loc (L' := [(0, vr (some a0)), (1, vr (some a1)), (2, vr r2), (3, vi (x3 + (1)))]) [1, 2, 3, 0] rfl ?_
      exact hk_246 _ _ _ _ hf34
set_option maxRecDepth 100000 in
set_option maxHeartbeats 2000000 in
theorem w_X0_finds_n196 {f : CfT} {mo : MO} {a0 : Nat} {S1 : HS} (hc : cf_cc f = cX0_finds) (ho : cf_ow f = "TableCatalog") (hnL : cf_nL f = 5) (hrm : cf_rm f = (162, 5008)) (hre : cf_re f = none) (hct : cf_ct f = false) (hq : Qok f none S1 mo) : ∀ (n : Nat) (r1 : Option Nat) (r2 : Option Nat) (x3 : Int32) (S : HS), f_X0_finds_n196 a0 n r1 r2 x3 S = some S1 → JJ f S mo 196 [(0, vr (some a0)), (1, vr r1), (2, vr r2), (3, vi x3)] [] := by
  intro n
  induction n with
  | zero =>
    intro r1 r2 x3 S hf
    have hf : (none : Option HS) = some S1 := hf
    cases hf
  | succ n ih =>
    intro r1 r2 x3 S hf
    unfold f_X0_finds_n196 at hf
    have hk_196 := ih
    refine j_iload_n (pc := 196) hc dX0_finds_196 3 rfl rfl ?_
    refine j_aload_n (pc := 197) hc dX0_finds_197 0 rfl rfl ?_
    obtain ⟨q1, eq1, hf1⟩ := ob_i hf
    clear hf
    refine j_getR (pc := 198) hc ho fa_X0_61_1 dX0_finds_198 eq1 ?_
    obtain ⟨a2, ea2, hf2⟩ := ob_i hf1
    clear hf1
    subst ea2
    obtain ⟨q3, eq3, hf3⟩ := ob_i hf2
    clear hf2
    refine j_getR (pc := 201) hc ho fa_X0_133_2 dX0_finds_201 eq3 ?_
    obtain ⟨a4, ea4, hf4⟩ := ob_i hf3
    clear hf3
    subst ea4
    obtain ⟨u5, eu5, hf5⟩ := ob_i hf4
    clear hf4
    obtain ⟨v7, T6, ev7, hf6⟩ := ob_c hf5
    clear hf5
    refine j_callV (pc := 204) (As := []) (rest := [vi x3]) (st2 := [vi v7, vi x3]) hc ho cw_X0_107 (c_J5_size ev7) (Rc.of (g_cls_ok eu5) (by decide) (by decide) ci_J5) hrm ⟨by decide, by decide⟩ rfl (Nat.le_of_ble_eq_true rfl) dX0_finds_204 rfl rfl ?_
    refine j_icmp_ge (pc := 207) hc dX0_finds_207 (tgt := 236) rfl (fun hh => ?_) (fun hh => ?_)
    · have hf7 := (if_pos hh).symm.trans hf6
      clear hf6
      refine j_aload_n (pc := 236) hc dX0_finds_236 1 rfl rfl ?_
      obtain ⟨a8, ea8, hf8⟩ := ob_i hf7
      clear hf7
      subst ea8
      obtain ⟨u9, eu9, hf9⟩ := ob_i hf8
      clear hf8
      obtain ⟨v11, T10, ev11, hf10⟩ := ob_c hf9
      clear hf9
      refine j_callV (pc := 237) (As := []) (rest := []) (st2 := [vi v11]) hc ho cw_X0_142 (c_X4_isMade ev11) (Rc.of (g_cls_ok eu9) (by decide) (by decide) ci_X4) hrm ⟨by decide, by decide⟩ rfl (Nat.le_of_ble_eq_true rfl) dX0_finds_237 rfl rfl ?_
      refine j_if_ne (pc := 240) hc dX0_finds_240 (tgt := 244) rfl (fun hh => ?_) (fun hh => ?_)
      · have hf11 := (if_neg hh).symm.trans hf10
        clear hf10
        refine j_iconst (pc := 244) (v := (0)) hc dX0_finds_244 rfl ?_
        refine j_istore_n (pc := 245) (L' := [(3, vi (0)), (0, vr (some a0)), (1, vr (some a8)), (2, vr r2)]) hc dX0_finds_245 rfl hnL (by decide) rfl ?_
        refine j_loc (L' := [(0, vr (some a0)), (1, vr (some a8)), (2, vr r2), (3, vi (0))]) [1, 2, 3, 0] rfl ?_
        exact w_X0_finds_n246 hc ho hnL hrm hre hct hq fu_ _ _ _ _ hf11
      · have hf12 := (if_pos hh).symm.trans hf10
        clear hf10
        cases hf12
        exact j_vret (pc := 243) hc hq hre dX0_finds_243
    · have hf13 := (if_neg hh).symm.trans hf6
      clear hf6
      refine j_aload_n (pc := 210) hc dX0_finds_210 0 rfl rfl ?_
      refine j_aload_n (pc := 211) hc dX0_finds_211 1 rfl rfl ?_
      refine j_aload_n (pc := 212) hc dX0_finds_212 0 rfl rfl ?_
      obtain ⟨q12, eq12, hf14⟩ := ob_i hf13
      clear hf13
      refine j_getR (pc := 213) hc ho fa_X0_61_1 dX0_finds_213 eq12 ?_
      obtain ⟨a13, ea13, hf15⟩ := ob_i hf14
      clear hf14
      subst ea13
      obtain ⟨q14, eq14, hf16⟩ := ob_i hf15
      clear hf15
      refine j_getR (pc := 216) hc ho fa_X0_133_2 dX0_finds_216 eq14 ?_
      refine j_iload_n (pc := 219) hc dX0_finds_219 3 rfl rfl ?_
      obtain ⟨a15, ea15, hf17⟩ := ob_i hf16
      clear hf16
      subst ea15
      obtain ⟨u16, eu16, hf18⟩ := ob_i hf17
      clear hf17
      obtain ⟨q18, T17, eq18, hf19⟩ := ob_c hf18
      clear hf18
      refine j_callV (pc := 220) (As := [vi x3]) (rest := [vr r1, vr (some a0)]) (st2 := [vr q18, vr r1, vr (some a0)]) hc ho cw_X0_112 (c_J5_get eq18) (Rc.of (g_cls_ok eu16) (by decide) (by decide) ci_J5) hrm ⟨by decide, by decide⟩ rfl (Nat.le_of_ble_eq_true rfl) dX0_finds_220 rfl rfl ?_
      obtain ⟨u19, eu19, hf20⟩ := ob_i hf19
      clear hf19
      refine j_ccast (pc := 223) hc ho fc_X0_136_8 dX0_finds_223 eu19 ?_
      refine j_aload_n (pc := 226) hc dX0_finds_226 2 rfl rfl ?_
      obtain ⟨u20, eu20, hf21⟩ := ob_i hf20
      clear hf20
      obtain ⟨T21, eT21, hf22⟩ := ob_i hf21
      clear hf21
      refine j_callV (pc := 227) (As := [vr r1, vr q18, vr r2]) (rest := []) (st2 := []) hc ho cw_X0_138 (c_X0_finds_2 eT21) (Rc.of (g_cls_ok eu20) (by decide) (by decide) ci_X0) hrm ⟨by decide, by decide⟩ rfl (Nat.le_of_ble_eq_true rfl) dX0_finds_227 rfl rfl ?_
      refine j_iinc (pc := 230) (L' := [(3, vi (x3 + (1))), (0, vr (some a0)), (1, vr r1), (2, vr r2)]) (v := (x3 + (1))) hc dX0_finds_230 3 rfl rfl hnL (by decide) rfl ?_
      refine j_goto (pc := 233) hc dX0_finds_233 (tgt := 196) rfl ?_
      refine j_loc (L' := [(0, vr (some a0)), (1, vr r1), (2, vr r2), (3, vi (x3 + (1)))]) [1, 2, 3, 0] rfl ?_
      exact hk_196 _ _ _ _ hf22
set_option maxRecDepth 100000 in
set_option maxHeartbeats 2000000 in
theorem w_X0_finds_n78 {f : CfT} {mo : MO} {a0 : Nat} {S1 : HS} (hc : cf_cc f = cX0_finds) (ho : cf_ow f = "TableCatalog") (hnL : cf_nL f = 5) (hrm : cf_rm f = (162, 5008)) (hre : cf_re f = none) (hct : cf_ct f = false) (hq : Qok f none S1 mo) : ∀ (n : Nat) (r1 : Option Nat) (r2 : Option Nat) (x3 : Int32) (S : HS), f_X0_finds_n78 a0 n r1 r2 x3 S = some S1 → JJ f S mo 78 [(0, vr (some a0)), (1, vr r1), (2, vr r2), (3, vi x3)] [] := by
  intro n
  induction n with
  | zero =>
    intro r1 r2 x3 S hf
    have hf : (none : Option HS) = some S1 := hf
    cases hf
  | succ n ih =>
    intro r1 r2 x3 S hf
    unfold f_X0_finds_n78 at hf
    have hk_78 := ih
    refine j_iload_n (pc := 78) hc dX0_finds_78 3 rfl rfl ?_
    refine j_aload_n (pc := 79) hc dX0_finds_79 0 rfl rfl ?_
    obtain ⟨q1, eq1, hf1⟩ := ob_i hf
    clear hf
    refine j_getR (pc := 80) hc ho fa_X0_61_1 dX0_finds_80 eq1 ?_
    obtain ⟨a2, ea2, hf2⟩ := ob_i hf1
    clear hf1
    subst ea2
    obtain ⟨q3, eq3, hf3⟩ := ob_i hf2
    clear hf2
    refine j_getR (pc := 83) hc ho fa_X0_123_2 dX0_finds_83 eq3 ?_
    obtain ⟨a4, ea4, hf4⟩ := ob_i hf3
    clear hf3
    subst ea4
    obtain ⟨u5, eu5, hf5⟩ := ob_i hf4
    clear hf4
    obtain ⟨v7, T6, ev7, hf6⟩ := ob_c hf5
    clear hf5
    refine j_callV (pc := 86) (As := []) (rest := [vi x3]) (st2 := [vi v7, vi x3]) hc ho cw_X0_107 (c_J5_size ev7) (Rc.of (g_cls_ok eu5) (by decide) (by decide) ci_J5) hrm ⟨by decide, by decide⟩ rfl (Nat.le_of_ble_eq_true rfl) dX0_finds_86 rfl rfl ?_
    refine j_icmp_ge (pc := 89) hc dX0_finds_89 (tgt := 180) rfl (fun hh => ?_) (fun hh => ?_)
    · have hf7 := (if_pos hh).symm.trans hf6
      clear hf6
      refine j_aload_n (pc := 180) hc dX0_finds_180 1 rfl rfl ?_
      refine j_aload_n (pc := 181) hc dX0_finds_181 0 rfl rfl ?_
      obtain ⟨q8, eq8, hf8⟩ := ob_i hf7
      clear hf7
      refine j_getR (pc := 182) hc ho fa_X0_61_1 dX0_finds_182 eq8 ?_
      obtain ⟨a9, ea9, hf9⟩ := ob_i hf8
      clear hf8
      subst ea9
      obtain ⟨q10, eq10, hf10⟩ := ob_i hf9
      clear hf9
      refine j_getR (pc := 185) hc ho fa_X0_123_2 dX0_finds_185 eq10 ?_
      obtain ⟨a11, ea11, hf11⟩ := ob_i hf10
      clear hf10
      subst ea11
      obtain ⟨u12, eu12, hf12⟩ := ob_i hf11
      clear hf11
      obtain ⟨v14, T13, ev14, hf13⟩ := ob_c hf12
      clear hf12
      refine j_callV (pc := 188) (As := []) (rest := [vr r1]) (st2 := [vi v14, vr r1]) hc ho cw_X0_107 (c_J5_size ev14) (Rc.of (g_cls_ok eu12) (by decide) (by decide) ci_J5) hrm ⟨by decide, by decide⟩ rfl (Nat.le_of_ble_eq_true rfl) dX0_finds_188 rfl rfl ?_
      obtain ⟨a15, ea15, hf14⟩ := ob_i hf13
      clear hf13
      subst ea15
      obtain ⟨T16, eT16, hf15⟩ := ob_i hf14
      clear hf14
      refine j_putI (pc := 191) hc ho fa_X0_131_4 (Or.inl rfl) dX0_finds_191 eT16 ?_
      refine j_iconst (pc := 194) (v := (0)) hc dX0_finds_194 rfl ?_
      refine j_istore_n (pc := 195) (L' := [(3, vi (0)), (0, vr (some a0)), (1, vr (some a15)), (2, vr r2)]) hc dX0_finds_195 rfl hnL (by decide) rfl ?_
      refine j_loc (L' := [(0, vr (some a0)), (1, vr (some a15)), (2, vr r2), (3, vi (0))]) [1, 2, 3, 0] rfl ?_
      exact w_X0_finds_n196 hc ho hnL hrm hre hct hq fu_ _ _ _ _ hf15
    · have hf16 := (if_neg hh).symm.trans hf6
      clear hf6
      refine j_aload_n (pc := 92) hc dX0_finds_92 0 rfl rfl ?_
      obtain ⟨q17, eq17, hf17⟩ := ob_i hf16
      clear hf16
      refine j_getR (pc := 93) hc ho fa_X0_61_1 dX0_finds_93 eq17 ?_
      obtain ⟨a18, ea18, hf18⟩ := ob_i hf17
      clear hf17
      subst ea18
      obtain ⟨q19, eq19, hf19⟩ := ob_i hf18
      clear hf18
      refine j_getR (pc := 96) hc ho fa_X0_123_2 dX0_finds_96 eq19 ?_
      refine j_iload_n (pc := 99) hc dX0_finds_99 3 rfl rfl ?_
      obtain ⟨a20, ea20, hf20⟩ := ob_i hf19
      clear hf19
      subst ea20
      obtain ⟨u21, eu21, hf21⟩ := ob_i hf20
      clear hf20
      obtain ⟨q23, T22, eq23, hf22⟩ := ob_c hf21
      clear hf21
      refine j_callV (pc := 100) (As := [vi x3]) (rest := []) (st2 := [vr q23]) hc ho cw_X0_112 (c_J5_get eq23) (Rc.of (g_cls_ok eu21) (by decide) (by decide) ci_J5) hrm ⟨by decide, by decide⟩ rfl (Nat.le_of_ble_eq_true rfl) dX0_finds_100 rfl rfl ?_
      obtain ⟨u24, eu24, hf23⟩ := ob_i hf22
      clear hf22
      refine j_ccast (pc := 103) hc ho fc_X0_4_13 dX0_finds_103 eu24 ?_
      refine j_astore (pc := 106) (L' := [(4, vr q23), (0, vr (some a0)), (1, vr r1), (2, vr r2), (3, vi x3)]) hc dX0_finds_106 hnL (by decide) rfl ?_
      refine j_aload_n (pc := 108) hc dX0_finds_108 2 rfl rfl ?_
      obtain ⟨a25, ea25, hf24⟩ := ob_i hf23
      clear hf23
      subst ea25
      obtain ⟨q26, eq26, hf25⟩ := ob_i hf24
      clear hf24
      refine j_getR (pc := 109) hc ho fa_X0_126_4 dX0_finds_109 eq26 ?_
      refine j_iload_n (pc := 112) hc dX0_finds_112 4 rfl rfl ?_
      refine j_aload_n (pc := 113) hc dX0_finds_113 1 rfl rfl ?_
      refine j_aload (pc := 114) hc dX0_finds_114 0 rfl ?_
      obtain ⟨u27, eu27, hf26⟩ := ob_i hf25
      clear hf25
      obtain ⟨v29, T28, ev29, hf27⟩ := ob_c hf26
      clear hf26
      refine j_callV (pc := 116) (As := [vr q23]) (rest := [vi x3, vr q26]) (st2 := [vi v29, vi x3, vr q26]) hc ho cw_X0_90 (c_X0_numberOf ev29) (Rc.of (g_cls_ok eu27) (by decide) (by decide) ci_X0) hrm ⟨by decide, by decide⟩ rfl (Nat.le_of_ble_eq_true rfl) dX0_finds_116 rfl rfl ?_
      obtain ⟨a30, ea30, hf28⟩ := ob_i hf27
      clear hf27
      subst ea30
      obtain ⟨T31, eT31, hf29⟩ := ob_i hf28
      clear hf28
      refine j_iast (pc := 119) hc dX0_finds_119 eT31 ?_
      refine j_aload_n (pc := 120) hc dX0_finds_120 1 rfl rfl ?_
      obtain ⟨q32, eq32, hf30⟩ := ob_i hf29
      clear hf29
      refine j_getR (pc := 121) hc ho fa_X0_61_1 dX0_finds_121 eq32 ?_
      obtain ⟨a33, ea33, hf31⟩ := ob_i hf30
      clear hf30
      subst ea33
      obtain ⟨q34, eq34, hf32⟩ := ob_i hf31
      clear hf31
      refine j_getR (pc := 124) hc ho fa_X0_123_2 dX0_finds_124 eq34 ?_
      refine j_aload (pc := 127) hc dX0_finds_127 0 rfl ?_
      obtain ⟨a35, ea35, hf33⟩ := ob_i hf32
      clear hf32
      subst ea35
      obtain ⟨u36, eu36, hf34⟩ := ob_i hf33
      clear hf33
      obtain ⟨v38, T37, ev38, hf35⟩ := ob_c hf34
      clear hf34
      refine j_callV (pc := 129) (As := [vr q23]) (rest := []) (st2 := [vi v38]) hc ho cw_X0_116 (c_J5_indexOf ev38) (Rc.of (g_cls_ok eu36) (by decide) (by decide) ci_J5) hrm ⟨by decide, by decide⟩ rfl (Nat.le_of_ble_eq_true rfl) dX0_finds_129 rfl rfl ?_
      refine j_iload_n (pc := 132) hc dX0_finds_132 4 rfl rfl ?_
      refine j_icmp_ge (pc := 133) hc dX0_finds_133 (tgt := 150) rfl (fun hh => ?_) (fun hh => ?_)
      · have hf36 := (if_pos hh).symm.trans hf35
        clear hf35
        refine j_loc (L' := [(0, vr (some a0)), (1, vr (some a25)), (2, vr r2), (3, vi x3)]) [1, 2, 3, 4] rfl ?_
        exact w_X0_finds_n150 hc ho hnL hrm hre hct hq hk_78 hf36
      · have hf37 := (if_neg hh).symm.trans hf35
        clear hf35
        refine j_aload_n (pc := 136) hc dX0_finds_136 3 rfl rfl ?_
        refine j_iconst (pc := 137) (v := (4)) hc dX0_finds_137 rfl ?_
        refine j_aload_n (pc := 138) hc dX0_finds_138 1 rfl rfl ?_
        obtain ⟨q39, eq39, hf38⟩ := ob_i hf37
        clear hf37
        refine j_getR (pc := 139) hc ho fa_X0_61_1 dX0_finds_139 eq39 ?_
        obtain ⟨a40, ea40, hf39⟩ := ob_i hf38
        clear hf38
        subst ea40
        obtain ⟨q41, eq41, hf40⟩ := ob_i hf39
        clear hf39
        refine j_getR (pc := 142) hc ho fa_X0_128_2 dX0_finds_142 eq41 ?_
        refine j_iload_n (pc := 145) hc dX0_finds_145 4 rfl rfl ?_
        obtain ⟨a42, ea42, hf41⟩ := ob_i hf40
        clear hf40
        subst ea42
        obtain ⟨v43, ev43, hf42⟩ := ob_i hf41
        clear hf41
        refine j_iald (pc := 146) hc dX0_finds_146 ev43 ?_
        obtain ⟨a44, ea44, hf43⟩ := ob_i hf42
        clear hf42
        subst ea44
        obtain ⟨u45, eu45, hf44⟩ := ob_i hf43
        clear hf43
        obtain ⟨T46, eT46, hf45⟩ := ob_i hf44
        clear hf44
        refine j_callV (pc := 147) (As := [vi (4), vi v43]) (rest := []) (st2 := []) hc ho cw_X0_97 (c_X10_is eT46) (Rc.of (g_cls_ok eu45) (by decide) (by decide) ci_X10) hrm ⟨by decide, by decide⟩ rfl (Nat.le_of_ble_eq_true rfl) dX0_finds_147 rfl rfl ?_
        refine j_loc (L' := [(0, vr (some a0)), (1, vr (some a25)), (2, vr (some a44)), (3, vi x3)]) [1, 2, 3, 4] rfl ?_
        exact w_X0_finds_n150 hc ho hnL hrm hre hct hq hk_78 hf45
set_option maxRecDepth 100000 in
set_option maxHeartbeats 2000000 in
theorem w_X0_finds_n26 {f : CfT} {mo : MO} {a0 : Nat} {S1 : HS} (hc : cf_cc f = cX0_finds) (ho : cf_ow f = "TableCatalog") (hnL : cf_nL f = 5) (hrm : cf_rm f = (162, 5008)) (hre : cf_re f = none) (hct : cf_ct f = false) (hq : Qok f none S1 mo) : ∀ (n : Nat) (r1 : Option Nat) (r2 : Option Nat) (x3 : Int32) (S : HS), f_X0_finds_n26 a0 n r1 r2 x3 S = some S1 → JJ f S mo 26 [(0, vr (some a0)), (1, vr r1), (2, vr r2), (3, vi x3)] [] := by
  intro n
  induction n with
  | zero =>
    intro r1 r2 x3 S hf
    have hf : (none : Option HS) = some S1 := hf
    cases hf
  | succ n ih =>
    intro r1 r2 x3 S hf
    unfold f_X0_finds_n26 at hf
    have hk_26 := ih
    refine j_iload_n (pc := 26) hc dX0_finds_26 3 rfl rfl ?_
    refine j_aload_n (pc := 27) hc dX0_finds_27 1 rfl rfl ?_
    obtain ⟨a1, ea1, hf1⟩ := ob_i hf
    clear hf
    subst ea1
    obtain ⟨q2, eq2, hf2⟩ := ob_i hf1
    clear hf1
    refine j_getR (pc := 28) hc ho fa_X0_103_4 dX0_finds_28 eq2 ?_
    obtain ⟨a3, ea3, hf3⟩ := ob_i hf2
    clear hf2
    subst ea3
    obtain ⟨u4, eu4, hf4⟩ := ob_i hf3
    clear hf3
    obtain ⟨v6, T5, ev6, hf5⟩ := ob_c hf4
    clear hf4
    refine j_callV (pc := 31) (As := []) (rest := [vi x3]) (st2 := [vi v6, vi x3]) hc ho cw_X0_107 (c_J5_size ev6) (Rc.of (g_cls_ok eu4) (by decide) (by decide) ci_J5) hrm ⟨by decide, by decide⟩ rfl (Nat.le_of_ble_eq_true rfl) dX0_finds_31 rfl rfl ?_
    refine j_icmp_ge (pc := 34) hc dX0_finds_34 (tgt := 76) rfl (fun hh => ?_) (fun hh => ?_)
    · have hf6 := (if_pos hh).symm.trans hf5
      clear hf5
      refine j_iconst (pc := 76) (v := (0)) hc dX0_finds_76 rfl ?_
      refine j_istore_n (pc := 77) (L' := [(3, vi (0)), (0, vr (some a0)), (1, vr (some a1)), (2, vr r2)]) hc dX0_finds_77 rfl hnL (by decide) rfl ?_
      refine j_loc (L' := [(0, vr (some a0)), (1, vr (some a1)), (2, vr r2), (3, vi (0))]) [1, 2, 3, 0] rfl ?_
      exact w_X0_finds_n78 hc ho hnL hrm hre hct hq fu_ _ _ _ _ hf6
    · have hf7 := (if_neg hh).symm.trans hf5
      clear hf5
      refine j_aload_n (pc := 37) hc dX0_finds_37 1 rfl rfl ?_
      obtain ⟨q7, eq7, hf8⟩ := ob_i hf7
      clear hf7
      refine j_getR (pc := 38) hc ho fa_X0_103_4 dX0_finds_38 eq7 ?_
      refine j_aload_n (pc := 41) hc dX0_finds_41 1 rfl rfl ?_
      obtain ⟨q8, eq8, hf9⟩ := ob_i hf8
      clear hf8
      refine j_getR (pc := 42) hc ho fa_X0_103_4 dX0_finds_42 eq8 ?_
      refine j_iload_n (pc := 45) hc dX0_finds_45 3 rfl rfl ?_
      obtain ⟨a9, ea9, hf10⟩ := ob_i hf9
      clear hf9
      subst ea9
      obtain ⟨u10, eu10, hf11⟩ := ob_i hf10
      clear hf10
      obtain ⟨q12, T11, eq12, hf12⟩ := ob_c hf11
      clear hf11
      refine j_callV (pc := 46) (As := [vi x3]) (rest := [vr q7]) (st2 := [vr q12, vr q7]) hc ho cw_X0_112 (c_J5_get eq12) (Rc.of (g_cls_ok eu10) (by decide) (by decide) ci_J5) hrm ⟨by decide, by decide⟩ rfl (Nat.le_of_ble_eq_true rfl) dX0_finds_46 rfl rfl ?_
      obtain ⟨a13, ea13, hf13⟩ := ob_i hf12
      clear hf12
      subst ea13
      obtain ⟨u14, eu14, hf14⟩ := ob_i hf13
      clear hf13
      obtain ⟨v16, T15, ev16, hf15⟩ := ob_c hf14
      clear hf14
      refine j_callV (pc := 49) (As := [vr q12]) (rest := []) (st2 := [vi v16]) hc ho cw_X0_116 (c_J5_indexOf ev16) (Rc.of (g_cls_ok eu14) (by decide) (by decide) ci_J5) hrm ⟨by decide, by decide⟩ rfl (Nat.le_of_ble_eq_true rfl) dX0_finds_49 rfl rfl ?_
      refine j_iload_n (pc := 52) hc dX0_finds_52 3 rfl rfl ?_
      refine j_icmp_ge (pc := 53) hc dX0_finds_53 (tgt := 70) rfl (fun hh => ?_) (fun hh => ?_)
      · have hf16 := (if_pos hh).symm.trans hf15
        clear hf15
        refine j_iinc (pc := 70) (L' := [(3, vi (x3 + (1))), (0, vr (some a0)), (1, vr (some a1)), (2, vr r2)]) (v := (x3 + (1))) hc dX0_finds_70 3 rfl rfl hnL (by decide) rfl ?_
        refine j_goto (pc := 73) hc dX0_finds_73 (tgt := 26) rfl ?_
        refine j_loc (L' := [(0, vr (some a0)), (1, vr (some a1)), (2, vr r2), (3, vi (x3 + (1)))]) [1, 2, 3, 0] rfl ?_
        exact hk_26 _ _ _ _ hf16
      · have hf17 := (if_neg hh).symm.trans hf15
        clear hf15
        refine j_aload_n (pc := 56) hc dX0_finds_56 2 rfl rfl ?_
        refine j_iconst (pc := 57) (v := (4)) hc dX0_finds_57 rfl ?_
        refine j_aload_n (pc := 58) hc dX0_finds_58 0 rfl rfl ?_
        obtain ⟨q17, eq17, hf18⟩ := ob_i hf17
        clear hf17
        refine j_getR (pc := 59) hc ho fa_X0_61_1 dX0_finds_59 eq17 ?_
        obtain ⟨a18, ea18, hf19⟩ := ob_i hf18
        clear hf18
        subst ea18
        obtain ⟨q19, eq19, hf20⟩ := ob_i hf19
        clear hf19
        refine j_getR (pc := 62) hc ho fa_X0_120_2 dX0_finds_62 eq19 ?_
        refine j_iload_n (pc := 65) hc dX0_finds_65 3 rfl rfl ?_
        obtain ⟨a20, ea20, hf21⟩ := ob_i hf20
        clear hf20
        subst ea20
        obtain ⟨v21, ev21, hf22⟩ := ob_i hf21
        clear hf21
        refine j_iald (pc := 66) hc dX0_finds_66 ev21 ?_
        obtain ⟨a22, ea22, hf23⟩ := ob_i hf22
        clear hf22
        subst ea22
        obtain ⟨u23, eu23, hf24⟩ := ob_i hf23
        clear hf23
        obtain ⟨T24, eT24, hf25⟩ := ob_i hf24
        clear hf24
        refine j_callV (pc := 67) (As := [vi (4), vi v21]) (rest := []) (st2 := []) hc ho cw_X0_97 (c_X10_is eT24) (Rc.of (g_cls_ok eu23) (by decide) (by decide) ci_X10) hrm ⟨by decide, by decide⟩ rfl (Nat.le_of_ble_eq_true rfl) dX0_finds_67 rfl rfl ?_
        refine j_iinc (pc := 70) (L' := [(3, vi (x3 + (1))), (0, vr (some a0)), (1, vr (some a1)), (2, vr (some a22))]) (v := (x3 + (1))) hc dX0_finds_70 3 rfl rfl hnL (by decide) rfl ?_
        refine j_goto (pc := 73) hc dX0_finds_73 (tgt := 26) rfl ?_
        refine j_loc (L' := [(0, vr (some a0)), (1, vr (some a1)), (2, vr (some a22)), (3, vi (x3 + (1)))]) [1, 2, 3, 0] rfl ?_
        exact hk_26 _ _ _ _ hf25
set_option maxRecDepth 100000 in
set_option maxHeartbeats 2000000 in
theorem c_X0_finds {l : Launch} {g : PG} {mo : MO} {a0 : Nat} {r1 : Option Nat} {r2 : Option Nat} {S S1 : HS} (hf : f_X0_finds a0 r1 r2 S = some S1) : (h_nx S ≤ h_nx S1 ∧ h_sl S ≤ h_sl S1) ∧ Ct l g yX0_finds (ws_ yX0_finds cX0_finds 5 none) 162 5008 S mo [vr (some a0), vr r1, vr r2] none S1 mo := by
  refine met_of false (by decide) (fun h => by first | rfl | cases h) rfl (Nat.le_of_ble_eq_true rfl) (fun f hl hg hc ho hnL hrm hre hct hex hq => ?_)
  subst hl
  subst hg
  unfold f_X0_finds at hf
  refine j_aload_n (pc := 0) hc dX0_finds_0 0 rfl rfl ?_
  refine j_aload_n (pc := 1) hc dX0_finds_1 1 rfl rfl ?_
  obtain ⟨a1, ea1, hf1⟩ := ob_i hf
  clear hf
  subst ea1
  obtain ⟨q2, eq2, hf2⟩ := ob_i hf1
  clear hf1
  refine j_getR (pc := 2) hc ho fa_X0_86_4 dX0_finds_2 eq2 ?_
  obtain ⟨u3, eu3, hf3⟩ := ob_i hf2
  clear hf2
  obtain ⟨v5, T4, ev5, hf4⟩ := ob_c hf3
  clear hf3
  refine j_callV (pc := 5) (As := [vr q2]) (rest := []) (st2 := [vi v5]) hc ho cw_X0_90 (c_X0_numberOf ev5) (Rc.of (g_cls_ok eu3) (by decide) (by decide) ci_X0) hrm ⟨by decide, by decide⟩ rfl (Nat.le_of_ble_eq_true rfl) dX0_finds_5 rfl rfl ?_
  refine j_iconst (pc := 8) (v := (-1)) hc dX0_finds_8 rfl ?_
  refine j_icmp_eq (pc := 9) hc dX0_finds_9 (tgt := 24) rfl (fun hh => ?_) (fun hh => ?_)
  · have hf5 := (if_pos hh).symm.trans hf4
    clear hf4
    refine j_iconst (pc := 24) (v := (0)) hc dX0_finds_24 rfl ?_
    refine j_istore_n (pc := 25) (L' := [(3, vi (0)), (0, vr (some a0)), (1, vr (some a1)), (2, vr r2)]) hc dX0_finds_25 rfl hnL (by decide) rfl ?_
    refine j_loc (L' := [(0, vr (some a0)), (1, vr (some a1)), (2, vr r2), (3, vi (0))]) [1, 2, 3, 0] rfl ?_
    exact w_X0_finds_n26 hc ho hnL hrm hre hct hq fu_ _ _ _ _ hf5
  · have hf6 := (if_neg hh).symm.trans hf4
    clear hf4
    refine j_aload_n (pc := 12) hc dX0_finds_12 2 rfl rfl ?_
    refine j_iconst (pc := 13) (v := (4)) hc dX0_finds_13 rfl ?_
    refine j_aload_n (pc := 14) hc dX0_finds_14 0 rfl rfl ?_
    obtain ⟨q6, eq6, hf7⟩ := ob_i hf6
    clear hf6
    refine j_getR (pc := 15) hc ho fa_X0_61_1 dX0_finds_15 eq6 ?_
    obtain ⟨a7, ea7, hf8⟩ := ob_i hf7
    clear hf7
    subst ea7
    obtain ⟨v8, ev8, hf9⟩ := ob_i hf8
    clear hf8
    refine j_getI (pc := 18) hc ho fa_X0_94_2 dX0_finds_18 ev8 ?_
    obtain ⟨a9, ea9, hf10⟩ := ob_i hf9
    clear hf9
    subst ea9
    obtain ⟨u10, eu10, hf11⟩ := ob_i hf10
    clear hf10
    obtain ⟨T11, eT11, hf12⟩ := ob_i hf11
    clear hf11
    refine j_callV (pc := 21) (As := [vi (4), vi v8]) (rest := []) (st2 := []) hc ho cw_X0_97 (c_X10_is eT11) (Rc.of (g_cls_ok eu10) (by decide) (by decide) ci_X10) hrm ⟨by decide, by decide⟩ rfl (Nat.le_of_ble_eq_true rfl) dX0_finds_21 rfl rfl ?_
    refine j_iconst (pc := 24) (v := (0)) hc dX0_finds_24 rfl ?_
    refine j_istore_n (pc := 25) (L' := [(3, vi (0)), (0, vr (some a0)), (1, vr (some a1)), (2, vr (some a9))]) hc dX0_finds_25 rfl hnL (by decide) rfl ?_
    refine j_loc (L' := [(0, vr (some a0)), (1, vr (some a1)), (2, vr (some a9)), (3, vi (0))]) [1, 2, 3, 0] rfl ?_
    exact w_X0_finds_n26 hc ho hnL hrm hre hct hq fu_ _ _ _ _ hf12
theorem fa_X0_39_1 : FA "TableCatalog" 39 1 0 7 (.int) 1 := ⟨RX0, TX0, 15, tyX0, 6, "TableCatalog", CI_X0, by decide, rfl, rfl, by decide +kernel, Or.inl ⟨q289, fun h => (by cases h)⟩, fun _ => rfl, Or.inl rfl⟩
theorem fa_X0_197_1 : FA "TableCatalog" 197 1 0 6 (.int) 1 := ⟨RX0, TX0, 15, tyX0, 5, "TableCatalog", CI_X0, by decide, rfl, rfl, by decide +kernel, Or.inl ⟨q288, fun h => (by cases h)⟩, fun _ => rfl, Or.inl rfl⟩
def f_X0_fault (a0 : Nat) (x1 : Int32) (S : HS) : Option (Int32 × HS) :=
  if x1 = 0 then
    (g_fI S 1 6 a0).bind fun v2 =>
    some (v2, S)
  else
    if x1 = (1) then
      (g_fI S 1 7 a0).bind fun v1 =>
      some (v1, S)
    else
      some ((-1), S)
set_option maxRecDepth 100000 in
set_option maxHeartbeats 2000000 in
theorem c_X0_fault {l : Launch} {g : PG} {mo : MO} {a0 : Nat} {x1 : Int32} {r : Int32} {S S1 : HS} (hf : f_X0_fault a0 x1 S = some (r, S1)) : (h_nx S ≤ h_nx S1 ∧ h_sl S ≤ h_sl S1) ∧ Ct l g yX0_fault (ws_ yX0_fault cX0_fault 2 (some (.int))) 1 60 S mo [vr (some a0), vi x1] (some (vi r)) S1 mo := by
  refine met_of false (by decide) (fun h => by first | rfl | cases h) rfl (Nat.le_of_ble_eq_true rfl) (fun f hl hg hc ho hnL hrm hre hct hex hq => ?_)
  subst hl
  subst hg
  unfold f_X0_fault at hf
  refine j_iload_n (pc := 0) hc dX0_fault_0 1 rfl rfl ?_
  refine j_if_ne (pc := 1) hc dX0_fault_1 (tgt := 11) rfl (fun hh => ?_) (fun hh => ?_)
  · have hf1 := (if_neg hh).symm.trans hf
    clear hf
    refine j_iload_n (pc := 11) hc dX0_fault_11 1 rfl rfl ?_
    refine j_iconst (pc := 12) (v := (1)) hc dX0_fault_12 rfl ?_
    refine j_icmp_ne (pc := 13) hc dX0_fault_13 (tgt := 23) rfl (fun hh => ?_) (fun hh => ?_)
    · have hf2 := (if_neg hh).symm.trans hf1
      clear hf1
      refine j_iconst (pc := 23) (v := (-1)) hc dX0_fault_23 rfl ?_
      cases hf2
      exact j_iret (pc := 24) hc hq hre rfl dX0_fault_24
    · have hf3 := (if_pos hh).symm.trans hf1
      clear hf1
      refine j_aload_n (pc := 16) hc dX0_fault_16 0 rfl rfl ?_
      obtain ⟨v1, ev1, hf4⟩ := ob_i hf3
      clear hf3
      refine j_getI (pc := 17) hc ho fa_X0_39_1 dX0_fault_17 ev1 ?_
      refine j_goto (pc := 20) hc dX0_fault_20 (tgt := 24) rfl ?_
      cases hf4
      exact j_iret (pc := 24) hc hq hre rfl dX0_fault_24
  · have hf5 := (if_pos hh).symm.trans hf
    clear hf
    refine j_aload_n (pc := 4) hc dX0_fault_4 0 rfl rfl ?_
    obtain ⟨v2, ev2, hf6⟩ := ob_i hf5
    clear hf5
    refine j_getI (pc := 5) hc ho fa_X0_197_1 dX0_fault_5 ev2 ?_
    refine j_goto (pc := 8) hc dX0_fault_8 (tgt := 24) rfl ?_
    cases hf6
    exact j_iret (pc := 24) hc hq hre rfl dX0_fault_24
def f_X0_table_2 (a0 : Nat) (x1 : Int32) (S : HS) : Option (Option Nat × HS) :=
  if x1 < 0 then
    some (none, S)
  else
    (g_fI S 1 2 a0).bind fun v1 =>
    if x1 < v1 then
      (g_fR S 1 1 a0).bind fun q2 =>
      (q2).bind fun a3 =>
      (g_aR S 36 a3 x1).bind fun q4 =>
      some (q4, S)
    else
      some (none, S)
set_option maxRecDepth 100000 in
set_option maxHeartbeats 2000000 in
theorem c_X0_table_2 {l : Launch} {g : PG} {mo : MO} {a0 : Nat} {x1 : Int32} {r : Option Nat} {S S1 : HS} (hf : f_X0_table_2 a0 x1 S = some (r, S1)) : (h_nx S ≤ h_nx S1 ∧ h_sl S ≤ h_sl S1) ∧ Ct l g yX0_table_2 (ws_ yX0_table_2 cX0_table_2 2 (some (.object "TableCatalog$Table"))) 1 60 S mo [vr (some a0), vi x1] (some (vr r)) S1 mo := by
  refine met_of false (by decide) (fun h => by first | rfl | cases h) rfl (Nat.le_of_ble_eq_true rfl) (fun f hl hg hc ho hnL hrm hre hct hex hq => ?_)
  subst hl
  subst hg
  unfold f_X0_table_2 at hf
  refine j_iload_n (pc := 0) hc dX0_table_2_0 1 rfl rfl ?_
  refine j_if_lt (pc := 1) hc dX0_table_2_1 (tgt := 12) rfl (fun hh => ?_) (fun hh => ?_)
  · have hf1 := (if_pos hh).symm.trans hf
    clear hf
    refine j_null (pc := 12) hc dX0_table_2_12 ?_
    refine j_goto (pc := 13) hc dX0_table_2_13 (tgt := 22) rfl ?_
    cases hf1
    exact j_aret (pc := 22) hc hq hre (Or.inl ⟨_, rfl⟩) dX0_table_2_22
  · have hf2 := (if_neg hh).symm.trans hf
    clear hf
    refine j_iload_n (pc := 4) hc dX0_table_2_4 1 rfl rfl ?_
    refine j_aload_n (pc := 5) hc dX0_table_2_5 0 rfl rfl ?_
    obtain ⟨v1, ev1, hf3⟩ := ob_i hf2
    clear hf2
    refine j_getI (pc := 6) hc ho fa_X0_83_1 dX0_table_2_6 ev1 ?_
    refine j_icmp_lt (pc := 9) hc dX0_table_2_9 (tgt := 16) rfl (fun hh => ?_) (fun hh => ?_)
    · have hf4 := (if_pos hh).symm.trans hf3
      clear hf3
      refine j_aload_n (pc := 16) hc dX0_table_2_16 0 rfl rfl ?_
      obtain ⟨q2, eq2, hf5⟩ := ob_i hf4
      clear hf4
      refine j_getR (pc := 17) hc ho fa_X0_35_1 dX0_table_2_17 eq2 ?_
      refine j_iload_n (pc := 20) hc dX0_table_2_20 1 rfl rfl ?_
      obtain ⟨a3, ea3, hf6⟩ := ob_i hf5
      clear hf5
      subst ea3
      obtain ⟨q4, eq4, hf7⟩ := ob_i hf6
      clear hf6
      refine j_aald (pc := 21) hc dX0_table_2_21 (by decide) eq4 ?_
      cases hf7
      exact j_aret (pc := 22) hc hq hre (Or.inl ⟨_, rfl⟩) dX0_table_2_22
    · have hf8 := (if_neg hh).symm.trans hf3
      clear hf3
      refine j_null (pc := 12) hc dX0_table_2_12 ?_
      refine j_goto (pc := 13) hc dX0_table_2_13 (tgt := 22) rfl ?_
      cases hf8
      exact j_aret (pc := 22) hc hq hre (Or.inl ⟨_, rfl⟩) dX0_table_2_22
theorem cw_X0_239 : CV "TableCatalog" 239 RX0 yX0_age cX0_age 3 (some (.int)) 2 := ⟨⟨q1020, q1022, qs27, q81, q1023⟩, rfl, by decide, by decide, by decide +kernel⟩
def f_X0_made_n23 (kf : Nat → Int32 → Int32 → HS → Option (Int32 × HS)) (a0 : Nat) : Nat → Int32 → Option Nat → Int32 → Int32 → HS → Option (Int32 × HS)
  | 0, _, _, _, _, _ => none
  | n + 1, x2, r3, x4, x5, S =>
    (r3).bind fun a1 =>
    (g_fI S 4 104 a1).bind fun v2 =>
    if v2 ≤ x5 then
      some (x4, S)
    else
      if x4 = (-1) then
        some (x4, S)
      else
        (g_fR S 4 103 a1).bind fun q3 =>
        (q3).bind fun a4 =>
        (g_aI S 31 a4 x5).bind fun v5 =>
        (g_cls S 1 a0).bind fun u6 =>
        o_bd (kf a0 v5 x2 S) fun v8 T7 =>
        if v8 = (-1) then
          (fun x2 r3 x4 x5 S => f_X0_made_n23 kf a0 n x2 r3 x4 x5 S) x2 (some a1) (-1) (x5 + (1)) T7
        else
          if x2 = 0 then
            (fun x2 r3 x4 x5 S => f_X0_made_n23 kf a0 n x2 r3 x4 x5 S) x2 (some a1) (i_min x4 v8) (x5 + (1)) T7
          else
            (fun x2 r3 x4 x5 S => f_X0_made_n23 kf a0 n x2 r3 x4 x5 S) x2 (some a1) (i_max x4 v8) (x5 + (1)) T7
def f_X0_made (kf : Nat → Int32 → Int32 → HS → Option (Int32 × HS)) (a0 : Nat) (x1 : Int32) (x2 : Int32) (S : HS) : Option (Int32 × HS) :=
  (g_fR S 1 1 a0).bind fun q1 =>
  (q1).bind fun a2 =>
  (g_aR S 36 a2 x1).bind fun q3 =>
  (q3).bind fun a4 =>
  (g_fR S 4 103 a4).bind fun q5 =>
  (q5).bind fun a6 =>
  (g_aI S 31 a6 (0)).bind fun v7 =>
  (g_cls S 1 a0).bind fun u8 =>
  o_bd (kf a0 v7 x2 S) fun v10 T9 =>
  f_X0_made_n23 kf a0 fu_ x2 (some a4) v10 (1) T9
set_option maxRecDepth 100000 in
set_option maxHeartbeats 2000000 in
theorem w_X0_made_n23 {f : CfT} {mo : MO} {a0 : Nat} {r : Int32} {S1 : HS} {frK loK : Nat} {kf : Nat → Int32 → Int32 → HS → Option (Int32 × HS)} (hc : cf_cc f = cX0_made) (ho : cf_ow f = "TableCatalog") (hnL : cf_nL f = 7) (hrm : cf_rm f = ((frK + 1), (loK + 60))) (hre : cf_re f = (some (.int))) (hct : cf_ct f = false) (hq : Qok f (some (vi r)) S1 mo) (hkf : ∀ {l : Launch} {g : PG} {mo : MO} {a : Nat} {p0 : Int32} {p1 : Int32} {S : HS} {S1 : HS} {r : Int32}, kf a p0 p1 S = some (r, S1) → (h_nx S ≤ h_nx S1 ∧ h_sl S ≤ h_sl S1) ∧ Ct l g yX0_age (ws_ yX0_age cX0_age 3 (some (.int))) frK loK S mo [vr (some a), vi p0, vi p1] (some (vi r)) S1 mo) : ∀ (n : Nat) (x2 : Int32) (r3 : Option Nat) (x4 : Int32) (x5 : Int32) (S : HS), f_X0_made_n23 kf a0 n x2 r3 x4 x5 S = some (r, S1) → JJ f S mo 23 [(0, vr (some a0)), (2, vi x2), (3, vr r3), (4, vi x4), (5, vi x5)] [] := by
  intro n
  induction n with
  | zero =>
    intro x2 r3 x4 x5 S hf
    have hf : (none : Option (Int32 × HS)) = some (r, S1) := hf
    cases hf
  | succ n ih =>
    intro x2 r3 x4 x5 S hf
    unfold f_X0_made_n23 at hf
    have hk_23 := ih
    refine j_iload (pc := 23) hc dX0_made_23 4 rfl ?_
    refine j_aload_n (pc := 25) hc dX0_made_25 2 rfl rfl ?_
    obtain ⟨a1, ea1, hf1⟩ := ob_i hf
    clear hf
    subst ea1
    obtain ⟨v2, ev2, hf2⟩ := ob_i hf1
    clear hf1
    refine j_getI (pc := 26) hc ho fa_X0_131_4 dX0_made_26 ev2 ?_
    refine j_icmp_ge (pc := 29) hc dX0_made_29 (tgt := 91) rfl (fun hh => ?_) (fun hh => ?_)
    · have hf3 := (if_pos hh).symm.trans hf2
      clear hf2
      refine j_iload (pc := 91) hc dX0_made_91 3 rfl ?_
      cases hf3
      exact j_iret (pc := 93) hc hq hre rfl dX0_made_93
    · have hf4 := (if_neg hh).symm.trans hf2
      clear hf2
      refine j_iload (pc := 32) hc dX0_made_32 3 rfl ?_
      refine j_iconst (pc := 34) (v := (-1)) hc dX0_made_34 rfl ?_
      refine j_icmp_eq (pc := 35) hc dX0_made_35 (tgt := 91) rfl (fun hh => ?_) (fun hh => ?_)
      · have hf5 := (if_pos hh).symm.trans hf4
        clear hf4
        refine j_iload (pc := 91) hc dX0_made_91 3 rfl ?_
        cases hf5
        exact j_iret (pc := 93) hc hq hre rfl dX0_made_93
      · have hf6 := (if_neg hh).symm.trans hf4
        clear hf4
        refine j_aload_n (pc := 38) hc dX0_made_38 0 rfl rfl ?_
        refine j_aload_n (pc := 39) hc dX0_made_39 2 rfl rfl ?_
        obtain ⟨q3, eq3, hf7⟩ := ob_i hf6
        clear hf6
        refine j_getR (pc := 40) hc ho fa_X0_126_4 dX0_made_40 eq3 ?_
        refine j_iload (pc := 43) hc dX0_made_43 4 rfl ?_
        obtain ⟨a4, ea4, hf8⟩ := ob_i hf7
        clear hf7
        subst ea4
        obtain ⟨v5, ev5, hf9⟩ := ob_i hf8
        clear hf8
        refine j_iald (pc := 45) hc dX0_made_45 ev5 ?_
        refine j_iload_n (pc := 46) hc dX0_made_46 1 rfl rfl ?_
        obtain ⟨u6, eu6, hf10⟩ := ob_i hf9
        clear hf9
        obtain ⟨v8, T7, ev8, hf11⟩ := ob_c hf10
        clear hf10
        refine j_callV (pc := 47) (As := [vi v5, vi x2]) (rest := []) (st2 := [vi v8]) hc ho cw_X0_239 (hkf ev8) (Rc.of (g_cls_ok eu6) (by decide) (by decide) ci_X0) hrm ⟨by omega, by omega⟩ rfl (Nat.le_of_ble_eq_true rfl) dX0_made_47 rfl rfl ?_
        refine j_istore (pc := 50) (L' := [(6, vi v8), (0, vr (some a0)), (2, vi x2), (3, vr (some a1)), (4, vi x4), (5, vi x5)]) hc dX0_made_50 hnL (by decide) rfl ?_
        refine j_iload (pc := 52) hc dX0_made_52 0 rfl ?_
        refine j_iconst (pc := 54) (v := (-1)) hc dX0_made_54 rfl ?_
        refine j_icmp_ne (pc := 55) hc dX0_made_55 (tgt := 62) rfl (fun hh => ?_) (fun hh => ?_)
        · have hf12 := (if_neg hh).symm.trans hf11
          clear hf11
          refine j_iload_n (pc := 62) hc dX0_made_62 2 rfl rfl ?_
          refine j_if_eq (pc := 63) hc dX0_made_63 (tgt := 76) rfl (fun hh => ?_) (fun hh => ?_)
          · have hf13 := (if_pos hh).symm.trans hf12
            clear hf12
            refine j_iload (pc := 76) hc dX0_made_76 4 rfl ?_
            refine j_iload (pc := 78) hc dX0_made_78 0 rfl ?_
            refine j_mmin (pc := 80) hc ho q1029 hrm ⟨by omega, by first | (simp <;> omega) | omega⟩ dX0_made_80 ?_
            refine j_istore (pc := 83) (L' := [(4, vi (i_min x4 v8)), (6, vi v8), (0, vr (some a0)), (2, vi x2), (3, vr (some a1)), (5, vi x5)]) hc dX0_made_83 hnL (by decide) rfl ?_
            refine j_iinc (pc := 85) (L' := [(5, vi (x5 + (1))), (4, vi (i_min x4 v8)), (6, vi v8), (0, vr (some a0)), (2, vi x2), (3, vr (some a1))]) (v := (x5 + (1))) hc dX0_made_85 5 rfl rfl hnL (by decide) rfl ?_
            refine j_goto (pc := 88) hc dX0_made_88 (tgt := 23) rfl ?_
            refine j_loc (L' := [(0, vr (some a0)), (2, vi x2), (3, vr (some a1)), (4, vi (i_min x4 v8)), (5, vi (x5 + (1)))]) [3, 4, 5, 1, 0] rfl ?_
            exact hk_23 _ _ _ _ _ hf13
          · have hf14 := (if_neg hh).symm.trans hf12
            clear hf12
            refine j_iload (pc := 66) hc dX0_made_66 4 rfl ?_
            refine j_iload (pc := 68) hc dX0_made_68 0 rfl ?_
            refine j_mmax (pc := 70) hc ho q1028 hrm ⟨by omega, by first | (simp <;> omega) | omega⟩ dX0_made_70 ?_
            refine j_goto (pc := 73) hc dX0_made_73 (tgt := 83) rfl ?_
            refine j_istore (pc := 83) (L' := [(4, vi (i_max x4 v8)), (6, vi v8), (0, vr (some a0)), (2, vi x2), (3, vr (some a1)), (5, vi x5)]) hc dX0_made_83 hnL (by decide) rfl ?_
            refine j_iinc (pc := 85) (L' := [(5, vi (x5 + (1))), (4, vi (i_max x4 v8)), (6, vi v8), (0, vr (some a0)), (2, vi x2), (3, vr (some a1))]) (v := (x5 + (1))) hc dX0_made_85 5 rfl rfl hnL (by decide) rfl ?_
            refine j_goto (pc := 88) hc dX0_made_88 (tgt := 23) rfl ?_
            refine j_loc (L' := [(0, vr (some a0)), (2, vi x2), (3, vr (some a1)), (4, vi (i_max x4 v8)), (5, vi (x5 + (1)))]) [3, 4, 5, 1, 0] rfl ?_
            exact hk_23 _ _ _ _ _ hf14
        · have hf15 := (if_pos hh).symm.trans hf11
          clear hf11
          refine j_iconst (pc := 58) (v := (-1)) hc dX0_made_58 rfl ?_
          refine j_goto (pc := 59) hc dX0_made_59 (tgt := 83) rfl ?_
          refine j_istore (pc := 83) (L' := [(4, vi (-1)), (6, vi v8), (0, vr (some a0)), (2, vi x2), (3, vr (some a1)), (5, vi x5)]) hc dX0_made_83 hnL (by decide) rfl ?_
          refine j_iinc (pc := 85) (L' := [(5, vi (x5 + (1))), (4, vi (-1)), (6, vi v8), (0, vr (some a0)), (2, vi x2), (3, vr (some a1))]) (v := (x5 + (1))) hc dX0_made_85 5 rfl rfl hnL (by decide) rfl ?_
          refine j_goto (pc := 88) hc dX0_made_88 (tgt := 23) rfl ?_
          refine j_loc (L' := [(0, vr (some a0)), (2, vi x2), (3, vr (some a1)), (4, vi (-1)), (5, vi (x5 + (1)))]) [3, 4, 5, 1, 0] rfl ?_
          exact hk_23 _ _ _ _ _ hf15
set_option maxRecDepth 100000 in
set_option maxHeartbeats 2000000 in
theorem c_X0_made {l : Launch} {g : PG} {mo : MO} {a0 : Nat} {x1 : Int32} {x2 : Int32} {r : Int32} {S S1 : HS} {frK loK : Nat} {kf : Nat → Int32 → Int32 → HS → Option (Int32 × HS)} (hkf : ∀ {l : Launch} {g : PG} {mo : MO} {a : Nat} {p0 : Int32} {p1 : Int32} {S : HS} {S1 : HS} {r : Int32}, kf a p0 p1 S = some (r, S1) → (h_nx S ≤ h_nx S1 ∧ h_sl S ≤ h_sl S1) ∧ Ct l g yX0_age (ws_ yX0_age cX0_age 3 (some (.int))) frK loK S mo [vr (some a), vi p0, vi p1] (some (vi r)) S1 mo) (hf : f_X0_made kf a0 x1 x2 S = some (r, S1)) : (h_nx S ≤ h_nx S1 ∧ h_sl S ≤ h_sl S1) ∧ Ct l g yX0_made (ws_ yX0_made cX0_made 7 (some (.int))) (frK + 1) (loK + 60) S mo [vr (some a0), vi x1, vi x2] (some (vi r)) S1 mo := by
  refine met_of false (by decide) (fun h => by first | rfl | cases h) rfl (Nat.le_of_ble_eq_true rfl) (fun f hl hg hc ho hnL hrm hre hct hex hq => ?_)
  subst hl
  subst hg
  unfold f_X0_made at hf
  refine j_aload_n (pc := 0) hc dX0_made_0 0 rfl rfl ?_
  obtain ⟨q1, eq1, hf1⟩ := ob_i hf
  clear hf
  refine j_getR (pc := 1) hc ho fa_X0_35_1 dX0_made_1 eq1 ?_
  refine j_iload_n (pc := 4) hc dX0_made_4 1 rfl rfl ?_
  obtain ⟨a2, ea2, hf2⟩ := ob_i hf1
  clear hf1
  subst ea2
  obtain ⟨q3, eq3, hf3⟩ := ob_i hf2
  clear hf2
  refine j_aald (pc := 5) hc dX0_made_5 (by decide) eq3 ?_
  refine j_astore_n (pc := 6) (L' := [(3, vr q3), (0, vr (some a0)), (1, vi x1), (2, vi x2)]) hc dX0_made_6 rfl hnL (by decide) rfl ?_
  refine j_aload_n (pc := 7) hc dX0_made_7 1 rfl rfl ?_
  refine j_aload_n (pc := 8) hc dX0_made_8 0 rfl rfl ?_
  obtain ⟨a4, ea4, hf4⟩ := ob_i hf3
  clear hf3
  subst ea4
  obtain ⟨q5, eq5, hf5⟩ := ob_i hf4
  clear hf4
  refine j_getR (pc := 9) hc ho fa_X0_126_4 dX0_made_9 eq5 ?_
  refine j_iconst (pc := 12) (v := (0)) hc dX0_made_12 rfl ?_
  obtain ⟨a6, ea6, hf6⟩ := ob_i hf5
  clear hf5
  subst ea6
  obtain ⟨v7, ev7, hf7⟩ := ob_i hf6
  clear hf6
  refine j_iald (pc := 13) hc dX0_made_13 ev7 ?_
  refine j_iload_n (pc := 14) hc dX0_made_14 3 rfl rfl ?_
  obtain ⟨u8, eu8, hf8⟩ := ob_i hf7
  clear hf7
  obtain ⟨v10, T9, ev10, hf9⟩ := ob_c hf8
  clear hf8
  refine j_callV (pc := 15) (As := [vi v7, vi x2]) (rest := []) (st2 := [vi v10]) hc ho cw_X0_239 (hkf ev10) (Rc.of (g_cls_ok eu8) (by decide) (by decide) ci_X0) hrm ⟨by omega, by omega⟩ rfl (Nat.le_of_ble_eq_true rfl) dX0_made_15 rfl rfl ?_
  refine j_istore (pc := 18) (L' := [(4, vi v10), (3, vr (some a4)), (0, vr (some a0)), (1, vi x1), (2, vi x2)]) hc dX0_made_18 hnL (by decide) rfl ?_
  refine j_iconst (pc := 20) (v := (1)) hc dX0_made_20 rfl ?_
  refine j_istore (pc := 21) (L' := [(5, vi (1)), (4, vi v10), (3, vr (some a4)), (0, vr (some a0)), (1, vi x1), (2, vi x2)]) hc dX0_made_21 hnL (by decide) rfl ?_
  refine j_loc (L' := [(0, vr (some a0)), (2, vi x2), (3, vr (some a4)), (4, vi v10), (5, vi (1))]) [3, 5, 2, 1, 0] rfl ?_
  exact w_X0_made_n23 hc ho hnL hrm hre hct hq hkf fu_ _ _ _ _ _ hf9
theorem fa_X0_237_4 : FA "TableCatalog" 237 4 0 99 (.int) 1 := ⟨RX4, TX4, 15, tyX4, 1, "TableCatalog$Table", CI_X4, by decide, rfl, rfl, by decide +kernel, Or.inr ⟨by decide, "TableCatalog", q555⟩, fun _ => rfl, Or.inl rfl⟩
theorem fa_X0_294_4 : FA "TableCatalog" 294 4 0 109 (.int) 1 := ⟨RX4, TX4, 15, tyX4, 11, "TableCatalog$Table", CI_X4, by decide, rfl, rfl, by decide +kernel, Or.inr ⟨by decide, "TableCatalog", q579⟩, fun _ => rfl, Or.inl rfl⟩
theorem fa_X0_291_4 : FA "TableCatalog" 291 4 0 110 (.int) 1 := ⟨RX4, TX4, 15, tyX4, 12, "TableCatalog$Table", CI_X4, by decide, rfl, rfl, by decide +kernel, Or.inr ⟨by decide, "TableCatalog", q581⟩, fun _ => rfl, Or.inl rfl⟩
theorem cw_X0_288 : CV "TableCatalog" 288 RX0 yX0_made cX0_made 7 (some (.int)) 2 := ⟨⟨q1024, q1026, qs28, q81, q1027⟩, rfl, by decide, by decide, by decide +kernel⟩
def f_X0_age_b (kf : Nat → Int32 → Int32 → HS → Option (Int32 × HS)) (a0 : Nat) (x1 : Int32) (x2 : Int32) (S : HS) : Option (Int32 × HS) :=
  (g_fR S 1 1 a0).bind fun q1 =>
  (q1).bind fun a2 =>
  (g_aR S 36 a2 x1).bind fun q3 =>
  (q3).bind fun a4 =>
  (g_fI S 4 99 a4).bind fun v5 =>
  if v5 = (1) then
    (g_cls S 1 a0).bind fun u16 =>
    o_bd (f_X0_made kf a0 x1 x2 S) fun v18 T17 =>
    some (v18, T17)
  else
    if x2 = 0 then
      (g_fR S 1 1 a0).bind fun q6 =>
      (q6).bind fun a7 =>
      (g_aR S 36 a7 x1).bind fun q8 =>
      (q8).bind fun a9 =>
      (g_fI S 4 109 a9).bind fun v10 =>
      some (v10, S)
    else
      (g_fR S 1 1 a0).bind fun q11 =>
      (q11).bind fun a12 =>
      (g_aR S 36 a12 x1).bind fun q13 =>
      (q13).bind fun a14 =>
      (g_fI S 4 110 a14).bind fun v15 =>
      some (v15, S)
def f_X0_age : Nat → Nat → Int32 → Int32 → HS → Option (Int32 × HS)
  | 0, _, _, _, _ => none
  | d + 1, a0, x1, x2, S => f_X0_age_b (f_X0_age d) a0 x1 x2 S
set_option maxRecDepth 100000 in
set_option maxHeartbeats 2000000 in
theorem c_X0_age_b {l : Launch} {g : PG} {mo : MO} {a0 : Nat} {x1 : Int32} {x2 : Int32} {r : Int32} {S S1 : HS} {frK loK : Nat} {kf : Nat → Int32 → Int32 → HS → Option (Int32 × HS)} (hkf : ∀ {l : Launch} {g : PG} {mo : MO} {a : Nat} {p0 : Int32} {p1 : Int32} {S : HS} {S1 : HS} {r : Int32}, kf a p0 p1 S = some (r, S1) → (h_nx S ≤ h_nx S1 ∧ h_sl S ≤ h_sl S1) ∧ Ct l g yX0_age (ws_ yX0_age cX0_age 3 (some (.int))) frK loK S mo [vr (some a), vi p0, vi p1] (some (vi r)) S1 mo) (hf : f_X0_age_b kf a0 x1 x2 S = some (r, S1)) : (h_nx S ≤ h_nx S1 ∧ h_sl S ≤ h_sl S1) ∧ Ct l g yX0_age (ws_ yX0_age cX0_age 3 (some (.int))) (frK + 2) (loK + 86) S mo [vr (some a0), vi x1, vi x2] (some (vi r)) S1 mo := by
  refine met_of false (by decide) (fun h => by first | rfl | cases h) rfl (Nat.le_of_ble_eq_true rfl) (fun f hl hg hc ho hnL hrm hre hct hex hq => ?_)
  subst hl
  subst hg
  unfold f_X0_age_b at hf
  refine j_aload_n (pc := 0) hc dX0_age_0 0 rfl rfl ?_
  obtain ⟨q1, eq1, hf1⟩ := ob_i hf
  clear hf
  refine j_getR (pc := 1) hc ho fa_X0_35_1 dX0_age_1 eq1 ?_
  refine j_iload_n (pc := 4) hc dX0_age_4 1 rfl rfl ?_
  obtain ⟨a2, ea2, hf2⟩ := ob_i hf1
  clear hf1
  subst ea2
  obtain ⟨q3, eq3, hf3⟩ := ob_i hf2
  clear hf2
  refine j_aald (pc := 5) hc dX0_age_5 (by decide) eq3 ?_
  obtain ⟨a4, ea4, hf4⟩ := ob_i hf3
  clear hf3
  subst ea4
  obtain ⟨v5, ev5, hf5⟩ := ob_i hf4
  clear hf4
  refine j_getI (pc := 6) hc ho fa_X0_237_4 dX0_age_6 ev5 ?_
  refine j_iconst (pc := 9) (v := (1)) hc dX0_age_9 rfl ?_
  refine j_icmp_ne (pc := 10) hc dX0_age_10 (tgt := 22) rfl (fun hh => ?_) (fun hh => ?_)
  · have hf6 := (if_neg hh).symm.trans hf5
    clear hf5
    refine j_iload_n (pc := 22) hc dX0_age_22 2 rfl rfl ?_
    refine j_if_eq (pc := 23) hc dX0_age_23 (tgt := 38) rfl (fun hh => ?_) (fun hh => ?_)
    · have hf7 := (if_pos hh).symm.trans hf6
      clear hf6
      refine j_aload_n (pc := 38) hc dX0_age_38 0 rfl rfl ?_
      obtain ⟨q6, eq6, hf8⟩ := ob_i hf7
      clear hf7
      refine j_getR (pc := 39) hc ho fa_X0_35_1 dX0_age_39 eq6 ?_
      refine j_iload_n (pc := 42) hc dX0_age_42 1 rfl rfl ?_
      obtain ⟨a7, ea7, hf9⟩ := ob_i hf8
      clear hf8
      subst ea7
      obtain ⟨q8, eq8, hf10⟩ := ob_i hf9
      clear hf9
      refine j_aald (pc := 43) hc dX0_age_43 (by decide) eq8 ?_
      obtain ⟨a9, ea9, hf11⟩ := ob_i hf10
      clear hf10
      subst ea9
      obtain ⟨v10, ev10, hf12⟩ := ob_i hf11
      clear hf11
      refine j_getI (pc := 44) hc ho fa_X0_294_4 dX0_age_44 ev10 ?_
      cases hf12
      exact j_iret (pc := 47) hc hq hre rfl dX0_age_47
    · have hf13 := (if_neg hh).symm.trans hf6
      clear hf6
      refine j_aload_n (pc := 26) hc dX0_age_26 0 rfl rfl ?_
      obtain ⟨q11, eq11, hf14⟩ := ob_i hf13
      clear hf13
      refine j_getR (pc := 27) hc ho fa_X0_35_1 dX0_age_27 eq11 ?_
      refine j_iload_n (pc := 30) hc dX0_age_30 1 rfl rfl ?_
      obtain ⟨a12, ea12, hf15⟩ := ob_i hf14
      clear hf14
      subst ea12
      obtain ⟨q13, eq13, hf16⟩ := ob_i hf15
      clear hf15
      refine j_aald (pc := 31) hc dX0_age_31 (by decide) eq13 ?_
      obtain ⟨a14, ea14, hf17⟩ := ob_i hf16
      clear hf16
      subst ea14
      obtain ⟨v15, ev15, hf18⟩ := ob_i hf17
      clear hf17
      refine j_getI (pc := 32) hc ho fa_X0_291_4 dX0_age_32 ev15 ?_
      refine j_goto (pc := 35) hc dX0_age_35 (tgt := 47) rfl ?_
      cases hf18
      exact j_iret (pc := 47) hc hq hre rfl dX0_age_47
  · have hf19 := (if_pos hh).symm.trans hf5
    clear hf5
    refine j_aload_n (pc := 13) hc dX0_age_13 0 rfl rfl ?_
    refine j_iload_n (pc := 14) hc dX0_age_14 1 rfl rfl ?_
    refine j_iload_n (pc := 15) hc dX0_age_15 2 rfl rfl ?_
    obtain ⟨u16, eu16, hf20⟩ := ob_i hf19
    clear hf19
    obtain ⟨v18, T17, ev18, hf21⟩ := ob_c hf20
    clear hf20
    refine j_callV (pc := 16) (As := [vi x1, vi x2]) (rest := []) (st2 := [vi v18]) hc ho cw_X0_288 (c_X0_made hkf ev18) (Rc.of (g_cls_ok eu16) (by decide) (by decide) ci_X0) hrm ⟨by omega, by omega⟩ rfl (Nat.le_of_ble_eq_true rfl) dX0_age_16 rfl rfl ?_
    refine j_goto (pc := 19) hc dX0_age_19 (tgt := 47) rfl ?_
    cases hf21
    exact j_iret (pc := 47) hc hq hre rfl dX0_age_47
theorem cd_X0_age : ∀ (d : Nat) {l : Launch} {g : PG} {mo : MO} {a0 : Nat} {x1 : Int32} {x2 : Int32} {r : Int32} {S S1 : HS} , f_X0_age d a0 x1 x2 S = some (r, S1) → (h_nx S ≤ h_nx S1 ∧ h_sl S ≤ h_sl S1) ∧ Ct l g yX0_age (ws_ yX0_age cX0_age 3 (some (.int))) (2 * d) (86 * d) S mo [vr (some a0), vi x1, vi x2] (some (vi r)) S1 mo := by
  intro d
  induction d with
  | zero =>
    intro l g mo a0 x1 x2 r S S1 hf
    have hf : (none : Option (Int32 × HS)) = some (r, S1) := hf
    cases hf
  | succ d ih =>
    intro l g mo a0 x1 x2 r S S1 hf
    have h9 := c_X0_age_b (l := l) (g := g) (mo := mo) (frK := 2 * d) (loK := 86 * d) (kf := f_X0_age d) (fun {l g mo a p0 p1 S S1 r} h => ih h) hf
    exact h9
theorem c_X0_age (d : Nat) {l : Launch} {g : PG} {mo : MO} {a0 : Nat} {x1 : Int32} {x2 : Int32} {r : Int32} {S S1 : HS} (hf : f_X0_age d a0 x1 x2 S = some (r, S1)) : (h_nx S ≤ h_nx S1 ∧ h_sl S ≤ h_sl S1) ∧ Ct l g yX0_age (ws_ yX0_age cX0_age 3 (some (.int))) (2 * d) (86 * d) S mo [vr (some a0), vi x1, vi x2] (some (vi r)) S1 mo := cd_X0_age d hf
theorem fa_X0_316_4 : FA "TableCatalog" 316 4 0 111 (.int) 1 := ⟨RX4, TX4, 15, tyX4, 13, "TableCatalog$Table", CI_X4, by decide, rfl, rfl, by decide +kernel, Or.inr ⟨by decide, "TableCatalog", q583⟩, fun _ => rfl, Or.inl rfl⟩
def f_X0_owner_n42 (a0 : Nat) (x2 : Int32) (S : HS) : Option (Int32 × HS) :=
  (g_fR S 1 1 a0).bind fun q1 =>
  (q1).bind fun a2 =>
  (g_aR S 36 a2 x2).bind fun q3 =>
  (q3).bind fun a4 =>
  (g_fI S 4 111 a4).bind fun v5 =>
  some (v5, S)
def f_X0_owner_n2 (a0 : Nat) : Nat → Int32 → HS → Option (Int32 × HS)
  | 0, _, _ => none
  | n + 1, x2, S =>
    (g_fR S 1 1 a0).bind fun q1 =>
    (q1).bind fun a2 =>
    (g_aR S 36 a2 x2).bind fun q3 =>
    (q3).bind fun a4 =>
    (g_fI S 4 111 a4).bind fun v5 =>
    if v5 = (-1) then
      (g_fR S 1 1 a0).bind fun q6 =>
      (q6).bind fun a7 =>
      (g_aR S 36 a7 x2).bind fun q8 =>
      (q8).bind fun a9 =>
      (g_fI S 4 104 a9).bind fun v10 =>
      if v10 ≤ 0 then
        f_X0_owner_n42 a0 x2 S
      else
        (g_fR S 1 1 a0).bind fun q11 =>
        (q11).bind fun a12 =>
        (g_aR S 36 a12 x2).bind fun q13 =>
        (q13).bind fun a14 =>
        (g_fR S 4 103 a14).bind fun q15 =>
        (q15).bind fun a16 =>
        (g_aI S 31 a16 (0)).bind fun v17 =>
        (fun x2 S => f_X0_owner_n2 a0 n x2 S) v17 S
    else
      f_X0_owner_n42 a0 x2 S
def f_X0_owner (a0 : Nat) (x1 : Int32) (S : HS) : Option (Int32 × HS) :=
  f_X0_owner_n2 a0 fu_ x1 S
set_option maxRecDepth 100000 in
set_option maxHeartbeats 2000000 in
theorem w_X0_owner_n42 {f : CfT} {mo : MO} {a0 : Nat} {r : Int32} {S1 : HS} (hc : cf_cc f = cX0_owner) (ho : cf_ow f = "TableCatalog") (hnL : cf_nL f = 3) (hrm : cf_rm f = (1, 60)) (hre : cf_re f = (some (.int))) (hct : cf_ct f = false) (hq : Qok f (some (vi r)) S1 mo) {x2 : Int32} {S : HS} (hf : f_X0_owner_n42 a0 x2 S = some (r, S1)) : JJ f S mo 42 [(0, vr (some a0)), (2, vi x2)] [] := by
  unfold f_X0_owner_n42 at hf
  refine j_aload_n (pc := 42) hc dX0_owner_42 0 rfl rfl ?_
  obtain ⟨q1, eq1, hf1⟩ := ob_i hf
  clear hf
  refine j_getR (pc := 43) hc ho fa_X0_35_1 dX0_owner_43 eq1 ?_
  refine j_iload_n (pc := 46) hc dX0_owner_46 1 rfl rfl ?_
  obtain ⟨a2, ea2, hf2⟩ := ob_i hf1
  clear hf1
  subst ea2
  obtain ⟨q3, eq3, hf3⟩ := ob_i hf2
  clear hf2
  refine j_aald (pc := 47) hc dX0_owner_47 (by decide) eq3 ?_
  obtain ⟨a4, ea4, hf4⟩ := ob_i hf3
  clear hf3
  subst ea4
  obtain ⟨v5, ev5, hf5⟩ := ob_i hf4
  clear hf4
  refine j_getI (pc := 48) hc ho fa_X0_316_4 dX0_owner_48 ev5 ?_
  cases hf5
  exact j_iret (pc := 51) hc hq hre rfl dX0_owner_51
set_option maxRecDepth 100000 in
set_option maxHeartbeats 2000000 in
theorem w_X0_owner_n2 {f : CfT} {mo : MO} {a0 : Nat} {r : Int32} {S1 : HS} (hc : cf_cc f = cX0_owner) (ho : cf_ow f = "TableCatalog") (hnL : cf_nL f = 3) (hrm : cf_rm f = (1, 60)) (hre : cf_re f = (some (.int))) (hct : cf_ct f = false) (hq : Qok f (some (vi r)) S1 mo) : ∀ (n : Nat) (x2 : Int32) (S : HS), f_X0_owner_n2 a0 n x2 S = some (r, S1) → JJ f S mo 2 [(0, vr (some a0)), (2, vi x2)] [] := by
  intro n
  induction n with
  | zero =>
    intro x2 S hf
    have hf : (none : Option (Int32 × HS)) = some (r, S1) := hf
    cases hf
  | succ n ih =>
    intro x2 S hf
    unfold f_X0_owner_n2 at hf
    have hk_2 := ih
    refine j_aload_n (pc := 2) hc dX0_owner_2 0 rfl rfl ?_
    obtain ⟨q1, eq1, hf1⟩ := ob_i hf
    clear hf
    refine j_getR (pc := 3) hc ho fa_X0_35_1 dX0_owner_3 eq1 ?_
    refine j_iload_n (pc := 6) hc dX0_owner_6 1 rfl rfl ?_
    obtain ⟨a2, ea2, hf2⟩ := ob_i hf1
    clear hf1
    subst ea2
    obtain ⟨q3, eq3, hf3⟩ := ob_i hf2
    clear hf2
    refine j_aald (pc := 7) hc dX0_owner_7 (by decide) eq3 ?_
    obtain ⟨a4, ea4, hf4⟩ := ob_i hf3
    clear hf3
    subst ea4
    obtain ⟨v5, ev5, hf5⟩ := ob_i hf4
    clear hf4
    refine j_getI (pc := 8) hc ho fa_X0_316_4 dX0_owner_8 ev5 ?_
    refine j_iconst (pc := 11) (v := (-1)) hc dX0_owner_11 rfl ?_
    refine j_icmp_ne (pc := 12) hc dX0_owner_12 (tgt := 42) rfl (fun hh => ?_) (fun hh => ?_)
    · have hf6 := (if_neg hh).symm.trans hf5
      clear hf5
      exact w_X0_owner_n42 hc ho hnL hrm hre hct hq hf6
    · have hf7 := (if_pos hh).symm.trans hf5
      clear hf5
      refine j_aload_n (pc := 15) hc dX0_owner_15 0 rfl rfl ?_
      obtain ⟨q6, eq6, hf8⟩ := ob_i hf7
      clear hf7
      refine j_getR (pc := 16) hc ho fa_X0_35_1 dX0_owner_16 eq6 ?_
      refine j_iload_n (pc := 19) hc dX0_owner_19 1 rfl rfl ?_
      obtain ⟨a7, ea7, hf9⟩ := ob_i hf8
      clear hf8
      subst ea7
      obtain ⟨q8, eq8, hf10⟩ := ob_i hf9
      clear hf9
      refine j_aald (pc := 20) hc dX0_owner_20 (by decide) eq8 ?_
      obtain ⟨a9, ea9, hf11⟩ := ob_i hf10
      clear hf10
      subst ea9
      obtain ⟨v10, ev10, hf12⟩ := ob_i hf11
      clear hf11
      refine j_getI (pc := 21) hc ho fa_X0_131_4 dX0_owner_21 ev10 ?_
      refine j_if_le (pc := 24) hc dX0_owner_24 (tgt := 42) rfl (fun hh => ?_) (fun hh => ?_)
      · have hf13 := (if_pos hh).symm.trans hf12
        clear hf12
        exact w_X0_owner_n42 hc ho hnL hrm hre hct hq hf13
      · have hf14 := (if_neg hh).symm.trans hf12
        clear hf12
        refine j_aload_n (pc := 27) hc dX0_owner_27 0 rfl rfl ?_
        obtain ⟨q11, eq11, hf15⟩ := ob_i hf14
        clear hf14
        refine j_getR (pc := 28) hc ho fa_X0_35_1 dX0_owner_28 eq11 ?_
        refine j_iload_n (pc := 31) hc dX0_owner_31 1 rfl rfl ?_
        obtain ⟨a12, ea12, hf16⟩ := ob_i hf15
        clear hf15
        subst ea12
        obtain ⟨q13, eq13, hf17⟩ := ob_i hf16
        clear hf16
        refine j_aald (pc := 32) hc dX0_owner_32 (by decide) eq13 ?_
        obtain ⟨a14, ea14, hf18⟩ := ob_i hf17
        clear hf17
        subst ea14
        obtain ⟨q15, eq15, hf19⟩ := ob_i hf18
        clear hf18
        refine j_getR (pc := 33) hc ho fa_X0_126_4 dX0_owner_33 eq15 ?_
        refine j_iconst (pc := 36) (v := (0)) hc dX0_owner_36 rfl ?_
        obtain ⟨a16, ea16, hf20⟩ := ob_i hf19
        clear hf19
        subst ea16
        obtain ⟨v17, ev17, hf21⟩ := ob_i hf20
        clear hf20
        refine j_iald (pc := 37) hc dX0_owner_37 ev17 ?_
        refine j_istore_n (pc := 38) (L' := [(2, vi v17), (0, vr (some a0))]) hc dX0_owner_38 rfl hnL (by decide) rfl ?_
        refine j_goto (pc := 39) hc dX0_owner_39 (tgt := 2) rfl ?_
        refine j_loc (L' := [(0, vr (some a0)), (2, vi v17)]) [1, 0] rfl ?_
        exact hk_2 _ _ hf21
set_option maxRecDepth 100000 in
set_option maxHeartbeats 2000000 in
theorem c_X0_owner {l : Launch} {g : PG} {mo : MO} {a0 : Nat} {x1 : Int32} {r : Int32} {S S1 : HS} (hf : f_X0_owner a0 x1 S = some (r, S1)) : (h_nx S ≤ h_nx S1 ∧ h_sl S ≤ h_sl S1) ∧ Ct l g yX0_owner (ws_ yX0_owner cX0_owner 3 (some (.int))) 1 60 S mo [vr (some a0), vi x1] (some (vi r)) S1 mo := by
  refine met_of false (by decide) (fun h => by first | rfl | cases h) rfl (Nat.le_of_ble_eq_true rfl) (fun f hl hg hc ho hnL hrm hre hct hex hq => ?_)
  subst hl
  subst hg
  unfold f_X0_owner at hf
  refine j_iload_n (pc := 0) hc dX0_owner_0 1 rfl rfl ?_
  refine j_istore_n (pc := 1) (L' := [(2, vi x1), (0, vr (some a0)), (1, vi x1)]) hc dX0_owner_1 rfl hnL (by decide) rfl ?_
  refine j_loc (L' := [(0, vr (some a0)), (2, vi x1)]) [1, 0] rfl ?_
  exact w_X0_owner_n2 hc ho hnL hrm hre hct hq fu_ _ _ hf
theorem cw_X0_234 : CV "TableCatalog" 234 RX0 yX0_table_2 cX0_table_2 2 (some (.object "TableCatalog$Table")) 1 := ⟨⟨q1016, q1018, qs26, q81, q1019⟩, rfl, by decide, by decide, by decide +kernel⟩
theorem cw_X0_243 : CV "TableCatalog" 243 RX0 yX0_owner cX0_owner 3 (some (.int)) 1 := ⟨⟨q1030, q1032, qs29, q81, q1033⟩, rfl, by decide, by decide, by decide +kernel⟩
theorem fa_X0_247_4 : FA "TableCatalog" 247 4 0 112 (.int) 1 := ⟨RX4, TX4, 15, tyX4, 14, "TableCatalog$Table", CI_X4, by decide, rfl, rfl, by decide +kernel, Or.inr ⟨by decide, "TableCatalog", q585⟩, fun _ => rfl, Or.inl rfl⟩
def f_X0_table_n86 (a0 : Nat) (x2 : Int32) (r3 : Option Nat) (S : HS) : Option (Int32 × HS) :=
  (r3).bind fun a1 =>
  (g_fI S 4 104 a1).bind fun v2 =>
  if v2 ≤ (x2 - (3)) then
    some ((-1), S)
  else
    (g_fR S 4 103 a1).bind fun q3 =>
    (q3).bind fun a4 =>
    (g_aI S 31 a4 (x2 - (3))).bind fun v5 =>
    some (v5, S)
def f_X0_table (a0 : Nat) (x1 : Int32) (x2 : Int32) (S : HS) : Option (Int32 × HS) :=
  (g_cls S 1 a0).bind fun u1 =>
  o_bd (f_X0_table_2 a0 x1 S) fun q3 T2 =>
  o_case q3 (
    some ((-1), T2)
  ) (fun a4 =>
    if x2 = (0) then
      (g_fI T2 4 99 a4).bind fun v5 =>
      some (v5, T2)
    else
      if x2 = (1) then
        (g_fR T2 4 100 a4).bind fun q6 =>
        (q6).bind fun a7 =>
        (g_cls T2 12 a7).bind fun u8 =>
        o_bd (f_J5_size a7 T2) fun v10 T9 =>
        some (v10, T9)
      else
        if x2 = (2) then
          (g_fI T2 4 104 a4).bind fun v11 =>
          some (v11, T2)
        else
          if x2 = (3) then
            f_X0_table_n86 a0 x2 (some a4) T2
          else
            if x2 = (4) then
              f_X0_table_n86 a0 x2 (some a4) T2
            else
              if x2 = (5) then
                f_X0_table_n86 a0 x2 (some a4) T2
              else
                if x2 = (6) then
                  (g_cls T2 1 a0).bind fun u12 =>
                  o_bd (f_X0_age 40 a0 x1 (0) T2) fun v14 T13 =>
                  some (v14, T13)
                else
                  if x2 = (7) then
                    (g_cls T2 1 a0).bind fun u15 =>
                    o_bd (f_X0_age 40 a0 x1 (1) T2) fun v17 T16 =>
                    some (v17, T16)
                  else
                    if x2 = (8) then
                      (g_cls T2 1 a0).bind fun u18 =>
                      o_bd (f_X0_owner a0 x1 T2) fun v20 T19 =>
                      some (v20, T19)
                    else
                      if x2 = (9) then
                        (g_fI T2 4 112 a4).bind fun v21 =>
                        some (v21, T2)
                      else
                        some ((-1), T2)
  )
set_option maxRecDepth 100000 in
set_option maxHeartbeats 2000000 in
theorem w_X0_table_n86 {f : CfT} {mo : MO} {a0 : Nat} {r : Int32} {S1 : HS} (hc : cf_cc f = cX0_table) (ho : cf_ow f = "TableCatalog") (hnL : cf_nL f = 4) (hrm : cf_rm f = (81, 3462)) (hre : cf_re f = (some (.int))) (hct : cf_ct f = false) (hq : Qok f (some (vi r)) S1 mo) {x2 : Int32} {r3 : Option Nat} {S : HS} (hf : f_X0_table_n86 a0 x2 r3 S = some (r, S1)) : JJ f S mo 86 [(0, vr (some a0)), (2, vi x2), (3, vr r3)] [] := by
  unfold f_X0_table_n86 at hf
  refine j_iload_n (pc := 86) hc dX0_table_86 1 rfl rfl ?_
  refine j_iconst (pc := 87) (v := (3)) hc dX0_table_87 rfl ?_
  refine j_isub (pc := 88) hc dX0_table_88 ?_
  refine j_aload_n (pc := 89) hc dX0_table_89 2 rfl rfl ?_
  obtain ⟨a1, ea1, hf1⟩ := ob_i hf
  clear hf
  subst ea1
  obtain ⟨v2, ev2, hf2⟩ := ob_i hf1
  clear hf1
  refine j_getI (pc := 90) hc ho fa_X0_131_4 dX0_table_90 ev2 ?_
  refine j_icmp_ge (pc := 93) hc dX0_table_93 (tgt := 107) rfl (fun hh => ?_) (fun hh => ?_)
  · have hf3 := (if_pos hh).symm.trans hf2
    clear hf2
    refine j_iconst (pc := 107) (v := (-1)) hc dX0_table_107 rfl ?_
    cases hf3
    exact j_iret (pc := 108) hc hq hre rfl dX0_table_108
  · have hf4 := (if_neg hh).symm.trans hf2
    clear hf2
    refine j_aload_n (pc := 96) hc dX0_table_96 2 rfl rfl ?_
    obtain ⟨q3, eq3, hf5⟩ := ob_i hf4
    clear hf4
    refine j_getR (pc := 97) hc ho fa_X0_126_4 dX0_table_97 eq3 ?_
    refine j_iload_n (pc := 100) hc dX0_table_100 1 rfl rfl ?_
    refine j_iconst (pc := 101) (v := (3)) hc dX0_table_101 rfl ?_
    refine j_isub (pc := 102) hc dX0_table_102 ?_
    obtain ⟨a4, ea4, hf6⟩ := ob_i hf5
    clear hf5
    subst ea4
    obtain ⟨v5, ev5, hf7⟩ := ob_i hf6
    clear hf6
    refine j_iald (pc := 103) hc dX0_table_103 ev5 ?_
    refine j_goto (pc := 104) hc dX0_table_104 (tgt := 108) rfl ?_
    cases hf7
    exact j_iret (pc := 108) hc hq hre rfl dX0_table_108
set_option maxRecDepth 100000 in
set_option maxHeartbeats 2000000 in
theorem c_X0_table {l : Launch} {g : PG} {mo : MO} {a0 : Nat} {x1 : Int32} {x2 : Int32} {r : Int32} {S S1 : HS} (hf : f_X0_table a0 x1 x2 S = some (r, S1)) : (h_nx S ≤ h_nx S1 ∧ h_sl S ≤ h_sl S1) ∧ Ct l g yX0_table (ws_ yX0_table cX0_table 4 (some (.int))) 81 3462 S mo [vr (some a0), vi x1, vi x2] (some (vi r)) S1 mo := by
  refine met_of false (by decide) (fun h => by first | rfl | cases h) rfl (Nat.le_of_ble_eq_true rfl) (fun f hl hg hc ho hnL hrm hre hct hex hq => ?_)
  subst hl
  subst hg
  unfold f_X0_table at hf
  refine j_aload_n (pc := 0) hc dX0_table_0 0 rfl rfl ?_
  refine j_iload_n (pc := 1) hc dX0_table_1 1 rfl rfl ?_
  obtain ⟨u1, eu1, hf1⟩ := ob_i hf
  clear hf
  obtain ⟨q3, T2, eq3, hf2⟩ := ob_c hf1
  clear hf1
  refine j_callV (pc := 2) (As := [vi x1]) (rest := []) (st2 := [vr q3]) hc ho cw_X0_234 (c_X0_table_2 eq3) (Rc.of (g_cls_ok eu1) (by decide) (by decide) ci_X0) hrm ⟨by decide, by decide⟩ rfl (Nat.le_of_ble_eq_true rfl) dX0_table_2 rfl rfl ?_
  refine j_astore_n (pc := 5) (L' := [(3, vr q3), (0, vr (some a0)), (1, vi x1), (2, vi x2)]) hc dX0_table_5 rfl hnL (by decide) rfl ?_
  refine j_aload_n (pc := 6) hc dX0_table_6 0 rfl rfl ?_
  refine j_ifnonnull (pc := 7) hc dX0_table_7 (tgt := 12) rfl (fun a4 hh => ?_) (fun hh => ?_)
  · subst hh
    refine j_iload_n (pc := 12) hc dX0_table_12 3 rfl rfl ?_
    by_cases hh0 : x2 = (0)
    · have hf3 := (if_pos hh0).symm.trans hf2
      clear hf2
      refine j_tsw (pc := 13) (k := (0)) (tgt := 68) hc dX0_table_13 hh0 (by decide) (by decide) rfl rfl ?_
      refine j_aload_n (pc := 68) hc dX0_table_68 0 rfl rfl ?_
      obtain ⟨v5, ev5, hf4⟩ := ob_i hf3
      clear hf3
      refine j_getI (pc := 69) hc ho fa_X0_237_4 dX0_table_69 ev5 ?_
      cases hf4
      exact j_iret (pc := 72) hc hq hre rfl dX0_table_72
    · have hf5 := (if_neg hh0).symm.trans hf2
      clear hf2
      by_cases hh1 : x2 = (1)
      · have hf6 := (if_pos hh1).symm.trans hf5
        clear hf5
        refine j_tsw (pc := 13) (k := (1)) (tgt := 73) hc dX0_table_13 hh1 (by decide) (by decide) rfl rfl ?_
        refine j_aload_n (pc := 73) hc dX0_table_73 0 rfl rfl ?_
        obtain ⟨q6, eq6, hf7⟩ := ob_i hf6
        clear hf6
        refine j_getR (pc := 74) hc ho fa_X0_103_4 dX0_table_74 eq6 ?_
        obtain ⟨a7, ea7, hf8⟩ := ob_i hf7
        clear hf7
        subst ea7
        obtain ⟨u8, eu8, hf9⟩ := ob_i hf8
        clear hf8
        obtain ⟨v10, T9, ev10, hf10⟩ := ob_c hf9
        clear hf9
        refine j_callV (pc := 77) (As := []) (rest := []) (st2 := [vi v10]) hc ho cw_X0_107 (c_J5_size ev10) (Rc.of (g_cls_ok eu8) (by decide) (by decide) ci_J5) hrm ⟨by decide, by decide⟩ rfl (Nat.le_of_ble_eq_true rfl) dX0_table_77 rfl rfl ?_
        cases hf10
        exact j_iret (pc := 80) hc hq hre rfl dX0_table_80
      · have hf11 := (if_neg hh1).symm.trans hf5
        clear hf5
        by_cases hh2 : x2 = (2)
        · have hf12 := (if_pos hh2).symm.trans hf11
          clear hf11
          refine j_tsw (pc := 13) (k := (2)) (tgt := 81) hc dX0_table_13 hh2 (by decide) (by decide) rfl rfl ?_
          refine j_aload_n (pc := 81) hc dX0_table_81 0 rfl rfl ?_
          obtain ⟨v11, ev11, hf13⟩ := ob_i hf12
          clear hf12
          refine j_getI (pc := 82) hc ho fa_X0_131_4 dX0_table_82 ev11 ?_
          cases hf13
          exact j_iret (pc := 85) hc hq hre rfl dX0_table_85
        · have hf14 := (if_neg hh2).symm.trans hf11
          clear hf11
          by_cases hh3 : x2 = (3)
          · have hf15 := (if_pos hh3).symm.trans hf14
            clear hf14
            refine j_tsw (pc := 13) (k := (3)) (tgt := 86) hc dX0_table_13 hh3 (by decide) (by decide) rfl rfl ?_
            refine j_loc (L' := [(0, vr (some a0)), (2, vi x2), (3, vr (some a4))]) [1, 3, 0] rfl ?_
            exact w_X0_table_n86 hc ho hnL hrm hre hct hq hf15
          · have hf16 := (if_neg hh3).symm.trans hf14
            clear hf14
            by_cases hh4 : x2 = (4)
            · have hf17 := (if_pos hh4).symm.trans hf16
              clear hf16
              refine j_tsw (pc := 13) (k := (4)) (tgt := 86) hc dX0_table_13 hh4 (by decide) (by decide) rfl rfl ?_
              refine j_loc (L' := [(0, vr (some a0)), (2, vi x2), (3, vr (some a4))]) [1, 3, 0] rfl ?_
              exact w_X0_table_n86 hc ho hnL hrm hre hct hq hf17
            · have hf18 := (if_neg hh4).symm.trans hf16
              clear hf16
              by_cases hh5 : x2 = (5)
              · have hf19 := (if_pos hh5).symm.trans hf18
                clear hf18
                refine j_tsw (pc := 13) (k := (5)) (tgt := 86) hc dX0_table_13 hh5 (by decide) (by decide) rfl rfl ?_
                refine j_loc (L' := [(0, vr (some a0)), (2, vi x2), (3, vr (some a4))]) [1, 3, 0] rfl ?_
                exact w_X0_table_n86 hc ho hnL hrm hre hct hq hf19
              · have hf20 := (if_neg hh5).symm.trans hf18
                clear hf18
                by_cases hh6 : x2 = (6)
                · have hf21 := (if_pos hh6).symm.trans hf20
                  clear hf20
                  refine j_tsw (pc := 13) (k := (6)) (tgt := 109) hc dX0_table_13 hh6 (by decide) (by decide) rfl rfl ?_
                  refine j_aload_n (pc := 109) hc dX0_table_109 1 rfl rfl ?_
                  refine j_iload_n (pc := 110) hc dX0_table_110 2 rfl rfl ?_
                  refine j_iconst (pc := 111) (v := (0)) hc dX0_table_111 rfl ?_
                  obtain ⟨u12, eu12, hf22⟩ := ob_i hf21
                  clear hf21
                  obtain ⟨v14, T13, ev14, hf23⟩ := ob_c hf22
                  clear hf22
                  refine j_callV (pc := 112) (As := [vi x1, vi (0)]) (rest := []) (st2 := [vi v14]) hc ho cw_X0_239 (c_X0_age 40 ev14) (Rc.of (g_cls_ok eu12) (by decide) (by decide) ci_X0) hrm ⟨by decide, by decide⟩ rfl (Nat.le_of_ble_eq_true rfl) dX0_table_112 rfl rfl ?_
                  cases hf23
                  exact j_iret (pc := 115) hc hq hre rfl dX0_table_115
                · have hf24 := (if_neg hh6).symm.trans hf20
                  clear hf20
                  by_cases hh7 : x2 = (7)
                  · have hf25 := (if_pos hh7).symm.trans hf24
                    clear hf24
                    refine j_tsw (pc := 13) (k := (7)) (tgt := 116) hc dX0_table_13 hh7 (by decide) (by decide) rfl rfl ?_
                    refine j_aload_n (pc := 116) hc dX0_table_116 1 rfl rfl ?_
                    refine j_iload_n (pc := 117) hc dX0_table_117 2 rfl rfl ?_
                    refine j_iconst (pc := 118) (v := (1)) hc dX0_table_118 rfl ?_
                    obtain ⟨u15, eu15, hf26⟩ := ob_i hf25
                    clear hf25
                    obtain ⟨v17, T16, ev17, hf27⟩ := ob_c hf26
                    clear hf26
                    refine j_callV (pc := 119) (As := [vi x1, vi (1)]) (rest := []) (st2 := [vi v17]) hc ho cw_X0_239 (c_X0_age 40 ev17) (Rc.of (g_cls_ok eu15) (by decide) (by decide) ci_X0) hrm ⟨by decide, by decide⟩ rfl (Nat.le_of_ble_eq_true rfl) dX0_table_119 rfl rfl ?_
                    cases hf27
                    exact j_iret (pc := 122) hc hq hre rfl dX0_table_122
                  · have hf28 := (if_neg hh7).symm.trans hf24
                    clear hf24
                    by_cases hh8 : x2 = (8)
                    · have hf29 := (if_pos hh8).symm.trans hf28
                      clear hf28
                      refine j_tsw (pc := 13) (k := (8)) (tgt := 123) hc dX0_table_13 hh8 (by decide) (by decide) rfl rfl ?_
                      refine j_aload_n (pc := 123) hc dX0_table_123 1 rfl rfl ?_
                      refine j_iload_n (pc := 124) hc dX0_table_124 2 rfl rfl ?_
                      obtain ⟨u18, eu18, hf30⟩ := ob_i hf29
                      clear hf29
                      obtain ⟨v20, T19, ev20, hf31⟩ := ob_c hf30
                      clear hf30
                      refine j_callV (pc := 125) (As := [vi x1]) (rest := []) (st2 := [vi v20]) hc ho cw_X0_243 (c_X0_owner ev20) (Rc.of (g_cls_ok eu18) (by decide) (by decide) ci_X0) hrm ⟨by decide, by decide⟩ rfl (Nat.le_of_ble_eq_true rfl) dX0_table_125 rfl rfl ?_
                      cases hf31
                      exact j_iret (pc := 128) hc hq hre rfl dX0_table_128
                    · have hf32 := (if_neg hh8).symm.trans hf28
                      clear hf28
                      by_cases hh9 : x2 = (9)
                      · have hf33 := (if_pos hh9).symm.trans hf32
                        clear hf32
                        refine j_tsw (pc := 13) (k := (9)) (tgt := 129) hc dX0_table_13 hh9 (by decide) (by decide) rfl rfl ?_
                        refine j_aload_n (pc := 129) hc dX0_table_129 0 rfl rfl ?_
                        obtain ⟨v21, ev21, hf34⟩ := ob_i hf33
                        clear hf33
                        refine j_getI (pc := 130) hc ho fa_X0_247_4 dX0_table_130 ev21 ?_
                        cases hf34
                        exact j_iret (pc := 133) hc hq hre rfl dX0_table_133
                      · have hf35 := (if_neg hh9).symm.trans hf32
                        clear hf32
                        refine j_tswD (pc := 13) (tgt := 134) hc dX0_table_13 (by have h0 : ¬ x2.toInt = 0 := lv_neT hh0 rfl; have h1 : ¬ x2.toInt = 1 := lv_neT hh1 rfl; have h2 : ¬ x2.toInt = 2 := lv_neT hh2 rfl; have h3 : ¬ x2.toInt = 3 := lv_neT hh3 rfl; have h4 : ¬ x2.toInt = 4 := lv_neT hh4 rfl; have h5 : ¬ x2.toInt = 5 := lv_neT hh5 rfl; have h6 : ¬ x2.toInt = 6 := lv_neT hh6 rfl; have h7 : ¬ x2.toInt = 7 := lv_neT hh7 rfl; have h8 : ¬ x2.toInt = 8 := lv_neT hh8 rfl; have h9 : ¬ x2.toInt = 9 := lv_neT hh9 rfl; omega) rfl ?_
                        refine j_iconst (pc := 134) (v := (-1)) hc dX0_table_134 rfl ?_
                        cases hf35
                        exact j_iret (pc := 135) hc hq hre rfl dX0_table_135
  · subst hh
    refine j_iconst (pc := 10) (v := (-1)) hc dX0_table_10 rfl ?_
    cases hf2
    exact j_iret (pc := 11) hc hq hre rfl dX0_table_11
def f_X0_isColumn (a0 : Nat) (x1 : Int32) (x2 : Int32) (S : HS) : Option (Int32 × HS) :=
  (g_cls S 1 a0).bind fun u1 =>
  o_bd (f_X0_table_2 a0 x1 S) fun q3 T2 =>
  o_case q3 (
    some ((0), T2)
  ) (fun a4 =>
    if x2 < 0 then
      some ((0), T2)
    else
      (g_fR T2 1 1 a0).bind fun q5 =>
      (q5).bind fun a6 =>
      (g_aR T2 36 a6 x1).bind fun q7 =>
      (q7).bind fun a8 =>
      (g_fR T2 4 100 a8).bind fun q9 =>
      (q9).bind fun a10 =>
      (g_cls T2 12 a10).bind fun u11 =>
      o_bd (f_J5_size a10 T2) fun v13 T12 =>
      if v13 ≤ x2 then
        some ((0), T12)
      else
        some ((1), T12)
  )
set_option maxRecDepth 100000 in
set_option maxHeartbeats 2000000 in
theorem c_X0_isColumn {l : Launch} {g : PG} {mo : MO} {a0 : Nat} {x1 : Int32} {x2 : Int32} {r : Int32} {S S1 : HS} (hf : f_X0_isColumn a0 x1 x2 S = some (r, S1)) : (h_nx S ≤ h_nx S1 ∧ h_sl S ≤ h_sl S1) ∧ Ct l g yX0_isColumn (ws_ yX0_isColumn cX0_isColumn 3 (some (.boolean))) 2 81 S mo [vr (some a0), vi x1, vi x2] (some (vi r)) S1 mo := by
  refine met_of false (by decide) (fun h => by first | rfl | cases h) rfl (Nat.le_of_ble_eq_true rfl) (fun f hl hg hc ho hnL hrm hre hct hex hq => ?_)
  subst hl
  subst hg
  unfold f_X0_isColumn at hf
  refine j_aload_n (pc := 0) hc dX0_isColumn_0 0 rfl rfl ?_
  refine j_iload_n (pc := 1) hc dX0_isColumn_1 1 rfl rfl ?_
  obtain ⟨u1, eu1, hf1⟩ := ob_i hf
  clear hf
  obtain ⟨q3, T2, eq3, hf2⟩ := ob_c hf1
  clear hf1
  refine j_callV (pc := 2) (As := [vi x1]) (rest := []) (st2 := [vr q3]) hc ho cw_X0_234 (c_X0_table_2 eq3) (Rc.of (g_cls_ok eu1) (by decide) (by decide) ci_X0) hrm ⟨by decide, by decide⟩ rfl (Nat.le_of_ble_eq_true rfl) dX0_isColumn_2 rfl rfl ?_
  refine j_ifnull (pc := 5) hc dX0_isColumn_5 (tgt := 32) rfl (fun hh => ?_) (fun a4 hh => ?_)
  · subst hh
    refine j_iconst (pc := 32) (v := (0)) hc dX0_isColumn_32 rfl ?_
    cases hf2
    exact j_iret (pc := 33) hc hq hre rfl dX0_isColumn_33
  · subst hh
    refine j_iload_n (pc := 8) hc dX0_isColumn_8 2 rfl rfl ?_
    refine j_if_lt (pc := 9) hc dX0_isColumn_9 (tgt := 32) rfl (fun hh => ?_) (fun hh => ?_)
    · have hf3 := (if_pos hh).symm.trans hf2
      clear hf2
      refine j_iconst (pc := 32) (v := (0)) hc dX0_isColumn_32 rfl ?_
      cases hf3
      exact j_iret (pc := 33) hc hq hre rfl dX0_isColumn_33
    · have hf4 := (if_neg hh).symm.trans hf2
      clear hf2
      refine j_iload_n (pc := 12) hc dX0_isColumn_12 2 rfl rfl ?_
      refine j_aload_n (pc := 13) hc dX0_isColumn_13 0 rfl rfl ?_
      obtain ⟨q5, eq5, hf5⟩ := ob_i hf4
      clear hf4
      refine j_getR (pc := 14) hc ho fa_X0_35_1 dX0_isColumn_14 eq5 ?_
      refine j_iload_n (pc := 17) hc dX0_isColumn_17 1 rfl rfl ?_
      obtain ⟨a6, ea6, hf6⟩ := ob_i hf5
      clear hf5
      subst ea6
      obtain ⟨q7, eq7, hf7⟩ := ob_i hf6
      clear hf6
      refine j_aald (pc := 18) hc dX0_isColumn_18 (by decide) eq7 ?_
      obtain ⟨a8, ea8, hf8⟩ := ob_i hf7
      clear hf7
      subst ea8
      obtain ⟨q9, eq9, hf9⟩ := ob_i hf8
      clear hf8
      refine j_getR (pc := 19) hc ho fa_X0_103_4 dX0_isColumn_19 eq9 ?_
      obtain ⟨a10, ea10, hf10⟩ := ob_i hf9
      clear hf9
      subst ea10
      obtain ⟨u11, eu11, hf11⟩ := ob_i hf10
      clear hf10
      obtain ⟨v13, T12, ev13, hf12⟩ := ob_c hf11
      clear hf11
      refine j_callV (pc := 22) (As := []) (rest := [vi x2]) (st2 := [vi v13, vi x2]) hc ho cw_X0_107 (c_J5_size ev13) (Rc.of (g_cls_ok eu11) (by decide) (by decide) ci_J5) hrm ⟨by decide, by decide⟩ rfl (Nat.le_of_ble_eq_true rfl) dX0_isColumn_22 rfl rfl ?_
      refine j_icmp_ge (pc := 25) hc dX0_isColumn_25 (tgt := 32) rfl (fun hh => ?_) (fun hh => ?_)
      · have hf13 := (if_pos hh).symm.trans hf12
        clear hf12
        refine j_iconst (pc := 32) (v := (0)) hc dX0_isColumn_32 rfl ?_
        cases hf13
        exact j_iret (pc := 33) hc hq hre rfl dX0_isColumn_33
      · have hf14 := (if_neg hh).symm.trans hf12
        clear hf12
        refine j_iconst (pc := 28) (v := (1)) hc dX0_isColumn_28 rfl ?_
        refine j_goto (pc := 29) hc dX0_isColumn_29 (tgt := 33) rfl ?_
        cases hf14
        exact j_iret (pc := 33) hc hq hre rfl dX0_isColumn_33
theorem cw_X0_250 : CV "TableCatalog" 250 RX0 yX0_isColumn cX0_isColumn 3 (some (.boolean)) 2 := ⟨⟨q1038, q1040, qs30, q81, q1041⟩, rfl, by decide, by decide, by decide +kernel⟩
def f_X0_type (a0 : Nat) (x1 : Int32) (x2 : Int32) (S : HS) : Option (Int32 × HS) :=
  (g_cls S 1 a0).bind fun u1 =>
  o_bd (f_X0_isColumn a0 x1 x2 S) fun v3 T2 =>
  if v3 = 0 then
    some ((-1), T2)
  else
    (g_fR T2 1 1 a0).bind fun q4 =>
    (q4).bind fun a5 =>
    (g_aR T2 36 a5 x1).bind fun q6 =>
    (q6).bind fun a7 =>
    (g_fR T2 4 102 a7).bind fun q8 =>
    (q8).bind fun a9 =>
    (g_aI T2 33 a9 x2).bind fun v10 =>
    some (v10, T2)
set_option maxRecDepth 100000 in
set_option maxHeartbeats 2000000 in
theorem c_X0_type {l : Launch} {g : PG} {mo : MO} {a0 : Nat} {x1 : Int32} {x2 : Int32} {r : Int32} {S S1 : HS} (hf : f_X0_type a0 x1 x2 S = some (r, S1)) : (h_nx S ≤ h_nx S1 ∧ h_sl S ≤ h_sl S1) ∧ Ct l g yX0_type (ws_ yX0_type cX0_type 3 (some (.int))) 3 103 S mo [vr (some a0), vi x1, vi x2] (some (vi r)) S1 mo := by
  refine met_of false (by decide) (fun h => by first | rfl | cases h) rfl (Nat.le_of_ble_eq_true rfl) (fun f hl hg hc ho hnL hrm hre hct hex hq => ?_)
  subst hl
  subst hg
  unfold f_X0_type at hf
  refine j_aload_n (pc := 0) hc dX0_type_0 0 rfl rfl ?_
  refine j_iload_n (pc := 1) hc dX0_type_1 1 rfl rfl ?_
  refine j_iload_n (pc := 2) hc dX0_type_2 2 rfl rfl ?_
  obtain ⟨u1, eu1, hf1⟩ := ob_i hf
  clear hf
  obtain ⟨v3, T2, ev3, hf2⟩ := ob_c hf1
  clear hf1
  refine j_callV (pc := 3) (As := [vi x1, vi x2]) (rest := []) (st2 := [vi v3]) hc ho cw_X0_250 (c_X0_isColumn ev3) (Rc.of (g_cls_ok eu1) (by decide) (by decide) ci_X0) hrm ⟨by decide, by decide⟩ rfl (Nat.le_of_ble_eq_true rfl) dX0_type_3 rfl rfl ?_
  refine j_if_eq (pc := 6) hc dX0_type_6 (tgt := 23) rfl (fun hh => ?_) (fun hh => ?_)
  · have hf3 := (if_pos hh).symm.trans hf2
    clear hf2
    refine j_iconst (pc := 23) (v := (-1)) hc dX0_type_23 rfl ?_
    cases hf3
    exact j_iret (pc := 24) hc hq hre rfl dX0_type_24
  · have hf4 := (if_neg hh).symm.trans hf2
    clear hf2
    refine j_aload_n (pc := 9) hc dX0_type_9 0 rfl rfl ?_
    obtain ⟨q4, eq4, hf5⟩ := ob_i hf4
    clear hf4
    refine j_getR (pc := 10) hc ho fa_X0_35_1 dX0_type_10 eq4 ?_
    refine j_iload_n (pc := 13) hc dX0_type_13 1 rfl rfl ?_
    obtain ⟨a5, ea5, hf6⟩ := ob_i hf5
    clear hf5
    subst ea5
    obtain ⟨q6, eq6, hf7⟩ := ob_i hf6
    clear hf6
    refine j_aald (pc := 14) hc dX0_type_14 (by decide) eq6 ?_
    obtain ⟨a7, ea7, hf8⟩ := ob_i hf7
    clear hf7
    subst ea7
    obtain ⟨q8, eq8, hf9⟩ := ob_i hf8
    clear hf8
    refine j_getR (pc := 15) hc ho fa_X0_149_4 dX0_type_15 eq8 ?_
    refine j_iload_n (pc := 18) hc dX0_type_18 2 rfl rfl ?_
    obtain ⟨a9, ea9, hf10⟩ := ob_i hf9
    clear hf9
    subst ea9
    obtain ⟨v10, ev10, hf11⟩ := ob_i hf10
    clear hf10
    refine j_cald (pc := 19) hc dX0_type_19 ev10 ?_
    refine j_goto (pc := 20) hc dX0_type_20 (tgt := 24) rfl ?_
    cases hf11
    exact j_iret (pc := 24) hc hq hre rfl dX0_type_24
theorem fa_X0_47_1 : FA "TableCatalog" 47 1 2 10 (.array .int) 2 := ⟨RX0, TX0, 15, tyX0, 9, "TableCatalog", CI_X0, by decide, rfl, rfl, by decide +kernel, Or.inl ⟨q292, fun _ => ⟨rfl, rfl⟩⟩, fun h => (by cases h), Or.inl rfl⟩
theorem fa_X0_254_1 : FA "TableCatalog" 254 1 0 5 (.int) 1 := ⟨RX0, TX0, 15, tyX0, 4, "TableCatalog", CI_X0, by decide, rfl, rfl, by decide +kernel, Or.inl ⟨q287, fun h => (by cases h)⟩, fun _ => rfl, Or.inl rfl⟩
def f_X0_tells_n41 (k_7 : Option Nat → Int32 → Int32 → HS → Option (Int32 × HS)) (a0 : Nat) (r1 : Option Nat) (x2 : Int32) (x3 : Int32) (S : HS) : Option (Int32 × HS) :=
  (g_fR S 1 10 a0).bind fun q1 =>
  (g_fI S 1 5 a0).bind fun v2 =>
  (q1).bind fun a3 =>
  (p_aI S 31 a3 v2 x3).bind fun T4 =>
  (g_fI T4 1 5 a0).bind fun v5 =>
  (p_fI T4 1 5 a0 (v5 + (1))).bind fun T6 =>
  k_7 r1 x2 (x3 + (1)) T6
def f_X0_tells_n7 (a0 : Nat) : Nat → Option Nat → Int32 → Int32 → HS → Option (Int32 × HS)
  | 0, _, _, _, _ => none
  | n + 1, r1, x2, x3, S =>
    if (128) ≤ x3 then
      (g_fI S 1 5 a0).bind fun v1 =>
      some (v1, S)
    else
      (r1).bind fun a2 =>
      (g_aI S 34 a2 x3).bind fun v3 =>
      if v3 = 0 then
        (fun r1 x2 x3 S => f_X0_tells_n7 a0 n r1 x2 x3 S) (some a2) x2 (x3 + (1)) S
      else
        if x2 = 0 then
          f_X0_tells_n41 (fun r1 x2 x3 S => f_X0_tells_n7 a0 n r1 x2 x3 S) a0 (some a2) x2 x3 S
        else
          (g_fR S 1 1 a0).bind fun q4 =>
          (q4).bind fun a5 =>
          (g_aR S 36 a5 (x3 >>> ((3) &&& 31))).bind fun q6 =>
          (q6).bind fun a7 =>
          (g_fI S 4 99 a7).bind fun v8 =>
          if v8 = 0 then
            f_X0_tells_n41 (fun r1 x2 x3 S => f_X0_tells_n7 a0 n r1 x2 x3 S) a0 (some a2) x2 x3 S
          else
            (fun r1 x2 x3 S => f_X0_tells_n7 a0 n r1 x2 x3 S) (some a2) x2 (x3 + (1)) S
def f_X0_tells (a0 : Nat) (r1 : Option Nat) (x2 : Int32) (S : HS) : Option (Int32 × HS) :=
  (p_fI S 1 5 a0 (0)).bind fun T1 =>
  f_X0_tells_n7 a0 fu_ r1 x2 (0) T1
set_option maxRecDepth 100000 in
set_option maxHeartbeats 2000000 in
theorem w_X0_tells_n41 {f : CfT} {mo : MO} {a0 : Nat} {r : Int32} {S1 : HS} (hc : cf_cc f = cX0_tells) (ho : cf_ow f = "TableCatalog") (hnL : cf_nL f = 4) (hrm : cf_rm f = (1, 60)) (hre : cf_re f = (some (.int))) (hct : cf_ct f = false) (hq : Qok f (some (vi r)) S1 mo) {k_7 : Option Nat → Int32 → Int32 → HS → Option (Int32 × HS)} (hk_7 : ∀ (r1 : Option Nat) (x2 : Int32) (x3 : Int32) (S : HS), k_7 r1 x2 x3 S = some (r, S1) → JJ f S mo 7 [(0, vr (some a0)), (1, vr r1), (2, vi x2), (3, vi x3)] []) {r1 : Option Nat} {x2 : Int32} {x3 : Int32} {S : HS} (hf : f_X0_tells_n41 k_7 a0 r1 x2 x3 S = some (r, S1)) : JJ f S mo 41 [(0, vr (some a0)), (1, vr r1), (2, vi x2), (3, vi x3)] [] := by
  unfold f_X0_tells_n41 at hf
  refine j_aload_n (pc := 41) hc dX0_tells_41 0 rfl rfl ?_
  obtain ⟨q1, eq1, hf1⟩ := ob_i hf
  clear hf
  refine j_getR (pc := 42) hc ho fa_X0_47_1 dX0_tells_42 eq1 ?_
  refine j_aload_n (pc := 45) hc dX0_tells_45 0 rfl rfl ?_
  obtain ⟨v2, ev2, hf2⟩ := ob_i hf1
  clear hf1
  refine j_getI (pc := 46) hc ho fa_X0_254_1 dX0_tells_46 ev2 ?_
  refine j_iload_n (pc := 49) hc dX0_tells_49 3 rfl rfl ?_
  obtain ⟨a3, ea3, hf3⟩ := ob_i hf2
  clear hf2
  subst ea3
  obtain ⟨T4, eT4, hf4⟩ := ob_i hf3
  clear hf3
  refine j_iast (pc := 50) hc dX0_tells_50 eT4 ?_
  refine j_aload_n (pc := 51) hc dX0_tells_51 0 rfl rfl ?_
  refine j_dup (pc := 52) hc dX0_tells_52 rfl ?_
  obtain ⟨v5, ev5, hf5⟩ := ob_i hf4
  clear hf4
  refine j_getI (pc := 53) hc ho fa_X0_254_1 dX0_tells_53 ev5 ?_
  refine j_iconst (pc := 56) (v := (1)) hc dX0_tells_56 rfl ?_
  refine j_iadd (pc := 57) hc dX0_tells_57 ?_
  obtain ⟨T6, eT6, hf6⟩ := ob_i hf5
  clear hf5
  refine j_putI (pc := 58) hc ho fa_X0_254_1 (Or.inl rfl) dX0_tells_58 eT6 ?_
  refine j_iinc (pc := 61) (L' := [(3, vi (x3 + (1))), (0, vr (some a0)), (1, vr r1), (2, vi x2)]) (v := (x3 + (1))) hc dX0_tells_61 3 rfl rfl hnL (by decide) rfl ?_
  refine j_goto (pc := 64) hc dX0_tells_64 (tgt := 7) rfl ?_
  refine j_loc (L' := [(0, vr (some a0)), (1, vr r1), (2, vi x2), (3, vi (x3 + (1)))]) [1, 2, 3, 0] rfl ?_
  exact hk_7 _ _ _ _ hf6
set_option maxRecDepth 100000 in
set_option maxHeartbeats 2000000 in
theorem w_X0_tells_n7 {f : CfT} {mo : MO} {a0 : Nat} {r : Int32} {S1 : HS} (hc : cf_cc f = cX0_tells) (ho : cf_ow f = "TableCatalog") (hnL : cf_nL f = 4) (hrm : cf_rm f = (1, 60)) (hre : cf_re f = (some (.int))) (hct : cf_ct f = false) (hq : Qok f (some (vi r)) S1 mo) : ∀ (n : Nat) (r1 : Option Nat) (x2 : Int32) (x3 : Int32) (S : HS), f_X0_tells_n7 a0 n r1 x2 x3 S = some (r, S1) → JJ f S mo 7 [(0, vr (some a0)), (1, vr r1), (2, vi x2), (3, vi x3)] [] := by
  intro n
  induction n with
  | zero =>
    intro r1 x2 x3 S hf
    have hf : (none : Option (Int32 × HS)) = some (r, S1) := hf
    cases hf
  | succ n ih =>
    intro r1 x2 x3 S hf
    unfold f_X0_tells_n7 at hf
    have hk_7 := ih
    refine j_iload_n (pc := 7) hc dX0_tells_7 3 rfl rfl ?_
    refine j_sipush (pc := 8) (v := (128)) hc dX0_tells_8 rfl ?_
    refine j_icmp_ge (pc := 11) hc dX0_tells_11 (tgt := 67) rfl (fun hh => ?_) (fun hh => ?_)
    · have hf1 := (if_pos hh).symm.trans hf
      clear hf
      refine j_aload_n (pc := 67) hc dX0_tells_67 0 rfl rfl ?_
      obtain ⟨v1, ev1, hf2⟩ := ob_i hf1
      clear hf1
      refine j_getI (pc := 68) hc ho fa_X0_254_1 dX0_tells_68 ev1 ?_
      cases hf2
      exact j_iret (pc := 71) hc hq hre rfl dX0_tells_71
    · have hf3 := (if_neg hh).symm.trans hf
      clear hf
      refine j_aload_n (pc := 14) hc dX0_tells_14 1 rfl rfl ?_
      refine j_iload_n (pc := 15) hc dX0_tells_15 3 rfl rfl ?_
      obtain ⟨a2, ea2, hf4⟩ := ob_i hf3
      clear hf3
      subst ea2
      obtain ⟨v3, ev3, hf5⟩ := ob_i hf4
      clear hf4
      refine j_zald (pc := 16) hc dX0_tells_16 ev3 ?_
      refine j_if_eq (pc := 17) hc dX0_tells_17 (tgt := 61) rfl (fun hh => ?_) (fun hh => ?_)
      · have hf6 := (if_pos hh).symm.trans hf5
        clear hf5
        refine j_iinc (pc := 61) (L' := [(3, vi (x3 + (1))), (0, vr (some a0)), (1, vr (some a2)), (2, vi x2)]) (v := (x3 + (1))) hc dX0_tells_61 3 rfl rfl hnL (by decide) rfl ?_
        refine j_goto (pc := 64) hc dX0_tells_64 (tgt := 7) rfl ?_
        refine j_loc (L' := [(0, vr (some a0)), (1, vr (some a2)), (2, vi x2), (3, vi (x3 + (1)))]) [1, 2, 3, 0] rfl ?_
        exact hk_7 _ _ _ _ hf6
      · have hf7 := (if_neg hh).symm.trans hf5
        clear hf5
        refine j_iload_n (pc := 20) hc dX0_tells_20 2 rfl rfl ?_
        refine j_if_eq (pc := 21) hc dX0_tells_21 (tgt := 41) rfl (fun hh => ?_) (fun hh => ?_)
        · have hf8 := (if_pos hh).symm.trans hf7
          clear hf7
          exact w_X0_tells_n41 hc ho hnL hrm hre hct hq hk_7 hf8
        · have hf9 := (if_neg hh).symm.trans hf7
          clear hf7
          refine j_aload_n (pc := 24) hc dX0_tells_24 0 rfl rfl ?_
          obtain ⟨q4, eq4, hf10⟩ := ob_i hf9
          clear hf9
          refine j_getR (pc := 25) hc ho fa_X0_35_1 dX0_tells_25 eq4 ?_
          refine j_iload_n (pc := 28) hc dX0_tells_28 3 rfl rfl ?_
          refine j_iconst (pc := 29) (v := (3)) hc dX0_tells_29 rfl ?_
          refine j_ishr (pc := 30) hc dX0_tells_30 ?_
          obtain ⟨a5, ea5, hf11⟩ := ob_i hf10
          clear hf10
          subst ea5
          obtain ⟨q6, eq6, hf12⟩ := ob_i hf11
          clear hf11
          refine j_aald (pc := 31) hc dX0_tells_31 (by decide) eq6 ?_
          obtain ⟨a7, ea7, hf13⟩ := ob_i hf12
          clear hf12
          subst ea7
          obtain ⟨v8, ev8, hf14⟩ := ob_i hf13
          clear hf13
          refine j_getI (pc := 32) hc ho fa_X0_237_4 dX0_tells_32 ev8 ?_
          refine j_if_eq (pc := 35) hc dX0_tells_35 (tgt := 41) rfl (fun hh => ?_) (fun hh => ?_)
          · have hf15 := (if_pos hh).symm.trans hf14
            clear hf14
            exact w_X0_tells_n41 hc ho hnL hrm hre hct hq hk_7 hf15
          · have hf16 := (if_neg hh).symm.trans hf14
            clear hf14
            refine j_goto (pc := 38) hc dX0_tells_38 (tgt := 61) rfl ?_
            refine j_iinc (pc := 61) (L' := [(3, vi (x3 + (1))), (0, vr (some a0)), (1, vr (some a2)), (2, vi x2)]) (v := (x3 + (1))) hc dX0_tells_61 3 rfl rfl hnL (by decide) rfl ?_
            refine j_goto (pc := 64) hc dX0_tells_64 (tgt := 7) rfl ?_
            refine j_loc (L' := [(0, vr (some a0)), (1, vr (some a2)), (2, vi x2), (3, vi (x3 + (1)))]) [1, 2, 3, 0] rfl ?_
            exact hk_7 _ _ _ _ hf16
set_option maxRecDepth 100000 in
set_option maxHeartbeats 2000000 in
theorem c_X0_tells {l : Launch} {g : PG} {mo : MO} {a0 : Nat} {r1 : Option Nat} {x2 : Int32} {r : Int32} {S S1 : HS} (hf : f_X0_tells a0 r1 x2 S = some (r, S1)) : (h_nx S ≤ h_nx S1 ∧ h_sl S ≤ h_sl S1) ∧ Ct l g yX0_tells (ws_ yX0_tells cX0_tells 4 (some (.int))) 1 60 S mo [vr (some a0), vr r1, vi x2] (some (vi r)) S1 mo := by
  refine met_of false (by decide) (fun h => by first | rfl | cases h) rfl (Nat.le_of_ble_eq_true rfl) (fun f hl hg hc ho hnL hrm hre hct hex hq => ?_)
  subst hl
  subst hg
  unfold f_X0_tells at hf
  refine j_aload_n (pc := 0) hc dX0_tells_0 0 rfl rfl ?_
  refine j_iconst (pc := 1) (v := (0)) hc dX0_tells_1 rfl ?_
  obtain ⟨T1, eT1, hf1⟩ := ob_i hf
  clear hf
  refine j_putI (pc := 2) hc ho fa_X0_254_1 (Or.inl rfl) dX0_tells_2 eT1 ?_
  refine j_iconst (pc := 5) (v := (0)) hc dX0_tells_5 rfl ?_
  refine j_istore_n (pc := 6) (L' := [(3, vi (0)), (0, vr (some a0)), (1, vr r1), (2, vi x2)]) hc dX0_tells_6 rfl hnL (by decide) rfl ?_
  refine j_loc (L' := [(0, vr (some a0)), (1, vr r1), (2, vi x2), (3, vi (0))]) [1, 2, 3, 0] rfl ?_
  exact w_X0_tells_n7 hc ho hnL hrm hre hct hq fu_ _ _ _ _ hf1
theorem cw_X0_257 : CV "TableCatalog" 257 RX5 yX5_uses cX5_uses 3 none 1 := ⟨⟨q1054, q1055, q1056, q100, q1057⟩, rfl, by decide, by decide, by decide +kernel⟩
def f_X0_uses (a0 : Nat) (x1 : Int32) (r2 : Option Nat) (S : HS) : Option HS :=
  (g_fR S 1 1 a0).bind fun q1 =>
  (q1).bind fun a2 =>
  (g_aR S 36 a2 (x1 >>> ((3) &&& 31))).bind fun q3 =>
  (q3).bind fun a4 =>
  (g_cls S 4 a4).bind fun u5 =>
  o_bd (f_X4_isMade a4 S) fun v7 T6 =>
  if v7 = 0 then
    some T6
  else
    (g_fR T6 4 101 a4).bind fun q8 =>
    (q8).bind fun a9 =>
    (g_cls T6 12 a9).bind fun u10 =>
    o_bd (f_J5_get a9 (x1 &&& (7)) T6) fun q12 T11 =>
    (g_cast T11 [5] q12).bind fun u13 =>
    (q12).bind fun a14 =>
    (g_cls T11 5 a14).bind fun u15 =>
    (f_X5_uses 40 a14 r2 T11).bind fun T16 =>
    some T16
set_option maxRecDepth 100000 in
set_option maxHeartbeats 2000000 in
theorem c_X0_uses {l : Launch} {g : PG} {mo : MO} {a0 : Nat} {x1 : Int32} {r2 : Option Nat} {S S1 : HS} (hf : f_X0_uses a0 x1 r2 S = some S1) : (h_nx S ≤ h_nx S1 ∧ h_sl S ≤ h_sl S1) ∧ Ct l g yX0_uses (ws_ yX0_uses cX0_uses 4 none) 161 4982 S mo [vr (some a0), vi x1, vr r2] none S1 mo := by
  refine met_of false (by decide) (fun h => by first | rfl | cases h) rfl (Nat.le_of_ble_eq_true rfl) (fun f hl hg hc ho hnL hrm hre hct hex hq => ?_)
  subst hl
  subst hg
  unfold f_X0_uses at hf
  refine j_aload_n (pc := 0) hc dX0_uses_0 0 rfl rfl ?_
  obtain ⟨q1, eq1, hf1⟩ := ob_i hf
  clear hf
  refine j_getR (pc := 1) hc ho fa_X0_35_1 dX0_uses_1 eq1 ?_
  refine j_iload_n (pc := 4) hc dX0_uses_4 1 rfl rfl ?_
  refine j_iconst (pc := 5) (v := (3)) hc dX0_uses_5 rfl ?_
  refine j_ishr (pc := 6) hc dX0_uses_6 ?_
  obtain ⟨a2, ea2, hf2⟩ := ob_i hf1
  clear hf1
  subst ea2
  obtain ⟨q3, eq3, hf3⟩ := ob_i hf2
  clear hf2
  refine j_aald (pc := 7) hc dX0_uses_7 (by decide) eq3 ?_
  refine j_astore_n (pc := 8) (L' := [(3, vr q3), (0, vr (some a0)), (1, vi x1), (2, vr r2)]) hc dX0_uses_8 rfl hnL (by decide) rfl ?_
  refine j_aload_n (pc := 9) hc dX0_uses_9 0 rfl rfl ?_
  obtain ⟨a4, ea4, hf4⟩ := ob_i hf3
  clear hf3
  subst ea4
  obtain ⟨u5, eu5, hf5⟩ := ob_i hf4
  clear hf4
  obtain ⟨v7, T6, ev7, hf6⟩ := ob_c hf5
  clear hf5
  refine j_callV (pc := 10) (As := []) (rest := []) (st2 := [vi v7]) hc ho cw_X0_142 (c_X4_isMade ev7) (Rc.of (g_cls_ok eu5) (by decide) (by decide) ci_X4) hrm ⟨by decide, by decide⟩ rfl (Nat.le_of_ble_eq_true rfl) dX0_uses_10 rfl rfl ?_
  refine j_if_eq (pc := 13) hc dX0_uses_13 (tgt := 34) rfl (fun hh => ?_) (fun hh => ?_)
  · have hf7 := (if_pos hh).symm.trans hf6
    clear hf6
    cases hf7
    exact j_vret (pc := 34) hc hq hre dX0_uses_34
  · have hf8 := (if_neg hh).symm.trans hf6
    clear hf6
    refine j_aload_n (pc := 16) hc dX0_uses_16 0 rfl rfl ?_
    obtain ⟨q8, eq8, hf9⟩ := ob_i hf8
    clear hf8
    refine j_getR (pc := 17) hc ho fa_X0_146_4 dX0_uses_17 eq8 ?_
    refine j_iload_n (pc := 20) hc dX0_uses_20 2 rfl rfl ?_
    refine j_bipush (pc := 21) (v := (7)) hc dX0_uses_21 rfl ?_
    refine j_iand (pc := 23) hc dX0_uses_23 ?_
    obtain ⟨a9, ea9, hf10⟩ := ob_i hf9
    clear hf9
    subst ea9
    obtain ⟨u10, eu10, hf11⟩ := ob_i hf10
    clear hf10
    obtain ⟨q12, T11, eq12, hf12⟩ := ob_c hf11
    clear hf11
    refine j_callV (pc := 24) (As := [vi (x1 &&& (7))]) (rest := []) (st2 := [vr q12]) hc ho cw_X0_112 (c_J5_get eq12) (Rc.of (g_cls_ok eu10) (by decide) (by decide) ci_J5) hrm ⟨by decide, by decide⟩ rfl (Nat.le_of_ble_eq_true rfl) dX0_uses_24 rfl rfl ?_
    obtain ⟨u13, eu13, hf13⟩ := ob_i hf12
    clear hf12
    refine j_ccast (pc := 27) hc ho fc_X0_152_5 dX0_uses_27 eu13 ?_
    refine j_aload_n (pc := 30) hc dX0_uses_30 3 rfl rfl ?_
    obtain ⟨a14, ea14, hf14⟩ := ob_i hf13
    clear hf13
    subst ea14
    obtain ⟨u15, eu15, hf15⟩ := ob_i hf14
    clear hf14
    obtain ⟨T16, eT16, hf16⟩ := ob_i hf15
    clear hf15
    refine j_callV (pc := 31) (As := [vr r2]) (rest := []) (st2 := []) hc ho cw_X0_257 (c_X5_uses 40 eT16) (Rc.of (g_cls_ok eu15) (by decide) (by decide) ci_X5) hrm ⟨by decide, by decide⟩ rfl (Nat.le_of_ble_eq_true rfl) dX0_uses_31 rfl rfl ?_
    cases hf16
    exact j_vret (pc := 34) hc hq hre dX0_uses_34
def f_X0_clear_n2 (a0 : Nat) : Nat → Option Nat → Int32 → HS → Option HS
  | 0, _, _, _ => none
  | n + 1, r1, x2, S =>
    if (128) ≤ x2 then
      some S
    else
      (r1).bind fun a1 =>
      (p_aI S 34 a1 x2 (vp_nar .boolean (0))).bind fun T2 =>
      (fun r1 x2 S => f_X0_clear_n2 a0 n r1 x2 S) (some a1) (x2 + (1)) T2
def f_X0_clear (a0 : Nat) (r1 : Option Nat) (S : HS) : Option HS :=
  f_X0_clear_n2 a0 fu_ r1 (0) S
set_option maxRecDepth 100000 in
set_option maxHeartbeats 2000000 in
theorem w_X0_clear_n2 {f : CfT} {mo : MO} {a0 : Nat} {S1 : HS} (hc : cf_cc f = cX0_clear) (ho : cf_ow f = "TableCatalog") (hnL : cf_nL f = 3) (hrm : cf_rm f = (1, 60)) (hre : cf_re f = none) (hct : cf_ct f = false) (hq : Qok f none S1 mo) : ∀ (n : Nat) (r1 : Option Nat) (x2 : Int32) (S : HS), f_X0_clear_n2 a0 n r1 x2 S = some S1 → JJ f S mo 2 [(0, vr (some a0)), (1, vr r1), (2, vi x2)] [] := by
  intro n
  induction n with
  | zero =>
    intro r1 x2 S hf
    have hf : (none : Option HS) = some S1 := hf
    cases hf
  | succ n ih =>
    intro r1 x2 S hf
    unfold f_X0_clear_n2 at hf
    have hk_2 := ih
    refine j_iload_n (pc := 2) hc dX0_clear_2 2 rfl rfl ?_
    refine j_sipush (pc := 3) (v := (128)) hc dX0_clear_3 rfl ?_
    refine j_icmp_ge (pc := 6) hc dX0_clear_6 (tgt := 19) rfl (fun hh => ?_) (fun hh => ?_)
    · have hf1 := (if_pos hh).symm.trans hf
      clear hf
      cases hf1
      exact j_vret (pc := 19) hc hq hre dX0_clear_19
    · have hf2 := (if_neg hh).symm.trans hf
      clear hf
      refine j_aload_n (pc := 9) hc dX0_clear_9 1 rfl rfl ?_
      refine j_iload_n (pc := 10) hc dX0_clear_10 2 rfl rfl ?_
      refine j_iconst (pc := 11) (v := (0)) hc dX0_clear_11 rfl ?_
      obtain ⟨a1, ea1, hf3⟩ := ob_i hf2
      clear hf2
      subst ea1
      obtain ⟨T2, eT2, hf4⟩ := ob_i hf3
      clear hf3
      refine j_zast (pc := 12) hc dX0_clear_12 eT2 ?_
      refine j_iinc (pc := 13) (L' := [(2, vi (x2 + (1))), (0, vr (some a0)), (1, vr (some a1))]) (v := (x2 + (1))) hc dX0_clear_13 2 rfl rfl hnL (by decide) rfl ?_
      refine j_goto (pc := 16) hc dX0_clear_16 (tgt := 2) rfl ?_
      refine j_loc (L' := [(0, vr (some a0)), (1, vr (some a1)), (2, vi (x2 + (1)))]) [1, 2, 0] rfl ?_
      exact hk_2 _ _ _ hf4
set_option maxRecDepth 100000 in
set_option maxHeartbeats 2000000 in
theorem c_X0_clear {l : Launch} {g : PG} {mo : MO} {a0 : Nat} {r1 : Option Nat} {S S1 : HS} (hf : f_X0_clear a0 r1 S = some S1) : (h_nx S ≤ h_nx S1 ∧ h_sl S ≤ h_sl S1) ∧ Ct l g yX0_clear (ws_ yX0_clear cX0_clear 3 none) 1 60 S mo [vr (some a0), vr r1] none S1 mo := by
  refine met_of false (by decide) (fun h => by first | rfl | cases h) rfl (Nat.le_of_ble_eq_true rfl) (fun f hl hg hc ho hnL hrm hre hct hex hq => ?_)
  subst hl
  subst hg
  unfold f_X0_clear at hf
  refine j_iconst (pc := 0) (v := (0)) hc dX0_clear_0 rfl ?_
  refine j_istore_n (pc := 1) (L' := [(2, vi (0)), (0, vr (some a0)), (1, vr r1)]) hc dX0_clear_1 rfl hnL (by decide) rfl ?_
  refine j_loc (L' := [(0, vr (some a0)), (1, vr r1), (2, vi (0))]) [1, 2, 0] rfl ?_
  exact w_X0_clear_n2 hc ho hnL hrm hre hct hq fu_ _ _ _ hf
theorem cw_X0_267 : CV "TableCatalog" 267 RX0 yX0_tells cX0_tells 4 (some (.int)) 2 := ⟨⟨q1070, q1072, qs33, q81, q1073⟩, rfl, by decide, by decide, by decide +kernel⟩
theorem fa_X0_65_1 : FA "TableCatalog" 65 1 2 13 (.array .boolean) 2 := ⟨RX0, TX0, 15, tyX0, 12, "TableCatalog", CI_X0, by decide, rfl, rfl, by decide +kernel, Or.inl ⟨q295, fun _ => ⟨rfl, rfl⟩⟩, fun h => (by cases h), Or.inl rfl⟩
theorem cw_X0_264 : CV "TableCatalog" 264 RX0 yX0_uses cX0_uses 4 none 2 := ⟨⟨q1050, q1052, qs32, q81, q1053⟩, rfl, by decide, by decide, by decide +kernel⟩
theorem cw_X0_261 : CV "TableCatalog" 261 RX0 yX0_clear cX0_clear 3 none 1 := ⟨⟨q1046, q1048, qs31, q81, q1049⟩, rfl, by decide, by decide, by decide +kernel⟩
def f_X0_from_n96 (a0 : Nat) (sr1 : Option Nat) (sx2 : Int32) (S : HS) : Option (Int32 × HS) :=
  (g_cls S 1 a0).bind fun u1 =>
  o_bd (f_X0_tells a0 sr1 sx2 S) fun v3 T2 =>
  some (v3, T2)
def f_X0_from_n81 (a0 : Nat) (x3 : Int32) (S : HS) : Option (Int32 × HS) :=
  (g_fR S 1 13 a0).bind fun q1 =>
  if x3 = (2) then
    f_X0_from_n96 a0 q1 (1) S
  else
    f_X0_from_n96 a0 q1 (0) S
def f_X0_from_n46 (a0 : Nat) : Nat → Int32 → Int32 → HS → Option (Int32 × HS)
  | 0, _, _, _ => none
  | n + 1, x3, x4, S =>
    if x4 < 0 then
      f_X0_from_n81 a0 x3 S
    else
      if x3 ≤ 0 then
        f_X0_from_n81 a0 x3 S
      else
        (g_fR S 1 13 a0).bind fun q1 =>
        (q1).bind fun a2 =>
        (g_aI S 34 a2 x4).bind fun v3 =>
        if v3 = 0 then
          (fun x3 x4 S => f_X0_from_n46 a0 n x3 x4 S) x3 (x4 + (-1)) S
        else
          (g_fR S 1 13 a0).bind fun q4 =>
          (g_cls S 1 a0).bind fun u5 =>
          (f_X0_uses a0 x4 q4 S).bind fun T6 =>
          (fun x3 x4 S => f_X0_from_n46 a0 n x3 x4 S) x3 (x4 + (-1)) T6
def f_X0_from (a0 : Nat) (x1 : Int32) (x2 : Int32) (x3 : Int32) (S : HS) : Option (Int32 × HS) :=
  (g_cls S 1 a0).bind fun u1 =>
  o_bd (f_X0_isColumn a0 x1 x2 S) fun v3 T2 =>
  if v3 = 0 then
    some ((-1), T2)
  else
    if x3 < 0 then
      some ((-1), T2)
    else
      if x3 ≤ (2) then
        (g_fR T2 1 13 a0).bind fun q4 =>
        (g_cls T2 1 a0).bind fun u5 =>
        (f_X0_clear a0 q4 T2).bind fun T6 =>
        (g_fR T6 1 13 a0).bind fun q7 =>
        (g_cls T6 1 a0).bind fun u8 =>
        (f_X0_uses a0 (((8) * x1) + x2) q7 T6).bind fun T9 =>
        f_X0_from_n46 a0 fu_ x3 (127) T9
      else
        some ((-1), T2)
set_option maxRecDepth 100000 in
set_option maxHeartbeats 2000000 in
theorem w_X0_from_n96 {f : CfT} {mo : MO} {a0 : Nat} {r : Int32} {S1 : HS} (hc : cf_cc f = cX0_from) (ho : cf_ow f = "TableCatalog") (hnL : cf_nL f = 5) (hrm : cf_rm f = (162, 5005)) (hre : cf_re f = (some (.int))) (hct : cf_ct f = false) (hq : Qok f (some (vi r)) S1 mo) {sr1 : Option Nat} {sx2 : Int32} {S : HS} (hf : f_X0_from_n96 a0 sr1 sx2 S = some (r, S1)) : JJ f S mo 96 [(0, vr (some a0))] [vi sx2, vr sr1, vr (some a0)] := by
  unfold f_X0_from_n96 at hf
  obtain ⟨u1, eu1, hf1⟩ := ob_i hf
  clear hf
  obtain ⟨v3, T2, ev3, hf2⟩ := ob_c hf1
  clear hf1
  refine j_callV (pc := 96) (As := [vr sr1, vi sx2]) (rest := []) (st2 := [vi v3]) hc ho cw_X0_267 (c_X0_tells ev3) (Rc.of (g_cls_ok eu1) (by decide) (by decide) ci_X0) hrm ⟨by decide, by decide⟩ rfl (Nat.le_of_ble_eq_true rfl) dX0_from_96 rfl rfl ?_
  cases hf2
  exact j_iret (pc := 99) hc hq hre rfl dX0_from_99
set_option maxRecDepth 100000 in
set_option maxHeartbeats 2000000 in
theorem w_X0_from_n81 {f : CfT} {mo : MO} {a0 : Nat} {r : Int32} {S1 : HS} (hc : cf_cc f = cX0_from) (ho : cf_ow f = "TableCatalog") (hnL : cf_nL f = 5) (hrm : cf_rm f = (162, 5005)) (hre : cf_re f = (some (.int))) (hct : cf_ct f = false) (hq : Qok f (some (vi r)) S1 mo) {x3 : Int32} {S : HS} (hf : f_X0_from_n81 a0 x3 S = some (r, S1)) : JJ f S mo 81 [(0, vr (some a0)), (3, vi x3)] [] := by
  unfold f_X0_from_n81 at hf
  refine j_aload_n (pc := 81) hc dX0_from_81 0 rfl rfl ?_
  refine j_aload_n (pc := 82) hc dX0_from_82 0 rfl rfl ?_
  obtain ⟨q1, eq1, hf1⟩ := ob_i hf
  clear hf
  refine j_getR (pc := 83) hc ho fa_X0_65_1 dX0_from_83 eq1 ?_
  refine j_iload_n (pc := 86) hc dX0_from_86 1 rfl rfl ?_
  refine j_iconst (pc := 87) (v := (2)) hc dX0_from_87 rfl ?_
  refine j_icmp_ne (pc := 88) hc dX0_from_88 (tgt := 95) rfl (fun hh => ?_) (fun hh => ?_)
  · have hf2 := (if_neg hh).symm.trans hf1
    clear hf1
    refine j_iconst (pc := 95) (v := (0)) hc dX0_from_95 rfl ?_
    refine j_loc (L' := [(0, vr (some a0))]) [0] rfl ?_
    exact w_X0_from_n96 hc ho hnL hrm hre hct hq hf2
  · have hf3 := (if_pos hh).symm.trans hf1
    clear hf1
    refine j_iconst (pc := 91) (v := (1)) hc dX0_from_91 rfl ?_
    refine j_goto (pc := 92) hc dX0_from_92 (tgt := 96) rfl ?_
    refine j_loc (L' := [(0, vr (some a0))]) [0] rfl ?_
    exact w_X0_from_n96 hc ho hnL hrm hre hct hq hf3
set_option maxRecDepth 100000 in
set_option maxHeartbeats 2000000 in
theorem w_X0_from_n46 {f : CfT} {mo : MO} {a0 : Nat} {r : Int32} {S1 : HS} (hc : cf_cc f = cX0_from) (ho : cf_ow f = "TableCatalog") (hnL : cf_nL f = 5) (hrm : cf_rm f = (162, 5005)) (hre : cf_re f = (some (.int))) (hct : cf_ct f = false) (hq : Qok f (some (vi r)) S1 mo) : ∀ (n : Nat) (x3 : Int32) (x4 : Int32) (S : HS), f_X0_from_n46 a0 n x3 x4 S = some (r, S1) → JJ f S mo 46 [(0, vr (some a0)), (3, vi x3), (4, vi x4)] [] := by
  intro n
  induction n with
  | zero =>
    intro x3 x4 S hf
    have hf : (none : Option (Int32 × HS)) = some (r, S1) := hf
    cases hf
  | succ n ih =>
    intro x3 x4 S hf
    unfold f_X0_from_n46 at hf
    have hk_46 := ih
    refine j_iload (pc := 46) hc dX0_from_46 2 rfl ?_
    refine j_if_lt (pc := 48) hc dX0_from_48 (tgt := 81) rfl (fun hh => ?_) (fun hh => ?_)
    · have hf1 := (if_pos hh).symm.trans hf
      clear hf
      refine j_loc (L' := [(0, vr (some a0)), (3, vi x3)]) [0, 1] rfl ?_
      exact w_X0_from_n81 hc ho hnL hrm hre hct hq hf1
    · have hf2 := (if_neg hh).symm.trans hf
      clear hf
      refine j_iload_n (pc := 51) hc dX0_from_51 1 rfl rfl ?_
      refine j_if_le (pc := 52) hc dX0_from_52 (tgt := 81) rfl (fun hh => ?_) (fun hh => ?_)
      · have hf3 := (if_pos hh).symm.trans hf2
        clear hf2
        refine j_loc (L' := [(0, vr (some a0)), (3, vi x3)]) [0, 1] rfl ?_
        exact w_X0_from_n81 hc ho hnL hrm hre hct hq hf3
      · have hf4 := (if_neg hh).symm.trans hf2
        clear hf2
        refine j_aload_n (pc := 55) hc dX0_from_55 0 rfl rfl ?_
        obtain ⟨q1, eq1, hf5⟩ := ob_i hf4
        clear hf4
        refine j_getR (pc := 56) hc ho fa_X0_65_1 dX0_from_56 eq1 ?_
        refine j_iload (pc := 59) hc dX0_from_59 2 rfl ?_
        obtain ⟨a2, ea2, hf6⟩ := ob_i hf5
        clear hf5
        subst ea2
        obtain ⟨v3, ev3, hf7⟩ := ob_i hf6
        clear hf6
        refine j_zald (pc := 61) hc dX0_from_61 ev3 ?_
        refine j_if_eq (pc := 62) hc dX0_from_62 (tgt := 75) rfl (fun hh => ?_) (fun hh => ?_)
        · have hf8 := (if_pos hh).symm.trans hf7
          clear hf7
          refine j_iinc (pc := 75) (L' := [(4, vi (x4 + (-1))), (0, vr (some a0)), (3, vi x3)]) (v := (x4 + (-1))) hc dX0_from_75 2 rfl rfl hnL (by decide) rfl ?_
          refine j_goto (pc := 78) hc dX0_from_78 (tgt := 46) rfl ?_
          refine j_loc (L' := [(0, vr (some a0)), (3, vi x3), (4, vi (x4 + (-1)))]) [1, 2, 0] rfl ?_
          exact hk_46 _ _ _ hf8
        · have hf9 := (if_neg hh).symm.trans hf7
          clear hf7
          refine j_aload_n (pc := 65) hc dX0_from_65 0 rfl rfl ?_
          refine j_iload (pc := 66) hc dX0_from_66 2 rfl ?_
          refine j_aload_n (pc := 68) hc dX0_from_68 0 rfl rfl ?_
          obtain ⟨q4, eq4, hf10⟩ := ob_i hf9
          clear hf9
          refine j_getR (pc := 69) hc ho fa_X0_65_1 dX0_from_69 eq4 ?_
          obtain ⟨u5, eu5, hf11⟩ := ob_i hf10
          clear hf10
          obtain ⟨T6, eT6, hf12⟩ := ob_i hf11
          clear hf11
          refine j_callV (pc := 72) (As := [vi x4, vr q4]) (rest := []) (st2 := []) hc ho cw_X0_264 (c_X0_uses eT6) (Rc.of (g_cls_ok eu5) (by decide) (by decide) ci_X0) hrm ⟨by decide, by decide⟩ rfl (Nat.le_of_ble_eq_true rfl) dX0_from_72 rfl rfl ?_
          refine j_iinc (pc := 75) (L' := [(4, vi (x4 + (-1))), (0, vr (some a0)), (3, vi x3)]) (v := (x4 + (-1))) hc dX0_from_75 2 rfl rfl hnL (by decide) rfl ?_
          refine j_goto (pc := 78) hc dX0_from_78 (tgt := 46) rfl ?_
          refine j_loc (L' := [(0, vr (some a0)), (3, vi x3), (4, vi (x4 + (-1)))]) [1, 2, 0] rfl ?_
          exact hk_46 _ _ _ hf12
set_option maxRecDepth 100000 in
set_option maxHeartbeats 2000000 in
theorem c_X0_from {l : Launch} {g : PG} {mo : MO} {a0 : Nat} {x1 : Int32} {x2 : Int32} {x3 : Int32} {r : Int32} {S S1 : HS} (hf : f_X0_from a0 x1 x2 x3 S = some (r, S1)) : (h_nx S ≤ h_nx S1 ∧ h_sl S ≤ h_sl S1) ∧ Ct l g yX0_from (ws_ yX0_from cX0_from 5 (some (.int))) 162 5005 S mo [vr (some a0), vi x1, vi x2, vi x3] (some (vi r)) S1 mo := by
  refine met_of false (by decide) (fun h => by first | rfl | cases h) rfl (Nat.le_of_ble_eq_true rfl) (fun f hl hg hc ho hnL hrm hre hct hex hq => ?_)
  subst hl
  subst hg
  unfold f_X0_from at hf
  refine j_aload_n (pc := 0) hc dX0_from_0 0 rfl rfl ?_
  refine j_iload_n (pc := 1) hc dX0_from_1 1 rfl rfl ?_
  refine j_iload_n (pc := 2) hc dX0_from_2 2 rfl rfl ?_
  obtain ⟨u1, eu1, hf1⟩ := ob_i hf
  clear hf
  obtain ⟨v3, T2, ev3, hf2⟩ := ob_c hf1
  clear hf1
  refine j_callV (pc := 3) (As := [vi x1, vi x2]) (rest := []) (st2 := [vi v3]) hc ho cw_X0_250 (c_X0_isColumn ev3) (Rc.of (g_cls_ok eu1) (by decide) (by decide) ci_X0) hrm ⟨by decide, by decide⟩ rfl (Nat.le_of_ble_eq_true rfl) dX0_from_3 rfl rfl ?_
  refine j_if_eq (pc := 6) hc dX0_from_6 (tgt := 18) rfl (fun hh => ?_) (fun hh => ?_)
  · have hf3 := (if_pos hh).symm.trans hf2
    clear hf2
    refine j_iconst (pc := 18) (v := (-1)) hc dX0_from_18 rfl ?_
    cases hf3
    exact j_iret (pc := 19) hc hq hre rfl dX0_from_19
  · have hf4 := (if_neg hh).symm.trans hf2
    clear hf2
    refine j_iload_n (pc := 9) hc dX0_from_9 3 rfl rfl ?_
    refine j_if_lt (pc := 10) hc dX0_from_10 (tgt := 18) rfl (fun hh => ?_) (fun hh => ?_)
    · have hf5 := (if_pos hh).symm.trans hf4
      clear hf4
      refine j_iconst (pc := 18) (v := (-1)) hc dX0_from_18 rfl ?_
      cases hf5
      exact j_iret (pc := 19) hc hq hre rfl dX0_from_19
    · have hf6 := (if_neg hh).symm.trans hf4
      clear hf4
      refine j_iload_n (pc := 13) hc dX0_from_13 3 rfl rfl ?_
      refine j_iconst (pc := 14) (v := (2)) hc dX0_from_14 rfl ?_
      refine j_icmp_le (pc := 15) hc dX0_from_15 (tgt := 20) rfl (fun hh => ?_) (fun hh => ?_)
      · have hf7 := (if_pos hh).symm.trans hf6
        clear hf6
        refine j_aload_n (pc := 20) hc dX0_from_20 0 rfl rfl ?_
        refine j_aload_n (pc := 21) hc dX0_from_21 0 rfl rfl ?_
        obtain ⟨q4, eq4, hf8⟩ := ob_i hf7
        clear hf7
        refine j_getR (pc := 22) hc ho fa_X0_65_1 dX0_from_22 eq4 ?_
        obtain ⟨u5, eu5, hf9⟩ := ob_i hf8
        clear hf8
        obtain ⟨T6, eT6, hf10⟩ := ob_i hf9
        clear hf9
        refine j_callV (pc := 25) (As := [vr q4]) (rest := []) (st2 := []) hc ho cw_X0_261 (c_X0_clear eT6) (Rc.of (g_cls_ok eu5) (by decide) (by decide) ci_X0) hrm ⟨by decide, by decide⟩ rfl (Nat.le_of_ble_eq_true rfl) dX0_from_25 rfl rfl ?_
        refine j_aload_n (pc := 28) hc dX0_from_28 0 rfl rfl ?_
        refine j_bipush (pc := 29) (v := (8)) hc dX0_from_29 rfl ?_
        refine j_iload_n (pc := 31) hc dX0_from_31 1 rfl rfl ?_
        refine j_imul (pc := 32) hc dX0_from_32 ?_
        refine j_iload_n (pc := 33) hc dX0_from_33 2 rfl rfl ?_
        refine j_iadd (pc := 34) hc dX0_from_34 ?_
        refine j_aload_n (pc := 35) hc dX0_from_35 0 rfl rfl ?_
        obtain ⟨q7, eq7, hf11⟩ := ob_i hf10
        clear hf10
        refine j_getR (pc := 36) hc ho fa_X0_65_1 dX0_from_36 eq7 ?_
        obtain ⟨u8, eu8, hf12⟩ := ob_i hf11
        clear hf11
        obtain ⟨T9, eT9, hf13⟩ := ob_i hf12
        clear hf12
        refine j_callV (pc := 39) (As := [vi (((8) * x1) + x2), vr q7]) (rest := []) (st2 := []) hc ho cw_X0_264 (c_X0_uses eT9) (Rc.of (g_cls_ok eu8) (by decide) (by decide) ci_X0) hrm ⟨by decide, by decide⟩ rfl (Nat.le_of_ble_eq_true rfl) dX0_from_39 rfl rfl ?_
        refine j_bipush (pc := 42) (v := (127)) hc dX0_from_42 rfl ?_
        refine j_istore (pc := 44) (L' := [(4, vi (127)), (0, vr (some a0)), (1, vi x1), (2, vi x2), (3, vi x3)]) hc dX0_from_44 hnL (by decide) rfl ?_
        refine j_loc (L' := [(0, vr (some a0)), (3, vi x3), (4, vi (127))]) [1, 4, 0] rfl ?_
        exact w_X0_from_n46 hc ho hnL hrm hre hct hq fu_ _ _ _ hf13
      · have hf14 := (if_neg hh).symm.trans hf6
        clear hf6
        refine j_iconst (pc := 18) (v := (-1)) hc dX0_from_18 rfl ?_
        cases hf14
        exact j_iret (pc := 19) hc hq hre rfl dX0_from_19
def f_X0_meets_n2 (a0 : Nat) : Nat → Option Nat → Int32 → HS → Option (Int32 × HS)
  | 0, _, _, _ => none
  | n + 1, r1, x2, S =>
    if (128) ≤ x2 then
      some ((0), S)
    else
      (r1).bind fun a1 =>
      (g_aI S 34 a1 x2).bind fun v2 =>
      if v2 = 0 then
        (fun r1 x2 S => f_X0_meets_n2 a0 n r1 x2 S) (some a1) (x2 + (1)) S
      else
        (g_fR S 1 13 a0).bind fun q3 =>
        (q3).bind fun a4 =>
        (g_aI S 34 a4 x2).bind fun v5 =>
        if v5 = 0 then
          (fun r1 x2 S => f_X0_meets_n2 a0 n r1 x2 S) (some a1) (x2 + (1)) S
        else
          some ((1), S)
def f_X0_meets (a0 : Nat) (r1 : Option Nat) (S : HS) : Option (Int32 × HS) :=
  f_X0_meets_n2 a0 fu_ r1 (0) S
set_option maxRecDepth 100000 in
set_option maxHeartbeats 2000000 in
theorem w_X0_meets_n2 {f : CfT} {mo : MO} {a0 : Nat} {r : Int32} {S1 : HS} (hc : cf_cc f = cX0_meets) (ho : cf_ow f = "TableCatalog") (hnL : cf_nL f = 3) (hrm : cf_rm f = (1, 60)) (hre : cf_re f = (some (.boolean))) (hct : cf_ct f = false) (hq : Qok f (some (vi r)) S1 mo) : ∀ (n : Nat) (r1 : Option Nat) (x2 : Int32) (S : HS), f_X0_meets_n2 a0 n r1 x2 S = some (r, S1) → JJ f S mo 2 [(0, vr (some a0)), (1, vr r1), (2, vi x2)] [] := by
  intro n
  induction n with
  | zero =>
    intro r1 x2 S hf
    have hf : (none : Option (Int32 × HS)) = some (r, S1) := hf
    cases hf
  | succ n ih =>
    intro r1 x2 S hf
    unfold f_X0_meets_n2 at hf
    have hk_2 := ih
    refine j_iload_n (pc := 2) hc dX0_meets_2 2 rfl rfl ?_
    refine j_sipush (pc := 3) (v := (128)) hc dX0_meets_3 rfl ?_
    refine j_icmp_ge (pc := 6) hc dX0_meets_6 (tgt := 32) rfl (fun hh => ?_) (fun hh => ?_)
    · have hf1 := (if_pos hh).symm.trans hf
      clear hf
      refine j_iconst (pc := 32) (v := (0)) hc dX0_meets_32 rfl ?_
      cases hf1
      exact j_iret (pc := 33) hc hq hre rfl dX0_meets_33
    · have hf2 := (if_neg hh).symm.trans hf
      clear hf
      refine j_aload_n (pc := 9) hc dX0_meets_9 1 rfl rfl ?_
      refine j_iload_n (pc := 10) hc dX0_meets_10 2 rfl rfl ?_
      obtain ⟨a1, ea1, hf3⟩ := ob_i hf2
      clear hf2
      subst ea1
      obtain ⟨v2, ev2, hf4⟩ := ob_i hf3
      clear hf3
      refine j_zald (pc := 11) hc dX0_meets_11 ev2 ?_
      refine j_if_eq (pc := 12) hc dX0_meets_12 (tgt := 26) rfl (fun hh => ?_) (fun hh => ?_)
      · have hf5 := (if_pos hh).symm.trans hf4
        clear hf4
        refine j_iinc (pc := 26) (L' := [(2, vi (x2 + (1))), (0, vr (some a0)), (1, vr (some a1))]) (v := (x2 + (1))) hc dX0_meets_26 2 rfl rfl hnL (by decide) rfl ?_
        refine j_goto (pc := 29) hc dX0_meets_29 (tgt := 2) rfl ?_
        refine j_loc (L' := [(0, vr (some a0)), (1, vr (some a1)), (2, vi (x2 + (1)))]) [1, 2, 0] rfl ?_
        exact hk_2 _ _ _ hf5
      · have hf6 := (if_neg hh).symm.trans hf4
        clear hf4
        refine j_aload_n (pc := 15) hc dX0_meets_15 0 rfl rfl ?_
        obtain ⟨q3, eq3, hf7⟩ := ob_i hf6
        clear hf6
        refine j_getR (pc := 16) hc ho fa_X0_65_1 dX0_meets_16 eq3 ?_
        refine j_iload_n (pc := 19) hc dX0_meets_19 2 rfl rfl ?_
        obtain ⟨a4, ea4, hf8⟩ := ob_i hf7
        clear hf7
        subst ea4
        obtain ⟨v5, ev5, hf9⟩ := ob_i hf8
        clear hf8
        refine j_zald (pc := 20) hc dX0_meets_20 ev5 ?_
        refine j_if_eq (pc := 21) hc dX0_meets_21 (tgt := 26) rfl (fun hh => ?_) (fun hh => ?_)
        · have hf10 := (if_pos hh).symm.trans hf9
          clear hf9
          refine j_iinc (pc := 26) (L' := [(2, vi (x2 + (1))), (0, vr (some a0)), (1, vr (some a1))]) (v := (x2 + (1))) hc dX0_meets_26 2 rfl rfl hnL (by decide) rfl ?_
          refine j_goto (pc := 29) hc dX0_meets_29 (tgt := 2) rfl ?_
          refine j_loc (L' := [(0, vr (some a0)), (1, vr (some a1)), (2, vi (x2 + (1)))]) [1, 2, 0] rfl ?_
          exact hk_2 _ _ _ hf10
        · have hf11 := (if_neg hh).symm.trans hf9
          clear hf9
          refine j_iconst (pc := 24) (v := (1)) hc dX0_meets_24 rfl ?_
          cases hf11
          exact j_iret (pc := 25) hc hq hre rfl dX0_meets_25
set_option maxRecDepth 100000 in
set_option maxHeartbeats 2000000 in
theorem c_X0_meets {l : Launch} {g : PG} {mo : MO} {a0 : Nat} {r1 : Option Nat} {r : Int32} {S S1 : HS} (hf : f_X0_meets a0 r1 S = some (r, S1)) : (h_nx S ≤ h_nx S1 ∧ h_sl S ≤ h_sl S1) ∧ Ct l g yX0_meets (ws_ yX0_meets cX0_meets 3 (some (.boolean))) 1 60 S mo [vr (some a0), vr r1] (some (vi r)) S1 mo := by
  refine met_of false (by decide) (fun h => by first | rfl | cases h) rfl (Nat.le_of_ble_eq_true rfl) (fun f hl hg hc ho hnL hrm hre hct hex hq => ?_)
  subst hl
  subst hg
  unfold f_X0_meets at hf
  refine j_iconst (pc := 0) (v := (0)) hc dX0_meets_0 rfl ?_
  refine j_istore_n (pc := 1) (L' := [(2, vi (0)), (0, vr (some a0)), (1, vr r1)]) hc dX0_meets_1 rfl hnL (by decide) rfl ?_
  refine j_loc (L' := [(0, vr (some a0)), (1, vr r1), (2, vi (0))]) [1, 2, 0] rfl ?_
  exact w_X0_meets_n2 hc ho hnL hrm hre hct hq fu_ _ _ _ hf
theorem fa_X0_69_1 : FA "TableCatalog" 69 1 2 14 (.array .boolean) 2 := ⟨RX0, TX0, 15, tyX0, 13, "TableCatalog", CI_X0, by decide, rfl, rfl, by decide +kernel, Or.inl ⟨q296, fun _ => ⟨rfl, rfl⟩⟩, fun h => (by cases h), Or.inl rfl⟩
theorem cw_X0_271 : CV "TableCatalog" 271 RX0 yX0_meets cX0_meets 3 (some (.boolean)) 1 := ⟨⟨q1086, q1088, qs36, q81, q1089⟩, rfl, by decide, by decide, by decide +kernel⟩
def f_X0_hangs (a0 : Nat) (r1 : Option Nat) (S : HS) : Option (Int32 × HS) :=
  (r1).bind fun a1 =>
  (g_cls S 4 a1).bind fun u2 =>
  o_bd (f_X4_isMade a1 S) fun v4 T3 =>
  if v4 = 0 then
    some ((0), T3)
  else
    (g_fR T3 4 105 a1).bind fun q5 =>
    o_case q5 (
      some ((0), T3)
    ) (fun a6 =>
      (g_fR T3 1 14 a0).bind fun q7 =>
      (g_cls T3 1 a0).bind fun u8 =>
      (f_X0_clear a0 q7 T3).bind fun T9 =>
      (g_fR T9 4 105 a1).bind fun q10 =>
      (g_fR T9 1 14 a0).bind fun q11 =>
      (q10).bind fun a12 =>
      (g_cls T9 5 a12).bind fun u13 =>
      (f_X5_uses 40 a12 q11 T9).bind fun T14 =>
      (g_fR T14 4 106 a1).bind fun q15 =>
      (g_fR T14 1 14 a0).bind fun q16 =>
      (q15).bind fun a17 =>
      (g_cls T14 5 a17).bind fun u18 =>
      (f_X5_uses 40 a17 q16 T14).bind fun T19 =>
      (g_fR T19 1 14 a0).bind fun q20 =>
      (g_cls T19 1 a0).bind fun u21 =>
      o_bd (f_X0_meets a0 q20 T19) fun v23 T22 =>
      if vp_nar .boolean v23 = v23 then
        some (v23, T22)
      else
        none
    )
set_option maxRecDepth 100000 in
set_option maxHeartbeats 2000000 in
theorem c_X0_hangs {l : Launch} {g : PG} {mo : MO} {a0 : Nat} {r1 : Option Nat} {r : Int32} {S S1 : HS} (hf : f_X0_hangs a0 r1 S = some (r, S1)) : (h_nx S ≤ h_nx S1 ∧ h_sl S ≤ h_sl S1) ∧ Ct l g yX0_hangs (ws_ yX0_hangs cX0_hangs 2 (some (.boolean))) 161 4982 S mo [vr (some a0), vr r1] (some (vi r)) S1 mo := by
  refine met_of false (by decide) (fun h => by first | rfl | cases h) rfl (Nat.le_of_ble_eq_true rfl) (fun f hl hg hc ho hnL hrm hre hct hex hq => ?_)
  subst hl
  subst hg
  unfold f_X0_hangs at hf
  refine j_aload_n (pc := 0) hc dX0_hangs_0 1 rfl rfl ?_
  obtain ⟨a1, ea1, hf1⟩ := ob_i hf
  clear hf
  subst ea1
  obtain ⟨u2, eu2, hf2⟩ := ob_i hf1
  clear hf1
  obtain ⟨v4, T3, ev4, hf3⟩ := ob_c hf2
  clear hf2
  refine j_callV (pc := 1) (As := []) (rest := []) (st2 := [vi v4]) hc ho cw_X0_142 (c_X4_isMade ev4) (Rc.of (g_cls_ok eu2) (by decide) (by decide) ci_X4) hrm ⟨by decide, by decide⟩ rfl (Nat.le_of_ble_eq_true rfl) dX0_hangs_1 rfl rfl ?_
  refine j_if_eq (pc := 4) hc dX0_hangs_4 (tgt := 14) rfl (fun hh => ?_) (fun hh => ?_)
  · have hf4 := (if_pos hh).symm.trans hf3
    clear hf3
    refine j_iconst (pc := 14) (v := (0)) hc dX0_hangs_14 rfl ?_
    cases hf4
    exact j_iret (pc := 15) hc hq hre rfl dX0_hangs_15
  · have hf5 := (if_neg hh).symm.trans hf3
    clear hf3
    refine j_aload_n (pc := 7) hc dX0_hangs_7 1 rfl rfl ?_
    obtain ⟨q5, eq5, hf6⟩ := ob_i hf5
    clear hf5
    refine j_getR (pc := 8) hc ho fa_X0_158_4 dX0_hangs_8 eq5 ?_
    refine j_ifnonnull (pc := 11) hc dX0_hangs_11 (tgt := 16) rfl (fun a6 hh => ?_) (fun hh => ?_)
    · subst hh
      refine j_aload_n (pc := 16) hc dX0_hangs_16 0 rfl rfl ?_
      refine j_aload_n (pc := 17) hc dX0_hangs_17 0 rfl rfl ?_
      obtain ⟨q7, eq7, hf7⟩ := ob_i hf6
      clear hf6
      refine j_getR (pc := 18) hc ho fa_X0_69_1 dX0_hangs_18 eq7 ?_
      obtain ⟨u8, eu8, hf8⟩ := ob_i hf7
      clear hf7
      obtain ⟨T9, eT9, hf9⟩ := ob_i hf8
      clear hf8
      refine j_callV (pc := 21) (As := [vr q7]) (rest := []) (st2 := []) hc ho cw_X0_261 (c_X0_clear eT9) (Rc.of (g_cls_ok eu8) (by decide) (by decide) ci_X0) hrm ⟨by decide, by decide⟩ rfl (Nat.le_of_ble_eq_true rfl) dX0_hangs_21 rfl rfl ?_
      refine j_aload_n (pc := 24) hc dX0_hangs_24 1 rfl rfl ?_
      obtain ⟨q10, eq10, hf10⟩ := ob_i hf9
      clear hf9
      refine j_getR (pc := 25) hc ho fa_X0_158_4 dX0_hangs_25 eq10 ?_
      refine j_aload_n (pc := 28) hc dX0_hangs_28 0 rfl rfl ?_
      obtain ⟨q11, eq11, hf11⟩ := ob_i hf10
      clear hf10
      refine j_getR (pc := 29) hc ho fa_X0_69_1 dX0_hangs_29 eq11 ?_
      obtain ⟨a12, ea12, hf12⟩ := ob_i hf11
      clear hf11
      subst ea12
      obtain ⟨u13, eu13, hf13⟩ := ob_i hf12
      clear hf12
      obtain ⟨T14, eT14, hf14⟩ := ob_i hf13
      clear hf13
      refine j_callV (pc := 32) (As := [vr q11]) (rest := []) (st2 := []) hc ho cw_X0_257 (c_X5_uses 40 eT14) (Rc.of (g_cls_ok eu13) (by decide) (by decide) ci_X5) hrm ⟨by decide, by decide⟩ rfl (Nat.le_of_ble_eq_true rfl) dX0_hangs_32 rfl rfl ?_
      refine j_aload_n (pc := 35) hc dX0_hangs_35 1 rfl rfl ?_
      obtain ⟨q15, eq15, hf15⟩ := ob_i hf14
      clear hf14
      refine j_getR (pc := 36) hc ho fa_X0_162_4 dX0_hangs_36 eq15 ?_
      refine j_aload_n (pc := 39) hc dX0_hangs_39 0 rfl rfl ?_
      obtain ⟨q16, eq16, hf16⟩ := ob_i hf15
      clear hf15
      refine j_getR (pc := 40) hc ho fa_X0_69_1 dX0_hangs_40 eq16 ?_
      obtain ⟨a17, ea17, hf17⟩ := ob_i hf16
      clear hf16
      subst ea17
      obtain ⟨u18, eu18, hf18⟩ := ob_i hf17
      clear hf17
      obtain ⟨T19, eT19, hf19⟩ := ob_i hf18
      clear hf18
      refine j_callV (pc := 43) (As := [vr q16]) (rest := []) (st2 := []) hc ho cw_X0_257 (c_X5_uses 40 eT19) (Rc.of (g_cls_ok eu18) (by decide) (by decide) ci_X5) hrm ⟨by decide, by decide⟩ rfl (Nat.le_of_ble_eq_true rfl) dX0_hangs_43 rfl rfl ?_
      refine j_aload_n (pc := 46) hc dX0_hangs_46 0 rfl rfl ?_
      refine j_aload_n (pc := 47) hc dX0_hangs_47 0 rfl rfl ?_
      obtain ⟨q20, eq20, hf20⟩ := ob_i hf19
      clear hf19
      refine j_getR (pc := 48) hc ho fa_X0_69_1 dX0_hangs_48 eq20 ?_
      obtain ⟨u21, eu21, hf21⟩ := ob_i hf20
      clear hf20
      obtain ⟨v23, T22, ev23, hf22⟩ := ob_c hf21
      clear hf21
      refine j_callV (pc := 51) (As := [vr q20]) (rest := []) (st2 := [vi v23]) hc ho cw_X0_271 (c_X0_meets ev23) (Rc.of (g_cls_ok eu21) (by decide) (by decide) ci_X0) hrm ⟨by decide, by decide⟩ rfl (Nat.le_of_ble_eq_true rfl) dX0_hangs_51 rfl rfl ?_
      by_cases hh : vp_nar .boolean v23 = v23
      · have hf23 := (if_pos hh).symm.trans hf22
        clear hf22
        cases hf23
        exact j_iret (pc := 54) hc hq hre (nar_z hh) dX0_hangs_54
      · have hf24 := (if_neg hh).symm.trans hf22
        clear hf22
        cases hf24
    · subst hh
      refine j_iconst (pc := 14) (v := (0)) hc dX0_hangs_14 rfl ?_
      cases hf6
      exact j_iret (pc := 15) hc hq hre rfl dX0_hangs_15
theorem cw_X0_275 : CV "TableCatalog" 275 RX0 yX0_hangs cX0_hangs 2 (some (.boolean)) 1 := ⟨⟨q1082, q1084, qs35, q81, q1085⟩, rfl, by decide, by decide, by decide +kernel⟩
def f_X0_touches_n116 (k_21 : Int32 → HS → Option HS) (k_60 : Int32 → Option Nat → Int32 → Int32 → HS → Option HS) (a0 : Nat) (x2 : Int32) (r3 : Option Nat) (x4 : Int32) (x5 : Int32) (sx0 : Int32) (S : HS) : Option HS :=
  (g_fR S 1 13 a0).bind fun q1 =>
  (q1).bind fun a2 =>
  (p_aI S 34 a2 (((8) * x2) + x5) (vp_nar .boolean sx0)).bind fun T3 =>
  k_60 x2 r3 x4 (x5 + (1)) T3
def f_X0_touches_n111 (k_21 : Int32 → HS → Option HS) (k_60 : Int32 → Option Nat → Int32 → Int32 → HS → Option HS) (a0 : Nat) (x2 : Int32) (r3 : Option Nat) (x4 : Int32) (x5 : Int32) (S : HS) : Option HS :=
  f_X0_touches_n116 k_21 k_60 a0 x2 r3 x4 x5 (1) S
def f_X0_touches_n60 (k_21 : Int32 → HS → Option HS) (a0 : Nat) : Nat → Int32 → Option Nat → Int32 → Int32 → HS → Option HS
  | 0, _, _, _, _, _ => none
  | n + 1, x2, r3, x4, x5, S =>
    (r3).bind fun a1 =>
    (g_fR S 4 100 a1).bind fun q2 =>
    (q2).bind fun a3 =>
    (g_cls S 12 a3).bind fun u4 =>
    o_bd (f_J5_size a3 S) fun v6 T5 =>
    if v6 ≤ x5 then
      k_21 (x2 + (1)) T5
    else
      (g_fR T5 1 14 a0).bind fun q7 =>
      (g_cls T5 1 a0).bind fun u8 =>
      (f_X0_clear a0 q7 T5).bind fun T9 =>
      (g_fR T9 1 14 a0).bind fun q10 =>
      (g_cls T9 1 a0).bind fun u11 =>
      (f_X0_uses a0 (((8) * x2) + x5) q10 T9).bind fun T12 =>
      if x4 = 0 then
        (g_fR T12 1 14 a0).bind fun q13 =>
        (g_cls T12 1 a0).bind fun u14 =>
        o_bd (f_X0_meets a0 q13 T12) fun v16 T15 =>
        if v16 = 0 then
          f_X0_touches_n116 k_21 (fun x2 r3 x4 x5 S => f_X0_touches_n60 k_21 a0 n x2 r3 x4 x5 S) a0 x2 (some a1) x4 x5 (0) T15
        else
          f_X0_touches_n111 k_21 (fun x2 r3 x4 x5 S => f_X0_touches_n60 k_21 a0 n x2 r3 x4 x5 S) a0 x2 (some a1) x4 x5 T15
      else
        f_X0_touches_n111 k_21 (fun x2 r3 x4 x5 S => f_X0_touches_n60 k_21 a0 n x2 r3 x4 x5 S) a0 x2 (some a1) x4 x5 T12
def f_X0_touches_n21 (a0 : Nat) : Nat → Int32 → HS → Option HS
  | 0, _, _ => none
  | n + 1, x2, S =>
    (g_fI S 1 2 a0).bind fun v1 =>
    if v1 ≤ x2 then
      some S
    else
      (g_fR S 1 1 a0).bind fun q2 =>
      (q2).bind fun a3 =>
      (g_aR S 36 a3 x2).bind fun q4 =>
      o_case q4 (
        (fun x2 S => f_X0_touches_n21 a0 n x2 S) (x2 + (1)) S
      ) (fun a5 =>
        (g_cls S 4 a5).bind fun u6 =>
        o_bd (f_X4_isMade a5 S) fun v8 T7 =>
        if v8 = 0 then
          (fun x2 S => f_X0_touches_n21 a0 n x2 S) (x2 + (1)) T7
        else
          (g_cls T7 1 a0).bind fun u9 =>
          o_bd (f_X0_hangs a0 (some a5) T7) fun v11 T10 =>
          f_X0_touches_n60 (fun x2 S => f_X0_touches_n21 a0 n x2 S) a0 fu_ x2 (some a5) v11 (0) T10
      )
def f_X0_touches (a0 : Nat) (x1 : Int32) (S : HS) : Option HS :=
  (g_fR S 1 13 a0).bind fun q1 =>
  (g_cls S 1 a0).bind fun u2 =>
  (f_X0_clear a0 q1 S).bind fun T3 =>
  (g_fR T3 1 13 a0).bind fun q4 =>
  (q4).bind fun a5 =>
  (p_aI T3 34 a5 x1 (vp_nar .boolean (1))).bind fun T6 =>
  f_X0_touches_n21 a0 fu_ ((x1 >>> ((3) &&& 31)) + (1)) T6
set_option maxRecDepth 100000 in
set_option maxHeartbeats 2000000 in
theorem w_X0_touches_n116 {f : CfT} {mo : MO} {a0 : Nat} {S1 : HS} (hc : cf_cc f = cX0_touches) (ho : cf_ow f = "TableCatalog") (hnL : cf_nL f = 7) (hrm : cf_rm f = (162, 5005)) (hre : cf_re f = none) (hct : cf_ct f = false) (hq : Qok f none S1 mo) {k_21 : Int32 → HS → Option HS} (hk_21 : ∀ (x2 : Int32) (S : HS), k_21 x2 S = some S1 → JJ f S mo 21 [(0, vr (some a0)), (2, vi x2)] []) {k_60 : Int32 → Option Nat → Int32 → Int32 → HS → Option HS} (hk_60 : ∀ (x2 : Int32) (r3 : Option Nat) (x4 : Int32) (x5 : Int32) (S : HS), k_60 x2 r3 x4 x5 S = some S1 → JJ f S mo 60 [(0, vr (some a0)), (2, vi x2), (3, vr r3), (4, vi x4), (5, vi x5)] []) {x2 : Int32} {r3 : Option Nat} {x4 : Int32} {x5 : Int32} {sx0 : Int32} {S : HS} (hf : f_X0_touches_n116 k_21 k_60 a0 x2 r3 x4 x5 sx0 S = some S1) : JJ f S mo 116 [(0, vr (some a0)), (2, vi x2), (3, vr r3), (4, vi x4), (5, vi x5)] [vi sx0] := by
  unfold f_X0_touches_n116 at hf
  refine j_istore (pc := 116) (L' := [(6, vi sx0), (0, vr (some a0)), (2, vi x2), (3, vr r3), (4, vi x4), (5, vi x5)]) hc dX0_touches_116 hnL (by decide) rfl ?_
  refine j_aload_n (pc := 118) hc dX0_touches_118 1 rfl rfl ?_
  obtain ⟨q1, eq1, hf1⟩ := ob_i hf
  clear hf
  refine j_getR (pc := 119) hc ho fa_X0_65_1 dX0_touches_119 eq1 ?_
  refine j_bipush (pc := 122) (v := (8)) hc dX0_touches_122 rfl ?_
  refine j_iload_n (pc := 124) hc dX0_touches_124 2 rfl rfl ?_
  refine j_imul (pc := 125) hc dX0_touches_125 ?_
  refine j_iload (pc := 126) hc dX0_touches_126 5 rfl ?_
  refine j_iadd (pc := 128) hc dX0_touches_128 ?_
  refine j_iload (pc := 129) hc dX0_touches_129 0 rfl ?_
  obtain ⟨a2, ea2, hf2⟩ := ob_i hf1
  clear hf1
  subst ea2
  obtain ⟨T3, eT3, hf3⟩ := ob_i hf2
  clear hf2
  refine j_zast (pc := 131) hc dX0_touches_131 eT3 ?_
  refine j_iinc (pc := 132) (L' := [(5, vi (x5 + (1))), (6, vi sx0), (0, vr (some a0)), (2, vi x2), (3, vr r3), (4, vi x4)]) (v := (x5 + (1))) hc dX0_touches_132 5 rfl rfl hnL (by decide) rfl ?_
  refine j_goto (pc := 135) hc dX0_touches_135 (tgt := 60) rfl ?_
  refine j_loc (L' := [(0, vr (some a0)), (2, vi x2), (3, vr r3), (4, vi x4), (5, vi (x5 + (1)))]) [2, 3, 4, 5, 0] rfl ?_
  exact hk_60 _ _ _ _ _ hf3
set_option maxRecDepth 100000 in
set_option maxHeartbeats 2000000 in
theorem w_X0_touches_n111 {f : CfT} {mo : MO} {a0 : Nat} {S1 : HS} (hc : cf_cc f = cX0_touches) (ho : cf_ow f = "TableCatalog") (hnL : cf_nL f = 7) (hrm : cf_rm f = (162, 5005)) (hre : cf_re f = none) (hct : cf_ct f = false) (hq : Qok f none S1 mo) {k_21 : Int32 → HS → Option HS} (hk_21 : ∀ (x2 : Int32) (S : HS), k_21 x2 S = some S1 → JJ f S mo 21 [(0, vr (some a0)), (2, vi x2)] []) {k_60 : Int32 → Option Nat → Int32 → Int32 → HS → Option HS} (hk_60 : ∀ (x2 : Int32) (r3 : Option Nat) (x4 : Int32) (x5 : Int32) (S : HS), k_60 x2 r3 x4 x5 S = some S1 → JJ f S mo 60 [(0, vr (some a0)), (2, vi x2), (3, vr r3), (4, vi x4), (5, vi x5)] []) {x2 : Int32} {r3 : Option Nat} {x4 : Int32} {x5 : Int32} {S : HS} (hf : f_X0_touches_n111 k_21 k_60 a0 x2 r3 x4 x5 S = some S1) : JJ f S mo 111 [(0, vr (some a0)), (2, vi x2), (3, vr r3), (4, vi x4), (5, vi x5)] [] := by
  unfold f_X0_touches_n111 at hf
  refine j_iconst (pc := 111) (v := (1)) hc dX0_touches_111 rfl ?_
  refine j_goto (pc := 112) hc dX0_touches_112 (tgt := 116) rfl ?_
  exact w_X0_touches_n116 hc ho hnL hrm hre hct hq hk_21 hk_60 hf
set_option maxRecDepth 100000 in
set_option maxHeartbeats 2000000 in
theorem w_X0_touches_n60 {f : CfT} {mo : MO} {a0 : Nat} {S1 : HS} (hc : cf_cc f = cX0_touches) (ho : cf_ow f = "TableCatalog") (hnL : cf_nL f = 7) (hrm : cf_rm f = (162, 5005)) (hre : cf_re f = none) (hct : cf_ct f = false) (hq : Qok f none S1 mo) {k_21 : Int32 → HS → Option HS} (hk_21 : ∀ (x2 : Int32) (S : HS), k_21 x2 S = some S1 → JJ f S mo 21 [(0, vr (some a0)), (2, vi x2)] []) : ∀ (n : Nat) (x2 : Int32) (r3 : Option Nat) (x4 : Int32) (x5 : Int32) (S : HS), f_X0_touches_n60 k_21 a0 n x2 r3 x4 x5 S = some S1 → JJ f S mo 60 [(0, vr (some a0)), (2, vi x2), (3, vr r3), (4, vi x4), (5, vi x5)] [] := by
  intro n
  induction n with
  | zero =>
    intro x2 r3 x4 x5 S hf
    have hf : (none : Option HS) = some S1 := hf
    cases hf
  | succ n ih =>
    intro x2 r3 x4 x5 S hf
    unfold f_X0_touches_n60 at hf
    have hk_60 := ih
    refine j_iload (pc := 60) hc dX0_touches_60 4 rfl ?_
    refine j_aload_n (pc := 62) hc dX0_touches_62 2 rfl rfl ?_
    obtain ⟨a1, ea1, hf1⟩ := ob_i hf
    clear hf
    subst ea1
    obtain ⟨q2, eq2, hf2⟩ := ob_i hf1
    clear hf1
    refine j_getR (pc := 63) hc ho fa_X0_103_4 dX0_touches_63 eq2 ?_
    obtain ⟨a3, ea3, hf3⟩ := ob_i hf2
    clear hf2
    subst ea3
    obtain ⟨u4, eu4, hf4⟩ := ob_i hf3
    clear hf3
    obtain ⟨v6, T5, ev6, hf5⟩ := ob_c hf4
    clear hf4
    refine j_callV (pc := 66) (As := []) (rest := [vi x5]) (st2 := [vi v6, vi x5]) hc ho cw_X0_107 (c_J5_size ev6) (Rc.of (g_cls_ok eu4) (by decide) (by decide) ci_J5) hrm ⟨by decide, by decide⟩ rfl (Nat.le_of_ble_eq_true rfl) dX0_touches_66 rfl rfl ?_
    refine j_icmp_ge (pc := 69) hc dX0_touches_69 (tgt := 138) rfl (fun hh => ?_) (fun hh => ?_)
    · have hf6 := (if_pos hh).symm.trans hf5
      clear hf5
      refine j_iinc (pc := 138) (L' := [(2, vi (x2 + (1))), (0, vr (some a0)), (3, vr (some a1)), (4, vi x4), (5, vi x5)]) (v := (x2 + (1))) hc dX0_touches_138 1 rfl rfl hnL (by decide) rfl ?_
      refine j_goto (pc := 141) hc dX0_touches_141 (tgt := 21) rfl ?_
      refine j_loc (L' := [(0, vr (some a0)), (2, vi (x2 + (1)))]) [1, 0] rfl ?_
      exact hk_21 _ _ hf6
    · have hf7 := (if_neg hh).symm.trans hf5
      clear hf5
      refine j_aload_n (pc := 72) hc dX0_touches_72 0 rfl rfl ?_
      refine j_aload_n (pc := 73) hc dX0_touches_73 0 rfl rfl ?_
      obtain ⟨q7, eq7, hf8⟩ := ob_i hf7
      clear hf7
      refine j_getR (pc := 74) hc ho fa_X0_69_1 dX0_touches_74 eq7 ?_
      obtain ⟨u8, eu8, hf9⟩ := ob_i hf8
      clear hf8
      obtain ⟨T9, eT9, hf10⟩ := ob_i hf9
      clear hf9
      refine j_callV (pc := 77) (As := [vr q7]) (rest := []) (st2 := []) hc ho cw_X0_261 (c_X0_clear eT9) (Rc.of (g_cls_ok eu8) (by decide) (by decide) ci_X0) hrm ⟨by decide, by decide⟩ rfl (Nat.le_of_ble_eq_true rfl) dX0_touches_77 rfl rfl ?_
      refine j_aload_n (pc := 80) hc dX0_touches_80 0 rfl rfl ?_
      refine j_bipush (pc := 81) (v := (8)) hc dX0_touches_81 rfl ?_
      refine j_iload_n (pc := 83) hc dX0_touches_83 1 rfl rfl ?_
      refine j_imul (pc := 84) hc dX0_touches_84 ?_
      refine j_iload (pc := 85) hc dX0_touches_85 4 rfl ?_
      refine j_iadd (pc := 87) hc dX0_touches_87 ?_
      refine j_aload_n (pc := 88) hc dX0_touches_88 0 rfl rfl ?_
      obtain ⟨q10, eq10, hf11⟩ := ob_i hf10
      clear hf10
      refine j_getR (pc := 89) hc ho fa_X0_69_1 dX0_touches_89 eq10 ?_
      obtain ⟨u11, eu11, hf12⟩ := ob_i hf11
      clear hf11
      obtain ⟨T12, eT12, hf13⟩ := ob_i hf12
      clear hf12
      refine j_callV (pc := 92) (As := [vi (((8) * x2) + x5), vr q10]) (rest := []) (st2 := []) hc ho cw_X0_264 (c_X0_uses eT12) (Rc.of (g_cls_ok eu11) (by decide) (by decide) ci_X0) hrm ⟨by decide, by decide⟩ rfl (Nat.le_of_ble_eq_true rfl) dX0_touches_92 rfl rfl ?_
      refine j_iload (pc := 95) hc dX0_touches_95 3 rfl ?_
      refine j_if_ne (pc := 97) hc dX0_touches_97 (tgt := 111) rfl (fun hh => ?_) (fun hh => ?_)
      · have hf14 := (if_neg hh).symm.trans hf13
        clear hf13
        exact w_X0_touches_n111 hc ho hnL hrm hre hct hq hk_21 hk_60 hf14
      · have hf15 := (if_pos hh).symm.trans hf13
        clear hf13
        refine j_aload_n (pc := 100) hc dX0_touches_100 0 rfl rfl ?_
        refine j_aload_n (pc := 101) hc dX0_touches_101 0 rfl rfl ?_
        obtain ⟨q13, eq13, hf16⟩ := ob_i hf15
        clear hf15
        refine j_getR (pc := 102) hc ho fa_X0_69_1 dX0_touches_102 eq13 ?_
        obtain ⟨u14, eu14, hf17⟩ := ob_i hf16
        clear hf16
        obtain ⟨v16, T15, ev16, hf18⟩ := ob_c hf17
        clear hf17
        refine j_callV (pc := 105) (As := [vr q13]) (rest := []) (st2 := [vi v16]) hc ho cw_X0_271 (c_X0_meets ev16) (Rc.of (g_cls_ok eu14) (by decide) (by decide) ci_X0) hrm ⟨by decide, by decide⟩ rfl (Nat.le_of_ble_eq_true rfl) dX0_touches_105 rfl rfl ?_
        refine j_if_eq (pc := 108) hc dX0_touches_108 (tgt := 115) rfl (fun hh => ?_) (fun hh => ?_)
        · have hf19 := (if_pos hh).symm.trans hf18
          clear hf18
          refine j_iconst (pc := 115) (v := (0)) hc dX0_touches_115 rfl ?_
          exact w_X0_touches_n116 hc ho hnL hrm hre hct hq hk_21 hk_60 hf19
        · have hf20 := (if_neg hh).symm.trans hf18
          clear hf18
          exact w_X0_touches_n111 hc ho hnL hrm hre hct hq hk_21 hk_60 hf20
set_option maxRecDepth 100000 in
set_option maxHeartbeats 2000000 in
theorem w_X0_touches_n21 {f : CfT} {mo : MO} {a0 : Nat} {S1 : HS} (hc : cf_cc f = cX0_touches) (ho : cf_ow f = "TableCatalog") (hnL : cf_nL f = 7) (hrm : cf_rm f = (162, 5005)) (hre : cf_re f = none) (hct : cf_ct f = false) (hq : Qok f none S1 mo) : ∀ (n : Nat) (x2 : Int32) (S : HS), f_X0_touches_n21 a0 n x2 S = some S1 → JJ f S mo 21 [(0, vr (some a0)), (2, vi x2)] [] := by
  intro n
  induction n with
  | zero =>
    intro x2 S hf
    have hf : (none : Option HS) = some S1 := hf
    cases hf
  | succ n ih =>
    intro x2 S hf
    unfold f_X0_touches_n21 at hf
    have hk_21 := ih
    refine j_iload_n (pc := 21) hc dX0_touches_21 1 rfl rfl ?_
    refine j_aload_n (pc := 22) hc dX0_touches_22 0 rfl rfl ?_
    obtain ⟨v1, ev1, hf1⟩ := ob_i hf
    clear hf
    refine j_getI (pc := 23) hc ho fa_X0_83_1 dX0_touches_23 ev1 ?_
    refine j_icmp_ge (pc := 26) hc dX0_touches_26 (tgt := 144) rfl (fun hh => ?_) (fun hh => ?_)
    · have hf2 := (if_pos hh).symm.trans hf1
      clear hf1
      cases hf2
      exact j_vret (pc := 144) hc hq hre dX0_touches_144
    · have hf3 := (if_neg hh).symm.trans hf1
      clear hf1
      refine j_aload_n (pc := 29) hc dX0_touches_29 0 rfl rfl ?_
      obtain ⟨q2, eq2, hf4⟩ := ob_i hf3
      clear hf3
      refine j_getR (pc := 30) hc ho fa_X0_35_1 dX0_touches_30 eq2 ?_
      refine j_iload_n (pc := 33) hc dX0_touches_33 1 rfl rfl ?_
      obtain ⟨a3, ea3, hf5⟩ := ob_i hf4
      clear hf4
      subst ea3
      obtain ⟨q4, eq4, hf6⟩ := ob_i hf5
      clear hf5
      refine j_aald (pc := 34) hc dX0_touches_34 (by decide) eq4 ?_
      refine j_astore_n (pc := 35) (L' := [(3, vr q4), (0, vr (some a0)), (2, vi x2)]) hc dX0_touches_35 rfl hnL (by decide) rfl ?_
      refine j_aload_n (pc := 36) hc dX0_touches_36 0 rfl rfl ?_
      refine j_ifnull (pc := 37) hc dX0_touches_37 (tgt := 138) rfl (fun hh => ?_) (fun a5 hh => ?_)
      · subst hh
        refine j_iinc (pc := 138) (L' := [(2, vi (x2 + (1))), (3, vr none), (0, vr (some a0))]) (v := (x2 + (1))) hc dX0_touches_138 2 rfl rfl hnL (by decide) rfl ?_
        refine j_goto (pc := 141) hc dX0_touches_141 (tgt := 21) rfl ?_
        refine j_loc (L' := [(0, vr (some a0)), (2, vi (x2 + (1)))]) [2, 0] rfl ?_
        exact hk_21 _ _ hf6
      · subst hh
        refine j_aload_n (pc := 40) hc dX0_touches_40 0 rfl rfl ?_
        obtain ⟨u6, eu6, hf7⟩ := ob_i hf6
        clear hf6
        obtain ⟨v8, T7, ev8, hf8⟩ := ob_c hf7
        clear hf7
        refine j_callV (pc := 41) (As := []) (rest := []) (st2 := [vi v8]) hc ho cw_X0_142 (c_X4_isMade ev8) (Rc.of (g_cls_ok eu6) (by decide) (by decide) ci_X4) hrm ⟨by decide, by decide⟩ rfl (Nat.le_of_ble_eq_true rfl) dX0_touches_41 rfl rfl ?_
        refine j_if_ne (pc := 44) hc dX0_touches_44 (tgt := 50) rfl (fun hh => ?_) (fun hh => ?_)
        · have hf9 := (if_neg hh).symm.trans hf8
          clear hf8
          refine j_aload_n (pc := 50) hc dX0_touches_50 1 rfl rfl ?_
          refine j_aload_n (pc := 51) hc dX0_touches_51 0 rfl rfl ?_
          obtain ⟨u9, eu9, hf10⟩ := ob_i hf9
          clear hf9
          obtain ⟨v11, T10, ev11, hf11⟩ := ob_c hf10
          clear hf10
          refine j_callV (pc := 52) (As := [vr (some a5)]) (rest := []) (st2 := [vi v11]) hc ho cw_X0_275 (c_X0_hangs ev11) (Rc.of (g_cls_ok eu9) (by decide) (by decide) ci_X0) hrm ⟨by decide, by decide⟩ rfl (Nat.le_of_ble_eq_true rfl) dX0_touches_52 rfl rfl ?_
          refine j_istore (pc := 55) (L' := [(4, vi v11), (3, vr (some a5)), (0, vr (some a0)), (2, vi x2)]) hc dX0_touches_55 hnL (by decide) rfl ?_
          refine j_iconst (pc := 57) (v := (0)) hc dX0_touches_57 rfl ?_
          refine j_istore (pc := 58) (L' := [(5, vi (0)), (4, vi v11), (3, vr (some a5)), (0, vr (some a0)), (2, vi x2)]) hc dX0_touches_58 hnL (by decide) rfl ?_
          refine j_loc (L' := [(0, vr (some a0)), (2, vi x2), (3, vr (some a5)), (4, vi v11), (5, vi (0))]) [3, 4, 2, 1, 0] rfl ?_
          exact w_X0_touches_n60 hc ho hnL hrm hre hct hq hk_21 fu_ _ _ _ _ _ hf11
        · have hf12 := (if_pos hh).symm.trans hf8
          clear hf8
          refine j_goto (pc := 47) hc dX0_touches_47 (tgt := 138) rfl ?_
          refine j_iinc (pc := 138) (L' := [(2, vi (x2 + (1))), (3, vr (some a5)), (0, vr (some a0))]) (v := (x2 + (1))) hc dX0_touches_138 2 rfl rfl hnL (by decide) rfl ?_
          refine j_goto (pc := 141) hc dX0_touches_141 (tgt := 21) rfl ?_
          refine j_loc (L' := [(0, vr (some a0)), (2, vi (x2 + (1)))]) [2, 0] rfl ?_
          exact hk_21 _ _ hf12
set_option maxRecDepth 100000 in
set_option maxHeartbeats 2000000 in
theorem c_X0_touches {l : Launch} {g : PG} {mo : MO} {a0 : Nat} {x1 : Int32} {S S1 : HS} (hf : f_X0_touches a0 x1 S = some S1) : (h_nx S ≤ h_nx S1 ∧ h_sl S ≤ h_sl S1) ∧ Ct l g yX0_touches (ws_ yX0_touches cX0_touches 7 none) 162 5005 S mo [vr (some a0), vi x1] none S1 mo := by
  refine met_of false (by decide) (fun h => by first | rfl | cases h) rfl (Nat.le_of_ble_eq_true rfl) (fun f hl hg hc ho hnL hrm hre hct hex hq => ?_)
  subst hl
  subst hg
  unfold f_X0_touches at hf
  refine j_aload_n (pc := 0) hc dX0_touches_0 0 rfl rfl ?_
  refine j_aload_n (pc := 1) hc dX0_touches_1 0 rfl rfl ?_
  obtain ⟨q1, eq1, hf1⟩ := ob_i hf
  clear hf
  refine j_getR (pc := 2) hc ho fa_X0_65_1 dX0_touches_2 eq1 ?_
  obtain ⟨u2, eu2, hf2⟩ := ob_i hf1
  clear hf1
  obtain ⟨T3, eT3, hf3⟩ := ob_i hf2
  clear hf2
  refine j_callV (pc := 5) (As := [vr q1]) (rest := []) (st2 := []) hc ho cw_X0_261 (c_X0_clear eT3) (Rc.of (g_cls_ok eu2) (by decide) (by decide) ci_X0) hrm ⟨by decide, by decide⟩ rfl (Nat.le_of_ble_eq_true rfl) dX0_touches_5 rfl rfl ?_
  refine j_aload_n (pc := 8) hc dX0_touches_8 0 rfl rfl ?_
  obtain ⟨q4, eq4, hf4⟩ := ob_i hf3
  clear hf3
  refine j_getR (pc := 9) hc ho fa_X0_65_1 dX0_touches_9 eq4 ?_
  refine j_iload_n (pc := 12) hc dX0_touches_12 1 rfl rfl ?_
  refine j_iconst (pc := 13) (v := (1)) hc dX0_touches_13 rfl ?_
  obtain ⟨a5, ea5, hf5⟩ := ob_i hf4
  clear hf4
  subst ea5
  obtain ⟨T6, eT6, hf6⟩ := ob_i hf5
  clear hf5
  refine j_zast (pc := 14) hc dX0_touches_14 eT6 ?_
  refine j_iload_n (pc := 15) hc dX0_touches_15 1 rfl rfl ?_
  refine j_iconst (pc := 16) (v := (3)) hc dX0_touches_16 rfl ?_
  refine j_ishr (pc := 17) hc dX0_touches_17 ?_
  refine j_iconst (pc := 18) (v := (1)) hc dX0_touches_18 rfl ?_
  refine j_iadd (pc := 19) hc dX0_touches_19 ?_
  refine j_istore_n (pc := 20) (L' := [(2, vi ((x1 >>> ((3) &&& 31)) + (1))), (0, vr (some a0)), (1, vi x1)]) hc dX0_touches_20 rfl hnL (by decide) rfl ?_
  refine j_loc (L' := [(0, vr (some a0)), (2, vi ((x1 >>> ((3) &&& 31)) + (1)))]) [1, 0] rfl ?_
  exact w_X0_touches_n21 hc ho hnL hrm hre hct hq fu_ _ _ hf6
theorem cw_X0_279 : CV "TableCatalog" 279 RX0 yX0_touches cX0_touches 7 none 1 := ⟨⟨q1078, q1080, qs34, q81, q1081⟩, rfl, by decide, by decide, by decide +kernel⟩
def f_X0_touch (a0 : Nat) (x1 : Int32) (x2 : Int32) (S : HS) : Option (Int32 × HS) :=
  (g_cls S 1 a0).bind fun u1 =>
  o_bd (f_X0_isColumn a0 x1 x2 S) fun v3 T2 =>
  if v3 = 0 then
    some ((-1), T2)
  else
    (g_cls T2 1 a0).bind fun u4 =>
    (f_X0_touches a0 (((8) * x1) + x2) T2).bind fun T5 =>
    (g_fR T5 1 13 a0).bind fun q6 =>
    (q6).bind fun a7 =>
    (p_aI T5 34 a7 (((8) * x1) + x2) (vp_nar .boolean (0))).bind fun T8 =>
    (g_fR T8 1 13 a0).bind fun q9 =>
    (g_cls T8 1 a0).bind fun u10 =>
    o_bd (f_X0_tells a0 q9 (0) T8) fun v12 T11 =>
    some (v12, T11)
set_option maxRecDepth 100000 in
set_option maxHeartbeats 2000000 in
theorem c_X0_touch {l : Launch} {g : PG} {mo : MO} {a0 : Nat} {x1 : Int32} {x2 : Int32} {r : Int32} {S S1 : HS} (hf : f_X0_touch a0 x1 x2 S = some (r, S1)) : (h_nx S ≤ h_nx S1 ∧ h_sl S ≤ h_sl S1) ∧ Ct l g yX0_touch (ws_ yX0_touch cX0_touch 3 (some (.int))) 163 5031 S mo [vr (some a0), vi x1, vi x2] (some (vi r)) S1 mo := by
  refine met_of false (by decide) (fun h => by first | rfl | cases h) rfl (Nat.le_of_ble_eq_true rfl) (fun f hl hg hc ho hnL hrm hre hct hex hq => ?_)
  subst hl
  subst hg
  unfold f_X0_touch at hf
  refine j_aload_n (pc := 0) hc dX0_touch_0 0 rfl rfl ?_
  refine j_iload_n (pc := 1) hc dX0_touch_1 1 rfl rfl ?_
  refine j_iload_n (pc := 2) hc dX0_touch_2 2 rfl rfl ?_
  obtain ⟨u1, eu1, hf1⟩ := ob_i hf
  clear hf
  obtain ⟨v3, T2, ev3, hf2⟩ := ob_c hf1
  clear hf1
  refine j_callV (pc := 3) (As := [vi x1, vi x2]) (rest := []) (st2 := [vi v3]) hc ho cw_X0_250 (c_X0_isColumn ev3) (Rc.of (g_cls_ok eu1) (by decide) (by decide) ci_X0) hrm ⟨by decide, by decide⟩ rfl (Nat.le_of_ble_eq_true rfl) dX0_touch_3 rfl rfl ?_
  refine j_if_ne (pc := 6) hc dX0_touch_6 (tgt := 11) rfl (fun hh => ?_) (fun hh => ?_)
  · have hf3 := (if_neg hh).symm.trans hf2
    clear hf2
    refine j_aload_n (pc := 11) hc dX0_touch_11 0 rfl rfl ?_
    refine j_bipush (pc := 12) (v := (8)) hc dX0_touch_12 rfl ?_
    refine j_iload_n (pc := 14) hc dX0_touch_14 1 rfl rfl ?_
    refine j_imul (pc := 15) hc dX0_touch_15 ?_
    refine j_iload_n (pc := 16) hc dX0_touch_16 2 rfl rfl ?_
    refine j_iadd (pc := 17) hc dX0_touch_17 ?_
    obtain ⟨u4, eu4, hf4⟩ := ob_i hf3
    clear hf3
    obtain ⟨T5, eT5, hf5⟩ := ob_i hf4
    clear hf4
    refine j_callV (pc := 18) (As := [vi (((8) * x1) + x2)]) (rest := []) (st2 := []) hc ho cw_X0_279 (c_X0_touches eT5) (Rc.of (g_cls_ok eu4) (by decide) (by decide) ci_X0) hrm ⟨by decide, by decide⟩ rfl (Nat.le_of_ble_eq_true rfl) dX0_touch_18 rfl rfl ?_
    refine j_aload_n (pc := 21) hc dX0_touch_21 0 rfl rfl ?_
    obtain ⟨q6, eq6, hf6⟩ := ob_i hf5
    clear hf5
    refine j_getR (pc := 22) hc ho fa_X0_65_1 dX0_touch_22 eq6 ?_
    refine j_bipush (pc := 25) (v := (8)) hc dX0_touch_25 rfl ?_
    refine j_iload_n (pc := 27) hc dX0_touch_27 1 rfl rfl ?_
    refine j_imul (pc := 28) hc dX0_touch_28 ?_
    refine j_iload_n (pc := 29) hc dX0_touch_29 2 rfl rfl ?_
    refine j_iadd (pc := 30) hc dX0_touch_30 ?_
    refine j_iconst (pc := 31) (v := (0)) hc dX0_touch_31 rfl ?_
    obtain ⟨a7, ea7, hf7⟩ := ob_i hf6
    clear hf6
    subst ea7
    obtain ⟨T8, eT8, hf8⟩ := ob_i hf7
    clear hf7
    refine j_zast (pc := 32) hc dX0_touch_32 eT8 ?_
    refine j_aload_n (pc := 33) hc dX0_touch_33 0 rfl rfl ?_
    refine j_aload_n (pc := 34) hc dX0_touch_34 0 rfl rfl ?_
    obtain ⟨q9, eq9, hf9⟩ := ob_i hf8
    clear hf8
    refine j_getR (pc := 35) hc ho fa_X0_65_1 dX0_touch_35 eq9 ?_
    refine j_iconst (pc := 38) (v := (0)) hc dX0_touch_38 rfl ?_
    obtain ⟨u10, eu10, hf10⟩ := ob_i hf9
    clear hf9
    obtain ⟨v12, T11, ev12, hf11⟩ := ob_c hf10
    clear hf10
    refine j_callV (pc := 39) (As := [vr q9, vi (0)]) (rest := []) (st2 := [vi v12]) hc ho cw_X0_267 (c_X0_tells ev12) (Rc.of (g_cls_ok eu10) (by decide) (by decide) ci_X0) hrm ⟨by decide, by decide⟩ rfl (Nat.le_of_ble_eq_true rfl) dX0_touch_39 rfl rfl ?_
    cases hf11
    exact j_iret (pc := 42) hc hq hre rfl dX0_touch_42
  · have hf12 := (if_pos hh).symm.trans hf2
    clear hf2
    refine j_iconst (pc := 9) (v := (-1)) hc dX0_touch_9 rfl ?_
    cases hf12
    exact j_iret (pc := 10) hc hq hre rfl dX0_touch_10
theorem fa_X0_53_1 : FA "TableCatalog" 53 1 2 11 (.array (.array .int)) 2 := ⟨RX0, TX0, 15, tyX0, 10, "TableCatalog", CI_X0, by decide, rfl, rfl, by decide +kernel, Or.inl ⟨q293, fun _ => ⟨rfl, rfl⟩⟩, fun h => (by cases h), Or.inl rfl⟩
theorem fa_X0_282_1 : FA "TableCatalog" 282 1 0 4 (.int) 1 := ⟨RX0, TX0, 15, tyX0, 3, "TableCatalog", CI_X0, by decide, rfl, rfl, by decide +kernel, Or.inl ⟨q286, fun h => (by cases h)⟩, fun _ => rfl, Or.inl rfl⟩
def f_X0_asked_n105 (k_28 : Int32 → HS → Option (Int32 × HS)) (k_42 : Int32 → Int32 → Int32 → HS → Option (Int32 × HS)) (a0 : Nat) (x3 : Int32) (x5 : Int32) (S : HS) : Option (Int32 × HS) :=
  k_42 x3 (1) (x5 + (1)) S
def f_X0_asked_n109 (k_28 : Int32 → HS → Option (Int32 × HS)) (k_42 : Int32 → Int32 → Int32 → HS → Option (Int32 × HS)) (a0 : Nat) (x3 : Int32) (x5 : Int32) (S : HS) : Option (Int32 × HS) :=
  k_42 x3 (0) (x5 + (1)) S
def f_X0_asked_n118 (k_28 : Int32 → HS → Option (Int32 × HS)) (a0 : Nat) (x3 : Int32) (x4 : Int32) (S : HS) : Option (Int32 × HS) :=
  if x4 = 0 then
    k_28 (x3 + (1)) S
  else
    (g_fR S 1 10 a0).bind fun q1 =>
    (g_fI S 1 5 a0).bind fun v2 =>
    (q1).bind fun a3 =>
    (p_aI S 31 a3 v2 x3).bind fun T4 =>
    (g_fI T4 1 5 a0).bind fun v5 =>
    (p_fI T4 1 5 a0 (v5 + (1))).bind fun T6 =>
    k_28 (x3 + (1)) T6
def f_X0_asked_n42 (k_28 : Int32 → HS → Option (Int32 × HS)) (a0 : Nat) : Nat → Int32 → Int32 → Int32 → HS → Option (Int32 × HS)
  | 0, _, _, _, _ => none
  | n + 1, x3, x4, x5, S =>
    if (6) ≤ x5 then
      f_X0_asked_n118 k_28 a0 x3 x4 S
    else
      (g_fR S 1 11 a0).bind fun q1 =>
      (q1).bind fun a2 =>
      (g_aR S 37 a2 x3).bind fun q3 =>
      (q3).bind fun a4 =>
      (g_aI S 31 a4 (1)).bind fun v5 =>
      if v5 = (-1) then
        f_X0_asked_n118 k_28 a0 x3 x4 S
      else
        if x4 = 0 then
          (g_fR S 1 11 a0).bind fun q6 =>
          (q6).bind fun a7 =>
          (g_aR S 37 a7 x3).bind fun q8 =>
          (q8).bind fun a9 =>
          (g_aI S 31 a9 (2)).bind fun v10 =>
          if ((v10 >>> (x5 &&& 31)) &&& (1)) = (1) then
            (g_fR S 1 13 a0).bind fun q11 =>
            (g_fR S 1 11 a0).bind fun q12 =>
            (q12).bind fun a13 =>
            (g_aR S 37 a13 x3).bind fun q14 =>
            (q14).bind fun a15 =>
            (g_aI S 31 a15 (1)).bind fun v16 =>
            (q11).bind fun a17 =>
            (g_aI S 34 a17 (((8) * v16) + x5)).bind fun v18 =>
            if v18 = 0 then
              f_X0_asked_n109 k_28 (fun x3 x4 x5 S => f_X0_asked_n42 k_28 a0 n x3 x4 x5 S) a0 x3 x5 S
            else
              f_X0_asked_n105 k_28 (fun x3 x4 x5 S => f_X0_asked_n42 k_28 a0 n x3 x4 x5 S) a0 x3 x5 S
          else
            f_X0_asked_n109 k_28 (fun x3 x4 x5 S => f_X0_asked_n42 k_28 a0 n x3 x4 x5 S) a0 x3 x5 S
        else
          f_X0_asked_n105 k_28 (fun x3 x4 x5 S => f_X0_asked_n42 k_28 a0 n x3 x4 x5 S) a0 x3 x5 S
def f_X0_asked_n28 (a0 : Nat) : Nat → Int32 → HS → Option (Int32 × HS)
  | 0, _, _ => none
  | n + 1, x3, S =>
    (g_fI S 1 4 a0).bind fun v1 =>
    if v1 ≤ x3 then
      (g_fI S 1 5 a0).bind fun v2 =>
      some (v2, S)
    else
      f_X0_asked_n42 (fun x3 S => f_X0_asked_n28 a0 n x3 S) a0 fu_ x3 (0) (0) S
def f_X0_asked (a0 : Nat) (x1 : Int32) (x2 : Int32) (S : HS) : Option (Int32 × HS) :=
  (g_cls S 1 a0).bind fun u1 =>
  o_bd (f_X0_isColumn a0 x1 x2 S) fun v3 T2 =>
  if v3 = 0 then
    some ((-1), T2)
  else
    (g_cls T2 1 a0).bind fun u4 =>
    (f_X0_touches a0 (((8) * x1) + x2) T2).bind fun T5 =>
    (p_fI T5 1 5 a0 (0)).bind fun T6 =>
    f_X0_asked_n28 a0 fu_ (0) T6
set_option maxRecDepth 100000 in
set_option maxHeartbeats 2000000 in
theorem w_X0_asked_n105 {f : CfT} {mo : MO} {a0 : Nat} {r : Int32} {S1 : HS} (hc : cf_cc f = cX0_asked) (ho : cf_ow f = "TableCatalog") (hnL : cf_nL f = 6) (hrm : cf_rm f = (163, 5031)) (hre : cf_re f = (some (.int))) (hct : cf_ct f = false) (hq : Qok f (some (vi r)) S1 mo) {k_28 : Int32 → HS → Option (Int32 × HS)} (hk_28 : ∀ (x3 : Int32) (S : HS), k_28 x3 S = some (r, S1) → JJ f S mo 28 [(0, vr (some a0)), (3, vi x3)] []) {k_42 : Int32 → Int32 → Int32 → HS → Option (Int32 × HS)} (hk_42 : ∀ (x3 : Int32) (x4 : Int32) (x5 : Int32) (S : HS), k_42 x3 x4 x5 S = some (r, S1) → JJ f S mo 42 [(0, vr (some a0)), (3, vi x3), (4, vi x4), (5, vi x5)] []) {x3 : Int32} {x5 : Int32} {S : HS} (hf : f_X0_asked_n105 k_28 k_42 a0 x3 x5 S = some (r, S1)) : JJ f S mo 105 [(0, vr (some a0)), (3, vi x3), (5, vi x5)] [] := by
  unfold f_X0_asked_n105 at hf
  refine j_iconst (pc := 105) (v := (1)) hc dX0_asked_105 rfl ?_
  refine j_goto (pc := 106) hc dX0_asked_106 (tgt := 110) rfl ?_
  refine j_istore (pc := 110) (L' := [(4, vi (1)), (0, vr (some a0)), (3, vi x3), (5, vi x5)]) hc dX0_asked_110 hnL (by decide) rfl ?_
  refine j_iinc (pc := 112) (L' := [(5, vi (x5 + (1))), (4, vi (1)), (0, vr (some a0)), (3, vi x3)]) (v := (x5 + (1))) hc dX0_asked_112 3 rfl rfl hnL (by decide) rfl ?_
  refine j_goto (pc := 115) hc dX0_asked_115 (tgt := 42) rfl ?_
  refine j_loc (L' := [(0, vr (some a0)), (3, vi x3), (4, vi (1)), (5, vi (x5 + (1)))]) [2, 3, 1, 0] rfl ?_
  exact hk_42 _ _ _ _ hf
set_option maxRecDepth 100000 in
set_option maxHeartbeats 2000000 in
theorem w_X0_asked_n109 {f : CfT} {mo : MO} {a0 : Nat} {r : Int32} {S1 : HS} (hc : cf_cc f = cX0_asked) (ho : cf_ow f = "TableCatalog") (hnL : cf_nL f = 6) (hrm : cf_rm f = (163, 5031)) (hre : cf_re f = (some (.int))) (hct : cf_ct f = false) (hq : Qok f (some (vi r)) S1 mo) {k_28 : Int32 → HS → Option (Int32 × HS)} (hk_28 : ∀ (x3 : Int32) (S : HS), k_28 x3 S = some (r, S1) → JJ f S mo 28 [(0, vr (some a0)), (3, vi x3)] []) {k_42 : Int32 → Int32 → Int32 → HS → Option (Int32 × HS)} (hk_42 : ∀ (x3 : Int32) (x4 : Int32) (x5 : Int32) (S : HS), k_42 x3 x4 x5 S = some (r, S1) → JJ f S mo 42 [(0, vr (some a0)), (3, vi x3), (4, vi x4), (5, vi x5)] []) {x3 : Int32} {x5 : Int32} {S : HS} (hf : f_X0_asked_n109 k_28 k_42 a0 x3 x5 S = some (r, S1)) : JJ f S mo 109 [(0, vr (some a0)), (3, vi x3), (5, vi x5)] [] := by
  unfold f_X0_asked_n109 at hf
  refine j_iconst (pc := 109) (v := (0)) hc dX0_asked_109 rfl ?_
  refine j_istore (pc := 110) (L' := [(4, vi (0)), (0, vr (some a0)), (3, vi x3), (5, vi x5)]) hc dX0_asked_110 hnL (by decide) rfl ?_
  refine j_iinc (pc := 112) (L' := [(5, vi (x5 + (1))), (4, vi (0)), (0, vr (some a0)), (3, vi x3)]) (v := (x5 + (1))) hc dX0_asked_112 3 rfl rfl hnL (by decide) rfl ?_
  refine j_goto (pc := 115) hc dX0_asked_115 (tgt := 42) rfl ?_
  refine j_loc (L' := [(0, vr (some a0)), (3, vi x3), (4, vi (0)), (5, vi (x5 + (1)))]) [2, 3, 1, 0] rfl ?_
  exact hk_42 _ _ _ _ hf
set_option maxRecDepth 100000 in
set_option maxHeartbeats 2000000 in
theorem w_X0_asked_n118 {f : CfT} {mo : MO} {a0 : Nat} {r : Int32} {S1 : HS} (hc : cf_cc f = cX0_asked) (ho : cf_ow f = "TableCatalog") (hnL : cf_nL f = 6) (hrm : cf_rm f = (163, 5031)) (hre : cf_re f = (some (.int))) (hct : cf_ct f = false) (hq : Qok f (some (vi r)) S1 mo) {k_28 : Int32 → HS → Option (Int32 × HS)} (hk_28 : ∀ (x3 : Int32) (S : HS), k_28 x3 S = some (r, S1) → JJ f S mo 28 [(0, vr (some a0)), (3, vi x3)] []) {x3 : Int32} {x4 : Int32} {S : HS} (hf : f_X0_asked_n118 k_28 a0 x3 x4 S = some (r, S1)) : JJ f S mo 118 [(0, vr (some a0)), (3, vi x3), (4, vi x4)] [] := by
  unfold f_X0_asked_n118 at hf
  refine j_iload (pc := 118) hc dX0_asked_118 2 rfl ?_
  refine j_if_ne (pc := 120) hc dX0_asked_120 (tgt := 126) rfl (fun hh => ?_) (fun hh => ?_)
  · have hf1 := (if_neg hh).symm.trans hf
    clear hf
    refine j_aload_n (pc := 126) hc dX0_asked_126 0 rfl rfl ?_
    obtain ⟨q1, eq1, hf2⟩ := ob_i hf1
    clear hf1
    refine j_getR (pc := 127) hc ho fa_X0_47_1 dX0_asked_127 eq1 ?_
    refine j_aload_n (pc := 130) hc dX0_asked_130 0 rfl rfl ?_
    obtain ⟨v2, ev2, hf3⟩ := ob_i hf2
    clear hf2
    refine j_getI (pc := 131) hc ho fa_X0_254_1 dX0_asked_131 ev2 ?_
    refine j_iload_n (pc := 134) hc dX0_asked_134 1 rfl rfl ?_
    obtain ⟨a3, ea3, hf4⟩ := ob_i hf3
    clear hf3
    subst ea3
    obtain ⟨T4, eT4, hf5⟩ := ob_i hf4
    clear hf4
    refine j_iast (pc := 135) hc dX0_asked_135 eT4 ?_
    refine j_aload_n (pc := 136) hc dX0_asked_136 0 rfl rfl ?_
    refine j_dup (pc := 137) hc dX0_asked_137 rfl ?_
    obtain ⟨v5, ev5, hf6⟩ := ob_i hf5
    clear hf5
    refine j_getI (pc := 138) hc ho fa_X0_254_1 dX0_asked_138 ev5 ?_
    refine j_iconst (pc := 141) (v := (1)) hc dX0_asked_141 rfl ?_
    refine j_iadd (pc := 142) hc dX0_asked_142 ?_
    obtain ⟨T6, eT6, hf7⟩ := ob_i hf6
    clear hf6
    refine j_putI (pc := 143) hc ho fa_X0_254_1 (Or.inl rfl) dX0_asked_143 eT6 ?_
    refine j_iinc (pc := 146) (L' := [(3, vi (x3 + (1))), (0, vr (some a0)), (4, vi x4)]) (v := (x3 + (1))) hc dX0_asked_146 1 rfl rfl hnL (by decide) rfl ?_
    refine j_goto (pc := 149) hc dX0_asked_149 (tgt := 28) rfl ?_
    refine j_loc (L' := [(0, vr (some a0)), (3, vi (x3 + (1)))]) [1, 0] rfl ?_
    exact hk_28 _ _ hf7
  · have hf8 := (if_pos hh).symm.trans hf
    clear hf
    refine j_goto (pc := 123) hc dX0_asked_123 (tgt := 146) rfl ?_
    refine j_iinc (pc := 146) (L' := [(3, vi (x3 + (1))), (0, vr (some a0)), (4, vi x4)]) (v := (x3 + (1))) hc dX0_asked_146 1 rfl rfl hnL (by decide) rfl ?_
    refine j_goto (pc := 149) hc dX0_asked_149 (tgt := 28) rfl ?_
    refine j_loc (L' := [(0, vr (some a0)), (3, vi (x3 + (1)))]) [1, 0] rfl ?_
    exact hk_28 _ _ hf8
set_option maxRecDepth 100000 in
set_option maxHeartbeats 2000000 in
theorem w_X0_asked_n42 {f : CfT} {mo : MO} {a0 : Nat} {r : Int32} {S1 : HS} (hc : cf_cc f = cX0_asked) (ho : cf_ow f = "TableCatalog") (hnL : cf_nL f = 6) (hrm : cf_rm f = (163, 5031)) (hre : cf_re f = (some (.int))) (hct : cf_ct f = false) (hq : Qok f (some (vi r)) S1 mo) {k_28 : Int32 → HS → Option (Int32 × HS)} (hk_28 : ∀ (x3 : Int32) (S : HS), k_28 x3 S = some (r, S1) → JJ f S mo 28 [(0, vr (some a0)), (3, vi x3)] []) : ∀ (n : Nat) (x3 : Int32) (x4 : Int32) (x5 : Int32) (S : HS), f_X0_asked_n42 k_28 a0 n x3 x4 x5 S = some (r, S1) → JJ f S mo 42 [(0, vr (some a0)), (3, vi x3), (4, vi x4), (5, vi x5)] [] := by
  intro n
  induction n with
  | zero =>
    intro x3 x4 x5 S hf
    have hf : (none : Option (Int32 × HS)) = some (r, S1) := hf
    cases hf
  | succ n ih =>
    intro x3 x4 x5 S hf
    unfold f_X0_asked_n42 at hf
    have hk_42 := ih
    refine j_iload (pc := 42) hc dX0_asked_42 3 rfl ?_
    refine j_bipush (pc := 44) (v := (6)) hc dX0_asked_44 rfl ?_
    refine j_icmp_ge (pc := 46) hc dX0_asked_46 (tgt := 118) rfl (fun hh => ?_) (fun hh => ?_)
    · have hf1 := (if_pos hh).symm.trans hf
      clear hf
      refine j_loc (L' := [(0, vr (some a0)), (3, vi x3), (4, vi x4)]) [0, 1, 2] rfl ?_
      exact w_X0_asked_n118 hc ho hnL hrm hre hct hq hk_28 hf1
    · have hf2 := (if_neg hh).symm.trans hf
      clear hf
      refine j_aload_n (pc := 49) hc dX0_asked_49 0 rfl rfl ?_
      obtain ⟨q1, eq1, hf3⟩ := ob_i hf2
      clear hf2
      refine j_getR (pc := 50) hc ho fa_X0_53_1 dX0_asked_50 eq1 ?_
      refine j_iload_n (pc := 53) hc dX0_asked_53 1 rfl rfl ?_
      obtain ⟨a2, ea2, hf4⟩ := ob_i hf3
      clear hf3
      subst ea2
      obtain ⟨q3, eq3, hf5⟩ := ob_i hf4
      clear hf4
      refine j_aald (pc := 54) hc dX0_asked_54 (by decide) eq3 ?_
      refine j_iconst (pc := 55) (v := (1)) hc dX0_asked_55 rfl ?_
      obtain ⟨a4, ea4, hf6⟩ := ob_i hf5
      clear hf5
      subst ea4
      obtain ⟨v5, ev5, hf7⟩ := ob_i hf6
      clear hf6
      refine j_iald (pc := 56) hc dX0_asked_56 ev5 ?_
      refine j_iconst (pc := 57) (v := (-1)) hc dX0_asked_57 rfl ?_
      refine j_icmp_eq (pc := 58) hc dX0_asked_58 (tgt := 118) rfl (fun hh => ?_) (fun hh => ?_)
      · have hf8 := (if_pos hh).symm.trans hf7
        clear hf7
        refine j_loc (L' := [(0, vr (some a0)), (3, vi x3), (4, vi x4)]) [0, 1, 2] rfl ?_
        exact w_X0_asked_n118 hc ho hnL hrm hre hct hq hk_28 hf8
      · have hf9 := (if_neg hh).symm.trans hf7
        clear hf7
        refine j_iload (pc := 61) hc dX0_asked_61 2 rfl ?_
        refine j_if_ne (pc := 63) hc dX0_asked_63 (tgt := 105) rfl (fun hh => ?_) (fun hh => ?_)
        · have hf10 := (if_neg hh).symm.trans hf9
          clear hf9
          refine j_loc (L' := [(0, vr (some a0)), (3, vi x3), (5, vi x5)]) [0, 1, 3] rfl ?_
          exact w_X0_asked_n105 hc ho hnL hrm hre hct hq hk_28 hk_42 hf10
        · have hf11 := (if_pos hh).symm.trans hf9
          clear hf9
          refine j_aload_n (pc := 66) hc dX0_asked_66 0 rfl rfl ?_
          obtain ⟨q6, eq6, hf12⟩ := ob_i hf11
          clear hf11
          refine j_getR (pc := 67) hc ho fa_X0_53_1 dX0_asked_67 eq6 ?_
          refine j_iload_n (pc := 70) hc dX0_asked_70 1 rfl rfl ?_
          obtain ⟨a7, ea7, hf13⟩ := ob_i hf12
          clear hf12
          subst ea7
          obtain ⟨q8, eq8, hf14⟩ := ob_i hf13
          clear hf13
          refine j_aald (pc := 71) hc dX0_asked_71 (by decide) eq8 ?_
          refine j_iconst (pc := 72) (v := (2)) hc dX0_asked_72 rfl ?_
          obtain ⟨a9, ea9, hf15⟩ := ob_i hf14
          clear hf14
          subst ea9
          obtain ⟨v10, ev10, hf16⟩ := ob_i hf15
          clear hf15
          refine j_iald (pc := 73) hc dX0_asked_73 ev10 ?_
          refine j_iload (pc := 74) hc dX0_asked_74 3 rfl ?_
          refine j_ishr (pc := 76) hc dX0_asked_76 ?_
          refine j_iconst (pc := 77) (v := (1)) hc dX0_asked_77 rfl ?_
          refine j_iand (pc := 78) hc dX0_asked_78 ?_
          refine j_iconst (pc := 79) (v := (1)) hc dX0_asked_79 rfl ?_
          refine j_icmp_ne (pc := 80) hc dX0_asked_80 (tgt := 109) rfl (fun hh => ?_) (fun hh => ?_)
          · have hf17 := (if_neg hh).symm.trans hf16
            clear hf16
            refine j_loc (L' := [(0, vr (some a0)), (3, vi x3), (5, vi x5)]) [0, 1, 3] rfl ?_
            exact w_X0_asked_n109 hc ho hnL hrm hre hct hq hk_28 hk_42 hf17
          · have hf18 := (if_pos hh).symm.trans hf16
            clear hf16
            refine j_aload_n (pc := 83) hc dX0_asked_83 0 rfl rfl ?_
            obtain ⟨q11, eq11, hf19⟩ := ob_i hf18
            clear hf18
            refine j_getR (pc := 84) hc ho fa_X0_65_1 dX0_asked_84 eq11 ?_
            refine j_bipush (pc := 87) (v := (8)) hc dX0_asked_87 rfl ?_
            refine j_aload_n (pc := 89) hc dX0_asked_89 0 rfl rfl ?_
            obtain ⟨q12, eq12, hf20⟩ := ob_i hf19
            clear hf19
            refine j_getR (pc := 90) hc ho fa_X0_53_1 dX0_asked_90 eq12 ?_
            refine j_iload_n (pc := 93) hc dX0_asked_93 1 rfl rfl ?_
            obtain ⟨a13, ea13, hf21⟩ := ob_i hf20
            clear hf20
            subst ea13
            obtain ⟨q14, eq14, hf22⟩ := ob_i hf21
            clear hf21
            refine j_aald (pc := 94) hc dX0_asked_94 (by decide) eq14 ?_
            refine j_iconst (pc := 95) (v := (1)) hc dX0_asked_95 rfl ?_
            obtain ⟨a15, ea15, hf23⟩ := ob_i hf22
            clear hf22
            subst ea15
            obtain ⟨v16, ev16, hf24⟩ := ob_i hf23
            clear hf23
            refine j_iald (pc := 96) hc dX0_asked_96 ev16 ?_
            refine j_imul (pc := 97) hc dX0_asked_97 ?_
            refine j_iload (pc := 98) hc dX0_asked_98 3 rfl ?_
            refine j_iadd (pc := 100) hc dX0_asked_100 ?_
            obtain ⟨a17, ea17, hf25⟩ := ob_i hf24
            clear hf24
            subst ea17
            obtain ⟨v18, ev18, hf26⟩ := ob_i hf25
            clear hf25
            refine j_zald (pc := 101) hc dX0_asked_101 ev18 ?_
            refine j_if_eq (pc := 102) hc dX0_asked_102 (tgt := 109) rfl (fun hh => ?_) (fun hh => ?_)
            · have hf27 := (if_pos hh).symm.trans hf26
              clear hf26
              refine j_loc (L' := [(0, vr (some a0)), (3, vi x3), (5, vi x5)]) [0, 1, 3] rfl ?_
              exact w_X0_asked_n109 hc ho hnL hrm hre hct hq hk_28 hk_42 hf27
            · have hf28 := (if_neg hh).symm.trans hf26
              clear hf26
              refine j_loc (L' := [(0, vr (some a0)), (3, vi x3), (5, vi x5)]) [0, 1, 3] rfl ?_
              exact w_X0_asked_n105 hc ho hnL hrm hre hct hq hk_28 hk_42 hf28
set_option maxRecDepth 100000 in
set_option maxHeartbeats 2000000 in
theorem w_X0_asked_n28 {f : CfT} {mo : MO} {a0 : Nat} {r : Int32} {S1 : HS} (hc : cf_cc f = cX0_asked) (ho : cf_ow f = "TableCatalog") (hnL : cf_nL f = 6) (hrm : cf_rm f = (163, 5031)) (hre : cf_re f = (some (.int))) (hct : cf_ct f = false) (hq : Qok f (some (vi r)) S1 mo) : ∀ (n : Nat) (x3 : Int32) (S : HS), f_X0_asked_n28 a0 n x3 S = some (r, S1) → JJ f S mo 28 [(0, vr (some a0)), (3, vi x3)] [] := by
  intro n
  induction n with
  | zero =>
    intro x3 S hf
    have hf : (none : Option (Int32 × HS)) = some (r, S1) := hf
    cases hf
  | succ n ih =>
    intro x3 S hf
    unfold f_X0_asked_n28 at hf
    have hk_28 := ih
    refine j_iload_n (pc := 28) hc dX0_asked_28 1 rfl rfl ?_
    refine j_aload_n (pc := 29) hc dX0_asked_29 0 rfl rfl ?_
    obtain ⟨v1, ev1, hf1⟩ := ob_i hf
    clear hf
    refine j_getI (pc := 30) hc ho fa_X0_282_1 dX0_asked_30 ev1 ?_
    refine j_icmp_ge (pc := 33) hc dX0_asked_33 (tgt := 152) rfl (fun hh => ?_) (fun hh => ?_)
    · have hf2 := (if_pos hh).symm.trans hf1
      clear hf1
      refine j_aload_n (pc := 152) hc dX0_asked_152 0 rfl rfl ?_
      obtain ⟨v2, ev2, hf3⟩ := ob_i hf2
      clear hf2
      refine j_getI (pc := 153) hc ho fa_X0_254_1 dX0_asked_153 ev2 ?_
      cases hf3
      exact j_iret (pc := 156) hc hq hre rfl dX0_asked_156
    · have hf4 := (if_neg hh).symm.trans hf1
      clear hf1
      refine j_iconst (pc := 36) (v := (0)) hc dX0_asked_36 rfl ?_
      refine j_istore (pc := 37) (L' := [(4, vi (0)), (0, vr (some a0)), (3, vi x3)]) hc dX0_asked_37 hnL (by decide) rfl ?_
      refine j_iconst (pc := 39) (v := (0)) hc dX0_asked_39 rfl ?_
      refine j_istore (pc := 40) (L' := [(5, vi (0)), (4, vi (0)), (0, vr (some a0)), (3, vi x3)]) hc dX0_asked_40 hnL (by decide) rfl ?_
      refine j_loc (L' := [(0, vr (some a0)), (3, vi x3), (4, vi (0)), (5, vi (0))]) [2, 3, 1, 0] rfl ?_
      exact w_X0_asked_n42 hc ho hnL hrm hre hct hq hk_28 fu_ _ _ _ _ hf4
set_option maxRecDepth 100000 in
set_option maxHeartbeats 2000000 in
theorem c_X0_asked {l : Launch} {g : PG} {mo : MO} {a0 : Nat} {x1 : Int32} {x2 : Int32} {r : Int32} {S S1 : HS} (hf : f_X0_asked a0 x1 x2 S = some (r, S1)) : (h_nx S ≤ h_nx S1 ∧ h_sl S ≤ h_sl S1) ∧ Ct l g yX0_asked (ws_ yX0_asked cX0_asked 6 (some (.int))) 163 5031 S mo [vr (some a0), vi x1, vi x2] (some (vi r)) S1 mo := by
  refine met_of false (by decide) (fun h => by first | rfl | cases h) rfl (Nat.le_of_ble_eq_true rfl) (fun f hl hg hc ho hnL hrm hre hct hex hq => ?_)
  subst hl
  subst hg
  unfold f_X0_asked at hf
  refine j_aload_n (pc := 0) hc dX0_asked_0 0 rfl rfl ?_
  refine j_iload_n (pc := 1) hc dX0_asked_1 1 rfl rfl ?_
  refine j_iload_n (pc := 2) hc dX0_asked_2 2 rfl rfl ?_
  obtain ⟨u1, eu1, hf1⟩ := ob_i hf
  clear hf
  obtain ⟨v3, T2, ev3, hf2⟩ := ob_c hf1
  clear hf1
  refine j_callV (pc := 3) (As := [vi x1, vi x2]) (rest := []) (st2 := [vi v3]) hc ho cw_X0_250 (c_X0_isColumn ev3) (Rc.of (g_cls_ok eu1) (by decide) (by decide) ci_X0) hrm ⟨by decide, by decide⟩ rfl (Nat.le_of_ble_eq_true rfl) dX0_asked_3 rfl rfl ?_
  refine j_if_ne (pc := 6) hc dX0_asked_6 (tgt := 11) rfl (fun hh => ?_) (fun hh => ?_)
  · have hf3 := (if_neg hh).symm.trans hf2
    clear hf2
    refine j_aload_n (pc := 11) hc dX0_asked_11 0 rfl rfl ?_
    refine j_bipush (pc := 12) (v := (8)) hc dX0_asked_12 rfl ?_
    refine j_iload_n (pc := 14) hc dX0_asked_14 1 rfl rfl ?_
    refine j_imul (pc := 15) hc dX0_asked_15 ?_
    refine j_iload_n (pc := 16) hc dX0_asked_16 2 rfl rfl ?_
    refine j_iadd (pc := 17) hc dX0_asked_17 ?_
    obtain ⟨u4, eu4, hf4⟩ := ob_i hf3
    clear hf3
    obtain ⟨T5, eT5, hf5⟩ := ob_i hf4
    clear hf4
    refine j_callV (pc := 18) (As := [vi (((8) * x1) + x2)]) (rest := []) (st2 := []) hc ho cw_X0_279 (c_X0_touches eT5) (Rc.of (g_cls_ok eu4) (by decide) (by decide) ci_X0) hrm ⟨by decide, by decide⟩ rfl (Nat.le_of_ble_eq_true rfl) dX0_asked_18 rfl rfl ?_
    refine j_aload_n (pc := 21) hc dX0_asked_21 0 rfl rfl ?_
    refine j_iconst (pc := 22) (v := (0)) hc dX0_asked_22 rfl ?_
    obtain ⟨T6, eT6, hf6⟩ := ob_i hf5
    clear hf5
    refine j_putI (pc := 23) hc ho fa_X0_254_1 (Or.inl rfl) dX0_asked_23 eT6 ?_
    refine j_iconst (pc := 26) (v := (0)) hc dX0_asked_26 rfl ?_
    refine j_istore_n (pc := 27) (L' := [(3, vi (0)), (0, vr (some a0)), (1, vi x1), (2, vi x2)]) hc dX0_asked_27 rfl hnL (by decide) rfl ?_
    refine j_loc (L' := [(0, vr (some a0)), (3, vi (0))]) [1, 0] rfl ?_
    exact w_X0_asked_n28 hc ho hnL hrm hre hct hq fu_ _ _ hf6
  · have hf7 := (if_pos hh).symm.trans hf2
    clear hf2
    refine j_iconst (pc := 9) (v := (-1)) hc dX0_asked_9 rfl ?_
    cases hf7
    exact j_iret (pc := 10) hc hq hre rfl dX0_asked_10
def f_X0_found (a0 : Nat) (x1 : Int32) (S : HS) : Option (Int32 × HS) :=
  if x1 < 0 then
    some ((-1), S)
  else
    (g_fI S 1 5 a0).bind fun v1 =>
    if x1 < v1 then
      (g_fR S 1 10 a0).bind fun q2 =>
      (q2).bind fun a3 =>
      (g_aI S 31 a3 x1).bind fun v4 =>
      some (v4, S)
    else
      some ((-1), S)
set_option maxRecDepth 100000 in
set_option maxHeartbeats 2000000 in
theorem c_X0_found {l : Launch} {g : PG} {mo : MO} {a0 : Nat} {x1 : Int32} {r : Int32} {S S1 : HS} (hf : f_X0_found a0 x1 S = some (r, S1)) : (h_nx S ≤ h_nx S1 ∧ h_sl S ≤ h_sl S1) ∧ Ct l g yX0_found (ws_ yX0_found cX0_found 2 (some (.int))) 1 60 S mo [vr (some a0), vi x1] (some (vi r)) S1 mo := by
  refine met_of false (by decide) (fun h => by first | rfl | cases h) rfl (Nat.le_of_ble_eq_true rfl) (fun f hl hg hc ho hnL hrm hre hct hex hq => ?_)
  subst hl
  subst hg
  unfold f_X0_found at hf
  refine j_iload_n (pc := 0) hc dX0_found_0 1 rfl rfl ?_
  refine j_if_lt (pc := 1) hc dX0_found_1 (tgt := 12) rfl (fun hh => ?_) (fun hh => ?_)
  · have hf1 := (if_pos hh).symm.trans hf
    clear hf
    refine j_iconst (pc := 12) (v := (-1)) hc dX0_found_12 rfl ?_
    refine j_goto (pc := 13) hc dX0_found_13 (tgt := 22) rfl ?_
    cases hf1
    exact j_iret (pc := 22) hc hq hre rfl dX0_found_22
  · have hf2 := (if_neg hh).symm.trans hf
    clear hf
    refine j_iload_n (pc := 4) hc dX0_found_4 1 rfl rfl ?_
    refine j_aload_n (pc := 5) hc dX0_found_5 0 rfl rfl ?_
    obtain ⟨v1, ev1, hf3⟩ := ob_i hf2
    clear hf2
    refine j_getI (pc := 6) hc ho fa_X0_254_1 dX0_found_6 ev1 ?_
    refine j_icmp_lt (pc := 9) hc dX0_found_9 (tgt := 16) rfl (fun hh => ?_) (fun hh => ?_)
    · have hf4 := (if_pos hh).symm.trans hf3
      clear hf3
      refine j_aload_n (pc := 16) hc dX0_found_16 0 rfl rfl ?_
      obtain ⟨q2, eq2, hf5⟩ := ob_i hf4
      clear hf4
      refine j_getR (pc := 17) hc ho fa_X0_47_1 dX0_found_17 eq2 ?_
      refine j_iload_n (pc := 20) hc dX0_found_20 1 rfl rfl ?_
      obtain ⟨a3, ea3, hf6⟩ := ob_i hf5
      clear hf5
      subst ea3
      obtain ⟨v4, ev4, hf7⟩ := ob_i hf6
      clear hf6
      refine j_iald (pc := 21) hc dX0_found_21 ev4 ?_
      cases hf7
      exact j_iret (pc := 22) hc hq hre rfl dX0_found_22
    · have hf8 := (if_neg hh).symm.trans hf3
      clear hf3
      refine j_iconst (pc := 12) (v := (-1)) hc dX0_found_12 rfl ?_
      refine j_goto (pc := 13) hc dX0_found_13 (tgt := 22) rfl ?_
      cases hf8
      exact j_iret (pc := 22) hc hq hre rfl dX0_found_22
def f_X0_retypes_n9 (a0 : Nat) : Nat → Int32 → Option Nat → Int32 → HS → Option HS
  | 0, _, _, _, _ => none
  | n + 1, x1, r2, x3, S =>
    (r2).bind fun a1 =>
    (g_fR S 4 101 a1).bind fun q2 =>
    (q2).bind fun a3 =>
    (g_cls S 12 a3).bind fun u4 =>
    o_bd (f_J5_size a3 S) fun v6 T5 =>
    if v6 ≤ x3 then
      (g_fR T5 4 105 a1).bind fun q7 =>
      o_case q7 (
        some T5
      ) (fun a8 =>
        (n_obj T5 10 2).bind fun T9 =>
        (f_X12_init (h_nx T5) (some a0) T9).bind fun T10 =>
        (g_fR T10 4 105 a1).bind fun q11 =>
        (q11).bind fun a12 =>
        (g_cls T10 5 a12).bind fun u13 =>
        o_bd (f_X5_type 40 a12 (some (h_nx T5)) T10) fun v15 T14 =>
        (g_fR T14 4 106 a1).bind fun q16 =>
        (q16).bind fun a17 =>
        (g_cls T14 5 a17).bind fun u18 =>
        o_bd (f_X5_type 40 a17 (some (h_nx T5)) T14) fun v20 T19 =>
        (g_fR T19 1 13 a0).bind fun q21 =>
        if h_cl T19 (h_nx T5) = 10 then
          o_bd (f_X11_isWrong (h_nx T5) T19) fun v23 T22 =>
          if v23 = 0 then
            if v15 = v20 then
              (q21).bind fun a26 =>
              (p_aI T22 34 a26 (((8) * x1) + (6)) (vp_nar .boolean (0))).bind fun T27 =>
              some T27
            else
              (q21).bind fun a28 =>
              (p_aI T22 34 a28 (((8) * x1) + (6)) (vp_nar .boolean (1))).bind fun T29 =>
              some T29
          else
            (q21).bind fun a24 =>
            (p_aI T22 34 a24 (((8) * x1) + (6)) (vp_nar .boolean (1))).bind fun T25 =>
            some T25
        else
          none
      )
    else
      (n_obj T5 10 2).bind fun T30 =>
      (f_X12_init (h_nx T5) (some a0) T30).bind fun T31 =>
      (g_fR T31 4 101 a1).bind fun q32 =>
      (q32).bind fun a33 =>
      (g_cls T31 12 a33).bind fun u34 =>
      o_bd (f_J5_get a33 x3 T31) fun q36 T35 =>
      (g_cast T35 [5] q36).bind fun u37 =>
      (q36).bind fun a38 =>
      (g_cls T35 5 a38).bind fun u39 =>
      o_bd (f_X5_type 40 a38 (some (h_nx T5)) T35) fun v41 T40 =>
      if h_cl T40 (h_nx T5) = 10 then
        o_bd (f_X11_isWrong (h_nx T5) T40) fun v43 T42 =>
        if v43 = 0 then
          (g_fR T42 4 102 a1).bind fun q44 =>
          (q44).bind fun a45 =>
          (p_aI T42 33 a45 x3 (vp_nar .char v41)).bind fun T46 =>
          (fun x1 r2 x3 S => f_X0_retypes_n9 a0 n x1 r2 x3 S) x1 (some a1) (x3 + (1)) T46
        else
          (g_fR T42 1 13 a0).bind fun q47 =>
          (q47).bind fun a48 =>
          (p_aI T42 34 a48 (((8) * x1) + x3) (vp_nar .boolean (1))).bind fun T49 =>
          (fun x1 r2 x3 S => f_X0_retypes_n9 a0 n x1 r2 x3 S) x1 (some a1) (x3 + (1)) T49
      else
        none
def f_X0_retypes (a0 : Nat) (x1 : Int32) (S : HS) : Option HS :=
  (g_fR S 1 1 a0).bind fun q1 =>
  (q1).bind fun a2 =>
  (g_aR S 36 a2 x1).bind fun q3 =>
  f_X0_retypes_n9 a0 fu_ x1 q3 (0) S
set_option maxRecDepth 100000 in
set_option maxHeartbeats 2000000 in
theorem w_X0_retypes_n9 {f : CfT} {mo : MO} {a0 : Nat} {S1 : HS} (hc : cf_cc f = cX0_retypes) (ho : cf_ow f = "TableCatalog") (hnL : cf_nL f = 6) (hrm : cf_rm f = (161, 4984)) (hre : cf_re f = none) (hct : cf_ct f = false) (hq : Qok f none S1 mo) : ∀ (n : Nat) (x1 : Int32) (r2 : Option Nat) (x3 : Int32) (S : HS), f_X0_retypes_n9 a0 n x1 r2 x3 S = some S1 → JJ f S mo 9 [(0, vr (some a0)), (1, vi x1), (2, vr r2), (3, vi x3)] [] := by
  intro n
  induction n with
  | zero =>
    intro x1 r2 x3 S hf
    have hf : (none : Option HS) = some S1 := hf
    cases hf
  | succ n ih =>
    intro x1 r2 x3 S hf
    unfold f_X0_retypes_n9 at hf
    have hk_9 := ih
    refine j_iload_n (pc := 9) hc dX0_retypes_9 3 rfl rfl ?_
    refine j_aload_n (pc := 10) hc dX0_retypes_10 2 rfl rfl ?_
    obtain ⟨a1, ea1, hf1⟩ := ob_i hf
    clear hf
    subst ea1
    obtain ⟨q2, eq2, hf2⟩ := ob_i hf1
    clear hf1
    refine j_getR (pc := 11) hc ho fa_X0_146_4 dX0_retypes_11 eq2 ?_
    obtain ⟨a3, ea3, hf3⟩ := ob_i hf2
    clear hf2
    subst ea3
    obtain ⟨u4, eu4, hf4⟩ := ob_i hf3
    clear hf3
    obtain ⟨v6, T5, ev6, hf5⟩ := ob_c hf4
    clear hf4
    refine j_callV (pc := 14) (As := []) (rest := [vi x3]) (st2 := [vi v6, vi x3]) hc ho cw_X0_107 (c_J5_size ev6) (Rc.of (g_cls_ok eu4) (by decide) (by decide) ci_J5) hrm ⟨by decide, by decide⟩ rfl (Nat.le_of_ble_eq_true rfl) dX0_retypes_14 rfl rfl ?_
    refine j_icmp_ge (pc := 17) hc dX0_retypes_17 (tgt := 85) rfl (fun hh => ?_) (fun hh => ?_)
    · have hf6 := (if_pos hh).symm.trans hf5
      clear hf5
      refine j_aload_n (pc := 85) hc dX0_retypes_85 2 rfl rfl ?_
      obtain ⟨q7, eq7, hf7⟩ := ob_i hf6
      clear hf6
      refine j_getR (pc := 86) hc ho fa_X0_158_4 dX0_retypes_86 eq7 ?_
      refine j_ifnonnull (pc := 89) hc dX0_retypes_89 (tgt := 93) rfl (fun a8 hh => ?_) (fun hh => ?_)
      · subst hh
        obtain ⟨T9, eT9, hf8⟩ := ob_i hf7
        clear hf7
        refine j_new (pc := 93) hc ho fn_X0_168 dX0_retypes_93 eT9 ?_
        refine j_dup (pc := 96) hc dX0_retypes_96 rfl ?_
        refine j_aload_n (pc := 97) hc dX0_retypes_97 0 rfl rfl ?_
        obtain ⟨T10, eT10, hf9⟩ := ob_i hf8
        clear hf8
        refine j_callIN (pc := 98) (As := [vr (some a0)]) (rest := [vr (some (h_nx T5))]) (st2 := [vr (some (h_nx T5))]) hc ho cn_X0_170 rfl q945 (c_X12_init eT10) hrm ⟨by decide, by decide⟩ rfl (Nat.le_of_ble_eq_true rfl) dX0_retypes_98 rfl rfl ?_
        refine j_astore_n (pc := 101) (L' := [(3, vr (some (h_nx T5))), (0, vr (some a0)), (1, vi x1), (2, vr (some a1))]) hc dX0_retypes_101 rfl hnL (by decide) rfl ?_
        refine j_aload_n (pc := 102) hc dX0_retypes_102 3 rfl rfl ?_
        obtain ⟨q11, eq11, hf10⟩ := ob_i hf9
        clear hf9
        refine j_getR (pc := 103) hc ho fa_X0_158_4 dX0_retypes_103 eq11 ?_
        refine j_aload_n (pc := 106) hc dX0_retypes_106 0 rfl rfl ?_
        obtain ⟨a12, ea12, hf11⟩ := ob_i hf10
        clear hf10
        subst ea12
        obtain ⟨u13, eu13, hf12⟩ := ob_i hf11
        clear hf11
        obtain ⟨v15, T14, ev15, hf13⟩ := ob_c hf12
        clear hf12
        refine j_callV (pc := 107) (As := [vr (some (h_nx T5))]) (rest := []) (st2 := [vi v15]) hc ho cw_X0_171 (c_X5_type 40 ev15) (Rc.of (g_cls_ok eu13) (by decide) (by decide) ci_X5) hrm ⟨by decide, by decide⟩ rfl (Nat.le_of_ble_eq_true rfl) dX0_retypes_107 rfl rfl ?_
        refine j_istore (pc := 110) (L' := [(4, vi v15), (3, vr (some (h_nx T5))), (0, vr (some a0)), (1, vi x1), (2, vr (some a1))]) hc dX0_retypes_110 hnL (by decide) rfl ?_
        refine j_aload_n (pc := 112) hc dX0_retypes_112 4 rfl rfl ?_
        obtain ⟨q16, eq16, hf14⟩ := ob_i hf13
        clear hf13
        refine j_getR (pc := 113) hc ho fa_X0_162_4 dX0_retypes_113 eq16 ?_
        refine j_aload_n (pc := 116) hc dX0_retypes_116 1 rfl rfl ?_
        obtain ⟨a17, ea17, hf15⟩ := ob_i hf14
        clear hf14
        subst ea17
        obtain ⟨u18, eu18, hf16⟩ := ob_i hf15
        clear hf15
        obtain ⟨v20, T19, ev20, hf17⟩ := ob_c hf16
        clear hf16
        refine j_callV (pc := 117) (As := [vr (some (h_nx T5))]) (rest := []) (st2 := [vi v20]) hc ho cw_X0_171 (c_X5_type 40 ev20) (Rc.of (g_cls_ok eu18) (by decide) (by decide) ci_X5) hrm ⟨by decide, by decide⟩ rfl (Nat.le_of_ble_eq_true rfl) dX0_retypes_117 rfl rfl ?_
        refine j_istore (pc := 120) (L' := [(5, vi v20), (4, vi v15), (3, vr (some (h_nx T5))), (0, vr (some a0)), (1, vi x1), (2, vr (some a1))]) hc dX0_retypes_120 hnL (by decide) rfl ?_
        refine j_aload_n (pc := 122) hc dX0_retypes_122 3 rfl rfl ?_
        obtain ⟨q21, eq21, hf18⟩ := ob_i hf17
        clear hf17
        refine j_getR (pc := 123) hc ho fa_X0_65_1 dX0_retypes_123 eq21 ?_
        refine j_bipush (pc := 126) (v := (8)) hc dX0_retypes_126 rfl ?_
        refine j_iload_n (pc := 128) hc dX0_retypes_128 4 rfl rfl ?_
        refine j_imul (pc := 129) hc dX0_retypes_129 ?_
        refine j_bipush (pc := 130) (v := (6)) hc dX0_retypes_130 rfl ?_
        refine j_iadd (pc := 132) hc dX0_retypes_132 ?_
        refine j_aload_n (pc := 133) hc dX0_retypes_133 2 rfl rfl ?_
        by_cases hk : h_cl T19 (h_nx T5) = 10
        · have hf19 := (if_pos hk).symm.trans hf18
          clear hf18
          obtain ⟨v23, T22, ev23, hf20⟩ := ob_c hf19
          clear hf19
          refine j_callU (pc := 134) (As := []) (rest := [vi (((8) * x1) + (6)), vr q21]) (st2 := [vi v23, vi (((8) * x1) + (6)), vr q21]) hc ho cu_X0_175_X12 (c_X11_isWrong ev23) (Rc.of hk (by decide) (by decide) ci_X12) hrm ⟨by decide, by decide⟩ rfl (Nat.le_of_ble_eq_true rfl) dX0_retypes_134 rfl rfl ?_
          refine j_if_ne (pc := 137) hc dX0_retypes_137 (tgt := 147) rfl (fun hh => ?_) (fun hh => ?_)
          · have hf21 := (if_neg hh).symm.trans hf20
            clear hf20
            refine j_iconst (pc := 147) (v := (1)) hc dX0_retypes_147 rfl ?_
            refine j_goto (pc := 148) hc dX0_retypes_148 (tgt := 152) rfl ?_
            obtain ⟨a24, ea24, hf22⟩ := ob_i hf21
            clear hf21
            subst ea24
            obtain ⟨T25, eT25, hf23⟩ := ob_i hf22
            clear hf22
            refine j_zast (pc := 152) hc dX0_retypes_152 eT25 ?_
            cases hf23
            exact j_vret (pc := 153) hc hq hre dX0_retypes_153
          · have hf24 := (if_pos hh).symm.trans hf20
            clear hf20
            refine j_iload (pc := 140) hc dX0_retypes_140 1 rfl ?_
            refine j_iload (pc := 142) hc dX0_retypes_142 0 rfl ?_
            refine j_icmp_eq (pc := 144) hc dX0_retypes_144 (tgt := 151) rfl (fun hh => ?_) (fun hh => ?_)
            · have hf25 := (if_pos hh).symm.trans hf24
              clear hf24
              refine j_iconst (pc := 151) (v := (0)) hc dX0_retypes_151 rfl ?_
              obtain ⟨a26, ea26, hf26⟩ := ob_i hf25
              clear hf25
              subst ea26
              obtain ⟨T27, eT27, hf27⟩ := ob_i hf26
              clear hf26
              refine j_zast (pc := 152) hc dX0_retypes_152 eT27 ?_
              cases hf27
              exact j_vret (pc := 153) hc hq hre dX0_retypes_153
            · have hf28 := (if_neg hh).symm.trans hf24
              clear hf24
              refine j_iconst (pc := 147) (v := (1)) hc dX0_retypes_147 rfl ?_
              refine j_goto (pc := 148) hc dX0_retypes_148 (tgt := 152) rfl ?_
              obtain ⟨a28, ea28, hf29⟩ := ob_i hf28
              clear hf28
              subst ea28
              obtain ⟨T29, eT29, hf30⟩ := ob_i hf29
              clear hf29
              refine j_zast (pc := 152) hc dX0_retypes_152 eT29 ?_
              cases hf30
              exact j_vret (pc := 153) hc hq hre dX0_retypes_153
        · have hf31 := (if_neg hk).symm.trans hf18
          clear hf18
          cases hf31
      · subst hh
        cases hf7
        exact j_vret (pc := 92) hc hq hre dX0_retypes_92
    · have hf32 := (if_neg hh).symm.trans hf5
      clear hf5
      obtain ⟨T30, eT30, hf33⟩ := ob_i hf32
      clear hf32
      refine j_new (pc := 20) hc ho fn_X0_168 dX0_retypes_20 eT30 ?_
      refine j_dup (pc := 23) hc dX0_retypes_23 rfl ?_
      refine j_aload_n (pc := 24) hc dX0_retypes_24 0 rfl rfl ?_
      obtain ⟨T31, eT31, hf34⟩ := ob_i hf33
      clear hf33
      refine j_callIN (pc := 25) (As := [vr (some a0)]) (rest := [vr (some (h_nx T5))]) (st2 := [vr (some (h_nx T5))]) hc ho cn_X0_170 rfl q945 (c_X12_init eT31) hrm ⟨by decide, by decide⟩ rfl (Nat.le_of_ble_eq_true rfl) dX0_retypes_25 rfl rfl ?_
      refine j_astore (pc := 28) (L' := [(4, vr (some (h_nx T5))), (0, vr (some a0)), (1, vi x1), (2, vr (some a1)), (3, vi x3)]) hc dX0_retypes_28 hnL (by decide) rfl ?_
      refine j_aload_n (pc := 30) hc dX0_retypes_30 3 rfl rfl ?_
      obtain ⟨q32, eq32, hf35⟩ := ob_i hf34
      clear hf34
      refine j_getR (pc := 31) hc ho fa_X0_146_4 dX0_retypes_31 eq32 ?_
      refine j_iload_n (pc := 34) hc dX0_retypes_34 4 rfl rfl ?_
      obtain ⟨a33, ea33, hf36⟩ := ob_i hf35
      clear hf35
      subst ea33
      obtain ⟨u34, eu34, hf37⟩ := ob_i hf36
      clear hf36
      obtain ⟨q36, T35, eq36, hf38⟩ := ob_c hf37
      clear hf37
      refine j_callV (pc := 35) (As := [vi x3]) (rest := []) (st2 := [vr q36]) hc ho cw_X0_112 (c_J5_get eq36) (Rc.of (g_cls_ok eu34) (by decide) (by decide) ci_J5) hrm ⟨by decide, by decide⟩ rfl (Nat.le_of_ble_eq_true rfl) dX0_retypes_35 rfl rfl ?_
      obtain ⟨u37, eu37, hf39⟩ := ob_i hf38
      clear hf38
      refine j_ccast (pc := 38) hc ho fc_X0_152_5 dX0_retypes_38 eu37 ?_
      refine j_aload (pc := 41) hc dX0_retypes_41 0 rfl ?_
      obtain ⟨a38, ea38, hf40⟩ := ob_i hf39
      clear hf39
      subst ea38
      obtain ⟨u39, eu39, hf41⟩ := ob_i hf40
      clear hf40
      obtain ⟨v41, T40, ev41, hf42⟩ := ob_c hf41
      clear hf41
      refine j_callV (pc := 43) (As := [vr (some (h_nx T5))]) (rest := []) (st2 := [vi v41]) hc ho cw_X0_171 (c_X5_type 40 ev41) (Rc.of (g_cls_ok eu39) (by decide) (by decide) ci_X5) hrm ⟨by decide, by decide⟩ rfl (Nat.le_of_ble_eq_true rfl) dX0_retypes_43 rfl rfl ?_
      refine j_istore (pc := 46) (L' := [(5, vi v41), (4, vr (some (h_nx T5))), (0, vr (some a0)), (1, vi x1), (2, vr (some a1)), (3, vi x3)]) hc dX0_retypes_46 hnL (by decide) rfl ?_
      refine j_aload (pc := 48) hc dX0_retypes_48 1 rfl ?_
      by_cases hk : h_cl T40 (h_nx T5) = 10
      · have hf43 := (if_pos hk).symm.trans hf42
        clear hf42
        obtain ⟨v43, T42, ev43, hf44⟩ := ob_c hf43
        clear hf43
        refine j_callU (pc := 50) (As := []) (rest := []) (st2 := [vi v43]) hc ho cu_X0_175_X12 (c_X11_isWrong ev43) (Rc.of hk (by decide) (by decide) ci_X12) hrm ⟨by decide, by decide⟩ rfl (Nat.le_of_ble_eq_true rfl) dX0_retypes_50 rfl rfl ?_
        refine j_if_eq (pc := 53) hc dX0_retypes_53 (tgt := 71) rfl (fun hh => ?_) (fun hh => ?_)
        · have hf45 := (if_pos hh).symm.trans hf44
          clear hf44
          refine j_aload_n (pc := 71) hc dX0_retypes_71 4 rfl rfl ?_
          obtain ⟨q44, eq44, hf46⟩ := ob_i hf45
          clear hf45
          refine j_getR (pc := 72) hc ho fa_X0_149_4 dX0_retypes_72 eq44 ?_
          refine j_iload_n (pc := 75) hc dX0_retypes_75 5 rfl rfl ?_
          refine j_iload (pc := 76) hc dX0_retypes_76 0 rfl ?_
          obtain ⟨a45, ea45, hf47⟩ := ob_i hf46
          clear hf46
          subst ea45
          obtain ⟨T46, eT46, hf48⟩ := ob_i hf47
          clear hf47
          refine j_cast (pc := 78) hc dX0_retypes_78 eT46 ?_
          refine j_iinc (pc := 79) (L' := [(3, vi (x3 + (1))), (5, vi v41), (4, vr (some (h_nx T5))), (0, vr (some a0)), (1, vi x1), (2, vr (some a1))]) (v := (x3 + (1))) hc dX0_retypes_79 5 rfl rfl hnL (by decide) rfl ?_
          refine j_goto (pc := 82) hc dX0_retypes_82 (tgt := 9) rfl ?_
          refine j_loc (L' := [(0, vr (some a0)), (1, vi x1), (2, vr (some a1)), (3, vi (x3 + (1)))]) [3, 4, 5, 0] rfl ?_
          exact hk_9 _ _ _ _ hf48
        · have hf49 := (if_neg hh).symm.trans hf44
          clear hf44
          refine j_aload_n (pc := 56) hc dX0_retypes_56 2 rfl rfl ?_
          obtain ⟨q47, eq47, hf50⟩ := ob_i hf49
          clear hf49
          refine j_getR (pc := 57) hc ho fa_X0_65_1 dX0_retypes_57 eq47 ?_
          refine j_bipush (pc := 60) (v := (8)) hc dX0_retypes_60 rfl ?_
          refine j_iload_n (pc := 62) hc dX0_retypes_62 3 rfl rfl ?_
          refine j_imul (pc := 63) hc dX0_retypes_63 ?_
          refine j_iload_n (pc := 64) hc dX0_retypes_64 5 rfl rfl ?_
          refine j_iadd (pc := 65) hc dX0_retypes_65 ?_
          refine j_iconst (pc := 66) (v := (1)) hc dX0_retypes_66 rfl ?_
          obtain ⟨a48, ea48, hf51⟩ := ob_i hf50
          clear hf50
          subst ea48
          obtain ⟨T49, eT49, hf52⟩ := ob_i hf51
          clear hf51
          refine j_zast (pc := 67) hc dX0_retypes_67 eT49 ?_
          refine j_goto (pc := 68) hc dX0_retypes_68 (tgt := 79) rfl ?_
          refine j_iinc (pc := 79) (L' := [(3, vi (x3 + (1))), (5, vi v41), (4, vr (some (h_nx T5))), (0, vr (some a0)), (1, vi x1), (2, vr (some a1))]) (v := (x3 + (1))) hc dX0_retypes_79 5 rfl rfl hnL (by decide) rfl ?_
          refine j_goto (pc := 82) hc dX0_retypes_82 (tgt := 9) rfl ?_
          refine j_loc (L' := [(0, vr (some a0)), (1, vi x1), (2, vr (some a1)), (3, vi (x3 + (1)))]) [3, 4, 5, 0] rfl ?_
          exact hk_9 _ _ _ _ hf52
      · have hf53 := (if_neg hk).symm.trans hf42
        clear hf42
        cases hf53
set_option maxRecDepth 100000 in
set_option maxHeartbeats 2000000 in
theorem c_X0_retypes {l : Launch} {g : PG} {mo : MO} {a0 : Nat} {x1 : Int32} {S S1 : HS} (hf : f_X0_retypes a0 x1 S = some S1) : (h_nx S ≤ h_nx S1 ∧ h_sl S ≤ h_sl S1) ∧ Ct l g yX0_retypes (ws_ yX0_retypes cX0_retypes 6 none) 161 4984 S mo [vr (some a0), vi x1] none S1 mo := by
  refine met_of false (by decide) (fun h => by first | rfl | cases h) rfl (Nat.le_of_ble_eq_true rfl) (fun f hl hg hc ho hnL hrm hre hct hex hq => ?_)
  subst hl
  subst hg
  unfold f_X0_retypes at hf
  refine j_aload_n (pc := 0) hc dX0_retypes_0 0 rfl rfl ?_
  obtain ⟨q1, eq1, hf1⟩ := ob_i hf
  clear hf
  refine j_getR (pc := 1) hc ho fa_X0_35_1 dX0_retypes_1 eq1 ?_
  refine j_iload_n (pc := 4) hc dX0_retypes_4 1 rfl rfl ?_
  obtain ⟨a2, ea2, hf2⟩ := ob_i hf1
  clear hf1
  subst ea2
  obtain ⟨q3, eq3, hf3⟩ := ob_i hf2
  clear hf2
  refine j_aald (pc := 5) hc dX0_retypes_5 (by decide) eq3 ?_
  refine j_astore_n (pc := 6) (L' := [(2, vr q3), (0, vr (some a0)), (1, vi x1)]) hc dX0_retypes_6 rfl hnL (by decide) rfl ?_
  refine j_iconst (pc := 7) (v := (0)) hc dX0_retypes_7 rfl ?_
  refine j_istore_n (pc := 8) (L' := [(3, vi (0)), (2, vr q3), (0, vr (some a0)), (1, vi x1)]) hc dX0_retypes_8 rfl hnL (by decide) rfl ?_
  refine j_loc (L' := [(0, vr (some a0)), (1, vi x1), (2, vr q3), (3, vi (0))]) [2, 3, 1, 0] rfl ?_
  exact w_X0_retypes_n9 hc ho hnL hrm hre hct hq fu_ _ _ _ _ hf3
theorem fa_X0_72_1 : FA "TableCatalog" 72 1 2 15 (.array .char) 2 := ⟨RX0, TX0, 15, tyX0, 14, "TableCatalog", CI_X0, by decide, rfl, rfl, by decide +kernel, Or.inl ⟨q297, fun _ => ⟨rfl, rfl⟩⟩, fun h => (by cases h), Or.inl rfl⟩
theorem cw_X0_285 : CV "TableCatalog" 285 RX0 yX0_retypes cX0_retypes 6 none 1 := ⟨⟨q1102, q1104, qs37, q81, q1105⟩, rfl, by decide, by decide, by decide +kernel⟩
def f_X0_retype_n274 (k_182 : Int32 → Int32 → Int32 → Int32 → Int32 → HS → Option (Int32 × HS)) (a0 : Nat) (x1 : Int32) (x2 : Int32) (x4 : Int32) (x6 : Int32) (sx0 : Int32) (sx1 : Int32) (S : HS) : Option (Int32 × HS) :=
  k_182 x1 x2 x4 (sx0 + sx1) (x6 + (1)) S
def f_X0_retype_n273 (k_182 : Int32 → Int32 → Int32 → Int32 → Int32 → HS → Option (Int32 × HS)) (a0 : Nat) (x1 : Int32) (x2 : Int32) (x4 : Int32) (x6 : Int32) (sx0 : Int32) (S : HS) : Option (Int32 × HS) :=
  f_X0_retype_n274 k_182 a0 x1 x2 x4 x6 sx0 (0) S
def f_X0_retype_n210 (k_182 : Int32 → Int32 → Int32 → Int32 → Int32 → HS → Option (Int32 × HS)) (a0 : Nat) (x1 : Int32) (x2 : Int32) (x5 : Int32) (x6 : Int32) (sx0 : Int32) (S : HS) : Option (Int32 × HS) :=
  (g_cls S 1 a0).bind fun u1 =>
  o_bd (f_X0_isColumn a0 (x6 >>> ((3) &&& 31)) (x6 &&& (7)) S) fun v3 T2 =>
  if v3 = 0 then
    f_X0_retype_n273 k_182 a0 x1 x2 sx0 x6 x5 T2
  else
    if x6 = (((8) * x1) + x2) then
      f_X0_retype_n273 k_182 a0 x1 x2 sx0 x6 x5 T2
    else
      (g_fR T2 1 15 a0).bind fun q4 =>
      (q4).bind fun a5 =>
      (g_aI T2 33 a5 x6).bind fun v6 =>
      (g_fR T2 1 1 a0).bind fun q7 =>
      (q7).bind fun a8 =>
      (g_aR T2 36 a8 (x6 >>> ((3) &&& 31))).bind fun q9 =>
      (q9).bind fun a10 =>
      (g_fR T2 4 102 a10).bind fun q11 =>
      (q11).bind fun a12 =>
      (g_aI T2 33 a12 (x6 &&& (7))).bind fun v13 =>
      if v6 = v13 then
        f_X0_retype_n273 k_182 a0 x1 x2 sx0 x6 x5 T2
      else
        f_X0_retype_n274 k_182 a0 x1 x2 sx0 x6 x5 (1) T2
def f_X0_retype_n205 (k_182 : Int32 → Int32 → Int32 → Int32 → Int32 → HS → Option (Int32 × HS)) (a0 : Nat) (x1 : Int32) (x2 : Int32) (x5 : Int32) (x6 : Int32) (S : HS) : Option (Int32 × HS) :=
  f_X0_retype_n210 k_182 a0 x1 x2 x5 x6 (1) S
def f_X0_retype_n294 (a0 : Nat) : Nat → Int32 → HS → Option (Int32 × HS)
  | 0, _, _ => none
  | n + 1, x6, S =>
    if (128) ≤ x6 then
      (g_fR S 1 13 a0).bind fun q1 =>
      (g_cls S 1 a0).bind fun u2 =>
      o_bd (f_X0_tells a0 q1 (0) S) fun v4 T3 =>
      some ((-2), T3)
    else
      (g_cls S 1 a0).bind fun u5 =>
      o_bd (f_X0_isColumn a0 (x6 >>> ((3) &&& 31)) (x6 &&& (7)) S) fun v7 T6 =>
      if v7 = 0 then
        (fun x6 S => f_X0_retype_n294 a0 n x6 S) (x6 + (1)) T6
      else
        (g_fR T6 1 1 a0).bind fun q8 =>
        (q8).bind fun a9 =>
        (g_aR T6 36 a9 (x6 >>> ((3) &&& 31))).bind fun q10 =>
        (q10).bind fun a11 =>
        (g_fR T6 4 102 a11).bind fun q12 =>
        (g_fR T6 1 15 a0).bind fun q13 =>
        (q13).bind fun a14 =>
        (g_aI T6 33 a14 x6).bind fun v15 =>
        (q12).bind fun a16 =>
        (p_aI T6 33 a16 (x6 &&& (7)) (vp_nar .char v15)).bind fun T17 =>
        (fun x6 S => f_X0_retype_n294 a0 n x6 S) (x6 + (1)) T17
def f_X0_retype_n182 (a0 : Nat) : Nat → Int32 → Int32 → Int32 → Int32 → Int32 → HS → Option (Int32 × HS)
  | 0, _, _, _, _, _, _ => none
  | n + 1, x1, x2, x4, x5, x6, S =>
    if (128) ≤ x6 then
      if x4 = 0 then
        some (x5, S)
      else
        f_X0_retype_n294 a0 fu_ (0) S
    else
      if x4 = 0 then
        (g_fR S 1 13 a0).bind fun q1 =>
        (q1).bind fun a2 =>
        (g_aI S 34 a2 x6).bind fun v3 =>
        if v3 = 0 then
          f_X0_retype_n210 (fun x1 x2 x4 x5 x6 S => f_X0_retype_n182 a0 n x1 x2 x4 x5 x6 S) a0 x1 x2 x5 x6 (0) S
        else
          f_X0_retype_n205 (fun x1 x2 x4 x5 x6 S => f_X0_retype_n182 a0 n x1 x2 x4 x5 x6 S) a0 x1 x2 x5 x6 S
      else
        f_X0_retype_n205 (fun x1 x2 x4 x5 x6 S => f_X0_retype_n182 a0 n x1 x2 x4 x5 x6 S) a0 x1 x2 x5 x6 S
def f_X0_retype_n129 (a0 : Nat) : Nat → Int32 → Int32 → Int32 → HS → Option (Int32 × HS)
  | 0, _, _, _, _ => none
  | n + 1, x1, x2, x4, S =>
    (g_fI S 1 2 a0).bind fun v1 =>
    if v1 ≤ x4 then
      f_X0_retype_n182 a0 fu_ x1 x2 (0) (0) (0) S
    else
      (g_fR S 1 1 a0).bind fun q2 =>
      (q2).bind fun a3 =>
      (g_aR S 36 a3 x4).bind fun q4 =>
      o_case q4 (
        (fun x1 x2 x4 S => f_X0_retype_n129 a0 n x1 x2 x4 S) x1 x2 (x4 + (1)) S
      ) (fun a5 =>
        (g_fR S 1 1 a0).bind fun q6 =>
        (q6).bind fun a7 =>
        (g_aR S 36 a7 x4).bind fun q8 =>
        (q8).bind fun a9 =>
        (g_cls S 4 a9).bind fun u10 =>
        o_bd (f_X4_isMade a9 S) fun v12 T11 =>
        if v12 = 0 then
          (fun x1 x2 x4 S => f_X0_retype_n129 a0 n x1 x2 x4 S) x1 x2 (x4 + (1)) T11
        else
          (g_cls T11 1 a0).bind fun u13 =>
          (f_X0_retypes a0 x4 T11).bind fun T14 =>
          (fun x1 x2 x4 S => f_X0_retype_n129 a0 n x1 x2 x4 S) x1 x2 (x4 + (1)) T14
      )
def f_X0_retype_n52 (a0 : Nat) : Nat → Int32 → Int32 → Int32 → Int32 → HS → Option (Int32 × HS)
  | 0, _, _, _, _, _ => none
  | n + 1, x1, x2, x3, x4, S =>
    if (128) ≤ x4 then
      (g_fR S 1 1 a0).bind fun q1 =>
      (q1).bind fun a2 =>
      (g_aR S 36 a2 x1).bind fun q3 =>
      (q3).bind fun a4 =>
      (g_fR S 4 102 a4).bind fun q5 =>
      (q5).bind fun a6 =>
      (p_aI S 33 a6 x2 (vp_nar .char (UInt32.toInt32 (Int32.toUInt32 x3 % 65536)))).bind fun T7 =>
      f_X0_retype_n129 a0 fu_ x1 x2 (x1 + (1)) T7
    else
      (g_fR S 1 15 a0).bind fun q8 =>
      (g_cls S 1 a0).bind fun u9 =>
      o_bd (f_X0_isColumn a0 (x4 >>> ((3) &&& 31)) (x4 &&& (7)) S) fun v11 T10 =>
      if v11 = 0 then
        (q8).bind fun a12 =>
        (p_aI T10 33 a12 x4 (vp_nar .char (0))).bind fun T13 =>
        (fun x1 x2 x3 x4 S => f_X0_retype_n52 a0 n x1 x2 x3 x4 S) x1 x2 x3 (x4 + (1)) T13
      else
        (g_fR T10 1 1 a0).bind fun q14 =>
        (q14).bind fun a15 =>
        (g_aR T10 36 a15 (x4 >>> ((3) &&& 31))).bind fun q16 =>
        (q16).bind fun a17 =>
        (g_fR T10 4 102 a17).bind fun q18 =>
        (q18).bind fun a19 =>
        (g_aI T10 33 a19 (x4 &&& (7))).bind fun v20 =>
        (q8).bind fun a21 =>
        (p_aI T10 33 a21 x4 (vp_nar .char v20)).bind fun T22 =>
        (fun x1 x2 x3 x4 S => f_X0_retype_n52 a0 n x1 x2 x3 x4 S) x1 x2 x3 (x4 + (1)) T22
def f_X0_retype_n41 (a0 : Nat) (x1 : Int32) (x2 : Int32) (x3 : Int32) (S : HS) : Option (Int32 × HS) :=
  (g_fR S 1 13 a0).bind fun q1 =>
  (g_cls S 1 a0).bind fun u2 =>
  (f_X0_clear a0 q1 S).bind fun T3 =>
  f_X0_retype_n52 a0 fu_ x1 x2 x3 (0) T3
def f_X0_retype (a0 : Nat) (x1 : Int32) (x2 : Int32) (x3 : Int32) (S : HS) : Option (Int32 × HS) :=
  (g_cls S 1 a0).bind fun u1 =>
  o_bd (f_X0_isColumn a0 x1 x2 S) fun v3 T2 =>
  if v3 = 0 then
    some ((-1), T2)
  else
    (g_fR T2 1 1 a0).bind fun q4 =>
    (q4).bind fun a5 =>
    (g_aR T2 36 a5 x1).bind fun q6 =>
    (q6).bind fun a7 =>
    (g_fI T2 4 99 a7).bind fun v8 =>
    if v8 = 0 then
      if x3 = (110) then
        f_X0_retype_n41 a0 x1 x2 x3 T2
      else
        if x3 = (116) then
          f_X0_retype_n41 a0 x1 x2 x3 T2
        else
          if x3 = (100) then
            f_X0_retype_n41 a0 x1 x2 x3 T2
          else
            some ((-1), T2)
    else
      some ((-1), T2)
set_option maxRecDepth 100000 in
set_option maxHeartbeats 2000000 in
theorem w_X0_retype_n274 {f : CfT} {mo : MO} {a0 : Nat} {r : Int32} {S1 : HS} (hc : cf_cc f = cX0_retype) (ho : cf_ow f = "TableCatalog") (hnL : cf_nL f = 7) (hrm : cf_rm f = (162, 5009)) (hre : cf_re f = (some (.int))) (hct : cf_ct f = false) (hq : Qok f (some (vi r)) S1 mo) {k_182 : Int32 → Int32 → Int32 → Int32 → Int32 → HS → Option (Int32 × HS)} (hk_182 : ∀ (x1 : Int32) (x2 : Int32) (x4 : Int32) (x5 : Int32) (x6 : Int32) (S : HS), k_182 x1 x2 x4 x5 x6 S = some (r, S1) → JJ f S mo 182 [(0, vr (some a0)), (1, vi x1), (2, vi x2), (4, vi x4), (5, vi x5), (6, vi x6)] []) {x1 : Int32} {x2 : Int32} {x4 : Int32} {x6 : Int32} {sx0 : Int32} {sx1 : Int32} {S : HS} (hf : f_X0_retype_n274 k_182 a0 x1 x2 x4 x6 sx0 sx1 S = some (r, S1)) : JJ f S mo 274 [(0, vr (some a0)), (1, vi x1), (2, vi x2), (4, vi x4), (6, vi x6)] [vi sx1, vi sx0] := by
  unfold f_X0_retype_n274 at hf
  refine j_iadd (pc := 274) hc dX0_retype_274 ?_
  refine j_istore (pc := 275) (L' := [(5, vi (sx0 + sx1)), (0, vr (some a0)), (1, vi x1), (2, vi x2), (4, vi x4), (6, vi x6)]) hc dX0_retype_275 hnL (by decide) rfl ?_
  refine j_iinc (pc := 277) (L' := [(6, vi (x6 + (1))), (5, vi (sx0 + sx1)), (0, vr (some a0)), (1, vi x1), (2, vi x2), (4, vi x4)]) (v := (x6 + (1))) hc dX0_retype_277 5 rfl rfl hnL (by decide) rfl ?_
  refine j_goto (pc := 280) hc dX0_retype_280 (tgt := 182) rfl ?_
  refine j_loc (L' := [(0, vr (some a0)), (1, vi x1), (2, vi x2), (4, vi x4), (5, vi (sx0 + sx1)), (6, vi (x6 + (1)))]) [2, 3, 4, 5, 1, 0] rfl ?_
  exact hk_182 _ _ _ _ _ _ hf
set_option maxRecDepth 100000 in
set_option maxHeartbeats 2000000 in
theorem w_X0_retype_n273 {f : CfT} {mo : MO} {a0 : Nat} {r : Int32} {S1 : HS} (hc : cf_cc f = cX0_retype) (ho : cf_ow f = "TableCatalog") (hnL : cf_nL f = 7) (hrm : cf_rm f = (162, 5009)) (hre : cf_re f = (some (.int))) (hct : cf_ct f = false) (hq : Qok f (some (vi r)) S1 mo) {k_182 : Int32 → Int32 → Int32 → Int32 → Int32 → HS → Option (Int32 × HS)} (hk_182 : ∀ (x1 : Int32) (x2 : Int32) (x4 : Int32) (x5 : Int32) (x6 : Int32) (S : HS), k_182 x1 x2 x4 x5 x6 S = some (r, S1) → JJ f S mo 182 [(0, vr (some a0)), (1, vi x1), (2, vi x2), (4, vi x4), (5, vi x5), (6, vi x6)] []) {x1 : Int32} {x2 : Int32} {x4 : Int32} {x6 : Int32} {sx0 : Int32} {S : HS} (hf : f_X0_retype_n273 k_182 a0 x1 x2 x4 x6 sx0 S = some (r, S1)) : JJ f S mo 273 [(0, vr (some a0)), (1, vi x1), (2, vi x2), (4, vi x4), (6, vi x6)] [vi sx0] := by
  unfold f_X0_retype_n273 at hf
  refine j_iconst (pc := 273) (v := (0)) hc dX0_retype_273 rfl ?_
  exact w_X0_retype_n274 hc ho hnL hrm hre hct hq hk_182 hf
set_option maxRecDepth 100000 in
set_option maxHeartbeats 2000000 in
theorem w_X0_retype_n210 {f : CfT} {mo : MO} {a0 : Nat} {r : Int32} {S1 : HS} (hc : cf_cc f = cX0_retype) (ho : cf_ow f = "TableCatalog") (hnL : cf_nL f = 7) (hrm : cf_rm f = (162, 5009)) (hre : cf_re f = (some (.int))) (hct : cf_ct f = false) (hq : Qok f (some (vi r)) S1 mo) {k_182 : Int32 → Int32 → Int32 → Int32 → Int32 → HS → Option (Int32 × HS)} (hk_182 : ∀ (x1 : Int32) (x2 : Int32) (x4 : Int32) (x5 : Int32) (x6 : Int32) (S : HS), k_182 x1 x2 x4 x5 x6 S = some (r, S1) → JJ f S mo 182 [(0, vr (some a0)), (1, vi x1), (2, vi x2), (4, vi x4), (5, vi x5), (6, vi x6)] []) {x1 : Int32} {x2 : Int32} {x5 : Int32} {x6 : Int32} {sx0 : Int32} {S : HS} (hf : f_X0_retype_n210 k_182 a0 x1 x2 x5 x6 sx0 S = some (r, S1)) : JJ f S mo 210 [(0, vr (some a0)), (1, vi x1), (2, vi x2), (5, vi x5), (6, vi x6)] [vi sx0] := by
  unfold f_X0_retype_n210 at hf
  refine j_istore (pc := 210) (L' := [(4, vi sx0), (0, vr (some a0)), (1, vi x1), (2, vi x2), (5, vi x5), (6, vi x6)]) hc dX0_retype_210 hnL (by decide) rfl ?_
  refine j_iload (pc := 212) hc dX0_retype_212 4 rfl ?_
  refine j_aload_n (pc := 214) hc dX0_retype_214 1 rfl rfl ?_
  refine j_iload (pc := 215) hc dX0_retype_215 5 rfl ?_
  refine j_iconst (pc := 217) (v := (3)) hc dX0_retype_217 rfl ?_
  refine j_ishr (pc := 218) hc dX0_retype_218 ?_
  refine j_iload (pc := 219) hc dX0_retype_219 5 rfl ?_
  refine j_bipush (pc := 221) (v := (7)) hc dX0_retype_221 rfl ?_
  refine j_iand (pc := 223) hc dX0_retype_223 ?_
  obtain ⟨u1, eu1, hf1⟩ := ob_i hf
  clear hf
  obtain ⟨v3, T2, ev3, hf2⟩ := ob_c hf1
  clear hf1
  refine j_callV (pc := 224) (As := [vi (x6 >>> ((3) &&& 31)), vi (x6 &&& (7))]) (rest := [vi x5]) (st2 := [vi v3, vi x5]) hc ho cw_X0_250 (c_X0_isColumn ev3) (Rc.of (g_cls_ok eu1) (by decide) (by decide) ci_X0) hrm ⟨by decide, by decide⟩ rfl (Nat.le_of_ble_eq_true rfl) dX0_retype_224 rfl rfl ?_
  refine j_if_eq (pc := 227) hc dX0_retype_227 (tgt := 273) rfl (fun hh => ?_) (fun hh => ?_)
  · have hf3 := (if_pos hh).symm.trans hf2
    clear hf2
    refine j_loc (L' := [(0, vr (some a0)), (1, vi x1), (2, vi x2), (4, vi sx0), (6, vi x6)]) [1, 2, 3, 0, 5] rfl ?_
    exact w_X0_retype_n273 hc ho hnL hrm hre hct hq hk_182 hf3
  · have hf4 := (if_neg hh).symm.trans hf2
    clear hf2
    refine j_iload (pc := 230) hc dX0_retype_230 5 rfl ?_
    refine j_bipush (pc := 232) (v := (8)) hc dX0_retype_232 rfl ?_
    refine j_iload_n (pc := 234) hc dX0_retype_234 2 rfl rfl ?_
    refine j_imul (pc := 235) hc dX0_retype_235 ?_
    refine j_iload_n (pc := 236) hc dX0_retype_236 3 rfl rfl ?_
    refine j_iadd (pc := 237) hc dX0_retype_237 ?_
    refine j_icmp_eq (pc := 238) hc dX0_retype_238 (tgt := 273) rfl (fun hh => ?_) (fun hh => ?_)
    · have hf5 := (if_pos hh).symm.trans hf4
      clear hf4
      refine j_loc (L' := [(0, vr (some a0)), (1, vi x1), (2, vi x2), (4, vi sx0), (6, vi x6)]) [1, 2, 3, 0, 5] rfl ?_
      exact w_X0_retype_n273 hc ho hnL hrm hre hct hq hk_182 hf5
    · have hf6 := (if_neg hh).symm.trans hf4
      clear hf4
      refine j_aload_n (pc := 241) hc dX0_retype_241 1 rfl rfl ?_
      obtain ⟨q4, eq4, hf7⟩ := ob_i hf6
      clear hf6
      refine j_getR (pc := 242) hc ho fa_X0_72_1 dX0_retype_242 eq4 ?_
      refine j_iload (pc := 245) hc dX0_retype_245 5 rfl ?_
      obtain ⟨a5, ea5, hf8⟩ := ob_i hf7
      clear hf7
      subst ea5
      obtain ⟨v6, ev6, hf9⟩ := ob_i hf8
      clear hf8
      refine j_cald (pc := 247) hc dX0_retype_247 ev6 ?_
      refine j_aload_n (pc := 248) hc dX0_retype_248 1 rfl rfl ?_
      obtain ⟨q7, eq7, hf10⟩ := ob_i hf9
      clear hf9
      refine j_getR (pc := 249) hc ho fa_X0_35_1 dX0_retype_249 eq7 ?_
      refine j_iload (pc := 252) hc dX0_retype_252 5 rfl ?_
      refine j_iconst (pc := 254) (v := (3)) hc dX0_retype_254 rfl ?_
      refine j_ishr (pc := 255) hc dX0_retype_255 ?_
      obtain ⟨a8, ea8, hf11⟩ := ob_i hf10
      clear hf10
      subst ea8
      obtain ⟨q9, eq9, hf12⟩ := ob_i hf11
      clear hf11
      refine j_aald (pc := 256) hc dX0_retype_256 (by decide) eq9 ?_
      obtain ⟨a10, ea10, hf13⟩ := ob_i hf12
      clear hf12
      subst ea10
      obtain ⟨q11, eq11, hf14⟩ := ob_i hf13
      clear hf13
      refine j_getR (pc := 257) hc ho fa_X0_149_4 dX0_retype_257 eq11 ?_
      refine j_iload (pc := 260) hc dX0_retype_260 5 rfl ?_
      refine j_bipush (pc := 262) (v := (7)) hc dX0_retype_262 rfl ?_
      refine j_iand (pc := 264) hc dX0_retype_264 ?_
      obtain ⟨a12, ea12, hf15⟩ := ob_i hf14
      clear hf14
      subst ea12
      obtain ⟨v13, ev13, hf16⟩ := ob_i hf15
      clear hf15
      refine j_cald (pc := 265) hc dX0_retype_265 ev13 ?_
      refine j_icmp_eq (pc := 266) hc dX0_retype_266 (tgt := 273) rfl (fun hh => ?_) (fun hh => ?_)
      · have hf17 := (if_pos hh).symm.trans hf16
        clear hf16
        refine j_loc (L' := [(0, vr (some a0)), (1, vi x1), (2, vi x2), (4, vi sx0), (6, vi x6)]) [1, 2, 3, 0, 5] rfl ?_
        exact w_X0_retype_n273 hc ho hnL hrm hre hct hq hk_182 hf17
      · have hf18 := (if_neg hh).symm.trans hf16
        clear hf16
        refine j_iconst (pc := 269) (v := (1)) hc dX0_retype_269 rfl ?_
        refine j_goto (pc := 270) hc dX0_retype_270 (tgt := 274) rfl ?_
        refine j_loc (L' := [(0, vr (some a0)), (1, vi x1), (2, vi x2), (4, vi sx0), (6, vi x6)]) [1, 2, 3, 0, 5] rfl ?_
        exact w_X0_retype_n274 hc ho hnL hrm hre hct hq hk_182 hf18
set_option maxRecDepth 100000 in
set_option maxHeartbeats 2000000 in
theorem w_X0_retype_n205 {f : CfT} {mo : MO} {a0 : Nat} {r : Int32} {S1 : HS} (hc : cf_cc f = cX0_retype) (ho : cf_ow f = "TableCatalog") (hnL : cf_nL f = 7) (hrm : cf_rm f = (162, 5009)) (hre : cf_re f = (some (.int))) (hct : cf_ct f = false) (hq : Qok f (some (vi r)) S1 mo) {k_182 : Int32 → Int32 → Int32 → Int32 → Int32 → HS → Option (Int32 × HS)} (hk_182 : ∀ (x1 : Int32) (x2 : Int32) (x4 : Int32) (x5 : Int32) (x6 : Int32) (S : HS), k_182 x1 x2 x4 x5 x6 S = some (r, S1) → JJ f S mo 182 [(0, vr (some a0)), (1, vi x1), (2, vi x2), (4, vi x4), (5, vi x5), (6, vi x6)] []) {x1 : Int32} {x2 : Int32} {x5 : Int32} {x6 : Int32} {S : HS} (hf : f_X0_retype_n205 k_182 a0 x1 x2 x5 x6 S = some (r, S1)) : JJ f S mo 205 [(0, vr (some a0)), (1, vi x1), (2, vi x2), (5, vi x5), (6, vi x6)] [] := by
  unfold f_X0_retype_n205 at hf
  refine j_iconst (pc := 205) (v := (1)) hc dX0_retype_205 rfl ?_
  refine j_goto (pc := 206) hc dX0_retype_206 (tgt := 210) rfl ?_
  exact w_X0_retype_n210 hc ho hnL hrm hre hct hq hk_182 hf
set_option maxRecDepth 100000 in
set_option maxHeartbeats 2000000 in
theorem w_X0_retype_n294 {f : CfT} {mo : MO} {a0 : Nat} {r : Int32} {S1 : HS} (hc : cf_cc f = cX0_retype) (ho : cf_ow f = "TableCatalog") (hnL : cf_nL f = 7) (hrm : cf_rm f = (162, 5009)) (hre : cf_re f = (some (.int))) (hct : cf_ct f = false) (hq : Qok f (some (vi r)) S1 mo) : ∀ (n : Nat) (x6 : Int32) (S : HS), f_X0_retype_n294 a0 n x6 S = some (r, S1) → JJ f S mo 294 [(0, vr (some a0)), (6, vi x6)] [] := by
  intro n
  induction n with
  | zero =>
    intro x6 S hf
    have hf : (none : Option (Int32 × HS)) = some (r, S1) := hf
    cases hf
  | succ n ih =>
    intro x6 S hf
    unfold f_X0_retype_n294 at hf
    have hk_294 := ih
    refine j_iload (pc := 294) hc dX0_retype_294 1 rfl ?_
    refine j_sipush (pc := 296) (v := (128)) hc dX0_retype_296 rfl ?_
    refine j_icmp_ge (pc := 299) hc dX0_retype_299 (tgt := 349) rfl (fun hh => ?_) (fun hh => ?_)
    · have hf1 := (if_pos hh).symm.trans hf
      clear hf
      refine j_aload_n (pc := 349) hc dX0_retype_349 0 rfl rfl ?_
      refine j_aload_n (pc := 350) hc dX0_retype_350 0 rfl rfl ?_
      obtain ⟨q1, eq1, hf2⟩ := ob_i hf1
      clear hf1
      refine j_getR (pc := 351) hc ho fa_X0_65_1 dX0_retype_351 eq1 ?_
      refine j_iconst (pc := 354) (v := (0)) hc dX0_retype_354 rfl ?_
      obtain ⟨u2, eu2, hf3⟩ := ob_i hf2
      clear hf2
      obtain ⟨v4, T3, ev4, hf4⟩ := ob_c hf3
      clear hf3
      refine j_callV (pc := 355) (As := [vr q1, vi (0)]) (rest := []) (st2 := [vi v4]) hc ho cw_X0_267 (c_X0_tells ev4) (Rc.of (g_cls_ok eu2) (by decide) (by decide) ci_X0) hrm ⟨by decide, by decide⟩ rfl (Nat.le_of_ble_eq_true rfl) dX0_retype_355 rfl rfl ?_
      refine j_pop (pc := 358) hc dX0_retype_358 rfl ?_
      refine j_bipush (pc := 359) (v := (-2)) hc dX0_retype_359 rfl ?_
      cases hf4
      exact j_iret (pc := 361) hc hq hre rfl dX0_retype_361
    · have hf5 := (if_neg hh).symm.trans hf
      clear hf
      refine j_aload_n (pc := 302) hc dX0_retype_302 0 rfl rfl ?_
      refine j_iload (pc := 303) hc dX0_retype_303 1 rfl ?_
      refine j_iconst (pc := 305) (v := (3)) hc dX0_retype_305 rfl ?_
      refine j_ishr (pc := 306) hc dX0_retype_306 ?_
      refine j_iload (pc := 307) hc dX0_retype_307 1 rfl ?_
      refine j_bipush (pc := 309) (v := (7)) hc dX0_retype_309 rfl ?_
      refine j_iand (pc := 311) hc dX0_retype_311 ?_
      obtain ⟨u5, eu5, hf6⟩ := ob_i hf5
      clear hf5
      obtain ⟨v7, T6, ev7, hf7⟩ := ob_c hf6
      clear hf6
      refine j_callV (pc := 312) (As := [vi (x6 >>> ((3) &&& 31)), vi (x6 &&& (7))]) (rest := []) (st2 := [vi v7]) hc ho cw_X0_250 (c_X0_isColumn ev7) (Rc.of (g_cls_ok eu5) (by decide) (by decide) ci_X0) hrm ⟨by decide, by decide⟩ rfl (Nat.le_of_ble_eq_true rfl) dX0_retype_312 rfl rfl ?_
      refine j_if_eq (pc := 315) hc dX0_retype_315 (tgt := 343) rfl (fun hh => ?_) (fun hh => ?_)
      · have hf8 := (if_pos hh).symm.trans hf7
        clear hf7
        refine j_iinc (pc := 343) (L' := [(6, vi (x6 + (1))), (0, vr (some a0))]) (v := (x6 + (1))) hc dX0_retype_343 1 rfl rfl hnL (by decide) rfl ?_
        refine j_goto (pc := 346) hc dX0_retype_346 (tgt := 294) rfl ?_
        refine j_loc (L' := [(0, vr (some a0)), (6, vi (x6 + (1)))]) [1, 0] rfl ?_
        exact hk_294 _ _ hf8
      · have hf9 := (if_neg hh).symm.trans hf7
        clear hf7
        refine j_aload_n (pc := 318) hc dX0_retype_318 0 rfl rfl ?_
        obtain ⟨q8, eq8, hf10⟩ := ob_i hf9
        clear hf9
        refine j_getR (pc := 319) hc ho fa_X0_35_1 dX0_retype_319 eq8 ?_
        refine j_iload (pc := 322) hc dX0_retype_322 1 rfl ?_
        refine j_iconst (pc := 324) (v := (3)) hc dX0_retype_324 rfl ?_
        refine j_ishr (pc := 325) hc dX0_retype_325 ?_
        obtain ⟨a9, ea9, hf11⟩ := ob_i hf10
        clear hf10
        subst ea9
        obtain ⟨q10, eq10, hf12⟩ := ob_i hf11
        clear hf11
        refine j_aald (pc := 326) hc dX0_retype_326 (by decide) eq10 ?_
        obtain ⟨a11, ea11, hf13⟩ := ob_i hf12
        clear hf12
        subst ea11
        obtain ⟨q12, eq12, hf14⟩ := ob_i hf13
        clear hf13
        refine j_getR (pc := 327) hc ho fa_X0_149_4 dX0_retype_327 eq12 ?_
        refine j_iload (pc := 330) hc dX0_retype_330 1 rfl ?_
        refine j_bipush (pc := 332) (v := (7)) hc dX0_retype_332 rfl ?_
        refine j_iand (pc := 334) hc dX0_retype_334 ?_
        refine j_aload_n (pc := 335) hc dX0_retype_335 0 rfl rfl ?_
        obtain ⟨q13, eq13, hf15⟩ := ob_i hf14
        clear hf14
        refine j_getR (pc := 336) hc ho fa_X0_72_1 dX0_retype_336 eq13 ?_
        refine j_iload (pc := 339) hc dX0_retype_339 1 rfl ?_
        obtain ⟨a14, ea14, hf16⟩ := ob_i hf15
        clear hf15
        subst ea14
        obtain ⟨v15, ev15, hf17⟩ := ob_i hf16
        clear hf16
        refine j_cald (pc := 341) hc dX0_retype_341 ev15 ?_
        obtain ⟨a16, ea16, hf18⟩ := ob_i hf17
        clear hf17
        subst ea16
        obtain ⟨T17, eT17, hf19⟩ := ob_i hf18
        clear hf18
        refine j_cast (pc := 342) hc dX0_retype_342 eT17 ?_
        refine j_iinc (pc := 343) (L' := [(6, vi (x6 + (1))), (0, vr (some a0))]) (v := (x6 + (1))) hc dX0_retype_343 1 rfl rfl hnL (by decide) rfl ?_
        refine j_goto (pc := 346) hc dX0_retype_346 (tgt := 294) rfl ?_
        refine j_loc (L' := [(0, vr (some a0)), (6, vi (x6 + (1)))]) [1, 0] rfl ?_
        exact hk_294 _ _ hf19
set_option maxRecDepth 100000 in
set_option maxHeartbeats 2000000 in
theorem w_X0_retype_n182 {f : CfT} {mo : MO} {a0 : Nat} {r : Int32} {S1 : HS} (hc : cf_cc f = cX0_retype) (ho : cf_ow f = "TableCatalog") (hnL : cf_nL f = 7) (hrm : cf_rm f = (162, 5009)) (hre : cf_re f = (some (.int))) (hct : cf_ct f = false) (hq : Qok f (some (vi r)) S1 mo) : ∀ (n : Nat) (x1 : Int32) (x2 : Int32) (x4 : Int32) (x5 : Int32) (x6 : Int32) (S : HS), f_X0_retype_n182 a0 n x1 x2 x4 x5 x6 S = some (r, S1) → JJ f S mo 182 [(0, vr (some a0)), (1, vi x1), (2, vi x2), (4, vi x4), (5, vi x5), (6, vi x6)] [] := by
  intro n
  induction n with
  | zero =>
    intro x1 x2 x4 x5 x6 S hf
    have hf : (none : Option (Int32 × HS)) = some (r, S1) := hf
    cases hf
  | succ n ih =>
    intro x1 x2 x4 x5 x6 S hf
    unfold f_X0_retype_n182 at hf
    have hk_182 := ih
    refine j_iload (pc := 182) hc dX0_retype_182 5 rfl ?_
    refine j_sipush (pc := 184) (v := (128)) hc dX0_retype_184 rfl ?_
    refine j_icmp_ge (pc := 187) hc dX0_retype_187 (tgt := 283) rfl (fun hh => ?_) (fun hh => ?_)
    · have hf1 := (if_pos hh).symm.trans hf
      clear hf
      refine j_iload (pc := 283) hc dX0_retype_283 3 rfl ?_
      refine j_if_ne (pc := 285) hc dX0_retype_285 (tgt := 291) rfl (fun hh => ?_) (fun hh => ?_)
      · have hf2 := (if_neg hh).symm.trans hf1
        clear hf1
        refine j_iconst (pc := 291) (v := (0)) hc dX0_retype_291 rfl ?_
        refine j_istore (pc := 292) (L' := [(6, vi (0)), (0, vr (some a0)), (1, vi x1), (2, vi x2), (4, vi x4), (5, vi x5)]) hc dX0_retype_292 hnL (by decide) rfl ?_
        refine j_loc (L' := [(0, vr (some a0)), (6, vi (0))]) [1, 0] rfl ?_
        exact w_X0_retype_n294 hc ho hnL hrm hre hct hq fu_ _ _ hf2
      · have hf3 := (if_pos hh).symm.trans hf1
        clear hf1
        refine j_iload (pc := 288) hc dX0_retype_288 4 rfl ?_
        cases hf3
        exact j_iret (pc := 290) hc hq hre rfl dX0_retype_290
    · have hf4 := (if_neg hh).symm.trans hf
      clear hf
      refine j_iload (pc := 190) hc dX0_retype_190 3 rfl ?_
      refine j_if_ne (pc := 192) hc dX0_retype_192 (tgt := 205) rfl (fun hh => ?_) (fun hh => ?_)
      · have hf5 := (if_neg hh).symm.trans hf4
        clear hf4
        refine j_loc (L' := [(0, vr (some a0)), (1, vi x1), (2, vi x2), (5, vi x5), (6, vi x6)]) [0, 1, 2, 4, 5] rfl ?_
        exact w_X0_retype_n205 hc ho hnL hrm hre hct hq hk_182 hf5
      · have hf6 := (if_pos hh).symm.trans hf4
        clear hf4
        refine j_aload_n (pc := 195) hc dX0_retype_195 0 rfl rfl ?_
        obtain ⟨q1, eq1, hf7⟩ := ob_i hf6
        clear hf6
        refine j_getR (pc := 196) hc ho fa_X0_65_1 dX0_retype_196 eq1 ?_
        refine j_iload (pc := 199) hc dX0_retype_199 5 rfl ?_
        obtain ⟨a2, ea2, hf8⟩ := ob_i hf7
        clear hf7
        subst ea2
        obtain ⟨v3, ev3, hf9⟩ := ob_i hf8
        clear hf8
        refine j_zald (pc := 201) hc dX0_retype_201 ev3 ?_
        refine j_if_eq (pc := 202) hc dX0_retype_202 (tgt := 209) rfl (fun hh => ?_) (fun hh => ?_)
        · have hf10 := (if_pos hh).symm.trans hf9
          clear hf9
          refine j_iconst (pc := 209) (v := (0)) hc dX0_retype_209 rfl ?_
          refine j_loc (L' := [(0, vr (some a0)), (1, vi x1), (2, vi x2), (5, vi x5), (6, vi x6)]) [0, 1, 2, 4, 5] rfl ?_
          exact w_X0_retype_n210 hc ho hnL hrm hre hct hq hk_182 hf10
        · have hf11 := (if_neg hh).symm.trans hf9
          clear hf9
          refine j_loc (L' := [(0, vr (some a0)), (1, vi x1), (2, vi x2), (5, vi x5), (6, vi x6)]) [0, 1, 2, 4, 5] rfl ?_
          exact w_X0_retype_n205 hc ho hnL hrm hre hct hq hk_182 hf11
set_option maxRecDepth 100000 in
set_option maxHeartbeats 2000000 in
theorem w_X0_retype_n129 {f : CfT} {mo : MO} {a0 : Nat} {r : Int32} {S1 : HS} (hc : cf_cc f = cX0_retype) (ho : cf_ow f = "TableCatalog") (hnL : cf_nL f = 7) (hrm : cf_rm f = (162, 5009)) (hre : cf_re f = (some (.int))) (hct : cf_ct f = false) (hq : Qok f (some (vi r)) S1 mo) : ∀ (n : Nat) (x1 : Int32) (x2 : Int32) (x4 : Int32) (S : HS), f_X0_retype_n129 a0 n x1 x2 x4 S = some (r, S1) → JJ f S mo 129 [(0, vr (some a0)), (1, vi x1), (2, vi x2), (4, vi x4)] [] := by
  intro n
  induction n with
  | zero =>
    intro x1 x2 x4 S hf
    have hf : (none : Option (Int32 × HS)) = some (r, S1) := hf
    cases hf
  | succ n ih =>
    intro x1 x2 x4 S hf
    unfold f_X0_retype_n129 at hf
    have hk_129 := ih
    refine j_iload (pc := 129) hc dX0_retype_129 3 rfl ?_
    refine j_aload_n (pc := 131) hc dX0_retype_131 0 rfl rfl ?_
    obtain ⟨v1, ev1, hf1⟩ := ob_i hf
    clear hf
    refine j_getI (pc := 132) hc ho fa_X0_83_1 dX0_retype_132 ev1 ?_
    refine j_icmp_ge (pc := 135) hc dX0_retype_135 (tgt := 173) rfl (fun hh => ?_) (fun hh => ?_)
    · have hf2 := (if_pos hh).symm.trans hf1
      clear hf1
      refine j_iconst (pc := 173) (v := (0)) hc dX0_retype_173 rfl ?_
      refine j_istore (pc := 174) (L' := [(4, vi (0)), (0, vr (some a0)), (1, vi x1), (2, vi x2)]) hc dX0_retype_174 hnL (by decide) rfl ?_
      refine j_iconst (pc := 176) (v := (0)) hc dX0_retype_176 rfl ?_
      refine j_istore (pc := 177) (L' := [(5, vi (0)), (4, vi (0)), (0, vr (some a0)), (1, vi x1), (2, vi x2)]) hc dX0_retype_177 hnL (by decide) rfl ?_
      refine j_iconst (pc := 179) (v := (0)) hc dX0_retype_179 rfl ?_
      refine j_istore (pc := 180) (L' := [(6, vi (0)), (5, vi (0)), (4, vi (0)), (0, vr (some a0)), (1, vi x1), (2, vi x2)]) hc dX0_retype_180 hnL (by decide) rfl ?_
      refine j_loc (L' := [(0, vr (some a0)), (1, vi x1), (2, vi x2), (4, vi (0)), (5, vi (0)), (6, vi (0))]) [3, 4, 5, 2, 1, 0] rfl ?_
      exact w_X0_retype_n182 hc ho hnL hrm hre hct hq fu_ _ _ _ _ _ _ hf2
    · have hf3 := (if_neg hh).symm.trans hf1
      clear hf1
      refine j_aload_n (pc := 138) hc dX0_retype_138 0 rfl rfl ?_
      obtain ⟨q2, eq2, hf4⟩ := ob_i hf3
      clear hf3
      refine j_getR (pc := 139) hc ho fa_X0_35_1 dX0_retype_139 eq2 ?_
      refine j_iload (pc := 142) hc dX0_retype_142 3 rfl ?_
      obtain ⟨a3, ea3, hf5⟩ := ob_i hf4
      clear hf4
      subst ea3
      obtain ⟨q4, eq4, hf6⟩ := ob_i hf5
      clear hf5
      refine j_aald (pc := 144) hc dX0_retype_144 (by decide) eq4 ?_
      refine j_ifnull (pc := 145) hc dX0_retype_145 (tgt := 167) rfl (fun hh => ?_) (fun a5 hh => ?_)
      · subst hh
        refine j_iinc (pc := 167) (L' := [(4, vi (x4 + (1))), (0, vr (some a0)), (1, vi x1), (2, vi x2)]) (v := (x4 + (1))) hc dX0_retype_167 3 rfl rfl hnL (by decide) rfl ?_
        refine j_goto (pc := 170) hc dX0_retype_170 (tgt := 129) rfl ?_
        refine j_loc (L' := [(0, vr (some a0)), (1, vi x1), (2, vi x2), (4, vi (x4 + (1)))]) [1, 2, 3, 0] rfl ?_
        exact hk_129 _ _ _ _ hf6
      · subst hh
        refine j_aload_n (pc := 148) hc dX0_retype_148 0 rfl rfl ?_
        obtain ⟨q6, eq6, hf7⟩ := ob_i hf6
        clear hf6
        refine j_getR (pc := 149) hc ho fa_X0_35_1 dX0_retype_149 eq6 ?_
        refine j_iload (pc := 152) hc dX0_retype_152 3 rfl ?_
        obtain ⟨a7, ea7, hf8⟩ := ob_i hf7
        clear hf7
        subst ea7
        obtain ⟨q8, eq8, hf9⟩ := ob_i hf8
        clear hf8
        refine j_aald (pc := 154) hc dX0_retype_154 (by decide) eq8 ?_
        obtain ⟨a9, ea9, hf10⟩ := ob_i hf9
        clear hf9
        subst ea9
        obtain ⟨u10, eu10, hf11⟩ := ob_i hf10
        clear hf10
        obtain ⟨v12, T11, ev12, hf12⟩ := ob_c hf11
        clear hf11
        refine j_callV (pc := 155) (As := []) (rest := []) (st2 := [vi v12]) hc ho cw_X0_142 (c_X4_isMade ev12) (Rc.of (g_cls_ok eu10) (by decide) (by decide) ci_X4) hrm ⟨by decide, by decide⟩ rfl (Nat.le_of_ble_eq_true rfl) dX0_retype_155 rfl rfl ?_
        refine j_if_eq (pc := 158) hc dX0_retype_158 (tgt := 167) rfl (fun hh => ?_) (fun hh => ?_)
        · have hf13 := (if_pos hh).symm.trans hf12
          clear hf12
          refine j_iinc (pc := 167) (L' := [(4, vi (x4 + (1))), (0, vr (some a0)), (1, vi x1), (2, vi x2)]) (v := (x4 + (1))) hc dX0_retype_167 3 rfl rfl hnL (by decide) rfl ?_
          refine j_goto (pc := 170) hc dX0_retype_170 (tgt := 129) rfl ?_
          refine j_loc (L' := [(0, vr (some a0)), (1, vi x1), (2, vi x2), (4, vi (x4 + (1)))]) [1, 2, 3, 0] rfl ?_
          exact hk_129 _ _ _ _ hf13
        · have hf14 := (if_neg hh).symm.trans hf12
          clear hf12
          refine j_aload_n (pc := 161) hc dX0_retype_161 0 rfl rfl ?_
          refine j_iload (pc := 162) hc dX0_retype_162 3 rfl ?_
          obtain ⟨u13, eu13, hf15⟩ := ob_i hf14
          clear hf14
          obtain ⟨T14, eT14, hf16⟩ := ob_i hf15
          clear hf15
          refine j_callV (pc := 164) (As := [vi x4]) (rest := []) (st2 := []) hc ho cw_X0_285 (c_X0_retypes eT14) (Rc.of (g_cls_ok eu13) (by decide) (by decide) ci_X0) hrm ⟨by decide, by decide⟩ rfl (Nat.le_of_ble_eq_true rfl) dX0_retype_164 rfl rfl ?_
          refine j_iinc (pc := 167) (L' := [(4, vi (x4 + (1))), (0, vr (some a0)), (1, vi x1), (2, vi x2)]) (v := (x4 + (1))) hc dX0_retype_167 3 rfl rfl hnL (by decide) rfl ?_
          refine j_goto (pc := 170) hc dX0_retype_170 (tgt := 129) rfl ?_
          refine j_loc (L' := [(0, vr (some a0)), (1, vi x1), (2, vi x2), (4, vi (x4 + (1)))]) [1, 2, 3, 0] rfl ?_
          exact hk_129 _ _ _ _ hf16
set_option maxRecDepth 100000 in
set_option maxHeartbeats 2000000 in
theorem w_X0_retype_n52 {f : CfT} {mo : MO} {a0 : Nat} {r : Int32} {S1 : HS} (hc : cf_cc f = cX0_retype) (ho : cf_ow f = "TableCatalog") (hnL : cf_nL f = 7) (hrm : cf_rm f = (162, 5009)) (hre : cf_re f = (some (.int))) (hct : cf_ct f = false) (hq : Qok f (some (vi r)) S1 mo) : ∀ (n : Nat) (x1 : Int32) (x2 : Int32) (x3 : Int32) (x4 : Int32) (S : HS), f_X0_retype_n52 a0 n x1 x2 x3 x4 S = some (r, S1) → JJ f S mo 52 [(0, vr (some a0)), (1, vi x1), (2, vi x2), (3, vi x3), (4, vi x4)] [] := by
  intro n
  induction n with
  | zero =>
    intro x1 x2 x3 x4 S hf
    have hf : (none : Option (Int32 × HS)) = some (r, S1) := hf
    cases hf
  | succ n ih =>
    intro x1 x2 x3 x4 S hf
    unfold f_X0_retype_n52 at hf
    have hk_52 := ih
    refine j_iload (pc := 52) hc dX0_retype_52 4 rfl ?_
    refine j_sipush (pc := 54) (v := (128)) hc dX0_retype_54 rfl ?_
    refine j_icmp_ge (pc := 57) hc dX0_retype_57 (tgt := 111) rfl (fun hh => ?_) (fun hh => ?_)
    · have hf1 := (if_pos hh).symm.trans hf
      clear hf
      refine j_aload_n (pc := 111) hc dX0_retype_111 0 rfl rfl ?_
      obtain ⟨q1, eq1, hf2⟩ := ob_i hf1
      clear hf1
      refine j_getR (pc := 112) hc ho fa_X0_35_1 dX0_retype_112 eq1 ?_
      refine j_iload_n (pc := 115) hc dX0_retype_115 1 rfl rfl ?_
      obtain ⟨a2, ea2, hf3⟩ := ob_i hf2
      clear hf2
      subst ea2
      obtain ⟨q3, eq3, hf4⟩ := ob_i hf3
      clear hf3
      refine j_aald (pc := 116) hc dX0_retype_116 (by decide) eq3 ?_
      obtain ⟨a4, ea4, hf5⟩ := ob_i hf4
      clear hf4
      subst ea4
      obtain ⟨q5, eq5, hf6⟩ := ob_i hf5
      clear hf5
      refine j_getR (pc := 117) hc ho fa_X0_149_4 dX0_retype_117 eq5 ?_
      refine j_iload_n (pc := 120) hc dX0_retype_120 2 rfl rfl ?_
      refine j_iload_n (pc := 121) hc dX0_retype_121 3 rfl rfl ?_
      refine j_i2c (pc := 122) hc dX0_retype_122 ?_
      obtain ⟨a6, ea6, hf7⟩ := ob_i hf6
      clear hf6
      subst ea6
      obtain ⟨T7, eT7, hf8⟩ := ob_i hf7
      clear hf7
      refine j_cast (pc := 123) hc dX0_retype_123 eT7 ?_
      refine j_iload_n (pc := 124) hc dX0_retype_124 1 rfl rfl ?_
      refine j_iconst (pc := 125) (v := (1)) hc dX0_retype_125 rfl ?_
      refine j_iadd (pc := 126) hc dX0_retype_126 ?_
      refine j_istore (pc := 127) (L' := [(4, vi (x1 + (1))), (0, vr (some a0)), (1, vi x1), (2, vi x2), (3, vi x3)]) hc dX0_retype_127 hnL (by decide) rfl ?_
      refine j_loc (L' := [(0, vr (some a0)), (1, vi x1), (2, vi x2), (4, vi (x1 + (1)))]) [1, 2, 3, 0] rfl ?_
      exact w_X0_retype_n129 hc ho hnL hrm hre hct hq fu_ _ _ _ _ hf8
    · have hf9 := (if_neg hh).symm.trans hf
      clear hf
      refine j_aload_n (pc := 60) hc dX0_retype_60 0 rfl rfl ?_
      obtain ⟨q8, eq8, hf10⟩ := ob_i hf9
      clear hf9
      refine j_getR (pc := 61) hc ho fa_X0_72_1 dX0_retype_61 eq8 ?_
      refine j_iload (pc := 64) hc dX0_retype_64 4 rfl ?_
      refine j_aload_n (pc := 66) hc dX0_retype_66 0 rfl rfl ?_
      refine j_iload (pc := 67) hc dX0_retype_67 4 rfl ?_
      refine j_iconst (pc := 69) (v := (3)) hc dX0_retype_69 rfl ?_
      refine j_ishr (pc := 70) hc dX0_retype_70 ?_
      refine j_iload (pc := 71) hc dX0_retype_71 4 rfl ?_
      refine j_bipush (pc := 73) (v := (7)) hc dX0_retype_73 rfl ?_
      refine j_iand (pc := 75) hc dX0_retype_75 ?_
      obtain ⟨u9, eu9, hf11⟩ := ob_i hf10
      clear hf10
      obtain ⟨v11, T10, ev11, hf12⟩ := ob_c hf11
      clear hf11
      refine j_callV (pc := 76) (As := [vi (x4 >>> ((3) &&& 31)), vi (x4 &&& (7))]) (rest := [vi x4, vr q8]) (st2 := [vi v11, vi x4, vr q8]) hc ho cw_X0_250 (c_X0_isColumn ev11) (Rc.of (g_cls_ok eu9) (by decide) (by decide) ci_X0) hrm ⟨by decide, by decide⟩ rfl (Nat.le_of_ble_eq_true rfl) dX0_retype_76 rfl rfl ?_
      refine j_if_eq (pc := 79) hc dX0_retype_79 (tgt := 103) rfl (fun hh => ?_) (fun hh => ?_)
      · have hf13 := (if_pos hh).symm.trans hf12
        clear hf12
        refine j_iconst (pc := 103) (v := (0)) hc dX0_retype_103 rfl ?_
        obtain ⟨a12, ea12, hf14⟩ := ob_i hf13
        clear hf13
        subst ea12
        obtain ⟨T13, eT13, hf15⟩ := ob_i hf14
        clear hf14
        refine j_cast (pc := 104) hc dX0_retype_104 eT13 ?_
        refine j_iinc (pc := 105) (L' := [(4, vi (x4 + (1))), (0, vr (some a0)), (1, vi x1), (2, vi x2), (3, vi x3)]) (v := (x4 + (1))) hc dX0_retype_105 4 rfl rfl hnL (by decide) rfl ?_
        refine j_goto (pc := 108) hc dX0_retype_108 (tgt := 52) rfl ?_
        refine j_loc (L' := [(0, vr (some a0)), (1, vi x1), (2, vi x2), (3, vi x3), (4, vi (x4 + (1)))]) [1, 2, 3, 4, 0] rfl ?_
        exact hk_52 _ _ _ _ _ hf15
      · have hf16 := (if_neg hh).symm.trans hf12
        clear hf12
        refine j_aload_n (pc := 82) hc dX0_retype_82 0 rfl rfl ?_
        obtain ⟨q14, eq14, hf17⟩ := ob_i hf16
        clear hf16
        refine j_getR (pc := 83) hc ho fa_X0_35_1 dX0_retype_83 eq14 ?_
        refine j_iload (pc := 86) hc dX0_retype_86 4 rfl ?_
        refine j_iconst (pc := 88) (v := (3)) hc dX0_retype_88 rfl ?_
        refine j_ishr (pc := 89) hc dX0_retype_89 ?_
        obtain ⟨a15, ea15, hf18⟩ := ob_i hf17
        clear hf17
        subst ea15
        obtain ⟨q16, eq16, hf19⟩ := ob_i hf18
        clear hf18
        refine j_aald (pc := 90) hc dX0_retype_90 (by decide) eq16 ?_
        obtain ⟨a17, ea17, hf20⟩ := ob_i hf19
        clear hf19
        subst ea17
        obtain ⟨q18, eq18, hf21⟩ := ob_i hf20
        clear hf20
        refine j_getR (pc := 91) hc ho fa_X0_149_4 dX0_retype_91 eq18 ?_
        refine j_iload (pc := 94) hc dX0_retype_94 4 rfl ?_
        refine j_bipush (pc := 96) (v := (7)) hc dX0_retype_96 rfl ?_
        refine j_iand (pc := 98) hc dX0_retype_98 ?_
        obtain ⟨a19, ea19, hf22⟩ := ob_i hf21
        clear hf21
        subst ea19
        obtain ⟨v20, ev20, hf23⟩ := ob_i hf22
        clear hf22
        refine j_cald (pc := 99) hc dX0_retype_99 ev20 ?_
        refine j_goto (pc := 100) hc dX0_retype_100 (tgt := 104) rfl ?_
        obtain ⟨a21, ea21, hf24⟩ := ob_i hf23
        clear hf23
        subst ea21
        obtain ⟨T22, eT22, hf25⟩ := ob_i hf24
        clear hf24
        refine j_cast (pc := 104) hc dX0_retype_104 eT22 ?_
        refine j_iinc (pc := 105) (L' := [(4, vi (x4 + (1))), (0, vr (some a0)), (1, vi x1), (2, vi x2), (3, vi x3)]) (v := (x4 + (1))) hc dX0_retype_105 4 rfl rfl hnL (by decide) rfl ?_
        refine j_goto (pc := 108) hc dX0_retype_108 (tgt := 52) rfl ?_
        refine j_loc (L' := [(0, vr (some a0)), (1, vi x1), (2, vi x2), (3, vi x3), (4, vi (x4 + (1)))]) [1, 2, 3, 4, 0] rfl ?_
        exact hk_52 _ _ _ _ _ hf25
set_option maxRecDepth 100000 in
set_option maxHeartbeats 2000000 in
theorem w_X0_retype_n41 {f : CfT} {mo : MO} {a0 : Nat} {r : Int32} {S1 : HS} (hc : cf_cc f = cX0_retype) (ho : cf_ow f = "TableCatalog") (hnL : cf_nL f = 7) (hrm : cf_rm f = (162, 5009)) (hre : cf_re f = (some (.int))) (hct : cf_ct f = false) (hq : Qok f (some (vi r)) S1 mo) {x1 : Int32} {x2 : Int32} {x3 : Int32} {S : HS} (hf : f_X0_retype_n41 a0 x1 x2 x3 S = some (r, S1)) : JJ f S mo 41 [(0, vr (some a0)), (1, vi x1), (2, vi x2), (3, vi x3)] [] := by
  unfold f_X0_retype_n41 at hf
  refine j_aload_n (pc := 41) hc dX0_retype_41 0 rfl rfl ?_
  refine j_aload_n (pc := 42) hc dX0_retype_42 0 rfl rfl ?_
  obtain ⟨q1, eq1, hf1⟩ := ob_i hf
  clear hf
  refine j_getR (pc := 43) hc ho fa_X0_65_1 dX0_retype_43 eq1 ?_
  obtain ⟨u2, eu2, hf2⟩ := ob_i hf1
  clear hf1
  obtain ⟨T3, eT3, hf3⟩ := ob_i hf2
  clear hf2
  refine j_callV (pc := 46) (As := [vr q1]) (rest := []) (st2 := []) hc ho cw_X0_261 (c_X0_clear eT3) (Rc.of (g_cls_ok eu2) (by decide) (by decide) ci_X0) hrm ⟨by decide, by decide⟩ rfl (Nat.le_of_ble_eq_true rfl) dX0_retype_46 rfl rfl ?_
  refine j_iconst (pc := 49) (v := (0)) hc dX0_retype_49 rfl ?_
  refine j_istore (pc := 50) (L' := [(4, vi (0)), (0, vr (some a0)), (1, vi x1), (2, vi x2), (3, vi x3)]) hc dX0_retype_50 hnL (by decide) rfl ?_
  refine j_loc (L' := [(0, vr (some a0)), (1, vi x1), (2, vi x2), (3, vi x3), (4, vi (0))]) [1, 2, 3, 4, 0] rfl ?_
  exact w_X0_retype_n52 hc ho hnL hrm hre hct hq fu_ _ _ _ _ _ hf3
set_option maxRecDepth 100000 in
set_option maxHeartbeats 2000000 in
theorem c_X0_retype {l : Launch} {g : PG} {mo : MO} {a0 : Nat} {x1 : Int32} {x2 : Int32} {x3 : Int32} {r : Int32} {S S1 : HS} (hf : f_X0_retype a0 x1 x2 x3 S = some (r, S1)) : (h_nx S ≤ h_nx S1 ∧ h_sl S ≤ h_sl S1) ∧ Ct l g yX0_retype (ws_ yX0_retype cX0_retype 7 (some (.int))) 162 5009 S mo [vr (some a0), vi x1, vi x2, vi x3] (some (vi r)) S1 mo := by
  refine met_of false (by decide) (fun h => by first | rfl | cases h) rfl (Nat.le_of_ble_eq_true rfl) (fun f hl hg hc ho hnL hrm hre hct hex hq => ?_)
  subst hl
  subst hg
  unfold f_X0_retype at hf
  refine j_aload_n (pc := 0) hc dX0_retype_0 0 rfl rfl ?_
  refine j_iload_n (pc := 1) hc dX0_retype_1 1 rfl rfl ?_
  refine j_iload_n (pc := 2) hc dX0_retype_2 2 rfl rfl ?_
  obtain ⟨u1, eu1, hf1⟩ := ob_i hf
  clear hf
  obtain ⟨v3, T2, ev3, hf2⟩ := ob_c hf1
  clear hf1
  refine j_callV (pc := 3) (As := [vi x1, vi x2]) (rest := []) (st2 := [vi v3]) hc ho cw_X0_250 (c_X0_isColumn ev3) (Rc.of (g_cls_ok eu1) (by decide) (by decide) ci_X0) hrm ⟨by decide, by decide⟩ rfl (Nat.le_of_ble_eq_true rfl) dX0_retype_3 rfl rfl ?_
  refine j_if_eq (pc := 6) hc dX0_retype_6 (tgt := 39) rfl (fun hh => ?_) (fun hh => ?_)
  · have hf3 := (if_pos hh).symm.trans hf2
    clear hf2
    refine j_iconst (pc := 39) (v := (-1)) hc dX0_retype_39 rfl ?_
    cases hf3
    exact j_iret (pc := 40) hc hq hre rfl dX0_retype_40
  · have hf4 := (if_neg hh).symm.trans hf2
    clear hf2
    refine j_aload_n (pc := 9) hc dX0_retype_9 0 rfl rfl ?_
    obtain ⟨q4, eq4, hf5⟩ := ob_i hf4
    clear hf4
    refine j_getR (pc := 10) hc ho fa_X0_35_1 dX0_retype_10 eq4 ?_
    refine j_iload_n (pc := 13) hc dX0_retype_13 1 rfl rfl ?_
    obtain ⟨a5, ea5, hf6⟩ := ob_i hf5
    clear hf5
    subst ea5
    obtain ⟨q6, eq6, hf7⟩ := ob_i hf6
    clear hf6
    refine j_aald (pc := 14) hc dX0_retype_14 (by decide) eq6 ?_
    obtain ⟨a7, ea7, hf8⟩ := ob_i hf7
    clear hf7
    subst ea7
    obtain ⟨v8, ev8, hf9⟩ := ob_i hf8
    clear hf8
    refine j_getI (pc := 15) hc ho fa_X0_237_4 dX0_retype_15 ev8 ?_
    refine j_if_ne (pc := 18) hc dX0_retype_18 (tgt := 39) rfl (fun hh => ?_) (fun hh => ?_)
    · have hf10 := (if_neg hh).symm.trans hf9
      clear hf9
      refine j_iconst (pc := 39) (v := (-1)) hc dX0_retype_39 rfl ?_
      cases hf10
      exact j_iret (pc := 40) hc hq hre rfl dX0_retype_40
    · have hf11 := (if_pos hh).symm.trans hf9
      clear hf9
      refine j_iload_n (pc := 21) hc dX0_retype_21 3 rfl rfl ?_
      refine j_bipush (pc := 22) (v := (110)) hc dX0_retype_22 rfl ?_
      refine j_icmp_eq (pc := 24) hc dX0_retype_24 (tgt := 41) rfl (fun hh => ?_) (fun hh => ?_)
      · have hf12 := (if_pos hh).symm.trans hf11
        clear hf11
        exact w_X0_retype_n41 hc ho hnL hrm hre hct hq hf12
      · have hf13 := (if_neg hh).symm.trans hf11
        clear hf11
        refine j_iload_n (pc := 27) hc dX0_retype_27 3 rfl rfl ?_
        refine j_bipush (pc := 28) (v := (116)) hc dX0_retype_28 rfl ?_
        refine j_icmp_eq (pc := 30) hc dX0_retype_30 (tgt := 41) rfl (fun hh => ?_) (fun hh => ?_)
        · have hf14 := (if_pos hh).symm.trans hf13
          clear hf13
          exact w_X0_retype_n41 hc ho hnL hrm hre hct hq hf14
        · have hf15 := (if_neg hh).symm.trans hf13
          clear hf13
          refine j_iload_n (pc := 33) hc dX0_retype_33 3 rfl rfl ?_
          refine j_bipush (pc := 34) (v := (100)) hc dX0_retype_34 rfl ?_
          refine j_icmp_eq (pc := 36) hc dX0_retype_36 (tgt := 41) rfl (fun hh => ?_) (fun hh => ?_)
          · have hf16 := (if_pos hh).symm.trans hf15
            clear hf15
            exact w_X0_retype_n41 hc ho hnL hrm hre hct hq hf16
          · have hf17 := (if_neg hh).symm.trans hf15
            clear hf15
            refine j_iconst (pc := 39) (v := (-1)) hc dX0_retype_39 rfl ?_
            cases hf17
            exact j_iret (pc := 40) hc hq hre rfl dX0_retype_40
def f_X0_drop_n22 (k_12 : Int32 → Int32 → HS → Option (Int32 × HS)) (a0 : Nat) : Nat → Int32 → Int32 → Int32 → HS → Option (Int32 × HS)
  | 0, _, _, _, _ => none
  | n + 1, x1, x2, x3, S =>
    (g_fR S 1 1 a0).bind fun q1 =>
    (q1).bind fun a2 =>
    (g_aR S 36 a2 x2).bind fun q3 =>
    o_case q3 (
      k_12 x1 (x2 + (1)) S
    ) (fun a4 =>
      (g_fR S 1 1 a0).bind fun q5 =>
      (q5).bind fun a6 =>
      (g_aR S 36 a6 x2).bind fun q7 =>
      (q7).bind fun a8 =>
      (g_fI S 4 104 a8).bind fun v9 =>
      if v9 ≤ x3 then
        k_12 x1 (x2 + (1)) S
      else
        (g_fR S 1 1 a0).bind fun q10 =>
        (q10).bind fun a11 =>
        (g_aR S 36 a11 x2).bind fun q12 =>
        (q12).bind fun a13 =>
        (g_fR S 4 103 a13).bind fun q14 =>
        (q14).bind fun a15 =>
        (g_aI S 31 a15 x3).bind fun v16 =>
        if v16 = x1 then
          some ((-2), S)
        else
          (fun x1 x2 x3 S => f_X0_drop_n22 k_12 a0 n x1 x2 x3 S) x1 x2 (x3 + (1)) S
    )
def f_X0_drop_n85 (a0 : Nat) : Nat → Int32 → Int32 → Int32 → HS → Option (Int32 × HS)
  | 0, _, _, _, _ => none
  | n + 1, x1, x2, x3, S =>
    (g_fI S 1 4 a0).bind fun v1 =>
    if v1 ≤ x3 then
      some (x2, S)
    else
      (g_fR S 1 11 a0).bind fun q2 =>
      (q2).bind fun a3 =>
      (g_aR S 37 a3 x3).bind fun q4 =>
      (q4).bind fun a5 =>
      (g_aI S 31 a5 (1)).bind fun v6 =>
      if v6 = x1 then
        (g_fR S 1 11 a0).bind fun q7 =>
        (q7).bind fun a8 =>
        (g_aR S 37 a8 x3).bind fun q9 =>
        (q9).bind fun a10 =>
        (p_aI S 31 a10 (1) (-1)).bind fun T11 =>
        (fun x1 x2 x3 S => f_X0_drop_n85 a0 n x1 x2 x3 S) x1 (x2 + (1)) (x3 + (1)) T11
      else
        (fun x1 x2 x3 S => f_X0_drop_n85 a0 n x1 x2 x3 S) x1 x2 (x3 + (1)) S
def f_X0_drop_n12 (a0 : Nat) : Nat → Int32 → Int32 → HS → Option (Int32 × HS)
  | 0, _, _, _ => none
  | n + 1, x1, x2, S =>
    (g_fI S 1 2 a0).bind fun v1 =>
    if v1 ≤ x2 then
      (g_fR S 1 1 a0).bind fun q2 =>
      (q2).bind fun a3 =>
      (p_aS S 36 a3 x1 none).bind fun T4 =>
      f_X0_drop_n85 a0 fu_ x1 (0) (0) T4
    else
      f_X0_drop_n22 (fun x1 x2 S => f_X0_drop_n12 a0 n x1 x2 S) a0 fu_ x1 x2 (0) S
def f_X0_drop (a0 : Nat) (x1 : Int32) (S : HS) : Option (Int32 × HS) :=
  (g_cls S 1 a0).bind fun u1 =>
  o_bd (f_X0_table_2 a0 x1 S) fun q3 T2 =>
  o_case q3 (
    some ((-1), T2)
  ) (fun a4 =>
    f_X0_drop_n12 a0 fu_ x1 (0) T2
  )
set_option maxRecDepth 100000 in
set_option maxHeartbeats 2000000 in
theorem w_X0_drop_n22 {f : CfT} {mo : MO} {a0 : Nat} {r : Int32} {S1 : HS} (hc : cf_cc f = cX0_drop) (ho : cf_ow f = "TableCatalog") (hnL : cf_nL f = 4) (hrm : cf_rm f = (2, 81)) (hre : cf_re f = (some (.int))) (hct : cf_ct f = false) (hq : Qok f (some (vi r)) S1 mo) {k_12 : Int32 → Int32 → HS → Option (Int32 × HS)} (hk_12 : ∀ (x1 : Int32) (x2 : Int32) (S : HS), k_12 x1 x2 S = some (r, S1) → JJ f S mo 12 [(0, vr (some a0)), (1, vi x1), (2, vi x2)] []) : ∀ (n : Nat) (x1 : Int32) (x2 : Int32) (x3 : Int32) (S : HS), f_X0_drop_n22 k_12 a0 n x1 x2 x3 S = some (r, S1) → JJ f S mo 22 [(0, vr (some a0)), (1, vi x1), (2, vi x2), (3, vi x3)] [] := by
  intro n
  induction n with
  | zero =>
    intro x1 x2 x3 S hf
    have hf : (none : Option (Int32 × HS)) = some (r, S1) := hf
    cases hf
  | succ n ih =>
    intro x1 x2 x3 S hf
    unfold f_X0_drop_n22 at hf
    have hk_22 := ih
    refine j_aload_n (pc := 22) hc dX0_drop_22 0 rfl rfl ?_
    obtain ⟨q1, eq1, hf1⟩ := ob_i hf
    clear hf
    refine j_getR (pc := 23) hc ho fa_X0_35_1 dX0_drop_23 eq1 ?_
    refine j_iload_n (pc := 26) hc dX0_drop_26 2 rfl rfl ?_
    obtain ⟨a2, ea2, hf2⟩ := ob_i hf1
    clear hf1
    subst ea2
    obtain ⟨q3, eq3, hf3⟩ := ob_i hf2
    clear hf2
    refine j_aald (pc := 27) hc dX0_drop_27 (by decide) eq3 ?_
    refine j_ifnull (pc := 28) hc dX0_drop_28 (tgt := 68) rfl (fun hh => ?_) (fun a4 hh => ?_)
    · subst hh
      refine j_iinc (pc := 68) (L' := [(2, vi (x2 + (1))), (0, vr (some a0)), (1, vi x1), (3, vi x3)]) (v := (x2 + (1))) hc dX0_drop_68 2 rfl rfl hnL (by decide) rfl ?_
      refine j_goto (pc := 71) hc dX0_drop_71 (tgt := 12) rfl ?_
      refine j_loc (L' := [(0, vr (some a0)), (1, vi x1), (2, vi (x2 + (1)))]) [1, 2, 0] rfl ?_
      exact hk_12 _ _ _ hf3
    · subst hh
      refine j_iload_n (pc := 31) hc dX0_drop_31 3 rfl rfl ?_
      refine j_aload_n (pc := 32) hc dX0_drop_32 0 rfl rfl ?_
      obtain ⟨q5, eq5, hf4⟩ := ob_i hf3
      clear hf3
      refine j_getR (pc := 33) hc ho fa_X0_35_1 dX0_drop_33 eq5 ?_
      refine j_iload_n (pc := 36) hc dX0_drop_36 2 rfl rfl ?_
      obtain ⟨a6, ea6, hf5⟩ := ob_i hf4
      clear hf4
      subst ea6
      obtain ⟨q7, eq7, hf6⟩ := ob_i hf5
      clear hf5
      refine j_aald (pc := 37) hc dX0_drop_37 (by decide) eq7 ?_
      obtain ⟨a8, ea8, hf7⟩ := ob_i hf6
      clear hf6
      subst ea8
      obtain ⟨v9, ev9, hf8⟩ := ob_i hf7
      clear hf7
      refine j_getI (pc := 38) hc ho fa_X0_131_4 dX0_drop_38 ev9 ?_
      refine j_icmp_ge (pc := 41) hc dX0_drop_41 (tgt := 68) rfl (fun hh => ?_) (fun hh => ?_)
      · have hf9 := (if_pos hh).symm.trans hf8
        clear hf8
        refine j_iinc (pc := 68) (L' := [(2, vi (x2 + (1))), (0, vr (some a0)), (1, vi x1), (3, vi x3)]) (v := (x2 + (1))) hc dX0_drop_68 2 rfl rfl hnL (by decide) rfl ?_
        refine j_goto (pc := 71) hc dX0_drop_71 (tgt := 12) rfl ?_
        refine j_loc (L' := [(0, vr (some a0)), (1, vi x1), (2, vi (x2 + (1)))]) [1, 2, 0] rfl ?_
        exact hk_12 _ _ _ hf9
      · have hf10 := (if_neg hh).symm.trans hf8
        clear hf8
        refine j_aload_n (pc := 44) hc dX0_drop_44 0 rfl rfl ?_
        obtain ⟨q10, eq10, hf11⟩ := ob_i hf10
        clear hf10
        refine j_getR (pc := 45) hc ho fa_X0_35_1 dX0_drop_45 eq10 ?_
        refine j_iload_n (pc := 48) hc dX0_drop_48 2 rfl rfl ?_
        obtain ⟨a11, ea11, hf12⟩ := ob_i hf11
        clear hf11
        subst ea11
        obtain ⟨q12, eq12, hf13⟩ := ob_i hf12
        clear hf12
        refine j_aald (pc := 49) hc dX0_drop_49 (by decide) eq12 ?_
        obtain ⟨a13, ea13, hf14⟩ := ob_i hf13
        clear hf13
        subst ea13
        obtain ⟨q14, eq14, hf15⟩ := ob_i hf14
        clear hf14
        refine j_getR (pc := 50) hc ho fa_X0_126_4 dX0_drop_50 eq14 ?_
        refine j_iload_n (pc := 53) hc dX0_drop_53 3 rfl rfl ?_
        obtain ⟨a15, ea15, hf16⟩ := ob_i hf15
        clear hf15
        subst ea15
        obtain ⟨v16, ev16, hf17⟩ := ob_i hf16
        clear hf16
        refine j_iald (pc := 54) hc dX0_drop_54 ev16 ?_
        refine j_iload_n (pc := 55) hc dX0_drop_55 1 rfl rfl ?_
        refine j_icmp_ne (pc := 56) hc dX0_drop_56 (tgt := 62) rfl (fun hh => ?_) (fun hh => ?_)
        · have hf18 := (if_neg hh).symm.trans hf17
          clear hf17
          refine j_iinc (pc := 62) (L' := [(3, vi (x3 + (1))), (0, vr (some a0)), (1, vi x1), (2, vi x2)]) (v := (x3 + (1))) hc dX0_drop_62 3 rfl rfl hnL (by decide) rfl ?_
          refine j_goto (pc := 65) hc dX0_drop_65 (tgt := 22) rfl ?_
          refine j_loc (L' := [(0, vr (some a0)), (1, vi x1), (2, vi x2), (3, vi (x3 + (1)))]) [1, 2, 3, 0] rfl ?_
          exact hk_22 _ _ _ _ hf18
        · have hf19 := (if_pos hh).symm.trans hf17
          clear hf17
          refine j_bipush (pc := 59) (v := (-2)) hc dX0_drop_59 rfl ?_
          cases hf19
          exact j_iret (pc := 61) hc hq hre rfl dX0_drop_61
set_option maxRecDepth 100000 in
set_option maxHeartbeats 2000000 in
theorem w_X0_drop_n85 {f : CfT} {mo : MO} {a0 : Nat} {r : Int32} {S1 : HS} (hc : cf_cc f = cX0_drop) (ho : cf_ow f = "TableCatalog") (hnL : cf_nL f = 4) (hrm : cf_rm f = (2, 81)) (hre : cf_re f = (some (.int))) (hct : cf_ct f = false) (hq : Qok f (some (vi r)) S1 mo) : ∀ (n : Nat) (x1 : Int32) (x2 : Int32) (x3 : Int32) (S : HS), f_X0_drop_n85 a0 n x1 x2 x3 S = some (r, S1) → JJ f S mo 85 [(0, vr (some a0)), (1, vi x1), (2, vi x2), (3, vi x3)] [] := by
  intro n
  induction n with
  | zero =>
    intro x1 x2 x3 S hf
    have hf : (none : Option (Int32 × HS)) = some (r, S1) := hf
    cases hf
  | succ n ih =>
    intro x1 x2 x3 S hf
    unfold f_X0_drop_n85 at hf
    have hk_85 := ih
    refine j_iload_n (pc := 85) hc dX0_drop_85 3 rfl rfl ?_
    refine j_aload_n (pc := 86) hc dX0_drop_86 0 rfl rfl ?_
    obtain ⟨v1, ev1, hf1⟩ := ob_i hf
    clear hf
    refine j_getI (pc := 87) hc ho fa_X0_282_1 dX0_drop_87 ev1 ?_
    refine j_icmp_ge (pc := 90) hc dX0_drop_90 (tgt := 126) rfl (fun hh => ?_) (fun hh => ?_)
    · have hf2 := (if_pos hh).symm.trans hf1
      clear hf1
      refine j_iload_n (pc := 126) hc dX0_drop_126 2 rfl rfl ?_
      cases hf2
      exact j_iret (pc := 127) hc hq hre rfl dX0_drop_127
    · have hf3 := (if_neg hh).symm.trans hf1
      clear hf1
      refine j_aload_n (pc := 93) hc dX0_drop_93 0 rfl rfl ?_
      obtain ⟨q2, eq2, hf4⟩ := ob_i hf3
      clear hf3
      refine j_getR (pc := 94) hc ho fa_X0_53_1 dX0_drop_94 eq2 ?_
      refine j_iload_n (pc := 97) hc dX0_drop_97 3 rfl rfl ?_
      obtain ⟨a3, ea3, hf5⟩ := ob_i hf4
      clear hf4
      subst ea3
      obtain ⟨q4, eq4, hf6⟩ := ob_i hf5
      clear hf5
      refine j_aald (pc := 98) hc dX0_drop_98 (by decide) eq4 ?_
      refine j_iconst (pc := 99) (v := (1)) hc dX0_drop_99 rfl ?_
      obtain ⟨a5, ea5, hf7⟩ := ob_i hf6
      clear hf6
      subst ea5
      obtain ⟨v6, ev6, hf8⟩ := ob_i hf7
      clear hf7
      refine j_iald (pc := 100) hc dX0_drop_100 ev6 ?_
      refine j_iload_n (pc := 101) hc dX0_drop_101 1 rfl rfl ?_
      refine j_icmp_eq (pc := 102) hc dX0_drop_102 (tgt := 108) rfl (fun hh => ?_) (fun hh => ?_)
      · have hf9 := (if_pos hh).symm.trans hf8
        clear hf8
        refine j_aload_n (pc := 108) hc dX0_drop_108 0 rfl rfl ?_
        obtain ⟨q7, eq7, hf10⟩ := ob_i hf9
        clear hf9
        refine j_getR (pc := 109) hc ho fa_X0_53_1 dX0_drop_109 eq7 ?_
        refine j_iload_n (pc := 112) hc dX0_drop_112 3 rfl rfl ?_
        obtain ⟨a8, ea8, hf11⟩ := ob_i hf10
        clear hf10
        subst ea8
        obtain ⟨q9, eq9, hf12⟩ := ob_i hf11
        clear hf11
        refine j_aald (pc := 113) hc dX0_drop_113 (by decide) eq9 ?_
        refine j_iconst (pc := 114) (v := (1)) hc dX0_drop_114 rfl ?_
        refine j_iconst (pc := 115) (v := (-1)) hc dX0_drop_115 rfl ?_
        obtain ⟨a10, ea10, hf13⟩ := ob_i hf12
        clear hf12
        subst ea10
        obtain ⟨T11, eT11, hf14⟩ := ob_i hf13
        clear hf13
        refine j_iast (pc := 116) hc dX0_drop_116 eT11 ?_
        refine j_iinc (pc := 117) (L' := [(2, vi (x2 + (1))), (0, vr (some a0)), (1, vi x1), (3, vi x3)]) (v := (x2 + (1))) hc dX0_drop_117 2 rfl rfl hnL (by decide) rfl ?_
        refine j_iinc (pc := 120) (L' := [(3, vi (x3 + (1))), (2, vi (x2 + (1))), (0, vr (some a0)), (1, vi x1)]) (v := (x3 + (1))) hc dX0_drop_120 3 rfl rfl hnL (by decide) rfl ?_
        refine j_goto (pc := 123) hc dX0_drop_123 (tgt := 85) rfl ?_
        refine j_loc (L' := [(0, vr (some a0)), (1, vi x1), (2, vi (x2 + (1))), (3, vi (x3 + (1)))]) [2, 3, 1, 0] rfl ?_
        exact hk_85 _ _ _ _ hf14
      · have hf15 := (if_neg hh).symm.trans hf8
        clear hf8
        refine j_goto (pc := 105) hc dX0_drop_105 (tgt := 120) rfl ?_
        refine j_iinc (pc := 120) (L' := [(3, vi (x3 + (1))), (0, vr (some a0)), (1, vi x1), (2, vi x2)]) (v := (x3 + (1))) hc dX0_drop_120 3 rfl rfl hnL (by decide) rfl ?_
        refine j_goto (pc := 123) hc dX0_drop_123 (tgt := 85) rfl ?_
        refine j_loc (L' := [(0, vr (some a0)), (1, vi x1), (2, vi x2), (3, vi (x3 + (1)))]) [1, 2, 3, 0] rfl ?_
        exact hk_85 _ _ _ _ hf15
set_option maxRecDepth 100000 in
set_option maxHeartbeats 2000000 in
theorem w_X0_drop_n12 {f : CfT} {mo : MO} {a0 : Nat} {r : Int32} {S1 : HS} (hc : cf_cc f = cX0_drop) (ho : cf_ow f = "TableCatalog") (hnL : cf_nL f = 4) (hrm : cf_rm f = (2, 81)) (hre : cf_re f = (some (.int))) (hct : cf_ct f = false) (hq : Qok f (some (vi r)) S1 mo) : ∀ (n : Nat) (x1 : Int32) (x2 : Int32) (S : HS), f_X0_drop_n12 a0 n x1 x2 S = some (r, S1) → JJ f S mo 12 [(0, vr (some a0)), (1, vi x1), (2, vi x2)] [] := by
  intro n
  induction n with
  | zero =>
    intro x1 x2 S hf
    have hf : (none : Option (Int32 × HS)) = some (r, S1) := hf
    cases hf
  | succ n ih =>
    intro x1 x2 S hf
    unfold f_X0_drop_n12 at hf
    have hk_12 := ih
    refine j_iload_n (pc := 12) hc dX0_drop_12 2 rfl rfl ?_
    refine j_aload_n (pc := 13) hc dX0_drop_13 0 rfl rfl ?_
    obtain ⟨v1, ev1, hf1⟩ := ob_i hf
    clear hf
    refine j_getI (pc := 14) hc ho fa_X0_83_1 dX0_drop_14 ev1 ?_
    refine j_icmp_ge (pc := 17) hc dX0_drop_17 (tgt := 74) rfl (fun hh => ?_) (fun hh => ?_)
    · have hf2 := (if_pos hh).symm.trans hf1
      clear hf1
      refine j_aload_n (pc := 74) hc dX0_drop_74 0 rfl rfl ?_
      obtain ⟨q2, eq2, hf3⟩ := ob_i hf2
      clear hf2
      refine j_getR (pc := 75) hc ho fa_X0_35_1 dX0_drop_75 eq2 ?_
      refine j_iload_n (pc := 78) hc dX0_drop_78 1 rfl rfl ?_
      refine j_null (pc := 79) hc dX0_drop_79 ?_
      obtain ⟨a3, ea3, hf4⟩ := ob_i hf3
      clear hf3
      subst ea3
      obtain ⟨T4, eT4, hf5⟩ := ob_i hf4
      clear hf4
      refine j_aast (pc := 80) hc dX0_drop_80 (by decide) cast_36 eT4 ?_
      refine j_iconst (pc := 81) (v := (0)) hc dX0_drop_81 rfl ?_
      refine j_istore_n (pc := 82) (L' := [(2, vi (0)), (0, vr (some a0)), (1, vi x1)]) hc dX0_drop_82 rfl hnL (by decide) rfl ?_
      refine j_iconst (pc := 83) (v := (0)) hc dX0_drop_83 rfl ?_
      refine j_istore_n (pc := 84) (L' := [(3, vi (0)), (2, vi (0)), (0, vr (some a0)), (1, vi x1)]) hc dX0_drop_84 rfl hnL (by decide) rfl ?_
      refine j_loc (L' := [(0, vr (some a0)), (1, vi x1), (2, vi (0)), (3, vi (0))]) [2, 3, 1, 0] rfl ?_
      exact w_X0_drop_n85 hc ho hnL hrm hre hct hq fu_ _ _ _ _ hf5
    · have hf6 := (if_neg hh).symm.trans hf1
      clear hf1
      refine j_iconst (pc := 20) (v := (0)) hc dX0_drop_20 rfl ?_
      refine j_istore_n (pc := 21) (L' := [(3, vi (0)), (0, vr (some a0)), (1, vi x1), (2, vi x2)]) hc dX0_drop_21 rfl hnL (by decide) rfl ?_
      refine j_loc (L' := [(0, vr (some a0)), (1, vi x1), (2, vi x2), (3, vi (0))]) [1, 2, 3, 0] rfl ?_
      exact w_X0_drop_n22 hc ho hnL hrm hre hct hq hk_12 fu_ _ _ _ _ hf6
set_option maxRecDepth 100000 in
set_option maxHeartbeats 2000000 in
theorem c_X0_drop {l : Launch} {g : PG} {mo : MO} {a0 : Nat} {x1 : Int32} {r : Int32} {S S1 : HS} (hf : f_X0_drop a0 x1 S = some (r, S1)) : (h_nx S ≤ h_nx S1 ∧ h_sl S ≤ h_sl S1) ∧ Ct l g yX0_drop (ws_ yX0_drop cX0_drop 4 (some (.int))) 2 81 S mo [vr (some a0), vi x1] (some (vi r)) S1 mo := by
  refine met_of false (by decide) (fun h => by first | rfl | cases h) rfl (Nat.le_of_ble_eq_true rfl) (fun f hl hg hc ho hnL hrm hre hct hex hq => ?_)
  subst hl
  subst hg
  unfold f_X0_drop at hf
  refine j_aload_n (pc := 0) hc dX0_drop_0 0 rfl rfl ?_
  refine j_iload_n (pc := 1) hc dX0_drop_1 1 rfl rfl ?_
  obtain ⟨u1, eu1, hf1⟩ := ob_i hf
  clear hf
  obtain ⟨q3, T2, eq3, hf2⟩ := ob_c hf1
  clear hf1
  refine j_callV (pc := 2) (As := [vi x1]) (rest := []) (st2 := [vr q3]) hc ho cw_X0_234 (c_X0_table_2 eq3) (Rc.of (g_cls_ok eu1) (by decide) (by decide) ci_X0) hrm ⟨by decide, by decide⟩ rfl (Nat.le_of_ble_eq_true rfl) dX0_drop_2 rfl rfl ?_
  refine j_ifnonnull (pc := 5) hc dX0_drop_5 (tgt := 10) rfl (fun a4 hh => ?_) (fun hh => ?_)
  · subst hh
    refine j_iconst (pc := 10) (v := (0)) hc dX0_drop_10 rfl ?_
    refine j_istore_n (pc := 11) (L' := [(2, vi (0)), (0, vr (some a0)), (1, vi x1)]) hc dX0_drop_11 rfl hnL (by decide) rfl ?_
    refine j_loc (L' := [(0, vr (some a0)), (1, vi x1), (2, vi (0))]) [1, 2, 0] rfl ?_
    exact w_X0_drop_n12 hc ho hnL hrm hre hct hq fu_ _ _ _ hf2
  · subst hh
    refine j_iconst (pc := 8) (v := (-1)) hc dX0_drop_8 rfl ?_
    cases hf2
    exact j_iret (pc := 9) hc hq hre rfl dX0_drop_9
def f_X0_freeze (a0 : Nat) (x1 : Int32) (S : HS) : Option (Int32 × HS) :=
  (g_cls S 1 a0).bind fun u1 =>
  o_bd (f_X0_table_2 a0 x1 S) fun q3 T2 =>
  o_case q3 (
    some ((0), T2)
  ) (fun a4 =>
    (g_fR T2 1 1 a0).bind fun q5 =>
    (q5).bind fun a6 =>
    (g_aR T2 36 a6 x1).bind fun q7 =>
    (q7).bind fun a8 =>
    (g_fI T2 4 99 a8).bind fun v9 =>
    if v9 = (2) then
      (g_fR T2 1 1 a0).bind fun q10 =>
      (q10).bind fun a11 =>
      (g_aR T2 36 a11 x1).bind fun q12 =>
      (q12).bind fun a13 =>
      (p_fI T2 4 99 a13 (3)).bind fun T14 =>
      (g_fR T14 1 1 a0).bind fun q15 =>
      (q15).bind fun a16 =>
      (g_aR T14 36 a16 x1).bind fun q17 =>
      (q17).bind fun a18 =>
      (p_fI T14 4 104 a18 (0)).bind fun T19 =>
      some ((1), T19)
    else
      some ((0), T2)
  )
set_option maxRecDepth 100000 in
set_option maxHeartbeats 2000000 in
theorem c_X0_freeze {l : Launch} {g : PG} {mo : MO} {a0 : Nat} {x1 : Int32} {r : Int32} {S S1 : HS} (hf : f_X0_freeze a0 x1 S = some (r, S1)) : (h_nx S ≤ h_nx S1 ∧ h_sl S ≤ h_sl S1) ∧ Ct l g yX0_freeze (ws_ yX0_freeze cX0_freeze 2 (some (.boolean))) 2 81 S mo [vr (some a0), vi x1] (some (vi r)) S1 mo := by
  refine met_of false (by decide) (fun h => by first | rfl | cases h) rfl (Nat.le_of_ble_eq_true rfl) (fun f hl hg hc ho hnL hrm hre hct hex hq => ?_)
  subst hl
  subst hg
  unfold f_X0_freeze at hf
  refine j_aload_n (pc := 0) hc dX0_freeze_0 0 rfl rfl ?_
  refine j_iload_n (pc := 1) hc dX0_freeze_1 1 rfl rfl ?_
  obtain ⟨u1, eu1, hf1⟩ := ob_i hf
  clear hf
  obtain ⟨q3, T2, eq3, hf2⟩ := ob_c hf1
  clear hf1
  refine j_callV (pc := 2) (As := [vi x1]) (rest := []) (st2 := [vr q3]) hc ho cw_X0_234 (c_X0_table_2 eq3) (Rc.of (g_cls_ok eu1) (by decide) (by decide) ci_X0) hrm ⟨by decide, by decide⟩ rfl (Nat.le_of_ble_eq_true rfl) dX0_freeze_2 rfl rfl ?_
  refine j_ifnull (pc := 5) hc dX0_freeze_5 (tgt := 21) rfl (fun hh => ?_) (fun a4 hh => ?_)
  · subst hh
    refine j_iconst (pc := 21) (v := (0)) hc dX0_freeze_21 rfl ?_
    cases hf2
    exact j_iret (pc := 22) hc hq hre rfl dX0_freeze_22
  · subst hh
    refine j_aload_n (pc := 8) hc dX0_freeze_8 0 rfl rfl ?_
    obtain ⟨q5, eq5, hf3⟩ := ob_i hf2
    clear hf2
    refine j_getR (pc := 9) hc ho fa_X0_35_1 dX0_freeze_9 eq5 ?_
    refine j_iload_n (pc := 12) hc dX0_freeze_12 1 rfl rfl ?_
    obtain ⟨a6, ea6, hf4⟩ := ob_i hf3
    clear hf3
    subst ea6
    obtain ⟨q7, eq7, hf5⟩ := ob_i hf4
    clear hf4
    refine j_aald (pc := 13) hc dX0_freeze_13 (by decide) eq7 ?_
    obtain ⟨a8, ea8, hf6⟩ := ob_i hf5
    clear hf5
    subst ea8
    obtain ⟨v9, ev9, hf7⟩ := ob_i hf6
    clear hf6
    refine j_getI (pc := 14) hc ho fa_X0_237_4 dX0_freeze_14 ev9 ?_
    refine j_iconst (pc := 17) (v := (2)) hc dX0_freeze_17 rfl ?_
    refine j_icmp_eq (pc := 18) hc dX0_freeze_18 (tgt := 23) rfl (fun hh => ?_) (fun hh => ?_)
    · have hf8 := (if_pos hh).symm.trans hf7
      clear hf7
      refine j_aload_n (pc := 23) hc dX0_freeze_23 0 rfl rfl ?_
      obtain ⟨q10, eq10, hf9⟩ := ob_i hf8
      clear hf8
      refine j_getR (pc := 24) hc ho fa_X0_35_1 dX0_freeze_24 eq10 ?_
      refine j_iload_n (pc := 27) hc dX0_freeze_27 1 rfl rfl ?_
      obtain ⟨a11, ea11, hf10⟩ := ob_i hf9
      clear hf9
      subst ea11
      obtain ⟨q12, eq12, hf11⟩ := ob_i hf10
      clear hf10
      refine j_aald (pc := 28) hc dX0_freeze_28 (by decide) eq12 ?_
      refine j_iconst (pc := 29) (v := (3)) hc dX0_freeze_29 rfl ?_
      obtain ⟨a13, ea13, hf12⟩ := ob_i hf11
      clear hf11
      subst ea13
      obtain ⟨T14, eT14, hf13⟩ := ob_i hf12
      clear hf12
      refine j_putI (pc := 30) hc ho fa_X0_237_4 (Or.inl rfl) dX0_freeze_30 eT14 ?_
      refine j_aload_n (pc := 33) hc dX0_freeze_33 0 rfl rfl ?_
      obtain ⟨q15, eq15, hf14⟩ := ob_i hf13
      clear hf13
      refine j_getR (pc := 34) hc ho fa_X0_35_1 dX0_freeze_34 eq15 ?_
      refine j_iload_n (pc := 37) hc dX0_freeze_37 1 rfl rfl ?_
      obtain ⟨a16, ea16, hf15⟩ := ob_i hf14
      clear hf14
      subst ea16
      obtain ⟨q17, eq17, hf16⟩ := ob_i hf15
      clear hf15
      refine j_aald (pc := 38) hc dX0_freeze_38 (by decide) eq17 ?_
      refine j_iconst (pc := 39) (v := (0)) hc dX0_freeze_39 rfl ?_
      obtain ⟨a18, ea18, hf17⟩ := ob_i hf16
      clear hf16
      subst ea18
      obtain ⟨T19, eT19, hf18⟩ := ob_i hf17
      clear hf17
      refine j_putI (pc := 40) hc ho fa_X0_131_4 (Or.inl rfl) dX0_freeze_40 eT19 ?_
      refine j_iconst (pc := 43) (v := (1)) hc dX0_freeze_43 rfl ?_
      cases hf18
      exact j_iret (pc := 44) hc hq hre rfl dX0_freeze_44
    · have hf19 := (if_neg hh).symm.trans hf7
      clear hf7
      refine j_iconst (pc := 21) (v := (0)) hc dX0_freeze_21 rfl ?_
      cases hf19
      exact j_iret (pc := 22) hc hq hre rfl dX0_freeze_22
theorem fa_X0_306_1 : FA "TableCatalog" 306 1 0 3 (.int) 1 := ⟨RX0, TX0, 15, tyX0, 2, "TableCatalog", CI_X0, by decide, rfl, rfl, by decide +kernel, Or.inl ⟨q285, fun h => (by cases h)⟩, fun _ => rfl, Or.inl rfl⟩
def f_X0_today (a0 : Nat) (x1 : Int32) (S : HS) : Option (Int32 × HS) :=
  (g_fI S 1 3 a0).bind fun v1 =>
  if x1 < v1 then
    some ((0), S)
  else
    if x1 ≤ (30000) then
      (p_fI S 1 3 a0 x1).bind fun T2 =>
      some ((1), T2)
    else
      some ((0), S)
set_option maxRecDepth 100000 in
set_option maxHeartbeats 2000000 in
theorem c_X0_today {l : Launch} {g : PG} {mo : MO} {a0 : Nat} {x1 : Int32} {r : Int32} {S S1 : HS} (hf : f_X0_today a0 x1 S = some (r, S1)) : (h_nx S ≤ h_nx S1 ∧ h_sl S ≤ h_sl S1) ∧ Ct l g yX0_today (ws_ yX0_today cX0_today 2 (some (.boolean))) 1 60 S mo [vr (some a0), vi x1] (some (vi r)) S1 mo := by
  refine met_of false (by decide) (fun h => by first | rfl | cases h) rfl (Nat.le_of_ble_eq_true rfl) (fun f hl hg hc ho hnL hrm hre hct hex hq => ?_)
  subst hl
  subst hg
  unfold f_X0_today at hf
  refine j_iload_n (pc := 0) hc dX0_today_0 1 rfl rfl ?_
  refine j_aload_n (pc := 1) hc dX0_today_1 0 rfl rfl ?_
  obtain ⟨v1, ev1, hf1⟩ := ob_i hf
  clear hf
  refine j_getI (pc := 2) hc ho fa_X0_306_1 dX0_today_2 ev1 ?_
  refine j_icmp_lt (pc := 5) hc dX0_today_5 (tgt := 15) rfl (fun hh => ?_) (fun hh => ?_)
  · have hf2 := (if_pos hh).symm.trans hf1
    clear hf1
    refine j_iconst (pc := 15) (v := (0)) hc dX0_today_15 rfl ?_
    cases hf2
    exact j_iret (pc := 16) hc hq hre rfl dX0_today_16
  · have hf3 := (if_neg hh).symm.trans hf1
    clear hf1
    refine j_iload_n (pc := 8) hc dX0_today_8 1 rfl rfl ?_
    refine j_sipush (pc := 9) (v := (30000)) hc dX0_today_9 rfl ?_
    refine j_icmp_le (pc := 12) hc dX0_today_12 (tgt := 17) rfl (fun hh => ?_) (fun hh => ?_)
    · have hf4 := (if_pos hh).symm.trans hf3
      clear hf3
      refine j_aload_n (pc := 17) hc dX0_today_17 0 rfl rfl ?_
      refine j_iload_n (pc := 18) hc dX0_today_18 1 rfl rfl ?_
      obtain ⟨T2, eT2, hf5⟩ := ob_i hf4
      clear hf4
      refine j_putI (pc := 19) hc ho fa_X0_306_1 (Or.inl rfl) dX0_today_19 eT2 ?_
      refine j_iconst (pc := 22) (v := (1)) hc dX0_today_22 rfl ?_
      cases hf5
      exact j_iret (pc := 23) hc hq hre rfl dX0_today_23
    · have hf6 := (if_neg hh).symm.trans hf3
      clear hf3
      refine j_iconst (pc := 15) (v := (0)) hc dX0_today_15 rfl ?_
      cases hf6
      exact j_iret (pc := 16) hc hq hre rfl dX0_today_16
def f_X0_fed (a0 : Nat) (x1 : Int32) (x2 : Int32) (x3 : Int32) (S : HS) : Option (Int32 × HS) :=
  (g_cls S 1 a0).bind fun u1 =>
  o_bd (f_X0_table_2 a0 x1 S) fun q3 T2 =>
  o_case q3 (
    some ((0), T2)
  ) (fun a4 =>
    (g_fR T2 1 1 a0).bind fun q5 =>
    (q5).bind fun a6 =>
    (g_aR T2 36 a6 x1).bind fun q7 =>
    (q7).bind fun a8 =>
    (g_fI T2 4 99 a8).bind fun v9 =>
    if v9 = 0 then
      if x2 < 0 then
        some ((0), T2)
      else
        if x3 < x2 then
          some ((0), T2)
        else
          (g_fI T2 1 3 a0).bind fun v10 =>
          if x3 ≤ v10 then
            (g_fR T2 1 1 a0).bind fun q11 =>
            (q11).bind fun a12 =>
            (g_aR T2 36 a12 x1).bind fun q13 =>
            (q13).bind fun a14 =>
            (p_fI T2 4 109 a14 x2).bind fun T15 =>
            (g_fR T15 1 1 a0).bind fun q16 =>
            (q16).bind fun a17 =>
            (g_aR T15 36 a17 x1).bind fun q18 =>
            (q18).bind fun a19 =>
            (p_fI T15 4 110 a19 x3).bind fun T20 =>
            some ((1), T20)
          else
            some ((0), T2)
    else
      some ((0), T2)
  )
set_option maxRecDepth 100000 in
set_option maxHeartbeats 2000000 in
theorem c_X0_fed {l : Launch} {g : PG} {mo : MO} {a0 : Nat} {x1 : Int32} {x2 : Int32} {x3 : Int32} {r : Int32} {S S1 : HS} (hf : f_X0_fed a0 x1 x2 x3 S = some (r, S1)) : (h_nx S ≤ h_nx S1 ∧ h_sl S ≤ h_sl S1) ∧ Ct l g yX0_fed (ws_ yX0_fed cX0_fed 4 (some (.boolean))) 2 81 S mo [vr (some a0), vi x1, vi x2, vi x3] (some (vi r)) S1 mo := by
  refine met_of false (by decide) (fun h => by first | rfl | cases h) rfl (Nat.le_of_ble_eq_true rfl) (fun f hl hg hc ho hnL hrm hre hct hex hq => ?_)
  subst hl
  subst hg
  unfold f_X0_fed at hf
  refine j_aload_n (pc := 0) hc dX0_fed_0 0 rfl rfl ?_
  refine j_iload_n (pc := 1) hc dX0_fed_1 1 rfl rfl ?_
  obtain ⟨u1, eu1, hf1⟩ := ob_i hf
  clear hf
  obtain ⟨q3, T2, eq3, hf2⟩ := ob_c hf1
  clear hf1
  refine j_callV (pc := 2) (As := [vi x1]) (rest := []) (st2 := [vr q3]) hc ho cw_X0_234 (c_X0_table_2 eq3) (Rc.of (g_cls_ok eu1) (by decide) (by decide) ci_X0) hrm ⟨by decide, by decide⟩ rfl (Nat.le_of_ble_eq_true rfl) dX0_fed_2 rfl rfl ?_
  refine j_ifnull (pc := 5) hc dX0_fed_5 (tgt := 37) rfl (fun hh => ?_) (fun a4 hh => ?_)
  · subst hh
    refine j_iconst (pc := 37) (v := (0)) hc dX0_fed_37 rfl ?_
    cases hf2
    exact j_iret (pc := 38) hc hq hre rfl dX0_fed_38
  · subst hh
    refine j_aload_n (pc := 8) hc dX0_fed_8 0 rfl rfl ?_
    obtain ⟨q5, eq5, hf3⟩ := ob_i hf2
    clear hf2
    refine j_getR (pc := 9) hc ho fa_X0_35_1 dX0_fed_9 eq5 ?_
    refine j_iload_n (pc := 12) hc dX0_fed_12 1 rfl rfl ?_
    obtain ⟨a6, ea6, hf4⟩ := ob_i hf3
    clear hf3
    subst ea6
    obtain ⟨q7, eq7, hf5⟩ := ob_i hf4
    clear hf4
    refine j_aald (pc := 13) hc dX0_fed_13 (by decide) eq7 ?_
    obtain ⟨a8, ea8, hf6⟩ := ob_i hf5
    clear hf5
    subst ea8
    obtain ⟨v9, ev9, hf7⟩ := ob_i hf6
    clear hf6
    refine j_getI (pc := 14) hc ho fa_X0_237_4 dX0_fed_14 ev9 ?_
    refine j_if_ne (pc := 17) hc dX0_fed_17 (tgt := 37) rfl (fun hh => ?_) (fun hh => ?_)
    · have hf8 := (if_neg hh).symm.trans hf7
      clear hf7
      refine j_iconst (pc := 37) (v := (0)) hc dX0_fed_37 rfl ?_
      cases hf8
      exact j_iret (pc := 38) hc hq hre rfl dX0_fed_38
    · have hf9 := (if_pos hh).symm.trans hf7
      clear hf7
      refine j_iload_n (pc := 20) hc dX0_fed_20 2 rfl rfl ?_
      refine j_if_lt (pc := 21) hc dX0_fed_21 (tgt := 37) rfl (fun hh => ?_) (fun hh => ?_)
      · have hf10 := (if_pos hh).symm.trans hf9
        clear hf9
        refine j_iconst (pc := 37) (v := (0)) hc dX0_fed_37 rfl ?_
        cases hf10
        exact j_iret (pc := 38) hc hq hre rfl dX0_fed_38
      · have hf11 := (if_neg hh).symm.trans hf9
        clear hf9
        refine j_iload_n (pc := 24) hc dX0_fed_24 2 rfl rfl ?_
        refine j_iload_n (pc := 25) hc dX0_fed_25 3 rfl rfl ?_
        refine j_icmp_gt (pc := 26) hc dX0_fed_26 (tgt := 37) rfl (fun hh => ?_) (fun hh => ?_)
        · have hf12 := (if_pos hh).symm.trans hf11
          clear hf11
          refine j_iconst (pc := 37) (v := (0)) hc dX0_fed_37 rfl ?_
          cases hf12
          exact j_iret (pc := 38) hc hq hre rfl dX0_fed_38
        · have hf13 := (if_neg hh).symm.trans hf11
          clear hf11
          refine j_iload_n (pc := 29) hc dX0_fed_29 3 rfl rfl ?_
          refine j_aload_n (pc := 30) hc dX0_fed_30 0 rfl rfl ?_
          obtain ⟨v10, ev10, hf14⟩ := ob_i hf13
          clear hf13
          refine j_getI (pc := 31) hc ho fa_X0_306_1 dX0_fed_31 ev10 ?_
          refine j_icmp_le (pc := 34) hc dX0_fed_34 (tgt := 39) rfl (fun hh => ?_) (fun hh => ?_)
          · have hf15 := (if_pos hh).symm.trans hf14
            clear hf14
            refine j_aload_n (pc := 39) hc dX0_fed_39 0 rfl rfl ?_
            obtain ⟨q11, eq11, hf16⟩ := ob_i hf15
            clear hf15
            refine j_getR (pc := 40) hc ho fa_X0_35_1 dX0_fed_40 eq11 ?_
            refine j_iload_n (pc := 43) hc dX0_fed_43 1 rfl rfl ?_
            obtain ⟨a12, ea12, hf17⟩ := ob_i hf16
            clear hf16
            subst ea12
            obtain ⟨q13, eq13, hf18⟩ := ob_i hf17
            clear hf17
            refine j_aald (pc := 44) hc dX0_fed_44 (by decide) eq13 ?_
            refine j_iload_n (pc := 45) hc dX0_fed_45 2 rfl rfl ?_
            obtain ⟨a14, ea14, hf19⟩ := ob_i hf18
            clear hf18
            subst ea14
            obtain ⟨T15, eT15, hf20⟩ := ob_i hf19
            clear hf19
            refine j_putI (pc := 46) hc ho fa_X0_294_4 (Or.inl rfl) dX0_fed_46 eT15 ?_
            refine j_aload_n (pc := 49) hc dX0_fed_49 0 rfl rfl ?_
            obtain ⟨q16, eq16, hf21⟩ := ob_i hf20
            clear hf20
            refine j_getR (pc := 50) hc ho fa_X0_35_1 dX0_fed_50 eq16 ?_
            refine j_iload_n (pc := 53) hc dX0_fed_53 1 rfl rfl ?_
            obtain ⟨a17, ea17, hf22⟩ := ob_i hf21
            clear hf21
            subst ea17
            obtain ⟨q18, eq18, hf23⟩ := ob_i hf22
            clear hf22
            refine j_aald (pc := 54) hc dX0_fed_54 (by decide) eq18 ?_
            refine j_iload_n (pc := 55) hc dX0_fed_55 3 rfl rfl ?_
            obtain ⟨a19, ea19, hf24⟩ := ob_i hf23
            clear hf23
            subst ea19
            obtain ⟨T20, eT20, hf25⟩ := ob_i hf24
            clear hf24
            refine j_putI (pc := 56) hc ho fa_X0_291_4 (Or.inl rfl) dX0_fed_56 eT20 ?_
            refine j_iconst (pc := 59) (v := (1)) hc dX0_fed_59 rfl ?_
            cases hf25
            exact j_iret (pc := 60) hc hq hre rfl dX0_fed_60
          · have hf26 := (if_neg hh).symm.trans hf14
            clear hf14
            refine j_iconst (pc := 37) (v := (0)) hc dX0_fed_37 rfl ?_
            cases hf26
            exact j_iret (pc := 38) hc hq hre rfl dX0_fed_38
def f_X0_run (a0 : Nat) (x1 : Int32) (S : HS) : Option (Int32 × HS) :=
  (g_cls S 1 a0).bind fun u1 =>
  o_bd (f_X0_table_2 a0 x1 S) fun q3 T2 =>
  o_case q3 (
    some ((0), T2)
  ) (fun a4 =>
    (g_fR T2 1 1 a0).bind fun q5 =>
    (q5).bind fun a6 =>
    (g_aR T2 36 a6 x1).bind fun q7 =>
    (q7).bind fun a8 =>
    (g_fI T2 4 99 a8).bind fun v9 =>
    if v9 = (2) then
      (g_cls T2 1 a0).bind fun u10 =>
      o_bd (f_X0_made (f_X0_age 40) a0 x1 (1) T2) fun v12 T11 =>
      if v12 = (-1) then
        some ((0), T11)
      else
        (g_cls T11 1 a0).bind fun u13 =>
        o_bd (f_X0_made (f_X0_age 40) a0 x1 (0) T11) fun v15 T14 =>
        (g_fR T14 1 1 a0).bind fun q16 =>
        (q16).bind fun a17 =>
        (g_aR T14 36 a17 x1).bind fun q18 =>
        (g_cls T14 1 a0).bind fun u19 =>
        o_bd (f_X0_made (f_X0_age 40) a0 x1 (1) T14) fun v21 T20 =>
        (q18).bind fun a22 =>
        (p_fI T20 4 110 a22 v21).bind fun T23 =>
        (g_fR T23 1 1 a0).bind fun q24 =>
        (q24).bind fun a25 =>
        (g_aR T23 36 a25 x1).bind fun q26 =>
        (q26).bind fun a27 =>
        (p_fI T23 4 109 a27 v15).bind fun T28 =>
        some ((1), T28)
    else
      some ((0), T2)
  )
set_option maxRecDepth 100000 in
set_option maxHeartbeats 2000000 in
theorem c_X0_run {l : Launch} {g : PG} {mo : MO} {a0 : Nat} {x1 : Int32} {r : Int32} {S S1 : HS} (hf : f_X0_run a0 x1 S = some (r, S1)) : (h_nx S ≤ h_nx S1 ∧ h_sl S ≤ h_sl S1) ∧ Ct l g yX0_run (ws_ yX0_run cX0_run 3 (some (.boolean))) 82 3526 S mo [vr (some a0), vi x1] (some (vi r)) S1 mo := by
  refine met_of false (by decide) (fun h => by first | rfl | cases h) rfl (Nat.le_of_ble_eq_true rfl) (fun f hl hg hc ho hnL hrm hre hct hex hq => ?_)
  subst hl
  subst hg
  unfold f_X0_run at hf
  refine j_aload_n (pc := 0) hc dX0_run_0 0 rfl rfl ?_
  refine j_iload_n (pc := 1) hc dX0_run_1 1 rfl rfl ?_
  obtain ⟨u1, eu1, hf1⟩ := ob_i hf
  clear hf
  obtain ⟨q3, T2, eq3, hf2⟩ := ob_c hf1
  clear hf1
  refine j_callV (pc := 2) (As := [vi x1]) (rest := []) (st2 := [vr q3]) hc ho cw_X0_234 (c_X0_table_2 eq3) (Rc.of (g_cls_ok eu1) (by decide) (by decide) ci_X0) hrm ⟨by decide, by decide⟩ rfl (Nat.le_of_ble_eq_true rfl) dX0_run_2 rfl rfl ?_
  refine j_ifnull (pc := 5) hc dX0_run_5 (tgt := 31) rfl (fun hh => ?_) (fun a4 hh => ?_)
  · subst hh
    refine j_iconst (pc := 31) (v := (0)) hc dX0_run_31 rfl ?_
    cases hf2
    exact j_iret (pc := 32) hc hq hre rfl dX0_run_32
  · subst hh
    refine j_aload_n (pc := 8) hc dX0_run_8 0 rfl rfl ?_
    obtain ⟨q5, eq5, hf3⟩ := ob_i hf2
    clear hf2
    refine j_getR (pc := 9) hc ho fa_X0_35_1 dX0_run_9 eq5 ?_
    refine j_iload_n (pc := 12) hc dX0_run_12 1 rfl rfl ?_
    obtain ⟨a6, ea6, hf4⟩ := ob_i hf3
    clear hf3
    subst ea6
    obtain ⟨q7, eq7, hf5⟩ := ob_i hf4
    clear hf4
    refine j_aald (pc := 13) hc dX0_run_13 (by decide) eq7 ?_
    obtain ⟨a8, ea8, hf6⟩ := ob_i hf5
    clear hf5
    subst ea8
    obtain ⟨v9, ev9, hf7⟩ := ob_i hf6
    clear hf6
    refine j_getI (pc := 14) hc ho fa_X0_237_4 dX0_run_14 ev9 ?_
    refine j_iconst (pc := 17) (v := (2)) hc dX0_run_17 rfl ?_
    refine j_icmp_ne (pc := 18) hc dX0_run_18 (tgt := 31) rfl (fun hh => ?_) (fun hh => ?_)
    · have hf8 := (if_neg hh).symm.trans hf7
      clear hf7
      refine j_iconst (pc := 31) (v := (0)) hc dX0_run_31 rfl ?_
      cases hf8
      exact j_iret (pc := 32) hc hq hre rfl dX0_run_32
    · have hf9 := (if_pos hh).symm.trans hf7
      clear hf7
      refine j_aload_n (pc := 21) hc dX0_run_21 0 rfl rfl ?_
      refine j_iload_n (pc := 22) hc dX0_run_22 1 rfl rfl ?_
      refine j_iconst (pc := 23) (v := (1)) hc dX0_run_23 rfl ?_
      obtain ⟨u10, eu10, hf10⟩ := ob_i hf9
      clear hf9
      obtain ⟨v12, T11, ev12, hf11⟩ := ob_c hf10
      clear hf10
      refine j_callV (pc := 24) (As := [vi x1, vi (1)]) (rest := []) (st2 := [vi v12]) hc ho cw_X0_288 (c_X0_made (c_X0_age 40) ev12) (Rc.of (g_cls_ok eu10) (by decide) (by decide) ci_X0) hrm ⟨by decide, by decide⟩ rfl (Nat.le_of_ble_eq_true rfl) dX0_run_24 rfl rfl ?_
      refine j_iconst (pc := 27) (v := (-1)) hc dX0_run_27 rfl ?_
      refine j_icmp_ne (pc := 28) hc dX0_run_28 (tgt := 33) rfl (fun hh => ?_) (fun hh => ?_)
      · have hf12 := (if_neg hh).symm.trans hf11
        clear hf11
        refine j_aload_n (pc := 33) hc dX0_run_33 0 rfl rfl ?_
        refine j_iload_n (pc := 34) hc dX0_run_34 1 rfl rfl ?_
        refine j_iconst (pc := 35) (v := (0)) hc dX0_run_35 rfl ?_
        obtain ⟨u13, eu13, hf13⟩ := ob_i hf12
        clear hf12
        obtain ⟨v15, T14, ev15, hf14⟩ := ob_c hf13
        clear hf13
        refine j_callV (pc := 36) (As := [vi x1, vi (0)]) (rest := []) (st2 := [vi v15]) hc ho cw_X0_288 (c_X0_made (c_X0_age 40) ev15) (Rc.of (g_cls_ok eu13) (by decide) (by decide) ci_X0) hrm ⟨by decide, by decide⟩ rfl (Nat.le_of_ble_eq_true rfl) dX0_run_36 rfl rfl ?_
        refine j_istore_n (pc := 39) (L' := [(2, vi v15), (0, vr (some a0)), (1, vi x1)]) hc dX0_run_39 rfl hnL (by decide) rfl ?_
        refine j_aload_n (pc := 40) hc dX0_run_40 1 rfl rfl ?_
        obtain ⟨q16, eq16, hf15⟩ := ob_i hf14
        clear hf14
        refine j_getR (pc := 41) hc ho fa_X0_35_1 dX0_run_41 eq16 ?_
        refine j_iload_n (pc := 44) hc dX0_run_44 2 rfl rfl ?_
        obtain ⟨a17, ea17, hf16⟩ := ob_i hf15
        clear hf15
        subst ea17
        obtain ⟨q18, eq18, hf17⟩ := ob_i hf16
        clear hf16
        refine j_aald (pc := 45) hc dX0_run_45 (by decide) eq18 ?_
        refine j_aload_n (pc := 46) hc dX0_run_46 1 rfl rfl ?_
        refine j_iload_n (pc := 47) hc dX0_run_47 2 rfl rfl ?_
        refine j_iconst (pc := 48) (v := (1)) hc dX0_run_48 rfl ?_
        obtain ⟨u19, eu19, hf18⟩ := ob_i hf17
        clear hf17
        obtain ⟨v21, T20, ev21, hf19⟩ := ob_c hf18
        clear hf18
        refine j_callV (pc := 49) (As := [vi x1, vi (1)]) (rest := [vr q18]) (st2 := [vi v21, vr q18]) hc ho cw_X0_288 (c_X0_made (c_X0_age 40) ev21) (Rc.of (g_cls_ok eu19) (by decide) (by decide) ci_X0) hrm ⟨by decide, by decide⟩ rfl (Nat.le_of_ble_eq_true rfl) dX0_run_49 rfl rfl ?_
        obtain ⟨a22, ea22, hf20⟩ := ob_i hf19
        clear hf19
        subst ea22
        obtain ⟨T23, eT23, hf21⟩ := ob_i hf20
        clear hf20
        refine j_putI (pc := 52) hc ho fa_X0_291_4 (Or.inl rfl) dX0_run_52 eT23 ?_
        refine j_aload_n (pc := 55) hc dX0_run_55 1 rfl rfl ?_
        obtain ⟨q24, eq24, hf22⟩ := ob_i hf21
        clear hf21
        refine j_getR (pc := 56) hc ho fa_X0_35_1 dX0_run_56 eq24 ?_
        refine j_iload_n (pc := 59) hc dX0_run_59 2 rfl rfl ?_
        obtain ⟨a25, ea25, hf23⟩ := ob_i hf22
        clear hf22
        subst ea25
        obtain ⟨q26, eq26, hf24⟩ := ob_i hf23
        clear hf23
        refine j_aald (pc := 60) hc dX0_run_60 (by decide) eq26 ?_
        refine j_iload_n (pc := 61) hc dX0_run_61 0 rfl rfl ?_
        obtain ⟨a27, ea27, hf25⟩ := ob_i hf24
        clear hf24
        subst ea27
        obtain ⟨T28, eT28, hf26⟩ := ob_i hf25
        clear hf25
        refine j_putI (pc := 62) hc ho fa_X0_294_4 (Or.inl rfl) dX0_run_62 eT28 ?_
        refine j_iconst (pc := 65) (v := (1)) hc dX0_run_65 rfl ?_
        cases hf26
        exact j_iret (pc := 66) hc hq hre rfl dX0_run_66
      · have hf27 := (if_pos hh).symm.trans hf11
        clear hf11
        refine j_iconst (pc := 31) (v := (0)) hc dX0_run_31 rfl ?_
        cases hf27
        exact j_iret (pc := 32) hc hq hre rfl dX0_run_32
def f_X0_promise (a0 : Nat) (x1 : Int32) (x2 : Int32) (S : HS) : Option (Int32 × HS) :=
  (g_cls S 1 a0).bind fun u1 =>
  o_bd (f_X0_table_2 a0 x1 S) fun q3 T2 =>
  o_case q3 (
    some ((0), T2)
  ) (fun a4 =>
    if x2 < (-1) then
      some ((0), T2)
    else
      if x2 ≤ (1000) then
        (g_fR T2 1 1 a0).bind fun q5 =>
        (q5).bind fun a6 =>
        (g_aR T2 36 a6 x1).bind fun q7 =>
        (q7).bind fun a8 =>
        (p_fI T2 4 112 a8 x2).bind fun T9 =>
        some ((1), T9)
      else
        some ((0), T2)
  )
set_option maxRecDepth 100000 in
set_option maxHeartbeats 2000000 in
theorem c_X0_promise {l : Launch} {g : PG} {mo : MO} {a0 : Nat} {x1 : Int32} {x2 : Int32} {r : Int32} {S S1 : HS} (hf : f_X0_promise a0 x1 x2 S = some (r, S1)) : (h_nx S ≤ h_nx S1 ∧ h_sl S ≤ h_sl S1) ∧ Ct l g yX0_promise (ws_ yX0_promise cX0_promise 3 (some (.boolean))) 2 81 S mo [vr (some a0), vi x1, vi x2] (some (vi r)) S1 mo := by
  refine met_of false (by decide) (fun h => by first | rfl | cases h) rfl (Nat.le_of_ble_eq_true rfl) (fun f hl hg hc ho hnL hrm hre hct hex hq => ?_)
  subst hl
  subst hg
  unfold f_X0_promise at hf
  refine j_aload_n (pc := 0) hc dX0_promise_0 0 rfl rfl ?_
  refine j_iload_n (pc := 1) hc dX0_promise_1 1 rfl rfl ?_
  obtain ⟨u1, eu1, hf1⟩ := ob_i hf
  clear hf
  obtain ⟨q3, T2, eq3, hf2⟩ := ob_c hf1
  clear hf1
  refine j_callV (pc := 2) (As := [vi x1]) (rest := []) (st2 := [vr q3]) hc ho cw_X0_234 (c_X0_table_2 eq3) (Rc.of (g_cls_ok eu1) (by decide) (by decide) ci_X0) hrm ⟨by decide, by decide⟩ rfl (Nat.le_of_ble_eq_true rfl) dX0_promise_2 rfl rfl ?_
  refine j_ifnull (pc := 5) hc dX0_promise_5 (tgt := 20) rfl (fun hh => ?_) (fun a4 hh => ?_)
  · subst hh
    refine j_iconst (pc := 20) (v := (0)) hc dX0_promise_20 rfl ?_
    cases hf2
    exact j_iret (pc := 21) hc hq hre rfl dX0_promise_21
  · subst hh
    refine j_iload_n (pc := 8) hc dX0_promise_8 2 rfl rfl ?_
    refine j_iconst (pc := 9) (v := (-1)) hc dX0_promise_9 rfl ?_
    refine j_icmp_lt (pc := 10) hc dX0_promise_10 (tgt := 20) rfl (fun hh => ?_) (fun hh => ?_)
    · have hf3 := (if_pos hh).symm.trans hf2
      clear hf2
      refine j_iconst (pc := 20) (v := (0)) hc dX0_promise_20 rfl ?_
      cases hf3
      exact j_iret (pc := 21) hc hq hre rfl dX0_promise_21
    · have hf4 := (if_neg hh).symm.trans hf2
      clear hf2
      refine j_iload_n (pc := 13) hc dX0_promise_13 2 rfl rfl ?_
      refine j_sipush (pc := 14) (v := (1000)) hc dX0_promise_14 rfl ?_
      refine j_icmp_le (pc := 17) hc dX0_promise_17 (tgt := 22) rfl (fun hh => ?_) (fun hh => ?_)
      · have hf5 := (if_pos hh).symm.trans hf4
        clear hf4
        refine j_aload_n (pc := 22) hc dX0_promise_22 0 rfl rfl ?_
        obtain ⟨q5, eq5, hf6⟩ := ob_i hf5
        clear hf5
        refine j_getR (pc := 23) hc ho fa_X0_35_1 dX0_promise_23 eq5 ?_
        refine j_iload_n (pc := 26) hc dX0_promise_26 1 rfl rfl ?_
        obtain ⟨a6, ea6, hf7⟩ := ob_i hf6
        clear hf6
        subst ea6
        obtain ⟨q7, eq7, hf8⟩ := ob_i hf7
        clear hf7
        refine j_aald (pc := 27) hc dX0_promise_27 (by decide) eq7 ?_
        refine j_iload_n (pc := 28) hc dX0_promise_28 2 rfl rfl ?_
        obtain ⟨a8, ea8, hf9⟩ := ob_i hf8
        clear hf8
        subst ea8
        obtain ⟨T9, eT9, hf10⟩ := ob_i hf9
        clear hf9
        refine j_putI (pc := 29) hc ho fa_X0_247_4 (Or.inl rfl) dX0_promise_29 eT9 ?_
        refine j_iconst (pc := 32) (v := (1)) hc dX0_promise_32 rfl ?_
        cases hf10
        exact j_iret (pc := 33) hc hq hre rfl dX0_promise_33
      · have hf11 := (if_neg hh).symm.trans hf4
        clear hf4
        refine j_iconst (pc := 20) (v := (0)) hc dX0_promise_20 rfl ?_
        cases hf11
        exact j_iret (pc := 21) hc hq hre rfl dX0_promise_21
def f_X0_isLate (a0 : Nat) (x1 : Int32) (x2 : Int32) (S : HS) : Option (Int32 × HS) :=
  (g_cls S 1 a0).bind fun u1 =>
  o_bd (f_X0_age 40 a0 x1 (1) S) fun v3 T2 =>
  if v3 = (-1) then
    some ((1), T2)
  else
    (g_cls T2 1 a0).bind fun u4 =>
    o_bd (f_X0_age 40 a0 x1 (1) T2) fun v6 T5 =>
    (g_fI T5 1 3 a0).bind fun v7 =>
    if (v7 - x2) ≤ v6 then
      some ((0), T5)
    else
      some ((1), T5)
set_option maxRecDepth 100000 in
set_option maxHeartbeats 2000000 in
theorem c_X0_isLate {l : Launch} {g : PG} {mo : MO} {a0 : Nat} {x1 : Int32} {x2 : Int32} {r : Int32} {S S1 : HS} (hf : f_X0_isLate a0 x1 x2 S = some (r, S1)) : (h_nx S ≤ h_nx S1 ∧ h_sl S ≤ h_sl S1) ∧ Ct l g yX0_isLate (ws_ yX0_isLate cX0_isLate 3 (some (.boolean))) 81 3462 S mo [vr (some a0), vi x1, vi x2] (some (vi r)) S1 mo := by
  refine met_of false (by decide) (fun h => by first | rfl | cases h) rfl (Nat.le_of_ble_eq_true rfl) (fun f hl hg hc ho hnL hrm hre hct hex hq => ?_)
  subst hl
  subst hg
  unfold f_X0_isLate at hf
  refine j_aload_n (pc := 0) hc dX0_isLate_0 0 rfl rfl ?_
  refine j_iload_n (pc := 1) hc dX0_isLate_1 1 rfl rfl ?_
  refine j_iconst (pc := 2) (v := (1)) hc dX0_isLate_2 rfl ?_
  obtain ⟨u1, eu1, hf1⟩ := ob_i hf
  clear hf
  obtain ⟨v3, T2, ev3, hf2⟩ := ob_c hf1
  clear hf1
  refine j_callV (pc := 3) (As := [vi x1, vi (1)]) (rest := []) (st2 := [vi v3]) hc ho cw_X0_239 (c_X0_age 40 ev3) (Rc.of (g_cls_ok eu1) (by decide) (by decide) ci_X0) hrm ⟨by decide, by decide⟩ rfl (Nat.le_of_ble_eq_true rfl) dX0_isLate_3 rfl rfl ?_
  refine j_iconst (pc := 6) (v := (-1)) hc dX0_isLate_6 rfl ?_
  refine j_icmp_eq (pc := 7) hc dX0_isLate_7 (tgt := 25) rfl (fun hh => ?_) (fun hh => ?_)
  · have hf3 := (if_pos hh).symm.trans hf2
    clear hf2
    refine j_iconst (pc := 25) (v := (1)) hc dX0_isLate_25 rfl ?_
    refine j_goto (pc := 26) hc dX0_isLate_26 (tgt := 30) rfl ?_
    cases hf3
    exact j_iret (pc := 30) hc hq hre rfl dX0_isLate_30
  · have hf4 := (if_neg hh).symm.trans hf2
    clear hf2
    refine j_aload_n (pc := 10) hc dX0_isLate_10 0 rfl rfl ?_
    refine j_iload_n (pc := 11) hc dX0_isLate_11 1 rfl rfl ?_
    refine j_iconst (pc := 12) (v := (1)) hc dX0_isLate_12 rfl ?_
    obtain ⟨u4, eu4, hf5⟩ := ob_i hf4
    clear hf4
    obtain ⟨v6, T5, ev6, hf6⟩ := ob_c hf5
    clear hf5
    refine j_callV (pc := 13) (As := [vi x1, vi (1)]) (rest := []) (st2 := [vi v6]) hc ho cw_X0_239 (c_X0_age 40 ev6) (Rc.of (g_cls_ok eu4) (by decide) (by decide) ci_X0) hrm ⟨by decide, by decide⟩ rfl (Nat.le_of_ble_eq_true rfl) dX0_isLate_13 rfl rfl ?_
    refine j_aload_n (pc := 16) hc dX0_isLate_16 0 rfl rfl ?_
    obtain ⟨v7, ev7, hf7⟩ := ob_i hf6
    clear hf6
    refine j_getI (pc := 17) hc ho fa_X0_306_1 dX0_isLate_17 ev7 ?_
    refine j_iload_n (pc := 20) hc dX0_isLate_20 2 rfl rfl ?_
    refine j_isub (pc := 21) hc dX0_isLate_21 ?_
    refine j_icmp_ge (pc := 22) hc dX0_isLate_22 (tgt := 29) rfl (fun hh => ?_) (fun hh => ?_)
    · have hf8 := (if_pos hh).symm.trans hf7
      clear hf7
      refine j_iconst (pc := 29) (v := (0)) hc dX0_isLate_29 rfl ?_
      cases hf8
      exact j_iret (pc := 30) hc hq hre rfl dX0_isLate_30
    · have hf9 := (if_neg hh).symm.trans hf7
      clear hf7
      refine j_iconst (pc := 25) (v := (1)) hc dX0_isLate_25 rfl ?_
      refine j_goto (pc := 26) hc dX0_isLate_26 (tgt := 30) rfl ?_
      cases hf9
      exact j_iret (pc := 30) hc hq hre rfl dX0_isLate_30
theorem cw_X0_309 : CV "TableCatalog" 309 RX0 yX0_isLate cX0_isLate 3 (some (.boolean)) 2 := ⟨⟨q1138, q1140, qs39, q81, q1141⟩, rfl, by decide, by decide, by decide +kernel⟩
def f_X0_isBroken (a0 : Nat) (x1 : Int32) (S : HS) : Option (Int32 × HS) :=
  (g_cls S 1 a0).bind fun u1 =>
  o_bd (f_X0_table_2 a0 x1 S) fun q3 T2 =>
  o_case q3 (
    some ((0), T2)
  ) (fun a4 =>
    (g_fR T2 1 1 a0).bind fun q5 =>
    (q5).bind fun a6 =>
    (g_aR T2 36 a6 x1).bind fun q7 =>
    (q7).bind fun a8 =>
    (g_fI T2 4 112 a8).bind fun v9 =>
    if v9 = (-1) then
      some ((0), T2)
    else
      (g_fR T2 1 1 a0).bind fun q10 =>
      (q10).bind fun a11 =>
      (g_aR T2 36 a11 x1).bind fun q12 =>
      (q12).bind fun a13 =>
      (g_fI T2 4 112 a13).bind fun v14 =>
      (g_cls T2 1 a0).bind fun u15 =>
      o_bd (f_X0_isLate a0 x1 v14 T2) fun v17 T16 =>
      if v17 = 0 then
        some ((0), T16)
      else
        some ((1), T16)
  )
set_option maxRecDepth 100000 in
set_option maxHeartbeats 2000000 in
theorem c_X0_isBroken {l : Launch} {g : PG} {mo : MO} {a0 : Nat} {x1 : Int32} {r : Int32} {S S1 : HS} (hf : f_X0_isBroken a0 x1 S = some (r, S1)) : (h_nx S ≤ h_nx S1 ∧ h_sl S ≤ h_sl S1) ∧ Ct l g yX0_isBroken (ws_ yX0_isBroken cX0_isBroken 2 (some (.boolean))) 82 3484 S mo [vr (some a0), vi x1] (some (vi r)) S1 mo := by
  refine met_of false (by decide) (fun h => by first | rfl | cases h) rfl (Nat.le_of_ble_eq_true rfl) (fun f hl hg hc ho hnL hrm hre hct hex hq => ?_)
  subst hl
  subst hg
  unfold f_X0_isBroken at hf
  refine j_aload_n (pc := 0) hc dX0_isBroken_0 0 rfl rfl ?_
  refine j_iload_n (pc := 1) hc dX0_isBroken_1 1 rfl rfl ?_
  obtain ⟨u1, eu1, hf1⟩ := ob_i hf
  clear hf
  obtain ⟨q3, T2, eq3, hf2⟩ := ob_c hf1
  clear hf1
  refine j_callV (pc := 2) (As := [vi x1]) (rest := []) (st2 := [vr q3]) hc ho cw_X0_234 (c_X0_table_2 eq3) (Rc.of (g_cls_ok eu1) (by decide) (by decide) ci_X0) hrm ⟨by decide, by decide⟩ rfl (Nat.le_of_ble_eq_true rfl) dX0_isBroken_2 rfl rfl ?_
  refine j_ifnull (pc := 5) hc dX0_isBroken_5 (tgt := 42) rfl (fun hh => ?_) (fun a4 hh => ?_)
  · subst hh
    refine j_iconst (pc := 42) (v := (0)) hc dX0_isBroken_42 rfl ?_
    cases hf2
    exact j_iret (pc := 43) hc hq hre rfl dX0_isBroken_43
  · subst hh
    refine j_aload_n (pc := 8) hc dX0_isBroken_8 0 rfl rfl ?_
    obtain ⟨q5, eq5, hf3⟩ := ob_i hf2
    clear hf2
    refine j_getR (pc := 9) hc ho fa_X0_35_1 dX0_isBroken_9 eq5 ?_
    refine j_iload_n (pc := 12) hc dX0_isBroken_12 1 rfl rfl ?_
    obtain ⟨a6, ea6, hf4⟩ := ob_i hf3
    clear hf3
    subst ea6
    obtain ⟨q7, eq7, hf5⟩ := ob_i hf4
    clear hf4
    refine j_aald (pc := 13) hc dX0_isBroken_13 (by decide) eq7 ?_
    obtain ⟨a8, ea8, hf6⟩ := ob_i hf5
    clear hf5
    subst ea8
    obtain ⟨v9, ev9, hf7⟩ := ob_i hf6
    clear hf6
    refine j_getI (pc := 14) hc ho fa_X0_247_4 dX0_isBroken_14 ev9 ?_
    refine j_iconst (pc := 17) (v := (-1)) hc dX0_isBroken_17 rfl ?_
    refine j_icmp_eq (pc := 18) hc dX0_isBroken_18 (tgt := 42) rfl (fun hh => ?_) (fun hh => ?_)
    · have hf8 := (if_pos hh).symm.trans hf7
      clear hf7
      refine j_iconst (pc := 42) (v := (0)) hc dX0_isBroken_42 rfl ?_
      cases hf8
      exact j_iret (pc := 43) hc hq hre rfl dX0_isBroken_43
    · have hf9 := (if_neg hh).symm.trans hf7
      clear hf7
      refine j_aload_n (pc := 21) hc dX0_isBroken_21 0 rfl rfl ?_
      refine j_iload_n (pc := 22) hc dX0_isBroken_22 1 rfl rfl ?_
      refine j_aload_n (pc := 23) hc dX0_isBroken_23 0 rfl rfl ?_
      obtain ⟨q10, eq10, hf10⟩ := ob_i hf9
      clear hf9
      refine j_getR (pc := 24) hc ho fa_X0_35_1 dX0_isBroken_24 eq10 ?_
      refine j_iload_n (pc := 27) hc dX0_isBroken_27 1 rfl rfl ?_
      obtain ⟨a11, ea11, hf11⟩ := ob_i hf10
      clear hf10
      subst ea11
      obtain ⟨q12, eq12, hf12⟩ := ob_i hf11
      clear hf11
      refine j_aald (pc := 28) hc dX0_isBroken_28 (by decide) eq12 ?_
      obtain ⟨a13, ea13, hf13⟩ := ob_i hf12
      clear hf12
      subst ea13
      obtain ⟨v14, ev14, hf14⟩ := ob_i hf13
      clear hf13
      refine j_getI (pc := 29) hc ho fa_X0_247_4 dX0_isBroken_29 ev14 ?_
      obtain ⟨u15, eu15, hf15⟩ := ob_i hf14
      clear hf14
      obtain ⟨v17, T16, ev17, hf16⟩ := ob_c hf15
      clear hf15
      refine j_callV (pc := 32) (As := [vi x1, vi v14]) (rest := []) (st2 := [vi v17]) hc ho cw_X0_309 (c_X0_isLate ev17) (Rc.of (g_cls_ok eu15) (by decide) (by decide) ci_X0) hrm ⟨by decide, by decide⟩ rfl (Nat.le_of_ble_eq_true rfl) dX0_isBroken_32 rfl rfl ?_
      refine j_if_eq (pc := 35) hc dX0_isBroken_35 (tgt := 42) rfl (fun hh => ?_) (fun hh => ?_)
      · have hf17 := (if_pos hh).symm.trans hf16
        clear hf16
        refine j_iconst (pc := 42) (v := (0)) hc dX0_isBroken_42 rfl ?_
        cases hf17
        exact j_iret (pc := 43) hc hq hre rfl dX0_isBroken_43
      · have hf18 := (if_neg hh).symm.trans hf16
        clear hf16
        refine j_iconst (pc := 38) (v := (1)) hc dX0_isBroken_38 rfl ?_
        refine j_goto (pc := 39) hc dX0_isBroken_39 (tgt := 43) rfl ?_
        cases hf18
        exact j_iret (pc := 43) hc hq hre rfl dX0_isBroken_43
theorem cw_X0_312 : CV "TableCatalog" 312 RX0 yX0_isBroken cX0_isBroken 2 (some (.boolean)) 1 := ⟨⟨q1134, q1136, qs38, q81, q1137⟩, rfl, by decide, by decide, by decide +kernel⟩
def f_X0_broken_n7 (a0 : Nat) : Nat → Int32 → HS → Option (Int32 × HS)
  | 0, _, _ => none
  | n + 1, x1, S =>
    (g_fI S 1 2 a0).bind fun v1 =>
    if v1 ≤ x1 then
      (g_fI S 1 5 a0).bind fun v2 =>
      some (v2, S)
    else
      (g_cls S 1 a0).bind fun u3 =>
      o_bd (f_X0_isBroken a0 x1 S) fun v5 T4 =>
      if v5 = 0 then
        (fun x1 S => f_X0_broken_n7 a0 n x1 S) (x1 + (1)) T4
      else
        (g_fR T4 1 10 a0).bind fun q6 =>
        (g_fI T4 1 5 a0).bind fun v7 =>
        (q6).bind fun a8 =>
        (p_aI T4 31 a8 v7 x1).bind fun T9 =>
        (g_fI T9 1 5 a0).bind fun v10 =>
        (p_fI T9 1 5 a0 (v10 + (1))).bind fun T11 =>
        (fun x1 S => f_X0_broken_n7 a0 n x1 S) (x1 + (1)) T11
def f_X0_broken (a0 : Nat) (S : HS) : Option (Int32 × HS) :=
  (p_fI S 1 5 a0 (0)).bind fun T1 =>
  f_X0_broken_n7 a0 fu_ (0) T1
set_option maxRecDepth 100000 in
set_option maxHeartbeats 2000000 in
theorem w_X0_broken_n7 {f : CfT} {mo : MO} {a0 : Nat} {r : Int32} {S1 : HS} (hc : cf_cc f = cX0_broken) (ho : cf_ow f = "TableCatalog") (hnL : cf_nL f = 2) (hrm : cf_rm f = (83, 3505)) (hre : cf_re f = (some (.int))) (hct : cf_ct f = false) (hq : Qok f (some (vi r)) S1 mo) : ∀ (n : Nat) (x1 : Int32) (S : HS), f_X0_broken_n7 a0 n x1 S = some (r, S1) → JJ f S mo 7 [(0, vr (some a0)), (1, vi x1)] [] := by
  intro n
  induction n with
  | zero =>
    intro x1 S hf
    have hf : (none : Option (Int32 × HS)) = some (r, S1) := hf
    cases hf
  | succ n ih =>
    intro x1 S hf
    unfold f_X0_broken_n7 at hf
    have hk_7 := ih
    refine j_iload_n (pc := 7) hc dX0_broken_7 1 rfl rfl ?_
    refine j_aload_n (pc := 8) hc dX0_broken_8 0 rfl rfl ?_
    obtain ⟨v1, ev1, hf1⟩ := ob_i hf
    clear hf
    refine j_getI (pc := 9) hc ho fa_X0_83_1 dX0_broken_9 ev1 ?_
    refine j_icmp_ge (pc := 12) hc dX0_broken_12 (tgt := 52) rfl (fun hh => ?_) (fun hh => ?_)
    · have hf2 := (if_pos hh).symm.trans hf1
      clear hf1
      refine j_aload_n (pc := 52) hc dX0_broken_52 0 rfl rfl ?_
      obtain ⟨v2, ev2, hf3⟩ := ob_i hf2
      clear hf2
      refine j_getI (pc := 53) hc ho fa_X0_254_1 dX0_broken_53 ev2 ?_
      cases hf3
      exact j_iret (pc := 56) hc hq hre rfl dX0_broken_56
    · have hf4 := (if_neg hh).symm.trans hf1
      clear hf1
      refine j_aload_n (pc := 15) hc dX0_broken_15 0 rfl rfl ?_
      refine j_iload_n (pc := 16) hc dX0_broken_16 1 rfl rfl ?_
      obtain ⟨u3, eu3, hf5⟩ := ob_i hf4
      clear hf4
      obtain ⟨v5, T4, ev5, hf6⟩ := ob_c hf5
      clear hf5
      refine j_callV (pc := 17) (As := [vi x1]) (rest := []) (st2 := [vi v5]) hc ho cw_X0_312 (c_X0_isBroken ev5) (Rc.of (g_cls_ok eu3) (by decide) (by decide) ci_X0) hrm ⟨by decide, by decide⟩ rfl (Nat.le_of_ble_eq_true rfl) dX0_broken_17 rfl rfl ?_
      refine j_if_ne (pc := 20) hc dX0_broken_20 (tgt := 26) rfl (fun hh => ?_) (fun hh => ?_)
      · have hf7 := (if_neg hh).symm.trans hf6
        clear hf6
        refine j_aload_n (pc := 26) hc dX0_broken_26 0 rfl rfl ?_
        obtain ⟨q6, eq6, hf8⟩ := ob_i hf7
        clear hf7
        refine j_getR (pc := 27) hc ho fa_X0_47_1 dX0_broken_27 eq6 ?_
        refine j_aload_n (pc := 30) hc dX0_broken_30 0 rfl rfl ?_
        obtain ⟨v7, ev7, hf9⟩ := ob_i hf8
        clear hf8
        refine j_getI (pc := 31) hc ho fa_X0_254_1 dX0_broken_31 ev7 ?_
        refine j_iload_n (pc := 34) hc dX0_broken_34 1 rfl rfl ?_
        obtain ⟨a8, ea8, hf10⟩ := ob_i hf9
        clear hf9
        subst ea8
        obtain ⟨T9, eT9, hf11⟩ := ob_i hf10
        clear hf10
        refine j_iast (pc := 35) hc dX0_broken_35 eT9 ?_
        refine j_aload_n (pc := 36) hc dX0_broken_36 0 rfl rfl ?_
        refine j_dup (pc := 37) hc dX0_broken_37 rfl ?_
        obtain ⟨v10, ev10, hf12⟩ := ob_i hf11
        clear hf11
        refine j_getI (pc := 38) hc ho fa_X0_254_1 dX0_broken_38 ev10 ?_
        refine j_iconst (pc := 41) (v := (1)) hc dX0_broken_41 rfl ?_
        refine j_iadd (pc := 42) hc dX0_broken_42 ?_
        obtain ⟨T11, eT11, hf13⟩ := ob_i hf12
        clear hf12
        refine j_putI (pc := 43) hc ho fa_X0_254_1 (Or.inl rfl) dX0_broken_43 eT11 ?_
        refine j_iinc (pc := 46) (L' := [(1, vi (x1 + (1))), (0, vr (some a0))]) (v := (x1 + (1))) hc dX0_broken_46 1 rfl rfl hnL (by decide) rfl ?_
        refine j_goto (pc := 49) hc dX0_broken_49 (tgt := 7) rfl ?_
        refine j_loc (L' := [(0, vr (some a0)), (1, vi (x1 + (1)))]) [1, 0] rfl ?_
        exact hk_7 _ _ hf13
      · have hf14 := (if_pos hh).symm.trans hf6
        clear hf6
        refine j_goto (pc := 23) hc dX0_broken_23 (tgt := 46) rfl ?_
        refine j_iinc (pc := 46) (L' := [(1, vi (x1 + (1))), (0, vr (some a0))]) (v := (x1 + (1))) hc dX0_broken_46 1 rfl rfl hnL (by decide) rfl ?_
        refine j_goto (pc := 49) hc dX0_broken_49 (tgt := 7) rfl ?_
        refine j_loc (L' := [(0, vr (some a0)), (1, vi (x1 + (1)))]) [1, 0] rfl ?_
        exact hk_7 _ _ hf14
set_option maxRecDepth 100000 in
set_option maxHeartbeats 2000000 in
theorem c_X0_broken {l : Launch} {g : PG} {mo : MO} {a0 : Nat} {r : Int32} {S S1 : HS} (hf : f_X0_broken a0 S = some (r, S1)) : (h_nx S ≤ h_nx S1 ∧ h_sl S ≤ h_sl S1) ∧ Ct l g yX0_broken (ws_ yX0_broken cX0_broken 2 (some (.int))) 83 3505 S mo [vr (some a0)] (some (vi r)) S1 mo := by
  refine met_of false (by decide) (fun h => by first | rfl | cases h) rfl (Nat.le_of_ble_eq_true rfl) (fun f hl hg hc ho hnL hrm hre hct hex hq => ?_)
  subst hl
  subst hg
  unfold f_X0_broken at hf
  refine j_aload_n (pc := 0) hc dX0_broken_0 0 rfl rfl ?_
  refine j_iconst (pc := 1) (v := (0)) hc dX0_broken_1 rfl ?_
  obtain ⟨T1, eT1, hf1⟩ := ob_i hf
  clear hf
  refine j_putI (pc := 2) hc ho fa_X0_254_1 (Or.inl rfl) dX0_broken_2 eT1 ?_
  refine j_iconst (pc := 5) (v := (0)) hc dX0_broken_5 rfl ?_
  refine j_istore_n (pc := 6) (L' := [(1, vi (0)), (0, vr (some a0))]) hc dX0_broken_6 rfl hnL (by decide) rfl ?_
  refine j_loc (L' := [(0, vr (some a0)), (1, vi (0))]) [1, 0] rfl ?_
  exact w_X0_broken_n7 hc ho hnL hrm hre hct hq fu_ _ _ hf1
def f_X0_late_n33 (k_22 : Int32 → Int32 → HS → Option (Int32 × HS)) (a0 : Nat) : Nat → Int32 → Int32 → Option Nat → Int32 → HS → Option (Int32 × HS)
  | 0, _, _, _, _, _ => none
  | n + 1, x2, x3, r4, x5, S =>
    (r4).bind fun a1 =>
    (g_fI S 4 104 a1).bind fun v2 =>
    if v2 ≤ x5 then
      some (x3, S)
    else
      (g_fR S 4 103 a1).bind fun q3 =>
      (q3).bind fun a4 =>
      (g_aI S 31 a4 x5).bind fun v5 =>
      (g_cls S 1 a0).bind fun u6 =>
      o_bd (f_X0_isLate a0 v5 x2 S) fun v8 T7 =>
      if v8 = 0 then
        (fun x2 x3 r4 x5 S => f_X0_late_n33 k_22 a0 n x2 x3 r4 x5 S) x2 x3 (some a1) (x5 + (1)) T7
      else
        (g_fR T7 4 103 a1).bind fun q9 =>
        (q9).bind fun a10 =>
        (g_aI T7 31 a10 x5).bind fun v11 =>
        k_22 x2 v11 T7
def f_X0_late_n22 (a0 : Nat) : Nat → Int32 → Int32 → HS → Option (Int32 × HS)
  | 0, _, _, _ => none
  | n + 1, x2, x3, S =>
    (g_fR S 1 1 a0).bind fun q1 =>
    (q1).bind fun a2 =>
    (g_aR S 36 a2 x3).bind fun q3 =>
    f_X0_late_n33 (fun x2 x3 S => f_X0_late_n22 a0 n x2 x3 S) a0 fu_ x2 x3 q3 (0) S
def f_X0_late (a0 : Nat) (x1 : Int32) (S : HS) : Option (Int32 × HS) :=
  (g_cls S 1 a0).bind fun u1 =>
  o_bd (f_X0_isBroken a0 x1 S) fun v3 T2 =>
  if v3 = 0 then
    some ((-1), T2)
  else
    (g_fR T2 1 1 a0).bind fun q4 =>
    (q4).bind fun a5 =>
    (g_aR T2 36 a5 x1).bind fun q6 =>
    (q6).bind fun a7 =>
    (g_fI T2 4 112 a7).bind fun v8 =>
    f_X0_late_n22 a0 fu_ v8 x1 T2
set_option maxRecDepth 100000 in
set_option maxHeartbeats 2000000 in
theorem w_X0_late_n33 {f : CfT} {mo : MO} {a0 : Nat} {r : Int32} {S1 : HS} (hc : cf_cc f = cX0_late) (ho : cf_ow f = "TableCatalog") (hnL : cf_nL f = 6) (hrm : cf_rm f = (83, 3505)) (hre : cf_re f = (some (.int))) (hct : cf_ct f = false) (hq : Qok f (some (vi r)) S1 mo) {k_22 : Int32 → Int32 → HS → Option (Int32 × HS)} (hk_22 : ∀ (x2 : Int32) (x3 : Int32) (S : HS), k_22 x2 x3 S = some (r, S1) → JJ f S mo 22 [(0, vr (some a0)), (2, vi x2), (3, vi x3)] []) : ∀ (n : Nat) (x2 : Int32) (x3 : Int32) (r4 : Option Nat) (x5 : Int32) (S : HS), f_X0_late_n33 k_22 a0 n x2 x3 r4 x5 S = some (r, S1) → JJ f S mo 33 [(0, vr (some a0)), (2, vi x2), (3, vi x3), (4, vr r4), (5, vi x5)] [] := by
  intro n
  induction n with
  | zero =>
    intro x2 x3 r4 x5 S hf
    have hf : (none : Option (Int32 × HS)) = some (r, S1) := hf
    cases hf
  | succ n ih =>
    intro x2 x3 r4 x5 S hf
    unfold f_X0_late_n33 at hf
    have hk_33 := ih
    refine j_iload (pc := 33) hc dX0_late_33 4 rfl ?_
    refine j_aload (pc := 35) hc dX0_late_35 3 rfl ?_
    obtain ⟨a1, ea1, hf1⟩ := ob_i hf
    clear hf
    subst ea1
    obtain ⟨v2, ev2, hf2⟩ := ob_i hf1
    clear hf1
    refine j_getI (pc := 37) hc ho fa_X0_131_4 dX0_late_37 ev2 ?_
    refine j_icmp_ge (pc := 40) hc dX0_late_40 (tgt := 80) rfl (fun hh => ?_) (fun hh => ?_)
    · have hf3 := (if_pos hh).symm.trans hf2
      clear hf2
      refine j_iload_n (pc := 80) hc dX0_late_80 2 rfl rfl ?_
      cases hf3
      exact j_iret (pc := 81) hc hq hre rfl dX0_late_81
    · have hf4 := (if_neg hh).symm.trans hf2
      clear hf2
      refine j_aload_n (pc := 43) hc dX0_late_43 0 rfl rfl ?_
      refine j_aload (pc := 44) hc dX0_late_44 3 rfl ?_
      obtain ⟨q3, eq3, hf5⟩ := ob_i hf4
      clear hf4
      refine j_getR (pc := 46) hc ho fa_X0_126_4 dX0_late_46 eq3 ?_
      refine j_iload (pc := 49) hc dX0_late_49 4 rfl ?_
      obtain ⟨a4, ea4, hf6⟩ := ob_i hf5
      clear hf5
      subst ea4
      obtain ⟨v5, ev5, hf7⟩ := ob_i hf6
      clear hf6
      refine j_iald (pc := 51) hc dX0_late_51 ev5 ?_
      refine j_iload_n (pc := 52) hc dX0_late_52 1 rfl rfl ?_
      obtain ⟨u6, eu6, hf8⟩ := ob_i hf7
      clear hf7
      obtain ⟨v8, T7, ev8, hf9⟩ := ob_c hf8
      clear hf8
      refine j_callV (pc := 53) (As := [vi v5, vi x2]) (rest := []) (st2 := [vi v8]) hc ho cw_X0_309 (c_X0_isLate ev8) (Rc.of (g_cls_ok eu6) (by decide) (by decide) ci_X0) hrm ⟨by decide, by decide⟩ rfl (Nat.le_of_ble_eq_true rfl) dX0_late_53 rfl rfl ?_
      refine j_if_ne (pc := 56) hc dX0_late_56 (tgt := 62) rfl (fun hh => ?_) (fun hh => ?_)
      · have hf10 := (if_neg hh).symm.trans hf9
        clear hf9
        refine j_aload (pc := 62) hc dX0_late_62 3 rfl ?_
        obtain ⟨q9, eq9, hf11⟩ := ob_i hf10
        clear hf10
        refine j_getR (pc := 64) hc ho fa_X0_126_4 dX0_late_64 eq9 ?_
        refine j_iload (pc := 67) hc dX0_late_67 4 rfl ?_
        obtain ⟨a10, ea10, hf12⟩ := ob_i hf11
        clear hf11
        subst ea10
        obtain ⟨v11, ev11, hf13⟩ := ob_i hf12
        clear hf12
        refine j_iald (pc := 69) hc dX0_late_69 ev11 ?_
        refine j_istore_n (pc := 70) (L' := [(3, vi v11), (0, vr (some a0)), (2, vi x2), (4, vr (some a1)), (5, vi x5)]) hc dX0_late_70 rfl hnL (by decide) rfl ?_
        refine j_goto (pc := 71) hc dX0_late_71 (tgt := 22) rfl ?_
        refine j_loc (L' := [(0, vr (some a0)), (2, vi x2), (3, vi v11)]) [1, 2, 0] rfl ?_
        exact hk_22 _ _ _ hf13
      · have hf14 := (if_pos hh).symm.trans hf9
        clear hf9
        refine j_goto (pc := 59) hc dX0_late_59 (tgt := 74) rfl ?_
        refine j_iinc (pc := 74) (L' := [(5, vi (x5 + (1))), (0, vr (some a0)), (2, vi x2), (3, vi x3), (4, vr (some a1))]) (v := (x5 + (1))) hc dX0_late_74 4 rfl rfl hnL (by decide) rfl ?_
        refine j_goto (pc := 77) hc dX0_late_77 (tgt := 33) rfl ?_
        refine j_loc (L' := [(0, vr (some a0)), (2, vi x2), (3, vi x3), (4, vr (some a1)), (5, vi (x5 + (1)))]) [1, 2, 3, 4, 0] rfl ?_
        exact hk_33 _ _ _ _ _ hf14
set_option maxRecDepth 100000 in
set_option maxHeartbeats 2000000 in
theorem w_X0_late_n22 {f : CfT} {mo : MO} {a0 : Nat} {r : Int32} {S1 : HS} (hc : cf_cc f = cX0_late) (ho : cf_ow f = "TableCatalog") (hnL : cf_nL f = 6) (hrm : cf_rm f = (83, 3505)) (hre : cf_re f = (some (.int))) (hct : cf_ct f = false) (hq : Qok f (some (vi r)) S1 mo) : ∀ (n : Nat) (x2 : Int32) (x3 : Int32) (S : HS), f_X0_late_n22 a0 n x2 x3 S = some (r, S1) → JJ f S mo 22 [(0, vr (some a0)), (2, vi x2), (3, vi x3)] [] := by
  intro n
  induction n with
  | zero =>
    intro x2 x3 S hf
    have hf : (none : Option (Int32 × HS)) = some (r, S1) := hf
    cases hf
  | succ n ih =>
    intro x2 x3 S hf
    unfold f_X0_late_n22 at hf
    have hk_22 := ih
    refine j_aload_n (pc := 22) hc dX0_late_22 0 rfl rfl ?_
    obtain ⟨q1, eq1, hf1⟩ := ob_i hf
    clear hf
    refine j_getR (pc := 23) hc ho fa_X0_35_1 dX0_late_23 eq1 ?_
    refine j_iload_n (pc := 26) hc dX0_late_26 2 rfl rfl ?_
    obtain ⟨a2, ea2, hf2⟩ := ob_i hf1
    clear hf1
    subst ea2
    obtain ⟨q3, eq3, hf3⟩ := ob_i hf2
    clear hf2
    refine j_aald (pc := 27) hc dX0_late_27 (by decide) eq3 ?_
    refine j_astore (pc := 28) (L' := [(4, vr q3), (0, vr (some a0)), (2, vi x2), (3, vi x3)]) hc dX0_late_28 hnL (by decide) rfl ?_
    refine j_iconst (pc := 30) (v := (0)) hc dX0_late_30 rfl ?_
    refine j_istore (pc := 31) (L' := [(5, vi (0)), (4, vr q3), (0, vr (some a0)), (2, vi x2), (3, vi x3)]) hc dX0_late_31 hnL (by decide) rfl ?_
    refine j_loc (L' := [(0, vr (some a0)), (2, vi x2), (3, vi x3), (4, vr q3), (5, vi (0))]) [2, 3, 4, 1, 0] rfl ?_
    exact w_X0_late_n33 hc ho hnL hrm hre hct hq hk_22 fu_ _ _ _ _ _ hf3
set_option maxRecDepth 100000 in
set_option maxHeartbeats 2000000 in
theorem c_X0_late {l : Launch} {g : PG} {mo : MO} {a0 : Nat} {x1 : Int32} {r : Int32} {S S1 : HS} (hf : f_X0_late a0 x1 S = some (r, S1)) : (h_nx S ≤ h_nx S1 ∧ h_sl S ≤ h_sl S1) ∧ Ct l g yX0_late (ws_ yX0_late cX0_late 6 (some (.int))) 83 3505 S mo [vr (some a0), vi x1] (some (vi r)) S1 mo := by
  refine met_of false (by decide) (fun h => by first | rfl | cases h) rfl (Nat.le_of_ble_eq_true rfl) (fun f hl hg hc ho hnL hrm hre hct hex hq => ?_)
  subst hl
  subst hg
  unfold f_X0_late at hf
  refine j_aload_n (pc := 0) hc dX0_late_0 0 rfl rfl ?_
  refine j_iload_n (pc := 1) hc dX0_late_1 1 rfl rfl ?_
  obtain ⟨u1, eu1, hf1⟩ := ob_i hf
  clear hf
  obtain ⟨v3, T2, ev3, hf2⟩ := ob_c hf1
  clear hf1
  refine j_callV (pc := 2) (As := [vi x1]) (rest := []) (st2 := [vi v3]) hc ho cw_X0_312 (c_X0_isBroken ev3) (Rc.of (g_cls_ok eu1) (by decide) (by decide) ci_X0) hrm ⟨by decide, by decide⟩ rfl (Nat.le_of_ble_eq_true rfl) dX0_late_2 rfl rfl ?_
  refine j_if_ne (pc := 5) hc dX0_late_5 (tgt := 10) rfl (fun hh => ?_) (fun hh => ?_)
  · have hf3 := (if_neg hh).symm.trans hf2
    clear hf2
    refine j_aload_n (pc := 10) hc dX0_late_10 0 rfl rfl ?_
    obtain ⟨q4, eq4, hf4⟩ := ob_i hf3
    clear hf3
    refine j_getR (pc := 11) hc ho fa_X0_35_1 dX0_late_11 eq4 ?_
    refine j_iload_n (pc := 14) hc dX0_late_14 1 rfl rfl ?_
    obtain ⟨a5, ea5, hf5⟩ := ob_i hf4
    clear hf4
    subst ea5
    obtain ⟨q6, eq6, hf6⟩ := ob_i hf5
    clear hf5
    refine j_aald (pc := 15) hc dX0_late_15 (by decide) eq6 ?_
    obtain ⟨a7, ea7, hf7⟩ := ob_i hf6
    clear hf6
    subst ea7
    obtain ⟨v8, ev8, hf8⟩ := ob_i hf7
    clear hf7
    refine j_getI (pc := 16) hc ho fa_X0_247_4 dX0_late_16 ev8 ?_
    refine j_istore_n (pc := 19) (L' := [(2, vi v8), (0, vr (some a0)), (1, vi x1)]) hc dX0_late_19 rfl hnL (by decide) rfl ?_
    refine j_iload_n (pc := 20) hc dX0_late_20 2 rfl rfl ?_
    refine j_istore_n (pc := 21) (L' := [(3, vi x1), (2, vi v8), (0, vr (some a0)), (1, vi x1)]) hc dX0_late_21 rfl hnL (by decide) rfl ?_
    refine j_loc (L' := [(0, vr (some a0)), (2, vi v8), (3, vi x1)]) [2, 1, 0] rfl ?_
    exact w_X0_late_n22 hc ho hnL hrm hre hct hq fu_ _ _ _ hf8
  · have hf9 := (if_pos hh).symm.trans hf2
    clear hf2
    refine j_iconst (pc := 8) (v := (-1)) hc dX0_late_8 rfl ?_
    cases hf9
    exact j_iret (pc := 9) hc hq hre rfl dX0_late_9
def f_X0_own (a0 : Nat) (x1 : Int32) (x2 : Int32) (S : HS) : Option (Int32 × HS) :=
  (g_cls S 1 a0).bind fun u1 =>
  o_bd (f_X0_table_2 a0 x1 S) fun q3 T2 =>
  o_case q3 (
    some ((0), T2)
  ) (fun a4 =>
    if x2 < (-1) then
      some ((0), T2)
    else
      if x2 < (10) then
        (g_fR T2 1 1 a0).bind fun q5 =>
        (q5).bind fun a6 =>
        (g_aR T2 36 a6 x1).bind fun q7 =>
        (q7).bind fun a8 =>
        (p_fI T2 4 111 a8 x2).bind fun T9 =>
        some ((1), T9)
      else
        some ((0), T2)
  )
set_option maxRecDepth 100000 in
set_option maxHeartbeats 2000000 in
theorem c_X0_own {l : Launch} {g : PG} {mo : MO} {a0 : Nat} {x1 : Int32} {x2 : Int32} {r : Int32} {S S1 : HS} (hf : f_X0_own a0 x1 x2 S = some (r, S1)) : (h_nx S ≤ h_nx S1 ∧ h_sl S ≤ h_sl S1) ∧ Ct l g yX0_own (ws_ yX0_own cX0_own 3 (some (.boolean))) 2 81 S mo [vr (some a0), vi x1, vi x2] (some (vi r)) S1 mo := by
  refine met_of false (by decide) (fun h => by first | rfl | cases h) rfl (Nat.le_of_ble_eq_true rfl) (fun f hl hg hc ho hnL hrm hre hct hex hq => ?_)
  subst hl
  subst hg
  unfold f_X0_own at hf
  refine j_aload_n (pc := 0) hc dX0_own_0 0 rfl rfl ?_
  refine j_iload_n (pc := 1) hc dX0_own_1 1 rfl rfl ?_
  obtain ⟨u1, eu1, hf1⟩ := ob_i hf
  clear hf
  obtain ⟨q3, T2, eq3, hf2⟩ := ob_c hf1
  clear hf1
  refine j_callV (pc := 2) (As := [vi x1]) (rest := []) (st2 := [vr q3]) hc ho cw_X0_234 (c_X0_table_2 eq3) (Rc.of (g_cls_ok eu1) (by decide) (by decide) ci_X0) hrm ⟨by decide, by decide⟩ rfl (Nat.le_of_ble_eq_true rfl) dX0_own_2 rfl rfl ?_
  refine j_ifnull (pc := 5) hc dX0_own_5 (tgt := 19) rfl (fun hh => ?_) (fun a4 hh => ?_)
  · subst hh
    refine j_iconst (pc := 19) (v := (0)) hc dX0_own_19 rfl ?_
    cases hf2
    exact j_iret (pc := 20) hc hq hre rfl dX0_own_20
  · subst hh
    refine j_iload_n (pc := 8) hc dX0_own_8 2 rfl rfl ?_
    refine j_iconst (pc := 9) (v := (-1)) hc dX0_own_9 rfl ?_
    refine j_icmp_lt (pc := 10) hc dX0_own_10 (tgt := 19) rfl (fun hh => ?_) (fun hh => ?_)
    · have hf3 := (if_pos hh).symm.trans hf2
      clear hf2
      refine j_iconst (pc := 19) (v := (0)) hc dX0_own_19 rfl ?_
      cases hf3
      exact j_iret (pc := 20) hc hq hre rfl dX0_own_20
    · have hf4 := (if_neg hh).symm.trans hf2
      clear hf2
      refine j_iload_n (pc := 13) hc dX0_own_13 2 rfl rfl ?_
      refine j_bipush (pc := 14) (v := (10)) hc dX0_own_14 rfl ?_
      refine j_icmp_lt (pc := 16) hc dX0_own_16 (tgt := 21) rfl (fun hh => ?_) (fun hh => ?_)
      · have hf5 := (if_pos hh).symm.trans hf4
        clear hf4
        refine j_aload_n (pc := 21) hc dX0_own_21 0 rfl rfl ?_
        obtain ⟨q5, eq5, hf6⟩ := ob_i hf5
        clear hf5
        refine j_getR (pc := 22) hc ho fa_X0_35_1 dX0_own_22 eq5 ?_
        refine j_iload_n (pc := 25) hc dX0_own_25 1 rfl rfl ?_
        obtain ⟨a6, ea6, hf7⟩ := ob_i hf6
        clear hf6
        subst ea6
        obtain ⟨q7, eq7, hf8⟩ := ob_i hf7
        clear hf7
        refine j_aald (pc := 26) hc dX0_own_26 (by decide) eq7 ?_
        refine j_iload_n (pc := 27) hc dX0_own_27 2 rfl rfl ?_
        obtain ⟨a8, ea8, hf9⟩ := ob_i hf8
        clear hf8
        subst ea8
        obtain ⟨T9, eT9, hf10⟩ := ob_i hf9
        clear hf9
        refine j_putI (pc := 28) hc ho fa_X0_316_4 (Or.inl rfl) dX0_own_28 eT9 ?_
        refine j_iconst (pc := 31) (v := (1)) hc dX0_own_31 rfl ?_
        cases hf10
        exact j_iret (pc := 32) hc hq hre rfl dX0_own_32
      · have hf11 := (if_neg hh).symm.trans hf4
        clear hf4
        refine j_iconst (pc := 19) (v := (0)) hc dX0_own_19 rfl ?_
        cases hf11
        exact j_iret (pc := 20) hc hq hre rfl dX0_own_20
def f_X0_ask (a0 : Nat) (x1 : Int32) (x2 : Int32) (x3 : Int32) (S : HS) : Option (Int32 × HS) :=
  if x1 < 0 then
    some ((-1), S)
  else
    if (10) ≤ x1 then
      some ((-1), S)
    else
      (g_cls S 1 a0).bind fun u1 =>
      o_bd (f_X0_table_2 a0 x2 S) fun q3 T2 =>
      o_case q3 (
        some ((-1), T2)
      ) (fun a4 =>
        if x3 < (1) then
          some ((-1), T2)
        else
          (g_fR T2 1 1 a0).bind fun q5 =>
          (q5).bind fun a6 =>
          (g_aR T2 36 a6 x2).bind fun q7 =>
          (q7).bind fun a8 =>
          (g_fR T2 4 100 a8).bind fun q9 =>
          (q9).bind fun a10 =>
          (g_cls T2 12 a10).bind fun u11 =>
          o_bd (f_J5_size a10 T2) fun v13 T12 =>
          if ((1) <<< (v13 &&& 31)) ≤ x3 then
            some ((-1), T12)
          else
            (g_fI T12 1 4 a0).bind fun v14 =>
            if v14 = (40) then
              some ((-1), T12)
            else
              (g_fR T12 1 11 a0).bind fun q15 =>
              (g_fI T12 1 4 a0).bind fun v16 =>
              (q15).bind fun a17 =>
              (g_aR T12 37 a17 v16).bind fun q18 =>
              (q18).bind fun a19 =>
              (p_aI T12 31 a19 (0) x1).bind fun T20 =>
              (p_aI T20 31 a19 (1) x2).bind fun T21 =>
              (p_aI T21 31 a19 (2) x3).bind fun T22 =>
              (g_fI T22 1 3 a0).bind fun v23 =>
              (p_aI T22 31 a19 (3) v23).bind fun T24 =>
              (g_fI T24 1 4 a0).bind fun v25 =>
              (p_fI T24 1 4 a0 (v25 + (1))).bind fun T26 =>
              (g_fI T26 1 4 a0).bind fun v27 =>
              some ((v27 - (1)), T26)
      )
set_option maxRecDepth 100000 in
set_option maxHeartbeats 2000000 in
theorem c_X0_ask {l : Launch} {g : PG} {mo : MO} {a0 : Nat} {x1 : Int32} {x2 : Int32} {x3 : Int32} {r : Int32} {S S1 : HS} (hf : f_X0_ask a0 x1 x2 x3 S = some (r, S1)) : (h_nx S ≤ h_nx S1 ∧ h_sl S ≤ h_sl S1) ∧ Ct l g yX0_ask (ws_ yX0_ask cX0_ask 5 (some (.int))) 2 81 S mo [vr (some a0), vi x1, vi x2, vi x3] (some (vi r)) S1 mo := by
  refine met_of false (by decide) (fun h => by first | rfl | cases h) rfl (Nat.le_of_ble_eq_true rfl) (fun f hl hg hc ho hnL hrm hre hct hex hq => ?_)
  subst hl
  subst hg
  unfold f_X0_ask at hf
  refine j_iload_n (pc := 0) hc dX0_ask_0 1 rfl rfl ?_
  refine j_if_lt (pc := 1) hc dX0_ask_1 (tgt := 50) rfl (fun hh => ?_) (fun hh => ?_)
  · have hf1 := (if_pos hh).symm.trans hf
    clear hf
    refine j_iconst (pc := 50) (v := (-1)) hc dX0_ask_50 rfl ?_
    cases hf1
    exact j_iret (pc := 51) hc hq hre rfl dX0_ask_51
  · have hf2 := (if_neg hh).symm.trans hf
    clear hf
    refine j_iload_n (pc := 4) hc dX0_ask_4 1 rfl rfl ?_
    refine j_bipush (pc := 5) (v := (10)) hc dX0_ask_5 rfl ?_
    refine j_icmp_ge (pc := 7) hc dX0_ask_7 (tgt := 50) rfl (fun hh => ?_) (fun hh => ?_)
    · have hf3 := (if_pos hh).symm.trans hf2
      clear hf2
      refine j_iconst (pc := 50) (v := (-1)) hc dX0_ask_50 rfl ?_
      cases hf3
      exact j_iret (pc := 51) hc hq hre rfl dX0_ask_51
    · have hf4 := (if_neg hh).symm.trans hf2
      clear hf2
      refine j_aload_n (pc := 10) hc dX0_ask_10 0 rfl rfl ?_
      refine j_iload_n (pc := 11) hc dX0_ask_11 2 rfl rfl ?_
      obtain ⟨u1, eu1, hf5⟩ := ob_i hf4
      clear hf4
      obtain ⟨q3, T2, eq3, hf6⟩ := ob_c hf5
      clear hf5
      refine j_callV (pc := 12) (As := [vi x2]) (rest := []) (st2 := [vr q3]) hc ho cw_X0_234 (c_X0_table_2 eq3) (Rc.of (g_cls_ok eu1) (by decide) (by decide) ci_X0) hrm ⟨by decide, by decide⟩ rfl (Nat.le_of_ble_eq_true rfl) dX0_ask_12 rfl rfl ?_
      refine j_ifnull (pc := 15) hc dX0_ask_15 (tgt := 50) rfl (fun hh => ?_) (fun a4 hh => ?_)
      · subst hh
        refine j_iconst (pc := 50) (v := (-1)) hc dX0_ask_50 rfl ?_
        cases hf6
        exact j_iret (pc := 51) hc hq hre rfl dX0_ask_51
      · subst hh
        refine j_iload_n (pc := 18) hc dX0_ask_18 3 rfl rfl ?_
        refine j_iconst (pc := 19) (v := (1)) hc dX0_ask_19 rfl ?_
        refine j_icmp_lt (pc := 20) hc dX0_ask_20 (tgt := 50) rfl (fun hh => ?_) (fun hh => ?_)
        · have hf7 := (if_pos hh).symm.trans hf6
          clear hf6
          refine j_iconst (pc := 50) (v := (-1)) hc dX0_ask_50 rfl ?_
          cases hf7
          exact j_iret (pc := 51) hc hq hre rfl dX0_ask_51
        · have hf8 := (if_neg hh).symm.trans hf6
          clear hf6
          refine j_iload_n (pc := 23) hc dX0_ask_23 3 rfl rfl ?_
          refine j_iconst (pc := 24) (v := (1)) hc dX0_ask_24 rfl ?_
          refine j_aload_n (pc := 25) hc dX0_ask_25 0 rfl rfl ?_
          obtain ⟨q5, eq5, hf9⟩ := ob_i hf8
          clear hf8
          refine j_getR (pc := 26) hc ho fa_X0_35_1 dX0_ask_26 eq5 ?_
          refine j_iload_n (pc := 29) hc dX0_ask_29 2 rfl rfl ?_
          obtain ⟨a6, ea6, hf10⟩ := ob_i hf9
          clear hf9
          subst ea6
          obtain ⟨q7, eq7, hf11⟩ := ob_i hf10
          clear hf10
          refine j_aald (pc := 30) hc dX0_ask_30 (by decide) eq7 ?_
          obtain ⟨a8, ea8, hf12⟩ := ob_i hf11
          clear hf11
          subst ea8
          obtain ⟨q9, eq9, hf13⟩ := ob_i hf12
          clear hf12
          refine j_getR (pc := 31) hc ho fa_X0_103_4 dX0_ask_31 eq9 ?_
          obtain ⟨a10, ea10, hf14⟩ := ob_i hf13
          clear hf13
          subst ea10
          obtain ⟨u11, eu11, hf15⟩ := ob_i hf14
          clear hf14
          obtain ⟨v13, T12, ev13, hf16⟩ := ob_c hf15
          clear hf15
          refine j_callV (pc := 34) (As := []) (rest := [vi (1), vi x3]) (st2 := [vi v13, vi (1), vi x3]) hc ho cw_X0_107 (c_J5_size ev13) (Rc.of (g_cls_ok eu11) (by decide) (by decide) ci_J5) hrm ⟨by decide, by decide⟩ rfl (Nat.le_of_ble_eq_true rfl) dX0_ask_34 rfl rfl ?_
          refine j_ishl (pc := 37) hc dX0_ask_37 ?_
          refine j_icmp_ge (pc := 38) hc dX0_ask_38 (tgt := 50) rfl (fun hh => ?_) (fun hh => ?_)
          · have hf17 := (if_pos hh).symm.trans hf16
            clear hf16
            refine j_iconst (pc := 50) (v := (-1)) hc dX0_ask_50 rfl ?_
            cases hf17
            exact j_iret (pc := 51) hc hq hre rfl dX0_ask_51
          · have hf18 := (if_neg hh).symm.trans hf16
            clear hf16
            refine j_aload_n (pc := 41) hc dX0_ask_41 0 rfl rfl ?_
            obtain ⟨v14, ev14, hf19⟩ := ob_i hf18
            clear hf18
            refine j_getI (pc := 42) hc ho fa_X0_282_1 dX0_ask_42 ev14 ?_
            refine j_bipush (pc := 45) (v := (40)) hc dX0_ask_45 rfl ?_
            refine j_icmp_ne (pc := 47) hc dX0_ask_47 (tgt := 52) rfl (fun hh => ?_) (fun hh => ?_)
            · have hf20 := (if_neg hh).symm.trans hf19
              clear hf19
              refine j_aload_n (pc := 52) hc dX0_ask_52 0 rfl rfl ?_
              obtain ⟨q15, eq15, hf21⟩ := ob_i hf20
              clear hf20
              refine j_getR (pc := 53) hc ho fa_X0_53_1 dX0_ask_53 eq15 ?_
              refine j_aload_n (pc := 56) hc dX0_ask_56 0 rfl rfl ?_
              obtain ⟨v16, ev16, hf22⟩ := ob_i hf21
              clear hf21
              refine j_getI (pc := 57) hc ho fa_X0_282_1 dX0_ask_57 ev16 ?_
              obtain ⟨a17, ea17, hf23⟩ := ob_i hf22
              clear hf22
              subst ea17
              obtain ⟨q18, eq18, hf24⟩ := ob_i hf23
              clear hf23
              refine j_aald (pc := 60) hc dX0_ask_60 (by decide) eq18 ?_
              refine j_astore (pc := 61) (L' := [(4, vr q18), (0, vr (some a0)), (1, vi x1), (2, vi x2), (3, vi x3)]) hc dX0_ask_61 hnL (by decide) rfl ?_
              refine j_aload (pc := 63) hc dX0_ask_63 0 rfl ?_
              refine j_iconst (pc := 65) (v := (0)) hc dX0_ask_65 rfl ?_
              refine j_iload_n (pc := 66) hc dX0_ask_66 2 rfl rfl ?_
              obtain ⟨a19, ea19, hf25⟩ := ob_i hf24
              clear hf24
              subst ea19
              obtain ⟨T20, eT20, hf26⟩ := ob_i hf25
              clear hf25
              refine j_iast (pc := 67) hc dX0_ask_67 eT20 ?_
              refine j_aload (pc := 68) hc dX0_ask_68 0 rfl ?_
              refine j_iconst (pc := 70) (v := (1)) hc dX0_ask_70 rfl ?_
              refine j_iload_n (pc := 71) hc dX0_ask_71 3 rfl rfl ?_
              obtain ⟨T21, eT21, hf27⟩ := ob_i hf26
              clear hf26
              refine j_iast (pc := 72) hc dX0_ask_72 eT21 ?_
              refine j_aload (pc := 73) hc dX0_ask_73 0 rfl ?_
              refine j_iconst (pc := 75) (v := (2)) hc dX0_ask_75 rfl ?_
              refine j_iload_n (pc := 76) hc dX0_ask_76 4 rfl rfl ?_
              obtain ⟨T22, eT22, hf28⟩ := ob_i hf27
              clear hf27
              refine j_iast (pc := 77) hc dX0_ask_77 eT22 ?_
              refine j_aload (pc := 78) hc dX0_ask_78 0 rfl ?_
              refine j_iconst (pc := 80) (v := (3)) hc dX0_ask_80 rfl ?_
              refine j_aload_n (pc := 81) hc dX0_ask_81 1 rfl rfl ?_
              obtain ⟨v23, ev23, hf29⟩ := ob_i hf28
              clear hf28
              refine j_getI (pc := 82) hc ho fa_X0_306_1 dX0_ask_82 ev23 ?_
              obtain ⟨T24, eT24, hf30⟩ := ob_i hf29
              clear hf29
              refine j_iast (pc := 85) hc dX0_ask_85 eT24 ?_
              refine j_aload_n (pc := 86) hc dX0_ask_86 1 rfl rfl ?_
              refine j_dup (pc := 87) hc dX0_ask_87 rfl ?_
              obtain ⟨v25, ev25, hf31⟩ := ob_i hf30
              clear hf30
              refine j_getI (pc := 88) hc ho fa_X0_282_1 dX0_ask_88 ev25 ?_
              refine j_iconst (pc := 91) (v := (1)) hc dX0_ask_91 rfl ?_
              refine j_iadd (pc := 92) hc dX0_ask_92 ?_
              obtain ⟨T26, eT26, hf32⟩ := ob_i hf31
              clear hf31
              refine j_putI (pc := 93) hc ho fa_X0_282_1 (Or.inl rfl) dX0_ask_93 eT26 ?_
              refine j_aload_n (pc := 96) hc dX0_ask_96 1 rfl rfl ?_
              obtain ⟨v27, ev27, hf33⟩ := ob_i hf32
              clear hf32
              refine j_getI (pc := 97) hc ho fa_X0_282_1 dX0_ask_97 ev27 ?_
              refine j_iconst (pc := 100) (v := (1)) hc dX0_ask_100 rfl ?_
              refine j_isub (pc := 101) hc dX0_ask_101 ?_
              cases hf33
              exact j_iret (pc := 102) hc hq hre rfl dX0_ask_102
            · have hf34 := (if_pos hh).symm.trans hf19
              clear hf19
              refine j_iconst (pc := 50) (v := (-1)) hc dX0_ask_50 rfl ?_
              cases hf34
              exact j_iret (pc := 51) hc hq hre rfl dX0_ask_51
def f_X0_unused_n75 (k_68 : Option Nat → Int32 → HS → Option (Int32 × HS)) (a0 : Nat) : Nat → Option Nat → Int32 → Int32 → HS → Option (Int32 × HS)
  | 0, _, _, _, _ => none
  | n + 1, r2, x3, x4, S =>
    (r2).bind fun a1 =>
    (g_aI S 34 a1 x3).bind fun v2 =>
    if v2 = 0 then
      k_68 (some a1) (x3 + (-1)) S
    else
      (g_fR S 1 1 a0).bind fun q3 =>
      (q3).bind fun a4 =>
      (g_aR S 36 a4 x3).bind fun q5 =>
      (q5).bind fun a6 =>
      (g_fI S 4 104 a6).bind fun v7 =>
      if v7 ≤ x4 then
        k_68 (some a1) (x3 + (-1)) S
      else
        (g_fR S 1 1 a0).bind fun q8 =>
        (q8).bind fun a9 =>
        (g_aR S 36 a9 x3).bind fun q10 =>
        (q10).bind fun a11 =>
        (g_fR S 4 103 a11).bind fun q12 =>
        (q12).bind fun a13 =>
        (g_aI S 31 a13 x4).bind fun v14 =>
        (p_aI S 34 a1 v14 (vp_nar .boolean (1))).bind fun T15 =>
        (fun r2 x3 x4 S => f_X0_unused_n75 k_68 a0 n r2 x3 x4 S) (some a1) x3 (x4 + (1)) T15
def f_X0_unused_n129 (a0 : Nat) : Nat → Option Nat → Int32 → HS → Option (Int32 × HS)
  | 0, _, _, _ => none
  | n + 1, r2, x3, S =>
    (g_fI S 1 2 a0).bind fun v1 =>
    if v1 ≤ x3 then
      (g_fI S 1 5 a0).bind fun v2 =>
      some (v2, S)
    else
      (g_fR S 1 1 a0).bind fun q3 =>
      (q3).bind fun a4 =>
      (g_aR S 36 a4 x3).bind fun q5 =>
      o_case q5 (
        (fun r2 x3 S => f_X0_unused_n129 a0 n r2 x3 S) r2 (x3 + (1)) S
      ) (fun a6 =>
        (r2).bind fun a7 =>
        (g_aI S 34 a7 x3).bind fun v8 =>
        if v8 = 0 then
          (g_fR S 1 10 a0).bind fun q9 =>
          (g_fI S 1 5 a0).bind fun v10 =>
          (q9).bind fun a11 =>
          (p_aI S 31 a11 v10 x3).bind fun T12 =>
          (g_fI T12 1 5 a0).bind fun v13 =>
          (p_fI T12 1 5 a0 (v13 + (1))).bind fun T14 =>
          (fun r2 x3 S => f_X0_unused_n129 a0 n r2 x3 S) (some a7) (x3 + (1)) T14
        else
          (fun r2 x3 S => f_X0_unused_n129 a0 n r2 x3 S) (some a7) (x3 + (1)) S
      )
def f_X0_unused_n68 (a0 : Nat) : Nat → Option Nat → Int32 → HS → Option (Int32 × HS)
  | 0, _, _, _ => none
  | n + 1, r2, x3, S =>
    if x3 < 0 then
      (p_fI S 1 5 a0 (0)).bind fun T1 =>
      f_X0_unused_n129 a0 fu_ r2 (0) T1
    else
      f_X0_unused_n75 (fun r2 x3 S => f_X0_unused_n68 a0 n r2 x3 S) a0 fu_ r2 x3 (0) S
def f_X0_unused_n12 (a0 : Nat) : Nat → Int32 → Option Nat → Int32 → HS → Option (Int32 × HS)
  | 0, _, _, _, _ => none
  | n + 1, x1, r2, x3, S =>
    (g_fI S 1 4 a0).bind fun v1 =>
    if v1 ≤ x3 then
      (g_fI S 1 2 a0).bind fun v2 =>
      f_X0_unused_n68 a0 fu_ r2 (v2 - (1)) S
    else
      (g_fR S 1 11 a0).bind fun q3 =>
      (q3).bind fun a4 =>
      (g_aR S 37 a4 x3).bind fun q5 =>
      (q5).bind fun a6 =>
      (g_aI S 31 a6 (1)).bind fun v7 =>
      if v7 = (-1) then
        (fun x1 r2 x3 S => f_X0_unused_n12 a0 n x1 r2 x3 S) x1 r2 (x3 + (1)) S
      else
        (g_fR S 1 11 a0).bind fun q8 =>
        (q8).bind fun a9 =>
        (g_aR S 37 a9 x3).bind fun q10 =>
        (q10).bind fun a11 =>
        (g_aI S 31 a11 (3)).bind fun v12 =>
        if v12 < x1 then
          (fun x1 r2 x3 S => f_X0_unused_n12 a0 n x1 r2 x3 S) x1 r2 (x3 + (1)) S
        else
          (g_fR S 1 11 a0).bind fun q13 =>
          (q13).bind fun a14 =>
          (g_aR S 37 a14 x3).bind fun q15 =>
          (q15).bind fun a16 =>
          (g_aI S 31 a16 (1)).bind fun v17 =>
          (r2).bind fun a18 =>
          (p_aI S 34 a18 v17 (vp_nar .boolean (1))).bind fun T19 =>
          (fun x1 r2 x3 S => f_X0_unused_n12 a0 n x1 r2 x3 S) x1 (some a18) (x3 + (1)) T19
def f_X0_unused (a0 : Nat) (x1 : Int32) (S : HS) : Option (Int32 × HS) :=
  (g_fR S 1 14 a0).bind fun q1 =>
  (g_cls S 1 a0).bind fun u2 =>
  (f_X0_clear a0 q1 S).bind fun T3 =>
  f_X0_unused_n12 a0 fu_ x1 q1 (0) T3
set_option maxRecDepth 100000 in
set_option maxHeartbeats 2000000 in
theorem w_X0_unused_n75 {f : CfT} {mo : MO} {a0 : Nat} {r : Int32} {S1 : HS} (hc : cf_cc f = cX0_unused) (ho : cf_ow f = "TableCatalog") (hnL : cf_nL f = 5) (hrm : cf_rm f = (2, 82)) (hre : cf_re f = (some (.int))) (hct : cf_ct f = false) (hq : Qok f (some (vi r)) S1 mo) {k_68 : Option Nat → Int32 → HS → Option (Int32 × HS)} (hk_68 : ∀ (r2 : Option Nat) (x3 : Int32) (S : HS), k_68 r2 x3 S = some (r, S1) → JJ f S mo 68 [(0, vr (some a0)), (2, vr r2), (3, vi x3)] []) : ∀ (n : Nat) (r2 : Option Nat) (x3 : Int32) (x4 : Int32) (S : HS), f_X0_unused_n75 k_68 a0 n r2 x3 x4 S = some (r, S1) → JJ f S mo 75 [(0, vr (some a0)), (2, vr r2), (3, vi x3), (4, vi x4)] [] := by
  intro n
  induction n with
  | zero =>
    intro r2 x3 x4 S hf
    have hf : (none : Option (Int32 × HS)) = some (r, S1) := hf
    cases hf
  | succ n ih =>
    intro r2 x3 x4 S hf
    unfold f_X0_unused_n75 at hf
    have hk_75 := ih
    refine j_aload_n (pc := 75) hc dX0_unused_75 1 rfl rfl ?_
    refine j_iload_n (pc := 76) hc dX0_unused_76 2 rfl rfl ?_
    obtain ⟨a1, ea1, hf1⟩ := ob_i hf
    clear hf
    subst ea1
    obtain ⟨v2, ev2, hf2⟩ := ob_i hf1
    clear hf1
    refine j_zald (pc := 77) hc dX0_unused_77 ev2 ?_
    refine j_if_eq (pc := 78) hc dX0_unused_78 (tgt := 116) rfl (fun hh => ?_) (fun hh => ?_)
    · have hf3 := (if_pos hh).symm.trans hf2
      clear hf2
      refine j_iinc (pc := 116) (L' := [(3, vi (x3 + (-1))), (0, vr (some a0)), (2, vr (some a1)), (4, vi x4)]) (v := (x3 + (-1))) hc dX0_unused_116 2 rfl rfl hnL (by decide) rfl ?_
      refine j_goto (pc := 119) hc dX0_unused_119 (tgt := 68) rfl ?_
      refine j_loc (L' := [(0, vr (some a0)), (2, vr (some a1)), (3, vi (x3 + (-1)))]) [1, 2, 0] rfl ?_
      exact hk_68 _ _ _ hf3
    · have hf4 := (if_neg hh).symm.trans hf2
      clear hf2
      refine j_iload (pc := 81) hc dX0_unused_81 3 rfl ?_
      refine j_aload_n (pc := 83) hc dX0_unused_83 0 rfl rfl ?_
      obtain ⟨q3, eq3, hf5⟩ := ob_i hf4
      clear hf4
      refine j_getR (pc := 84) hc ho fa_X0_35_1 dX0_unused_84 eq3 ?_
      refine j_iload_n (pc := 87) hc dX0_unused_87 2 rfl rfl ?_
      obtain ⟨a4, ea4, hf6⟩ := ob_i hf5
      clear hf5
      subst ea4
      obtain ⟨q5, eq5, hf7⟩ := ob_i hf6
      clear hf6
      refine j_aald (pc := 88) hc dX0_unused_88 (by decide) eq5 ?_
      obtain ⟨a6, ea6, hf8⟩ := ob_i hf7
      clear hf7
      subst ea6
      obtain ⟨v7, ev7, hf9⟩ := ob_i hf8
      clear hf8
      refine j_getI (pc := 89) hc ho fa_X0_131_4 dX0_unused_89 ev7 ?_
      refine j_icmp_ge (pc := 92) hc dX0_unused_92 (tgt := 116) rfl (fun hh => ?_) (fun hh => ?_)
      · have hf10 := (if_pos hh).symm.trans hf9
        clear hf9
        refine j_iinc (pc := 116) (L' := [(3, vi (x3 + (-1))), (0, vr (some a0)), (2, vr (some a1)), (4, vi x4)]) (v := (x3 + (-1))) hc dX0_unused_116 2 rfl rfl hnL (by decide) rfl ?_
        refine j_goto (pc := 119) hc dX0_unused_119 (tgt := 68) rfl ?_
        refine j_loc (L' := [(0, vr (some a0)), (2, vr (some a1)), (3, vi (x3 + (-1)))]) [1, 2, 0] rfl ?_
        exact hk_68 _ _ _ hf10
      · have hf11 := (if_neg hh).symm.trans hf9
        clear hf9
        refine j_aload_n (pc := 95) hc dX0_unused_95 1 rfl rfl ?_
        refine j_aload_n (pc := 96) hc dX0_unused_96 0 rfl rfl ?_
        obtain ⟨q8, eq8, hf12⟩ := ob_i hf11
        clear hf11
        refine j_getR (pc := 97) hc ho fa_X0_35_1 dX0_unused_97 eq8 ?_
        refine j_iload_n (pc := 100) hc dX0_unused_100 2 rfl rfl ?_
        obtain ⟨a9, ea9, hf13⟩ := ob_i hf12
        clear hf12
        subst ea9
        obtain ⟨q10, eq10, hf14⟩ := ob_i hf13
        clear hf13
        refine j_aald (pc := 101) hc dX0_unused_101 (by decide) eq10 ?_
        obtain ⟨a11, ea11, hf15⟩ := ob_i hf14
        clear hf14
        subst ea11
        obtain ⟨q12, eq12, hf16⟩ := ob_i hf15
        clear hf15
        refine j_getR (pc := 102) hc ho fa_X0_126_4 dX0_unused_102 eq12 ?_
        refine j_iload (pc := 105) hc dX0_unused_105 3 rfl ?_
        obtain ⟨a13, ea13, hf17⟩ := ob_i hf16
        clear hf16
        subst ea13
        obtain ⟨v14, ev14, hf18⟩ := ob_i hf17
        clear hf17
        refine j_iald (pc := 107) hc dX0_unused_107 ev14 ?_
        refine j_iconst (pc := 108) (v := (1)) hc dX0_unused_108 rfl ?_
        obtain ⟨T15, eT15, hf19⟩ := ob_i hf18
        clear hf18
        refine j_zast (pc := 109) hc dX0_unused_109 eT15 ?_
        refine j_iinc (pc := 110) (L' := [(4, vi (x4 + (1))), (0, vr (some a0)), (2, vr (some a1)), (3, vi x3)]) (v := (x4 + (1))) hc dX0_unused_110 3 rfl rfl hnL (by decide) rfl ?_
        refine j_goto (pc := 113) hc dX0_unused_113 (tgt := 75) rfl ?_
        refine j_loc (L' := [(0, vr (some a0)), (2, vr (some a1)), (3, vi x3), (4, vi (x4 + (1)))]) [1, 2, 3, 0] rfl ?_
        exact hk_75 _ _ _ _ hf19
set_option maxRecDepth 100000 in
set_option maxHeartbeats 2000000 in
theorem w_X0_unused_n129 {f : CfT} {mo : MO} {a0 : Nat} {r : Int32} {S1 : HS} (hc : cf_cc f = cX0_unused) (ho : cf_ow f = "TableCatalog") (hnL : cf_nL f = 5) (hrm : cf_rm f = (2, 82)) (hre : cf_re f = (some (.int))) (hct : cf_ct f = false) (hq : Qok f (some (vi r)) S1 mo) : ∀ (n : Nat) (r2 : Option Nat) (x3 : Int32) (S : HS), f_X0_unused_n129 a0 n r2 x3 S = some (r, S1) → JJ f S mo 129 [(0, vr (some a0)), (2, vr r2), (3, vi x3)] [] := by
  intro n
  induction n with
  | zero =>
    intro r2 x3 S hf
    have hf : (none : Option (Int32 × HS)) = some (r, S1) := hf
    cases hf
  | succ n ih =>
    intro r2 x3 S hf
    unfold f_X0_unused_n129 at hf
    have hk_129 := ih
    refine j_iload_n (pc := 129) hc dX0_unused_129 2 rfl rfl ?_
    refine j_aload_n (pc := 130) hc dX0_unused_130 0 rfl rfl ?_
    obtain ⟨v1, ev1, hf1⟩ := ob_i hf
    clear hf
    refine j_getI (pc := 131) hc ho fa_X0_83_1 dX0_unused_131 ev1 ?_
    refine j_icmp_ge (pc := 134) hc dX0_unused_134 (tgt := 181) rfl (fun hh => ?_) (fun hh => ?_)
    · have hf2 := (if_pos hh).symm.trans hf1
      clear hf1
      refine j_aload_n (pc := 181) hc dX0_unused_181 0 rfl rfl ?_
      obtain ⟨v2, ev2, hf3⟩ := ob_i hf2
      clear hf2
      refine j_getI (pc := 182) hc ho fa_X0_254_1 dX0_unused_182 ev2 ?_
      cases hf3
      exact j_iret (pc := 185) hc hq hre rfl dX0_unused_185
    · have hf4 := (if_neg hh).symm.trans hf1
      clear hf1
      refine j_aload_n (pc := 137) hc dX0_unused_137 0 rfl rfl ?_
      obtain ⟨q3, eq3, hf5⟩ := ob_i hf4
      clear hf4
      refine j_getR (pc := 138) hc ho fa_X0_35_1 dX0_unused_138 eq3 ?_
      refine j_iload_n (pc := 141) hc dX0_unused_141 2 rfl rfl ?_
      obtain ⟨a4, ea4, hf6⟩ := ob_i hf5
      clear hf5
      subst ea4
      obtain ⟨q5, eq5, hf7⟩ := ob_i hf6
      clear hf6
      refine j_aald (pc := 142) hc dX0_unused_142 (by decide) eq5 ?_
      refine j_ifnull (pc := 143) hc dX0_unused_143 (tgt := 175) rfl (fun hh => ?_) (fun a6 hh => ?_)
      · subst hh
        refine j_iinc (pc := 175) (L' := [(3, vi (x3 + (1))), (0, vr (some a0)), (2, vr r2)]) (v := (x3 + (1))) hc dX0_unused_175 2 rfl rfl hnL (by decide) rfl ?_
        refine j_goto (pc := 178) hc dX0_unused_178 (tgt := 129) rfl ?_
        refine j_loc (L' := [(0, vr (some a0)), (2, vr r2), (3, vi (x3 + (1)))]) [1, 2, 0] rfl ?_
        exact hk_129 _ _ _ hf7
      · subst hh
        refine j_aload_n (pc := 146) hc dX0_unused_146 1 rfl rfl ?_
        refine j_iload_n (pc := 147) hc dX0_unused_147 2 rfl rfl ?_
        obtain ⟨a7, ea7, hf8⟩ := ob_i hf7
        clear hf7
        subst ea7
        obtain ⟨v8, ev8, hf9⟩ := ob_i hf8
        clear hf8
        refine j_zald (pc := 148) hc dX0_unused_148 ev8 ?_
        refine j_if_eq (pc := 149) hc dX0_unused_149 (tgt := 155) rfl (fun hh => ?_) (fun hh => ?_)
        · have hf10 := (if_pos hh).symm.trans hf9
          clear hf9
          refine j_aload_n (pc := 155) hc dX0_unused_155 0 rfl rfl ?_
          obtain ⟨q9, eq9, hf11⟩ := ob_i hf10
          clear hf10
          refine j_getR (pc := 156) hc ho fa_X0_47_1 dX0_unused_156 eq9 ?_
          refine j_aload_n (pc := 159) hc dX0_unused_159 0 rfl rfl ?_
          obtain ⟨v10, ev10, hf12⟩ := ob_i hf11
          clear hf11
          refine j_getI (pc := 160) hc ho fa_X0_254_1 dX0_unused_160 ev10 ?_
          refine j_iload_n (pc := 163) hc dX0_unused_163 2 rfl rfl ?_
          obtain ⟨a11, ea11, hf13⟩ := ob_i hf12
          clear hf12
          subst ea11
          obtain ⟨T12, eT12, hf14⟩ := ob_i hf13
          clear hf13
          refine j_iast (pc := 164) hc dX0_unused_164 eT12 ?_
          refine j_aload_n (pc := 165) hc dX0_unused_165 0 rfl rfl ?_
          refine j_dup (pc := 166) hc dX0_unused_166 rfl ?_
          obtain ⟨v13, ev13, hf15⟩ := ob_i hf14
          clear hf14
          refine j_getI (pc := 167) hc ho fa_X0_254_1 dX0_unused_167 ev13 ?_
          refine j_iconst (pc := 170) (v := (1)) hc dX0_unused_170 rfl ?_
          refine j_iadd (pc := 171) hc dX0_unused_171 ?_
          obtain ⟨T14, eT14, hf16⟩ := ob_i hf15
          clear hf15
          refine j_putI (pc := 172) hc ho fa_X0_254_1 (Or.inl rfl) dX0_unused_172 eT14 ?_
          refine j_iinc (pc := 175) (L' := [(3, vi (x3 + (1))), (0, vr (some a0)), (2, vr (some a7))]) (v := (x3 + (1))) hc dX0_unused_175 2 rfl rfl hnL (by decide) rfl ?_
          refine j_goto (pc := 178) hc dX0_unused_178 (tgt := 129) rfl ?_
          refine j_loc (L' := [(0, vr (some a0)), (2, vr (some a7)), (3, vi (x3 + (1)))]) [1, 2, 0] rfl ?_
          exact hk_129 _ _ _ hf16
        · have hf17 := (if_neg hh).symm.trans hf9
          clear hf9
          refine j_goto (pc := 152) hc dX0_unused_152 (tgt := 175) rfl ?_
          refine j_iinc (pc := 175) (L' := [(3, vi (x3 + (1))), (0, vr (some a0)), (2, vr (some a7))]) (v := (x3 + (1))) hc dX0_unused_175 2 rfl rfl hnL (by decide) rfl ?_
          refine j_goto (pc := 178) hc dX0_unused_178 (tgt := 129) rfl ?_
          refine j_loc (L' := [(0, vr (some a0)), (2, vr (some a7)), (3, vi (x3 + (1)))]) [1, 2, 0] rfl ?_
          exact hk_129 _ _ _ hf17
set_option maxRecDepth 100000 in
set_option maxHeartbeats 2000000 in
theorem w_X0_unused_n68 {f : CfT} {mo : MO} {a0 : Nat} {r : Int32} {S1 : HS} (hc : cf_cc f = cX0_unused) (ho : cf_ow f = "TableCatalog") (hnL : cf_nL f = 5) (hrm : cf_rm f = (2, 82)) (hre : cf_re f = (some (.int))) (hct : cf_ct f = false) (hq : Qok f (some (vi r)) S1 mo) : ∀ (n : Nat) (r2 : Option Nat) (x3 : Int32) (S : HS), f_X0_unused_n68 a0 n r2 x3 S = some (r, S1) → JJ f S mo 68 [(0, vr (some a0)), (2, vr r2), (3, vi x3)] [] := by
  intro n
  induction n with
  | zero =>
    intro r2 x3 S hf
    have hf : (none : Option (Int32 × HS)) = some (r, S1) := hf
    cases hf
  | succ n ih =>
    intro r2 x3 S hf
    unfold f_X0_unused_n68 at hf
    have hk_68 := ih
    refine j_iload_n (pc := 68) hc dX0_unused_68 2 rfl rfl ?_
    refine j_if_lt (pc := 69) hc dX0_unused_69 (tgt := 122) rfl (fun hh => ?_) (fun hh => ?_)
    · have hf1 := (if_pos hh).symm.trans hf
      clear hf
      refine j_aload_n (pc := 122) hc dX0_unused_122 0 rfl rfl ?_
      refine j_iconst (pc := 123) (v := (0)) hc dX0_unused_123 rfl ?_
      obtain ⟨T1, eT1, hf2⟩ := ob_i hf1
      clear hf1
      refine j_putI (pc := 124) hc ho fa_X0_254_1 (Or.inl rfl) dX0_unused_124 eT1 ?_
      refine j_iconst (pc := 127) (v := (0)) hc dX0_unused_127 rfl ?_
      refine j_istore_n (pc := 128) (L' := [(3, vi (0)), (0, vr (some a0)), (2, vr r2)]) hc dX0_unused_128 rfl hnL (by decide) rfl ?_
      refine j_loc (L' := [(0, vr (some a0)), (2, vr r2), (3, vi (0))]) [1, 2, 0] rfl ?_
      exact w_X0_unused_n129 hc ho hnL hrm hre hct hq fu_ _ _ _ hf2
    · have hf3 := (if_neg hh).symm.trans hf
      clear hf
      refine j_iconst (pc := 72) (v := (0)) hc dX0_unused_72 rfl ?_
      refine j_istore (pc := 73) (L' := [(4, vi (0)), (0, vr (some a0)), (2, vr r2), (3, vi x3)]) hc dX0_unused_73 hnL (by decide) rfl ?_
      refine j_loc (L' := [(0, vr (some a0)), (2, vr r2), (3, vi x3), (4, vi (0))]) [1, 2, 3, 0] rfl ?_
      exact w_X0_unused_n75 hc ho hnL hrm hre hct hq hk_68 fu_ _ _ _ _ hf3
set_option maxRecDepth 100000 in
set_option maxHeartbeats 2000000 in
theorem w_X0_unused_n12 {f : CfT} {mo : MO} {a0 : Nat} {r : Int32} {S1 : HS} (hc : cf_cc f = cX0_unused) (ho : cf_ow f = "TableCatalog") (hnL : cf_nL f = 5) (hrm : cf_rm f = (2, 82)) (hre : cf_re f = (some (.int))) (hct : cf_ct f = false) (hq : Qok f (some (vi r)) S1 mo) : ∀ (n : Nat) (x1 : Int32) (r2 : Option Nat) (x3 : Int32) (S : HS), f_X0_unused_n12 a0 n x1 r2 x3 S = some (r, S1) → JJ f S mo 12 [(0, vr (some a0)), (1, vi x1), (2, vr r2), (3, vi x3)] [] := by
  intro n
  induction n with
  | zero =>
    intro x1 r2 x3 S hf
    have hf : (none : Option (Int32 × HS)) = some (r, S1) := hf
    cases hf
  | succ n ih =>
    intro x1 r2 x3 S hf
    unfold f_X0_unused_n12 at hf
    have hk_12 := ih
    refine j_iload_n (pc := 12) hc dX0_unused_12 3 rfl rfl ?_
    refine j_aload_n (pc := 13) hc dX0_unused_13 0 rfl rfl ?_
    obtain ⟨v1, ev1, hf1⟩ := ob_i hf
    clear hf
    refine j_getI (pc := 14) hc ho fa_X0_282_1 dX0_unused_14 ev1 ?_
    refine j_icmp_ge (pc := 17) hc dX0_unused_17 (tgt := 61) rfl (fun hh => ?_) (fun hh => ?_)
    · have hf2 := (if_pos hh).symm.trans hf1
      clear hf1
      refine j_aload_n (pc := 61) hc dX0_unused_61 0 rfl rfl ?_
      obtain ⟨v2, ev2, hf3⟩ := ob_i hf2
      clear hf2
      refine j_getI (pc := 62) hc ho fa_X0_83_1 dX0_unused_62 ev2 ?_
      refine j_iconst (pc := 65) (v := (1)) hc dX0_unused_65 rfl ?_
      refine j_isub (pc := 66) hc dX0_unused_66 ?_
      refine j_istore_n (pc := 67) (L' := [(3, vi (v2 - (1))), (0, vr (some a0)), (1, vi x1), (2, vr r2)]) hc dX0_unused_67 rfl hnL (by decide) rfl ?_
      refine j_loc (L' := [(0, vr (some a0)), (2, vr r2), (3, vi (v2 - (1)))]) [1, 3, 0] rfl ?_
      exact w_X0_unused_n68 hc ho hnL hrm hre hct hq fu_ _ _ _ hf3
    · have hf4 := (if_neg hh).symm.trans hf1
      clear hf1
      refine j_aload_n (pc := 20) hc dX0_unused_20 0 rfl rfl ?_
      obtain ⟨q3, eq3, hf5⟩ := ob_i hf4
      clear hf4
      refine j_getR (pc := 21) hc ho fa_X0_53_1 dX0_unused_21 eq3 ?_
      refine j_iload_n (pc := 24) hc dX0_unused_24 3 rfl rfl ?_
      obtain ⟨a4, ea4, hf6⟩ := ob_i hf5
      clear hf5
      subst ea4
      obtain ⟨q5, eq5, hf7⟩ := ob_i hf6
      clear hf6
      refine j_aald (pc := 25) hc dX0_unused_25 (by decide) eq5 ?_
      refine j_iconst (pc := 26) (v := (1)) hc dX0_unused_26 rfl ?_
      obtain ⟨a6, ea6, hf8⟩ := ob_i hf7
      clear hf7
      subst ea6
      obtain ⟨v7, ev7, hf9⟩ := ob_i hf8
      clear hf8
      refine j_iald (pc := 27) hc dX0_unused_27 ev7 ?_
      refine j_iconst (pc := 28) (v := (-1)) hc dX0_unused_28 rfl ?_
      refine j_icmp_eq (pc := 29) hc dX0_unused_29 (tgt := 55) rfl (fun hh => ?_) (fun hh => ?_)
      · have hf10 := (if_pos hh).symm.trans hf9
        clear hf9
        refine j_iinc (pc := 55) (L' := [(3, vi (x3 + (1))), (0, vr (some a0)), (1, vi x1), (2, vr r2)]) (v := (x3 + (1))) hc dX0_unused_55 3 rfl rfl hnL (by decide) rfl ?_
        refine j_goto (pc := 58) hc dX0_unused_58 (tgt := 12) rfl ?_
        refine j_loc (L' := [(0, vr (some a0)), (1, vi x1), (2, vr r2), (3, vi (x3 + (1)))]) [1, 2, 3, 0] rfl ?_
        exact hk_12 _ _ _ _ hf10
      · have hf11 := (if_neg hh).symm.trans hf9
        clear hf9
        refine j_aload_n (pc := 32) hc dX0_unused_32 0 rfl rfl ?_
        obtain ⟨q8, eq8, hf12⟩ := ob_i hf11
        clear hf11
        refine j_getR (pc := 33) hc ho fa_X0_53_1 dX0_unused_33 eq8 ?_
        refine j_iload_n (pc := 36) hc dX0_unused_36 3 rfl rfl ?_
        obtain ⟨a9, ea9, hf13⟩ := ob_i hf12
        clear hf12
        subst ea9
        obtain ⟨q10, eq10, hf14⟩ := ob_i hf13
        clear hf13
        refine j_aald (pc := 37) hc dX0_unused_37 (by decide) eq10 ?_
        refine j_iconst (pc := 38) (v := (3)) hc dX0_unused_38 rfl ?_
        obtain ⟨a11, ea11, hf15⟩ := ob_i hf14
        clear hf14
        subst ea11
        obtain ⟨v12, ev12, hf16⟩ := ob_i hf15
        clear hf15
        refine j_iald (pc := 39) hc dX0_unused_39 ev12 ?_
        refine j_iload_n (pc := 40) hc dX0_unused_40 1 rfl rfl ?_
        refine j_icmp_lt (pc := 41) hc dX0_unused_41 (tgt := 55) rfl (fun hh => ?_) (fun hh => ?_)
        · have hf17 := (if_pos hh).symm.trans hf16
          clear hf16
          refine j_iinc (pc := 55) (L' := [(3, vi (x3 + (1))), (0, vr (some a0)), (1, vi x1), (2, vr r2)]) (v := (x3 + (1))) hc dX0_unused_55 3 rfl rfl hnL (by decide) rfl ?_
          refine j_goto (pc := 58) hc dX0_unused_58 (tgt := 12) rfl ?_
          refine j_loc (L' := [(0, vr (some a0)), (1, vi x1), (2, vr r2), (3, vi (x3 + (1)))]) [1, 2, 3, 0] rfl ?_
          exact hk_12 _ _ _ _ hf17
        · have hf18 := (if_neg hh).symm.trans hf16
          clear hf16
          refine j_aload_n (pc := 44) hc dX0_unused_44 2 rfl rfl ?_
          refine j_aload_n (pc := 45) hc dX0_unused_45 0 rfl rfl ?_
          obtain ⟨q13, eq13, hf19⟩ := ob_i hf18
          clear hf18
          refine j_getR (pc := 46) hc ho fa_X0_53_1 dX0_unused_46 eq13 ?_
          refine j_iload_n (pc := 49) hc dX0_unused_49 3 rfl rfl ?_
          obtain ⟨a14, ea14, hf20⟩ := ob_i hf19
          clear hf19
          subst ea14
          obtain ⟨q15, eq15, hf21⟩ := ob_i hf20
          clear hf20
          refine j_aald (pc := 50) hc dX0_unused_50 (by decide) eq15 ?_
          refine j_iconst (pc := 51) (v := (1)) hc dX0_unused_51 rfl ?_
          obtain ⟨a16, ea16, hf22⟩ := ob_i hf21
          clear hf21
          subst ea16
          obtain ⟨v17, ev17, hf23⟩ := ob_i hf22
          clear hf22
          refine j_iald (pc := 52) hc dX0_unused_52 ev17 ?_
          refine j_iconst (pc := 53) (v := (1)) hc dX0_unused_53 rfl ?_
          obtain ⟨a18, ea18, hf24⟩ := ob_i hf23
          clear hf23
          subst ea18
          obtain ⟨T19, eT19, hf25⟩ := ob_i hf24
          clear hf24
          refine j_zast (pc := 54) hc dX0_unused_54 eT19 ?_
          refine j_iinc (pc := 55) (L' := [(3, vi (x3 + (1))), (0, vr (some a0)), (1, vi x1), (2, vr (some a18))]) (v := (x3 + (1))) hc dX0_unused_55 3 rfl rfl hnL (by decide) rfl ?_
          refine j_goto (pc := 58) hc dX0_unused_58 (tgt := 12) rfl ?_
          refine j_loc (L' := [(0, vr (some a0)), (1, vi x1), (2, vr (some a18)), (3, vi (x3 + (1)))]) [1, 2, 3, 0] rfl ?_
          exact hk_12 _ _ _ _ hf25
set_option maxRecDepth 100000 in
set_option maxHeartbeats 2000000 in
theorem c_X0_unused {l : Launch} {g : PG} {mo : MO} {a0 : Nat} {x1 : Int32} {r : Int32} {S S1 : HS} (hf : f_X0_unused a0 x1 S = some (r, S1)) : (h_nx S ≤ h_nx S1 ∧ h_sl S ≤ h_sl S1) ∧ Ct l g yX0_unused (ws_ yX0_unused cX0_unused 5 (some (.int))) 2 82 S mo [vr (some a0), vi x1] (some (vi r)) S1 mo := by
  refine met_of false (by decide) (fun h => by first | rfl | cases h) rfl (Nat.le_of_ble_eq_true rfl) (fun f hl hg hc ho hnL hrm hre hct hex hq => ?_)
  subst hl
  subst hg
  unfold f_X0_unused at hf
  refine j_aload_n (pc := 0) hc dX0_unused_0 0 rfl rfl ?_
  obtain ⟨q1, eq1, hf1⟩ := ob_i hf
  clear hf
  refine j_getR (pc := 1) hc ho fa_X0_69_1 dX0_unused_1 eq1 ?_
  refine j_astore_n (pc := 4) (L' := [(2, vr q1), (0, vr (some a0)), (1, vi x1)]) hc dX0_unused_4 rfl hnL (by decide) rfl ?_
  refine j_aload_n (pc := 5) hc dX0_unused_5 1 rfl rfl ?_
  refine j_aload_n (pc := 6) hc dX0_unused_6 0 rfl rfl ?_
  obtain ⟨u2, eu2, hf2⟩ := ob_i hf1
  clear hf1
  obtain ⟨T3, eT3, hf3⟩ := ob_i hf2
  clear hf2
  refine j_callV (pc := 7) (As := [vr q1]) (rest := []) (st2 := []) hc ho cw_X0_261 (c_X0_clear eT3) (Rc.of (g_cls_ok eu2) (by decide) (by decide) ci_X0) hrm ⟨by decide, by decide⟩ rfl (Nat.le_of_ble_eq_true rfl) dX0_unused_7 rfl rfl ?_
  refine j_iconst (pc := 10) (v := (0)) hc dX0_unused_10 rfl ?_
  refine j_istore_n (pc := 11) (L' := [(3, vi (0)), (2, vr q1), (0, vr (some a0)), (1, vi x1)]) hc dX0_unused_11 rfl hnL (by decide) rfl ?_
  refine j_loc (L' := [(0, vr (some a0)), (1, vi x1), (2, vr q1), (3, vi (0))]) [2, 3, 1, 0] rfl ?_
  exact w_X0_unused_n12 hc ho hnL hrm hre hct hq fu_ _ _ _ _ hf3
theorem fa_X0_318_4 : FA "TableCatalog" 318 4 2 108 (.object "java/lang/String") 1 := ⟨RX4, TX4, 15, tyX4, 10, "TableCatalog$Table", CI_X4, by decide, rfl, rfl, by decide +kernel, Or.inr ⟨by decide, "TableCatalog", q577⟩, fun _ => rfl, Or.inl rfl⟩
def f_X0_alike (a0 : Nat) (x1 : Int32) (x2 : Int32) (S : HS) : Option (Int32 × HS) :=
  (g_cls S 1 a0).bind fun u1 =>
  o_bd (f_X0_table_2 a0 x1 S) fun q3 T2 =>
  o_case q3 (
    some ((-1), T2)
  ) (fun a4 =>
    (g_cls T2 1 a0).bind fun u5 =>
    o_bd (f_X0_table_2 a0 x2 T2) fun q7 T6 =>
    o_case q7 (
      some ((-1), T6)
    ) (fun a8 =>
      if x1 = x2 then
        some ((-1), T6)
      else
        (g_fR T6 1 1 a0).bind fun q9 =>
        (q9).bind fun a10 =>
        (g_aR T6 36 a10 x1).bind fun q11 =>
        (q11).bind fun a12 =>
        (g_cls T6 4 a12).bind fun u13 =>
        o_bd (f_X4_isMade a12 T6) fun v15 T14 =>
        if v15 = 0 then
          some ((-1), T14)
        else
          (g_fR T14 1 1 a0).bind fun q16 =>
          (q16).bind fun a17 =>
          (g_aR T14 36 a17 x2).bind fun q18 =>
          (q18).bind fun a19 =>
          (g_cls T14 4 a19).bind fun u20 =>
          o_bd (f_X4_isMade a19 T14) fun v22 T21 =>
          if v22 = 0 then
            some ((-1), T21)
          else
            (g_fR T21 1 1 a0).bind fun q23 =>
            (q23).bind fun a24 =>
            (g_aR T21 36 a24 x1).bind fun q25 =>
            (q25).bind fun a26 =>
            (g_fR T21 4 108 a26).bind fun q27 =>
            (g_fR T21 1 1 a0).bind fun q28 =>
            (q28).bind fun a29 =>
            (g_aR T21 36 a29 x2).bind fun q30 =>
            (q30).bind fun a31 =>
            (g_fR T21 4 108 a31).bind fun q32 =>
            (q27).bind fun a33 =>
            (g_cls T21 13 a33).bind fun u34 =>
            o_bd (f_J6_equals a33 q32 T21) fun v36 T35 =>
            if v36 = 0 then
              some ((0), T35)
            else
              some ((1), T35)
    )
  )
set_option maxRecDepth 100000 in
set_option maxHeartbeats 2000000 in
theorem c_X0_alike {l : Launch} {g : PG} {mo : MO} {a0 : Nat} {x1 : Int32} {x2 : Int32} {r : Int32} {S S1 : HS} (hf : f_X0_alike a0 x1 x2 S = some (r, S1)) : (h_nx S ≤ h_nx S1 ∧ h_sl S ≤ h_sl S1) ∧ Ct l g yX0_alike (ws_ yX0_alike cX0_alike 3 (some (.int))) 3 104 S mo [vr (some a0), vi x1, vi x2] (some (vi r)) S1 mo := by
  refine met_of false (by decide) (fun h => by first | rfl | cases h) rfl (Nat.le_of_ble_eq_true rfl) (fun f hl hg hc ho hnL hrm hre hct hex hq => ?_)
  subst hl
  subst hg
  unfold f_X0_alike at hf
  refine j_aload_n (pc := 0) hc dX0_alike_0 0 rfl rfl ?_
  refine j_iload_n (pc := 1) hc dX0_alike_1 1 rfl rfl ?_
  obtain ⟨u1, eu1, hf1⟩ := ob_i hf
  clear hf
  obtain ⟨q3, T2, eq3, hf2⟩ := ob_c hf1
  clear hf1
  refine j_callV (pc := 2) (As := [vi x1]) (rest := []) (st2 := [vr q3]) hc ho cw_X0_234 (c_X0_table_2 eq3) (Rc.of (g_cls_ok eu1) (by decide) (by decide) ci_X0) hrm ⟨by decide, by decide⟩ rfl (Nat.le_of_ble_eq_true rfl) dX0_alike_2 rfl rfl ?_
  refine j_ifnull (pc := 5) hc dX0_alike_5 (tgt := 45) rfl (fun hh => ?_) (fun a4 hh => ?_)
  · subst hh
    refine j_iconst (pc := 45) (v := (-1)) hc dX0_alike_45 rfl ?_
    cases hf2
    exact j_iret (pc := 46) hc hq hre rfl dX0_alike_46
  · subst hh
    refine j_aload_n (pc := 8) hc dX0_alike_8 0 rfl rfl ?_
    refine j_iload_n (pc := 9) hc dX0_alike_9 2 rfl rfl ?_
    obtain ⟨u5, eu5, hf3⟩ := ob_i hf2
    clear hf2
    obtain ⟨q7, T6, eq7, hf4⟩ := ob_c hf3
    clear hf3
    refine j_callV (pc := 10) (As := [vi x2]) (rest := []) (st2 := [vr q7]) hc ho cw_X0_234 (c_X0_table_2 eq7) (Rc.of (g_cls_ok eu5) (by decide) (by decide) ci_X0) hrm ⟨by decide, by decide⟩ rfl (Nat.le_of_ble_eq_true rfl) dX0_alike_10 rfl rfl ?_
    refine j_ifnull (pc := 13) hc dX0_alike_13 (tgt := 45) rfl (fun hh => ?_) (fun a8 hh => ?_)
    · subst hh
      refine j_iconst (pc := 45) (v := (-1)) hc dX0_alike_45 rfl ?_
      cases hf4
      exact j_iret (pc := 46) hc hq hre rfl dX0_alike_46
    · subst hh
      refine j_iload_n (pc := 16) hc dX0_alike_16 1 rfl rfl ?_
      refine j_iload_n (pc := 17) hc dX0_alike_17 2 rfl rfl ?_
      refine j_icmp_eq (pc := 18) hc dX0_alike_18 (tgt := 45) rfl (fun hh => ?_) (fun hh => ?_)
      · have hf5 := (if_pos hh).symm.trans hf4
        clear hf4
        refine j_iconst (pc := 45) (v := (-1)) hc dX0_alike_45 rfl ?_
        cases hf5
        exact j_iret (pc := 46) hc hq hre rfl dX0_alike_46
      · have hf6 := (if_neg hh).symm.trans hf4
        clear hf4
        refine j_aload_n (pc := 21) hc dX0_alike_21 0 rfl rfl ?_
        obtain ⟨q9, eq9, hf7⟩ := ob_i hf6
        clear hf6
        refine j_getR (pc := 22) hc ho fa_X0_35_1 dX0_alike_22 eq9 ?_
        refine j_iload_n (pc := 25) hc dX0_alike_25 1 rfl rfl ?_
        obtain ⟨a10, ea10, hf8⟩ := ob_i hf7
        clear hf7
        subst ea10
        obtain ⟨q11, eq11, hf9⟩ := ob_i hf8
        clear hf8
        refine j_aald (pc := 26) hc dX0_alike_26 (by decide) eq11 ?_
        obtain ⟨a12, ea12, hf10⟩ := ob_i hf9
        clear hf9
        subst ea12
        obtain ⟨u13, eu13, hf11⟩ := ob_i hf10
        clear hf10
        obtain ⟨v15, T14, ev15, hf12⟩ := ob_c hf11
        clear hf11
        refine j_callV (pc := 27) (As := []) (rest := []) (st2 := [vi v15]) hc ho cw_X0_142 (c_X4_isMade ev15) (Rc.of (g_cls_ok eu13) (by decide) (by decide) ci_X4) hrm ⟨by decide, by decide⟩ rfl (Nat.le_of_ble_eq_true rfl) dX0_alike_27 rfl rfl ?_
        refine j_if_eq (pc := 30) hc dX0_alike_30 (tgt := 45) rfl (fun hh => ?_) (fun hh => ?_)
        · have hf13 := (if_pos hh).symm.trans hf12
          clear hf12
          refine j_iconst (pc := 45) (v := (-1)) hc dX0_alike_45 rfl ?_
          cases hf13
          exact j_iret (pc := 46) hc hq hre rfl dX0_alike_46
        · have hf14 := (if_neg hh).symm.trans hf12
          clear hf12
          refine j_aload_n (pc := 33) hc dX0_alike_33 0 rfl rfl ?_
          obtain ⟨q16, eq16, hf15⟩ := ob_i hf14
          clear hf14
          refine j_getR (pc := 34) hc ho fa_X0_35_1 dX0_alike_34 eq16 ?_
          refine j_iload_n (pc := 37) hc dX0_alike_37 2 rfl rfl ?_
          obtain ⟨a17, ea17, hf16⟩ := ob_i hf15
          clear hf15
          subst ea17
          obtain ⟨q18, eq18, hf17⟩ := ob_i hf16
          clear hf16
          refine j_aald (pc := 38) hc dX0_alike_38 (by decide) eq18 ?_
          obtain ⟨a19, ea19, hf18⟩ := ob_i hf17
          clear hf17
          subst ea19
          obtain ⟨u20, eu20, hf19⟩ := ob_i hf18
          clear hf18
          obtain ⟨v22, T21, ev22, hf20⟩ := ob_c hf19
          clear hf19
          refine j_callV (pc := 39) (As := []) (rest := []) (st2 := [vi v22]) hc ho cw_X0_142 (c_X4_isMade ev22) (Rc.of (g_cls_ok eu20) (by decide) (by decide) ci_X4) hrm ⟨by decide, by decide⟩ rfl (Nat.le_of_ble_eq_true rfl) dX0_alike_39 rfl rfl ?_
          refine j_if_ne (pc := 42) hc dX0_alike_42 (tgt := 47) rfl (fun hh => ?_) (fun hh => ?_)
          · have hf21 := (if_neg hh).symm.trans hf20
            clear hf20
            refine j_aload_n (pc := 47) hc dX0_alike_47 0 rfl rfl ?_
            obtain ⟨q23, eq23, hf22⟩ := ob_i hf21
            clear hf21
            refine j_getR (pc := 48) hc ho fa_X0_35_1 dX0_alike_48 eq23 ?_
            refine j_iload_n (pc := 51) hc dX0_alike_51 1 rfl rfl ?_
            obtain ⟨a24, ea24, hf23⟩ := ob_i hf22
            clear hf22
            subst ea24
            obtain ⟨q25, eq25, hf24⟩ := ob_i hf23
            clear hf23
            refine j_aald (pc := 52) hc dX0_alike_52 (by decide) eq25 ?_
            obtain ⟨a26, ea26, hf25⟩ := ob_i hf24
            clear hf24
            subst ea26
            obtain ⟨q27, eq27, hf26⟩ := ob_i hf25
            clear hf25
            refine j_getR (pc := 53) hc ho fa_X0_318_4 dX0_alike_53 eq27 ?_
            refine j_aload_n (pc := 56) hc dX0_alike_56 0 rfl rfl ?_
            obtain ⟨q28, eq28, hf27⟩ := ob_i hf26
            clear hf26
            refine j_getR (pc := 57) hc ho fa_X0_35_1 dX0_alike_57 eq28 ?_
            refine j_iload_n (pc := 60) hc dX0_alike_60 2 rfl rfl ?_
            obtain ⟨a29, ea29, hf28⟩ := ob_i hf27
            clear hf27
            subst ea29
            obtain ⟨q30, eq30, hf29⟩ := ob_i hf28
            clear hf28
            refine j_aald (pc := 61) hc dX0_alike_61 (by decide) eq30 ?_
            obtain ⟨a31, ea31, hf30⟩ := ob_i hf29
            clear hf29
            subst ea31
            obtain ⟨q32, eq32, hf31⟩ := ob_i hf30
            clear hf30
            refine j_getR (pc := 62) hc ho fa_X0_318_4 dX0_alike_62 eq32 ?_
            obtain ⟨a33, ea33, hf32⟩ := ob_i hf31
            clear hf31
            subst ea33
            obtain ⟨u34, eu34, hf33⟩ := ob_i hf32
            clear hf32
            obtain ⟨v36, T35, ev36, hf34⟩ := ob_c hf33
            clear hf33
            refine j_callV (pc := 65) (As := [vr q32]) (rest := []) (st2 := [vi v36]) hc ho cw_X0_11 (c_J6_equals ev36) (Rc.of (g_cls_ok eu34) (by decide) (by decide) ci_J6) hrm ⟨by decide, by decide⟩ rfl (Nat.le_of_ble_eq_true rfl) dX0_alike_65 rfl rfl ?_
            refine j_if_eq (pc := 68) hc dX0_alike_68 (tgt := 75) rfl (fun hh => ?_) (fun hh => ?_)
            · have hf35 := (if_pos hh).symm.trans hf34
              clear hf34
              refine j_iconst (pc := 75) (v := (0)) hc dX0_alike_75 rfl ?_
              cases hf35
              exact j_iret (pc := 76) hc hq hre rfl dX0_alike_76
            · have hf36 := (if_neg hh).symm.trans hf34
              clear hf34
              refine j_iconst (pc := 71) (v := (1)) hc dX0_alike_71 rfl ?_
              refine j_goto (pc := 72) hc dX0_alike_72 (tgt := 76) rfl ?_
              cases hf36
              exact j_iret (pc := 76) hc hq hre rfl dX0_alike_76
          · have hf37 := (if_pos hh).symm.trans hf20
            clear hf20
            refine j_iconst (pc := 45) (v := (-1)) hc dX0_alike_45 rfl ?_
            cases hf37
            exact j_iret (pc := 46) hc hq hre rfl dX0_alike_46
