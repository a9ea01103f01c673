set_option linter.unusedVariables false
def f_J3_init (a0 : Nat) (S : HS) : Option HS :=
  some S
set_option maxRecDepth 100000 in
set_option maxHeartbeats 2000000 in
theorem c_J3_init {l : Launch} {g : PG} {mo : MO} {a0 : Nat} {S S1 : HS} (hf : f_J3_init a0 S = some S1) : (h_nx S ≤ h_nx S1 ∧ h_sl S ≤ h_sl S1) ∧ Ct l g yJ3_init (ws_ yJ3_init cJ3_init 1 none) 1 60 S mo [vr (some a0)] none S1 mo := by
  refine met_of true (by decide) (fun h => by first | rfl | cases h) rfl (Nat.le_of_ble_eq_true rfl) (fun f hl hg hc ho hnL hrm hre hct hex hq => ?_)
  subst hl
  subst hg
  unfold f_J3_init at hf
  refine j_aload_n (pc := 0) hc dJ3_init_0 0 rfl rfl ?_
  refine j_oini (pc := 1) hc ho q212 q_oi1 q_oi2 hrm ⟨by decide, Nat.le_of_ble_eq_true rfl⟩ dJ3_init_1 ?_
  cases hf
  exact j_vret (pc := 4) hc hq hre dJ3_init_4
theorem cw_J4_1 : CT "java/util/AbstractList" 1 yJ3_init cJ3_init 1 0 := ⟨⟨q209, rfl, q210, q87, q211⟩, by decide, by decide, by decide +kernel⟩
theorem CI_J5 : CI 12 RJ5 TJ5 3 tyJ5 := ⟨ci_J5, by decide, by decide, in_J5, tyJ5_ok, nmJ5⟩
theorem fa_J4_7_12 : FA "java/util/AbstractList" 7 12 0 138 (.int) 1 := ⟨RJ5, TJ5, 3, tyJ5, 0, "java/util/AbstractList", CI_J5, by decide, rfl, rfl, by decide +kernel, Or.inl ⟨q217, fun h => (by cases h)⟩, fun _ => rfl, Or.inl rfl⟩
def f_J4_init (a0 : Nat) (S : HS) : Option HS :=
  (f_J3_init a0 S).bind fun T1 =>
  (p_fI T1 12 138 a0 (0)).bind fun T2 =>
  some T2
set_option maxRecDepth 100000 in
set_option maxHeartbeats 2000000 in
theorem c_J4_init {l : Launch} {g : PG} {mo : MO} {a0 : Nat} {S S1 : HS} (hf : f_J4_init a0 S = some S1) : (h_nx S ≤ h_nx S1 ∧ h_sl S ≤ h_sl S1) ∧ Ct l g yJ4_init (ws_ yJ4_init cJ4_init 1 none) 2 80 S mo [vr (some a0)] none S1 mo := by
  refine met_of true (by decide) (fun h => by first | rfl | cases h) rfl (Nat.le_of_ble_eq_true rfl) (fun f hl hg hc ho hnL hrm hre hct hex hq => ?_)
  subst hl
  subst hg
  unfold f_J4_init at hf
  refine j_aload_n (pc := 0) hc dJ4_init_0 0 rfl rfl ?_
  obtain ⟨T1, eT1, hf1⟩ := ob_i hf
  clear hf
  refine j_callI (pc := 1) (As := []) (rest := []) (st2 := []) hc ho cw_J4_1 (c_J3_init eT1) hrm ⟨by decide, by decide⟩ rfl (Nat.le_of_ble_eq_true rfl) dJ4_init_1 rfl rfl ?_
  refine j_aload_n (pc := 4) hc dJ4_init_4 0 rfl rfl ?_
  refine j_iconst (pc := 5) (v := (0)) hc dJ4_init_5 rfl ?_
  obtain ⟨T2, eT2, hf2⟩ := ob_i hf1
  clear hf1
  refine j_putI (pc := 6) hc ho fa_J4_7_12 (Or.inl rfl) dJ4_init_6 eT2 ?_
  cases hf2
  exact j_vret (pc := 9) hc hq hre dJ4_init_9
theorem cw_J5_1 : CT "java/util/ArrayList" 1 yJ4_init cJ4_init 1 0 := ⟨⟨q206, rfl, q207, q88, q208⟩, by decide, by decide, by decide +kernel⟩
theorem fa_J5_9_12 : FA "java/util/ArrayList" 9 12 2 139 (.array (.object "java/lang/Object")) 1 := ⟨RJ5, TJ5, 3, tyJ5, 1, "java/util/ArrayList", CI_J5, by decide, rfl, rfl, by decide +kernel, Or.inl ⟨q215, fun h => (by cases h)⟩, fun _ => rfl, Or.inl rfl⟩
def f_J5_init (a0 : Nat) (S : HS) : Option HS :=
  (f_J4_init a0 S).bind fun T1 =>
  (p_fR T1 12 139 a0 (some (h_ks T1 31))).bind fun T2 =>
  some T2
set_option maxRecDepth 100000 in
set_option maxHeartbeats 2000000 in
theorem c_J5_init {l : Launch} {g : PG} {mo : MO} {a0 : Nat} {S S1 : HS} (hf : f_J5_init a0 S = some S1) : (h_nx S ≤ h_nx S1 ∧ h_sl S ≤ h_sl S1) ∧ Ct l g yJ5_init (ws_ yJ5_init cJ5_init 1 none) 3 100 S mo [vr (some a0)] none S1 mo := by
  refine met_of true (by decide) (fun h => by first | rfl | cases h) rfl (Nat.le_of_ble_eq_true rfl) (fun f hl hg hc ho hnL hrm hre hct hex hq => ?_)
  subst hl
  subst hg
  unfold f_J5_init at hf
  refine j_aload_n (pc := 0) hc dJ5_init_0 0 rfl rfl ?_
  obtain ⟨T1, eT1, hf1⟩ := ob_i hf
  clear hf
  refine j_callI (pc := 1) (As := []) (rest := []) (st2 := []) hc ho cw_J5_1 (c_J4_init eT1) hrm ⟨by decide, by decide⟩ rfl (Nat.le_of_ble_eq_true rfl) dJ5_init_1 rfl rfl ?_
  refine j_aload_n (pc := 4) hc dJ5_init_4 0 rfl rfl ?_
  refine j_gets (pc := 5) (v := vr (some (h_ks T1 31))) hc ho q213 zs_def dJ5_init_5 ?_
  obtain ⟨T2, eT2, hf2⟩ := ob_i hf1
  clear hf1
  refine j_putR (pc := 8) hc ho fa_J5_9_12 rfl (Or.inl rfl) dJ5_init_8 eT2 ?_
  cases hf2
  exact j_vret (pc := 11) hc hq hre dJ5_init_11
def f_J5_init_2 (a0 : Nat) (x1 : Int32) (S : HS) : Option HS :=
  (f_J4_init a0 S).bind fun T1 =>
  if x1 ≤ 0 then
    if x1 = 0 then
      (p_fR T1 12 139 a0 (some (h_ks T1 30))).bind fun T2 =>
      some T2
    else
      none
  else
    (n_arr T1 35 x1).bind fun T3 =>
    (p_fR T3 12 139 a0 (some (h_nx T1))).bind fun T4 =>
    some T4
set_option maxRecDepth 100000 in
set_option maxHeartbeats 2000000 in
theorem c_J5_init_2 {l : Launch} {g : PG} {mo : MO} {a0 : Nat} {x1 : Int32} {S S1 : HS} (hf : f_J5_init_2 a0 x1 S = some S1) : (h_nx S ≤ h_nx S1 ∧ h_sl S ≤ h_sl S1) ∧ Ct l g yJ5_init_2 (ws_ yJ5_init_2 cJ5_init_2 2 none) 3 100 S mo [vr (some a0), vi x1] none S1 mo := by
  refine met_of true (by decide) (fun h => by first | rfl | cases h) rfl (Nat.le_of_ble_eq_true rfl) (fun f hl hg hc ho hnL hrm hre hct hex hq => ?_)
  subst hl
  subst hg
  unfold f_J5_init_2 at hf
  refine j_aload_n (pc := 0) hc dJ5_init_2_0 0 rfl rfl ?_
  obtain ⟨T1, eT1, hf1⟩ := ob_i hf
  clear hf
  refine j_callI (pc := 1) (As := []) (rest := []) (st2 := []) hc ho cw_J5_1 (c_J4_init eT1) hrm ⟨by decide, by decide⟩ rfl (Nat.le_of_ble_eq_true rfl) dJ5_init_2_1 rfl rfl ?_
  refine j_iload_n (pc := 4) hc dJ5_init_2_4 1 rfl rfl ?_
  refine j_if_le (pc := 5) hc dJ5_init_2_5 (tgt := 19) rfl (fun hh => ?_) (fun hh => ?_)
  · have hf2 := (if_pos hh).symm.trans hf1
    clear hf1
    refine j_iload_n (pc := 19) hc dJ5_init_2_19 1 rfl rfl ?_
    refine j_if_ne (pc := 20) hc dJ5_init_2_20 (tgt := 33) rfl (fun hh => ?_) (fun hh => ?_)
    · have hf3 := (if_neg hh).symm.trans hf2
      clear hf2
      cases hf3
    · have hf4 := (if_pos hh).symm.trans hf2
      clear hf2
      refine j_aload_n (pc := 23) hc dJ5_init_2_23 0 rfl rfl ?_
      refine j_gets (pc := 24) (v := vr (some (h_ks T1 30))) hc ho q549 zs_emp dJ5_init_2_24 ?_
      obtain ⟨T2, eT2, hf5⟩ := ob_i hf4
      clear hf4
      refine j_putR (pc := 27) hc ho fa_J5_9_12 rfl (Or.inl rfl) dJ5_init_2_27 eT2 ?_
      refine j_goto (pc := 30) hc dJ5_init_2_30 (tgt := 60) rfl ?_
      cases hf5
      exact j_vret (pc := 60) hc hq hre dJ5_init_2_60
  · have hf6 := (if_neg hh).symm.trans hf1
    clear hf1
    refine j_aload_n (pc := 8) hc dJ5_init_2_8 0 rfl rfl ?_
    refine j_iload_n (pc := 9) hc dJ5_init_2_9 1 rfl rfl ?_
    obtain ⟨T3, eT3, hf7⟩ := ob_i hf6
    clear hf6
    refine j_anew (pc := 10) hc ho (t := 35) rfl (by decide) q547 q548 dJ5_init_2_10 eT3 ?_
    obtain ⟨T4, eT4, hf8⟩ := ob_i hf7
    clear hf7
    refine j_putR (pc := 13) hc ho fa_J5_9_12 rfl (Or.inl rfl) dJ5_init_2_13 eT4 ?_
    refine j_goto (pc := 16) hc dJ5_init_2_16 (tgt := 60) rfl ?_
    cases hf8
    exact j_vret (pc := 60) hc hq hre dJ5_init_2_60
def f_J10_newLength_n21 (x0 : Int32) (x1 : Int32) (S : HS) : Option (Int32 × HS) :=
  none
def f_J10_newLength (x0 : Int32) (x1 : Int32) (x2 : Int32) (S : HS) : Option (Int32 × HS) :=
  if (x0 + (i_max x1 x2)) ≤ (0) then
    f_J10_newLength_n21 x0 x1 S
  else
    if (2147483639) < (x0 + (i_max x1 x2)) then
      f_J10_newLength_n21 x0 x1 S
    else
      some ((x0 + (i_max x1 x2)), S)
set_option maxRecDepth 100000 in
set_option maxHeartbeats 2000000 in
theorem w_J10_newLength_n21 {f : CfT} {mo : MO} {r : Int32} {S1 : HS} (hc : cf_cc f = cJ10_newLength) (ho : cf_ow f = "jdk/internal/util/ArraysSupport") (hnL : cf_nL f = 4) (hrm : cf_rm f = (1, 60)) (hre : cf_re f = (some (.int))) (hct : cf_ct f = false) (hq : Qok f (some (vi r)) S1 mo) {x0 : Int32} {x1 : Int32} {S : HS} (hf : f_J10_newLength_n21 x0 x1 S = some (r, S1)) : JJ f S mo 21 [(0, vi x0), (1, vi x1)] [] := by
  unfold f_J10_newLength_n21 at hf
  refine j_iload_n (pc := 21) hc dJ10_newLength_21 0 rfl rfl ?_
  refine j_iload_n (pc := 22) hc dJ10_newLength_22 1 rfl rfl ?_
  cases hf
set_option maxRecDepth 100000 in
set_option maxHeartbeats 2000000 in
theorem c_J10_newLength {l : Launch} {g : PG} {mo : MO} {x0 : Int32} {x1 : Int32} {x2 : Int32} {r : Int32} {S S1 : HS} (hf : f_J10_newLength x0 x1 x2 S = some (r, S1)) : (h_nx S ≤ h_nx S1 ∧ h_sl S ≤ h_sl S1) ∧ Ct l g yJ10_newLength (ws_ yJ10_newLength cJ10_newLength 4 (some (.int))) 1 60 S mo [vi x0, vi x1, vi x2] (some (vi r)) S1 mo := by
  refine met_of false (by decide) (fun h => by first | rfl | cases h) rfl (Nat.le_of_ble_eq_true rfl) (fun f hl hg hc ho hnL hrm hre hct hex hq => ?_)
  subst hl
  subst hg
  unfold f_J10_newLength at hf
  refine j_iload_n (pc := 0) hc dJ10_newLength_0 0 rfl rfl ?_
  refine j_iload_n (pc := 1) hc dJ10_newLength_1 1 rfl rfl ?_
  refine j_iload_n (pc := 2) hc dJ10_newLength_2 2 rfl rfl ?_
  refine j_mmax (pc := 3) hc ho q652 hrm ⟨by decide, Nat.le_of_ble_eq_true rfl⟩ dJ10_newLength_3 ?_
  refine j_iadd (pc := 6) hc dJ10_newLength_6 ?_
  refine j_istore_n (pc := 7) (L' := [(3, vi (x0 + (i_max x1 x2))), (0, vi x0), (1, vi x1), (2, vi x2)]) hc dJ10_newLength_7 rfl hnL (by decide) rfl ?_
  refine j_iconst (pc := 8) (v := (0)) hc dJ10_newLength_8 rfl ?_
  refine j_iload_n (pc := 9) hc dJ10_newLength_9 0 rfl rfl ?_
  refine j_icmp_ge (pc := 10) hc dJ10_newLength_10 (tgt := 21) rfl (fun hh => ?_) (fun hh => ?_)
  · have hf1 := (if_pos hh).symm.trans hf
    clear hf
    refine j_loc (L' := [(0, vi x0), (1, vi x1)]) [1, 2] rfl ?_
    exact w_J10_newLength_n21 hc ho hnL hrm hre hct hq hf1
  · have hf2 := (if_neg hh).symm.trans hf
    clear hf
    refine j_iload_n (pc := 13) hc dJ10_newLength_13 0 rfl rfl ?_
    refine j_ldc (pc := 14) hc ho q655 dJ10_newLength_14 ?_
    refine j_icmp_gt (pc := 16) hc dJ10_newLength_16 (tgt := 21) rfl (fun hh => ?_) (fun hh => ?_)
    · have hf3 := (if_pos hh).symm.trans hf2
      clear hf2
      refine j_loc (L' := [(0, vi x0), (1, vi x1)]) [1, 2] rfl ?_
      exact w_J10_newLength_n21 hc ho hnL hrm hre hct hq hf3
    · have hf4 := (if_neg hh).symm.trans hf2
      clear hf2
      refine j_iload_n (pc := 19) hc dJ10_newLength_19 0 rfl rfl ?_
      cases hf4
      exact j_iret (pc := 20) hc hq hre rfl dJ10_newLength_20
def f_J12_copyOf_2_n24 (r0 : Option Nat) (x1 : Int32) (sr0 : Option Nat) (S : HS) : Option (Option Nat × HS) :=
  (r0).bind fun a1 =>
  (g_len S 35 a1).bind fun v2 =>
  (sr0).bind fun a3 =>
  (p_cpy S a1 (0) a3 (0) (i_min v2 x1)).bind fun T4 =>
  some ((some a3), T4)
def f_J12_copyOf_2 (r0 : Option Nat) (x1 : Int32) (r2 : Option Nat) (S : HS) : Option (Option Nat × HS) :=
  if r2 = (some (h_ks S 32)) then
    (n_arr S 35 x1).bind fun T1 =>
    f_J12_copyOf_2_n24 r0 x1 (some (h_nx S)) T1
  else
    none
set_option maxRecDepth 100000 in
set_option maxHeartbeats 2000000 in
theorem w_J12_copyOf_2_n24 {f : CfT} {mo : MO} {r : Option Nat} {S1 : HS} (hc : cf_cc f = cJ12_copyOf_2) (ho : cf_ow f = "java/util/Arrays") (hnL : cf_nL f = 4) (hrm : cf_rm f = (1, 60)) (hre : cf_re f = (some (.array (.object "java/lang/Object")))) (hct : cf_ct f = false) (hq : Qok f (some (vr r)) S1 mo) {r0 : Option Nat} {x1 : Int32} {sr0 : Option Nat} {S : HS} (hf : f_J12_copyOf_2_n24 r0 x1 sr0 S = some (r, S1)) : JJ f S mo 24 [(0, vr r0), (1, vi x1)] [vr sr0] := by
  unfold f_J12_copyOf_2_n24 at hf
  refine j_astore_n (pc := 24) (L' := [(3, vr sr0), (0, vr r0), (1, vi x1)]) hc dJ12_copyOf_2_24 rfl hnL (by decide) rfl ?_
  refine j_aload_n (pc := 25) hc dJ12_copyOf_2_25 1 rfl rfl ?_
  refine j_iconst (pc := 26) (v := (0)) hc dJ12_copyOf_2_26 rfl ?_
  refine j_aload_n (pc := 27) hc dJ12_copyOf_2_27 0 rfl rfl ?_
  refine j_iconst (pc := 28) (v := (0)) hc dJ12_copyOf_2_28 rfl ?_
  refine j_aload_n (pc := 29) hc dJ12_copyOf_2_29 1 rfl rfl ?_
  obtain ⟨a1, ea1, hf1⟩ := ob_i hf
  clear hf
  subst ea1
  obtain ⟨v2, ev2, hf2⟩ := ob_i hf1
  clear hf1
  refine j_alen (pc := 30) hc dJ12_copyOf_2_30 (by decide) ev2 ?_
  refine j_iload_n (pc := 31) hc dJ12_copyOf_2_31 2 rfl rfl ?_
  refine j_mmin (pc := 32) hc ho q685 hrm ⟨by decide, Nat.le_of_ble_eq_true rfl⟩ dJ12_copyOf_2_32 ?_
  obtain ⟨a3, ea3, hf3⟩ := ob_i hf2
  clear hf2
  subst ea3
  obtain ⟨T4, eT4, hf4⟩ := ob_i hf3
  clear hf3
  refine j_cpy (pc := 35) hc ho q688 hrm ⟨by decide, Nat.le_of_ble_eq_true rfl⟩ dJ12_copyOf_2_35 eT4 ?_
  refine j_aload_n (pc := 38) hc dJ12_copyOf_2_38 0 rfl rfl ?_
  cases hf4
  exact j_aret (pc := 39) hc hq hre (Or.inr ⟨_, rfl⟩) dJ12_copyOf_2_39
set_option maxRecDepth 100000 in
set_option maxHeartbeats 2000000 in
theorem c_J12_copyOf_2 {l : Launch} {g : PG} {mo : MO} {r0 : Option Nat} {x1 : Int32} {r2 : Option Nat} {r : Option Nat} {S S1 : HS} (hf : f_J12_copyOf_2 r0 x1 r2 S = some (r, S1)) : (h_nx S ≤ h_nx S1 ∧ h_sl S ≤ h_sl S1) ∧ Ct l g yJ12_copyOf_2 (ws_ yJ12_copyOf_2 cJ12_copyOf_2 4 (some (.array (.object "java/lang/Object")))) 1 60 S mo [vr r0, vi x1, vr r2] (some (vr r)) S1 mo := by
  refine met_of false (by decide) (fun h => by first | rfl | cases h) rfl (Nat.le_of_ble_eq_true rfl) (fun f hl hg hc ho hnL hrm hre hct hex hq => ?_)
  subst hl
  subst hg
  unfold f_J12_copyOf_2 at hf
  refine j_aload_n (pc := 0) hc dJ12_copyOf_2_0 2 rfl rfl ?_
  refine j_ldcM (pc := 1) hc ho q683 dJ12_copyOf_2_1 ?_
  refine j_acmp_ne (pc := 3) hc dJ12_copyOf_2_3 (tgt := 13) rfl (fun hh => ?_) (fun hh => ?_)
  · have hf1 := (if_neg hh).symm.trans hf
    clear hf
    refine j_aload_n (pc := 13) hc dJ12_copyOf_2_13 2 rfl rfl ?_
    cases hf1
  · have hf2 := (if_pos hh).symm.trans hf
    clear hf
    refine j_iload_n (pc := 6) hc dJ12_copyOf_2_6 1 rfl rfl ?_
    obtain ⟨T1, eT1, hf3⟩ := ob_i hf2
    clear hf2
    refine j_anew (pc := 7) hc ho (t := 35) rfl (by decide) q684 q548 dJ12_copyOf_2_7 eT1 ?_
    refine j_goto (pc := 10) hc dJ12_copyOf_2_10 (tgt := 24) rfl ?_
    refine j_loc (L' := [(0, vr r0), (1, vi x1)]) [0, 1] rfl ?_
    exact w_J12_copyOf_2_n24 hc ho hnL hrm hre hct hq hf3
theorem cw_J12_300 : CS "java/util/Arrays" 300 yJ12_copyOf_2 cJ12_copyOf_2 4 (some (.array (.object "java/lang/Object"))) 3 := ⟨⟨q680, q681, q98, q682⟩, by decide, by decide, by decide +kernel⟩
def f_J12_copyOf (r0 : Option Nat) (x1 : Int32) (S : HS) : Option (Option Nat × HS) :=
  (r0).bind fun a1 =>
  (g_cls S 35 a1).bind fun u2 =>
  o_bd (f_J12_copyOf_2 (some a1) x1 (some (h_ks S 32)) S) fun q4 T3 =>
  some (q4, T3)
set_option maxRecDepth 100000 in
set_option maxHeartbeats 2000000 in
theorem c_J12_copyOf {l : Launch} {g : PG} {mo : MO} {r0 : Option Nat} {x1 : Int32} {r : Option Nat} {S S1 : HS} (hf : f_J12_copyOf r0 x1 S = some (r, S1)) : (h_nx S ≤ h_nx S1 ∧ h_sl S ≤ h_sl S1) ∧ Ct l g yJ12_copyOf (ws_ yJ12_copyOf cJ12_copyOf 2 (some (.array (.object "java/lang/Object")))) 2 83 S mo [vr r0, vi x1] (some (vr r)) S1 mo := by
  refine met_of false (by decide) (fun h => by first | rfl | cases h) rfl (Nat.le_of_ble_eq_true rfl) (fun f hl hg hc ho hnL hrm hre hct hex hq => ?_)
  subst hl
  subst hg
  unfold f_J12_copyOf at hf
  refine j_aload_n (pc := 0) hc dJ12_copyOf_0 0 rfl rfl ?_
  refine j_iload_n (pc := 1) hc dJ12_copyOf_1 1 rfl rfl ?_
  refine j_aload_n (pc := 2) hc dJ12_copyOf_2 0 rfl rfl ?_
  obtain ⟨a1, ea1, hf1⟩ := ob_i hf
  clear hf
  subst ea1
  obtain ⟨u2, eu2, hf2⟩ := ob_i hf1
  clear hf1
  refine j_getC (pc := 3) hc ho q662 hrm ⟨by decide, Nat.le_of_ble_eq_true rfl⟩ dJ12_copyOf_3 (g_cls_ok eu2) ?_
  obtain ⟨q4, T3, eq4, hf3⟩ := ob_c hf2
  clear hf2
  refine j_callS (pc := 6) (As := [vr (some a1), vi x1, vr (some (h_ks S 32))]) (rest := []) (st2 := [vr q4]) hc ho cw_J12_300 (c_J12_copyOf_2 eq4) hrm ⟨by decide, by decide⟩ rfl (Nat.le_of_ble_eq_true rfl) dJ12_copyOf_6 rfl rfl ?_
  cases hf3
  exact j_aret (pc := 9) hc hq hre (Or.inr ⟨_, rfl⟩) dJ12_copyOf_9
theorem cw_J5_73 : CS "java/util/ArrayList" 73 yJ10_newLength cJ10_newLength 4 (some (.int)) 3 := ⟨⟨q649, q650, q95, q651⟩, by decide, by decide, by decide +kernel⟩
theorem cw_J5_66 : CS "java/util/ArrayList" 66 yJ12_copyOf cJ12_copyOf 2 (some (.array (.object "java/lang/Object"))) 2 := ⟨⟨q659, q660, q98, q661⟩, by decide, by decide, by decide +kernel⟩
def f_J5_grow_2_n20 (a0 : Nat) (x1 : Int32) (x2 : Int32) (S : HS) : Option (Option Nat × HS) :=
  o_bd (f_J10_newLength x2 (x1 - x2) (x2 >>> ((1) &&& 31)) S) fun v2 T1 =>
  (g_fR T1 12 139 a0).bind fun q3 =>
  o_bd (f_J12_copyOf q3 v2 T1) fun q5 T4 =>
  (p_fR T4 12 139 a0 q5).bind fun T6 =>
  some (q5, T6)
def f_J5_grow_2 (a0 : Nat) (x1 : Int32) (S : HS) : Option (Option Nat × HS) :=
  (g_fR S 12 139 a0).bind fun q1 =>
  (q1).bind fun a2 =>
  (g_len S 35 a2).bind fun v3 =>
  if 0 < v3 then
    f_J5_grow_2_n20 a0 x1 v3 S
  else
    (g_fR S 12 139 a0).bind fun q4 =>
    if q4 = (some (h_ks S 31)) then
      (n_arr S 35 (i_max (10) x1)).bind fun T5 =>
      (p_fR T5 12 139 a0 (some (h_nx S))).bind fun T6 =>
      some ((some (h_nx S)), T6)
    else
      f_J5_grow_2_n20 a0 x1 v3 S
set_option maxRecDepth 100000 in
set_option maxHeartbeats 2000000 in
theorem w_J5_grow_2_n20 {f : CfT} {mo : MO} {a0 : Nat} {r : Option Nat} {S1 : HS} (hc : cf_cc f = cJ5_grow_2) (ho : cf_ow f = "java/util/ArrayList") (hnL : cf_nL f = 4) (hrm : cf_rm f = (3, 104)) (hre : cf_re f = (some (.array (.object "java/lang/Object")))) (hct : cf_ct f = false) (hq : Qok f (some (vr r)) S1 mo) {x1 : Int32} {x2 : Int32} {S : HS} (hf : f_J5_grow_2_n20 a0 x1 x2 S = some (r, S1)) : JJ f S mo 20 [(0, vr (some a0)), (1, vi x1), (2, vi x2)] [] := by
  unfold f_J5_grow_2_n20 at hf
  refine j_iload_n (pc := 20) hc dJ5_grow_2_20 2 rfl rfl ?_
  refine j_iload_n (pc := 21) hc dJ5_grow_2_21 1 rfl rfl ?_
  refine j_iload_n (pc := 22) hc dJ5_grow_2_22 2 rfl rfl ?_
  refine j_isub (pc := 23) hc dJ5_grow_2_23 ?_
  refine j_iload_n (pc := 24) hc dJ5_grow_2_24 2 rfl rfl ?_
  refine j_iconst (pc := 25) (v := (1)) hc dJ5_grow_2_25 rfl ?_
  refine j_ishr (pc := 26) hc dJ5_grow_2_26 ?_
  obtain ⟨v2, T1, ev2, hf1⟩ := ob_c hf
  clear hf
  refine j_callS (pc := 27) (As := [vi x2, vi (x1 - x2), vi (x2 >>> ((1) &&& 31))]) (rest := []) (st2 := [vi v2]) hc ho cw_J5_73 (c_J10_newLength ev2) hrm ⟨by decide, by decide⟩ rfl (Nat.le_of_ble_eq_true rfl) dJ5_grow_2_27 rfl rfl ?_
  refine j_istore_n (pc := 30) (L' := [(3, vi v2), (0, vr (some a0)), (1, vi x1), (2, vi x2)]) hc dJ5_grow_2_30 rfl hnL (by decide) rfl ?_
  refine j_aload_n (pc := 31) hc dJ5_grow_2_31 1 rfl rfl ?_
  refine j_aload_n (pc := 32) hc dJ5_grow_2_32 1 rfl rfl ?_
  obtain ⟨q3, eq3, hf2⟩ := ob_i hf1
  clear hf1
  refine j_getR (pc := 33) hc ho fa_J5_9_12 dJ5_grow_2_33 eq3 ?_
  refine j_iload_n (pc := 36) hc dJ5_grow_2_36 0 rfl rfl ?_
  obtain ⟨q5, T4, eq5, hf3⟩ := ob_c hf2
  clear hf2
  refine j_callS (pc := 37) (As := [vr q3, vi v2]) (rest := [vr (some a0)]) (st2 := [vr q5, vr (some a0)]) hc ho cw_J5_66 (c_J12_copyOf eq5) hrm ⟨by decide, by decide⟩ rfl (Nat.le_of_ble_eq_true rfl) dJ5_grow_2_37 rfl rfl ?_
  refine j_dup_x1 (pc := 40) hc dJ5_grow_2_40 rfl rfl ?_
  obtain ⟨T6, eT6, hf4⟩ := ob_i hf3
  clear hf3
  refine j_putR (pc := 41) hc ho fa_J5_9_12 rfl (Or.inl rfl) dJ5_grow_2_41 eT6 ?_
  cases hf4
  exact j_aret (pc := 44) hc hq hre (Or.inr ⟨_, rfl⟩) dJ5_grow_2_44
set_option maxRecDepth 100000 in
set_option maxHeartbeats 2000000 in
theorem c_J5_grow_2 {l : Launch} {g : PG} {mo : MO} {a0 : Nat} {x1 : Int32} {r : Option Nat} {S S1 : HS} (hf : f_J5_grow_2 a0 x1 S = some (r, S1)) : (h_nx S ≤ h_nx S1 ∧ h_sl S ≤ h_sl S1) ∧ Ct l g yJ5_grow_2 (ws_ yJ5_grow_2 cJ5_grow_2 4 (some (.array (.object "java/lang/Object")))) 3 104 S mo [vr (some a0), vi x1] (some (vr r)) S1 mo := by
  refine met_of false (by decide) (fun h => by first | rfl | cases h) rfl (Nat.le_of_ble_eq_true rfl) (fun f hl hg hc ho hnL hrm hre hct hex hq => ?_)
  subst hl
  subst hg
  unfold f_J5_grow_2 at hf
  refine j_aload_n (pc := 0) hc dJ5_grow_2_0 0 rfl rfl ?_
  obtain ⟨q1, eq1, hf1⟩ := ob_i hf
  clear hf
  refine j_getR (pc := 1) hc ho fa_J5_9_12 dJ5_grow_2_1 eq1 ?_
  obtain ⟨a2, ea2, hf2⟩ := ob_i hf1
  clear hf1
  subst ea2
  obtain ⟨v3, ev3, hf3⟩ := ob_i hf2
  clear hf2
  refine j_alen (pc := 4) hc dJ5_grow_2_4 (by decide) ev3 ?_
  refine j_istore_n (pc := 5) (L' := [(2, vi v3), (0, vr (some a0)), (1, vi x1)]) hc dJ5_grow_2_5 rfl hnL (by decide) rfl ?_
  refine j_iload_n (pc := 6) hc dJ5_grow_2_6 0 rfl rfl ?_
  refine j_if_gt (pc := 7) hc dJ5_grow_2_7 (tgt := 20) rfl (fun hh => ?_) (fun hh => ?_)
  · have hf4 := (if_pos hh).symm.trans hf3
    clear hf3
    refine j_loc (L' := [(0, vr (some a0)), (1, vi x1), (2, vi v3)]) [1, 2, 0] rfl ?_
    exact w_J5_grow_2_n20 hc ho hnL hrm hre hct hq hf4
  · have hf5 := (if_neg hh).symm.trans hf3
    clear hf3
    refine j_aload_n (pc := 10) hc dJ5_grow_2_10 1 rfl rfl ?_
    obtain ⟨q4, eq4, hf6⟩ := ob_i hf5
    clear hf5
    refine j_getR (pc := 11) hc ho fa_J5_9_12 dJ5_grow_2_11 eq4 ?_
    refine j_gets (pc := 14) (v := vr (some (h_ks S 31))) hc ho q213 zs_def dJ5_grow_2_14 ?_
    refine j_acmp_eq (pc := 17) hc dJ5_grow_2_17 (tgt := 45) rfl (fun hh => ?_) (fun hh => ?_)
    · have hf7 := (if_pos hh).symm.trans hf6
      clear hf6
      refine j_aload_n (pc := 45) hc dJ5_grow_2_45 1 rfl rfl ?_
      refine j_bipush (pc := 46) (v := (10)) hc dJ5_grow_2_46 rfl ?_
      refine j_iload_n (pc := 48) hc dJ5_grow_2_48 2 rfl rfl ?_
      refine j_mmax (pc := 49) hc ho q691 hrm ⟨by decide, Nat.le_of_ble_eq_true rfl⟩ dJ5_grow_2_49 ?_
      obtain ⟨T5, eT5, hf8⟩ := ob_i hf7
      clear hf7
      refine j_anew (pc := 52) hc ho (t := 35) rfl (by decide) q547 q548 dJ5_grow_2_52 eT5 ?_
      refine j_dup_x1 (pc := 55) hc dJ5_grow_2_55 rfl rfl ?_
      obtain ⟨T6, eT6, hf9⟩ := ob_i hf8
      clear hf8
      refine j_putR (pc := 56) hc ho fa_J5_9_12 rfl (Or.inl rfl) dJ5_grow_2_56 eT6 ?_
      cases hf9
      exact j_aret (pc := 59) hc hq hre (Or.inr ⟨_, rfl⟩) dJ5_grow_2_59
    · have hf10 := (if_neg hh).symm.trans hf6
      clear hf6
      refine j_loc (L' := [(0, vr (some a0)), (1, vi x1), (2, vi v3)]) [1, 2, 0] rfl ?_
      exact w_J5_grow_2_n20 hc ho hnL hrm hre hct hq hf10
theorem fa_J5_48_12 : FA "java/util/ArrayList" 48 12 0 140 (.int) 1 := ⟨RJ5, TJ5, 3, tyJ5, 2, "java/util/ArrayList", CI_J5, by decide, rfl, rfl, by decide +kernel, Or.inl ⟨q216, fun h => (by cases h)⟩, fun _ => rfl, Or.inl rfl⟩
theorem cw_J5_69 : CV "java/util/ArrayList" 69 RJ5 yJ5_grow_2 cJ5_grow_2 4 (some (.array (.object "java/lang/Object"))) 1 := ⟨⟨q645, q647, qs12, q89, q648⟩, rfl, by decide, by decide, by decide +kernel⟩
def f_J5_grow (a0 : Nat) (S : HS) : Option (Option Nat × HS) :=
  (g_fI S 12 140 a0).bind fun v1 =>
  (g_cls S 12 a0).bind fun u2 =>
  o_bd (f_J5_grow_2 a0 (v1 + (1)) S) fun q4 T3 =>
  some (q4, T3)
set_option maxRecDepth 100000 in
set_option maxHeartbeats 2000000 in
theorem c_J5_grow {l : Launch} {g : PG} {mo : MO} {a0 : Nat} {r : Option Nat} {S S1 : HS} (hf : f_J5_grow a0 S = some (r, S1)) : (h_nx S ≤ h_nx S1 ∧ h_sl S ≤ h_sl S1) ∧ Ct l g yJ5_grow (ws_ yJ5_grow cJ5_grow 1 (some (.array (.object "java/lang/Object")))) 4 127 S mo [vr (some a0)] (some (vr r)) S1 mo := by
  refine met_of false (by decide) (fun h => by first | rfl | cases h) rfl (Nat.le_of_ble_eq_true rfl) (fun f hl hg hc ho hnL hrm hre hct hex hq => ?_)
  subst hl
  subst hg
  unfold f_J5_grow at hf
  refine j_aload_n (pc := 0) hc dJ5_grow_0 0 rfl rfl ?_
  refine j_aload_n (pc := 1) hc dJ5_grow_1 0 rfl rfl ?_
  obtain ⟨v1, ev1, hf1⟩ := ob_i hf
  clear hf
  refine j_getI (pc := 2) hc ho fa_J5_48_12 dJ5_grow_2 ev1 ?_
  refine j_iconst (pc := 5) (v := (1)) hc dJ5_grow_5 rfl ?_
  refine j_iadd (pc := 6) hc dJ5_grow_6 ?_
  obtain ⟨u2, eu2, hf2⟩ := ob_i hf1
  clear hf1
  obtain ⟨q4, T3, eq4, hf3⟩ := ob_c hf2
  clear hf2
  refine j_callV (pc := 7) (As := [vi (v1 + (1))]) (rest := []) (st2 := [vr q4]) hc ho cw_J5_69 (c_J5_grow_2 eq4) (Rc.of (g_cls_ok eu2) (by decide) (by decide) ci_J5) hrm ⟨by decide, by decide⟩ rfl (Nat.le_of_ble_eq_true rfl) dJ5_grow_7 rfl rfl ?_
  cases hf3
  exact j_aret (pc := 10) hc hq hre (Or.inr ⟨_, rfl⟩) dJ5_grow_10
theorem cw_J5_129 : CV "java/util/ArrayList" 129 RJ5 yJ5_grow cJ5_grow 1 (some (.array (.object "java/lang/Object"))) 0 := ⟨⟨q641, q643, qs11, q89, q644⟩, rfl, by decide, by decide, by decide +kernel⟩
def f_J5_add_2_n11 (a0 : Nat) (r1 : Option Nat) (r2 : Option Nat) (x3 : Int32) (S : HS) : Option HS :=
  (r2).bind fun a1 =>
  (p_aS S 35 a1 x3 r1).bind fun T2 =>
  (p_fI T2 12 140 a0 (x3 + (1))).bind fun T3 =>
  some T3
def f_J5_add_2 (a0 : Nat) (r1 : Option Nat) (r2 : Option Nat) (x3 : Int32) (S : HS) : Option HS :=
  (r2).bind fun a1 =>
  (g_len S 35 a1).bind fun v2 =>
  if x3 = v2 then
    (g_cls S 12 a0).bind fun u3 =>
    o_bd (f_J5_grow a0 S) fun q5 T4 =>
    f_J5_add_2_n11 a0 r1 q5 x3 T4
  else
    f_J5_add_2_n11 a0 r1 (some a1) x3 S
set_option maxRecDepth 100000 in
set_option maxHeartbeats 2000000 in
theorem w_J5_add_2_n11 {f : CfT} {mo : MO} {a0 : Nat} {S1 : HS} (hc : cf_cc f = cJ5_add_2) (ho : cf_ow f = "java/util/ArrayList") (hnL : cf_nL f = 4) (hrm : cf_rm f = (5, 147)) (hre : cf_re f = none) (hct : cf_ct f = false) (hq : Qok f none S1 mo) {r1 : Option Nat} {r2 : Option Nat} {x3 : Int32} {S : HS} (hf : f_J5_add_2_n11 a0 r1 r2 x3 S = some S1) : JJ f S mo 11 [(0, vr (some a0)), (1, vr r1), (2, vr r2), (3, vi x3)] [] := by
  unfold f_J5_add_2_n11 at hf
  refine j_aload_n (pc := 11) hc dJ5_add_2_11 2 rfl rfl ?_
  refine j_iload_n (pc := 12) hc dJ5_add_2_12 3 rfl rfl ?_
  refine j_aload_n (pc := 13) hc dJ5_add_2_13 1 rfl rfl ?_
  obtain ⟨a1, ea1, hf1⟩ := ob_i hf
  clear hf
  subst ea1
  obtain ⟨T2, eT2, hf2⟩ := ob_i hf1
  clear hf1
  refine j_aast (pc := 14) hc dJ5_add_2_14 (by decide) cast_35 eT2 ?_
  refine j_aload_n (pc := 15) hc dJ5_add_2_15 0 rfl rfl ?_
  refine j_iload_n (pc := 16) hc dJ5_add_2_16 3 rfl rfl ?_
  refine j_iconst (pc := 17) (v := (1)) hc dJ5_add_2_17 rfl ?_
  refine j_iadd (pc := 18) hc dJ5_add_2_18 ?_
  obtain ⟨T3, eT3, hf3⟩ := ob_i hf2
  clear hf2
  refine j_putI (pc := 19) hc ho fa_J5_48_12 (Or.inl rfl) dJ5_add_2_19 eT3 ?_
  cases hf3
  exact j_vret (pc := 22) hc hq hre dJ5_add_2_22
set_option maxRecDepth 100000 in
set_option maxHeartbeats 2000000 in
theorem c_J5_add_2 {l : Launch} {g : PG} {mo : MO} {a0 : Nat} {r1 : Option Nat} {r2 : Option Nat} {x3 : Int32} {S S1 : HS} (hf : f_J5_add_2 a0 r1 r2 x3 S = some S1) : (h_nx S ≤ h_nx S1 ∧ h_sl S ≤ h_sl S1) ∧ Ct l g yJ5_add_2 (ws_ yJ5_add_2 cJ5_add_2 4 none) 5 147 S mo [vr (some a0), vr r1, vr r2, vi x3] none S1 mo := by
  refine met_of false (by decide) (fun h => by first | rfl | cases h) rfl (Nat.le_of_ble_eq_true rfl) (fun f hl hg hc ho hnL hrm hre hct hex hq => ?_)
  subst hl
  subst hg
  unfold f_J5_add_2 at hf
  refine j_iload_n (pc := 0) hc dJ5_add_2_0 3 rfl rfl ?_
  refine j_aload_n (pc := 1) hc dJ5_add_2_1 2 rfl rfl ?_
  obtain ⟨a1, ea1, hf1⟩ := ob_i hf
  clear hf
  subst ea1
  obtain ⟨v2, ev2, hf2⟩ := ob_i hf1
  clear hf1
  refine j_alen (pc := 2) hc dJ5_add_2_2 (by decide) ev2 ?_
  refine j_icmp_ne (pc := 3) hc dJ5_add_2_3 (tgt := 11) rfl (fun hh => ?_) (fun hh => ?_)
  · have hf3 := (if_neg hh).symm.trans hf2
    clear hf2
    exact w_J5_add_2_n11 hc ho hnL hrm hre hct hq hf3
  · have hf4 := (if_pos hh).symm.trans hf2
    clear hf2
    refine j_aload_n (pc := 6) hc dJ5_add_2_6 0 rfl rfl ?_
    obtain ⟨u3, eu3, hf5⟩ := ob_i hf4
    clear hf4
    obtain ⟨q5, T4, eq5, hf6⟩ := ob_c hf5
    clear hf5
    refine j_callV (pc := 7) (As := []) (rest := []) (st2 := [vr q5]) hc ho cw_J5_129 (c_J5_grow eq5) (Rc.of (g_cls_ok eu3) (by decide) (by decide) ci_J5) hrm ⟨by decide, by decide⟩ rfl (Nat.le_of_ble_eq_true rfl) dJ5_add_2_7 rfl rfl ?_
    refine j_astore_n (pc := 10) (L' := [(2, vr q5), (0, vr (some a0)), (1, vr r1), (3, vi x3)]) hc dJ5_add_2_10 rfl hnL (by decide) rfl ?_
    refine j_loc (L' := [(0, vr (some a0)), (1, vr r1), (2, vr q5), (3, vi x3)]) [1, 2, 0, 3] rfl ?_
    exact w_J5_add_2_n11 hc ho hnL hrm hre hct hq hf6
theorem fa_J5_63_12 : FA "java/util/ArrayList" 63 12 0 138 (.int) 1 := ⟨RJ5, TJ5, 3, tyJ5, 0, "java/util/ArrayList", CI_J5, by decide, rfl, rfl, by decide +kernel, Or.inl ⟨q218, fun h => (by cases h)⟩, fun _ => rfl, Or.inr q219⟩
theorem cw_J5_131 : CV "java/util/ArrayList" 131 RJ5 yJ5_add_2 cJ5_add_2 4 none 3 := ⟨⟨q637, q639, qs10, q89, q640⟩, rfl, by decide, by decide, by decide +kernel⟩
def f_J5_add (a0 : Nat) (r1 : Option Nat) (S : HS) : Option (Int32 × HS) :=
  (g_fI S 12 138 a0).bind fun v1 =>
  (p_fI S 12 138 a0 (v1 + (1))).bind fun T2 =>
  (g_fR T2 12 139 a0).bind fun q3 =>
  (g_fI T2 12 140 a0).bind fun v4 =>
  (g_cls T2 12 a0).bind fun u5 =>
  (f_J5_add_2 a0 r1 q3 v4 T2).bind fun T6 =>
  some ((1), T6)
set_option maxRecDepth 100000 in
set_option maxHeartbeats 2000000 in
theorem c_J5_add {l : Launch} {g : PG} {mo : MO} {a0 : Nat} {r1 : Option Nat} {r : Int32} {S S1 : HS} (hf : f_J5_add a0 r1 S = some (r, S1)) : (h_nx S ≤ h_nx S1 ∧ h_sl S ≤ h_sl S1) ∧ Ct l g yJ5_add (ws_ yJ5_add cJ5_add 2 (some (.boolean))) 6 170 S mo [vr (some a0), vr r1] (some (vi r)) S1 mo := by
  refine met_of false (by decide) (fun h => by first | rfl | cases h) rfl (Nat.le_of_ble_eq_true rfl) (fun f hl hg hc ho hnL hrm hre hct hex hq => ?_)
  subst hl
  subst hg
  unfold f_J5_add at hf
  refine j_aload_n (pc := 0) hc dJ5_add_0 0 rfl rfl ?_
  refine j_dup (pc := 1) hc dJ5_add_1 rfl ?_
  obtain ⟨v1, ev1, hf1⟩ := ob_i hf
  clear hf
  refine j_getI (pc := 2) hc ho fa_J5_63_12 dJ5_add_2 ev1 ?_
  refine j_iconst (pc := 5) (v := (1)) hc dJ5_add_5 rfl ?_
  refine j_iadd (pc := 6) hc dJ5_add_6 ?_
  obtain ⟨T2, eT2, hf2⟩ := ob_i hf1
  clear hf1
  refine j_putI (pc := 7) hc ho fa_J5_63_12 (Or.inl rfl) dJ5_add_7 eT2 ?_
  refine j_aload_n (pc := 10) hc dJ5_add_10 0 rfl rfl ?_
  refine j_aload_n (pc := 11) hc dJ5_add_11 1 rfl rfl ?_
  refine j_aload_n (pc := 12) hc dJ5_add_12 0 rfl rfl ?_
  obtain ⟨q3, eq3, hf3⟩ := ob_i hf2
  clear hf2
  refine j_getR (pc := 13) hc ho fa_J5_9_12 dJ5_add_13 eq3 ?_
  refine j_aload_n (pc := 16) hc dJ5_add_16 0 rfl rfl ?_
  obtain ⟨v4, ev4, hf4⟩ := ob_i hf3
  clear hf3
  refine j_getI (pc := 17) hc ho fa_J5_48_12 dJ5_add_17 ev4 ?_
  obtain ⟨u5, eu5, hf5⟩ := ob_i hf4
  clear hf4
  obtain ⟨T6, eT6, hf6⟩ := ob_i hf5
  clear hf5
  refine j_callV (pc := 20) (As := [vr r1, vr q3, vi v4]) (rest := []) (st2 := []) hc ho cw_J5_131 (c_J5_add_2 eT6) (Rc.of (g_cls_ok eu5) (by decide) (by decide) ci_J5) hrm ⟨by decide, by decide⟩ rfl (Nat.le_of_ble_eq_true rfl) dJ5_add_20 rfl rfl ?_
  refine j_iconst (pc := 23) (v := (1)) hc dJ5_add_23 rfl ?_
  cases hf6
  exact j_iret (pc := 24) hc hq hre rfl dJ5_add_24
def f_J8_checkIndex_n9 (x0 : Int32) (x1 : Int32) (r2 : Option Nat) (S : HS) : Option (Int32 × HS) :=
  none
def f_J8_checkIndex (x0 : Int32) (x1 : Int32) (r2 : Option Nat) (S : HS) : Option (Int32 × HS) :=
  if x0 < 0 then
    f_J8_checkIndex_n9 x0 x1 r2 S
  else
    if x0 < x1 then
      some (x0, S)
    else
      f_J8_checkIndex_n9 x0 x1 r2 S
set_option maxRecDepth 100000 in
set_option maxHeartbeats 2000000 in
theorem w_J8_checkIndex_n9 {f : CfT} {mo : MO} {r : Int32} {S1 : HS} (hc : cf_cc f = cJ8_checkIndex) (ho : cf_ow f = "jdk/internal/util/Preconditions") (hnL : cf_nL f = 3) (hrm : cf_rm f = (1, 60)) (hre : cf_re f = (some (.int))) (hct : cf_ct f = false) (hq : Qok f (some (vi r)) S1 mo) {x0 : Int32} {x1 : Int32} {r2 : Option Nat} {S : HS} (hf : f_J8_checkIndex_n9 x0 x1 r2 S = some (r, S1)) : JJ f S mo 9 [(0, vi x0), (1, vi x1), (2, vr r2)] [] := by
  unfold f_J8_checkIndex_n9 at hf
  refine j_aload_n (pc := 9) hc dJ8_checkIndex_9 2 rfl rfl ?_
  refine j_iload_n (pc := 10) hc dJ8_checkIndex_10 0 rfl rfl ?_
  refine j_iload_n (pc := 11) hc dJ8_checkIndex_11 1 rfl rfl ?_
  cases hf
set_option maxRecDepth 100000 in
set_option maxHeartbeats 2000000 in
theorem c_J8_checkIndex {l : Launch} {g : PG} {mo : MO} {x0 : Int32} {x1 : Int32} {r2 : Option Nat} {r : Int32} {S S1 : HS} (hf : f_J8_checkIndex x0 x1 r2 S = some (r, S1)) : (h_nx S ≤ h_nx S1 ∧ h_sl S ≤ h_sl S1) ∧ Ct l g yJ8_checkIndex (ws_ yJ8_checkIndex cJ8_checkIndex 3 (some (.int))) 1 60 S mo [vi x0, vi x1, vr r2] (some (vi r)) S1 mo := by
  refine met_of false (by decide) (fun h => by first | rfl | cases h) rfl (Nat.le_of_ble_eq_true rfl) (fun f hl hg hc ho hnL hrm hre hct hex hq => ?_)
  subst hl
  subst hg
  unfold f_J8_checkIndex at hf
  refine j_iload_n (pc := 0) hc dJ8_checkIndex_0 0 rfl rfl ?_
  refine j_if_lt (pc := 1) hc dJ8_checkIndex_1 (tgt := 9) rfl (fun hh => ?_) (fun hh => ?_)
  · have hf1 := (if_pos hh).symm.trans hf
    clear hf
    exact w_J8_checkIndex_n9 hc ho hnL hrm hre hct hq hf1
  · have hf2 := (if_neg hh).symm.trans hf
    clear hf
    refine j_iload_n (pc := 4) hc dJ8_checkIndex_4 0 rfl rfl ?_
    refine j_iload_n (pc := 5) hc dJ8_checkIndex_5 1 rfl rfl ?_
    refine j_icmp_lt (pc := 6) hc dJ8_checkIndex_6 (tgt := 16) rfl (fun hh => ?_) (fun hh => ?_)
    · have hf3 := (if_pos hh).symm.trans hf2
      clear hf2
      refine j_iload_n (pc := 16) hc dJ8_checkIndex_16 0 rfl rfl ?_
      cases hf3
      exact j_iret (pc := 17) hc hq hre rfl dJ8_checkIndex_17
    · have hf4 := (if_neg hh).symm.trans hf2
      clear hf2
      exact w_J8_checkIndex_n9 hc ho hnL hrm hre hct hq hf4
theorem cw_J13_105 : CS "java/util/Objects" 105 yJ8_checkIndex cJ8_checkIndex 3 (some (.int)) 3 := ⟨⟨q896, q711, q93, q712⟩, by decide, by decide, by decide +kernel⟩
def f_J13_checkIndex (x0 : Int32) (x1 : Int32) (S : HS) : Option (Int32 × HS) :=
  o_bd (f_J8_checkIndex x0 x1 none S) fun v2 T1 =>
  some (v2, T1)
set_option maxRecDepth 100000 in
set_option maxHeartbeats 2000000 in
theorem c_J13_checkIndex {l : Launch} {g : PG} {mo : MO} {x0 : Int32} {x1 : Int32} {r : Int32} {S S1 : HS} (hf : f_J13_checkIndex x0 x1 S = some (r, S1)) : (h_nx S ≤ h_nx S1 ∧ h_sl S ≤ h_sl S1) ∧ Ct l g yJ13_checkIndex (ws_ yJ13_checkIndex cJ13_checkIndex 2 (some (.int))) 2 82 S mo [vi x0, vi x1] (some (vi r)) S1 mo := by
  refine met_of false (by decide) (fun h => by first | rfl | cases h) rfl (Nat.le_of_ble_eq_true rfl) (fun f hl hg hc ho hnL hrm hre hct hex hq => ?_)
  subst hl
  subst hg
  unfold f_J13_checkIndex at hf
  refine j_iload_n (pc := 0) hc dJ13_checkIndex_0 0 rfl rfl ?_
  refine j_iload_n (pc := 1) hc dJ13_checkIndex_1 1 rfl rfl ?_
  refine j_null (pc := 2) hc dJ13_checkIndex_2 ?_
  obtain ⟨v2, T1, ev2, hf1⟩ := ob_c hf
  clear hf
  refine j_callS (pc := 3) (As := [vi x0, vi x1, vr none]) (rest := []) (st2 := [vi v2]) hc ho cw_J13_105 (c_J8_checkIndex ev2) hrm ⟨by decide, by decide⟩ rfl (Nat.le_of_ble_eq_true rfl) dJ13_checkIndex_3 rfl rfl ?_
  cases hf1
  exact j_iret (pc := 6) hc hq hre rfl dJ13_checkIndex_6
def f_J5_elementData (a0 : Nat) (x1 : Int32) (S : HS) : Option (Option Nat × HS) :=
  (g_fR S 12 139 a0).bind fun q1 =>
  (q1).bind fun a2 =>
  (g_aR S 35 a2 x1).bind fun q3 =>
  some (q3, S)
set_option maxRecDepth 100000 in
set_option maxHeartbeats 2000000 in
theorem c_J5_elementData {l : Launch} {g : PG} {mo : MO} {a0 : Nat} {x1 : Int32} {r : Option Nat} {S S1 : HS} (hf : f_J5_elementData a0 x1 S = some (r, S1)) : (h_nx S ≤ h_nx S1 ∧ h_sl S ≤ h_sl S1) ∧ Ct l g yJ5_elementData (ws_ yJ5_elementData cJ5_elementData 2 (some (.object "java/lang/Object"))) 1 60 S mo [vr (some a0), vi x1] (some (vr r)) S1 mo := by
  refine met_of false (by decide) (fun h => by first | rfl | cases h) rfl (Nat.le_of_ble_eq_true rfl) (fun f hl hg hc ho hnL hrm hre hct hex hq => ?_)
  subst hl
  subst hg
  unfold f_J5_elementData at hf
  refine j_aload_n (pc := 0) hc dJ5_elementData_0 0 rfl rfl ?_
  obtain ⟨q1, eq1, hf1⟩ := ob_i hf
  clear hf
  refine j_getR (pc := 1) hc ho fa_J5_9_12 dJ5_elementData_1 eq1 ?_
  refine j_iload_n (pc := 4) hc dJ5_elementData_4 1 rfl rfl ?_
  obtain ⟨a2, ea2, hf2⟩ := ob_i hf1
  clear hf1
  subst ea2
  obtain ⟨q3, eq3, hf3⟩ := ob_i hf2
  clear hf2
  refine j_aald (pc := 5) hc dJ5_elementData_5 (by decide) eq3 ?_
  cases hf3
  exact j_aret (pc := 6) hc hq hre (Or.inl ⟨_, rfl⟩) dJ5_elementData_6
theorem cw_J5_118 : CS "java/util/ArrayList" 118 yJ13_checkIndex cJ13_checkIndex 2 (some (.int)) 2 := ⟨⟨q893, q894, q106, q895⟩, by decide, by decide, by decide +kernel⟩
theorem cw_J5_123 : CV "java/util/ArrayList" 123 RJ5 yJ5_elementData cJ5_elementData 2 (some (.object "java/lang/Object")) 1 := ⟨⟨q897, q898, q899, q89, q900⟩, rfl, by decide, by decide, by decide +kernel⟩
def f_J5_get (a0 : Nat) (x1 : Int32) (S : HS) : Option (Option Nat × HS) :=
  (g_fI S 12 140 a0).bind fun v1 =>
  o_bd (f_J13_checkIndex x1 v1 S) fun v3 T2 =>
  (g_cls T2 12 a0).bind fun u4 =>
  o_bd (f_J5_elementData a0 x1 T2) fun q6 T5 =>
  some (q6, T5)
set_option maxRecDepth 100000 in
set_option maxHeartbeats 2000000 in
theorem c_J5_get {l : Launch} {g : PG} {mo : MO} {a0 : Nat} {x1 : Int32} {r : Option Nat} {S S1 : HS} (hf : f_J5_get a0 x1 S = some (r, S1)) : (h_nx S ≤ h_nx S1 ∧ h_sl S ≤ h_sl S1) ∧ Ct l g yJ5_get (ws_ yJ5_get cJ5_get 2 (some (.object "java/lang/Object"))) 3 103 S mo [vr (some a0), vi x1] (some (vr r)) S1 mo := by
  refine met_of false (by decide) (fun h => by first | rfl | cases h) rfl (Nat.le_of_ble_eq_true rfl) (fun f hl hg hc ho hnL hrm hre hct hex hq => ?_)
  subst hl
  subst hg
  unfold f_J5_get at hf
  refine j_iload_n (pc := 0) hc dJ5_get_0 1 rfl rfl ?_
  refine j_aload_n (pc := 1) hc dJ5_get_1 0 rfl rfl ?_
  obtain ⟨v1, ev1, hf1⟩ := ob_i hf
  clear hf
  refine j_getI (pc := 2) hc ho fa_J5_48_12 dJ5_get_2 ev1 ?_
  obtain ⟨v3, T2, ev3, hf2⟩ := ob_c hf1
  clear hf1
  refine j_callS (pc := 5) (As := [vi x1, vi v1]) (rest := []) (st2 := [vi v3]) hc ho cw_J5_118 (c_J13_checkIndex ev3) hrm ⟨by decide, by decide⟩ rfl (Nat.le_of_ble_eq_true rfl) dJ5_get_5 rfl rfl ?_
  refine j_pop (pc := 8) hc dJ5_get_8 rfl ?_
  refine j_aload_n (pc := 9) hc dJ5_get_9 0 rfl rfl ?_
  refine j_iload_n (pc := 10) hc dJ5_get_10 1 rfl rfl ?_
  obtain ⟨u4, eu4, hf3⟩ := ob_i hf2
  clear hf2
  obtain ⟨q6, T5, eq6, hf4⟩ := ob_c hf3
  clear hf3
  refine j_callV (pc := 11) (As := [vi x1]) (rest := []) (st2 := [vr q6]) hc ho cw_J5_123 (c_J5_elementData eq6) (Rc.of (g_cls_ok eu4) (by decide) (by decide) ci_J5) hrm ⟨by decide, by decide⟩ rfl (Nat.le_of_ble_eq_true rfl) dJ5_get_11 rfl rfl ?_
  cases hf4
  exact j_aret (pc := 14) hc hq hre (Or.inl ⟨_, rfl⟩) dJ5_get_14
def f_J5_size (a0 : Nat) (S : HS) : Option (Int32 × HS) :=
  (g_fI S 12 140 a0).bind fun v1 =>
  some (v1, S)
set_option maxRecDepth 100000 in
set_option maxHeartbeats 2000000 in
theorem c_J5_size {l : Launch} {g : PG} {mo : MO} {a0 : Nat} {r : Int32} {S S1 : HS} (hf : f_J5_size a0 S = some (r, S1)) : (h_nx S ≤ h_nx S1 ∧ h_sl S ≤ h_sl S1) ∧ Ct l g yJ5_size (ws_ yJ5_size cJ5_size 1 (some (.int))) 1 60 S mo [vr (some a0)] (some (vi r)) S1 mo := by
  refine met_of false (by decide) (fun h => by first | rfl | cases h) rfl (Nat.le_of_ble_eq_true rfl) (fun f hl hg hc ho hnL hrm hre hct hex hq => ?_)
  subst hl
  subst hg
  unfold f_J5_size at hf
  refine j_aload_n (pc := 0) hc dJ5_size_0 0 rfl rfl ?_
  obtain ⟨v1, ev1, hf1⟩ := ob_i hf
  clear hf
  refine j_getI (pc := 1) hc ho fa_J5_48_12 dJ5_size_1 ev1 ?_
  cases hf1
  exact j_iret (pc := 4) hc hq hre rfl dJ5_size_4
def f_J5_clear_n27 (a0 : Nat) : Nat → Option Nat → Int32 → Int32 → HS → Option HS
  | 0, _, _, _, _ => none
  | n + 1, r1, x2, x3, S =>
    if x2 ≤ x3 then
      some S
    else
      (r1).bind fun a1 =>
      (p_aS S 35 a1 x3 none).bind fun T2 =>
      (fun r1 x2 x3 S => f_J5_clear_n27 a0 n r1 x2 x3 S) (some a1) x2 (x3 + (1)) T2
def f_J5_clear (a0 : Nat) (S : HS) : Option HS :=
  (g_fI S 12 138 a0).bind fun v1 =>
  (p_fI S 12 138 a0 (v1 + (1))).bind fun T2 =>
  (g_fR T2 12 139 a0).bind fun q3 =>
  (g_fI T2 12 140 a0).bind fun v4 =>
  (p_fI T2 12 140 a0 (0)).bind fun T5 =>
  f_J5_clear_n27 a0 fu_ q3 v4 (0) T5
set_option maxRecDepth 100000 in
set_option maxHeartbeats 2000000 in
theorem w_J5_clear_n27 {f : CfT} {mo : MO} {a0 : Nat} {S1 : HS} (hc : cf_cc f = cJ5_clear) (ho : cf_ow f = "java/util/ArrayList") (hnL : cf_nL f = 4) (hrm : cf_rm f = (1, 60)) (hre : cf_re f = none) (hct : cf_ct f = false) (hq : Qok f none S1 mo) : ∀ (n : Nat) (r1 : Option Nat) (x2 : Int32) (x3 : Int32) (S : HS), f_J5_clear_n27 a0 n r1 x2 x3 S = some S1 → JJ f S mo 27 [(0, vr (some a0)), (1, vr r1), (2, vi x2), (3, vi x3)] [] := by
  intro n
  induction n with
  | zero =>
    intro r1 x2 x3 S hf
    have hf : (none : Option HS) = some S1 := hf
    cases hf
  | succ n ih =>
    intro r1 x2 x3 S hf
    unfold f_J5_clear_n27 at hf
    have hk_27 := ih
    refine j_iload_n (pc := 27) hc dJ5_clear_27 3 rfl rfl ?_
    refine j_iload_n (pc := 28) hc dJ5_clear_28 2 rfl rfl ?_
    refine j_icmp_ge (pc := 29) hc dJ5_clear_29 (tgt := 42) rfl (fun hh => ?_) (fun hh => ?_)
    · have hf1 := (if_pos hh).symm.trans hf
      clear hf
      cases hf1
      exact j_vret (pc := 42) hc hq hre dJ5_clear_42
    · have hf2 := (if_neg hh).symm.trans hf
      clear hf
      refine j_aload_n (pc := 32) hc dJ5_clear_32 1 rfl rfl ?_
      refine j_iload_n (pc := 33) hc dJ5_clear_33 3 rfl rfl ?_
      refine j_null (pc := 34) hc dJ5_clear_34 ?_
      obtain ⟨a1, ea1, hf3⟩ := ob_i hf2
      clear hf2
      subst ea1
      obtain ⟨T2, eT2, hf4⟩ := ob_i hf3
      clear hf3
      refine j_aast (pc := 35) hc dJ5_clear_35 (by decide) cast_35 eT2 ?_
      refine j_iinc (pc := 36) (L' := [(3, vi (x3 + (1))), (0, vr (some a0)), (1, vr (some a1)), (2, vi x2)]) (v := (x3 + (1))) hc dJ5_clear_36 3 rfl rfl hnL (by decide) rfl ?_
      refine j_goto (pc := 39) hc dJ5_clear_39 (tgt := 27) rfl ?_
      refine j_loc (L' := [(0, vr (some a0)), (1, vr (some a1)), (2, vi x2), (3, vi (x3 + (1)))]) [1, 2, 3, 0] rfl ?_
      exact hk_27 _ _ _ _ hf4
set_option maxRecDepth 100000 in
set_option maxHeartbeats 2000000 in
theorem c_J5_clear {l : Launch} {g : PG} {mo : MO} {a0 : Nat} {S S1 : HS} (hf : f_J5_clear a0 S = some S1) : (h_nx S ≤ h_nx S1 ∧ h_sl S ≤ h_sl S1) ∧ Ct l g yJ5_clear (ws_ yJ5_clear cJ5_clear 4 none) 1 60 S mo [vr (some a0)] none S1 mo := by
  refine met_of false (by decide) (fun h => by first | rfl | cases h) rfl (Nat.le_of_ble_eq_true rfl) (fun f hl hg hc ho hnL hrm hre hct hex hq => ?_)
  subst hl
  subst hg
  unfold f_J5_clear at hf
  refine j_aload_n (pc := 0) hc dJ5_clear_0 0 rfl rfl ?_
  refine j_dup (pc := 1) hc dJ5_clear_1 rfl ?_
  obtain ⟨v1, ev1, hf1⟩ := ob_i hf
  clear hf
  refine j_getI (pc := 2) hc ho fa_J5_63_12 dJ5_clear_2 ev1 ?_
  refine j_iconst (pc := 5) (v := (1)) hc dJ5_clear_5 rfl ?_
  refine j_iadd (pc := 6) hc dJ5_clear_6 ?_
  obtain ⟨T2, eT2, hf2⟩ := ob_i hf1
  clear hf1
  refine j_putI (pc := 7) hc ho fa_J5_63_12 (Or.inl rfl) dJ5_clear_7 eT2 ?_
  refine j_aload_n (pc := 10) hc dJ5_clear_10 0 rfl rfl ?_
  obtain ⟨q3, eq3, hf3⟩ := ob_i hf2
  clear hf2
  refine j_getR (pc := 11) hc ho fa_J5_9_12 dJ5_clear_11 eq3 ?_
  refine j_astore_n (pc := 14) (L' := [(1, vr q3), (0, vr (some a0))]) hc dJ5_clear_14 rfl hnL (by decide) rfl ?_
  refine j_aload_n (pc := 15) hc dJ5_clear_15 1 rfl rfl ?_
  obtain ⟨v4, ev4, hf4⟩ := ob_i hf3
  clear hf3
  refine j_getI (pc := 16) hc ho fa_J5_48_12 dJ5_clear_16 ev4 ?_
  refine j_istore_n (pc := 19) (L' := [(2, vi v4), (1, vr q3), (0, vr (some a0))]) hc dJ5_clear_19 rfl hnL (by decide) rfl ?_
  refine j_aload_n (pc := 20) hc dJ5_clear_20 2 rfl rfl ?_
  refine j_iconst (pc := 21) (v := (0)) hc dJ5_clear_21 rfl ?_
  refine j_dup_x1 (pc := 22) hc dJ5_clear_22 rfl rfl ?_
  obtain ⟨T5, eT5, hf5⟩ := ob_i hf4
  clear hf4
  refine j_putI (pc := 23) hc ho fa_J5_48_12 (Or.inl rfl) dJ5_clear_23 eT5 ?_
  refine j_istore_n (pc := 26) (L' := [(3, vi (0)), (2, vi v4), (1, vr q3), (0, vr (some a0))]) hc dJ5_clear_26 rfl hnL (by decide) rfl ?_
  refine j_loc (L' := [(0, vr (some a0)), (1, vr q3), (2, vi v4), (3, vi (0))]) [3, 2, 1, 0] rfl ?_
  exact w_J5_clear_n27 hc ho hnL hrm hre hct hq fu_ _ _ _ _ hf5
def f_J9_equals_n9 : Nat → Option Nat → Option Nat → Int32 → HS → Option (Int32 × HS)
  | 0, _, _, _, _ => none
  | n + 1, r0, r1, x2, S =>
    (r0).bind fun a1 =>
    (g_len S 32 a1).bind fun v2 =>
    if v2 ≤ x2 then
      some ((1), S)
    else
      (g_aI S 32 a1 x2).bind fun v3 =>
      (r1).bind fun a4 =>
      (g_aI S 32 a4 x2).bind fun v5 =>
      if v3 = v5 then
        (fun r0 r1 x2 S => f_J9_equals_n9 n r0 r1 x2 S) (some a1) (some a4) (x2 + (1)) S
      else
        some ((0), S)
def f_J9_equals (r0 : Option Nat) (r1 : Option Nat) (S : HS) : Option (Int32 × HS) :=
  (r0).bind fun a1 =>
  (g_len S 32 a1).bind fun v2 =>
  (r1).bind fun a3 =>
  (g_len S 32 a3).bind fun v4 =>
  if v2 = v4 then
    f_J9_equals_n9 fu_ (some a1) (some a3) (0) S
  else
    some ((0), S)
set_option maxRecDepth 100000 in
set_option maxHeartbeats 2000000 in
theorem w_J9_equals_n9 {f : CfT} {mo : MO} {r : Int32} {S1 : HS} (hc : cf_cc f = cJ9_equals) (ho : cf_ow f = "java/lang/StringLatin1") (hnL : cf_nL f = 3) (hrm : cf_rm f = (1, 60)) (hre : cf_re f = (some (.boolean))) (hct : cf_ct f = false) (hq : Qok f (some (vi r)) S1 mo) : ∀ (n : Nat) (r0 : Option Nat) (r1 : Option Nat) (x2 : Int32) (S : HS), f_J9_equals_n9 n r0 r1 x2 S = some (r, S1) → JJ f S mo 9 [(0, vr r0), (1, vr r1), (2, vi x2)] [] := by
  intro n
  induction n with
  | zero =>
    intro r0 r1 x2 S hf
    have hf : (none : Option (Int32 × HS)) = some (r, S1) := hf
    cases hf
  | succ n ih =>
    intro r0 r1 x2 S hf
    unfold f_J9_equals_n9 at hf
    have hk_9 := ih
    refine j_iload_n (pc := 9) hc dJ9_equals_9 2 rfl rfl ?_
    refine j_aload_n (pc := 10) hc dJ9_equals_10 0 rfl rfl ?_
    obtain ⟨a1, ea1, hf1⟩ := ob_i hf
    clear hf
    subst ea1
    obtain ⟨v2, ev2, hf2⟩ := ob_i hf1
    clear hf1
    refine j_alen (pc := 11) hc dJ9_equals_11 (by decide) ev2 ?_
    refine j_icmp_ge (pc := 12) hc dJ9_equals_12 (tgt := 32) rfl (fun hh => ?_) (fun hh => ?_)
    · have hf3 := (if_pos hh).symm.trans hf2
      clear hf2
      refine j_iconst (pc := 32) (v := (1)) hc dJ9_equals_32 rfl ?_
      cases hf3
      exact j_iret (pc := 33) hc hq hre rfl dJ9_equals_33
    · have hf4 := (if_neg hh).symm.trans hf2
      clear hf2
      refine j_aload_n (pc := 15) hc dJ9_equals_15 0 rfl rfl ?_
      refine j_iload_n (pc := 16) hc dJ9_equals_16 2 rfl rfl ?_
      obtain ⟨v3, ev3, hf5⟩ := ob_i hf4
      clear hf4
      refine j_bald (pc := 17) hc dJ9_equals_17 ev3 ?_
      refine j_aload_n (pc := 18) hc dJ9_equals_18 1 rfl rfl ?_
      refine j_iload_n (pc := 19) hc dJ9_equals_19 2 rfl rfl ?_
      obtain ⟨a4, ea4, hf6⟩ := ob_i hf5
      clear hf5
      subst ea4
      obtain ⟨v5, ev5, hf7⟩ := ob_i hf6
      clear hf6
      refine j_bald (pc := 20) hc dJ9_equals_20 ev5 ?_
      refine j_icmp_eq (pc := 21) hc dJ9_equals_21 (tgt := 26) rfl (fun hh => ?_) (fun hh => ?_)
      · have hf8 := (if_pos hh).symm.trans hf7
        clear hf7
        refine j_iinc (pc := 26) (L' := [(2, vi (x2 + (1))), (0, vr (some a1)), (1, vr (some a4))]) (v := (x2 + (1))) hc dJ9_equals_26 2 rfl rfl hnL (by decide) rfl ?_
        refine j_goto (pc := 29) hc dJ9_equals_29 (tgt := 9) rfl ?_
        refine j_loc (L' := [(0, vr (some a1)), (1, vr (some a4)), (2, vi (x2 + (1)))]) [1, 2, 0] rfl ?_
        exact hk_9 _ _ _ _ hf8
      · have hf9 := (if_neg hh).symm.trans hf7
        clear hf7
        refine j_iconst (pc := 24) (v := (0)) hc dJ9_equals_24 rfl ?_
        cases hf9
        exact j_iret (pc := 25) hc hq hre rfl dJ9_equals_25
set_option maxRecDepth 100000 in
set_option maxHeartbeats 2000000 in
theorem c_J9_equals {l : Launch} {g : PG} {mo : MO} {r0 : Option Nat} {r1 : Option Nat} {r : Int32} {S S1 : HS} (hf : f_J9_equals r0 r1 S = some (r, S1)) : (h_nx S ≤ h_nx S1 ∧ h_sl S ≤ h_sl S1) ∧ Ct l g yJ9_equals (ws_ yJ9_equals cJ9_equals 3 (some (.boolean))) 1 60 S mo [vr r0, vr r1] (some (vi r)) S1 mo := by
  refine met_of false (by decide) (fun h => by first | rfl | cases h) rfl (Nat.le_of_ble_eq_true rfl) (fun f hl hg hc ho hnL hrm hre hct hex hq => ?_)
  subst hl
  subst hg
  unfold f_J9_equals at hf
  refine j_aload_n (pc := 0) hc dJ9_equals_0 0 rfl rfl ?_
  obtain ⟨a1, ea1, hf1⟩ := ob_i hf
  clear hf
  subst ea1
  obtain ⟨v2, ev2, hf2⟩ := ob_i hf1
  clear hf1
  refine j_alen (pc := 1) hc dJ9_equals_1 (by decide) ev2 ?_
  refine j_aload_n (pc := 2) hc dJ9_equals_2 1 rfl rfl ?_
  obtain ⟨a3, ea3, hf3⟩ := ob_i hf2
  clear hf2
  subst ea3
  obtain ⟨v4, ev4, hf4⟩ := ob_i hf3
  clear hf3
  refine j_alen (pc := 3) hc dJ9_equals_3 (by decide) ev4 ?_
  refine j_icmp_ne (pc := 4) hc dJ9_equals_4 (tgt := 34) rfl (fun hh => ?_) (fun hh => ?_)
  · have hf5 := (if_neg hh).symm.trans hf4
    clear hf4
    refine j_iconst (pc := 34) (v := (0)) hc dJ9_equals_34 rfl ?_
    cases hf5
    exact j_iret (pc := 35) hc hq hre rfl dJ9_equals_35
  · have hf6 := (if_pos hh).symm.trans hf4
    clear hf4
    refine j_iconst (pc := 7) (v := (0)) hc dJ9_equals_7 rfl ?_
    refine j_istore_n (pc := 8) (L' := [(2, vi (0)), (0, vr (some a1)), (1, vr (some a3))]) hc dJ9_equals_8 rfl hnL (by decide) rfl ?_
    refine j_loc (L' := [(0, vr (some a1)), (1, vr (some a3)), (2, vi (0))]) [1, 2, 0] rfl ?_
    exact w_J9_equals_n9 hc ho hnL hrm hre hct hq fu_ _ _ _ _ hf6
theorem CI_J6 : CI 13 RJ6 TJ6 4 tyJ6 := ⟨ci_J6, by decide, by decide, in_J6, tyJ6_ok, nmJ6⟩
theorem fa_J6_9_13 : FA "java/lang/String" 9 13 2 141 (.array .byte) 2 := ⟨RJ6, TJ6, 4, tyJ6, 0, "java/lang/String", CI_J6, by decide, rfl, rfl, by decide +kernel, Or.inl ⟨q443, fun _ => ⟨rfl, rfl⟩⟩, fun h => (by cases h), Or.inl rfl⟩
theorem cw_J6_541 : CS "java/lang/String" 541 yJ9_equals cJ9_equals 3 (some (.boolean)) 2 := ⟨⟨q460, q461, q94, q462⟩, by decide, by decide, by decide +kernel⟩
theorem fc_J6_10_13 : FC "java/lang/String" 10 [13] := ⟨"java/lang/String", q384, fun c h => by
  cases List.mem_singleton.mp h
  exact ⟨by decide, by decide, _, ci_J6, Or.inl rfl⟩⟩
theorem fa_J6_15_13 : FA "java/lang/String" 15 13 0 142 (.byte) 2 := ⟨RJ6, TJ6, 4, tyJ6, 1, "java/lang/String", CI_J6, by decide, rfl, rfl, by decide +kernel, Or.inl ⟨q444, fun _ => ⟨rfl, rfl⟩⟩, fun h => (by cases h), Or.inl rfl⟩
def f_J6_equals_n36 (a0 : Nat) (r2 : Option Nat) (S : HS) : Option (Int32 × HS) :=
  (g_fR S 13 141 a0).bind fun q1 =>
  (r2).bind fun a2 =>
  (g_fR S 13 141 a2).bind fun q3 =>
  o_bd (f_J9_equals q1 q3 S) fun v5 T4 =>
  if v5 = 0 then
    some ((0), T4)
  else
    some ((1), T4)
def f_J6_equals (a0 : Nat) (r1 : Option Nat) (S : HS) : Option (Int32 × HS) :=
  if (some a0) = r1 then
    some ((1), S)
  else
    (r1).bind fun a1 =>
    (g_cls S 13 a1).bind fun u2 =>
    (g_cast S [13] (some a1)).bind fun u3 =>
    (g_fI S 13 142 a0).bind fun v4 =>
    (g_fI S 13 142 a1).bind fun v5 =>
    if v4 = v5 then
      f_J6_equals_n36 a0 (some a1) S
    else
      some ((0), S)
set_option maxRecDepth 100000 in
set_option maxHeartbeats 2000000 in
theorem w_J6_equals_n36 {f : CfT} {mo : MO} {a0 : Nat} {r : Int32} {S1 : HS} (hc : cf_cc f = cJ6_equals) (ho : cf_ow f = "java/lang/String") (hnL : cf_nL f = 3) (hrm : cf_rm f = (2, 82)) (hre : cf_re f = (some (.boolean))) (hct : cf_ct f = false) (hq : Qok f (some (vi r)) S1 mo) {r2 : Option Nat} {S : HS} (hf : f_J6_equals_n36 a0 r2 S = some (r, S1)) : JJ f S mo 36 [(0, vr (some a0)), (2, vr r2)] [] := by
  unfold f_J6_equals_n36 at hf
  refine j_aload_n (pc := 36) hc dJ6_equals_36 0 rfl rfl ?_
  obtain ⟨q1, eq1, hf1⟩ := ob_i hf
  clear hf
  refine j_getR (pc := 37) hc ho fa_J6_9_13 dJ6_equals_37 eq1 ?_
  refine j_aload_n (pc := 40) hc dJ6_equals_40 1 rfl rfl ?_
  obtain ⟨a2, ea2, hf2⟩ := ob_i hf1
  clear hf1
  subst ea2
  obtain ⟨q3, eq3, hf3⟩ := ob_i hf2
  clear hf2
  refine j_getR (pc := 41) hc ho fa_J6_9_13 dJ6_equals_41 eq3 ?_
  obtain ⟨v5, T4, ev5, hf4⟩ := ob_c hf3
  clear hf3
  refine j_callS (pc := 44) (As := [vr q1, vr q3]) (rest := []) (st2 := [vi v5]) hc ho cw_J6_541 (c_J9_equals ev5) hrm ⟨by decide, by decide⟩ rfl (Nat.le_of_ble_eq_true rfl) dJ6_equals_44 rfl rfl ?_
  refine j_if_eq (pc := 47) hc dJ6_equals_47 (tgt := 54) rfl (fun hh => ?_) (fun hh => ?_)
  · have hf5 := (if_pos hh).symm.trans hf4
    clear hf4
    refine j_iconst (pc := 54) (v := (0)) hc dJ6_equals_54 rfl ?_
    cases hf5
    exact j_iret (pc := 55) hc hq hre rfl dJ6_equals_55
  · have hf6 := (if_neg hh).symm.trans hf4
    clear hf4
    refine j_iconst (pc := 50) (v := (1)) hc dJ6_equals_50 rfl ?_
    refine j_goto (pc := 51) hc dJ6_equals_51 (tgt := 55) rfl ?_
    cases hf6
    exact j_iret (pc := 55) hc hq hre rfl dJ6_equals_55
set_option maxRecDepth 100000 in
set_option maxHeartbeats 2000000 in
theorem c_J6_equals {l : Launch} {g : PG} {mo : MO} {a0 : Nat} {r1 : Option Nat} {r : Int32} {S S1 : HS} (hf : f_J6_equals a0 r1 S = some (r, S1)) : (h_nx S ≤ h_nx S1 ∧ h_sl S ≤ h_sl S1) ∧ Ct l g yJ6_equals (ws_ yJ6_equals cJ6_equals 3 (some (.boolean))) 2 82 S mo [vr (some a0), vr r1] (some (vi r)) S1 mo := by
  refine met_of false (by decide) (fun h => by first | rfl | cases h) rfl (Nat.le_of_ble_eq_true rfl) (fun f hl hg hc ho hnL hrm hre hct hex hq => ?_)
  subst hl
  subst hg
  unfold f_J6_equals at hf
  refine j_aload_n (pc := 0) hc dJ6_equals_0 0 rfl rfl ?_
  refine j_aload_n (pc := 1) hc dJ6_equals_1 1 rfl rfl ?_
  refine j_acmp_ne (pc := 2) hc dJ6_equals_2 (tgt := 7) rfl (fun hh => ?_) (fun hh => ?_)
  · have hf1 := (if_neg hh).symm.trans hf
    clear hf
    refine j_aload_n (pc := 7) hc dJ6_equals_7 1 rfl rfl ?_
    obtain ⟨a1, ea1, hf2⟩ := ob_i hf1
    clear hf1
    subst ea1
    obtain ⟨u2, eu2, hf3⟩ := ob_i hf2
    clear hf2
    refine j_inst (pc := 8) hc ho fc_J6_10_13 (fun _ _ _ _ => Or.inr trivial) dJ6_equals_8 (g_cls_ok eu2) ?_
    refine j_if_eq (pc := 11) hc dJ6_equals_11 (tgt := 54) rfl (fun hh => ?_) (fun hh => ?_)
    · exact absurd hh (by decide)
    · clear hh
      refine j_aload_n (pc := 14) hc dJ6_equals_14 1 rfl rfl ?_
      obtain ⟨u3, eu3, hf4⟩ := ob_i hf3
      clear hf3
      refine j_ccast (pc := 15) hc ho fc_J6_10_13 dJ6_equals_15 eu3 ?_
      refine j_astore_n (pc := 18) (L' := [(2, vr (some a1)), (0, vr (some a0)), (1, vr (some a1))]) hc dJ6_equals_18 rfl hnL (by decide) rfl ?_
      refine j_gets (pc := 19) (v := vi (1)) hc ho q375 zs_comp dJ6_equals_19 ?_
      refine j_if_eq (pc := 22) hc dJ6_equals_22 (tgt := 36) rfl (fun hh => ?_) (fun hh => ?_)
      · exact absurd hh (by decide)
      · clear hh
        refine j_aload_n (pc := 25) hc dJ6_equals_25 1 rfl rfl ?_
        obtain ⟨v4, ev4, hf5⟩ := ob_i hf4
        clear hf4
        refine j_getI (pc := 26) hc ho fa_J6_15_13 dJ6_equals_26 ev4 ?_
        refine j_aload_n (pc := 29) hc dJ6_equals_29 0 rfl rfl ?_
        obtain ⟨v5, ev5, hf6⟩ := ob_i hf5
        clear hf5
        refine j_getI (pc := 30) hc ho fa_J6_15_13 dJ6_equals_30 ev5 ?_
        refine j_icmp_ne (pc := 33) hc dJ6_equals_33 (tgt := 54) rfl (fun hh => ?_) (fun hh => ?_)
        · have hf7 := (if_neg hh).symm.trans hf6
          clear hf6
          refine j_iconst (pc := 54) (v := (0)) hc dJ6_equals_54 rfl ?_
          cases hf7
          exact j_iret (pc := 55) hc hq hre rfl dJ6_equals_55
        · have hf8 := (if_pos hh).symm.trans hf6
          clear hf6
          refine j_loc (L' := [(0, vr (some a0)), (2, vr (some a1))]) [1, 0] rfl ?_
          exact w_J6_equals_n36 hc ho hnL hrm hre hct hq hf8
  · have hf9 := (if_pos hh).symm.trans hf
    clear hf
    refine j_iconst (pc := 5) (v := (1)) hc dJ6_equals_5 rfl ?_
    cases hf9
    exact j_iret (pc := 6) hc hq hre rfl dJ6_equals_6
theorem cu_J5_93_J6 : CU "java/util/ArrayList" 93 "java/lang/String" ⟨"java/lang/Object", "equals", "(Ljava/lang/Object;)Z"⟩ yJ6_equals cJ6_equals 3 (some (.boolean)) 1 := ⟨⟨q910, q912, q924, q457, q91, q459⟩, Or.inl ⟨q911, _, _, _, q926⟩, by decide, by decide, by decide +kernel⟩
def f_J5_indexOfRange_n13 (a0 : Nat) : Nat → Int32 → Option Nat → Int32 → HS → Option (Int32 × HS)
  | 0, _, _, _, _ => none
  | n + 1, x3, r4, x5, S =>
    if x3 ≤ x5 then
      some ((-1), S)
    else
      (r4).bind fun a1 =>
      (g_aR S 35 a1 x5).bind fun q2 =>
      o_case q2 (
        some (x5, S)
      ) (fun a3 =>
        (fun x3 r4 x5 S => f_J5_indexOfRange_n13 a0 n x3 r4 x5 S) x3 (some a1) (x5 + (1)) S
      )
def f_J5_indexOfRange_n42 (a0 : Nat) : Nat → Option Nat → Int32 → Option Nat → Int32 → HS → Option (Int32 × HS)
  | 0, _, _, _, _, _ => none
  | n + 1, r1, x3, r4, x5, S =>
    if x3 ≤ x5 then
      some ((-1), S)
    else
      (r4).bind fun a1 =>
      (g_aR S 35 a1 x5).bind fun q2 =>
      (r1).bind fun a3 =>
      if h_cl S a3 = 13 then
        o_bd (f_J6_equals a3 q2 S) fun v5 T4 =>
        if v5 = 0 then
          (fun r1 x3 r4 x5 S => f_J5_indexOfRange_n42 a0 n r1 x3 r4 x5 S) (some a3) x3 (some a1) (x5 + (1)) T4
        else
          some (x5, T4)
      else
        none
def f_J5_indexOfRange (a0 : Nat) (r1 : Option Nat) (x2 : Int32) (x3 : Int32) (S : HS) : Option (Int32 × HS) :=
  (g_fR S 12 139 a0).bind fun q1 =>
  o_case r1 (
    f_J5_indexOfRange_n13 a0 fu_ x3 q1 x2 S
  ) (fun a2 =>
    f_J5_indexOfRange_n42 a0 fu_ (some a2) x3 q1 x2 S
  )
set_option maxRecDepth 100000 in
set_option maxHeartbeats 2000000 in
theorem w_J5_indexOfRange_n13 {f : CfT} {mo : MO} {a0 : Nat} {r : Int32} {S1 : HS} (hc : cf_cc f = cJ5_indexOfRange) (ho : cf_ow f = "java/util/ArrayList") (hnL : cf_nL f = 6) (hrm : cf_rm f = (3, 104)) (hre : cf_re f = (some (.int))) (hct : cf_ct f = false) (hq : Qok f (some (vi r)) S1 mo) : ∀ (n : Nat) (x3 : Int32) (r4 : Option Nat) (x5 : Int32) (S : HS), f_J5_indexOfRange_n13 a0 n x3 r4 x5 S = some (r, S1) → JJ f S mo 13 [(0, vr (some a0)), (3, vi x3), (4, vr r4), (5, vi x5)] [] := by
  intro n
  induction n with
  | zero =>
    intro x3 r4 x5 S hf
    have hf : (none : Option (Int32 × HS)) = some (r, S1) := hf
    cases hf
  | succ n ih =>
    intro x3 r4 x5 S hf
    unfold f_J5_indexOfRange_n13 at hf
    have hk_13 := ih
    refine j_iload (pc := 13) hc dJ5_indexOfRange_13 3 rfl ?_
    refine j_iload_n (pc := 15) hc dJ5_indexOfRange_15 1 rfl rfl ?_
    refine j_icmp_ge (pc := 16) hc dJ5_indexOfRange_16 (tgt := 36) rfl (fun hh => ?_) (fun hh => ?_)
    · have hf1 := (if_pos hh).symm.trans hf
      clear hf
      refine j_goto (pc := 36) hc dJ5_indexOfRange_36 (tgt := 69) rfl ?_
      refine j_iconst (pc := 69) (v := (-1)) hc dJ5_indexOfRange_69 rfl ?_
      cases hf1
      exact j_iret (pc := 70) hc hq hre rfl dJ5_indexOfRange_70
    · have hf2 := (if_neg hh).symm.trans hf
      clear hf
      refine j_aload (pc := 19) hc dJ5_indexOfRange_19 2 rfl ?_
      refine j_iload (pc := 21) hc dJ5_indexOfRange_21 3 rfl ?_
      obtain ⟨a1, ea1, hf3⟩ := ob_i hf2
      clear hf2
      subst ea1
      obtain ⟨q2, eq2, hf4⟩ := ob_i hf3
      clear hf3
      refine j_aald (pc := 23) hc dJ5_indexOfRange_23 (by decide) eq2 ?_
      refine j_ifnonnull (pc := 24) hc dJ5_indexOfRange_24 (tgt := 30) rfl (fun a3 hh => ?_) (fun hh => ?_)
      · subst hh
        refine j_iinc (pc := 30) (L' := [(5, vi (x5 + (1))), (0, vr (some a0)), (3, vi x3), (4, vr (some a1))]) (v := (x5 + (1))) hc dJ5_indexOfRange_30 3 rfl rfl hnL (by decide) rfl ?_
        refine j_goto (pc := 33) hc dJ5_indexOfRange_33 (tgt := 13) rfl ?_
        refine j_loc (L' := [(0, vr (some a0)), (3, vi x3), (4, vr (some a1)), (5, vi (x5 + (1)))]) [1, 2, 3, 0] rfl ?_
        exact hk_13 _ _ _ _ hf4
      · subst hh
        refine j_iload (pc := 27) hc dJ5_indexOfRange_27 3 rfl ?_
        cases hf4
        exact j_iret (pc := 29) hc hq hre rfl dJ5_indexOfRange_29
set_option maxRecDepth 100000 in
set_option maxHeartbeats 2000000 in
theorem w_J5_indexOfRange_n42 {f : CfT} {mo : MO} {a0 : Nat} {r : Int32} {S1 : HS} (hc : cf_cc f = cJ5_indexOfRange) (ho : cf_ow f = "java/util/ArrayList") (hnL : cf_nL f = 6) (hrm : cf_rm f = (3, 104)) (hre : cf_re f = (some (.int))) (hct : cf_ct f = false) (hq : Qok f (some (vi r)) S1 mo) : ∀ (n : Nat) (r1 : Option Nat) (x3 : Int32) (r4 : Option Nat) (x5 : Int32) (S : HS), f_J5_indexOfRange_n42 a0 n r1 x3 r4 x5 S = some (r, S1) → JJ f S mo 42 [(0, vr (some a0)), (1, vr r1), (3, vi x3), (4, vr r4), (5, vi x5)] [] := by
  intro n
  induction n with
  | zero =>
    intro r1 x3 r4 x5 S hf
    have hf : (none : Option (Int32 × HS)) = some (r, S1) := hf
    cases hf
  | succ n ih =>
    intro r1 x3 r4 x5 S hf
    unfold f_J5_indexOfRange_n42 at hf
    have hk_42 := ih
    refine j_iload (pc := 42) hc dJ5_indexOfRange_42 4 rfl ?_
    refine j_iload_n (pc := 44) hc dJ5_indexOfRange_44 2 rfl rfl ?_
    refine j_icmp_ge (pc := 45) hc dJ5_indexOfRange_45 (tgt := 69) rfl (fun hh => ?_) (fun hh => ?_)
    · have hf1 := (if_pos hh).symm.trans hf
      clear hf
      refine j_iconst (pc := 69) (v := (-1)) hc dJ5_indexOfRange_69 rfl ?_
      cases hf1
      exact j_iret (pc := 70) hc hq hre rfl dJ5_indexOfRange_70
    · have hf2 := (if_neg hh).symm.trans hf
      clear hf
      refine j_aload_n (pc := 48) hc dJ5_indexOfRange_48 1 rfl rfl ?_
      refine j_aload (pc := 49) hc dJ5_indexOfRange_49 3 rfl ?_
      refine j_iload (pc := 51) hc dJ5_indexOfRange_51 4 rfl ?_
      obtain ⟨a1, ea1, hf3⟩ := ob_i hf2
      clear hf2
      subst ea1
      obtain ⟨q2, eq2, hf4⟩ := ob_i hf3
      clear hf3
      refine j_aald (pc := 53) hc dJ5_indexOfRange_53 (by decide) eq2 ?_
      obtain ⟨a3, ea3, hf5⟩ := ob_i hf4
      clear hf4
      subst ea3
      by_cases hk : h_cl S a3 = 13
      · have hf6 := (if_pos hk).symm.trans hf5
        clear hf5
        obtain ⟨v5, T4, ev5, hf7⟩ := ob_c hf6
        clear hf6
        refine j_callU (pc := 54) (As := [vr q2]) (rest := []) (st2 := [vi v5]) hc ho cu_J5_93_J6 (c_J6_equals ev5) (Rc.of hk (by decide) (by decide) ci_J6) hrm ⟨by decide, by decide⟩ rfl (Nat.le_of_ble_eq_true rfl) dJ5_indexOfRange_54 rfl rfl ?_
        refine j_if_eq (pc := 57) hc dJ5_indexOfRange_57 (tgt := 63) rfl (fun hh => ?_) (fun hh => ?_)
        · have hf8 := (if_pos hh).symm.trans hf7
          clear hf7
          refine j_iinc (pc := 63) (L' := [(5, vi (x5 + (1))), (0, vr (some a0)), (1, vr (some a3)), (3, vi x3), (4, vr (some a1))]) (v := (x5 + (1))) hc dJ5_indexOfRange_63 4 rfl rfl hnL (by decide) rfl ?_
          refine j_goto (pc := 66) hc dJ5_indexOfRange_66 (tgt := 42) rfl ?_
          refine j_loc (L' := [(0, vr (some a0)), (1, vr (some a3)), (3, vi x3), (4, vr (some a1)), (5, vi (x5 + (1)))]) [1, 2, 3, 4, 0] rfl ?_
          exact hk_42 _ _ _ _ _ hf8
        · have hf9 := (if_neg hh).symm.trans hf7
          clear hf7
          refine j_iload (pc := 60) hc dJ5_indexOfRange_60 4 rfl ?_
          cases hf9
          exact j_iret (pc := 62) hc hq hre rfl dJ5_indexOfRange_62
      · have hf10 := (if_neg hk).symm.trans hf5
        clear hf5
        cases hf10
set_option maxRecDepth 100000 in
set_option maxHeartbeats 2000000 in
theorem c_J5_indexOfRange {l : Launch} {g : PG} {mo : MO} {a0 : Nat} {r1 : Option Nat} {x2 : Int32} {x3 : Int32} {r : Int32} {S S1 : HS} (hf : f_J5_indexOfRange a0 r1 x2 x3 S = some (r, S1)) : (h_nx S ≤ h_nx S1 ∧ h_sl S ≤ h_sl S1) ∧ Ct l g yJ5_indexOfRange (ws_ yJ5_indexOfRange cJ5_indexOfRange 6 (some (.int))) 3 104 S mo [vr (some a0), vr r1, vi x2, vi x3] (some (vi r)) S1 mo := by
  refine met_of false (by decide) (fun h => by first | rfl | cases h) rfl (Nat.le_of_ble_eq_true rfl) (fun f hl hg hc ho hnL hrm hre hct hex hq => ?_)
  subst hl
  subst hg
  unfold f_J5_indexOfRange at hf
  refine j_aload_n (pc := 0) hc dJ5_indexOfRange_0 0 rfl rfl ?_
  obtain ⟨q1, eq1, hf1⟩ := ob_i hf
  clear hf
  refine j_getR (pc := 1) hc ho fa_J5_9_12 dJ5_indexOfRange_1 eq1 ?_
  refine j_astore (pc := 4) (L' := [(4, vr q1), (0, vr (some a0)), (1, vr r1), (2, vi x2), (3, vi x3)]) hc dJ5_indexOfRange_4 hnL (by decide) rfl ?_
  refine j_aload_n (pc := 6) hc dJ5_indexOfRange_6 2 rfl rfl ?_
  refine j_ifnonnull (pc := 7) hc dJ5_indexOfRange_7 (tgt := 39) rfl (fun a2 hh => ?_) (fun hh => ?_)
  · subst hh
    refine j_iload_n (pc := 39) hc dJ5_indexOfRange_39 3 rfl rfl ?_
    refine j_istore (pc := 40) (L' := [(5, vi x2), (4, vr q1), (0, vr (some a0)), (1, vr (some a2)), (2, vi x2), (3, vi x3)]) hc dJ5_indexOfRange_40 hnL (by decide) rfl ?_
    refine j_loc (L' := [(0, vr (some a0)), (1, vr (some a2)), (3, vi x3), (4, vr q1), (5, vi x2)]) [2, 3, 5, 1, 0] rfl ?_
    exact w_J5_indexOfRange_n42 hc ho hnL hrm hre hct hq fu_ _ _ _ _ _ hf1
  · subst hh
    refine j_iload_n (pc := 10) hc dJ5_indexOfRange_10 3 rfl rfl ?_
    refine j_istore (pc := 11) (L' := [(5, vi x2), (4, vr q1), (0, vr (some a0)), (1, vr none), (2, vi x2), (3, vi x3)]) hc dJ5_indexOfRange_11 hnL (by decide) rfl ?_
    refine j_loc (L' := [(0, vr (some a0)), (3, vi x3), (4, vr q1), (5, vi x2)]) [2, 5, 1, 0] rfl ?_
    exact w_J5_indexOfRange_n13 hc ho hnL hrm hre hct hq fu_ _ _ _ _ hf1
theorem cw_J5_89 : CV "java/util/ArrayList" 89 RJ5 yJ5_indexOfRange cJ5_indexOfRange 6 (some (.int)) 3 := ⟨⟨q905, q906, q907, q89, q908⟩, rfl, by decide, by decide, by decide +kernel⟩
def f_J5_indexOf (a0 : Nat) (r1 : Option Nat) (S : HS) : Option (Int32 × HS) :=
  (g_fI S 12 140 a0).bind fun v1 =>
  (g_cls S 12 a0).bind fun u2 =>
  o_bd (f_J5_indexOfRange a0 r1 (0) v1 S) fun v4 T3 =>
  some (v4, T3)
set_option maxRecDepth 100000 in
set_option maxHeartbeats 2000000 in
theorem c_J5_indexOf {l : Launch} {g : PG} {mo : MO} {a0 : Nat} {r1 : Option Nat} {r : Int32} {S S1 : HS} (hf : f_J5_indexOf a0 r1 S = some (r, S1)) : (h_nx S ≤ h_nx S1 ∧ h_sl S ≤ h_sl S1) ∧ Ct l g yJ5_indexOf (ws_ yJ5_indexOf cJ5_indexOf 2 (some (.int))) 4 129 S mo [vr (some a0), vr r1] (some (vi r)) S1 mo := by
  refine met_of false (by decide) (fun h => by first | rfl | cases h) rfl (Nat.le_of_ble_eq_true rfl) (fun f hl hg hc ho hnL hrm hre hct hex hq => ?_)
  subst hl
  subst hg
  unfold f_J5_indexOf at hf
  refine j_aload_n (pc := 0) hc dJ5_indexOf_0 0 rfl rfl ?_
  refine j_aload_n (pc := 1) hc dJ5_indexOf_1 1 rfl rfl ?_
  refine j_iconst (pc := 2) (v := (0)) hc dJ5_indexOf_2 rfl ?_
  refine j_aload_n (pc := 3) hc dJ5_indexOf_3 0 rfl rfl ?_
  obtain ⟨v1, ev1, hf1⟩ := ob_i hf
  clear hf
  refine j_getI (pc := 4) hc ho fa_J5_48_12 dJ5_indexOf_4 ev1 ?_
  obtain ⟨u2, eu2, hf2⟩ := ob_i hf1
  clear hf1
  obtain ⟨v4, T3, ev4, hf3⟩ := ob_c hf2
  clear hf2
  refine j_callV (pc := 7) (As := [vr r1, vi (0), vi v1]) (rest := []) (st2 := [vi v4]) hc ho cw_J5_89 (c_J5_indexOfRange ev4) (Rc.of (g_cls_ok eu2) (by decide) (by decide) ci_J5) hrm ⟨by decide, by decide⟩ rfl (Nat.le_of_ble_eq_true rfl) dJ5_indexOf_7 rfl rfl ?_
  cases hf3
  exact j_iret (pc := 10) hc hq hre rfl dJ5_indexOf_10
def f_J6_isLatin1 (a0 : Nat) (S : HS) : Option (Int32 × HS) :=
  (g_fI S 13 142 a0).bind fun v1 =>
  if v1 = 0 then
    some ((1), S)
  else
    some ((0), S)
set_option maxRecDepth 100000 in
set_option maxHeartbeats 2000000 in
theorem c_J6_isLatin1 {l : Launch} {g : PG} {mo : MO} {a0 : Nat} {r : Int32} {S S1 : HS} (hf : f_J6_isLatin1 a0 S = some (r, S1)) : (h_nx S ≤ h_nx S1 ∧ h_sl S ≤ h_sl S1) ∧ Ct l g yJ6_isLatin1 (ws_ yJ6_isLatin1 cJ6_isLatin1 1 (some (.boolean))) 1 60 S mo [vr (some a0)] (some (vi r)) S1 mo := by
  refine met_of false (by decide) (fun h => by first | rfl | cases h) rfl (Nat.le_of_ble_eq_true rfl) (fun f hl hg hc ho hnL hrm hre hct hex hq => ?_)
  subst hl
  subst hg
  unfold f_J6_isLatin1 at hf
  refine j_gets (pc := 0) (v := vi (1)) hc ho q375 zs_comp dJ6_isLatin1_0 ?_
  refine j_if_eq (pc := 3) hc dJ6_isLatin1_3 (tgt := 17) rfl (fun hh => ?_) (fun hh => ?_)
  · exact absurd hh (by decide)
  · clear hh
    refine j_aload_n (pc := 6) hc dJ6_isLatin1_6 0 rfl rfl ?_
    obtain ⟨v1, ev1, hf1⟩ := ob_i hf
    clear hf
    refine j_getI (pc := 7) hc ho fa_J6_15_13 dJ6_isLatin1_7 ev1 ?_
    refine j_if_ne (pc := 10) hc dJ6_isLatin1_10 (tgt := 17) rfl (fun hh => ?_) (fun hh => ?_)
    · have hf2 := (if_neg hh).symm.trans hf1
      clear hf1
      refine j_iconst (pc := 17) (v := (0)) hc dJ6_isLatin1_17 rfl ?_
      cases hf2
      exact j_iret (pc := 18) hc hq hre rfl dJ6_isLatin1_18
    · have hf3 := (if_pos hh).symm.trans hf1
      clear hf1
      refine j_iconst (pc := 13) (v := (1)) hc dJ6_isLatin1_13 rfl ?_
      refine j_goto (pc := 14) hc dJ6_isLatin1_14 (tgt := 18) rfl ?_
      cases hf3
      exact j_iret (pc := 18) hc hq hre rfl dJ6_isLatin1_18
def f_J10_signedHashCode_n8 : Nat → Int32 → Option Nat → Int32 → Int32 → HS → Option (Int32 × HS)
  | 0, _, _, _, _, _ => none
  | n + 1, x0, r1, x4, x5, S =>
    if x4 ≤ x5 then
      some (x0, S)
    else
      (r1).bind fun a1 =>
      (g_aI S 32 a1 x5).bind fun v2 =>
      (fun x0 r1 x4 x5 S => f_J10_signedHashCode_n8 n x0 r1 x4 x5 S) (((31) * x0) + (v2 &&& (255))) (some a1) x4 (x5 + (1)) S
def f_J10_signedHashCode (x0 : Int32) (r1 : Option Nat) (x2 : Int32) (x3 : Int32) (S : HS) : Option (Int32 × HS) :=
  f_J10_signedHashCode_n8 fu_ x0 r1 (x2 + x3) x2 S
set_option maxRecDepth 100000 in
set_option maxHeartbeats 2000000 in
theorem w_J10_signedHashCode_n8 {f : CfT} {mo : MO} {r : Int32} {S1 : HS} (hc : cf_cc f = cJ10_signedHashCode) (ho : cf_ow f = "jdk/internal/util/ArraysSupport") (hnL : cf_nL f = 6) (hrm : cf_rm f = (1, 60)) (hre : cf_re f = (some (.int))) (hct : cf_ct f = false) (hq : Qok f (some (vi r)) S1 mo) : ∀ (n : Nat) (x0 : Int32) (r1 : Option Nat) (x4 : Int32) (x5 : Int32) (S : HS), f_J10_signedHashCode_n8 n x0 r1 x4 x5 S = some (r, S1) → JJ f S mo 8 [(0, vi x0), (1, vr r1), (4, vi x4), (5, vi x5)] [] := by
  intro n
  induction n with
  | zero =>
    intro x0 r1 x4 x5 S hf
    have hf : (none : Option (Int32 × HS)) = some (r, S1) := hf
    cases hf
  | succ n ih =>
    intro x0 r1 x4 x5 S hf
    unfold f_J10_signedHashCode_n8 at hf
    have hk_8 := ih
    refine j_iload (pc := 8) hc dJ10_signedHashCode_8 3 rfl ?_
    refine j_iload (pc := 10) hc dJ10_signedHashCode_10 2 rfl ?_
    refine j_icmp_ge (pc := 12) hc dJ10_signedHashCode_12 (tgt := 35) rfl (fun hh => ?_) (fun hh => ?_)
    · have hf1 := (if_pos hh).symm.trans hf
      clear hf
      refine j_iload_n (pc := 35) hc dJ10_signedHashCode_35 0 rfl rfl ?_
      cases hf1
      exact j_iret (pc := 36) hc hq hre rfl dJ10_signedHashCode_36
    · have hf2 := (if_neg hh).symm.trans hf
      clear hf
      refine j_bipush (pc := 15) (v := (31)) hc dJ10_signedHashCode_15 rfl ?_
      refine j_iload_n (pc := 17) hc dJ10_signedHashCode_17 0 rfl rfl ?_
      refine j_imul (pc := 18) hc dJ10_signedHashCode_18 ?_
      refine j_aload_n (pc := 19) hc dJ10_signedHashCode_19 1 rfl rfl ?_
      refine j_iload (pc := 20) hc dJ10_signedHashCode_20 3 rfl ?_
      obtain ⟨a1, ea1, hf3⟩ := ob_i hf2
      clear hf2
      subst ea1
      obtain ⟨v2, ev2, hf4⟩ := ob_i hf3
      clear hf3
      refine j_bald (pc := 22) hc dJ10_signedHashCode_22 ev2 ?_
      refine j_sipush (pc := 23) (v := (255)) hc dJ10_signedHashCode_23 rfl ?_
      refine j_iand (pc := 26) hc dJ10_signedHashCode_26 ?_
      refine j_iadd (pc := 27) hc dJ10_signedHashCode_27 ?_
      refine j_istore_n (pc := 28) (L' := [(0, vi (((31) * x0) + (v2 &&& (255)))), (1, vr (some a1)), (4, vi x4), (5, vi x5)]) hc dJ10_signedHashCode_28 rfl hnL (by decide) rfl ?_
      refine j_iinc (pc := 29) (L' := [(5, vi (x5 + (1))), (0, vi (((31) * x0) + (v2 &&& (255)))), (1, vr (some a1)), (4, vi x4)]) (v := (x5 + (1))) hc dJ10_signedHashCode_29 3 rfl rfl hnL (by decide) rfl ?_
      refine j_goto (pc := 32) hc dJ10_signedHashCode_32 (tgt := 8) rfl ?_
      refine j_loc (L' := [(0, vi (((31) * x0) + (v2 &&& (255)))), (1, vr (some a1)), (4, vi x4), (5, vi (x5 + (1)))]) [1, 2, 3, 0] rfl ?_
      exact hk_8 _ _ _ _ _ hf4
set_option maxRecDepth 100000 in
set_option maxHeartbeats 2000000 in
theorem c_J10_signedHashCode {l : Launch} {g : PG} {mo : MO} {x0 : Int32} {r1 : Option Nat} {x2 : Int32} {x3 : Int32} {r : Int32} {S S1 : HS} (hf : f_J10_signedHashCode x0 r1 x2 x3 S = some (r, S1)) : (h_nx S ≤ h_nx S1 ∧ h_sl S ≤ h_sl S1) ∧ Ct l g yJ10_signedHashCode (ws_ yJ10_signedHashCode cJ10_signedHashCode 6 (some (.int))) 1 60 S mo [vi x0, vr r1, vi x2, vi x3] (some (vi r)) S1 mo := by
  refine met_of false (by decide) (fun h => by first | rfl | cases h) rfl (Nat.le_of_ble_eq_true rfl) (fun f hl hg hc ho hnL hrm hre hct hex hq => ?_)
  subst hl
  subst hg
  unfold f_J10_signedHashCode at hf
  refine j_iload_n (pc := 0) hc dJ10_signedHashCode_0 2 rfl rfl ?_
  refine j_iload_n (pc := 1) hc dJ10_signedHashCode_1 3 rfl rfl ?_
  refine j_iadd (pc := 2) hc dJ10_signedHashCode_2 ?_
  refine j_istore (pc := 3) (L' := [(4, vi (x2 + x3)), (0, vi x0), (1, vr r1), (2, vi x2), (3, vi x3)]) hc dJ10_signedHashCode_3 hnL (by decide) rfl ?_
  refine j_iload_n (pc := 5) hc dJ10_signedHashCode_5 3 rfl rfl ?_
  refine j_istore (pc := 6) (L' := [(5, vi x2), (4, vi (x2 + x3)), (0, vi x0), (1, vr r1), (2, vi x2), (3, vi x3)]) hc dJ10_signedHashCode_6 hnL (by decide) rfl ?_
  refine j_loc (L' := [(0, vi x0), (1, vr r1), (4, vi (x2 + x3)), (5, vi x2)]) [2, 3, 1, 0] rfl ?_
  exact w_J10_signedHashCode_n8 hc ho hnL hrm hre hct hq fu_ _ _ _ _ _ hf
theorem cw_J10_62 : CS "jdk/internal/util/ArraysSupport" 62 yJ10_signedHashCode cJ10_signedHashCode 6 (some (.int)) 4 := ⟨⟨q491, q492, q95, q493⟩, by decide, by decide, by decide +kernel⟩
def f_J10_vectorizedHashCode_n129 (x4 : Int32) (S : HS) : Option (Int32 × HS) :=
  none
def f_J10_vectorizedHashCode (r0 : Option Nat) (x1 : Int32) (x2 : Int32) (x3 : Int32) (x4 : Int32) (S : HS) : Option (Int32 × HS) :=
  if x4 = (4) then
    (r0).bind fun a1 =>
    (g_own S 32 a1).bind fun u2 =>
    o_bd (f_J10_signedHashCode x3 (some a1) x1 x2 S) fun v4 T3 =>
    some (v4, T3)
  else
    if x4 = (5) then
      none
    else
      if x4 = (6) then
        f_J10_vectorizedHashCode_n129 x4 S
      else
        if x4 = (7) then
          f_J10_vectorizedHashCode_n129 x4 S
        else
          if x4 = (8) then
            (r0).bind fun a5 =>
            (g_own S 32 a5).bind fun u6 =>
            none
          else
            if x4 = (9) then
              none
            else
              if x4 = (10) then
                none
              else
                f_J10_vectorizedHashCode_n129 x4 S
set_option maxRecDepth 100000 in
set_option maxHeartbeats 2000000 in
theorem w_J10_vectorizedHashCode_n129 {f : CfT} {mo : MO} {r : Int32} {S1 : HS} (hc : cf_cc f = cJ10_vectorizedHashCode) (ho : cf_ow f = "jdk/internal/util/ArraysSupport") (hnL : cf_nL f = 5) (hrm : cf_rm f = (2, 85)) (hre : cf_re f = (some (.int))) (hct : cf_ct f = false) (hq : Qok f (some (vi r)) S1 mo) {x4 : Int32} {S : HS} (hf : f_J10_vectorizedHashCode_n129 x4 S = some (r, S1)) : JJ f S mo 129 [(4, vi x4)] [] := by
  unfold f_J10_vectorizedHashCode_n129 at hf
  cases hf
set_option maxRecDepth 100000 in
set_option maxHeartbeats 2000000 in
theorem c_J10_vectorizedHashCode {l : Launch} {g : PG} {mo : MO} {r0 : Option Nat} {x1 : Int32} {x2 : Int32} {x3 : Int32} {x4 : Int32} {r : Int32} {S S1 : HS} (hf : f_J10_vectorizedHashCode r0 x1 x2 x3 x4 S = some (r, S1)) : (h_nx S ≤ h_nx S1 ∧ h_sl S ≤ h_sl S1) ∧ Ct l g yJ10_vectorizedHashCode (ws_ yJ10_vectorizedHashCode cJ10_vectorizedHashCode 5 (some (.int))) 2 85 S mo [vr r0, vi x1, vi x2, vi x3, vi x4] (some (vi r)) S1 mo := by
  refine met_of false (by decide) (fun h => by first | rfl | cases h) rfl (Nat.le_of_ble_eq_true rfl) (fun f hl hg hc ho hnL hrm hre hct hex hq => ?_)
  subst hl
  subst hg
  unfold f_J10_vectorizedHashCode at hf
  refine j_iload (pc := 0) hc dJ10_vectorizedHashCode_0 4 rfl ?_
  by_cases hh0 : x4 = (4)
  · have hf1 := (if_pos hh0).symm.trans hf
    clear hf
    refine j_tsw (pc := 2) (k := (4)) (tgt := 44) hc dJ10_vectorizedHashCode_2 hh0 (by decide) (by decide) rfl rfl ?_
    refine j_iload_n (pc := 44) hc dJ10_vectorizedHashCode_44 3 rfl rfl ?_
    refine j_aload_n (pc := 45) hc dJ10_vectorizedHashCode_45 0 rfl rfl ?_
    obtain ⟨a1, ea1, hf2⟩ := ob_i hf1
    clear hf1
    subst ea1
    obtain ⟨u2, eu2, hf3⟩ := ob_i hf2
    clear hf2
    refine j_castB (pc := 46) hc ho q490 dJ10_vectorizedHashCode_46 eu2 ?_
    refine j_iload_n (pc := 49) hc dJ10_vectorizedHashCode_49 1 rfl rfl ?_
    refine j_iload_n (pc := 50) hc dJ10_vectorizedHashCode_50 2 rfl rfl ?_
    obtain ⟨v4, T3, ev4, hf4⟩ := ob_c hf3
    clear hf3
    refine j_callS (pc := 51) (As := [vi x3, vr (some a1), vi x1, vi x2]) (rest := []) (st2 := [vi v4]) hc ho cw_J10_62 (c_J10_signedHashCode ev4) hrm ⟨by decide, by decide⟩ rfl (Nat.le_of_ble_eq_true rfl) dJ10_vectorizedHashCode_51 rfl rfl ?_
    refine j_goto (pc := 54) hc dJ10_vectorizedHashCode_54 (tgt := 157) rfl ?_
    cases hf4
    exact j_iret (pc := 157) hc hq hre rfl dJ10_vectorizedHashCode_157
  · have hf5 := (if_neg hh0).symm.trans hf
    clear hf
    by_cases hh1 : x4 = (5)
    · have hf6 := (if_pos hh1).symm.trans hf5
      clear hf5
      refine j_tsw (pc := 2) (k := (5)) (tgt := 57) hc dJ10_vectorizedHashCode_2 hh1 (by decide) (by decide) rfl rfl ?_
      refine j_aload_n (pc := 57) hc dJ10_vectorizedHashCode_57 0 rfl rfl ?_
      cases hf6
    · have hf7 := (if_neg hh1).symm.trans hf5
      clear hf5
      by_cases hh2 : x4 = (6)
      · have hf8 := (if_pos hh2).symm.trans hf7
        clear hf7
        refine j_tsw (pc := 2) (k := (6)) (tgt := 129) hc dJ10_vectorizedHashCode_2 hh2 (by decide) (by decide) rfl rfl ?_
        refine j_loc (L' := [(4, vi x4)]) [4] rfl ?_
        exact w_J10_vectorizedHashCode_n129 hc ho hnL hrm hre hct hq hf8
      · have hf9 := (if_neg hh2).symm.trans hf7
        clear hf7
        by_cases hh3 : x4 = (7)
        · have hf10 := (if_pos hh3).symm.trans hf9
          clear hf9
          refine j_tsw (pc := 2) (k := (7)) (tgt := 129) hc dJ10_vectorizedHashCode_2 hh3 (by decide) (by decide) rfl rfl ?_
          refine j_loc (L' := [(4, vi x4)]) [4] rfl ?_
          exact w_J10_vectorizedHashCode_n129 hc ho hnL hrm hre hct hq hf10
        · have hf11 := (if_neg hh3).symm.trans hf9
          clear hf9
          by_cases hh4 : x4 = (8)
          · have hf12 := (if_pos hh4).symm.trans hf11
            clear hf11
            refine j_tsw (pc := 2) (k := (8)) (tgt := 90) hc dJ10_vectorizedHashCode_2 hh4 (by decide) (by decide) rfl rfl ?_
            refine j_iload_n (pc := 90) hc dJ10_vectorizedHashCode_90 3 rfl rfl ?_
            refine j_aload_n (pc := 91) hc dJ10_vectorizedHashCode_91 0 rfl rfl ?_
            obtain ⟨a5, ea5, hf13⟩ := ob_i hf12
            clear hf12
            subst ea5
            obtain ⟨u6, eu6, hf14⟩ := ob_i hf13
            clear hf13
            refine j_castB (pc := 92) hc ho q490 dJ10_vectorizedHashCode_92 eu6 ?_
            refine j_iload_n (pc := 95) hc dJ10_vectorizedHashCode_95 1 rfl rfl ?_
            refine j_iload_n (pc := 96) hc dJ10_vectorizedHashCode_96 2 rfl rfl ?_
            cases hf14
          · have hf15 := (if_neg hh4).symm.trans hf11
            clear hf11
            by_cases hh5 : x4 = (9)
            · have hf16 := (if_pos hh5).symm.trans hf15
              clear hf15
              refine j_tsw (pc := 2) (k := (9)) (tgt := 103) hc dJ10_vectorizedHashCode_2 hh5 (by decide) (by decide) rfl rfl ?_
              refine j_iload_n (pc := 103) hc dJ10_vectorizedHashCode_103 3 rfl rfl ?_
              refine j_aload_n (pc := 104) hc dJ10_vectorizedHashCode_104 0 rfl rfl ?_
              cases hf16
            · have hf17 := (if_neg hh5).symm.trans hf15
              clear hf15
              by_cases hh6 : x4 = (10)
              · have hf18 := (if_pos hh6).symm.trans hf17
                clear hf17
                refine j_tsw (pc := 2) (k := (10)) (tgt := 116) hc dJ10_vectorizedHashCode_2 hh6 (by decide) (by decide) rfl rfl ?_
                refine j_iload_n (pc := 116) hc dJ10_vectorizedHashCode_116 3 rfl rfl ?_
                refine j_aload_n (pc := 117) hc dJ10_vectorizedHashCode_117 0 rfl rfl ?_
                cases hf18
              · have hf19 := (if_neg hh6).symm.trans hf17
                clear hf17
                refine j_tswD (pc := 2) (tgt := 129) hc dJ10_vectorizedHashCode_2 (by have h0 : ¬ x4.toInt = 4 := lv_neT hh0 rfl; have h1 : ¬ x4.toInt = 5 := lv_neT hh1 rfl; have h2 : ¬ x4.toInt = 6 := lv_neT hh2 rfl; have h3 : ¬ x4.toInt = 7 := lv_neT hh3 rfl; have h4 : ¬ x4.toInt = 8 := lv_neT hh4 rfl; have h5 : ¬ x4.toInt = 9 := lv_neT hh5 rfl; have h6 : ¬ x4.toInt = 10 := lv_neT hh6 rfl; omega) rfl ?_
                refine j_loc (L' := [(4, vi x4)]) [4] rfl ?_
                exact w_J10_vectorizedHashCode_n129 hc ho hnL hrm hre hct hq hf19
theorem cw_J9_84 : CS "java/lang/StringLatin1" 84 yJ10_vectorizedHashCode cJ10_vectorizedHashCode 5 (some (.int)) 5 := ⟨⟨q487, q488, q95, q489⟩, by decide, by decide, by decide +kernel⟩
def f_J9_hashCode (r0 : Option Nat) (S : HS) : Option (Int32 × HS) :=
  (r0).bind fun a1 =>
  (g_len S 32 a1).bind fun v2 =>
  if v2 = (0) then
    some ((0), S)
  else
    if v2 = (1) then
      (g_aI S 32 a1 (0)).bind fun v6 =>
      some ((v6 &&& (255)), S)
    else
      (g_len S 32 a1).bind fun v3 =>
      o_bd (f_J10_vectorizedHashCode (some a1) (0) v3 (0) (4) S) fun v5 T4 =>
      some (v5, T4)
set_option maxRecDepth 100000 in
set_option maxHeartbeats 2000000 in
theorem c_J9_hashCode {l : Launch} {g : PG} {mo : MO} {r0 : Option Nat} {r : Int32} {S S1 : HS} (hf : f_J9_hashCode r0 S = some (r, S1)) : (h_nx S ≤ h_nx S1 ∧ h_sl S ≤ h_sl S1) ∧ Ct l g yJ9_hashCode (ws_ yJ9_hashCode cJ9_hashCode 1 (some (.int))) 3 109 S mo [vr r0] (some (vi r)) S1 mo := by
  refine met_of false (by decide) (fun h => by first | rfl | cases h) rfl (Nat.le_of_ble_eq_true rfl) (fun f hl hg hc ho hnL hrm hre hct hex hq => ?_)
  subst hl
  subst hg
  unfold f_J9_hashCode at hf
  refine j_aload_n (pc := 0) hc dJ9_hashCode_0 0 rfl rfl ?_
  obtain ⟨a1, ea1, hf1⟩ := ob_i hf
  clear hf
  subst ea1
  obtain ⟨v2, ev2, hf2⟩ := ob_i hf1
  clear hf1
  refine j_alen (pc := 1) hc dJ9_hashCode_1 (by decide) ev2 ?_
  by_cases hh0 : v2 = (0)
  · have hf3 := (if_pos hh0).symm.trans hf2
    clear hf2
    refine j_lsw (pc := 2) (k := (0)) (tgt := 28) hc dJ9_hashCode_2 hh0 (by decide) rfl rfl ?_
    refine j_iconst (pc := 28) (v := (0)) hc dJ9_hashCode_28 rfl ?_
    refine j_goto (pc := 29) hc dJ9_hashCode_29 (tgt := 51) rfl ?_
    cases hf3
    exact j_iret (pc := 51) hc hq hre rfl dJ9_hashCode_51
  · have hf4 := (if_neg hh0).symm.trans hf2
    clear hf2
    by_cases hh1 : v2 = (1)
    · have hf5 := (if_pos hh1).symm.trans hf4
      clear hf4
      refine j_lsw (pc := 2) (k := (1)) (tgt := 32) hc dJ9_hashCode_2 hh1 (by decide) rfl rfl ?_
      refine j_aload_n (pc := 32) hc dJ9_hashCode_32 0 rfl rfl ?_
      refine j_iconst (pc := 33) (v := (0)) hc dJ9_hashCode_33 rfl ?_
      obtain ⟨v6, ev6, hf6⟩ := ob_i hf5
      clear hf5
      refine j_bald (pc := 34) hc dJ9_hashCode_34 ev6 ?_
      refine j_sipush (pc := 35) (v := (255)) hc dJ9_hashCode_35 rfl ?_
      refine j_iand (pc := 38) hc dJ9_hashCode_38 ?_
      refine j_goto (pc := 39) hc dJ9_hashCode_39 (tgt := 51) rfl ?_
      cases hf6
      exact j_iret (pc := 51) hc hq hre rfl dJ9_hashCode_51
    · have hf7 := (if_neg hh1).symm.trans hf4
      clear hf4
      refine j_lswD (pc := 2) (tgt := 42) hc dJ9_hashCode_2 (by decide) (by exact (lv_osw hh0 rfl).trans ((lv_osw hh1 rfl).trans (rfl))) rfl ?_
      refine j_aload_n (pc := 42) hc dJ9_hashCode_42 0 rfl rfl ?_
      refine j_iconst (pc := 43) (v := (0)) hc dJ9_hashCode_43 rfl ?_
      refine j_aload_n (pc := 44) hc dJ9_hashCode_44 0 rfl rfl ?_
      obtain ⟨v3, ev3, hf8⟩ := ob_i hf7
      clear hf7
      refine j_alen (pc := 45) hc dJ9_hashCode_45 (by decide) ev3 ?_
      refine j_iconst (pc := 46) (v := (0)) hc dJ9_hashCode_46 rfl ?_
      refine j_iconst (pc := 47) (v := (4)) hc dJ9_hashCode_47 rfl ?_
      obtain ⟨v5, T4, ev5, hf9⟩ := ob_c hf8
      clear hf8
      refine j_callS (pc := 48) (As := [vr (some a1), vi (0), vi v3, vi (0), vi (4)]) (rest := []) (st2 := [vi v5]) hc ho cw_J9_84 (c_J10_vectorizedHashCode ev5) hrm ⟨by decide, by decide⟩ rfl (Nat.le_of_ble_eq_true rfl) dJ9_hashCode_48 rfl rfl ?_
      cases hf9
      exact j_iret (pc := 51) hc hq hre rfl dJ9_hashCode_51
theorem fa_J6_19_13 : FA "java/lang/String" 19 13 0 143 (.int) 1 := ⟨RJ6, TJ6, 4, tyJ6, 2, "java/lang/String", CI_J6, by decide, rfl, rfl, by decide +kernel, Or.inl ⟨q445, fun h => (by cases h)⟩, fun _ => rfl, Or.inl rfl⟩
theorem fa_J6_23_13 : FA "java/lang/String" 23 13 0 144 (.boolean) 1 := ⟨RJ6, TJ6, 4, tyJ6, 3, "java/lang/String", CI_J6, by decide, rfl, rfl, by decide +kernel, Or.inl ⟨q446, fun h => (by cases h)⟩, fun _ => rfl, Or.inl rfl⟩
theorem cw_J6_492 : CV "java/lang/String" 492 RJ6 yJ6_isLatin1 cJ6_isLatin1 1 (some (.boolean)) 0 := ⟨⟨q480, q481, q482, q91, q483⟩, rfl, by decide, by decide, by decide +kernel⟩
theorem cw_J6_628 : CS "java/lang/String" 628 yJ9_hashCode cJ9_hashCode 1 (some (.int)) 1 := ⟨⟨q484, q485, q94, q486⟩, by decide, by decide, by decide +kernel⟩
def f_J6_hashCode_n40 (a0 : Nat) (sx0 : Int32) (S : HS) : Option (Int32 × HS) :=
  if sx0 = 0 then
    (p_fN (.boolean) S 13 144 a0 (1)).bind fun T2 =>
    some (sx0, T2)
  else
    (p_fI S 13 143 a0 sx0).bind fun T1 =>
    some (sx0, T1)
def f_J6_hashCode (a0 : Nat) (S : HS) : Option (Int32 × HS) :=
  (g_fI S 13 143 a0).bind fun v1 =>
  if v1 = 0 then
    (g_fI S 13 144 a0).bind fun v2 =>
    if v2 = 0 then
      (g_cls S 13 a0).bind fun u3 =>
      o_bd (f_J6_isLatin1 a0 S) fun v5 T4 =>
      if v5 = 0 then
        (g_fR T4 13 141 a0).bind fun q6 =>
        none
      else
        (g_fR T4 13 141 a0).bind fun q7 =>
        o_bd (f_J9_hashCode q7 T4) fun v9 T8 =>
        f_J6_hashCode_n40 a0 v9 T8
    else
      some (v1, S)
  else
    some (v1, S)
set_option maxRecDepth 100000 in
set_option maxHeartbeats 2000000 in
theorem w_J6_hashCode_n40 {f : CfT} {mo : MO} {a0 : Nat} {r : Int32} {S1 : HS} (hc : cf_cc f = cJ6_hashCode) (ho : cf_ow f = "java/lang/String") (hnL : cf_nL f = 2) (hrm : cf_rm f = (4, 129)) (hre : cf_re f = (some (.int))) (hct : cf_ct f = false) (hq : Qok f (some (vi r)) S1 mo) {sx0 : Int32} {S : HS} (hf : f_J6_hashCode_n40 a0 sx0 S = some (r, S1)) : JJ f S mo 40 [(0, vr (some a0))] [vi sx0] := by
  unfold f_J6_hashCode_n40 at hf
  refine j_istore_n (pc := 40) (L' := [(1, vi sx0), (0, vr (some a0))]) hc dJ6_hashCode_40 rfl hnL (by decide) rfl ?_
  refine j_iload_n (pc := 41) hc dJ6_hashCode_41 0 rfl rfl ?_
  refine j_if_ne (pc := 42) hc dJ6_hashCode_42 (tgt := 53) rfl (fun hh => ?_) (fun hh => ?_)
  · have hf1 := (if_neg hh).symm.trans hf
    clear hf
    refine j_aload_n (pc := 53) hc dJ6_hashCode_53 1 rfl rfl ?_
    refine j_iload_n (pc := 54) hc dJ6_hashCode_54 0 rfl rfl ?_
    obtain ⟨T1, eT1, hf2⟩ := ob_i hf1
    clear hf1
    refine j_putI (pc := 55) hc ho fa_J6_19_13 (Or.inl rfl) dJ6_hashCode_55 eT1 ?_
    refine j_iload_n (pc := 58) hc dJ6_hashCode_58 0 rfl rfl ?_
    cases hf2
    exact j_iret (pc := 59) hc hq hre rfl dJ6_hashCode_59
  · have hf3 := (if_pos hh).symm.trans hf
    clear hf
    refine j_aload_n (pc := 45) hc dJ6_hashCode_45 1 rfl rfl ?_
    refine j_iconst (pc := 46) (v := (1)) hc dJ6_hashCode_46 rfl ?_
    obtain ⟨T2, eT2, hf4⟩ := ob_i hf3
    clear hf3
    refine j_putN (pc := 47) hc ho fa_J6_23_13 (Or.inl rfl) dJ6_hashCode_47 eT2 rfl ?_
    refine j_goto (pc := 50) hc dJ6_hashCode_50 (tgt := 58) rfl ?_
    refine j_iload_n (pc := 58) hc dJ6_hashCode_58 0 rfl rfl ?_
    cases hf4
    exact j_iret (pc := 59) hc hq hre rfl dJ6_hashCode_59
set_option maxRecDepth 100000 in
set_option maxHeartbeats 2000000 in
theorem c_J6_hashCode {l : Launch} {g : PG} {mo : MO} {a0 : Nat} {r : Int32} {S S1 : HS} (hf : f_J6_hashCode a0 S = some (r, S1)) : (h_nx S ≤ h_nx S1 ∧ h_sl S ≤ h_sl S1) ∧ Ct l g yJ6_hashCode (ws_ yJ6_hashCode cJ6_hashCode 2 (some (.int))) 4 129 S mo [vr (some a0)] (some (vi r)) S1 mo := by
  refine met_of false (by decide) (fun h => by first | rfl | cases h) rfl (Nat.le_of_ble_eq_true rfl) (fun f hl hg hc ho hnL hrm hre hct hex hq => ?_)
  subst hl
  subst hg
  unfold f_J6_hashCode at hf
  refine j_aload_n (pc := 0) hc dJ6_hashCode_0 0 rfl rfl ?_
  obtain ⟨v1, ev1, hf1⟩ := ob_i hf
  clear hf
  refine j_getI (pc := 1) hc ho fa_J6_19_13 dJ6_hashCode_1 ev1 ?_
  refine j_istore_n (pc := 4) (L' := [(1, vi v1), (0, vr (some a0))]) hc dJ6_hashCode_4 rfl hnL (by decide) rfl ?_
  refine j_iload_n (pc := 5) hc dJ6_hashCode_5 0 rfl rfl ?_
  refine j_if_ne (pc := 6) hc dJ6_hashCode_6 (tgt := 58) rfl (fun hh => ?_) (fun hh => ?_)
  · have hf2 := (if_neg hh).symm.trans hf1
    clear hf1
    refine j_iload_n (pc := 58) hc dJ6_hashCode_58 0 rfl rfl ?_
    cases hf2
    exact j_iret (pc := 59) hc hq hre rfl dJ6_hashCode_59
  · have hf3 := (if_pos hh).symm.trans hf1
    clear hf1
    refine j_aload_n (pc := 9) hc dJ6_hashCode_9 1 rfl rfl ?_
    obtain ⟨v2, ev2, hf4⟩ := ob_i hf3
    clear hf3
    refine j_getI (pc := 10) hc ho fa_J6_23_13 dJ6_hashCode_10 ev2 ?_
    refine j_if_ne (pc := 13) hc dJ6_hashCode_13 (tgt := 58) rfl (fun hh => ?_) (fun hh => ?_)
    · have hf5 := (if_neg hh).symm.trans hf4
      clear hf4
      refine j_iload_n (pc := 58) hc dJ6_hashCode_58 0 rfl rfl ?_
      cases hf5
      exact j_iret (pc := 59) hc hq hre rfl dJ6_hashCode_59
    · have hf6 := (if_pos hh).symm.trans hf4
      clear hf4
      refine j_aload_n (pc := 16) hc dJ6_hashCode_16 1 rfl rfl ?_
      obtain ⟨u3, eu3, hf7⟩ := ob_i hf6
      clear hf6
      obtain ⟨v5, T4, ev5, hf8⟩ := ob_c hf7
      clear hf7
      refine j_callV (pc := 17) (As := []) (rest := []) (st2 := [vi v5]) hc ho cw_J6_492 (c_J6_isLatin1 ev5) (Rc.of (g_cls_ok eu3) (by decide) (by decide) ci_J6) hrm ⟨by decide, by decide⟩ rfl (Nat.le_of_ble_eq_true rfl) dJ6_hashCode_17 rfl rfl ?_
      refine j_if_eq (pc := 20) hc dJ6_hashCode_20 (tgt := 33) rfl (fun hh => ?_) (fun hh => ?_)
      · have hf9 := (if_pos hh).symm.trans hf8
        clear hf8
        refine j_aload_n (pc := 33) hc dJ6_hashCode_33 1 rfl rfl ?_
        obtain ⟨q6, eq6, hf10⟩ := ob_i hf9
        clear hf9
        refine j_getR (pc := 34) hc ho fa_J6_9_13 dJ6_hashCode_34 eq6 ?_
        cases hf10
      · have hf11 := (if_neg hh).symm.trans hf8
        clear hf8
        refine j_aload_n (pc := 23) hc dJ6_hashCode_23 1 rfl rfl ?_
        obtain ⟨q7, eq7, hf12⟩ := ob_i hf11
        clear hf11
        refine j_getR (pc := 24) hc ho fa_J6_9_13 dJ6_hashCode_24 eq7 ?_
        obtain ⟨v9, T8, ev9, hf13⟩ := ob_c hf12
        clear hf12
        refine j_callS (pc := 27) (As := [vr q7]) (rest := []) (st2 := [vi v9]) hc ho cw_J6_628 (c_J9_hashCode ev9) hrm ⟨by decide, by decide⟩ rfl (Nat.le_of_ble_eq_true rfl) dJ6_hashCode_27 rfl rfl ?_
        refine j_goto (pc := 30) hc dJ6_hashCode_30 (tgt := 40) rfl ?_
        refine j_loc (L' := [(0, vr (some a0))]) [1] rfl ?_
        exact w_J6_hashCode_n40 hc ho hnL hrm hre hct hq hf13
def f_J7_compress_2_n3 : Nat → Option Nat → Int32 → Option Nat → Int32 → Int32 → Int32 → HS → Option (Int32 × HS)
  | 0, _, _, _, _, _, _, _ => none
  | n + 1, r0, x1, r2, x3, x4, x5, S =>
    if x4 ≤ x5 then
      some (x4, S)
    else
      (r0).bind fun a1 =>
      (g_aI S 33 a1 x1).bind fun v2 =>
      if v2 ≤ (255) then
        (r2).bind fun a3 =>
        (p_aI S 32 a3 x3 (vp_nar .byte (Int8.toInt32 (Int32.toInt8 v2)))).bind fun T4 =>
        (fun r0 x1 r2 x3 x4 x5 S => f_J7_compress_2_n3 n r0 x1 r2 x3 x4 x5 S) (some a1) (x1 + (1)) (some a3) (x3 + (1)) x4 (x5 + (1)) T4
      else
        some (x5, S)
def f_J7_compress_2 (r0 : Option Nat) (x1 : Int32) (r2 : Option Nat) (x3 : Int32) (x4 : Int32) (S : HS) : Option (Int32 × HS) :=
  f_J7_compress_2_n3 fu_ r0 x1 r2 x3 x4 (0) S
set_option maxRecDepth 100000 in
set_option maxHeartbeats 2000000 in
theorem w_J7_compress_2_n3 {f : CfT} {mo : MO} {r : Int32} {S1 : HS} (hc : cf_cc f = cJ7_compress_2) (ho : cf_ow f = "java/lang/StringUTF16") (hnL : cf_nL f = 7) (hrm : cf_rm f = (1, 60)) (hre : cf_re f = (some (.int))) (hct : cf_ct f = false) (hq : Qok f (some (vi r)) S1 mo) : ∀ (n : Nat) (r0 : Option Nat) (x1 : Int32) (r2 : Option Nat) (x3 : Int32) (x4 : Int32) (x5 : Int32) (S : HS), f_J7_compress_2_n3 n r0 x1 r2 x3 x4 x5 S = some (r, S1) → JJ f S mo 3 [(0, vr r0), (1, vi x1), (2, vr r2), (3, vi x3), (4, vi x4), (5, vi x5)] [] := by
  intro n
  induction n with
  | zero =>
    intro r0 x1 r2 x3 x4 x5 S hf
    have hf : (none : Option (Int32 × HS)) = some (r, S1) := hf
    cases hf
  | succ n ih =>
    intro r0 x1 r2 x3 x4 x5 S hf
    unfold f_J7_compress_2_n3 at hf
    have hk_3 := ih
    refine j_iload (pc := 3) hc dJ7_compress_2_3 5 rfl ?_
    refine j_iload (pc := 5) hc dJ7_compress_2_5 4 rfl ?_
    refine j_icmp_ge (pc := 7) hc dJ7_compress_2_7 (tgt := 44) rfl (fun hh => ?_) (fun hh => ?_)
    · have hf1 := (if_pos hh).symm.trans hf
      clear hf
      refine j_iload (pc := 44) hc dJ7_compress_2_44 4 rfl ?_
      cases hf1
      exact j_iret (pc := 46) hc hq hre rfl dJ7_compress_2_46
    · have hf2 := (if_neg hh).symm.trans hf
      clear hf
      refine j_aload_n (pc := 10) hc dJ7_compress_2_10 0 rfl rfl ?_
      refine j_iload_n (pc := 11) hc dJ7_compress_2_11 1 rfl rfl ?_
      obtain ⟨a1, ea1, hf3⟩ := ob_i hf2
      clear hf2
      subst ea1
      obtain ⟨v2, ev2, hf4⟩ := ob_i hf3
      clear hf3
      refine j_cald (pc := 12) hc dJ7_compress_2_12 ev2 ?_
      refine j_istore (pc := 13) (L' := [(6, vi v2), (0, vr (some a1)), (1, vi x1), (2, vr r2), (3, vi x3), (4, vi x4), (5, vi x5)]) hc dJ7_compress_2_13 hnL (by decide) rfl ?_
      refine j_iload (pc := 15) hc dJ7_compress_2_15 0 rfl ?_
      refine j_sipush (pc := 17) (v := (255)) hc dJ7_compress_2_17 rfl ?_
      refine j_icmp_le (pc := 20) hc dJ7_compress_2_20 (tgt := 26) rfl (fun hh => ?_) (fun hh => ?_)
      · have hf5 := (if_pos hh).symm.trans hf4
        clear hf4
        refine j_aload_n (pc := 26) hc dJ7_compress_2_26 3 rfl rfl ?_
        refine j_iload_n (pc := 27) hc dJ7_compress_2_27 4 rfl rfl ?_
        refine j_iload (pc := 28) hc dJ7_compress_2_28 0 rfl ?_
        refine j_i2b (pc := 30) hc dJ7_compress_2_30 ?_
        obtain ⟨a3, ea3, hf6⟩ := ob_i hf5
        clear hf5
        subst ea3
        obtain ⟨T4, eT4, hf7⟩ := ob_i hf6
        clear hf6
        refine j_bast (pc := 31) hc dJ7_compress_2_31 eT4 ?_
        refine j_iinc (pc := 32) (L' := [(1, vi (x1 + (1))), (6, vi v2), (0, vr (some a1)), (2, vr (some a3)), (3, vi x3), (4, vi x4), (5, vi x5)]) (v := (x1 + (1))) hc dJ7_compress_2_32 2 rfl rfl hnL (by decide) rfl ?_
        refine j_iinc (pc := 35) (L' := [(3, vi (x3 + (1))), (1, vi (x1 + (1))), (6, vi v2), (0, vr (some a1)), (2, vr (some a3)), (4, vi x4), (5, vi x5)]) (v := (x3 + (1))) hc dJ7_compress_2_35 4 rfl rfl hnL (by decide) rfl ?_
        refine j_iinc (pc := 38) (L' := [(5, vi (x5 + (1))), (3, vi (x3 + (1))), (1, vi (x1 + (1))), (6, vi v2), (0, vr (some a1)), (2, vr (some a3)), (4, vi x4)]) (v := (x5 + (1))) hc dJ7_compress_2_38 6 rfl rfl hnL (by decide) rfl ?_
        refine j_goto (pc := 41) hc dJ7_compress_2_41 (tgt := 3) rfl ?_
        refine j_loc (L' := [(0, vr (some a1)), (1, vi (x1 + (1))), (2, vr (some a3)), (3, vi (x3 + (1))), (4, vi x4), (5, vi (x5 + (1)))]) [4, 2, 5, 1, 6, 0] rfl ?_
        exact hk_3 _ _ _ _ _ _ _ hf7
      · have hf8 := (if_neg hh).symm.trans hf4
        clear hf4
        refine j_iload (pc := 23) hc dJ7_compress_2_23 6 rfl ?_
        cases hf8
        exact j_iret (pc := 25) hc hq hre rfl dJ7_compress_2_25
set_option maxRecDepth 100000 in
set_option maxHeartbeats 2000000 in
theorem c_J7_compress_2 {l : Launch} {g : PG} {mo : MO} {r0 : Option Nat} {x1 : Int32} {r2 : Option Nat} {x3 : Int32} {x4 : Int32} {r : Int32} {S S1 : HS} (hf : f_J7_compress_2 r0 x1 r2 x3 x4 S = some (r, S1)) : (h_nx S ≤ h_nx S1 ∧ h_sl S ≤ h_sl S1) ∧ Ct l g yJ7_compress_2 (ws_ yJ7_compress_2 cJ7_compress_2 7 (some (.int))) 1 60 S mo [vr r0, vi x1, vr r2, vi x3, vi x4] (some (vi r)) S1 mo := by
  refine met_of false (by decide) (fun h => by first | rfl | cases h) rfl (Nat.le_of_ble_eq_true rfl) (fun f hl hg hc ho hnL hrm hre hct hex hq => ?_)
  subst hl
  subst hg
  unfold f_J7_compress_2 at hf
  refine j_iconst (pc := 0) (v := (0)) hc dJ7_compress_2_0 rfl ?_
  refine j_istore (pc := 1) (L' := [(5, vi (0)), (0, vr r0), (1, vi x1), (2, vr r2), (3, vi x3), (4, vi x4)]) hc dJ7_compress_2_1 hnL (by decide) rfl ?_
  refine j_loc (L' := [(0, vr r0), (1, vi x1), (2, vr r2), (3, vi x3), (4, vi x4), (5, vi (0))]) [1, 2, 3, 4, 5, 0] rfl ?_
  exact w_J7_compress_2_n3 hc ho hnL hrm hre hct hq fu_ _ _ _ _ _ _ _ hf
theorem cw_J7_115 : CS "java/lang/StringUTF16" 115 yJ7_compress_2 cJ7_compress_2 7 (some (.int)) 5 := ⟨⟨q397, q398, q92, q399⟩, by decide, by decide, by decide +kernel⟩
def f_J7_compress (r0 : Option Nat) (x1 : Int32) (x2 : Int32) (S : HS) : Option (Option Nat × HS) :=
  (n_arr S 32 x2).bind fun T1 =>
  o_bd (f_J7_compress_2 r0 x1 (some (h_nx S)) (0) x2 T1) fun v3 T2 =>
  if v3 = x2 then
    some ((some (h_nx S)), T2)
  else
    none
set_option maxRecDepth 100000 in
set_option maxHeartbeats 2000000 in
theorem c_J7_compress {l : Launch} {g : PG} {mo : MO} {r0 : Option Nat} {x1 : Int32} {x2 : Int32} {r : Option Nat} {S S1 : HS} (hf : f_J7_compress r0 x1 x2 S = some (r, S1)) : (h_nx S ≤ h_nx S1 ∧ h_sl S ≤ h_sl S1) ∧ Ct l g yJ7_compress (ws_ yJ7_compress cJ7_compress 6 (some (.array .byte))) 2 86 S mo [vr r0, vi x1, vi x2] (some (vr r)) S1 mo := by
  refine met_of false (by decide) (fun h => by first | rfl | cases h) rfl (Nat.le_of_ble_eq_true rfl) (fun f hl hg hc ho hnL hrm hre hct hex hq => ?_)
  subst hl
  subst hg
  unfold f_J7_compress at hf
  refine j_iload_n (pc := 0) hc dJ7_compress_0 2 rfl rfl ?_
  obtain ⟨T1, eT1, hf1⟩ := ob_i hf
  clear hf
  refine j_na32 (pc := 1) hc dJ7_compress_1 eT1 ?_
  refine j_astore_n (pc := 3) (L' := [(3, vr (some (h_nx S))), (0, vr r0), (1, vi x1), (2, vi x2)]) hc dJ7_compress_3 rfl hnL (by decide) rfl ?_
  refine j_aload_n (pc := 4) hc dJ7_compress_4 1 rfl rfl ?_
  refine j_iload_n (pc := 5) hc dJ7_compress_5 2 rfl rfl ?_
  refine j_aload_n (pc := 6) hc dJ7_compress_6 0 rfl rfl ?_
  refine j_iconst (pc := 7) (v := (0)) hc dJ7_compress_7 rfl ?_
  refine j_iload_n (pc := 8) hc dJ7_compress_8 3 rfl rfl ?_
  obtain ⟨v3, T2, ev3, hf2⟩ := ob_c hf1
  clear hf1
  refine j_callS (pc := 9) (As := [vr r0, vi x1, vr (some (h_nx S)), vi (0), vi x2]) (rest := []) (st2 := [vi v3]) hc ho cw_J7_115 (c_J7_compress_2 ev3) hrm ⟨by decide, by decide⟩ rfl (Nat.le_of_ble_eq_true rfl) dJ7_compress_9 rfl rfl ?_
  refine j_istore (pc := 12) (L' := [(4, vi v3), (3, vr (some (h_nx S))), (0, vr r0), (1, vi x1), (2, vi x2)]) hc dJ7_compress_12 hnL (by decide) rfl ?_
  refine j_iload (pc := 14) hc dJ7_compress_14 0 rfl ?_
  refine j_iload_n (pc := 16) hc dJ7_compress_16 4 rfl rfl ?_
  refine j_icmp_eq (pc := 17) hc dJ7_compress_17 (tgt := 57) rfl (fun hh => ?_) (fun hh => ?_)
  · have hf3 := (if_pos hh).symm.trans hf2
    clear hf2
    refine j_aload_n (pc := 57) hc dJ7_compress_57 1 rfl rfl ?_
    cases hf3
    exact j_aret (pc := 58) hc hq hre (Or.inr ⟨_, rfl⟩) dJ7_compress_58
  · have hf4 := (if_neg hh).symm.trans hf2
    clear hf2
    refine j_aload_n (pc := 20) hc dJ7_compress_20 2 rfl rfl ?_
    refine j_iload_n (pc := 21) hc dJ7_compress_21 3 rfl rfl ?_
    refine j_iload_n (pc := 22) hc dJ7_compress_22 4 rfl rfl ?_
    cases hf4
def f_J7_coderFromArrayLen (r0 : Option Nat) (x1 : Int32) (S : HS) : Option (Int32 × HS) :=
  (r0).bind fun a1 =>
  (g_len S 32 a1).bind fun v2 =>
  if vp_nar .byte (Int8.toInt32 (Int32.toInt8 (UInt32.toInt32 (Int32.toUInt32 (x1 - v2) >>> (Int32.toUInt32 (31) &&& Int32.toUInt32 31))))) = (Int8.toInt32 (Int32.toInt8 (UInt32.toInt32 (Int32.toUInt32 (x1 - v2) >>> (Int32.toUInt32 (31) &&& Int32.toUInt32 31))))) then
    some ((Int8.toInt32 (Int32.toInt8 (UInt32.toInt32 (Int32.toUInt32 (x1 - v2) >>> (Int32.toUInt32 (31) &&& Int32.toUInt32 31))))), S)
  else
    none
set_option maxRecDepth 100000 in
set_option maxHeartbeats 2000000 in
theorem c_J7_coderFromArrayLen {l : Launch} {g : PG} {mo : MO} {r0 : Option Nat} {x1 : Int32} {r : Int32} {S S1 : HS} (hf : f_J7_coderFromArrayLen r0 x1 S = some (r, S1)) : (h_nx S ≤ h_nx S1 ∧ h_sl S ≤ h_sl S1) ∧ Ct l g yJ7_coderFromArrayLen (ws_ yJ7_coderFromArrayLen cJ7_coderFromArrayLen 2 (some (.byte))) 1 60 S mo [vr r0, vi x1] (some (vi r)) S1 mo := by
  refine met_of false (by decide) (fun h => by first | rfl | cases h) rfl (Nat.le_of_ble_eq_true rfl) (fun f hl hg hc ho hnL hrm hre hct hex hq => ?_)
  subst hl
  subst hg
  unfold f_J7_coderFromArrayLen at hf
  refine j_iload_n (pc := 0) hc dJ7_coderFromArrayLen_0 1 rfl rfl ?_
  refine j_aload_n (pc := 1) hc dJ7_coderFromArrayLen_1 0 rfl rfl ?_
  obtain ⟨a1, ea1, hf1⟩ := ob_i hf
  clear hf
  subst ea1
  obtain ⟨v2, ev2, hf2⟩ := ob_i hf1
  clear hf1
  refine j_alen (pc := 2) hc dJ7_coderFromArrayLen_2 (by decide) ev2 ?_
  refine j_isub (pc := 3) hc dJ7_coderFromArrayLen_3 ?_
  refine j_bipush (pc := 4) (v := (31)) hc dJ7_coderFromArrayLen_4 rfl ?_
  refine j_iushr (pc := 6) hc dJ7_coderFromArrayLen_6 ?_
  refine j_i2b (pc := 7) hc dJ7_coderFromArrayLen_7 ?_
  by_cases hh : vp_nar .byte (Int8.toInt32 (Int32.toInt8 (UInt32.toInt32 (Int32.toUInt32 (x1 - v2) >>> (Int32.toUInt32 (31) &&& Int32.toUInt32 31))))) = (Int8.toInt32 (Int32.toInt8 (UInt32.toInt32 (Int32.toUInt32 (x1 - v2) >>> (Int32.toUInt32 (31) &&& Int32.toUInt32 31)))))
  · have hf3 := (if_pos hh).symm.trans hf2
    clear hf2
    cases hf3
    exact j_iret (pc := 8) hc hq hre (nar_b hh) dJ7_coderFromArrayLen_8
  · have hf4 := (if_neg hh).symm.trans hf2
    clear hf2
    cases hf4
theorem cw_J6_177 : CS "java/lang/String" 177 yJ7_compress cJ7_compress 6 (some (.array .byte)) 3 := ⟨⟨q394, q395, q92, q396⟩, by decide, by decide, by decide +kernel⟩
theorem cw_J6_47 : CS "java/lang/String" 47 yJ7_coderFromArrayLen cJ7_coderFromArrayLen 2 (some (.byte)) 2 := ⟨⟨q439, q440, q92, q441⟩, by decide, by decide, by decide +kernel⟩
def f_J6_init_2 (a0 : Nat) (r1 : Option Nat) (x2 : Int32) (x3 : Int32) (r4 : Option Nat) (S : HS) : Option HS :=
  if x3 = 0 then
    (g_fR S 13 141 (h_ks S 24)).bind fun q7 =>
    (p_fR S 13 141 a0 q7).bind fun T8 =>
    (g_fI T8 13 142 (h_ks T8 24)).bind fun v9 =>
    (p_fN (.byte) T8 13 142 a0 v9).bind fun T10 =>
    some T10
  else
    o_bd (f_J7_compress r1 x2 x3 S) fun q2 T1 =>
    o_bd (f_J7_coderFromArrayLen q2 x3 T1) fun v4 T3 =>
    (p_fN (.byte) T3 13 142 a0 v4).bind fun T5 =>
    (p_fR T5 13 141 a0 q2).bind fun T6 =>
    some T6
set_option maxRecDepth 100000 in
set_option maxHeartbeats 2000000 in
theorem c_J6_init_2 {l : Launch} {g : PG} {mo : MO} {a0 : Nat} {r1 : Option Nat} {x2 : Int32} {x3 : Int32} {r4 : Option Nat} {S S1 : HS} (hf : f_J6_init_2 a0 r1 x2 x3 r4 S = some S1) : (h_nx S ≤ h_nx S1 ∧ h_sl S ≤ h_sl S1) ∧ Ct l g yJ6_init_2 (ws_ yJ6_init_2 cJ6_init_2 6 none) 3 111 S mo [vr (some a0), vr r1, vi x2, vi x3, vr r4] none S1 mo := by
  refine met_of true (by decide) (fun h => by first | rfl | cases h) rfl (Nat.le_of_ble_eq_true rfl) (fun f hl hg hc ho hnL hrm hre hct hex hq => ?_)
  subst hl
  subst hg
  unfold f_J6_init_2 at hf
  refine j_aload_n (pc := 0) hc dJ6_init_2_0 0 rfl rfl ?_
  refine j_oini (pc := 1) hc ho q392 q_oi1 q_oi2 hrm ⟨by decide, Nat.le_of_ble_eq_true rfl⟩ dJ6_init_2_1 ?_
  refine j_iload_n (pc := 4) hc dJ6_init_2_4 3 rfl rfl ?_
  refine j_if_ne (pc := 5) hc dJ6_init_2_5 (tgt := 27) rfl (fun hh => ?_) (fun hh => ?_)
  · have hf1 := (if_neg hh).symm.trans hf
    clear hf
    refine j_gets (pc := 27) (v := vi (1)) hc ho q375 zs_comp dJ6_init_2_27 ?_
    refine j_if_eq (pc := 30) hc dJ6_init_2_30 (tgt := 58) rfl (fun hh => ?_) (fun hh => ?_)
    · exact absurd hh (by decide)
    · clear hh
      refine j_aload_n (pc := 33) hc dJ6_init_2_33 1 rfl rfl ?_
      refine j_iload_n (pc := 34) hc dJ6_init_2_34 2 rfl rfl ?_
      refine j_iload_n (pc := 35) hc dJ6_init_2_35 3 rfl rfl ?_
      obtain ⟨q2, T1, eq2, hf2⟩ := ob_c hf1
      clear hf1
      refine j_callS (pc := 36) (As := [vr r1, vi x2, vi x3]) (rest := []) (st2 := [vr q2]) hc ho cw_J6_177 (c_J7_compress eq2) hrm ⟨by decide, by decide⟩ rfl (Nat.le_of_ble_eq_true rfl) dJ6_init_2_36 rfl rfl ?_
      refine j_astore (pc := 39) (L' := [(5, vr q2), (0, vr (some a0)), (1, vr r1), (2, vi x2), (3, vi x3), (4, vr r4)]) hc dJ6_init_2_39 hnL (by decide) rfl ?_
      refine j_aload_n (pc := 41) hc dJ6_init_2_41 1 rfl rfl ?_
      refine j_aload (pc := 42) hc dJ6_init_2_42 0 rfl ?_
      refine j_iload_n (pc := 44) hc dJ6_init_2_44 4 rfl rfl ?_
      obtain ⟨v4, T3, ev4, hf3⟩ := ob_c hf2
      clear hf2
      refine j_callS (pc := 45) (As := [vr q2, vi x3]) (rest := [vr (some a0)]) (st2 := [vi v4, vr (some a0)]) hc ho cw_J6_47 (c_J7_coderFromArrayLen ev4) hrm ⟨by decide, by decide⟩ rfl (Nat.le_of_ble_eq_true rfl) dJ6_init_2_45 rfl rfl ?_
      obtain ⟨T5, eT5, hf4⟩ := ob_i hf3
      clear hf3
      refine j_putN (pc := 48) hc ho fa_J6_15_13 (Or.inr ⟨rfl, hct⟩) dJ6_init_2_48 eT5 rfl ?_
      refine j_aload_n (pc := 51) hc dJ6_init_2_51 1 rfl rfl ?_
      refine j_aload (pc := 52) hc dJ6_init_2_52 0 rfl ?_
      obtain ⟨T6, eT6, hf5⟩ := ob_i hf4
      clear hf4
      refine j_putR (pc := 54) hc ho fa_J6_9_13 rfl (Or.inr ⟨rfl, hct⟩) dJ6_init_2_54 eT6 ?_
      cases hf5
      exact j_vret (pc := 57) hc hq hre dJ6_init_2_57
  · have hf6 := (if_pos hh).symm.trans hf
    clear hf
    refine j_aload_n (pc := 8) hc dJ6_init_2_8 0 rfl rfl ?_
    refine j_ldcS (pc := 9) hc ho (tx := "") 24 rfl dJ6_init_2_9 ?_
    obtain ⟨q7, eq7, hf7⟩ := ob_i hf6
    clear hf6
    refine j_getR (pc := 11) hc ho fa_J6_9_13 dJ6_init_2_11 eq7 ?_
    obtain ⟨T8, eT8, hf8⟩ := ob_i hf7
    clear hf7
    refine j_putR (pc := 14) hc ho fa_J6_9_13 rfl (Or.inr ⟨rfl, hct⟩) dJ6_init_2_14 eT8 ?_
    refine j_aload_n (pc := 17) hc dJ6_init_2_17 0 rfl rfl ?_
    refine j_ldcS (pc := 18) hc ho (tx := "") 24 rfl dJ6_init_2_18 ?_
    obtain ⟨v9, ev9, hf9⟩ := ob_i hf8
    clear hf8
    refine j_getI (pc := 20) hc ho fa_J6_15_13 dJ6_init_2_20 ev9 ?_
    obtain ⟨T10, eT10, hf10⟩ := ob_i hf9
    clear hf9
    refine j_putN (pc := 23) hc ho fa_J6_15_13 (Or.inr ⟨rfl, hct⟩) dJ6_init_2_23 eT10 rfl ?_
    cases hf10
    exact j_vret (pc := 26) hc hq hre dJ6_init_2_26
theorem cw_J6_27 : CT "java/lang/String" 27 yJ6_init_2 cJ6_init_2 6 4 := ⟨⟨q389, rfl, q390, q91, q391⟩, by decide, by decide, by decide +kernel⟩
def f_J6_init (a0 : Nat) (r1 : Option Nat) (S : HS) : Option HS :=
  (r1).bind fun a1 =>
  (g_len S 33 a1).bind fun v2 =>
  (f_J6_init_2 a0 (some a1) (0) v2 none S).bind fun T3 =>
  some T3
set_option maxRecDepth 100000 in
set_option maxHeartbeats 2000000 in
theorem c_J6_init {l : Launch} {g : PG} {mo : MO} {a0 : Nat} {r1 : Option Nat} {S S1 : HS} (hf : f_J6_init a0 r1 S = some S1) : (h_nx S ≤ h_nx S1 ∧ h_sl S ≤ h_sl S1) ∧ Ct l g yJ6_init (ws_ yJ6_init cJ6_init 2 none) 4 136 S mo [vr (some a0), vr r1] none S1 mo := by
  refine met_of true (by decide) (fun h => by first | rfl | cases h) rfl (Nat.le_of_ble_eq_true rfl) (fun f hl hg hc ho hnL hrm hre hct hex hq => ?_)
  subst hl
  subst hg
  unfold f_J6_init at hf
  refine j_aload_n (pc := 0) hc dJ6_init_0 0 rfl rfl ?_
  refine j_aload_n (pc := 1) hc dJ6_init_1 1 rfl rfl ?_
  refine j_iconst (pc := 2) (v := (0)) hc dJ6_init_2 rfl ?_
  refine j_aload_n (pc := 3) hc dJ6_init_3 1 rfl rfl ?_
  obtain ⟨a1, ea1, hf1⟩ := ob_i hf
  clear hf
  subst ea1
  obtain ⟨v2, ev2, hf2⟩ := ob_i hf1
  clear hf1
  refine j_alen (pc := 4) hc dJ6_init_4 (by decide) ev2 ?_
  refine j_null (pc := 5) hc dJ6_init_5 ?_
  obtain ⟨T3, eT3, hf3⟩ := ob_i hf2
  clear hf2
  refine j_callI (pc := 6) (As := [vr (some a1), vi (0), vi v2, vr none]) (rest := []) (st2 := []) hc ho cw_J6_27 (c_J6_init_2 eT3) hrm ⟨by decide, by decide⟩ rfl (Nat.le_of_ble_eq_true rfl) dJ6_init_6 rfl rfl ?_
  cases hf3
  exact j_vret (pc := 9) hc hq hre dJ6_init_9
theorem fn_J6_10 : FN "java/lang/String" 10 13 4 := ⟨RJ6, TJ6, tyJ6, CI_J6, q384, q385, q91, by decide +kernel⟩
theorem cw_J6_1008 : CT "java/lang/String" 1008 yJ6_init cJ6_init 2 1 := ⟨⟨q386, rfl, q387, q91, q388⟩, by decide, by decide, by decide +kernel⟩
def f_J6_valueOf (r0 : Option Nat) (S : HS) : Option (Option Nat × HS) :=
  (n_obj S 13 4).bind fun T1 =>
  (f_J6_init (h_nx S) r0 T1).bind fun T2 =>
  some ((some (h_nx S)), T2)
set_option maxRecDepth 100000 in
set_option maxHeartbeats 2000000 in
theorem c_J6_valueOf {l : Launch} {g : PG} {mo : MO} {r0 : Option Nat} {r : Option Nat} {S S1 : HS} (hf : f_J6_valueOf r0 S = some (r, S1)) : (h_nx S ≤ h_nx S1 ∧ h_sl S ≤ h_sl S1) ∧ Ct l g yJ6_valueOf (ws_ yJ6_valueOf cJ6_valueOf 1 (some (.object "java/lang/String"))) 5 157 S mo [vr r0] (some (vr r)) S1 mo := by
  refine met_of false (by decide) (fun h => by first | rfl | cases h) rfl (Nat.le_of_ble_eq_true rfl) (fun f hl hg hc ho hnL hrm hre hct hex hq => ?_)
  subst hl
  subst hg
  unfold f_J6_valueOf at hf
  obtain ⟨T1, eT1, hf1⟩ := ob_i hf
  clear hf
  refine j_new (pc := 0) hc ho fn_J6_10 dJ6_valueOf_0 eT1 ?_
  refine j_dup (pc := 3) hc dJ6_valueOf_3 rfl ?_
  refine j_aload_n (pc := 4) hc dJ6_valueOf_4 0 rfl rfl ?_
  obtain ⟨T2, eT2, hf2⟩ := ob_i hf1
  clear hf1
  refine j_callI (pc := 5) (As := [vr r0]) (rest := [vr (some (h_nx S))]) (st2 := [vr (some (h_nx S))]) hc ho cw_J6_1008 (c_J6_init eT2) hrm ⟨by decide, by decide⟩ rfl (Nat.le_of_ble_eq_true rfl) dJ6_valueOf_5 rfl rfl ?_
  cases hf2
  exact j_aret (pc := 8) hc hq hre (Or.inl ⟨_, rfl⟩) dJ6_valueOf_8
def f_J8_checkFromIndexSize_n15 (x0 : Int32) (x1 : Int32) (x2 : Int32) (r3 : Option Nat) (S : HS) : Option (Int32 × HS) :=
  none
def f_J8_checkFromIndexSize (x0 : Int32) (x1 : Int32) (x2 : Int32) (r3 : Option Nat) (S : HS) : Option (Int32 × HS) :=
  if ((x2 ||| x0) ||| x1) < 0 then
    f_J8_checkFromIndexSize_n15 x0 x1 x2 r3 S
  else
    if x1 ≤ (x2 - x0) then
      some (x0, S)
    else
      f_J8_checkFromIndexSize_n15 x0 x1 x2 r3 S
set_option maxRecDepth 100000 in
set_option maxHeartbeats 2000000 in
theorem w_J8_checkFromIndexSize_n15 {f : CfT} {mo : MO} {r : Int32} {S1 : HS} (hc : cf_cc f = cJ8_checkFromIndexSize) (ho : cf_ow f = "jdk/internal/util/Preconditions") (hnL : cf_nL f = 4) (hrm : cf_rm f = (1, 60)) (hre : cf_re f = (some (.int))) (hct : cf_ct f = false) (hq : Qok f (some (vi r)) S1 mo) {x0 : Int32} {x1 : Int32} {x2 : Int32} {r3 : Option Nat} {S : HS} (hf : f_J8_checkFromIndexSize_n15 x0 x1 x2 r3 S = some (r, S1)) : JJ f S mo 15 [(0, vi x0), (1, vi x1), (2, vi x2), (3, vr r3)] [] := by
  unfold f_J8_checkFromIndexSize_n15 at hf
  refine j_aload_n (pc := 15) hc dJ8_checkFromIndexSize_15 3 rfl rfl ?_
  refine j_iload_n (pc := 16) hc dJ8_checkFromIndexSize_16 0 rfl rfl ?_
  refine j_iload_n (pc := 17) hc dJ8_checkFromIndexSize_17 1 rfl rfl ?_
  refine j_iload_n (pc := 18) hc dJ8_checkFromIndexSize_18 2 rfl rfl ?_
  cases hf
set_option maxRecDepth 100000 in
set_option maxHeartbeats 2000000 in
theorem c_J8_checkFromIndexSize {l : Launch} {g : PG} {mo : MO} {x0 : Int32} {x1 : Int32} {x2 : Int32} {r3 : Option Nat} {r : Int32} {S S1 : HS} (hf : f_J8_checkFromIndexSize x0 x1 x2 r3 S = some (r, S1)) : (h_nx S ≤ h_nx S1 ∧ h_sl S ≤ h_sl S1) ∧ Ct l g yJ8_checkFromIndexSize (ws_ yJ8_checkFromIndexSize cJ8_checkFromIndexSize 4 (some (.int))) 1 60 S mo [vi x0, vi x1, vi x2, vr r3] (some (vi r)) S1 mo := by
  refine met_of false (by decide) (fun h => by first | rfl | cases h) rfl (Nat.le_of_ble_eq_true rfl) (fun f hl hg hc ho hnL hrm hre hct hex hq => ?_)
  subst hl
  subst hg
  unfold f_J8_checkFromIndexSize at hf
  refine j_iload_n (pc := 0) hc dJ8_checkFromIndexSize_0 2 rfl rfl ?_
  refine j_iload_n (pc := 1) hc dJ8_checkFromIndexSize_1 0 rfl rfl ?_
  refine j_ior (pc := 2) hc dJ8_checkFromIndexSize_2 ?_
  refine j_iload_n (pc := 3) hc dJ8_checkFromIndexSize_3 1 rfl rfl ?_
  refine j_ior (pc := 4) hc dJ8_checkFromIndexSize_4 ?_
  refine j_if_lt (pc := 5) hc dJ8_checkFromIndexSize_5 (tgt := 15) rfl (fun hh => ?_) (fun hh => ?_)
  · have hf1 := (if_pos hh).symm.trans hf
    clear hf
    exact w_J8_checkFromIndexSize_n15 hc ho hnL hrm hre hct hq hf1
  · have hf2 := (if_neg hh).symm.trans hf
    clear hf
    refine j_iload_n (pc := 8) hc dJ8_checkFromIndexSize_8 1 rfl rfl ?_
    refine j_iload_n (pc := 9) hc dJ8_checkFromIndexSize_9 2 rfl rfl ?_
    refine j_iload_n (pc := 10) hc dJ8_checkFromIndexSize_10 0 rfl rfl ?_
    refine j_isub (pc := 11) hc dJ8_checkFromIndexSize_11 ?_
    refine j_icmp_le (pc := 12) hc dJ8_checkFromIndexSize_12 (tgt := 23) rfl (fun hh => ?_) (fun hh => ?_)
    · have hf3 := (if_pos hh).symm.trans hf2
      clear hf2
      refine j_iload_n (pc := 23) hc dJ8_checkFromIndexSize_23 0 rfl rfl ?_
      cases hf3
      exact j_iret (pc := 24) hc hq hre rfl dJ8_checkFromIndexSize_24
    · have hf4 := (if_neg hh).symm.trans hf2
      clear hf2
      exact w_J8_checkFromIndexSize_n15 hc ho hnL hrm hre hct hq hf4
theorem cw_J6_1065 : CS "java/lang/String" 1065 yJ8_checkFromIndexSize cJ8_checkFromIndexSize 4 (some (.int)) 4 := ⟨⟨q436, q437, q93, q438⟩, by decide, by decide, by decide +kernel⟩
def f_J6_checkBoundsOffCount (x0 : Int32) (x1 : Int32) (x2 : Int32) (S : HS) : Option (Int32 × HS) :=
  o_bd (f_J8_checkFromIndexSize x0 x1 x2 (h_kr S 2) S) fun v2 T1 =>
  some (v2, T1)
set_option maxRecDepth 100000 in
set_option maxHeartbeats 2000000 in
theorem c_J6_checkBoundsOffCount {l : Launch} {g : PG} {mo : MO} {x0 : Int32} {x1 : Int32} {x2 : Int32} {r : Int32} {S S1 : HS} (hf : f_J6_checkBoundsOffCount x0 x1 x2 S = some (r, S1)) : (h_nx S ≤ h_nx S1 ∧ h_sl S ≤ h_sl S1) ∧ Ct l g yJ6_checkBoundsOffCount (ws_ yJ6_checkBoundsOffCount cJ6_checkBoundsOffCount 3 (some (.int))) 2 83 S mo [vi x0, vi x1, vi x2] (some (vi r)) S1 mo := by
  refine met_of false (by decide) (fun h => by first | rfl | cases h) rfl (Nat.le_of_ble_eq_true rfl) (fun f hl hg hc ho hnL hrm hre hct hex hq => ?_)
  subst hl
  subst hg
  unfold f_J6_checkBoundsOffCount at hf
  refine j_iload_n (pc := 0) hc dJ6_checkBoundsOffCount_0 0 rfl rfl ?_
  refine j_iload_n (pc := 1) hc dJ6_checkBoundsOffCount_1 1 rfl rfl ?_
  refine j_iload_n (pc := 2) hc dJ6_checkBoundsOffCount_2 2 rfl rfl ?_
  refine j_gets (pc := 3) (v := vr (h_kr S 2)) hc ho q434 zs_sio dJ6_checkBoundsOffCount_3 ?_
  obtain ⟨v2, T1, ev2, hf1⟩ := ob_c hf
  clear hf
  refine j_callS (pc := 6) (As := [vi x0, vi x1, vi x2, vr (h_kr S 2)]) (rest := []) (st2 := [vi v2]) hc ho cw_J6_1065 (c_J8_checkFromIndexSize ev2) hrm ⟨by decide, by decide⟩ rfl (Nat.le_of_ble_eq_true rfl) dJ6_checkBoundsOffCount_6 rfl rfl ?_
  cases hf1
  exact j_iret (pc := 9) hc hq hre rfl dJ6_checkBoundsOffCount_9
theorem cw_J6_34 : CS "java/lang/String" 34 yJ6_checkBoundsOffCount cJ6_checkBoundsOffCount 3 (some (.int)) 3 := ⟨⟨q856, q432, q91, q433⟩, by decide, by decide, by decide +kernel⟩
def f_J6_rangeCheck (r0 : Option Nat) (x1 : Int32) (x2 : Int32) (S : HS) : Option (Option Nat × HS) :=
  (r0).bind fun a1 =>
  (g_len S 33 a1).bind fun v2 =>
  o_bd (f_J6_checkBoundsOffCount x1 x2 v2 S) fun v4 T3 =>
  some (none, T3)
set_option maxRecDepth 100000 in
set_option maxHeartbeats 2000000 in
theorem c_J6_rangeCheck {l : Launch} {g : PG} {mo : MO} {r0 : Option Nat} {x1 : Int32} {x2 : Int32} {r : Option Nat} {S S1 : HS} (hf : f_J6_rangeCheck r0 x1 x2 S = some (r, S1)) : (h_nx S ≤ h_nx S1 ∧ h_sl S ≤ h_sl S1) ∧ Ct l g yJ6_rangeCheck (ws_ yJ6_rangeCheck cJ6_rangeCheck 3 (some (.object "java/lang/Void"))) 3 105 S mo [vr r0, vi x1, vi x2] (some (vr r)) S1 mo := by
  refine met_of false (by decide) (fun h => by first | rfl | cases h) rfl (Nat.le_of_ble_eq_true rfl) (fun f hl hg hc ho hnL hrm hre hct hex hq => ?_)
  subst hl
  subst hg
  unfold f_J6_rangeCheck at hf
  refine j_iload_n (pc := 0) hc dJ6_rangeCheck_0 1 rfl rfl ?_
  refine j_iload_n (pc := 1) hc dJ6_rangeCheck_1 2 rfl rfl ?_
  refine j_aload_n (pc := 2) hc dJ6_rangeCheck_2 0 rfl rfl ?_
  obtain ⟨a1, ea1, hf1⟩ := ob_i hf
  clear hf
  subst ea1
  obtain ⟨v2, ev2, hf2⟩ := ob_i hf1
  clear hf1
  refine j_alen (pc := 3) hc dJ6_rangeCheck_3 (by decide) ev2 ?_
  obtain ⟨v4, T3, ev4, hf3⟩ := ob_c hf2
  clear hf2
  refine j_callS (pc := 4) (As := [vi x1, vi x2, vi v2]) (rest := []) (st2 := [vi v4]) hc ho cw_J6_34 (c_J6_checkBoundsOffCount ev4) hrm ⟨by decide, by decide⟩ rfl (Nat.le_of_ble_eq_true rfl) dJ6_rangeCheck_4 rfl rfl ?_
  refine j_pop (pc := 7) hc dJ6_rangeCheck_7 rfl ?_
  refine j_null (pc := 8) hc dJ6_rangeCheck_8 ?_
  cases hf3
  exact j_aret (pc := 9) hc hq hre (Or.inl ⟨_, rfl⟩) dJ6_rangeCheck_9
theorem cw_J6_30 : CS "java/lang/String" 30 yJ6_rangeCheck cJ6_rangeCheck 3 (some (.object "java/lang/Void")) 3 := ⟨⟨q853, q854, q91, q855⟩, by decide, by decide, by decide +kernel⟩
def f_J6_init_3 (a0 : Nat) (r1 : Option Nat) (x2 : Int32) (x3 : Int32) (S : HS) : Option HS :=
  o_bd (f_J6_rangeCheck r1 x2 x3 S) fun q2 T1 =>
  (f_J6_init_2 a0 r1 x2 x3 q2 T1).bind fun T3 =>
  some T3
set_option maxRecDepth 100000 in
set_option maxHeartbeats 2000000 in
theorem c_J6_init_3 {l : Launch} {g : PG} {mo : MO} {a0 : Nat} {r1 : Option Nat} {x2 : Int32} {x3 : Int32} {S S1 : HS} (hf : f_J6_init_3 a0 r1 x2 x3 S = some S1) : (h_nx S ≤ h_nx S1 ∧ h_sl S ≤ h_sl S1) ∧ Ct l g yJ6_init_3 (ws_ yJ6_init_3 cJ6_init_3 4 none) 4 136 S mo [vr (some a0), vr r1, vi x2, vi x3] none S1 mo := by
  refine met_of true (by decide) (fun h => by first | rfl | cases h) rfl (Nat.le_of_ble_eq_true rfl) (fun f hl hg hc ho hnL hrm hre hct hex hq => ?_)
  subst hl
  subst hg
  unfold f_J6_init_3 at hf
  refine j_aload_n (pc := 0) hc dJ6_init_3_0 0 rfl rfl ?_
  refine j_aload_n (pc := 1) hc dJ6_init_3_1 1 rfl rfl ?_
  refine j_iload_n (pc := 2) hc dJ6_init_3_2 2 rfl rfl ?_
  refine j_iload_n (pc := 3) hc dJ6_init_3_3 3 rfl rfl ?_
  refine j_aload_n (pc := 4) hc dJ6_init_3_4 1 rfl rfl ?_
  refine j_iload_n (pc := 5) hc dJ6_init_3_5 2 rfl rfl ?_
  refine j_iload_n (pc := 6) hc dJ6_init_3_6 3 rfl rfl ?_
  obtain ⟨q2, T1, eq2, hf1⟩ := ob_c hf
  clear hf
  refine j_callS (pc := 7) (As := [vr r1, vi x2, vi x3]) (rest := [vi x3, vi x2, vr r1, vr (some a0)]) (st2 := [vr q2, vi x3, vi x2, vr r1, vr (some a0)]) hc ho cw_J6_30 (c_J6_rangeCheck eq2) hrm ⟨by decide, by decide⟩ rfl (Nat.le_of_ble_eq_true rfl) dJ6_init_3_7 rfl rfl ?_
  obtain ⟨T3, eT3, hf2⟩ := ob_i hf1
  clear hf1
  refine j_callI (pc := 10) (As := [vr r1, vi x2, vi x3, vr q2]) (rest := []) (st2 := []) hc ho cw_J6_27 (c_J6_init_2 eT3) hrm ⟨by decide, by decide⟩ rfl (Nat.le_of_ble_eq_true rfl) dJ6_init_3_10 rfl rfl ?_
  cases hf2
  exact j_vret (pc := 13) hc hq hre dJ6_init_3_13
theorem cw_J6_970 : CT "java/lang/String" 970 yJ6_init_3 cJ6_init_3 4 3 := ⟨⟨q850, rfl, q851, q91, q852⟩, by decide, by decide, by decide +kernel⟩
def f_J6_valueOf_2 (r0 : Option Nat) (x1 : Int32) (x2 : Int32) (S : HS) : Option (Option Nat × HS) :=
  (n_obj S 13 4).bind fun T1 =>
  (f_J6_init_3 (h_nx S) r0 x1 x2 T1).bind fun T2 =>
  some ((some (h_nx S)), T2)
set_option maxRecDepth 100000 in
set_option maxHeartbeats 2000000 in
theorem c_J6_valueOf_2 {l : Launch} {g : PG} {mo : MO} {r0 : Option Nat} {x1 : Int32} {x2 : Int32} {r : Option Nat} {S S1 : HS} (hf : f_J6_valueOf_2 r0 x1 x2 S = some (r, S1)) : (h_nx S ≤ h_nx S1 ∧ h_sl S ≤ h_sl S1) ∧ Ct l g yJ6_valueOf_2 (ws_ yJ6_valueOf_2 cJ6_valueOf_2 3 (some (.object "java/lang/String"))) 5 159 S mo [vr r0, vi x1, vi x2] (some (vr r)) S1 mo := by
  refine met_of false (by decide) (fun h => by first | rfl | cases h) rfl (Nat.le_of_ble_eq_true rfl) (fun f hl hg hc ho hnL hrm hre hct hex hq => ?_)
  subst hl
  subst hg
  unfold f_J6_valueOf_2 at hf
  obtain ⟨T1, eT1, hf1⟩ := ob_i hf
  clear hf
  refine j_new (pc := 0) hc ho fn_J6_10 dJ6_valueOf_2_0 eT1 ?_
  refine j_dup (pc := 3) hc dJ6_valueOf_2_3 rfl ?_
  refine j_aload_n (pc := 4) hc dJ6_valueOf_2_4 0 rfl rfl ?_
  refine j_iload_n (pc := 5) hc dJ6_valueOf_2_5 1 rfl rfl ?_
  refine j_iload_n (pc := 6) hc dJ6_valueOf_2_6 2 rfl rfl ?_
  obtain ⟨T2, eT2, hf2⟩ := ob_i hf1
  clear hf1
  refine j_callI (pc := 7) (As := [vr r0, vi x1, vi x2]) (rest := [vr (some (h_nx S))]) (st2 := [vr (some (h_nx S))]) hc ho cw_J6_970 (c_J6_init_3 eT2) hrm ⟨by decide, by decide⟩ rfl (Nat.le_of_ble_eq_true rfl) dJ6_valueOf_2_7 rfl rfl ?_
  cases hf2
  exact j_aret (pc := 10) hc hq hre (Or.inl ⟨_, rfl⟩) dJ6_valueOf_2_10
def f_J6_coder (a0 : Nat) (S : HS) : Option (Int32 × HS) :=
  (g_fI S 13 142 a0).bind fun v1 =>
  if vp_nar .byte v1 = v1 then
    some (v1, S)
  else
    none
set_option maxRecDepth 100000 in
set_option maxHeartbeats 2000000 in
theorem c_J6_coder {l : Launch} {g : PG} {mo : MO} {a0 : Nat} {r : Int32} {S S1 : HS} (hf : f_J6_coder a0 S = some (r, S1)) : (h_nx S ≤ h_nx S1 ∧ h_sl S ≤ h_sl S1) ∧ Ct l g yJ6_coder (ws_ yJ6_coder cJ6_coder 1 (some (.byte))) 1 60 S mo [vr (some a0)] (some (vi r)) S1 mo := by
  refine met_of false (by decide) (fun h => by first | rfl | cases h) rfl (Nat.le_of_ble_eq_true rfl) (fun f hl hg hc ho hnL hrm hre hct hex hq => ?_)
  subst hl
  subst hg
  unfold f_J6_coder at hf
  refine j_gets (pc := 0) (v := vi (1)) hc ho q375 zs_comp dJ6_coder_0 ?_
  refine j_if_eq (pc := 3) hc dJ6_coder_3 (tgt := 13) rfl (fun hh => ?_) (fun hh => ?_)
  · exact absurd hh (by decide)
  · clear hh
    refine j_aload_n (pc := 6) hc dJ6_coder_6 0 rfl rfl ?_
    obtain ⟨v1, ev1, hf1⟩ := ob_i hf
    clear hf
    refine j_getI (pc := 7) hc ho fa_J6_15_13 dJ6_coder_7 ev1 ?_
    refine j_goto (pc := 10) hc dJ6_coder_10 (tgt := 14) rfl ?_
    by_cases hh : vp_nar .byte v1 = v1
    · have hf2 := (if_pos hh).symm.trans hf1
      clear hf1
      cases hf2
      exact j_iret (pc := 14) hc hq hre (nar_b hh) dJ6_coder_14
    · have hf3 := (if_neg hh).symm.trans hf1
      clear hf1
      cases hf3
theorem cw_J6_335 : CV "java/lang/String" 335 RJ6 yJ6_coder cJ6_coder 1 (some (.byte)) 0 := ⟨⟨q371, q372, q373, q91, q374⟩, rfl, by decide, by decide, by decide +kernel⟩
def f_J6_length (a0 : Nat) (S : HS) : Option (Int32 × HS) :=
  (g_fR S 13 141 a0).bind fun q1 =>
  (q1).bind fun a2 =>
  (g_len S 32 a2).bind fun v3 =>
  (g_cls S 13 a0).bind fun u4 =>
  o_bd (f_J6_coder a0 S) fun v6 T5 =>
  some ((v3 >>> (v6 &&& 31)), T5)
set_option maxRecDepth 100000 in
set_option maxHeartbeats 2000000 in
theorem c_J6_length {l : Launch} {g : PG} {mo : MO} {a0 : Nat} {r : Int32} {S S1 : HS} (hf : f_J6_length a0 S = some (r, S1)) : (h_nx S ≤ h_nx S1 ∧ h_sl S ≤ h_sl S1) ∧ Ct l g yJ6_length (ws_ yJ6_length cJ6_length 1 (some (.int))) 2 80 S mo [vr (some a0)] (some (vi r)) S1 mo := by
  refine met_of false (by decide) (fun h => by first | rfl | cases h) rfl (Nat.le_of_ble_eq_true rfl) (fun f hl hg hc ho hnL hrm hre hct hex hq => ?_)
  subst hl
  subst hg
  unfold f_J6_length at hf
  refine j_aload_n (pc := 0) hc dJ6_length_0 0 rfl rfl ?_
  obtain ⟨q1, eq1, hf1⟩ := ob_i hf
  clear hf
  refine j_getR (pc := 1) hc ho fa_J6_9_13 dJ6_length_1 eq1 ?_
  obtain ⟨a2, ea2, hf2⟩ := ob_i hf1
  clear hf1
  subst ea2
  obtain ⟨v3, ev3, hf3⟩ := ob_i hf2
  clear hf2
  refine j_alen (pc := 4) hc dJ6_length_4 (by decide) ev3 ?_
  refine j_aload_n (pc := 5) hc dJ6_length_5 0 rfl rfl ?_
  obtain ⟨u4, eu4, hf4⟩ := ob_i hf3
  clear hf3
  obtain ⟨v6, T5, ev6, hf5⟩ := ob_c hf4
  clear hf4
  refine j_callV (pc := 6) (As := []) (rest := [vi v3]) (st2 := [vi v6, vi v3]) hc ho cw_J6_335 (c_J6_coder ev6) (Rc.of (g_cls_ok eu4) (by decide) (by decide) ci_J6) hrm ⟨by decide, by decide⟩ rfl (Nat.le_of_ble_eq_true rfl) dJ6_length_6 rfl rfl ?_
  refine j_ishr (pc := 9) hc dJ6_length_9 ?_
  cases hf5
  exact j_iret (pc := 10) hc hq hre rfl dJ6_length_10
theorem cw_J6_1059 : CS "java/lang/String" 1059 yJ8_checkIndex cJ8_checkIndex 3 (some (.int)) 3 := ⟨⟨q710, q711, q93, q712⟩, by decide, by decide, by decide +kernel⟩
def f_J6_checkIndex (x0 : Int32) (x1 : Int32) (S : HS) : Option HS :=
  o_bd (f_J8_checkIndex x0 x1 (h_kr S 2) S) fun v2 T1 =>
  some T1
set_option maxRecDepth 100000 in
set_option maxHeartbeats 2000000 in
theorem c_J6_checkIndex {l : Launch} {g : PG} {mo : MO} {x0 : Int32} {x1 : Int32} {S S1 : HS} (hf : f_J6_checkIndex x0 x1 S = some S1) : (h_nx S ≤ h_nx S1 ∧ h_sl S ≤ h_sl S1) ∧ Ct l g yJ6_checkIndex (ws_ yJ6_checkIndex cJ6_checkIndex 2 none) 2 82 S mo [vi x0, vi x1] none S1 mo := by
  refine met_of false (by decide) (fun h => by first | rfl | cases h) rfl (Nat.le_of_ble_eq_true rfl) (fun f hl hg hc ho hnL hrm hre hct hex hq => ?_)
  subst hl
  subst hg
  unfold f_J6_checkIndex at hf
  refine j_iload_n (pc := 0) hc dJ6_checkIndex_0 0 rfl rfl ?_
  refine j_iload_n (pc := 1) hc dJ6_checkIndex_1 1 rfl rfl ?_
  refine j_gets (pc := 2) (v := vr (h_kr S 2)) hc ho q434 zs_sio dJ6_checkIndex_2 ?_
  obtain ⟨v2, T1, ev2, hf1⟩ := ob_c hf
  clear hf
  refine j_callS (pc := 5) (As := [vi x0, vi x1, vr (h_kr S 2)]) (rest := []) (st2 := [vi v2]) hc ho cw_J6_1059 (c_J8_checkIndex ev2) hrm ⟨by decide, by decide⟩ rfl (Nat.le_of_ble_eq_true rfl) dJ6_checkIndex_5 rfl rfl ?_
  refine j_pop (pc := 8) hc dJ6_checkIndex_8 rfl ?_
  cases hf1
  exact j_vret (pc := 9) hc hq hre dJ6_checkIndex_9
theorem cw_J9_9 : CS "java/lang/StringLatin1" 9 yJ6_checkIndex cJ6_checkIndex 2 none 2 := ⟨⟨q707, q708, q91, q709⟩, by decide, by decide, by decide +kernel⟩
def f_J9_charAt (r0 : Option Nat) (x1 : Int32) (S : HS) : Option (Int32 × HS) :=
  (r0).bind fun a1 =>
  (g_len S 32 a1).bind fun v2 =>
  (f_J6_checkIndex x1 v2 S).bind fun T3 =>
  (g_aI T3 32 a1 x1).bind fun v4 =>
  if vp_nar .char (UInt32.toInt32 (Int32.toUInt32 (v4 &&& (255)) % 65536)) = (UInt32.toInt32 (Int32.toUInt32 (v4 &&& (255)) % 65536)) then
    some ((UInt32.toInt32 (Int32.toUInt32 (v4 &&& (255)) % 65536)), T3)
  else
    none
set_option maxRecDepth 100000 in
set_option maxHeartbeats 2000000 in
theorem c_J9_charAt {l : Launch} {g : PG} {mo : MO} {r0 : Option Nat} {x1 : Int32} {r : Int32} {S S1 : HS} (hf : f_J9_charAt r0 x1 S = some (r, S1)) : (h_nx S ≤ h_nx S1 ∧ h_sl S ≤ h_sl S1) ∧ Ct l g yJ9_charAt (ws_ yJ9_charAt cJ9_charAt 2 (some (.char))) 3 103 S mo [vr r0, vi x1] (some (vi r)) S1 mo := by
  refine met_of false (by decide) (fun h => by first | rfl | cases h) rfl (Nat.le_of_ble_eq_true rfl) (fun f hl hg hc ho hnL hrm hre hct hex hq => ?_)
  subst hl
  subst hg
  unfold f_J9_charAt at hf
  refine j_iload_n (pc := 0) hc dJ9_charAt_0 1 rfl rfl ?_
  refine j_aload_n (pc := 1) hc dJ9_charAt_1 0 rfl rfl ?_
  obtain ⟨a1, ea1, hf1⟩ := ob_i hf
  clear hf
  subst ea1
  obtain ⟨v2, ev2, hf2⟩ := ob_i hf1
  clear hf1
  refine j_alen (pc := 2) hc dJ9_charAt_2 (by decide) ev2 ?_
  obtain ⟨T3, eT3, hf3⟩ := ob_i hf2
  clear hf2
  refine j_callS (pc := 3) (As := [vi x1, vi v2]) (rest := []) (st2 := []) hc ho cw_J9_9 (c_J6_checkIndex eT3) hrm ⟨by decide, by decide⟩ rfl (Nat.le_of_ble_eq_true rfl) dJ9_charAt_3 rfl rfl ?_
  refine j_aload_n (pc := 6) hc dJ9_charAt_6 0 rfl rfl ?_
  refine j_iload_n (pc := 7) hc dJ9_charAt_7 1 rfl rfl ?_
  obtain ⟨v4, ev4, hf4⟩ := ob_i hf3
  clear hf3
  refine j_bald (pc := 8) hc dJ9_charAt_8 ev4 ?_
  refine j_sipush (pc := 9) (v := (255)) hc dJ9_charAt_9 rfl ?_
  refine j_iand (pc := 12) hc dJ9_charAt_12 ?_
  refine j_i2c (pc := 13) hc dJ9_charAt_13 ?_
  by_cases hh : vp_nar .char (UInt32.toInt32 (Int32.toUInt32 (v4 &&& (255)) % 65536)) = (UInt32.toInt32 (Int32.toUInt32 (v4 &&& (255)) % 65536))
  · have hf5 := (if_pos hh).symm.trans hf4
    clear hf4
    cases hf5
    exact j_iret (pc := 14) hc hq hre (nar_c hh) dJ9_charAt_14
  · have hf6 := (if_neg hh).symm.trans hf4
    clear hf4
    cases hf6
theorem cw_J6_495 : CS "java/lang/String" 495 yJ9_charAt cJ9_charAt 2 (some (.char)) 2 := ⟨⟨q704, q705, q94, q706⟩, by decide, by decide, by decide +kernel⟩
def f_J6_charAt (a0 : Nat) (x1 : Int32) (S : HS) : Option (Int32 × HS) :=
  (g_cls S 13 a0).bind fun u1 =>
  o_bd (f_J6_isLatin1 a0 S) fun v3 T2 =>
  if v3 = 0 then
    (g_fR T2 13 141 a0).bind fun q4 =>
    none
  else
    (g_fR T2 13 141 a0).bind fun q5 =>
    o_bd (f_J9_charAt q5 x1 T2) fun v7 T6 =>
    if vp_nar .char v7 = v7 then
      some (v7, T6)
    else
      none
set_option maxRecDepth 100000 in
set_option maxHeartbeats 2000000 in
theorem c_J6_charAt {l : Launch} {g : PG} {mo : MO} {a0 : Nat} {x1 : Int32} {r : Int32} {S S1 : HS} (hf : f_J6_charAt a0 x1 S = some (r, S1)) : (h_nx S ≤ h_nx S1 ∧ h_sl S ≤ h_sl S1) ∧ Ct l g yJ6_charAt (ws_ yJ6_charAt cJ6_charAt 2 (some (.char))) 4 124 S mo [vr (some a0), vi x1] (some (vi r)) S1 mo := by
  refine met_of false (by decide) (fun h => by first | rfl | cases h) rfl (Nat.le_of_ble_eq_true rfl) (fun f hl hg hc ho hnL hrm hre hct hex hq => ?_)
  subst hl
  subst hg
  unfold f_J6_charAt at hf
  refine j_aload_n (pc := 0) hc dJ6_charAt_0 0 rfl rfl ?_
  obtain ⟨u1, eu1, hf1⟩ := ob_i hf
  clear hf
  obtain ⟨v3, T2, ev3, hf2⟩ := ob_c hf1
  clear hf1
  refine j_callV (pc := 1) (As := []) (rest := []) (st2 := [vi v3]) hc ho cw_J6_492 (c_J6_isLatin1 ev3) (Rc.of (g_cls_ok eu1) (by decide) (by decide) ci_J6) hrm ⟨by decide, by decide⟩ rfl (Nat.le_of_ble_eq_true rfl) dJ6_charAt_1 rfl rfl ?_
  refine j_if_eq (pc := 4) hc dJ6_charAt_4 (tgt := 16) rfl (fun hh => ?_) (fun hh => ?_)
  · have hf3 := (if_pos hh).symm.trans hf2
    clear hf2
    refine j_aload_n (pc := 16) hc dJ6_charAt_16 0 rfl rfl ?_
    obtain ⟨q4, eq4, hf4⟩ := ob_i hf3
    clear hf3
    refine j_getR (pc := 17) hc ho fa_J6_9_13 dJ6_charAt_17 eq4 ?_
    refine j_iload_n (pc := 20) hc dJ6_charAt_20 1 rfl rfl ?_
    cases hf4
  · have hf5 := (if_neg hh).symm.trans hf2
    clear hf2
    refine j_aload_n (pc := 7) hc dJ6_charAt_7 0 rfl rfl ?_
    obtain ⟨q5, eq5, hf6⟩ := ob_i hf5
    clear hf5
    refine j_getR (pc := 8) hc ho fa_J6_9_13 dJ6_charAt_8 eq5 ?_
    refine j_iload_n (pc := 11) hc dJ6_charAt_11 1 rfl rfl ?_
    obtain ⟨v7, T6, ev7, hf7⟩ := ob_c hf6
    clear hf6
    refine j_callS (pc := 12) (As := [vr q5, vi x1]) (rest := []) (st2 := [vi v7]) hc ho cw_J6_495 (c_J9_charAt ev7) hrm ⟨by decide, by decide⟩ rfl (Nat.le_of_ble_eq_true rfl) dJ6_charAt_12 rfl rfl ?_
    by_cases hh : vp_nar .char v7 = v7
    · have hf8 := (if_pos hh).symm.trans hf7
      clear hf7
      cases hf8
      exact j_iret (pc := 15) hc hq hre (nar_c hh) dJ6_charAt_15
    · have hf9 := (if_neg hh).symm.trans hf7
      clear hf7
      cases hf9
