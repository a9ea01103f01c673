set_option linter.unusedVariables false
def f_X3_named_n53 (k_6 : Int32 → Int32 → Int32 → Int32 → Int32 → Int64 → Int32 → Option (Int64)) (x0 : Int32) (x1 : Int32) (x2 : Int32) (x3 : Int32) (x4 : Int32) (y5 : Int64) (x7 : Int32) (sx0 : Int32)  : Option (Int64) :=
  if sx0 = (32) then
    k_6 x0 x1 x2 x3 x4 y5 (x7 + (1))
  else
    k_6 x0 x1 x2 x3 x4 (((((27) * y5) + (Int32.toInt64 sx0)) - (97)) + (1)) (x7 + (1))
def f_X3_named_n6 : Nat → Int32 → Int32 → Int32 → Int32 → Int32 → Int64 → Int32 → Option (Int64)
  | 0, _, _, _, _, _, _, _ => none
  | n + 1, x0, x1, x2, x3, x4, y5, x7 =>
    if (5) ≤ x7 then
      some y5
    else
      if x7 = 0 then
        f_X3_named_n53 (fun x0 x1 x2 x3 x4 y5 x7 => f_X3_named_n6 n x0 x1 x2 x3 x4 y5 x7) x0 x1 x2 x3 x4 y5 x7 x0
      else
        if x7 = (1) then
          f_X3_named_n53 (fun x0 x1 x2 x3 x4 y5 x7 => f_X3_named_n6 n x0 x1 x2 x3 x4 y5 x7) x0 x1 x2 x3 x4 y5 x7 x1
        else
          if x7 = (2) then
            f_X3_named_n53 (fun x0 x1 x2 x3 x4 y5 x7 => f_X3_named_n6 n x0 x1 x2 x3 x4 y5 x7) x0 x1 x2 x3 x4 y5 x7 x2
          else
            if x7 = (3) then
              f_X3_named_n53 (fun x0 x1 x2 x3 x4 y5 x7 => f_X3_named_n6 n x0 x1 x2 x3 x4 y5 x7) x0 x1 x2 x3 x4 y5 x7 x3
            else
              f_X3_named_n53 (fun x0 x1 x2 x3 x4 y5 x7 => f_X3_named_n6 n x0 x1 x2 x3 x4 y5 x7) x0 x1 x2 x3 x4 y5 x7 x4
def f_X3_named (x0 : Int32) (x1 : Int32) (x2 : Int32) (x3 : Int32) (x4 : Int32)  : Option (Int64) :=
  f_X3_named_n6 fu_ x0 x1 x2 x3 x4 (0) (0)
set_option maxRecDepth 100000 in
set_option maxHeartbeats 2000000 in
theorem w_X3_named_n53 {f : CfT} {mo : MO} {r : Int64} {S : HS} (hc : cf_cc f = cX3_named) (ho : cf_ow f = "TableCatalogModel") (hnL : cf_nL f = 9) (hrm : cf_rm f = (1, 60)) (hre : cf_re f = (some (.long))) (hct : cf_ct f = false) (hq : Qok f (some (vl r)) S mo) {k_6 : Int32 → Int32 → Int32 → Int32 → Int32 → Int64 → Int32 → Option (Int64)} (hk_6 : ∀ (x0 : Int32) (x1 : Int32) (x2 : Int32) (x3 : Int32) (x4 : Int32) (y5 : Int64) (x7 : Int32), k_6 x0 x1 x2 x3 x4 y5 x7 = some r → JJ f S mo 6 [(0, vi x0), (1, vi x1), (2, vi x2), (3, vi x3), (4, vi x4), (5, vl y5), (7, vi x7)] []) {x0 : Int32} {x1 : Int32} {x2 : Int32} {x3 : Int32} {x4 : Int32} {y5 : Int64} {x7 : Int32} {sx0 : Int32} (hf : f_X3_named_n53 k_6 x0 x1 x2 x3 x4 y5 x7 sx0 = some r) : JJ f S mo 53 [(0, vi x0), (1, vi x1), (2, vi x2), (3, vi x3), (4, vi x4), (5, vl y5), (7, vi x7)] [vi sx0] := by
  unfold f_X3_named_n53 at hf
  refine j_istore (pc := 53) (L' := [(8, vi sx0), (0, vi x0), (1, vi x1), (2, vi x2), (3, vi x3), (4, vi x4), (5, vl y5), (7, vi x7)]) hc dX3_named_53 hnL (by decide) rfl ?_
  refine j_iload (pc := 55) hc dX3_named_55 0 rfl ?_
  refine j_bipush (pc := 57) (v := (32)) hc dX3_named_57 rfl ?_
  refine j_icmp_eq (pc := 59) hc dX3_named_59 (tgt := 80) rfl (fun hh => ?_) (fun hh => ?_)
  · have hf1 := (if_pos hh).symm.trans hf
    clear hf
    refine j_iinc (pc := 80) (L' := [(7, vi (x7 + (1))), (8, vi sx0), (0, vi x0), (1, vi x1), (2, vi x2), (3, vi x3), (4, vi x4), (5, vl y5)]) (v := (x7 + (1))) hc dX3_named_80 7 rfl rfl hnL (by decide) rfl ?_
    refine j_goto (pc := 83) hc dX3_named_83 (tgt := 6) rfl ?_
    refine j_loc (L' := [(0, vi x0), (1, vi x1), (2, vi x2), (3, vi x3), (4, vi x4), (5, vl y5), (7, vi (x7 + (1)))]) [2, 3, 4, 5, 6, 7, 0] rfl ?_
    exact hk_6 _ _ _ _ _ _ _ hf1
  · have hf2 := (if_neg hh).symm.trans hf
    clear hf
    refine j_ldc2 (pc := 62) hc ho q1171 dX3_named_62 ?_
    refine j_lload (pc := 65) hc dX3_named_65 6 rfl ?_
    refine j_lmul (pc := 67) hc dX3_named_67 ?_
    refine j_iload (pc := 68) hc dX3_named_68 0 rfl ?_
    refine j_i2l (pc := 70) hc dX3_named_70 ?_
    refine j_ladd (pc := 71) hc dX3_named_71 ?_
    refine j_ldc2 (pc := 72) hc ho q1172 dX3_named_72 ?_
    refine j_lsub (pc := 75) hc dX3_named_75 ?_
    refine j_lconst (pc := 76) (v := 1) hc dX3_named_76 rfl ?_
    refine j_ladd (pc := 77) hc dX3_named_77 ?_
    refine j_lstore (pc := 78) (L' := [(5, vl (((((27) * y5) + (Int32.toInt64 sx0)) - (97)) + (1))), (8, vi sx0), (0, vi x0), (1, vi x1), (2, vi x2), (3, vi x3), (4, vi x4), (7, vi x7)]) hc dX3_named_78 hnL (by decide) rfl ?_
    refine j_iinc (pc := 80) (L' := [(7, vi (x7 + (1))), (5, vl (((((27) * y5) + (Int32.toInt64 sx0)) - (97)) + (1))), (8, vi sx0), (0, vi x0), (1, vi x1), (2, vi x2), (3, vi x3), (4, vi x4)]) (v := (x7 + (1))) hc dX3_named_80 7 rfl rfl hnL (by decide) rfl ?_
    refine j_goto (pc := 83) hc dX3_named_83 (tgt := 6) rfl ?_
    refine j_loc (L' := [(0, vi x0), (1, vi x1), (2, vi x2), (3, vi x3), (4, vi x4), (5, vl (((((27) * y5) + (Int32.toInt64 sx0)) - (97)) + (1))), (7, vi (x7 + (1)))]) [3, 4, 5, 6, 7, 1, 0] rfl ?_
    exact hk_6 _ _ _ _ _ _ _ hf2
set_option maxRecDepth 100000 in
set_option maxHeartbeats 2000000 in
theorem w_X3_named_n6 {f : CfT} {mo : MO} {r : Int64} {S : HS} (hc : cf_cc f = cX3_named) (ho : cf_ow f = "TableCatalogModel") (hnL : cf_nL f = 9) (hrm : cf_rm f = (1, 60)) (hre : cf_re f = (some (.long))) (hct : cf_ct f = false) (hq : Qok f (some (vl r)) S mo) : ∀ (n : Nat) (x0 : Int32) (x1 : Int32) (x2 : Int32) (x3 : Int32) (x4 : Int32) (y5 : Int64) (x7 : Int32), f_X3_named_n6 n x0 x1 x2 x3 x4 y5 x7 = some r → JJ f S mo 6 [(0, vi x0), (1, vi x1), (2, vi x2), (3, vi x3), (4, vi x4), (5, vl y5), (7, vi x7)] [] := by
  intro n
  induction n with
  | zero =>
    intro x0 x1 x2 x3 x4 y5 x7 hf
    have hf : (none : Option (Int64)) = some r := hf
    cases hf
  | succ n ih =>
    intro x0 x1 x2 x3 x4 y5 x7 hf
    unfold f_X3_named_n6 at hf
    have hk_6 := ih
    refine j_iload (pc := 6) hc dX3_named_6 6 rfl ?_
    refine j_iconst (pc := 8) (v := (5)) hc dX3_named_8 rfl ?_
    refine j_icmp_ge (pc := 9) hc dX3_named_9 (tgt := 86) rfl (fun hh => ?_) (fun hh => ?_)
    · have hf1 := (if_pos hh).symm.trans hf
      clear hf
      refine j_lload (pc := 86) hc dX3_named_86 5 rfl ?_
      cases hf1
      exact j_lret (pc := 88) hc hq hre dX3_named_88
    · have hf2 := (if_neg hh).symm.trans hf
      clear hf
      refine j_iload (pc := 12) hc dX3_named_12 6 rfl ?_
      refine j_if_ne (pc := 14) hc dX3_named_14 (tgt := 21) rfl (fun hh => ?_) (fun hh => ?_)
      · have hf3 := (if_neg hh).symm.trans hf2
        clear hf2
        refine j_iload (pc := 21) hc dX3_named_21 6 rfl ?_
        refine j_iconst (pc := 23) (v := (1)) hc dX3_named_23 rfl ?_
        refine j_icmp_ne (pc := 24) hc dX3_named_24 (tgt := 31) rfl (fun hh => ?_) (fun hh => ?_)
        · have hf4 := (if_neg hh).symm.trans hf3
          clear hf3
          refine j_iload (pc := 31) hc dX3_named_31 6 rfl ?_
          refine j_iconst (pc := 33) (v := (2)) hc dX3_named_33 rfl ?_
          refine j_icmp_ne (pc := 34) hc dX3_named_34 (tgt := 41) rfl (fun hh => ?_) (fun hh => ?_)
          · have hf5 := (if_neg hh).symm.trans hf4
            clear hf4
            refine j_iload (pc := 41) hc dX3_named_41 6 rfl ?_
            refine j_iconst (pc := 43) (v := (3)) hc dX3_named_43 rfl ?_
            refine j_icmp_ne (pc := 44) hc dX3_named_44 (tgt := 51) rfl (fun hh => ?_) (fun hh => ?_)
            · have hf6 := (if_neg hh).symm.trans hf5
              clear hf5
              refine j_iload (pc := 51) hc dX3_named_51 4 rfl ?_
              exact w_X3_named_n53 hc ho hnL hrm hre hct hq hk_6 hf6
            · have hf7 := (if_pos hh).symm.trans hf5
              clear hf5
              refine j_iload_n (pc := 47) hc dX3_named_47 3 rfl rfl ?_
              refine j_goto (pc := 48) hc dX3_named_48 (tgt := 53) rfl ?_
              exact w_X3_named_n53 hc ho hnL hrm hre hct hq hk_6 hf7
          · have hf8 := (if_pos hh).symm.trans hf4
            clear hf4
            refine j_iload_n (pc := 37) hc dX3_named_37 2 rfl rfl ?_
            refine j_goto (pc := 38) hc dX3_named_38 (tgt := 53) rfl ?_
            exact w_X3_named_n53 hc ho hnL hrm hre hct hq hk_6 hf8
        · have hf9 := (if_pos hh).symm.trans hf3
          clear hf3
          refine j_iload_n (pc := 27) hc dX3_named_27 1 rfl rfl ?_
          refine j_goto (pc := 28) hc dX3_named_28 (tgt := 53) rfl ?_
          exact w_X3_named_n53 hc ho hnL hrm hre hct hq hk_6 hf9
      · have hf10 := (if_pos hh).symm.trans hf2
        clear hf2
        refine j_iload_n (pc := 17) hc dX3_named_17 0 rfl rfl ?_
        refine j_goto (pc := 18) hc dX3_named_18 (tgt := 53) rfl ?_
        exact w_X3_named_n53 hc ho hnL hrm hre hct hq hk_6 hf10
set_option maxRecDepth 100000 in
set_option maxHeartbeats 2000000 in
theorem c_X3_named {l : Launch} {g : PG} {mo : MO} {x0 : Int32} {x1 : Int32} {x2 : Int32} {x3 : Int32} {x4 : Int32} {r : Int64} {S : HS} (hf : f_X3_named x0 x1 x2 x3 x4 = some r) : (h_nx S ≤ h_nx S ∧ h_sl S ≤ h_sl S) ∧ Ct l g yX3_named (ws_ yX3_named cX3_named 9 (some (.long))) 1 60 S mo [vi x0, vi x1, vi x2, vi x3, vi x4] (some (vl r)) S mo := by
  refine met_of false (by decide) (fun h => by first | rfl | cases h) rfl (Nat.le_of_ble_eq_true rfl) (fun f hl hg hc ho hnL hrm hre hct hex hq => ?_)
  subst hl
  subst hg
  unfold f_X3_named at hf
  refine j_lconst (pc := 0) (v := 0) hc dX3_named_0 rfl ?_
  refine j_lstore (pc := 1) (L' := [(5, vl (0)), (0, vi x0), (1, vi x1), (2, vi x2), (3, vi x3), (4, vi x4)]) hc dX3_named_1 hnL (by decide) rfl ?_
  refine j_iconst (pc := 3) (v := (0)) hc dX3_named_3 rfl ?_
  refine j_istore (pc := 4) (L' := [(7, vi (0)), (5, vl (0)), (0, vi x0), (1, vi x1), (2, vi x2), (3, vi x3), (4, vi x4)]) hc dX3_named_4 hnL (by decide) rfl ?_
  refine j_loc (L' := [(0, vi x0), (1, vi x1), (2, vi x2), (3, vi x3), (4, vi x4), (5, vl (0)), (7, vi (0))]) [2, 3, 4, 5, 6, 1, 0] rfl ?_
  exact w_X3_named_n6 hc ho hnL hrm hre hct hq fu_ _ _ _ _ _ _ _ hf
theorem fm_72 : FM 72 21 := ⟨by decide, q1194⟩
theorem fm_166 : FM 166 22 := ⟨by decide, q1195⟩
def f_X3_feed_n71 (k_18 : Int32 → Int32 → Int32 → Int32 → Int32 → Int32 → MS → Option (Int32 × MS)) (x1 : Int32) (x2 : Int32) (x3 : Int32) (x4 : Int32) (x5 : Int32) (x6 : Int32) (sx0 : Int32) (M : MS) : Option (Int32 × MS) :=
  (p_mA M 21 (m_I M 22) ((sx0 >>> (((8) * ((3) - (x6 - x6 / (4) * (4)))) &&& 31)) &&& (255))).bind fun N1 =>
  (some (m_sI N1 22 ((m_I N1 22) + (1)))).bind fun N2 =>
  k_18 x1 x2 x3 x4 x5 (x6 + (1)) N2
def f_X3_feed_n18 : Nat → Int32 → Int32 → Int32 → Int32 → Int32 → Int32 → MS → Option (Int32 × MS)
  | 0, _, _, _, _, _, _, _ => none
  | n + 1, x1, x2, x3, x4, x5, x6, M =>
    if (20) ≤ x6 then
      some ((m_I M 22), M)
    else
      if (4) ≤ x6 then
        if (8) ≤ x6 then
          if (12) ≤ x6 then
            if (16) ≤ x6 then
              f_X3_feed_n71 (fun x1 x2 x3 x4 x5 x6 M => f_X3_feed_n18 n x1 x2 x3 x4 x5 x6 M) x1 x2 x3 x4 x5 x6 x5 M
            else
              f_X3_feed_n71 (fun x1 x2 x3 x4 x5 x6 M => f_X3_feed_n18 n x1 x2 x3 x4 x5 x6 M) x1 x2 x3 x4 x5 x6 x4 M
          else
            f_X3_feed_n71 (fun x1 x2 x3 x4 x5 x6 M => f_X3_feed_n18 n x1 x2 x3 x4 x5 x6 M) x1 x2 x3 x4 x5 x6 x3 M
        else
          f_X3_feed_n71 (fun x1 x2 x3 x4 x5 x6 M => f_X3_feed_n18 n x1 x2 x3 x4 x5 x6 M) x1 x2 x3 x4 x5 x6 x2 M
      else
        f_X3_feed_n71 (fun x1 x2 x3 x4 x5 x6 M => f_X3_feed_n18 n x1 x2 x3 x4 x5 x6 M) x1 x2 x3 x4 x5 x6 x1 M
def f_X3_feed (x1 : Int32) (x2 : Int32) (x3 : Int32) (x4 : Int32) (x5 : Int32) (M : MS) : Option (Int32 × MS) :=
  if ((m_I M 22) + (20)) ≤ (400) then
    f_X3_feed_n18 fu_ x1 x2 x3 x4 x5 (0) M
  else
    some ((-1), M)
set_option maxRecDepth 100000 in
set_option maxHeartbeats 2000000 in
theorem w_X3_feed_n71 {f : CfT} {a0 : Nat} {r : Int32} {S : HS} {M1 : MS} (hc : cf_cc f = cX3_feed) (ho : cf_ow f = "TableCatalogModel") (hnL : cf_nL f = 8) (hrm : cf_rm f = (1, 60)) (hre : cf_re f = (some (.int))) (hct : cf_ct f = false) (hq : Qok f (some (vi r)) S (some (a0, M1))) {k_18 : Int32 → Int32 → Int32 → Int32 → Int32 → Int32 → MS → Option (Int32 × MS)} (hk_18 : ∀ (x1 : Int32) (x2 : Int32) (x3 : Int32) (x4 : Int32) (x5 : Int32) (x6 : Int32) (M : MS), k_18 x1 x2 x3 x4 x5 x6 M = some (r, M1) → JJ f S (some (a0, M)) 18 [(0, vr (some a0)), (1, vi x1), (2, vi x2), (3, vi x3), (4, vi x4), (5, vi x5), (6, vi x6)] []) {x1 : Int32} {x2 : Int32} {x3 : Int32} {x4 : Int32} {x5 : Int32} {x6 : Int32} {sx0 : Int32} {M : MS} (hf : f_X3_feed_n71 k_18 x1 x2 x3 x4 x5 x6 sx0 M = some (r, M1)) : JJ f S (some (a0, M)) 71 [(0, vr (some a0)), (1, vi x1), (2, vi x2), (3, vi x3), (4, vi x4), (5, vi x5), (6, vi x6)] [vi sx0] := by
  unfold f_X3_feed_n71 at hf
  refine j_istore (pc := 71) (L' := [(7, vi sx0), (0, vr (some a0)), (1, vi x1), (2, vi x2), (3, vi x3), (4, vi x4), (5, vi x5), (6, vi x6)]) hc dX3_feed_71 hnL (by decide) rfl ?_
  refine j_aload_n (pc := 73) hc dX3_feed_73 1 rfl rfl ?_
  refine j_mgA (pc := 74) hc ho fm_72 rfl dX3_feed_74 ?_
  refine j_aload_n (pc := 77) hc dX3_feed_77 1 rfl rfl ?_
  refine j_mgI (pc := 78) hc ho fm_166 rfl dX3_feed_78 ?_
  refine j_iload (pc := 81) hc dX3_feed_81 0 rfl ?_
  refine j_bipush (pc := 83) (v := (8)) hc dX3_feed_83 rfl ?_
  refine j_iconst (pc := 85) (v := (3)) hc dX3_feed_85 rfl ?_
  refine j_iload (pc := 86) hc dX3_feed_86 7 rfl ?_
  refine j_iconst (pc := 88) (v := (4)) hc dX3_feed_88 rfl ?_
  refine j_irem (pc := 89) hc dX3_feed_89 (by decide) ?_
  refine j_isub (pc := 90) hc dX3_feed_90 ?_
  refine j_imul (pc := 91) hc dX3_feed_91 ?_
  refine j_ishr (pc := 92) hc dX3_feed_92 ?_
  refine j_sipush (pc := 93) (v := (255)) hc dX3_feed_93 rfl ?_
  refine j_iand (pc := 96) hc dX3_feed_96 ?_
  obtain ⟨N1, eN1, hf1⟩ := ob_i hf
  clear hf
  refine j_mstI (pc := 97) hc (k := 21) (by decide) rfl dX3_feed_97 eN1 ?_
  refine j_aload_n (pc := 98) hc dX3_feed_98 1 rfl rfl ?_
  refine j_dup (pc := 99) hc dX3_feed_99 rfl ?_
  refine j_mgI (pc := 100) hc ho fm_166 rfl dX3_feed_100 ?_
  refine j_iconst (pc := 103) (v := (1)) hc dX3_feed_103 rfl ?_
  refine j_iadd (pc := 104) hc dX3_feed_104 ?_
  obtain ⟨N2, eN2, hf2⟩ := ob_i hf1
  clear hf1
  refine j_mpI (pc := 105) hc ho fm_166 rfl rfl rfl rfl dX3_feed_105 eN2 ?_
  refine j_iinc (pc := 108) (L' := [(6, vi (x6 + (1))), (7, vi sx0), (0, vr (some a0)), (1, vi x1), (2, vi x2), (3, vi x3), (4, vi x4), (5, vi x5)]) (v := (x6 + (1))) hc dX3_feed_108 7 rfl rfl hnL (by decide) rfl ?_
  refine j_goto (pc := 111) hc dX3_feed_111 (tgt := 18) rfl ?_
  refine j_loc (L' := [(0, vr (some a0)), (1, vi x1), (2, vi x2), (3, vi x3), (4, vi x4), (5, vi x5), (6, vi (x6 + (1)))]) [2, 3, 4, 5, 6, 7, 0] rfl ?_
  exact hk_18 _ _ _ _ _ _ _ hf2
set_option maxRecDepth 100000 in
set_option maxHeartbeats 2000000 in
theorem w_X3_feed_n18 {f : CfT} {a0 : Nat} {r : Int32} {S : HS} {M1 : MS} (hc : cf_cc f = cX3_feed) (ho : cf_ow f = "TableCatalogModel") (hnL : cf_nL f = 8) (hrm : cf_rm f = (1, 60)) (hre : cf_re f = (some (.int))) (hct : cf_ct f = false) (hq : Qok f (some (vi r)) S (some (a0, M1))) : ∀ (n : Nat) (x1 : Int32) (x2 : Int32) (x3 : Int32) (x4 : Int32) (x5 : Int32) (x6 : Int32) (M : MS), f_X3_feed_n18 n x1 x2 x3 x4 x5 x6 M = some (r, M1) → JJ f S (some (a0, M)) 18 [(0, vr (some a0)), (1, vi x1), (2, vi x2), (3, vi x3), (4, vi x4), (5, vi x5), (6, vi x6)] [] := by
  intro n
  induction n with
  | zero =>
    intro x1 x2 x3 x4 x5 x6 M hf
    have hf : (none : Option (Int32 × MS)) = some (r, M1) := hf
    cases hf
  | succ n ih =>
    intro x1 x2 x3 x4 x5 x6 M hf
    unfold f_X3_feed_n18 at hf
    have hk_18 := ih
    refine j_iload (pc := 18) hc dX3_feed_18 6 rfl ?_
    refine j_bipush (pc := 20) (v := (20)) hc dX3_feed_20 rfl ?_
    refine j_icmp_ge (pc := 22) hc dX3_feed_22 (tgt := 114) rfl (fun hh => ?_) (fun hh => ?_)
    · have hf1 := (if_pos hh).symm.trans hf
      clear hf
      refine j_aload_n (pc := 114) hc dX3_feed_114 0 rfl rfl ?_
      refine j_mgI (pc := 115) hc ho fm_166 rfl dX3_feed_115 ?_
      cases hf1
      exact j_iret (pc := 118) hc hq hre rfl dX3_feed_118
    · have hf2 := (if_neg hh).symm.trans hf
      clear hf
      refine j_iload (pc := 25) hc dX3_feed_25 6 rfl ?_
      refine j_iconst (pc := 27) (v := (4)) hc dX3_feed_27 rfl ?_
      refine j_icmp_ge (pc := 28) hc dX3_feed_28 (tgt := 35) rfl (fun hh => ?_) (fun hh => ?_)
      · have hf3 := (if_pos hh).symm.trans hf2
        clear hf2
        refine j_iload (pc := 35) hc dX3_feed_35 6 rfl ?_
        refine j_bipush (pc := 37) (v := (8)) hc dX3_feed_37 rfl ?_
        refine j_icmp_ge (pc := 39) hc dX3_feed_39 (tgt := 46) rfl (fun hh => ?_) (fun hh => ?_)
        · have hf4 := (if_pos hh).symm.trans hf3
          clear hf3
          refine j_iload (pc := 46) hc dX3_feed_46 6 rfl ?_
          refine j_bipush (pc := 48) (v := (12)) hc dX3_feed_48 rfl ?_
          refine j_icmp_ge (pc := 50) hc dX3_feed_50 (tgt := 57) rfl (fun hh => ?_) (fun hh => ?_)
          · have hf5 := (if_pos hh).symm.trans hf4
            clear hf4
            refine j_iload (pc := 57) hc dX3_feed_57 6 rfl ?_
            refine j_bipush (pc := 59) (v := (16)) hc dX3_feed_59 rfl ?_
            refine j_icmp_ge (pc := 61) hc dX3_feed_61 (tgt := 69) rfl (fun hh => ?_) (fun hh => ?_)
            · have hf6 := (if_pos hh).symm.trans hf5
              clear hf5
              refine j_iload (pc := 69) hc dX3_feed_69 5 rfl ?_
              exact w_X3_feed_n71 hc ho hnL hrm hre hct hq hk_18 hf6
            · have hf7 := (if_neg hh).symm.trans hf5
              clear hf5
              refine j_iload (pc := 64) hc dX3_feed_64 4 rfl ?_
              refine j_goto (pc := 66) hc dX3_feed_66 (tgt := 71) rfl ?_
              exact w_X3_feed_n71 hc ho hnL hrm hre hct hq hk_18 hf7
          · have hf8 := (if_neg hh).symm.trans hf4
            clear hf4
            refine j_iload_n (pc := 53) hc dX3_feed_53 3 rfl rfl ?_
            refine j_goto (pc := 54) hc dX3_feed_54 (tgt := 71) rfl ?_
            exact w_X3_feed_n71 hc ho hnL hrm hre hct hq hk_18 hf8
        · have hf9 := (if_neg hh).symm.trans hf3
          clear hf3
          refine j_iload_n (pc := 42) hc dX3_feed_42 2 rfl rfl ?_
          refine j_goto (pc := 43) hc dX3_feed_43 (tgt := 71) rfl ?_
          exact w_X3_feed_n71 hc ho hnL hrm hre hct hq hk_18 hf9
      · have hf10 := (if_neg hh).symm.trans hf2
        clear hf2
        refine j_iload_n (pc := 31) hc dX3_feed_31 1 rfl rfl ?_
        refine j_goto (pc := 32) hc dX3_feed_32 (tgt := 71) rfl ?_
        exact w_X3_feed_n71 hc ho hnL hrm hre hct hq hk_18 hf10
set_option maxRecDepth 100000 in
set_option maxHeartbeats 2000000 in
theorem c_X3_feed {l : Launch} {g : PG} {a0 : Nat} {x1 : Int32} {x2 : Int32} {x3 : Int32} {x4 : Int32} {x5 : Int32} {r : Int32} {S : HS} {M M1 : MS} (hf : f_X3_feed x1 x2 x3 x4 x5 M = some (r, M1)) : (h_nx S ≤ h_nx S ∧ h_sl S ≤ h_sl S) ∧ Ct l g yX3_feed (ws_ yX3_feed cX3_feed 8 (some (.int))) 1 60 S (some (a0, M)) [vr (some a0), vi x1, vi x2, vi x3, vi x4, vi x5] (some (vi r)) S (some (a0, M1)) := by
  refine met_of false (by decide) (fun h => by first | rfl | cases h) rfl (Nat.le_of_ble_eq_true rfl) (fun f hl hg hc ho hnL hrm hre hct hex hq => ?_)
  subst hl
  subst hg
  unfold f_X3_feed at hf
  refine j_aload_n (pc := 0) hc dX3_feed_0 0 rfl rfl ?_
  refine j_mgI (pc := 1) hc ho fm_166 rfl dX3_feed_1 ?_
  refine j_bipush (pc := 4) (v := (20)) hc dX3_feed_4 rfl ?_
  refine j_iadd (pc := 6) hc dX3_feed_6 ?_
  refine j_sipush (pc := 7) (v := (400)) hc dX3_feed_7 rfl ?_
  refine j_icmp_le (pc := 10) hc dX3_feed_10 (tgt := 15) rfl (fun hh => ?_) (fun hh => ?_)
  · have hf1 := (if_pos hh).symm.trans hf
    clear hf
    refine j_iconst (pc := 15) (v := (0)) hc dX3_feed_15 rfl ?_
    refine j_istore (pc := 16) (L' := [(6, vi (0)), (0, vr (some a0)), (1, vi x1), (2, vi x2), (3, vi x3), (4, vi x4), (5, vi x5)]) hc dX3_feed_16 hnL (by decide) rfl ?_
    refine j_loc (L' := [(0, vr (some a0)), (1, vi x1), (2, vi x2), (3, vi x3), (4, vi x4), (5, vi x5), (6, vi (0))]) [1, 2, 3, 4, 5, 6, 0] rfl ?_
    exact w_X3_feed_n18 hc ho hnL hrm hre hct hq fu_ _ _ _ _ _ _ _ hf1
  · have hf2 := (if_neg hh).symm.trans hf
    clear hf
    refine j_iconst (pc := 13) (v := (-1)) hc dX3_feed_13 rfl ?_
    cases hf2
    exact j_iret (pc := 14) hc hq hre rfl dX3_feed_14
def f_X3_end (x1 : Int32) (M : MS) : Option (Int32 × MS) :=
  if x1 < 0 then
    some ((0), M)
  else
    if x1 ≤ (m_I M 22) then
      (some (m_sI M 22 x1)).bind fun N1 =>
      some ((1), N1)
    else
      some ((0), M)
set_option maxRecDepth 100000 in
set_option maxHeartbeats 2000000 in
theorem c_X3_end {l : Launch} {g : PG} {a0 : Nat} {x1 : Int32} {r : Int32} {S : HS} {M M1 : MS} (hf : f_X3_end x1 M = some (r, M1)) : (h_nx S ≤ h_nx S ∧ h_sl S ≤ h_sl S) ∧ Ct l g yX3_end (ws_ yX3_end cX3_end 2 (some (.boolean))) 1 60 S (some (a0, M)) [vr (some a0), vi x1] (some (vi r)) S (some (a0, M1)) := by
  refine met_of false (by decide) (fun h => by first | rfl | cases h) rfl (Nat.le_of_ble_eq_true rfl) (fun f hl hg hc ho hnL hrm hre hct hex hq => ?_)
  subst hl
  subst hg
  unfold f_X3_end at hf
  refine j_iload_n (pc := 0) hc dX3_end_0 1 rfl rfl ?_
  refine j_if_lt (pc := 1) hc dX3_end_1 (tgt := 12) rfl (fun hh => ?_) (fun hh => ?_)
  · have hf1 := (if_pos hh).symm.trans hf
    clear hf
    refine j_iconst (pc := 12) (v := (0)) hc dX3_end_12 rfl ?_
    cases hf1
    exact j_iret (pc := 13) hc hq hre rfl dX3_end_13
  · have hf2 := (if_neg hh).symm.trans hf
    clear hf
    refine j_iload_n (pc := 4) hc dX3_end_4 1 rfl rfl ?_
    refine j_aload_n (pc := 5) hc dX3_end_5 0 rfl rfl ?_
    refine j_mgI (pc := 6) hc ho fm_166 rfl dX3_end_6 ?_
    refine j_icmp_le (pc := 9) hc dX3_end_9 (tgt := 14) rfl (fun hh => ?_) (fun hh => ?_)
    · have hf3 := (if_pos hh).symm.trans hf2
      clear hf2
      refine j_aload_n (pc := 14) hc dX3_end_14 0 rfl rfl ?_
      refine j_iload_n (pc := 15) hc dX3_end_15 1 rfl rfl ?_
      obtain ⟨N1, eN1, hf4⟩ := ob_i hf3
      clear hf3
      refine j_mpI (pc := 16) hc ho fm_166 rfl rfl rfl rfl dX3_end_16 eN1 ?_
      refine j_iconst (pc := 19) (v := (1)) hc dX3_end_19 rfl ?_
      cases hf4
      exact j_iret (pc := 20) hc hq hre rfl dX3_end_20
    · have hf5 := (if_neg hh).symm.trans hf2
      clear hf2
      refine j_iconst (pc := 12) (v := (0)) hc dX3_end_12 rfl ?_
      cases hf5
      exact j_iret (pc := 13) hc hq hre rfl dX3_end_13
theorem fm_169 : FM 169 25 := ⟨by decide, q1198⟩
theorem fm_172 : FM 172 26 := ⟨by decide, q1199⟩
def f_X3_means_n16 (x1 : Int32) (x2 : Int32) (M : MS) : Option MS :=
  (some (m_sI M 25 x1)).bind fun N1 =>
  (some (m_sI N1 26 x2)).bind fun N2 =>
  some N2
def f_X3_means (x1 : Int32) (x2 : Int32) (M : MS) : Option MS :=
  if (m_I M 25) = 0 then
    f_X3_means_n16 x1 x2 M
  else
    if x2 < (m_I M 26) then
      f_X3_means_n16 x1 x2 M
    else
      some M
set_option maxRecDepth 100000 in
set_option maxHeartbeats 2000000 in
theorem w_X3_means_n16 {f : CfT} {a0 : Nat} {S : HS} {M1 : MS} (hc : cf_cc f = cX3_means) (ho : cf_ow f = "TableCatalogModel") (hnL : cf_nL f = 3) (hrm : cf_rm f = (1, 60)) (hre : cf_re f = none) (hct : cf_ct f = false) (hq : Qok f none S (some (a0, M1))) {x1 : Int32} {x2 : Int32} {M : MS} (hf : f_X3_means_n16 x1 x2 M = some M1) : JJ f S (some (a0, M)) 16 [(0, vr (some a0)), (1, vi x1), (2, vi x2)] [] := by
  unfold f_X3_means_n16 at hf
  refine j_aload_n (pc := 16) hc dX3_means_16 0 rfl rfl ?_
  refine j_iload_n (pc := 17) hc dX3_means_17 1 rfl rfl ?_
  obtain ⟨N1, eN1, hf1⟩ := ob_i hf
  clear hf
  refine j_mpI (pc := 18) hc ho fm_169 rfl rfl rfl rfl dX3_means_18 eN1 ?_
  refine j_aload_n (pc := 21) hc dX3_means_21 0 rfl rfl ?_
  refine j_iload_n (pc := 22) hc dX3_means_22 2 rfl rfl ?_
  obtain ⟨N2, eN2, hf2⟩ := ob_i hf1
  clear hf1
  refine j_mpI (pc := 23) hc ho fm_172 rfl rfl rfl rfl dX3_means_23 eN2 ?_
  cases hf2
  exact j_vret (pc := 26) hc hq hre dX3_means_26
set_option maxRecDepth 100000 in
set_option maxHeartbeats 2000000 in
theorem c_X3_means {l : Launch} {g : PG} {a0 : Nat} {x1 : Int32} {x2 : Int32} {S : HS} {M M1 : MS} (hf : f_X3_means x1 x2 M = some M1) : (h_nx S ≤ h_nx S ∧ h_sl S ≤ h_sl S) ∧ Ct l g yX3_means (ws_ yX3_means cX3_means 3 none) 1 60 S (some (a0, M)) [vr (some a0), vi x1, vi x2] none S (some (a0, M1)) := by
  refine met_of false (by decide) (fun h => by first | rfl | cases h) rfl (Nat.le_of_ble_eq_true rfl) (fun f hl hg hc ho hnL hrm hre hct hex hq => ?_)
  subst hl
  subst hg
  unfold f_X3_means at hf
  refine j_aload_n (pc := 0) hc dX3_means_0 0 rfl rfl ?_
  refine j_mgI (pc := 1) hc ho fm_169 rfl dX3_means_1 ?_
  refine j_if_eq (pc := 4) hc dX3_means_4 (tgt := 16) rfl (fun hh => ?_) (fun hh => ?_)
  · have hf1 := (if_pos hh).symm.trans hf
    clear hf
    exact w_X3_means_n16 hc ho hnL hrm hre hct hq hf1
  · have hf2 := (if_neg hh).symm.trans hf
    clear hf
    refine j_aload_n (pc := 7) hc dX3_means_7 0 rfl rfl ?_
    refine j_mgI (pc := 8) hc ho fm_172 rfl dX3_means_8 ?_
    refine j_iload_n (pc := 11) hc dX3_means_11 2 rfl rfl ?_
    refine j_icmp_gt (pc := 12) hc dX3_means_12 (tgt := 16) rfl (fun hh => ?_) (fun hh => ?_)
    · have hf3 := (if_pos hh).symm.trans hf2
      clear hf2
      exact w_X3_means_n16 hc ho hnL hrm hre hct hq hf3
    · have hf4 := (if_neg hh).symm.trans hf2
      clear hf2
      cases hf4
      exact j_vret (pc := 15) hc hq hre dX3_means_15
theorem fm_66 : FM 66 19 := ⟨by decide, q1192⟩
def f_X3_hasWhere (x1 : Int32) (M : MS) : Option (Int32 × MS) :=
  (g_mA M 19 (((8) * x1) + (7))).bind fun v1 =>
  if v1 ≤ 0 then
    some ((0), M)
  else
    some ((1), M)
set_option maxRecDepth 100000 in
set_option maxHeartbeats 2000000 in
theorem c_X3_hasWhere {l : Launch} {g : PG} {a0 : Nat} {x1 : Int32} {r : Int32} {S : HS} {M M1 : MS} (hf : f_X3_hasWhere x1 M = some (r, M1)) : (h_nx S ≤ h_nx S ∧ h_sl S ≤ h_sl S) ∧ Ct l g yX3_hasWhere (ws_ yX3_hasWhere cX3_hasWhere 2 (some (.boolean))) 1 60 S (some (a0, M)) [vr (some a0), vi x1] (some (vi r)) S (some (a0, M1)) := by
  refine met_of false (by decide) (fun h => by first | rfl | cases h) rfl (Nat.le_of_ble_eq_true rfl) (fun f hl hg hc ho hnL hrm hre hct hex hq => ?_)
  subst hl
  subst hg
  unfold f_X3_hasWhere at hf
  refine j_aload_n (pc := 0) hc dX3_hasWhere_0 0 rfl rfl ?_
  refine j_mgA (pc := 1) hc ho fm_66 rfl dX3_hasWhere_1 ?_
  refine j_bipush (pc := 4) (v := (8)) hc dX3_hasWhere_4 rfl ?_
  refine j_iload_n (pc := 6) hc dX3_hasWhere_6 1 rfl rfl ?_
  refine j_imul (pc := 7) hc dX3_hasWhere_7 ?_
  refine j_bipush (pc := 8) (v := (7)) hc dX3_hasWhere_8 rfl ?_
  refine j_iadd (pc := 10) hc dX3_hasWhere_10 ?_
  obtain ⟨v1, ev1, hf1⟩ := ob_i hf
  clear hf
  refine j_mldI (pc := 11) hc (k := 19) (by decide) rfl dX3_hasWhere_11 ev1 ?_
  refine j_if_le (pc := 12) hc dX3_hasWhere_12 (tgt := 19) rfl (fun hh => ?_) (fun hh => ?_)
  · have hf2 := (if_pos hh).symm.trans hf1
    clear hf1
    refine j_iconst (pc := 19) (v := (0)) hc dX3_hasWhere_19 rfl ?_
    cases hf2
    exact j_iret (pc := 20) hc hq hre rfl dX3_hasWhere_20
  · have hf3 := (if_neg hh).symm.trans hf1
    clear hf1
    refine j_iconst (pc := 15) (v := (1)) hc dX3_hasWhere_15 rfl ?_
    refine j_goto (pc := 16) hc dX3_hasWhere_16 (tgt := 20) rfl ?_
    cases hf3
    exact j_iret (pc := 20) hc hq hre rfl dX3_hasWhere_20
theorem fm_255 : FM 255 50 := ⟨by decide, q1223⟩
theorem fm_258 : FM 258 52 := ⟨by decide, q1225⟩
theorem cw_X3_262 : CV "TableCatalogModel" 262 RX3 yX3_means cX3_means 3 none 2 := ⟨⟨q1460, q1462, qs55, q90, q1463⟩, rfl, by decide, by decide, by decide +kernel⟩
def f_X3_wrong (x1 : Int32) (M : MS) : Option MS :=
  (some (m_sI M 50 ((m_I M 50) + (1)))).bind fun N1 =>
  if (m_I N1 52) = 0 then
    some N1
  else
    (f_X3_means (3) x1 N1).bind fun N2 =>
    some N2
set_option maxRecDepth 100000 in
set_option maxHeartbeats 2000000 in
theorem c_X3_wrong {l : Launch} {g : PG} {a0 : Nat} {x1 : Int32} {S : HS} {M M1 : MS} (hf : f_X3_wrong x1 M = some M1) : (h_nx S ≤ h_nx S ∧ h_sl S ≤ h_sl S) ∧ Ct l g yX3_wrong (ws_ yX3_wrong cX3_wrong 2 none) 2 82 S (some (a0, M)) [vr (some a0), vi x1] none S (some (a0, M1)) := by
  refine met_of false (by decide) (fun h => by first | rfl | cases h) rfl (Nat.le_of_ble_eq_true rfl) (fun f hl hg hc ho hnL hrm hre hct hex hq => ?_)
  subst hl
  subst hg
  unfold f_X3_wrong at hf
  refine j_aload_n (pc := 0) hc dX3_wrong_0 0 rfl rfl ?_
  refine j_dup (pc := 1) hc dX3_wrong_1 rfl ?_
  refine j_mgI (pc := 2) hc ho fm_255 rfl dX3_wrong_2 ?_
  refine j_iconst (pc := 5) (v := (1)) hc dX3_wrong_5 rfl ?_
  refine j_iadd (pc := 6) hc dX3_wrong_6 ?_
  obtain ⟨N1, eN1, hf1⟩ := ob_i hf
  clear hf
  refine j_mpI (pc := 7) hc ho fm_255 rfl rfl rfl rfl dX3_wrong_7 eN1 ?_
  refine j_aload_n (pc := 10) hc dX3_wrong_10 0 rfl rfl ?_
  refine j_mgI (pc := 11) hc ho fm_258 rfl dX3_wrong_11 ?_
  refine j_if_eq (pc := 14) hc dX3_wrong_14 (tgt := 23) rfl (fun hh => ?_) (fun hh => ?_)
  · have hf2 := (if_pos hh).symm.trans hf1
    clear hf1
    cases hf2
    exact j_vret (pc := 23) hc hq hre dX3_wrong_23
  · have hf3 := (if_neg hh).symm.trans hf1
    clear hf1
    refine j_aload_n (pc := 17) hc dX3_wrong_17 0 rfl rfl ?_
    refine j_iconst (pc := 18) (v := (3)) hc dX3_wrong_18 rfl ?_
    refine j_iload_n (pc := 19) hc dX3_wrong_19 1 rfl rfl ?_
    obtain ⟨N2, eN2, hf4⟩ := ob_i hf3
    clear hf3
    refine j_callV (pc := 20) (As := [vi (3), vi x1]) (rest := []) (st2 := []) hc ho cw_X3_262 (c_X3_means eN2) (Or.inr ⟨rfl, _, rfl⟩) hrm ⟨by decide, by decide⟩ rfl (Nat.le_of_ble_eq_true rfl) dX3_wrong_20 rfl rfl ?_
    cases hf4
    exact j_vret (pc := 23) hc hq hre dX3_wrong_23
theorem fm_114 : FM 114 45 := ⟨by decide, q1218⟩
theorem fm_265 : FM 265 51 := ⟨by decide, q1224⟩
theorem fm_120 : FM 120 47 := ⟨by decide, q1220⟩
theorem cw_X3_268 : CV "TableCatalogModel" 268 RX3 yX3_wrong cX3_wrong 2 none 1 := ⟨⟨q1472, q1474, qs58, q90, q1475⟩, rfl, by decide, by decide, by decide +kernel⟩
theorem fm_117 : FM 117 46 := ⟨by decide, q1219⟩
def f_X3_comes_n165 (x5 : Int32) (M : MS) : Option MS :=
  (p_mA M 45 (m_I M 51) x5).bind fun N1 =>
  some N1
def f_X3_comes_n142 (x4 : Int32) (x5 : Int32) (M : MS) : Option MS :=
  if x4 = 0 then
    f_X3_comes_n165 x5 M
  else
    if x5 = 0 then
      (g_mA M 47 (m_I M 51)).bind fun v1 =>
      (f_X3_wrong v1 M).bind fun N2 =>
      f_X3_comes_n165 x5 N2
    else
      f_X3_comes_n165 x5 M
def f_X3_comes_n87 (x4 : Int32) (sx0 : Int32) (M : MS) : Option MS :=
  f_X3_comes_n142 x4 sx0 M
def f_X3_comes_n86 (x4 : Int32) (M : MS) : Option MS :=
  f_X3_comes_n87 x4 (0) M
def f_X3_comes_n115 (x4 : Int32) (sx0 : Int32) (M : MS) : Option MS :=
  f_X3_comes_n142 x4 sx0 M
def f_X3_comes_n110 (x2 : Int32) (x4 : Int32) (M : MS) : Option MS :=
  f_X3_comes_n115 x4 x2 M
def f_X3_comes_n58 (x1 : Int32) (x2 : Int32) (x3 : Int32) (sx0 : Int32) (M : MS) : Option MS :=
  if x3 = (38) then
    if x2 = (116) then
      if x1 = (116) then
        f_X3_comes_n87 sx0 (116) M
      else
        f_X3_comes_n86 sx0 M
    else
      f_X3_comes_n86 sx0 M
  else
    if x1 = (110) then
      if x2 = (110) then
        f_X3_comes_n110 x2 sx0 M
      else
        if x2 = (100) then
          f_X3_comes_n110 x2 sx0 M
        else
          f_X3_comes_n115 sx0 (0) M
    else
      if x3 = (45) then
        if x2 = (100) then
          if x1 = (100) then
            f_X3_comes_n142 sx0 (110) M
          else
            f_X3_comes_n142 sx0 (0) M
        else
          f_X3_comes_n142 sx0 (0) M
      else
        f_X3_comes_n142 sx0 (0) M
def f_X3_comes_n57 (x1 : Int32) (x2 : Int32) (x3 : Int32) (M : MS) : Option MS :=
  f_X3_comes_n58 x1 x2 x3 (0) M
def f_X3_comes (x1 : Int32) (M : MS) : Option MS :=
  (g_mA M 45 (m_I M 51)).bind fun v1 =>
  (g_mA M 46 (m_I M 51)).bind fun v2 =>
  (p_mA M 46 (m_I M 51) (0)).bind fun N3 =>
  if v2 = 0 then
    (p_mA N3 45 (m_I N3 51) x1).bind fun N4 =>
    some N4
  else
    if v1 = 0 then
      f_X3_comes_n57 x1 v1 v2 N3
    else
      if x1 = 0 then
        f_X3_comes_n57 x1 v1 v2 N3
      else
        f_X3_comes_n58 x1 v1 v2 (1) N3
set_option maxRecDepth 100000 in
set_option maxHeartbeats 2000000 in
theorem w_X3_comes_n165 {f : CfT} {a0 : Nat} {S : HS} {M1 : MS} (hc : cf_cc f = cX3_comes) (ho : cf_ow f = "TableCatalogModel") (hnL : cf_nL f = 6) (hrm : cf_rm f = (3, 103)) (hre : cf_re f = none) (hct : cf_ct f = false) (hq : Qok f none S (some (a0, M1))) {x5 : Int32} {M : MS} (hf : f_X3_comes_n165 x5 M = some M1) : JJ f S (some (a0, M)) 165 [(0, vr (some a0)), (5, vi x5)] [] := by
  unfold f_X3_comes_n165 at hf
  refine j_aload_n (pc := 165) hc dX3_comes_165 0 rfl rfl ?_
  refine j_mgA (pc := 166) hc ho fm_114 rfl dX3_comes_166 ?_
  refine j_aload_n (pc := 169) hc dX3_comes_169 0 rfl rfl ?_
  refine j_mgI (pc := 170) hc ho fm_265 rfl dX3_comes_170 ?_
  refine j_iload (pc := 173) hc dX3_comes_173 1 rfl ?_
  obtain ⟨N1, eN1, hf1⟩ := ob_i hf
  clear hf
  refine j_mstI (pc := 175) hc (k := 45) (by decide) rfl dX3_comes_175 eN1 ?_
  cases hf1
  exact j_vret (pc := 176) hc hq hre dX3_comes_176
set_option maxRecDepth 100000 in
set_option maxHeartbeats 2000000 in
theorem w_X3_comes_n142 {f : CfT} {a0 : Nat} {S : HS} {M1 : MS} (hc : cf_cc f = cX3_comes) (ho : cf_ow f = "TableCatalogModel") (hnL : cf_nL f = 6) (hrm : cf_rm f = (3, 103)) (hre : cf_re f = none) (hct : cf_ct f = false) (hq : Qok f none S (some (a0, M1))) {x4 : Int32} {x5 : Int32} {M : MS} (hf : f_X3_comes_n142 x4 x5 M = some M1) : JJ f S (some (a0, M)) 142 [(0, vr (some a0)), (4, vi x4), (5, vi x5)] [] := by
  unfold f_X3_comes_n142 at hf
  refine j_iload (pc := 142) hc dX3_comes_142 1 rfl ?_
  refine j_if_eq (pc := 144) hc dX3_comes_144 (tgt := 165) rfl (fun hh => ?_) (fun hh => ?_)
  · have hf1 := (if_pos hh).symm.trans hf
    clear hf
    refine j_loc (L' := [(0, vr (some a0)), (5, vi x5)]) [0, 2] rfl ?_
    exact w_X3_comes_n165 hc ho hnL hrm hre hct hq hf1
  · have hf2 := (if_neg hh).symm.trans hf
    clear hf
    refine j_iload (pc := 147) hc dX3_comes_147 2 rfl ?_
    refine j_if_ne (pc := 149) hc dX3_comes_149 (tgt := 165) rfl (fun hh => ?_) (fun hh => ?_)
    · have hf3 := (if_neg hh).symm.trans hf2
      clear hf2
      refine j_loc (L' := [(0, vr (some a0)), (5, vi x5)]) [0, 2] rfl ?_
      exact w_X3_comes_n165 hc ho hnL hrm hre hct hq hf3
    · have hf4 := (if_pos hh).symm.trans hf2
      clear hf2
      refine j_aload_n (pc := 152) hc dX3_comes_152 0 rfl rfl ?_
      refine j_aload_n (pc := 153) hc dX3_comes_153 0 rfl rfl ?_
      refine j_mgA (pc := 154) hc ho fm_120 rfl dX3_comes_154 ?_
      refine j_aload_n (pc := 157) hc dX3_comes_157 0 rfl rfl ?_
      refine j_mgI (pc := 158) hc ho fm_265 rfl dX3_comes_158 ?_
      obtain ⟨v1, ev1, hf5⟩ := ob_i hf4
      clear hf4
      refine j_mldI (pc := 161) hc (k := 47) (by decide) rfl dX3_comes_161 ev1 ?_
      obtain ⟨N2, eN2, hf6⟩ := ob_i hf5
      clear hf5
      refine j_callV (pc := 162) (As := [vi v1]) (rest := []) (st2 := []) hc ho cw_X3_268 (c_X3_wrong eN2) (Or.inr ⟨rfl, _, rfl⟩) hrm ⟨by decide, by decide⟩ rfl (Nat.le_of_ble_eq_true rfl) dX3_comes_162 rfl rfl ?_
      refine j_loc (L' := [(0, vr (some a0)), (5, vi x5)]) [0, 2] rfl ?_
      exact w_X3_comes_n165 hc ho hnL hrm hre hct hq hf6
set_option maxRecDepth 100000 in
set_option maxHeartbeats 2000000 in
theorem w_X3_comes_n87 {f : CfT} {a0 : Nat} {S : HS} {M1 : MS} (hc : cf_cc f = cX3_comes) (ho : cf_ow f = "TableCatalogModel") (hnL : cf_nL f = 6) (hrm : cf_rm f = (3, 103)) (hre : cf_re f = none) (hct : cf_ct f = false) (hq : Qok f none S (some (a0, M1))) {x4 : Int32} {sx0 : Int32} {M : MS} (hf : f_X3_comes_n87 x4 sx0 M = some M1) : JJ f S (some (a0, M)) 87 [(0, vr (some a0)), (4, vi x4)] [vi sx0] := by
  unfold f_X3_comes_n87 at hf
  refine j_istore (pc := 87) (L' := [(5, vi sx0), (0, vr (some a0)), (4, vi x4)]) hc dX3_comes_87 hnL (by decide) rfl ?_
  refine j_goto (pc := 89) hc dX3_comes_89 (tgt := 142) rfl ?_
  refine j_loc (L' := [(0, vr (some a0)), (4, vi x4), (5, vi sx0)]) [1, 2, 0] rfl ?_
  exact w_X3_comes_n142 hc ho hnL hrm hre hct hq hf
set_option maxRecDepth 100000 in
set_option maxHeartbeats 2000000 in
theorem w_X3_comes_n86 {f : CfT} {a0 : Nat} {S : HS} {M1 : MS} (hc : cf_cc f = cX3_comes) (ho : cf_ow f = "TableCatalogModel") (hnL : cf_nL f = 6) (hrm : cf_rm f = (3, 103)) (hre : cf_re f = none) (hct : cf_ct f = false) (hq : Qok f none S (some (a0, M1))) {x4 : Int32} {M : MS} (hf : f_X3_comes_n86 x4 M = some M1) : JJ f S (some (a0, M)) 86 [(0, vr (some a0)), (4, vi x4)] [] := by
  unfold f_X3_comes_n86 at hf
  refine j_iconst (pc := 86) (v := (0)) hc dX3_comes_86 rfl ?_
  exact w_X3_comes_n87 hc ho hnL hrm hre hct hq hf
set_option maxRecDepth 100000 in
set_option maxHeartbeats 2000000 in
theorem w_X3_comes_n115 {f : CfT} {a0 : Nat} {S : HS} {M1 : MS} (hc : cf_cc f = cX3_comes) (ho : cf_ow f = "TableCatalogModel") (hnL : cf_nL f = 6) (hrm : cf_rm f = (3, 103)) (hre : cf_re f = none) (hct : cf_ct f = false) (hq : Qok f none S (some (a0, M1))) {x4 : Int32} {sx0 : Int32} {M : MS} (hf : f_X3_comes_n115 x4 sx0 M = some M1) : JJ f S (some (a0, M)) 115 [(0, vr (some a0)), (4, vi x4)] [vi sx0] := by
  unfold f_X3_comes_n115 at hf
  refine j_istore (pc := 115) (L' := [(5, vi sx0), (0, vr (some a0)), (4, vi x4)]) hc dX3_comes_115 hnL (by decide) rfl ?_
  refine j_goto (pc := 117) hc dX3_comes_117 (tgt := 142) rfl ?_
  refine j_loc (L' := [(0, vr (some a0)), (4, vi x4), (5, vi sx0)]) [1, 2, 0] rfl ?_
  exact w_X3_comes_n142 hc ho hnL hrm hre hct hq hf
set_option maxRecDepth 100000 in
set_option maxHeartbeats 2000000 in
theorem w_X3_comes_n110 {f : CfT} {a0 : Nat} {S : HS} {M1 : MS} (hc : cf_cc f = cX3_comes) (ho : cf_ow f = "TableCatalogModel") (hnL : cf_nL f = 6) (hrm : cf_rm f = (3, 103)) (hre : cf_re f = none) (hct : cf_ct f = false) (hq : Qok f none S (some (a0, M1))) {x2 : Int32} {x4 : Int32} {M : MS} (hf : f_X3_comes_n110 x2 x4 M = some M1) : JJ f S (some (a0, M)) 110 [(0, vr (some a0)), (2, vi x2), (4, vi x4)] [] := by
  unfold f_X3_comes_n110 at hf
  refine j_iload_n (pc := 110) hc dX3_comes_110 1 rfl rfl ?_
  refine j_goto (pc := 111) hc dX3_comes_111 (tgt := 115) rfl ?_
  refine j_loc (L' := [(0, vr (some a0)), (4, vi x4)]) [0, 2] rfl ?_
  exact w_X3_comes_n115 hc ho hnL hrm hre hct hq hf
set_option maxRecDepth 100000 in
set_option maxHeartbeats 2000000 in
theorem w_X3_comes_n58 {f : CfT} {a0 : Nat} {S : HS} {M1 : MS} (hc : cf_cc f = cX3_comes) (ho : cf_ow f = "TableCatalogModel") (hnL : cf_nL f = 6) (hrm : cf_rm f = (3, 103)) (hre : cf_re f = none) (hct : cf_ct f = false) (hq : Qok f none S (some (a0, M1))) {x1 : Int32} {x2 : Int32} {x3 : Int32} {sx0 : Int32} {M : MS} (hf : f_X3_comes_n58 x1 x2 x3 sx0 M = some M1) : JJ f S (some (a0, M)) 58 [(0, vr (some a0)), (1, vi x1), (2, vi x2), (3, vi x3)] [vi sx0] := by
  unfold f_X3_comes_n58 at hf
  refine j_istore (pc := 58) (L' := [(4, vi sx0), (0, vr (some a0)), (1, vi x1), (2, vi x2), (3, vi x3)]) hc dX3_comes_58 hnL (by decide) rfl ?_
  refine j_iconst (pc := 60) (v := (0)) hc dX3_comes_60 rfl ?_
  refine j_istore (pc := 61) (L' := [(5, vi (0)), (4, vi sx0), (0, vr (some a0)), (1, vi x1), (2, vi x2), (3, vi x3)]) hc dX3_comes_61 hnL (by decide) rfl ?_
  refine j_iload_n (pc := 63) hc dX3_comes_63 5 rfl rfl ?_
  refine j_bipush (pc := 64) (v := (38)) hc dX3_comes_64 rfl ?_
  refine j_icmp_ne (pc := 66) hc dX3_comes_66 (tgt := 92) rfl (fun hh => ?_) (fun hh => ?_)
  · have hf1 := (if_neg hh).symm.trans hf
    clear hf
    refine j_iload_n (pc := 92) hc dX3_comes_92 3 rfl rfl ?_
    refine j_bipush (pc := 93) (v := (110)) hc dX3_comes_93 rfl ?_
    refine j_icmp_ne (pc := 95) hc dX3_comes_95 (tgt := 120) rfl (fun hh => ?_) (fun hh => ?_)
    · have hf2 := (if_neg hh).symm.trans hf1
      clear hf1
      refine j_iload_n (pc := 120) hc dX3_comes_120 5 rfl rfl ?_
      refine j_bipush (pc := 121) (v := (45)) hc dX3_comes_121 rfl ?_
      refine j_icmp_ne (pc := 123) hc dX3_comes_123 (tgt := 142) rfl (fun hh => ?_) (fun hh => ?_)
      · have hf3 := (if_neg hh).symm.trans hf2
        clear hf2
        refine j_loc (L' := [(0, vr (some a0)), (4, vi sx0), (5, vi (0))]) [2, 1, 0] rfl ?_
        exact w_X3_comes_n142 hc ho hnL hrm hre hct hq hf3
      · have hf4 := (if_pos hh).symm.trans hf2
        clear hf2
        refine j_iload_n (pc := 126) hc dX3_comes_126 4 rfl rfl ?_
        refine j_bipush (pc := 127) (v := (100)) hc dX3_comes_127 rfl ?_
        refine j_icmp_ne (pc := 129) hc dX3_comes_129 (tgt := 142) rfl (fun hh => ?_) (fun hh => ?_)
        · have hf5 := (if_neg hh).symm.trans hf4
          clear hf4
          refine j_loc (L' := [(0, vr (some a0)), (4, vi sx0), (5, vi (0))]) [2, 1, 0] rfl ?_
          exact w_X3_comes_n142 hc ho hnL hrm hre hct hq hf5
        · have hf6 := (if_pos hh).symm.trans hf4
          clear hf4
          refine j_iload_n (pc := 132) hc dX3_comes_132 3 rfl rfl ?_
          refine j_bipush (pc := 133) (v := (100)) hc dX3_comes_133 rfl ?_
          refine j_icmp_ne (pc := 135) hc dX3_comes_135 (tgt := 142) rfl (fun hh => ?_) (fun hh => ?_)
          · have hf7 := (if_neg hh).symm.trans hf6
            clear hf6
            refine j_loc (L' := [(0, vr (some a0)), (4, vi sx0), (5, vi (0))]) [2, 1, 0] rfl ?_
            exact w_X3_comes_n142 hc ho hnL hrm hre hct hq hf7
          · have hf8 := (if_pos hh).symm.trans hf6
            clear hf6
            refine j_bipush (pc := 138) (v := (110)) hc dX3_comes_138 rfl ?_
            refine j_istore (pc := 140) (L' := [(5, vi (110)), (4, vi sx0), (0, vr (some a0)), (1, vi x1), (2, vi x2), (3, vi x3)]) hc dX3_comes_140 hnL (by decide) rfl ?_
            refine j_loc (L' := [(0, vr (some a0)), (4, vi sx0), (5, vi (110))]) [2, 1, 0] rfl ?_
            exact w_X3_comes_n142 hc ho hnL hrm hre hct hq hf8
    · have hf9 := (if_pos hh).symm.trans hf1
      clear hf1
      refine j_iload_n (pc := 98) hc dX3_comes_98 4 rfl rfl ?_
      refine j_bipush (pc := 99) (v := (110)) hc dX3_comes_99 rfl ?_
      refine j_icmp_eq (pc := 101) hc dX3_comes_101 (tgt := 110) rfl (fun hh => ?_) (fun hh => ?_)
      · have hf10 := (if_pos hh).symm.trans hf9
        clear hf9
        refine j_loc (L' := [(0, vr (some a0)), (2, vi x2), (4, vi sx0)]) [2, 4, 1] rfl ?_
        exact w_X3_comes_n110 hc ho hnL hrm hre hct hq hf10
      · have hf11 := (if_neg hh).symm.trans hf9
        clear hf9
        refine j_iload_n (pc := 104) hc dX3_comes_104 4 rfl rfl ?_
        refine j_bipush (pc := 105) (v := (100)) hc dX3_comes_105 rfl ?_
        refine j_icmp_ne (pc := 107) hc dX3_comes_107 (tgt := 114) rfl (fun hh => ?_) (fun hh => ?_)
        · have hf12 := (if_neg hh).symm.trans hf11
          clear hf11
          refine j_iconst (pc := 114) (v := (0)) hc dX3_comes_114 rfl ?_
          refine j_loc (L' := [(0, vr (some a0)), (4, vi sx0)]) [2, 1] rfl ?_
          exact w_X3_comes_n115 hc ho hnL hrm hre hct hq hf12
        · have hf13 := (if_pos hh).symm.trans hf11
          clear hf11
          refine j_loc (L' := [(0, vr (some a0)), (2, vi x2), (4, vi sx0)]) [2, 4, 1] rfl ?_
          exact w_X3_comes_n110 hc ho hnL hrm hre hct hq hf13
  · have hf14 := (if_pos hh).symm.trans hf
    clear hf
    refine j_iload_n (pc := 69) hc dX3_comes_69 4 rfl rfl ?_
    refine j_bipush (pc := 70) (v := (116)) hc dX3_comes_70 rfl ?_
    refine j_icmp_ne (pc := 72) hc dX3_comes_72 (tgt := 86) rfl (fun hh => ?_) (fun hh => ?_)
    · have hf15 := (if_neg hh).symm.trans hf14
      clear hf14
      refine j_loc (L' := [(0, vr (some a0)), (4, vi sx0)]) [2, 1] rfl ?_
      exact w_X3_comes_n86 hc ho hnL hrm hre hct hq hf15
    · have hf16 := (if_pos hh).symm.trans hf14
      clear hf14
      refine j_iload_n (pc := 75) hc dX3_comes_75 3 rfl rfl ?_
      refine j_bipush (pc := 76) (v := (116)) hc dX3_comes_76 rfl ?_
      refine j_icmp_ne (pc := 78) hc dX3_comes_78 (tgt := 86) rfl (fun hh => ?_) (fun hh => ?_)
      · have hf17 := (if_neg hh).symm.trans hf16
        clear hf16
        refine j_loc (L' := [(0, vr (some a0)), (4, vi sx0)]) [2, 1] rfl ?_
        exact w_X3_comes_n86 hc ho hnL hrm hre hct hq hf17
      · have hf18 := (if_pos hh).symm.trans hf16
        clear hf16
        refine j_bipush (pc := 81) (v := (116)) hc dX3_comes_81 rfl ?_
        refine j_goto (pc := 83) hc dX3_comes_83 (tgt := 87) rfl ?_
        refine j_loc (L' := [(0, vr (some a0)), (4, vi sx0)]) [2, 1] rfl ?_
        exact w_X3_comes_n87 hc ho hnL hrm hre hct hq hf18
set_option maxRecDepth 100000 in
set_option maxHeartbeats 2000000 in
theorem w_X3_comes_n57 {f : CfT} {a0 : Nat} {S : HS} {M1 : MS} (hc : cf_cc f = cX3_comes) (ho : cf_ow f = "TableCatalogModel") (hnL : cf_nL f = 6) (hrm : cf_rm f = (3, 103)) (hre : cf_re f = none) (hct : cf_ct f = false) (hq : Qok f none S (some (a0, M1))) {x1 : Int32} {x2 : Int32} {x3 : Int32} {M : MS} (hf : f_X3_comes_n57 x1 x2 x3 M = some M1) : JJ f S (some (a0, M)) 57 [(0, vr (some a0)), (1, vi x1), (2, vi x2), (3, vi x3)] [] := by
  unfold f_X3_comes_n57 at hf
  refine j_iconst (pc := 57) (v := (0)) hc dX3_comes_57 rfl ?_
  exact w_X3_comes_n58 hc ho hnL hrm hre hct hq hf
set_option maxRecDepth 100000 in
set_option maxHeartbeats 2000000 in
theorem c_X3_comes {l : Launch} {g : PG} {a0 : Nat} {x1 : Int32} {S : HS} {M M1 : MS} (hf : f_X3_comes x1 M = some M1) : (h_nx S ≤ h_nx S ∧ h_sl S ≤ h_sl S) ∧ Ct l g yX3_comes (ws_ yX3_comes cX3_comes 6 none) 3 103 S (some (a0, M)) [vr (some a0), vi x1] none S (some (a0, M1)) := by
  refine met_of false (by decide) (fun h => by first | rfl | cases h) rfl (Nat.le_of_ble_eq_true rfl) (fun f hl hg hc ho hnL hrm hre hct hex hq => ?_)
  subst hl
  subst hg
  unfold f_X3_comes at hf
  refine j_aload_n (pc := 0) hc dX3_comes_0 0 rfl rfl ?_
  refine j_mgA (pc := 1) hc ho fm_114 rfl dX3_comes_1 ?_
  refine j_aload_n (pc := 4) hc dX3_comes_4 0 rfl rfl ?_
  refine j_mgI (pc := 5) hc ho fm_265 rfl dX3_comes_5 ?_
  obtain ⟨v1, ev1, hf1⟩ := ob_i hf
  clear hf
  refine j_mldI (pc := 8) hc (k := 45) (by decide) rfl dX3_comes_8 ev1 ?_
  refine j_istore_n (pc := 9) (L' := [(2, vi v1), (0, vr (some a0)), (1, vi x1)]) hc dX3_comes_9 rfl hnL (by decide) rfl ?_
  refine j_aload_n (pc := 10) hc dX3_comes_10 1 rfl rfl ?_
  refine j_mgA (pc := 11) hc ho fm_117 rfl dX3_comes_11 ?_
  refine j_aload_n (pc := 14) hc dX3_comes_14 1 rfl rfl ?_
  refine j_mgI (pc := 15) hc ho fm_265 rfl dX3_comes_15 ?_
  obtain ⟨v2, ev2, hf2⟩ := ob_i hf1
  clear hf1
  refine j_mldI (pc := 18) hc (k := 46) (by decide) rfl dX3_comes_18 ev2 ?_
  refine j_istore_n (pc := 19) (L' := [(3, vi v2), (2, vi v1), (0, vr (some a0)), (1, vi x1)]) hc dX3_comes_19 rfl hnL (by decide) rfl ?_
  refine j_aload_n (pc := 20) hc dX3_comes_20 2 rfl rfl ?_
  refine j_mgA (pc := 21) hc ho fm_117 rfl dX3_comes_21 ?_
  refine j_aload_n (pc := 24) hc dX3_comes_24 2 rfl rfl ?_
  refine j_mgI (pc := 25) hc ho fm_265 rfl dX3_comes_25 ?_
  refine j_iconst (pc := 28) (v := (0)) hc dX3_comes_28 rfl ?_
  obtain ⟨N3, eN3, hf3⟩ := ob_i hf2
  clear hf2
  refine j_mstI (pc := 29) hc (k := 46) (by decide) rfl dX3_comes_29 eN3 ?_
  refine j_iload_n (pc := 30) hc dX3_comes_30 0 rfl rfl ?_
  refine j_if_ne (pc := 31) hc dX3_comes_31 (tgt := 45) rfl (fun hh => ?_) (fun hh => ?_)
  · have hf4 := (if_neg hh).symm.trans hf3
    clear hf3
    refine j_iload_n (pc := 45) hc dX3_comes_45 1 rfl rfl ?_
    refine j_if_eq (pc := 46) hc dX3_comes_46 (tgt := 57) rfl (fun hh => ?_) (fun hh => ?_)
    · have hf5 := (if_pos hh).symm.trans hf4
      clear hf4
      refine j_loc (L' := [(0, vr (some a0)), (1, vi x1), (2, vi v1), (3, vi v2)]) [2, 3, 1, 0] rfl ?_
      exact w_X3_comes_n57 hc ho hnL hrm hre hct hq hf5
    · have hf6 := (if_neg hh).symm.trans hf4
      clear hf4
      refine j_iload_n (pc := 49) hc dX3_comes_49 3 rfl rfl ?_
      refine j_if_eq (pc := 50) hc dX3_comes_50 (tgt := 57) rfl (fun hh => ?_) (fun hh => ?_)
      · have hf7 := (if_pos hh).symm.trans hf6
        clear hf6
        refine j_loc (L' := [(0, vr (some a0)), (1, vi x1), (2, vi v1), (3, vi v2)]) [2, 3, 1, 0] rfl ?_
        exact w_X3_comes_n57 hc ho hnL hrm hre hct hq hf7
      · have hf8 := (if_neg hh).symm.trans hf6
        clear hf6
        refine j_iconst (pc := 53) (v := (1)) hc dX3_comes_53 rfl ?_
        refine j_goto (pc := 54) hc dX3_comes_54 (tgt := 58) rfl ?_
        refine j_loc (L' := [(0, vr (some a0)), (1, vi x1), (2, vi v1), (3, vi v2)]) [2, 3, 1, 0] rfl ?_
        exact w_X3_comes_n58 hc ho hnL hrm hre hct hq hf8
  · have hf9 := (if_pos hh).symm.trans hf3
    clear hf3
    refine j_aload_n (pc := 34) hc dX3_comes_34 2 rfl rfl ?_
    refine j_mgA (pc := 35) hc ho fm_114 rfl dX3_comes_35 ?_
    refine j_aload_n (pc := 38) hc dX3_comes_38 2 rfl rfl ?_
    refine j_mgI (pc := 39) hc ho fm_265 rfl dX3_comes_39 ?_
    refine j_iload_n (pc := 42) hc dX3_comes_42 3 rfl rfl ?_
    obtain ⟨N4, eN4, hf10⟩ := ob_i hf9
    clear hf9
    refine j_mstI (pc := 43) hc (k := 45) (by decide) rfl dX3_comes_43 eN4 ?_
    cases hf10
    exact j_vret (pc := 44) hc hq hre dX3_comes_44
theorem fm_57 : FM 57 16 := ⟨by decide, q1189⟩
theorem fm_60 : FM 60 17 := ⟨by decide, q1190⟩
theorem fm_54 : FM 54 15 := ⟨by decide, q1188⟩
def f_X3_wordOf_n14 : Nat → Int32 → Int64 → Int32 → Int32 → MS → Option (Int64 × MS)
  | 0, _, _, _, _, _ => none
  | n + 1, x1, y3, x5, x6, M =>
    (g_mA M 16 x5).bind fun v1 =>
    if v1 ≤ x6 then
      some (y3, M)
    else
      (g_mA M 15 x5).bind fun v2 =>
      (g_mA M 17 ((((400) * x1) + v2) + x6)).bind fun v3 =>
      (fun x1 y3 x5 x6 M => f_X3_wordOf_n14 n x1 y3 x5 x6 M) x1 (((((27) * y3) + (Int32.toInt64 v3)) - (97)) + (1)) x5 (x6 + (1)) M
def f_X3_wordOf (x1 : Int32) (x2 : Int32) (M : MS) : Option (Int64 × MS) :=
  f_X3_wordOf_n14 fu_ x1 (0) (((400) * x1) + x2) (0) M
set_option maxRecDepth 100000 in
set_option maxHeartbeats 2000000 in
theorem w_X3_wordOf_n14 {f : CfT} {a0 : Nat} {r : Int64} {S : HS} {M1 : MS} (hc : cf_cc f = cX3_wordOf) (ho : cf_ow f = "TableCatalogModel") (hnL : cf_nL f = 7) (hrm : cf_rm f = (1, 60)) (hre : cf_re f = (some (.long))) (hct : cf_ct f = false) (hq : Qok f (some (vl r)) S (some (a0, M1))) : ∀ (n : Nat) (x1 : Int32) (y3 : Int64) (x5 : Int32) (x6 : Int32) (M : MS), f_X3_wordOf_n14 n x1 y3 x5 x6 M = some (r, M1) → JJ f S (some (a0, M)) 14 [(0, vr (some a0)), (1, vi x1), (3, vl y3), (5, vi x5), (6, vi x6)] [] := by
  intro n
  induction n with
  | zero =>
    intro x1 y3 x5 x6 M hf
    have hf : (none : Option (Int64 × MS)) = some (r, M1) := hf
    cases hf
  | succ n ih =>
    intro x1 y3 x5 x6 M hf
    unfold f_X3_wordOf_n14 at hf
    have hk_14 := ih
    refine j_iload (pc := 14) hc dX3_wordOf_14 4 rfl ?_
    refine j_aload_n (pc := 16) hc dX3_wordOf_16 0 rfl rfl ?_
    refine j_mgA (pc := 17) hc ho fm_57 rfl dX3_wordOf_17 ?_
    refine j_iload (pc := 20) hc dX3_wordOf_20 3 rfl ?_
    obtain ⟨v1, ev1, hf1⟩ := ob_i hf
    clear hf
    refine j_mldI (pc := 22) hc (k := 16) (by decide) rfl dX3_wordOf_22 ev1 ?_
    refine j_icmp_ge (pc := 23) hc dX3_wordOf_23 (tgt := 67) rfl (fun hh => ?_) (fun hh => ?_)
    · have hf2 := (if_pos hh).symm.trans hf1
      clear hf1
      refine j_lload_n (pc := 67) hc dX3_wordOf_67 2 rfl rfl ?_
      cases hf2
      exact j_lret (pc := 68) hc hq hre dX3_wordOf_68
    · have hf3 := (if_neg hh).symm.trans hf1
      clear hf1
      refine j_ldc2 (pc := 26) hc ho q1171 dX3_wordOf_26 ?_
      refine j_lload_n (pc := 29) hc dX3_wordOf_29 2 rfl rfl ?_
      refine j_lmul (pc := 30) hc dX3_wordOf_30 ?_
      refine j_aload_n (pc := 31) hc dX3_wordOf_31 0 rfl rfl ?_
      refine j_mgA (pc := 32) hc ho fm_60 rfl dX3_wordOf_32 ?_
      refine j_sipush (pc := 35) (v := (400)) hc dX3_wordOf_35 rfl ?_
      refine j_iload_n (pc := 38) hc dX3_wordOf_38 1 rfl rfl ?_
      refine j_imul (pc := 39) hc dX3_wordOf_39 ?_
      refine j_aload_n (pc := 40) hc dX3_wordOf_40 0 rfl rfl ?_
      refine j_mgA (pc := 41) hc ho fm_54 rfl dX3_wordOf_41 ?_
      refine j_iload (pc := 44) hc dX3_wordOf_44 3 rfl ?_
      obtain ⟨v2, ev2, hf4⟩ := ob_i hf3
      clear hf3
      refine j_mldI (pc := 46) hc (k := 15) (by decide) rfl dX3_wordOf_46 ev2 ?_
      refine j_iadd (pc := 47) hc dX3_wordOf_47 ?_
      refine j_iload (pc := 48) hc dX3_wordOf_48 4 rfl ?_
      refine j_iadd (pc := 50) hc dX3_wordOf_50 ?_
      obtain ⟨v3, ev3, hf5⟩ := ob_i hf4
      clear hf4
      refine j_mldI (pc := 51) hc (k := 17) (by decide) rfl dX3_wordOf_51 ev3 ?_
      refine j_i2l (pc := 52) hc dX3_wordOf_52 ?_
      refine j_ladd (pc := 53) hc dX3_wordOf_53 ?_
      refine j_ldc2 (pc := 54) hc ho q1172 dX3_wordOf_54 ?_
      refine j_lsub (pc := 57) hc dX3_wordOf_57 ?_
      refine j_lconst (pc := 58) (v := 1) hc dX3_wordOf_58 rfl ?_
      refine j_ladd (pc := 59) hc dX3_wordOf_59 ?_
      refine j_lstore_n (pc := 60) (L' := [(3, vl (((((27) * y3) + (Int32.toInt64 v3)) - (97)) + (1))), (0, vr (some a0)), (1, vi x1), (5, vi x5), (6, vi x6)]) hc dX3_wordOf_60 rfl hnL (by decide) rfl ?_
      refine j_iinc (pc := 61) (L' := [(6, vi (x6 + (1))), (3, vl (((((27) * y3) + (Int32.toInt64 v3)) - (97)) + (1))), (0, vr (some a0)), (1, vi x1), (5, vi x5)]) (v := (x6 + (1))) hc dX3_wordOf_61 4 rfl rfl hnL (by decide) rfl ?_
      refine j_goto (pc := 64) hc dX3_wordOf_64 (tgt := 14) rfl ?_
      refine j_loc (L' := [(0, vr (some a0)), (1, vi x1), (3, vl (((((27) * y3) + (Int32.toInt64 v3)) - (97)) + (1))), (5, vi x5), (6, vi (x6 + (1)))]) [2, 3, 1, 4, 0] rfl ?_
      exact hk_14 _ _ _ _ _ hf5
set_option maxRecDepth 100000 in
set_option maxHeartbeats 2000000 in
theorem c_X3_wordOf {l : Launch} {g : PG} {a0 : Nat} {x1 : Int32} {x2 : Int32} {r : Int64} {S : HS} {M M1 : MS} (hf : f_X3_wordOf x1 x2 M = some (r, M1)) : (h_nx S ≤ h_nx S ∧ h_sl S ≤ h_sl S) ∧ Ct l g yX3_wordOf (ws_ yX3_wordOf cX3_wordOf 7 (some (.long))) 1 60 S (some (a0, M)) [vr (some a0), vi x1, vi x2] (some (vl r)) S (some (a0, M1)) := by
  refine met_of false (by decide) (fun h => by first | rfl | cases h) rfl (Nat.le_of_ble_eq_true rfl) (fun f hl hg hc ho hnL hrm hre hct hex hq => ?_)
  subst hl
  subst hg
  unfold f_X3_wordOf at hf
  refine j_lconst (pc := 0) (v := 0) hc dX3_wordOf_0 rfl ?_
  refine j_lstore_n (pc := 1) (L' := [(3, vl (0)), (0, vr (some a0)), (1, vi x1), (2, vi x2)]) hc dX3_wordOf_1 rfl hnL (by decide) rfl ?_
  refine j_sipush (pc := 2) (v := (400)) hc dX3_wordOf_2 rfl ?_
  refine j_iload_n (pc := 5) hc dX3_wordOf_5 2 rfl rfl ?_
  refine j_imul (pc := 6) hc dX3_wordOf_6 ?_
  refine j_iload_n (pc := 7) hc dX3_wordOf_7 3 rfl rfl ?_
  refine j_iadd (pc := 8) hc dX3_wordOf_8 ?_
  refine j_istore (pc := 9) (L' := [(5, vi (((400) * x1) + x2)), (3, vl (0)), (0, vr (some a0)), (1, vi x1), (2, vi x2)]) hc dX3_wordOf_9 hnL (by decide) rfl ?_
  refine j_iconst (pc := 11) (v := (0)) hc dX3_wordOf_11 rfl ?_
  refine j_istore (pc := 12) (L' := [(6, vi (0)), (5, vi (((400) * x1) + x2)), (3, vl (0)), (0, vr (some a0)), (1, vi x1), (2, vi x2)]) hc dX3_wordOf_12 hnL (by decide) rfl ?_
  refine j_loc (L' := [(0, vr (some a0)), (1, vi x1), (3, vl (0)), (5, vi (((400) * x1) + x2)), (6, vi (0))]) [3, 4, 2, 1, 0] rfl ?_
  exact w_X3_wordOf_n14 hc ho hnL hrm hre hct hq fu_ _ _ _ _ _ hf
theorem fm_30 : FM 30 7 := ⟨by decide, q1180⟩
theorem fm_33 : FM 33 8 := ⟨by decide, q1181⟩
theorem fm_13 : FM 13 2 := ⟨by decide, q1175⟩
def f_X3_behindNamed_n3 : Nat → Int32 → Int64 → Int32 → MS → Option (Int32 × MS)
  | 0, _, _, _, _ => none
  | n + 1, x1, y2, x4, M =>
    (g_mA M 7 x1).bind fun v1 =>
    if v1 ≤ x4 then
      some ((-1), M)
    else
      (g_mA M 8 (((3) * x1) + x4)).bind fun v2 =>
      if v2 = (-1) then
        (fun x1 y2 x4 M => f_X3_behindNamed_n3 n x1 y2 x4 M) x1 y2 (x4 + (1)) M
      else
        (g_mA M 8 (((3) * x1) + x4)).bind fun v3 =>
        (g_mB M 2 v3).bind fun w4 =>
        if (lg_cmp w4 y2) = 0 then
          (g_mA M 8 (((3) * x1) + x4)).bind fun v5 =>
          some (v5, M)
        else
          (fun x1 y2 x4 M => f_X3_behindNamed_n3 n x1 y2 x4 M) x1 y2 (x4 + (1)) M
def f_X3_behindNamed (x1 : Int32) (y2 : Int64) (M : MS) : Option (Int32 × MS) :=
  f_X3_behindNamed_n3 fu_ x1 y2 (0) M
set_option maxRecDepth 100000 in
set_option maxHeartbeats 2000000 in
theorem w_X3_behindNamed_n3 {f : CfT} {a0 : Nat} {r : Int32} {S : HS} {M1 : MS} (hc : cf_cc f = cX3_behindNamed) (ho : cf_ow f = "TableCatalogModel") (hnL : cf_nL f = 5) (hrm : cf_rm f = (1, 60)) (hre : cf_re f = (some (.int))) (hct : cf_ct f = false) (hq : Qok f (some (vi r)) S (some (a0, M1))) : ∀ (n : Nat) (x1 : Int32) (y2 : Int64) (x4 : Int32) (M : MS), f_X3_behindNamed_n3 n x1 y2 x4 M = some (r, M1) → JJ f S (some (a0, M)) 3 [(0, vr (some a0)), (1, vi x1), (2, vl y2), (4, vi x4)] [] := by
  intro n
  induction n with
  | zero =>
    intro x1 y2 x4 M hf
    have hf : (none : Option (Int32 × MS)) = some (r, M1) := hf
    cases hf
  | succ n ih =>
    intro x1 y2 x4 M hf
    unfold f_X3_behindNamed_n3 at hf
    have hk_3 := ih
    refine j_iload (pc := 3) hc dX3_behindNamed_3 3 rfl ?_
    refine j_aload_n (pc := 5) hc dX3_behindNamed_5 0 rfl rfl ?_
    refine j_mgA (pc := 6) hc ho fm_30 rfl dX3_behindNamed_6 ?_
    refine j_iload_n (pc := 9) hc dX3_behindNamed_9 1 rfl rfl ?_
    obtain ⟨v1, ev1, hf1⟩ := ob_i hf
    clear hf
    refine j_mldI (pc := 10) hc (k := 7) (by decide) rfl dX3_behindNamed_10 ev1 ?_
    refine j_icmp_ge (pc := 11) hc dX3_behindNamed_11 (tgt := 68) rfl (fun hh => ?_) (fun hh => ?_)
    · have hf2 := (if_pos hh).symm.trans hf1
      clear hf1
      refine j_iconst (pc := 68) (v := (-1)) hc dX3_behindNamed_68 rfl ?_
      cases hf2
      exact j_iret (pc := 69) hc hq hre rfl dX3_behindNamed_69
    · have hf3 := (if_neg hh).symm.trans hf1
      clear hf1
      refine j_aload_n (pc := 14) hc dX3_behindNamed_14 0 rfl rfl ?_
      refine j_mgA (pc := 15) hc ho fm_33 rfl dX3_behindNamed_15 ?_
      refine j_iconst (pc := 18) (v := (3)) hc dX3_behindNamed_18 rfl ?_
      refine j_iload_n (pc := 19) hc dX3_behindNamed_19 1 rfl rfl ?_
      refine j_imul (pc := 20) hc dX3_behindNamed_20 ?_
      refine j_iload (pc := 21) hc dX3_behindNamed_21 3 rfl ?_
      refine j_iadd (pc := 23) hc dX3_behindNamed_23 ?_
      obtain ⟨v2, ev2, hf4⟩ := ob_i hf3
      clear hf3
      refine j_mldI (pc := 24) hc (k := 8) (by decide) rfl dX3_behindNamed_24 ev2 ?_
      refine j_iconst (pc := 25) (v := (-1)) hc dX3_behindNamed_25 rfl ?_
      refine j_icmp_eq (pc := 26) hc dX3_behindNamed_26 (tgt := 62) rfl (fun hh => ?_) (fun hh => ?_)
      · have hf5 := (if_pos hh).symm.trans hf4
        clear hf4
        refine j_iinc (pc := 62) (L' := [(4, vi (x4 + (1))), (0, vr (some a0)), (1, vi x1), (2, vl y2)]) (v := (x4 + (1))) hc dX3_behindNamed_62 3 rfl rfl hnL (by decide) rfl ?_
        refine j_goto (pc := 65) hc dX3_behindNamed_65 (tgt := 3) rfl ?_
        refine j_loc (L' := [(0, vr (some a0)), (1, vi x1), (2, vl y2), (4, vi (x4 + (1)))]) [1, 2, 3, 0] rfl ?_
        exact hk_3 _ _ _ _ hf5
      · have hf6 := (if_neg hh).symm.trans hf4
        clear hf4
        refine j_aload_n (pc := 29) hc dX3_behindNamed_29 0 rfl rfl ?_
        refine j_mgA (pc := 30) hc ho fm_13 rfl dX3_behindNamed_30 ?_
        refine j_aload_n (pc := 33) hc dX3_behindNamed_33 0 rfl rfl ?_
        refine j_mgA (pc := 34) hc ho fm_33 rfl dX3_behindNamed_34 ?_
        refine j_iconst (pc := 37) (v := (3)) hc dX3_behindNamed_37 rfl ?_
        refine j_iload_n (pc := 38) hc dX3_behindNamed_38 1 rfl rfl ?_
        refine j_imul (pc := 39) hc dX3_behindNamed_39 ?_
        refine j_iload (pc := 40) hc dX3_behindNamed_40 3 rfl ?_
        refine j_iadd (pc := 42) hc dX3_behindNamed_42 ?_
        obtain ⟨v3, ev3, hf7⟩ := ob_i hf6
        clear hf6
        refine j_mldI (pc := 43) hc (k := 8) (by decide) rfl dX3_behindNamed_43 ev3 ?_
        obtain ⟨w4, ew4, hf8⟩ := ob_i hf7
        clear hf7
        refine j_mldJ (pc := 44) hc (k := 2) (by decide) rfl dX3_behindNamed_44 ew4 ?_
        refine j_lload_n (pc := 45) hc dX3_behindNamed_45 2 rfl rfl ?_
        refine j_lcmp (pc := 46) hc dX3_behindNamed_46 ?_
        refine j_if_ne (pc := 47) hc dX3_behindNamed_47 (tgt := 62) rfl (fun hh => ?_) (fun hh => ?_)
        · have hf9 := (if_neg hh).symm.trans hf8
          clear hf8
          refine j_iinc (pc := 62) (L' := [(4, vi (x4 + (1))), (0, vr (some a0)), (1, vi x1), (2, vl y2)]) (v := (x4 + (1))) hc dX3_behindNamed_62 3 rfl rfl hnL (by decide) rfl ?_
          refine j_goto (pc := 65) hc dX3_behindNamed_65 (tgt := 3) rfl ?_
          refine j_loc (L' := [(0, vr (some a0)), (1, vi x1), (2, vl y2), (4, vi (x4 + (1)))]) [1, 2, 3, 0] rfl ?_
          exact hk_3 _ _ _ _ hf9
        · have hf10 := (if_pos hh).symm.trans hf8
          clear hf8
          refine j_aload_n (pc := 50) hc dX3_behindNamed_50 0 rfl rfl ?_
          refine j_mgA (pc := 51) hc ho fm_33 rfl dX3_behindNamed_51 ?_
          refine j_iconst (pc := 54) (v := (3)) hc dX3_behindNamed_54 rfl ?_
          refine j_iload_n (pc := 55) hc dX3_behindNamed_55 1 rfl rfl ?_
          refine j_imul (pc := 56) hc dX3_behindNamed_56 ?_
          refine j_iload (pc := 57) hc dX3_behindNamed_57 3 rfl ?_
          refine j_iadd (pc := 59) hc dX3_behindNamed_59 ?_
          obtain ⟨v5, ev5, hf11⟩ := ob_i hf10
          clear hf10
          refine j_mldI (pc := 60) hc (k := 8) (by decide) rfl dX3_behindNamed_60 ev5 ?_
          cases hf11
          exact j_iret (pc := 61) hc hq hre rfl dX3_behindNamed_61
set_option maxRecDepth 100000 in
set_option maxHeartbeats 2000000 in
theorem c_X3_behindNamed {l : Launch} {g : PG} {a0 : Nat} {x1 : Int32} {y2 : Int64} {r : Int32} {S : HS} {M M1 : MS} (hf : f_X3_behindNamed x1 y2 M = some (r, M1)) : (h_nx S ≤ h_nx S ∧ h_sl S ≤ h_sl S) ∧ Ct l g yX3_behindNamed (ws_ yX3_behindNamed cX3_behindNamed 5 (some (.int))) 1 60 S (some (a0, M)) [vr (some a0), vi x1, vl y2] (some (vi r)) S (some (a0, M1)) := by
  refine met_of false (by decide) (fun h => by first | rfl | cases h) rfl (Nat.le_of_ble_eq_true rfl) (fun f hl hg hc ho hnL hrm hre hct hex hq => ?_)
  subst hl
  subst hg
  unfold f_X3_behindNamed at hf
  refine j_iconst (pc := 0) (v := (0)) hc dX3_behindNamed_0 rfl ?_
  refine j_istore (pc := 1) (L' := [(4, vi (0)), (0, vr (some a0)), (1, vi x1), (2, vl y2)]) hc dX3_behindNamed_1 hnL (by decide) rfl ?_
  refine j_loc (L' := [(0, vr (some a0)), (1, vi x1), (2, vl y2), (4, vi (0))]) [1, 2, 3, 0] rfl ?_
  exact w_X3_behindNamed_n3 hc ho hnL hrm hre hct hq fu_ _ _ _ _ hf
theorem fm_21 : FM 21 4 := ⟨by decide, q1177⟩
theorem fm_24 : FM 24 5 := ⟨by decide, q1178⟩
def f_X3_columnNamed_n3 : Nat → Int32 → Int64 → Int32 → MS → Option (Int32 × MS)
  | 0, _, _, _, _ => none
  | n + 1, x1, y2, x4, M =>
    (g_mA M 4 x1).bind fun v1 =>
    if v1 ≤ x4 then
      some ((-1), M)
    else
      (g_mB M 5 (((8) * x1) + x4)).bind fun w2 =>
      if (lg_cmp w2 y2) = 0 then
        some (x4, M)
      else
        (fun x1 y2 x4 M => f_X3_columnNamed_n3 n x1 y2 x4 M) x1 y2 (x4 + (1)) M
def f_X3_columnNamed (x1 : Int32) (y2 : Int64) (M : MS) : Option (Int32 × MS) :=
  f_X3_columnNamed_n3 fu_ x1 y2 (0) M
set_option maxRecDepth 100000 in
set_option maxHeartbeats 2000000 in
theorem w_X3_columnNamed_n3 {f : CfT} {a0 : Nat} {r : Int32} {S : HS} {M1 : MS} (hc : cf_cc f = cX3_columnNamed) (ho : cf_ow f = "TableCatalogModel") (hnL : cf_nL f = 5) (hrm : cf_rm f = (1, 60)) (hre : cf_re f = (some (.int))) (hct : cf_ct f = false) (hq : Qok f (some (vi r)) S (some (a0, M1))) : ∀ (n : Nat) (x1 : Int32) (y2 : Int64) (x4 : Int32) (M : MS), f_X3_columnNamed_n3 n x1 y2 x4 M = some (r, M1) → JJ f S (some (a0, M)) 3 [(0, vr (some a0)), (1, vi x1), (2, vl y2), (4, vi x4)] [] := by
  intro n
  induction n with
  | zero =>
    intro x1 y2 x4 M hf
    have hf : (none : Option (Int32 × MS)) = some (r, M1) := hf
    cases hf
  | succ n ih =>
    intro x1 y2 x4 M hf
    unfold f_X3_columnNamed_n3 at hf
    have hk_3 := ih
    refine j_iload (pc := 3) hc dX3_columnNamed_3 3 rfl ?_
    refine j_aload_n (pc := 5) hc dX3_columnNamed_5 0 rfl rfl ?_
    refine j_mgA (pc := 6) hc ho fm_21 rfl dX3_columnNamed_6 ?_
    refine j_iload_n (pc := 9) hc dX3_columnNamed_9 1 rfl rfl ?_
    obtain ⟨v1, ev1, hf1⟩ := ob_i hf
    clear hf
    refine j_mldI (pc := 10) hc (k := 4) (by decide) rfl dX3_columnNamed_10 ev1 ?_
    refine j_icmp_ge (pc := 11) hc dX3_columnNamed_11 (tgt := 40) rfl (fun hh => ?_) (fun hh => ?_)
    · have hf2 := (if_pos hh).symm.trans hf1
      clear hf1
      refine j_iconst (pc := 40) (v := (-1)) hc dX3_columnNamed_40 rfl ?_
      cases hf2
      exact j_iret (pc := 41) hc hq hre rfl dX3_columnNamed_41
    · have hf3 := (if_neg hh).symm.trans hf1
      clear hf1
      refine j_aload_n (pc := 14) hc dX3_columnNamed_14 0 rfl rfl ?_
      refine j_mgA (pc := 15) hc ho fm_24 rfl dX3_columnNamed_15 ?_
      refine j_bipush (pc := 18) (v := (8)) hc dX3_columnNamed_18 rfl ?_
      refine j_iload_n (pc := 20) hc dX3_columnNamed_20 1 rfl rfl ?_
      refine j_imul (pc := 21) hc dX3_columnNamed_21 ?_
      refine j_iload (pc := 22) hc dX3_columnNamed_22 3 rfl ?_
      refine j_iadd (pc := 24) hc dX3_columnNamed_24 ?_
      obtain ⟨w2, ew2, hf4⟩ := ob_i hf3
      clear hf3
      refine j_mldJ (pc := 25) hc (k := 5) (by decide) rfl dX3_columnNamed_25 ew2 ?_
      refine j_lload_n (pc := 26) hc dX3_columnNamed_26 2 rfl rfl ?_
      refine j_lcmp (pc := 27) hc dX3_columnNamed_27 ?_
      refine j_if_ne (pc := 28) hc dX3_columnNamed_28 (tgt := 34) rfl (fun hh => ?_) (fun hh => ?_)
      · have hf5 := (if_neg hh).symm.trans hf4
        clear hf4
        refine j_iinc (pc := 34) (L' := [(4, vi (x4 + (1))), (0, vr (some a0)), (1, vi x1), (2, vl y2)]) (v := (x4 + (1))) hc dX3_columnNamed_34 3 rfl rfl hnL (by decide) rfl ?_
        refine j_goto (pc := 37) hc dX3_columnNamed_37 (tgt := 3) rfl ?_
        refine j_loc (L' := [(0, vr (some a0)), (1, vi x1), (2, vl y2), (4, vi (x4 + (1)))]) [1, 2, 3, 0] rfl ?_
        exact hk_3 _ _ _ _ hf5
      · have hf6 := (if_pos hh).symm.trans hf4
        clear hf4
        refine j_iload (pc := 31) hc dX3_columnNamed_31 3 rfl ?_
        cases hf6
        exact j_iret (pc := 33) hc hq hre rfl dX3_columnNamed_33
set_option maxRecDepth 100000 in
set_option maxHeartbeats 2000000 in
theorem c_X3_columnNamed {l : Launch} {g : PG} {a0 : Nat} {x1 : Int32} {y2 : Int64} {r : Int32} {S : HS} {M M1 : MS} (hf : f_X3_columnNamed x1 y2 M = some (r, M1)) : (h_nx S ≤ h_nx S ∧ h_sl S ≤ h_sl S) ∧ Ct l g yX3_columnNamed (ws_ yX3_columnNamed cX3_columnNamed 5 (some (.int))) 1 60 S (some (a0, M)) [vr (some a0), vi x1, vl y2] (some (vi r)) S (some (a0, M1)) := by
  refine met_of false (by decide) (fun h => by first | rfl | cases h) rfl (Nat.le_of_ble_eq_true rfl) (fun f hl hg hc ho hnL hrm hre hct hex hq => ?_)
  subst hl
  subst hg
  unfold f_X3_columnNamed at hf
  refine j_iconst (pc := 0) (v := (0)) hc dX3_columnNamed_0 rfl ?_
  refine j_istore (pc := 1) (L' := [(4, vi (0)), (0, vr (some a0)), (1, vi x1), (2, vl y2)]) hc dX3_columnNamed_1 hnL (by decide) rfl ?_
  refine j_loc (L' := [(0, vr (some a0)), (1, vi x1), (2, vl y2), (4, vi (0))]) [1, 2, 3, 0] rfl ?_
  exact w_X3_columnNamed_n3 hc ho hnL hrm hre hct hq fu_ _ _ _ _ hf
theorem fm_108 : FM 108 43 := ⟨by decide, q1216⟩
theorem cw_X3_274 : CV "TableCatalogModel" 274 RX3 yX3_wordOf cX3_wordOf 7 (some (.long)) 2 := ⟨⟨q1476, q1478, qs59, q90, q1479⟩, rfl, by decide, by decide, by decide +kernel⟩
theorem cw_X3_281 : CV "TableCatalogModel" 281 RX3 yX3_behindNamed cX3_behindNamed 5 (some (.int)) 2 := ⟨⟨q1484, q1486, qs61, q90, q1487⟩, rfl, by decide, by decide, by decide +kernel⟩
theorem cw_X3_285 : CV "TableCatalogModel" 285 RX3 yX3_columnNamed cX3_columnNamed 5 (some (.int)) 2 := ⟨⟨q1488, q1490, qs62, q90, q1491⟩, rfl, by decide, by decide, by decide +kernel⟩
theorem fm_129 : FM 129 53 := ⟨by decide, q1226⟩
theorem fm_27 : FM 27 6 := ⟨by decide, q1179⟩
def f_X3_typeOfName_n63 (k_23 : Int32 → Int32 → Int32 → Int32 → MS → Option (Int32 × MS)) (x1 : Int32) (x2 : Int32) (x5 : Int32) (M : MS) : Option (Int32 × MS) :=
  k_23 x1 x2 (1) (x5 + (1)) M
def f_X3_typeOfName_n76 (x1 : Int32) (x2 : Int32) (x4 : Int32) (M : MS) : Option (Int32 × MS) :=
  if (m_I M 52) = 0 then
    some ((0), M)
  else
    if x4 = 0 then
      (g_mA M 15 (((400) * x1) + x2)).bind fun v1 =>
      (f_X3_means (2) v1 M).bind fun N2 =>
      some ((0), N2)
    else
      some ((0), M)
def f_X3_typeOfName_n23 : Nat → Int32 → Int32 → Int32 → Int32 → MS → Option (Int32 × MS)
  | 0, _, _, _, _, _ => none
  | n + 1, x1, x2, x4, x5, M =>
    (g_mA M 7 x1).bind fun v1 =>
    if v1 ≤ x5 then
      f_X3_typeOfName_n76 x1 x2 x4 M
    else
      if (m_I M 52) = 0 then
        f_X3_typeOfName_n76 x1 x2 x4 M
      else
        if x4 = 0 then
          (g_mB M 43 x5).bind fun w2 =>
          o_bd (f_X3_wordOf x1 x2 M) fun w4 N3 =>
          if (lg_cmp w2 w4) = 0 then
            f_X3_typeOfName_n63 (fun x1 x2 x4 x5 M => f_X3_typeOfName_n23 n x1 x2 x4 x5 M) x1 x2 x5 N3
          else
            (fun x1 x2 x4 x5 M => f_X3_typeOfName_n23 n x1 x2 x4 x5 M) x1 x2 (0) (x5 + (1)) N3
        else
          f_X3_typeOfName_n63 (fun x1 x2 x4 x5 M => f_X3_typeOfName_n23 n x1 x2 x4 x5 M) x1 x2 x5 M
def f_X3_typeOfName (x1 : Int32) (x2 : Int32) (M : MS) : Option (Int32 × MS) :=
  o_bd (f_X3_wordOf x1 x2 M) fun w2 N1 =>
  o_bd (f_X3_behindNamed x1 w2 N1) fun v4 N3 =>
  if v4 = (-1) then
    f_X3_typeOfName_n23 fu_ x1 x2 (0) (0) N3
  else
    o_bd (f_X3_wordOf x1 (x2 + (2)) N3) fun w6 N5 =>
    o_bd (f_X3_columnNamed v4 w6 N5) fun v8 N7 =>
    if v8 = (-1) then
      if (m_I N7 52) = 0 then
        some ((0), N7)
      else
        (g_mA N7 15 ((((400) * x1) + x2) + (2))).bind fun v11 =>
        (f_X3_means (2) v11 N7).bind fun N12 =>
        some ((0), N12)
    else
      if (m_I N7 52) = 0 then
        (g_mA N7 53 (((8) * v4) + v8)).bind fun v9 =>
        some (v9, N7)
      else
        (g_mA N7 6 (((8) * v4) + v8)).bind fun v10 =>
        some (v10, N7)
set_option maxRecDepth 100000 in
set_option maxHeartbeats 2000000 in
theorem w_X3_typeOfName_n63 {f : CfT} {a0 : Nat} {r : Int32} {S : HS} {M1 : MS} (hc : cf_cc f = cX3_typeOfName) (ho : cf_ow f = "TableCatalogModel") (hnL : cf_nL f = 6) (hrm : cf_rm f = (2, 86)) (hre : cf_re f = (some (.int))) (hct : cf_ct f = false) (hq : Qok f (some (vi r)) S (some (a0, M1))) {k_23 : Int32 → Int32 → Int32 → Int32 → MS → Option (Int32 × MS)} (hk_23 : ∀ (x1 : Int32) (x2 : Int32) (x4 : Int32) (x5 : Int32) (M : MS), k_23 x1 x2 x4 x5 M = some (r, M1) → JJ f S (some (a0, M)) 23 [(0, vr (some a0)), (1, vi x1), (2, vi x2), (4, vi x4), (5, vi x5)] []) {x1 : Int32} {x2 : Int32} {x5 : Int32} {M : MS} (hf : f_X3_typeOfName_n63 k_23 x1 x2 x5 M = some (r, M1)) : JJ f S (some (a0, M)) 63 [(0, vr (some a0)), (1, vi x1), (2, vi x2), (5, vi x5)] [] := by
  unfold f_X3_typeOfName_n63 at hf
  refine j_iconst (pc := 63) (v := (1)) hc dX3_typeOfName_63 rfl ?_
  refine j_goto (pc := 64) hc dX3_typeOfName_64 (tgt := 68) rfl ?_
  refine j_istore (pc := 68) (L' := [(4, vi (1)), (0, vr (some a0)), (1, vi x1), (2, vi x2), (5, vi x5)]) hc dX3_typeOfName_68 hnL (by decide) rfl ?_
  refine j_iinc (pc := 70) (L' := [(5, vi (x5 + (1))), (4, vi (1)), (0, vr (some a0)), (1, vi x1), (2, vi x2)]) (v := (x5 + (1))) hc dX3_typeOfName_70 4 rfl rfl hnL (by decide) rfl ?_
  refine j_goto (pc := 73) hc dX3_typeOfName_73 (tgt := 23) rfl ?_
  refine j_loc (L' := [(0, vr (some a0)), (1, vi x1), (2, vi x2), (4, vi (1)), (5, vi (x5 + (1)))]) [2, 3, 4, 1, 0] rfl ?_
  exact hk_23 _ _ _ _ _ hf
set_option maxRecDepth 100000 in
set_option maxHeartbeats 2000000 in
theorem w_X3_typeOfName_n76 {f : CfT} {a0 : Nat} {r : Int32} {S : HS} {M1 : MS} (hc : cf_cc f = cX3_typeOfName) (ho : cf_ow f = "TableCatalogModel") (hnL : cf_nL f = 6) (hrm : cf_rm f = (2, 86)) (hre : cf_re f = (some (.int))) (hct : cf_ct f = false) (hq : Qok f (some (vi r)) S (some (a0, M1))) {x1 : Int32} {x2 : Int32} {x4 : Int32} {M : MS} (hf : f_X3_typeOfName_n76 x1 x2 x4 M = some (r, M1)) : JJ f S (some (a0, M)) 76 [(0, vr (some a0)), (1, vi x1), (2, vi x2), (4, vi x4)] [] := by
  unfold f_X3_typeOfName_n76 at hf
  refine j_aload_n (pc := 76) hc dX3_typeOfName_76 0 rfl rfl ?_
  refine j_mgI (pc := 77) hc ho fm_258 rfl dX3_typeOfName_77 ?_
  refine j_if_eq (pc := 80) hc dX3_typeOfName_80 (tgt := 105) rfl (fun hh => ?_) (fun hh => ?_)
  · have hf1 := (if_pos hh).symm.trans hf
    clear hf
    refine j_iconst (pc := 105) (v := (0)) hc dX3_typeOfName_105 rfl ?_
    cases hf1
    exact j_iret (pc := 106) hc hq hre rfl dX3_typeOfName_106
  · have hf2 := (if_neg hh).symm.trans hf
    clear hf
    refine j_iload (pc := 83) hc dX3_typeOfName_83 3 rfl ?_
    refine j_if_ne (pc := 85) hc dX3_typeOfName_85 (tgt := 105) rfl (fun hh => ?_) (fun hh => ?_)
    · have hf3 := (if_neg hh).symm.trans hf2
      clear hf2
      refine j_iconst (pc := 105) (v := (0)) hc dX3_typeOfName_105 rfl ?_
      cases hf3
      exact j_iret (pc := 106) hc hq hre rfl dX3_typeOfName_106
    · have hf4 := (if_pos hh).symm.trans hf2
      clear hf2
      refine j_aload_n (pc := 88) hc dX3_typeOfName_88 0 rfl rfl ?_
      refine j_iconst (pc := 89) (v := (2)) hc dX3_typeOfName_89 rfl ?_
      refine j_aload_n (pc := 90) hc dX3_typeOfName_90 0 rfl rfl ?_
      refine j_mgA (pc := 91) hc ho fm_54 rfl dX3_typeOfName_91 ?_
      refine j_sipush (pc := 94) (v := (400)) hc dX3_typeOfName_94 rfl ?_
      refine j_iload_n (pc := 97) hc dX3_typeOfName_97 1 rfl rfl ?_
      refine j_imul (pc := 98) hc dX3_typeOfName_98 ?_
      refine j_iload_n (pc := 99) hc dX3_typeOfName_99 2 rfl rfl ?_
      refine j_iadd (pc := 100) hc dX3_typeOfName_100 ?_
      obtain ⟨v1, ev1, hf5⟩ := ob_i hf4
      clear hf4
      refine j_mldI (pc := 101) hc (k := 15) (by decide) rfl dX3_typeOfName_101 ev1 ?_
      obtain ⟨N2, eN2, hf6⟩ := ob_i hf5
      clear hf5
      refine j_callV (pc := 102) (As := [vi (2), vi v1]) (rest := []) (st2 := []) hc ho cw_X3_262 (c_X3_means eN2) (Or.inr ⟨rfl, _, rfl⟩) hrm ⟨by decide, by decide⟩ rfl (Nat.le_of_ble_eq_true rfl) dX3_typeOfName_102 rfl rfl ?_
      refine j_iconst (pc := 105) (v := (0)) hc dX3_typeOfName_105 rfl ?_
      cases hf6
      exact j_iret (pc := 106) hc hq hre rfl dX3_typeOfName_106
set_option maxRecDepth 100000 in
set_option maxHeartbeats 2000000 in
theorem w_X3_typeOfName_n23 {f : CfT} {a0 : Nat} {r : Int32} {S : HS} {M1 : MS} (hc : cf_cc f = cX3_typeOfName) (ho : cf_ow f = "TableCatalogModel") (hnL : cf_nL f = 6) (hrm : cf_rm f = (2, 86)) (hre : cf_re f = (some (.int))) (hct : cf_ct f = false) (hq : Qok f (some (vi r)) S (some (a0, M1))) : ∀ (n : Nat) (x1 : Int32) (x2 : Int32) (x4 : Int32) (x5 : Int32) (M : MS), f_X3_typeOfName_n23 n x1 x2 x4 x5 M = some (r, M1) → JJ f S (some (a0, M)) 23 [(0, vr (some a0)), (1, vi x1), (2, vi x2), (4, vi x4), (5, vi x5)] [] := by
  intro n
  induction n with
  | zero =>
    intro x1 x2 x4 x5 M hf
    have hf : (none : Option (Int32 × MS)) = some (r, M1) := hf
    cases hf
  | succ n ih =>
    intro x1 x2 x4 x5 M hf
    unfold f_X3_typeOfName_n23 at hf
    have hk_23 := ih
    refine j_iload (pc := 23) hc dX3_typeOfName_23 4 rfl ?_
    refine j_aload_n (pc := 25) hc dX3_typeOfName_25 0 rfl rfl ?_
    refine j_mgA (pc := 26) hc ho fm_30 rfl dX3_typeOfName_26 ?_
    refine j_iload_n (pc := 29) hc dX3_typeOfName_29 1 rfl rfl ?_
    obtain ⟨v1, ev1, hf1⟩ := ob_i hf
    clear hf
    refine j_mldI (pc := 30) hc (k := 7) (by decide) rfl dX3_typeOfName_30 ev1 ?_
    refine j_icmp_ge (pc := 31) hc dX3_typeOfName_31 (tgt := 76) rfl (fun hh => ?_) (fun hh => ?_)
    · have hf2 := (if_pos hh).symm.trans hf1
      clear hf1
      refine j_loc (L' := [(0, vr (some a0)), (1, vi x1), (2, vi x2), (4, vi x4)]) [0, 1, 2, 3] rfl ?_
      exact w_X3_typeOfName_n76 hc ho hnL hrm hre hct hq hf2
    · have hf3 := (if_neg hh).symm.trans hf1
      clear hf1
      refine j_aload_n (pc := 34) hc dX3_typeOfName_34 0 rfl rfl ?_
      refine j_mgI (pc := 35) hc ho fm_258 rfl dX3_typeOfName_35 ?_
      refine j_if_eq (pc := 38) hc dX3_typeOfName_38 (tgt := 76) rfl (fun hh => ?_) (fun hh => ?_)
      · have hf4 := (if_pos hh).symm.trans hf3
        clear hf3
        refine j_loc (L' := [(0, vr (some a0)), (1, vi x1), (2, vi x2), (4, vi x4)]) [0, 1, 2, 3] rfl ?_
        exact w_X3_typeOfName_n76 hc ho hnL hrm hre hct hq hf4
      · have hf5 := (if_neg hh).symm.trans hf3
        clear hf3
        refine j_iload (pc := 41) hc dX3_typeOfName_41 3 rfl ?_
        refine j_if_ne (pc := 43) hc dX3_typeOfName_43 (tgt := 63) rfl (fun hh => ?_) (fun hh => ?_)
        · have hf6 := (if_neg hh).symm.trans hf5
          clear hf5
          refine j_loc (L' := [(0, vr (some a0)), (1, vi x1), (2, vi x2), (5, vi x5)]) [0, 1, 2, 4] rfl ?_
          exact w_X3_typeOfName_n63 hc ho hnL hrm hre hct hq hk_23 hf6
        · have hf7 := (if_pos hh).symm.trans hf5
          clear hf5
          refine j_aload_n (pc := 46) hc dX3_typeOfName_46 0 rfl rfl ?_
          refine j_mgA (pc := 47) hc ho fm_108 rfl dX3_typeOfName_47 ?_
          refine j_iload (pc := 50) hc dX3_typeOfName_50 4 rfl ?_
          obtain ⟨w2, ew2, hf8⟩ := ob_i hf7
          clear hf7
          refine j_mldJ (pc := 52) hc (k := 43) (by decide) rfl dX3_typeOfName_52 ew2 ?_
          refine j_aload_n (pc := 53) hc dX3_typeOfName_53 0 rfl rfl ?_
          refine j_iload_n (pc := 54) hc dX3_typeOfName_54 1 rfl rfl ?_
          refine j_iload_n (pc := 55) hc dX3_typeOfName_55 2 rfl rfl ?_
          obtain ⟨w4, N3, ew4, hf9⟩ := ob_c hf8
          clear hf8
          refine j_callV (pc := 56) (As := [vi x1, vi x2]) (rest := [vl w2]) (st2 := [vl w4, vl w2]) hc ho cw_X3_274 (c_X3_wordOf ew4) (Or.inr ⟨rfl, _, rfl⟩) hrm ⟨by decide, by decide⟩ rfl (Nat.le_of_ble_eq_true rfl) dX3_typeOfName_56 rfl rfl ?_
          refine j_lcmp (pc := 59) hc dX3_typeOfName_59 ?_
          refine j_if_ne (pc := 60) hc dX3_typeOfName_60 (tgt := 67) rfl (fun hh => ?_) (fun hh => ?_)
          · have hf10 := (if_neg hh).symm.trans hf9
            clear hf9
            refine j_iconst (pc := 67) (v := (0)) hc dX3_typeOfName_67 rfl ?_
            refine j_istore (pc := 68) (L' := [(4, vi (0)), (0, vr (some a0)), (1, vi x1), (2, vi x2), (5, vi x5)]) hc dX3_typeOfName_68 hnL (by decide) rfl ?_
            refine j_iinc (pc := 70) (L' := [(5, vi (x5 + (1))), (4, vi (0)), (0, vr (some a0)), (1, vi x1), (2, vi x2)]) (v := (x5 + (1))) hc dX3_typeOfName_70 4 rfl rfl hnL (by decide) rfl ?_
            refine j_goto (pc := 73) hc dX3_typeOfName_73 (tgt := 23) rfl ?_
            refine j_loc (L' := [(0, vr (some a0)), (1, vi x1), (2, vi x2), (4, vi (0)), (5, vi (x5 + (1)))]) [2, 3, 4, 1, 0] rfl ?_
            exact hk_23 _ _ _ _ _ hf10
          · have hf11 := (if_pos hh).symm.trans hf9
            clear hf9
            refine j_loc (L' := [(0, vr (some a0)), (1, vi x1), (2, vi x2), (5, vi x5)]) [0, 1, 2, 4] rfl ?_
            exact w_X3_typeOfName_n63 hc ho hnL hrm hre hct hq hk_23 hf11
set_option maxRecDepth 100000 in
set_option maxHeartbeats 2000000 in
theorem c_X3_typeOfName {l : Launch} {g : PG} {a0 : Nat} {x1 : Int32} {x2 : Int32} {r : Int32} {S : HS} {M M1 : MS} (hf : f_X3_typeOfName x1 x2 M = some (r, M1)) : (h_nx S ≤ h_nx S ∧ h_sl S ≤ h_sl S) ∧ Ct l g yX3_typeOfName (ws_ yX3_typeOfName cX3_typeOfName 6 (some (.int))) 2 86 S (some (a0, M)) [vr (some a0), vi x1, vi x2] (some (vi r)) S (some (a0, M1)) := by
  refine met_of false (by decide) (fun h => by first | rfl | cases h) rfl (Nat.le_of_ble_eq_true rfl) (fun f hl hg hc ho hnL hrm hre hct hex hq => ?_)
  subst hl
  subst hg
  unfold f_X3_typeOfName at hf
  refine j_aload_n (pc := 0) hc dX3_typeOfName_0 0 rfl rfl ?_
  refine j_iload_n (pc := 1) hc dX3_typeOfName_1 1 rfl rfl ?_
  refine j_aload_n (pc := 2) hc dX3_typeOfName_2 0 rfl rfl ?_
  refine j_iload_n (pc := 3) hc dX3_typeOfName_3 1 rfl rfl ?_
  refine j_iload_n (pc := 4) hc dX3_typeOfName_4 2 rfl rfl ?_
  obtain ⟨w2, N1, ew2, hf1⟩ := ob_c hf
  clear hf
  refine j_callV (pc := 5) (As := [vi x1, vi x2]) (rest := [vi x1, vr (some a0)]) (st2 := [vl w2, vi x1, vr (some a0)]) hc ho cw_X3_274 (c_X3_wordOf ew2) (Or.inr ⟨rfl, _, rfl⟩) hrm ⟨by decide, by decide⟩ rfl (Nat.le_of_ble_eq_true rfl) dX3_typeOfName_5 rfl rfl ?_
  obtain ⟨v4, N3, ev4, hf2⟩ := ob_c hf1
  clear hf1
  refine j_callV (pc := 8) (As := [vi x1, vl w2]) (rest := []) (st2 := [vi v4]) hc ho cw_X3_281 (c_X3_behindNamed ev4) (Or.inr ⟨rfl, _, rfl⟩) hrm ⟨by decide, by decide⟩ rfl (Nat.le_of_ble_eq_true rfl) dX3_typeOfName_8 rfl rfl ?_
  refine j_istore_n (pc := 11) (L' := [(3, vi v4), (0, vr (some a0)), (1, vi x1), (2, vi x2)]) hc dX3_typeOfName_11 rfl hnL (by decide) rfl ?_
  refine j_iload_n (pc := 12) hc dX3_typeOfName_12 0 rfl rfl ?_
  refine j_iconst (pc := 13) (v := (-1)) hc dX3_typeOfName_13 rfl ?_
  refine j_icmp_ne (pc := 14) hc dX3_typeOfName_14 (tgt := 107) rfl (fun hh => ?_) (fun hh => ?_)
  · have hf3 := (if_neg hh).symm.trans hf2
    clear hf2
    refine j_aload_n (pc := 107) hc dX3_typeOfName_107 1 rfl rfl ?_
    refine j_iload_n (pc := 108) hc dX3_typeOfName_108 0 rfl rfl ?_
    refine j_aload_n (pc := 109) hc dX3_typeOfName_109 1 rfl rfl ?_
    refine j_iload_n (pc := 110) hc dX3_typeOfName_110 2 rfl rfl ?_
    refine j_iload_n (pc := 111) hc dX3_typeOfName_111 3 rfl rfl ?_
    refine j_iconst (pc := 112) (v := (2)) hc dX3_typeOfName_112 rfl ?_
    refine j_iadd (pc := 113) hc dX3_typeOfName_113 ?_
    obtain ⟨w6, N5, ew6, hf4⟩ := ob_c hf3
    clear hf3
    refine j_callV (pc := 114) (As := [vi x1, vi (x2 + (2))]) (rest := [vi v4, vr (some a0)]) (st2 := [vl w6, vi v4, vr (some a0)]) hc ho cw_X3_274 (c_X3_wordOf ew6) (Or.inr ⟨rfl, _, rfl⟩) hrm ⟨by decide, by decide⟩ rfl (Nat.le_of_ble_eq_true rfl) dX3_typeOfName_114 rfl rfl ?_
    obtain ⟨v8, N7, ev8, hf5⟩ := ob_c hf4
    clear hf4
    refine j_callV (pc := 117) (As := [vi v4, vl w6]) (rest := []) (st2 := [vi v8]) hc ho cw_X3_285 (c_X3_columnNamed ev8) (Or.inr ⟨rfl, _, rfl⟩) hrm ⟨by decide, by decide⟩ rfl (Nat.le_of_ble_eq_true rfl) dX3_typeOfName_117 rfl rfl ?_
    refine j_istore (pc := 120) (L' := [(4, vi v8), (3, vi v4), (0, vr (some a0)), (1, vi x1), (2, vi x2)]) hc dX3_typeOfName_120 hnL (by decide) rfl ?_
    refine j_iload (pc := 122) hc dX3_typeOfName_122 0 rfl ?_
    refine j_iconst (pc := 124) (v := (-1)) hc dX3_typeOfName_124 rfl ?_
    refine j_icmp_ne (pc := 125) hc dX3_typeOfName_125 (tgt := 156) rfl (fun hh => ?_) (fun hh => ?_)
    · have hf6 := (if_neg hh).symm.trans hf5
      clear hf5
      refine j_aload_n (pc := 156) hc dX3_typeOfName_156 2 rfl rfl ?_
      refine j_mgI (pc := 157) hc ho fm_258 rfl dX3_typeOfName_157 ?_
      refine j_if_eq (pc := 160) hc dX3_typeOfName_160 (tgt := 178) rfl (fun hh => ?_) (fun hh => ?_)
      · have hf7 := (if_pos hh).symm.trans hf6
        clear hf6
        refine j_aload_n (pc := 178) hc dX3_typeOfName_178 2 rfl rfl ?_
        refine j_mgA (pc := 179) hc ho fm_129 rfl dX3_typeOfName_179 ?_
        refine j_bipush (pc := 182) (v := (8)) hc dX3_typeOfName_182 rfl ?_
        refine j_iload_n (pc := 184) hc dX3_typeOfName_184 1 rfl rfl ?_
        refine j_imul (pc := 185) hc dX3_typeOfName_185 ?_
        refine j_iload (pc := 186) hc dX3_typeOfName_186 0 rfl ?_
        refine j_iadd (pc := 188) hc dX3_typeOfName_188 ?_
        obtain ⟨v9, ev9, hf8⟩ := ob_i hf7
        clear hf7
        refine j_mldI (pc := 189) hc (k := 53) (by decide) rfl dX3_typeOfName_189 ev9 ?_
        cases hf8
        exact j_iret (pc := 190) hc hq hre rfl dX3_typeOfName_190
      · have hf9 := (if_neg hh).symm.trans hf6
        clear hf6
        refine j_aload_n (pc := 163) hc dX3_typeOfName_163 2 rfl rfl ?_
        refine j_mgA (pc := 164) hc ho fm_27 rfl dX3_typeOfName_164 ?_
        refine j_bipush (pc := 167) (v := (8)) hc dX3_typeOfName_167 rfl ?_
        refine j_iload_n (pc := 169) hc dX3_typeOfName_169 1 rfl rfl ?_
        refine j_imul (pc := 170) hc dX3_typeOfName_170 ?_
        refine j_iload (pc := 171) hc dX3_typeOfName_171 0 rfl ?_
        refine j_iadd (pc := 173) hc dX3_typeOfName_173 ?_
        obtain ⟨v10, ev10, hf10⟩ := ob_i hf9
        clear hf9
        refine j_mldI (pc := 174) hc (k := 6) (by decide) rfl dX3_typeOfName_174 ev10 ?_
        refine j_goto (pc := 175) hc dX3_typeOfName_175 (tgt := 190) rfl ?_
        cases hf10
        exact j_iret (pc := 190) hc hq hre rfl dX3_typeOfName_190
    · have hf11 := (if_pos hh).symm.trans hf5
      clear hf5
      refine j_aload_n (pc := 128) hc dX3_typeOfName_128 2 rfl rfl ?_
      refine j_mgI (pc := 129) hc ho fm_258 rfl dX3_typeOfName_129 ?_
      refine j_if_eq (pc := 132) hc dX3_typeOfName_132 (tgt := 154) rfl (fun hh => ?_) (fun hh => ?_)
      · have hf12 := (if_pos hh).symm.trans hf11
        clear hf11
        refine j_iconst (pc := 154) (v := (0)) hc dX3_typeOfName_154 rfl ?_
        cases hf12
        exact j_iret (pc := 155) hc hq hre rfl dX3_typeOfName_155
      · have hf13 := (if_neg hh).symm.trans hf11
        clear hf11
        refine j_aload_n (pc := 135) hc dX3_typeOfName_135 2 rfl rfl ?_
        refine j_iconst (pc := 136) (v := (2)) hc dX3_typeOfName_136 rfl ?_
        refine j_aload_n (pc := 137) hc dX3_typeOfName_137 2 rfl rfl ?_
        refine j_mgA (pc := 138) hc ho fm_54 rfl dX3_typeOfName_138 ?_
        refine j_sipush (pc := 141) (v := (400)) hc dX3_typeOfName_141 rfl ?_
        refine j_iload_n (pc := 144) hc dX3_typeOfName_144 3 rfl rfl ?_
        refine j_imul (pc := 145) hc dX3_typeOfName_145 ?_
        refine j_iload_n (pc := 146) hc dX3_typeOfName_146 4 rfl rfl ?_
        refine j_iadd (pc := 147) hc dX3_typeOfName_147 ?_
        refine j_iconst (pc := 148) (v := (2)) hc dX3_typeOfName_148 rfl ?_
        refine j_iadd (pc := 149) hc dX3_typeOfName_149 ?_
        obtain ⟨v11, ev11, hf14⟩ := ob_i hf13
        clear hf13
        refine j_mldI (pc := 150) hc (k := 15) (by decide) rfl dX3_typeOfName_150 ev11 ?_
        obtain ⟨N12, eN12, hf15⟩ := ob_i hf14
        clear hf14
        refine j_callV (pc := 151) (As := [vi (2), vi v11]) (rest := []) (st2 := []) hc ho cw_X3_262 (c_X3_means eN12) (Or.inr ⟨rfl, _, rfl⟩) hrm ⟨by decide, by decide⟩ rfl (Nat.le_of_ble_eq_true rfl) dX3_typeOfName_151 rfl rfl ?_
        refine j_iconst (pc := 154) (v := (0)) hc dX3_typeOfName_154 rfl ?_
        cases hf15
        exact j_iret (pc := 155) hc hq hre rfl dX3_typeOfName_155
  · have hf16 := (if_pos hh).symm.trans hf2
    clear hf2
    refine j_iconst (pc := 17) (v := (0)) hc dX3_typeOfName_17 rfl ?_
    refine j_istore (pc := 18) (L' := [(4, vi (0)), (3, vi v4), (0, vr (some a0)), (1, vi x1), (2, vi x2)]) hc dX3_typeOfName_18 hnL (by decide) rfl ?_
    refine j_iconst (pc := 20) (v := (0)) hc dX3_typeOfName_20 rfl ?_
    refine j_istore (pc := 21) (L' := [(5, vi (0)), (4, vi (0)), (3, vi v4), (0, vr (some a0)), (1, vi x1), (2, vi x2)]) hc dX3_typeOfName_21 hnL (by decide) rfl ?_
    refine j_loc (L' := [(0, vr (some a0)), (1, vi x1), (2, vi x2), (4, vi (0)), (5, vi (0))]) [3, 4, 5, 1, 0] rfl ?_
    exact w_X3_typeOfName_n23 hc ho hnL hrm hre hct hq fu_ _ _ _ _ _ hf16
theorem fm_126 : FM 126 49 := ⟨by decide, q1222⟩
theorem cw_X3_271 : CV "TableCatalogModel" 271 RX3 yX3_comes cX3_comes 6 none 1 := ⟨⟨q1468, q1470, qs57, q90, q1471⟩, rfl, by decide, by decide, by decide +kernel⟩
theorem fm_51 : FM 51 14 := ⟨by decide, q1187⟩
theorem fm_123 : FM 123 48 := ⟨by decide, q1221⟩
theorem cw_X3_277 : CV "TableCatalogModel" 277 RX3 yX3_typeOfName cX3_typeOfName 6 (some (.int)) 2 := ⟨⟨q1480, q1482, qs60, q90, q1483⟩, rfl, by decide, by decide, by decide +kernel⟩
theorem fm_99 : FM 99 38 := ⟨by decide, q1211⟩
theorem fm_63 : FM 63 18 := ⟨by decide, q1191⟩
def f_X3_typeOf_n179 (k_31 : Int32 → Int32 → Int32 → MS → Option (Int32 × MS)) (x1 : Int32) (x2 : Int32) (x3 : Int32) (x4 : Int32) (sx1 : Int32) (sx2 : Int32) (M : MS) : Option (Int32 × MS) :=
  (p_mA M 48 sx1 sx2).bind fun N1 =>
  (g_mA N1 15 x4).bind fun v2 =>
  (p_mA N1 49 (m_I N1 51) v2).bind fun N3 =>
  k_31 x1 x2 ((x3 + (1)) + (1)) N3
def f_X3_typeOf_n313 (k_31 : Int32 → Int32 → Int32 → MS → Option (Int32 × MS)) (x1 : Int32) (x2 : Int32) (x3 : Int32) (sx1 : Int32) (M : MS) : Option (Int32 × MS) :=
  (f_X3_comes sx1 M).bind fun N1 =>
  k_31 x1 x2 (x3 + (1)) N1
def f_X3_typeOf_n288 (k_31 : Int32 → Int32 → Int32 → MS → Option (Int32 × MS)) (x1 : Int32) (x2 : Int32) (x3 : Int32) (x6 : Int32) (M : MS) : Option (Int32 × MS) :=
  (some (m_sI M 51 ((m_I M 51) - (1)))).bind fun N1 =>
  if x6 = (116) then
    f_X3_typeOf_n313 k_31 x1 x2 x3 (110) N1
  else
    f_X3_typeOf_n313 k_31 x1 x2 x3 (116) N1
def f_X3_typeOf_n202 (k_31 : Int32 → Int32 → Int32 → MS → Option (Int32 × MS)) (x1 : Int32) (x2 : Int32) (x3 : Int32) (x4 : Int32) (M : MS) : Option (Int32 × MS) :=
  (g_mA M 14 x4).bind fun v1 =>
  if v1 = (1) then
    o_bd (f_X3_typeOfName x1 x3 M) fun v12 N11 =>
    (f_X3_comes v12 N11).bind fun N13 =>
    k_31 x1 x2 ((x3 + (2)) + (1)) N13
  else
    (g_mA M 14 x4).bind fun v2 =>
    if v2 = (41) then
      (g_mA M 45 (m_I M 51)).bind fun v7 =>
      (g_mA M 48 (m_I M 51)).bind fun v8 =>
      if v7 = 0 then
        f_X3_typeOf_n288 k_31 x1 x2 x3 v8 M
      else
        if v7 = v8 then
          f_X3_typeOf_n288 k_31 x1 x2 x3 v8 M
        else
          (g_mA M 49 (m_I M 51)).bind fun v9 =>
          (f_X3_wrong v9 M).bind fun N10 =>
          f_X3_typeOf_n288 k_31 x1 x2 x3 v8 N10
    else
      (g_mA M 14 x4).bind fun v3 =>
      (p_mA M 46 (m_I M 51) v3).bind fun N4 =>
      (g_mA N4 15 x4).bind fun v5 =>
      (p_mA N4 47 (m_I N4 51) v5).bind fun N6 =>
      k_31 x1 x2 (x3 + (1)) N6
def f_X3_typeOf_n31 : Nat → Int32 → Int32 → Int32 → MS → Option (Int32 × MS)
  | 0, _, _, _, _ => none
  | n + 1, x1, x2, x3, M =>
    (g_mA M 19 (((8) * x1) + x2)).bind fun v1 =>
    if v1 ≤ x3 then
      (g_mA M 45 (0)).bind fun v2 =>
      some (v2, M)
    else
      (g_mA M 14 (((400) * x1) + x3)).bind fun v3 =>
      if v3 = (2) then
        (f_X3_comes (110) M).bind fun N13 =>
        (fun x1 x2 x3 M => f_X3_typeOf_n31 n x1 x2 x3 M) x1 x2 (x3 + (1)) N13
      else
        (g_mA M 14 (((400) * x1) + x3)).bind fun v4 =>
        if v4 = (3) then
          (f_X3_comes (116) M).bind fun N12 =>
          (fun x1 x2 x3 M => f_X3_typeOf_n31 n x1 x2 x3 M) x1 x2 (x3 + (1)) N12
        else
          (g_mA M 14 (((400) * x1) + x3)).bind fun v5 =>
          if v5 = (1) then
            (g_mA M 14 ((((400) * x1) + x3) + (1))).bind fun v6 =>
            if v6 = (40) then
              (some (m_sI M 51 ((m_I M 51) + (1)))).bind fun N7 =>
              (p_mA N7 45 (m_I N7 51) (0)).bind fun N8 =>
              (p_mA N8 46 (m_I N8 51) (0)).bind fun N9 =>
              o_bd (f_X3_wordOf x1 x3 N9) fun w11 N10 =>
              if (lg_cmp w11 (m_J N10 38)) = 0 then
                f_X3_typeOf_n179 (fun x1 x2 x3 M => f_X3_typeOf_n31 n x1 x2 x3 M) x1 x2 x3 (((400) * x1) + x3) (m_I N9 51) (116) N10
              else
                f_X3_typeOf_n179 (fun x1 x2 x3 M => f_X3_typeOf_n31 n x1 x2 x3 M) x1 x2 x3 (((400) * x1) + x3) (m_I N9 51) (110) N10
            else
              f_X3_typeOf_n202 (fun x1 x2 x3 M => f_X3_typeOf_n31 n x1 x2 x3 M) x1 x2 x3 (((400) * x1) + x3) M
          else
            f_X3_typeOf_n202 (fun x1 x2 x3 M => f_X3_typeOf_n31 n x1 x2 x3 M) x1 x2 x3 (((400) * x1) + x3) M
def f_X3_typeOf (x1 : Int32) (x2 : Int32) (M : MS) : Option (Int32 × MS) :=
  (some (m_sI M 51 (0))).bind fun N1 =>
  (p_mA N1 45 (0) (0)).bind fun N2 =>
  (p_mA N2 46 (0) (0)).bind fun N3 =>
  (g_mA N3 18 (((8) * x1) + x2)).bind fun v4 =>
  f_X3_typeOf_n31 fu_ x1 x2 v4 N3
set_option maxRecDepth 100000 in
set_option maxHeartbeats 2000000 in
theorem w_X3_typeOf_n179 {f : CfT} {a0 : Nat} {r : Int32} {S : HS} {M1 : MS} (hc : cf_cc f = cX3_typeOf) (ho : cf_ow f = "TableCatalogModel") (hnL : cf_nL f = 7) (hrm : cf_rm f = (4, 128)) (hre : cf_re f = (some (.int))) (hct : cf_ct f = false) (hq : Qok f (some (vi r)) S (some (a0, M1))) {k_31 : Int32 → Int32 → Int32 → MS → Option (Int32 × MS)} (hk_31 : ∀ (x1 : Int32) (x2 : Int32) (x3 : Int32) (M : MS), k_31 x1 x2 x3 M = some (r, M1) → JJ f S (some (a0, M)) 31 [(0, vr (some a0)), (1, vi x1), (2, vi x2), (3, vi x3)] []) {x1 : Int32} {x2 : Int32} {x3 : Int32} {x4 : Int32} {sx1 : Int32} {sx2 : Int32} {M : MS} (hf : f_X3_typeOf_n179 k_31 x1 x2 x3 x4 sx1 sx2 M = some (r, M1)) : JJ f S (some (a0, M)) 179 [(0, vr (some a0)), (1, vi x1), (2, vi x2), (3, vi x3), (4, vi x4)] [vi sx2, vi sx1, vr (some (a0 + m_po 48))] := by
  unfold f_X3_typeOf_n179 at hf
  obtain ⟨N1, eN1, hf1⟩ := ob_i hf
  clear hf
  refine j_mstI (pc := 179) hc (k := 48) (by decide) rfl dX3_typeOf_179 eN1 ?_
  refine j_aload_n (pc := 180) hc dX3_typeOf_180 0 rfl rfl ?_
  refine j_mgA (pc := 181) hc ho fm_126 rfl dX3_typeOf_181 ?_
  refine j_aload_n (pc := 184) hc dX3_typeOf_184 0 rfl rfl ?_
  refine j_mgI (pc := 185) hc ho fm_265 rfl dX3_typeOf_185 ?_
  refine j_aload_n (pc := 188) hc dX3_typeOf_188 0 rfl rfl ?_
  refine j_mgA (pc := 189) hc ho fm_54 rfl dX3_typeOf_189 ?_
  refine j_iload (pc := 192) hc dX3_typeOf_192 4 rfl ?_
  obtain ⟨v2, ev2, hf2⟩ := ob_i hf1
  clear hf1
  refine j_mldI (pc := 194) hc (k := 15) (by decide) rfl dX3_typeOf_194 ev2 ?_
  obtain ⟨N3, eN3, hf3⟩ := ob_i hf2
  clear hf2
  refine j_mstI (pc := 195) hc (k := 49) (by decide) rfl dX3_typeOf_195 eN3 ?_
  refine j_iinc (pc := 196) (L' := [(3, vi (x3 + (1))), (0, vr (some a0)), (1, vi x1), (2, vi x2), (4, vi x4)]) (v := (x3 + (1))) hc dX3_typeOf_196 3 rfl rfl hnL (by decide) rfl ?_
  refine j_goto (pc := 199) hc dX3_typeOf_199 (tgt := 351) rfl ?_
  refine j_iinc (pc := 351) (L' := [(3, vi ((x3 + (1)) + (1))), (0, vr (some a0)), (1, vi x1), (2, vi x2), (4, vi x4)]) (v := ((x3 + (1)) + (1))) hc dX3_typeOf_351 0 rfl rfl hnL (by decide) rfl ?_
  refine j_goto (pc := 354) hc dX3_typeOf_354 (tgt := 31) rfl ?_
  refine j_loc (L' := [(0, vr (some a0)), (1, vi x1), (2, vi x2), (3, vi ((x3 + (1)) + (1)))]) [1, 2, 3, 0] rfl ?_
  exact hk_31 _ _ _ _ hf3
set_option maxRecDepth 100000 in
set_option maxHeartbeats 2000000 in
theorem w_X3_typeOf_n313 {f : CfT} {a0 : Nat} {r : Int32} {S : HS} {M1 : MS} (hc : cf_cc f = cX3_typeOf) (ho : cf_ow f = "TableCatalogModel") (hnL : cf_nL f = 7) (hrm : cf_rm f = (4, 128)) (hre : cf_re f = (some (.int))) (hct : cf_ct f = false) (hq : Qok f (some (vi r)) S (some (a0, M1))) {k_31 : Int32 → Int32 → Int32 → MS → Option (Int32 × MS)} (hk_31 : ∀ (x1 : Int32) (x2 : Int32) (x3 : Int32) (M : MS), k_31 x1 x2 x3 M = some (r, M1) → JJ f S (some (a0, M)) 31 [(0, vr (some a0)), (1, vi x1), (2, vi x2), (3, vi x3)] []) {x1 : Int32} {x2 : Int32} {x3 : Int32} {sx1 : Int32} {M : MS} (hf : f_X3_typeOf_n313 k_31 x1 x2 x3 sx1 M = some (r, M1)) : JJ f S (some (a0, M)) 313 [(0, vr (some a0)), (1, vi x1), (2, vi x2), (3, vi x3)] [vi sx1, vr (some a0)] := by
  unfold f_X3_typeOf_n313 at hf
  obtain ⟨N1, eN1, hf1⟩ := ob_i hf
  clear hf
  refine j_callV (pc := 313) (As := [vi sx1]) (rest := []) (st2 := []) hc ho cw_X3_271 (c_X3_comes eN1) (Or.inr ⟨rfl, _, rfl⟩) hrm ⟨by decide, by decide⟩ rfl (Nat.le_of_ble_eq_true rfl) dX3_typeOf_313 rfl rfl ?_
  refine j_goto (pc := 316) hc dX3_typeOf_316 (tgt := 351) rfl ?_
  refine j_iinc (pc := 351) (L' := [(3, vi (x3 + (1))), (0, vr (some a0)), (1, vi x1), (2, vi x2)]) (v := (x3 + (1))) hc dX3_typeOf_351 3 rfl rfl hnL (by decide) rfl ?_
  refine j_goto (pc := 354) hc dX3_typeOf_354 (tgt := 31) rfl ?_
  refine j_loc (L' := [(0, vr (some a0)), (1, vi x1), (2, vi x2), (3, vi (x3 + (1)))]) [1, 2, 3, 0] rfl ?_
  exact hk_31 _ _ _ _ hf1
set_option maxRecDepth 100000 in
set_option maxHeartbeats 2000000 in
theorem w_X3_typeOf_n288 {f : CfT} {a0 : Nat} {r : Int32} {S : HS} {M1 : MS} (hc : cf_cc f = cX3_typeOf) (ho : cf_ow f = "TableCatalogModel") (hnL : cf_nL f = 7) (hrm : cf_rm f = (4, 128)) (hre : cf_re f = (some (.int))) (hct : cf_ct f = false) (hq : Qok f (some (vi r)) S (some (a0, M1))) {k_31 : Int32 → Int32 → Int32 → MS → Option (Int32 × MS)} (hk_31 : ∀ (x1 : Int32) (x2 : Int32) (x3 : Int32) (M : MS), k_31 x1 x2 x3 M = some (r, M1) → JJ f S (some (a0, M)) 31 [(0, vr (some a0)), (1, vi x1), (2, vi x2), (3, vi x3)] []) {x1 : Int32} {x2 : Int32} {x3 : Int32} {x6 : Int32} {M : MS} (hf : f_X3_typeOf_n288 k_31 x1 x2 x3 x6 M = some (r, M1)) : JJ f S (some (a0, M)) 288 [(0, vr (some a0)), (1, vi x1), (2, vi x2), (3, vi x3), (6, vi x6)] [] := by
  unfold f_X3_typeOf_n288 at hf
  refine j_aload_n (pc := 288) hc dX3_typeOf_288 0 rfl rfl ?_
  refine j_dup (pc := 289) hc dX3_typeOf_289 rfl ?_
  refine j_mgI (pc := 290) hc ho fm_265 rfl dX3_typeOf_290 ?_
  refine j_iconst (pc := 293) (v := (1)) hc dX3_typeOf_293 rfl ?_
  refine j_isub (pc := 294) hc dX3_typeOf_294 ?_
  obtain ⟨N1, eN1, hf1⟩ := ob_i hf
  clear hf
  refine j_mpI (pc := 295) hc ho fm_265 rfl rfl rfl rfl dX3_typeOf_295 eN1 ?_
  refine j_aload_n (pc := 298) hc dX3_typeOf_298 0 rfl rfl ?_
  refine j_iload (pc := 299) hc dX3_typeOf_299 4 rfl ?_
  refine j_bipush (pc := 301) (v := (116)) hc dX3_typeOf_301 rfl ?_
  refine j_icmp_ne (pc := 303) hc dX3_typeOf_303 (tgt := 311) rfl (fun hh => ?_) (fun hh => ?_)
  · have hf2 := (if_neg hh).symm.trans hf1
    clear hf1
    refine j_bipush (pc := 311) (v := (116)) hc dX3_typeOf_311 rfl ?_
    refine j_loc (L' := [(0, vr (some a0)), (1, vi x1), (2, vi x2), (3, vi x3)]) [0, 1, 2, 3] rfl ?_
    exact w_X3_typeOf_n313 hc ho hnL hrm hre hct hq hk_31 hf2
  · have hf3 := (if_pos hh).symm.trans hf1
    clear hf1
    refine j_bipush (pc := 306) (v := (110)) hc dX3_typeOf_306 rfl ?_
    refine j_goto (pc := 308) hc dX3_typeOf_308 (tgt := 313) rfl ?_
    refine j_loc (L' := [(0, vr (some a0)), (1, vi x1), (2, vi x2), (3, vi x3)]) [0, 1, 2, 3] rfl ?_
    exact w_X3_typeOf_n313 hc ho hnL hrm hre hct hq hk_31 hf3
set_option maxRecDepth 100000 in
set_option maxHeartbeats 2000000 in
theorem w_X3_typeOf_n202 {f : CfT} {a0 : Nat} {r : Int32} {S : HS} {M1 : MS} (hc : cf_cc f = cX3_typeOf) (ho : cf_ow f = "TableCatalogModel") (hnL : cf_nL f = 7) (hrm : cf_rm f = (4, 128)) (hre : cf_re f = (some (.int))) (hct : cf_ct f = false) (hq : Qok f (some (vi r)) S (some (a0, M1))) {k_31 : Int32 → Int32 → Int32 → MS → Option (Int32 × MS)} (hk_31 : ∀ (x1 : Int32) (x2 : Int32) (x3 : Int32) (M : MS), k_31 x1 x2 x3 M = some (r, M1) → JJ f S (some (a0, M)) 31 [(0, vr (some a0)), (1, vi x1), (2, vi x2), (3, vi x3)] []) {x1 : Int32} {x2 : Int32} {x3 : Int32} {x4 : Int32} {M : MS} (hf : f_X3_typeOf_n202 k_31 x1 x2 x3 x4 M = some (r, M1)) : JJ f S (some (a0, M)) 202 [(0, vr (some a0)), (1, vi x1), (2, vi x2), (3, vi x3), (4, vi x4)] [] := by
  unfold f_X3_typeOf_n202 at hf
  refine j_aload_n (pc := 202) hc dX3_typeOf_202 0 rfl rfl ?_
  refine j_mgA (pc := 203) hc ho fm_51 rfl dX3_typeOf_203 ?_
  refine j_iload (pc := 206) hc dX3_typeOf_206 4 rfl ?_
  obtain ⟨v1, ev1, hf1⟩ := ob_i hf
  clear hf
  refine j_mldI (pc := 208) hc (k := 14) (by decide) rfl dX3_typeOf_208 ev1 ?_
  refine j_iconst (pc := 209) (v := (1)) hc dX3_typeOf_209 rfl ?_
  refine j_icmp_ne (pc := 210) hc dX3_typeOf_210 (tgt := 229) rfl (fun hh => ?_) (fun hh => ?_)
  · have hf2 := (if_neg hh).symm.trans hf1
    clear hf1
    refine j_aload_n (pc := 229) hc dX3_typeOf_229 0 rfl rfl ?_
    refine j_mgA (pc := 230) hc ho fm_51 rfl dX3_typeOf_230 ?_
    refine j_iload (pc := 233) hc dX3_typeOf_233 4 rfl ?_
    obtain ⟨v2, ev2, hf3⟩ := ob_i hf2
    clear hf2
    refine j_mldI (pc := 235) hc (k := 14) (by decide) rfl dX3_typeOf_235 ev2 ?_
    refine j_bipush (pc := 236) (v := (41)) hc dX3_typeOf_236 rfl ?_
    refine j_icmp_ne (pc := 238) hc dX3_typeOf_238 (tgt := 319) rfl (fun hh => ?_) (fun hh => ?_)
    · have hf4 := (if_neg hh).symm.trans hf3
      clear hf3
      refine j_aload_n (pc := 319) hc dX3_typeOf_319 0 rfl rfl ?_
      refine j_mgA (pc := 320) hc ho fm_117 rfl dX3_typeOf_320 ?_
      refine j_aload_n (pc := 323) hc dX3_typeOf_323 0 rfl rfl ?_
      refine j_mgI (pc := 324) hc ho fm_265 rfl dX3_typeOf_324 ?_
      refine j_aload_n (pc := 327) hc dX3_typeOf_327 0 rfl rfl ?_
      refine j_mgA (pc := 328) hc ho fm_51 rfl dX3_typeOf_328 ?_
      refine j_iload (pc := 331) hc dX3_typeOf_331 4 rfl ?_
      obtain ⟨v3, ev3, hf5⟩ := ob_i hf4
      clear hf4
      refine j_mldI (pc := 333) hc (k := 14) (by decide) rfl dX3_typeOf_333 ev3 ?_
      obtain ⟨N4, eN4, hf6⟩ := ob_i hf5
      clear hf5
      refine j_mstI (pc := 334) hc (k := 46) (by decide) rfl dX3_typeOf_334 eN4 ?_
      refine j_aload_n (pc := 335) hc dX3_typeOf_335 0 rfl rfl ?_
      refine j_mgA (pc := 336) hc ho fm_120 rfl dX3_typeOf_336 ?_
      refine j_aload_n (pc := 339) hc dX3_typeOf_339 0 rfl rfl ?_
      refine j_mgI (pc := 340) hc ho fm_265 rfl dX3_typeOf_340 ?_
      refine j_aload_n (pc := 343) hc dX3_typeOf_343 0 rfl rfl ?_
      refine j_mgA (pc := 344) hc ho fm_54 rfl dX3_typeOf_344 ?_
      refine j_iload (pc := 347) hc dX3_typeOf_347 4 rfl ?_
      obtain ⟨v5, ev5, hf7⟩ := ob_i hf6
      clear hf6
      refine j_mldI (pc := 349) hc (k := 15) (by decide) rfl dX3_typeOf_349 ev5 ?_
      obtain ⟨N6, eN6, hf8⟩ := ob_i hf7
      clear hf7
      refine j_mstI (pc := 350) hc (k := 47) (by decide) rfl dX3_typeOf_350 eN6 ?_
      refine j_iinc (pc := 351) (L' := [(3, vi (x3 + (1))), (0, vr (some a0)), (1, vi x1), (2, vi x2), (4, vi x4)]) (v := (x3 + (1))) hc dX3_typeOf_351 3 rfl rfl hnL (by decide) rfl ?_
      refine j_goto (pc := 354) hc dX3_typeOf_354 (tgt := 31) rfl ?_
      refine j_loc (L' := [(0, vr (some a0)), (1, vi x1), (2, vi x2), (3, vi (x3 + (1)))]) [1, 2, 3, 0] rfl ?_
      exact hk_31 _ _ _ _ hf8
    · have hf9 := (if_pos hh).symm.trans hf3
      clear hf3
      refine j_aload_n (pc := 241) hc dX3_typeOf_241 0 rfl rfl ?_
      refine j_mgA (pc := 242) hc ho fm_114 rfl dX3_typeOf_242 ?_
      refine j_aload_n (pc := 245) hc dX3_typeOf_245 0 rfl rfl ?_
      refine j_mgI (pc := 246) hc ho fm_265 rfl dX3_typeOf_246 ?_
      obtain ⟨v7, ev7, hf10⟩ := ob_i hf9
      clear hf9
      refine j_mldI (pc := 249) hc (k := 45) (by decide) rfl dX3_typeOf_249 ev7 ?_
      refine j_istore (pc := 250) (L' := [(5, vi v7), (0, vr (some a0)), (1, vi x1), (2, vi x2), (3, vi x3), (4, vi x4)]) hc dX3_typeOf_250 hnL (by decide) rfl ?_
      refine j_aload_n (pc := 252) hc dX3_typeOf_252 1 rfl rfl ?_
      refine j_mgA (pc := 253) hc ho fm_123 rfl dX3_typeOf_253 ?_
      refine j_aload_n (pc := 256) hc dX3_typeOf_256 1 rfl rfl ?_
      refine j_mgI (pc := 257) hc ho fm_265 rfl dX3_typeOf_257 ?_
      obtain ⟨v8, ev8, hf11⟩ := ob_i hf10
      clear hf10
      refine j_mldI (pc := 260) hc (k := 48) (by decide) rfl dX3_typeOf_260 ev8 ?_
      refine j_istore (pc := 261) (L' := [(6, vi v8), (5, vi v7), (0, vr (some a0)), (1, vi x1), (2, vi x2), (3, vi x3), (4, vi x4)]) hc dX3_typeOf_261 hnL (by decide) rfl ?_
      refine j_iload (pc := 263) hc dX3_typeOf_263 1 rfl ?_
      refine j_if_eq (pc := 265) hc dX3_typeOf_265 (tgt := 288) rfl (fun hh => ?_) (fun hh => ?_)
      · have hf12 := (if_pos hh).symm.trans hf11
        clear hf11
        refine j_loc (L' := [(0, vr (some a0)), (1, vi x1), (2, vi x2), (3, vi x3), (6, vi v8)]) [2, 3, 4, 5, 0] rfl ?_
        exact w_X3_typeOf_n288 hc ho hnL hrm hre hct hq hk_31 hf12
      · have hf13 := (if_neg hh).symm.trans hf11
        clear hf11
        refine j_iload (pc := 268) hc dX3_typeOf_268 1 rfl ?_
        refine j_iload (pc := 270) hc dX3_typeOf_270 0 rfl ?_
        refine j_icmp_eq (pc := 272) hc dX3_typeOf_272 (tgt := 288) rfl (fun hh => ?_) (fun hh => ?_)
        · have hf14 := (if_pos hh).symm.trans hf13
          clear hf13
          refine j_loc (L' := [(0, vr (some a0)), (1, vi x1), (2, vi x2), (3, vi x3), (6, vi v8)]) [2, 3, 4, 5, 0] rfl ?_
          exact w_X3_typeOf_n288 hc ho hnL hrm hre hct hq hk_31 hf14
        · have hf15 := (if_neg hh).symm.trans hf13
          clear hf13
          refine j_aload_n (pc := 275) hc dX3_typeOf_275 2 rfl rfl ?_
          refine j_aload_n (pc := 276) hc dX3_typeOf_276 2 rfl rfl ?_
          refine j_mgA (pc := 277) hc ho fm_126 rfl dX3_typeOf_277 ?_
          refine j_aload_n (pc := 280) hc dX3_typeOf_280 2 rfl rfl ?_
          refine j_mgI (pc := 281) hc ho fm_265 rfl dX3_typeOf_281 ?_
          obtain ⟨v9, ev9, hf16⟩ := ob_i hf15
          clear hf15
          refine j_mldI (pc := 284) hc (k := 49) (by decide) rfl dX3_typeOf_284 ev9 ?_
          obtain ⟨N10, eN10, hf17⟩ := ob_i hf16
          clear hf16
          refine j_callV (pc := 285) (As := [vi v9]) (rest := []) (st2 := []) hc ho cw_X3_268 (c_X3_wrong eN10) (Or.inr ⟨rfl, _, rfl⟩) hrm ⟨by decide, by decide⟩ rfl (Nat.le_of_ble_eq_true rfl) dX3_typeOf_285 rfl rfl ?_
          refine j_loc (L' := [(0, vr (some a0)), (1, vi x1), (2, vi x2), (3, vi x3), (6, vi v8)]) [2, 3, 4, 5, 0] rfl ?_
          exact w_X3_typeOf_n288 hc ho hnL hrm hre hct hq hk_31 hf17
  · have hf18 := (if_pos hh).symm.trans hf1
    clear hf1
    refine j_aload_n (pc := 213) hc dX3_typeOf_213 0 rfl rfl ?_
    refine j_aload_n (pc := 214) hc dX3_typeOf_214 0 rfl rfl ?_
    refine j_iload_n (pc := 215) hc dX3_typeOf_215 1 rfl rfl ?_
    refine j_iload_n (pc := 216) hc dX3_typeOf_216 3 rfl rfl ?_
    obtain ⟨v12, N11, ev12, hf19⟩ := ob_c hf18
    clear hf18
    refine j_callV (pc := 217) (As := [vi x1, vi x3]) (rest := [vr (some a0)]) (st2 := [vi v12, vr (some a0)]) hc ho cw_X3_277 (c_X3_typeOfName ev12) (Or.inr ⟨rfl, _, rfl⟩) hrm ⟨by decide, by decide⟩ rfl (Nat.le_of_ble_eq_true rfl) dX3_typeOf_217 rfl rfl ?_
    obtain ⟨N13, eN13, hf20⟩ := ob_i hf19
    clear hf19
    refine j_callV (pc := 220) (As := [vi v12]) (rest := []) (st2 := []) hc ho cw_X3_271 (c_X3_comes eN13) (Or.inr ⟨rfl, _, rfl⟩) hrm ⟨by decide, by decide⟩ rfl (Nat.le_of_ble_eq_true rfl) dX3_typeOf_220 rfl rfl ?_
    refine j_iinc (pc := 223) (L' := [(3, vi (x3 + (2))), (0, vr (some a0)), (1, vi x1), (2, vi x2), (4, vi x4)]) (v := (x3 + (2))) hc dX3_typeOf_223 3 rfl rfl hnL (by decide) rfl ?_
    refine j_goto (pc := 226) hc dX3_typeOf_226 (tgt := 351) rfl ?_
    refine j_iinc (pc := 351) (L' := [(3, vi ((x3 + (2)) + (1))), (0, vr (some a0)), (1, vi x1), (2, vi x2), (4, vi x4)]) (v := ((x3 + (2)) + (1))) hc dX3_typeOf_351 0 rfl rfl hnL (by decide) rfl ?_
    refine j_goto (pc := 354) hc dX3_typeOf_354 (tgt := 31) rfl ?_
    refine j_loc (L' := [(0, vr (some a0)), (1, vi x1), (2, vi x2), (3, vi ((x3 + (2)) + (1)))]) [1, 2, 3, 0] rfl ?_
    exact hk_31 _ _ _ _ hf20
set_option maxRecDepth 100000 in
set_option maxHeartbeats 2000000 in
theorem w_X3_typeOf_n31 {f : CfT} {a0 : Nat} {r : Int32} {S : HS} {M1 : MS} (hc : cf_cc f = cX3_typeOf) (ho : cf_ow f = "TableCatalogModel") (hnL : cf_nL f = 7) (hrm : cf_rm f = (4, 128)) (hre : cf_re f = (some (.int))) (hct : cf_ct f = false) (hq : Qok f (some (vi r)) S (some (a0, M1))) : ∀ (n : Nat) (x1 : Int32) (x2 : Int32) (x3 : Int32) (M : MS), f_X3_typeOf_n31 n x1 x2 x3 M = some (r, M1) → JJ f S (some (a0, M)) 31 [(0, vr (some a0)), (1, vi x1), (2, vi x2), (3, vi x3)] [] := by
  intro n
  induction n with
  | zero =>
    intro x1 x2 x3 M hf
    have hf : (none : Option (Int32 × MS)) = some (r, M1) := hf
    cases hf
  | succ n ih =>
    intro x1 x2 x3 M hf
    unfold f_X3_typeOf_n31 at hf
    have hk_31 := ih
    refine j_iload_n (pc := 31) hc dX3_typeOf_31 3 rfl rfl ?_
    refine j_aload_n (pc := 32) hc dX3_typeOf_32 0 rfl rfl ?_
    refine j_mgA (pc := 33) hc ho fm_66 rfl dX3_typeOf_33 ?_
    refine j_bipush (pc := 36) (v := (8)) hc dX3_typeOf_36 rfl ?_
    refine j_iload_n (pc := 38) hc dX3_typeOf_38 1 rfl rfl ?_
    refine j_imul (pc := 39) hc dX3_typeOf_39 ?_
    refine j_iload_n (pc := 40) hc dX3_typeOf_40 2 rfl rfl ?_
    refine j_iadd (pc := 41) hc dX3_typeOf_41 ?_
    obtain ⟨v1, ev1, hf1⟩ := ob_i hf
    clear hf
    refine j_mldI (pc := 42) hc (k := 19) (by decide) rfl dX3_typeOf_42 ev1 ?_
    refine j_icmp_ge (pc := 43) hc dX3_typeOf_43 (tgt := 357) rfl (fun hh => ?_) (fun hh => ?_)
    · have hf2 := (if_pos hh).symm.trans hf1
      clear hf1
      refine j_aload_n (pc := 357) hc dX3_typeOf_357 0 rfl rfl ?_
      refine j_mgA (pc := 358) hc ho fm_114 rfl dX3_typeOf_358 ?_
      refine j_iconst (pc := 361) (v := (0)) hc dX3_typeOf_361 rfl ?_
      obtain ⟨v2, ev2, hf3⟩ := ob_i hf2
      clear hf2
      refine j_mldI (pc := 362) hc (k := 45) (by decide) rfl dX3_typeOf_362 ev2 ?_
      cases hf3
      exact j_iret (pc := 363) hc hq hre rfl dX3_typeOf_363
    · have hf4 := (if_neg hh).symm.trans hf1
      clear hf1
      refine j_sipush (pc := 46) (v := (400)) hc dX3_typeOf_46 rfl ?_
      refine j_iload_n (pc := 49) hc dX3_typeOf_49 1 rfl rfl ?_
      refine j_imul (pc := 50) hc dX3_typeOf_50 ?_
      refine j_iload_n (pc := 51) hc dX3_typeOf_51 3 rfl rfl ?_
      refine j_iadd (pc := 52) hc dX3_typeOf_52 ?_
      refine j_istore (pc := 53) (L' := [(4, vi (((400) * x1) + x3)), (0, vr (some a0)), (1, vi x1), (2, vi x2), (3, vi x3)]) hc dX3_typeOf_53 hnL (by decide) rfl ?_
      refine j_aload_n (pc := 55) hc dX3_typeOf_55 1 rfl rfl ?_
      refine j_mgA (pc := 56) hc ho fm_51 rfl dX3_typeOf_56 ?_
      refine j_iload (pc := 59) hc dX3_typeOf_59 0 rfl ?_
      obtain ⟨v3, ev3, hf5⟩ := ob_i hf4
      clear hf4
      refine j_mldI (pc := 61) hc (k := 14) (by decide) rfl dX3_typeOf_61 ev3 ?_
      refine j_iconst (pc := 62) (v := (2)) hc dX3_typeOf_62 rfl ?_
      refine j_icmp_ne (pc := 63) hc dX3_typeOf_63 (tgt := 75) rfl (fun hh => ?_) (fun hh => ?_)
      · have hf6 := (if_neg hh).symm.trans hf5
        clear hf5
        refine j_aload_n (pc := 75) hc dX3_typeOf_75 1 rfl rfl ?_
        refine j_mgA (pc := 76) hc ho fm_51 rfl dX3_typeOf_76 ?_
        refine j_iload (pc := 79) hc dX3_typeOf_79 0 rfl ?_
        obtain ⟨v4, ev4, hf7⟩ := ob_i hf6
        clear hf6
        refine j_mldI (pc := 81) hc (k := 14) (by decide) rfl dX3_typeOf_81 ev4 ?_
        refine j_iconst (pc := 82) (v := (3)) hc dX3_typeOf_82 rfl ?_
        refine j_icmp_ne (pc := 83) hc dX3_typeOf_83 (tgt := 95) rfl (fun hh => ?_) (fun hh => ?_)
        · have hf8 := (if_neg hh).symm.trans hf7
          clear hf7
          refine j_aload_n (pc := 95) hc dX3_typeOf_95 1 rfl rfl ?_
          refine j_mgA (pc := 96) hc ho fm_51 rfl dX3_typeOf_96 ?_
          refine j_iload (pc := 99) hc dX3_typeOf_99 0 rfl ?_
          obtain ⟨v5, ev5, hf9⟩ := ob_i hf8
          clear hf8
          refine j_mldI (pc := 101) hc (k := 14) (by decide) rfl dX3_typeOf_101 ev5 ?_
          refine j_iconst (pc := 102) (v := (1)) hc dX3_typeOf_102 rfl ?_
          refine j_icmp_ne (pc := 103) hc dX3_typeOf_103 (tgt := 202) rfl (fun hh => ?_) (fun hh => ?_)
          · have hf10 := (if_neg hh).symm.trans hf9
            clear hf9
            refine j_loc (L' := [(0, vr (some a0)), (1, vi x1), (2, vi x2), (3, vi x3), (4, vi (((400) * x1) + x3))]) [1, 2, 3, 4, 0] rfl ?_
            exact w_X3_typeOf_n202 hc ho hnL hrm hre hct hq hk_31 hf10
          · have hf11 := (if_pos hh).symm.trans hf9
            clear hf9
            refine j_aload_n (pc := 106) hc dX3_typeOf_106 1 rfl rfl ?_
            refine j_mgA (pc := 107) hc ho fm_51 rfl dX3_typeOf_107 ?_
            refine j_iload (pc := 110) hc dX3_typeOf_110 0 rfl ?_
            refine j_iconst (pc := 112) (v := (1)) hc dX3_typeOf_112 rfl ?_
            refine j_iadd (pc := 113) hc dX3_typeOf_113 ?_
            obtain ⟨v6, ev6, hf12⟩ := ob_i hf11
            clear hf11
            refine j_mldI (pc := 114) hc (k := 14) (by decide) rfl dX3_typeOf_114 ev6 ?_
            refine j_bipush (pc := 115) (v := (40)) hc dX3_typeOf_115 rfl ?_
            refine j_icmp_ne (pc := 117) hc dX3_typeOf_117 (tgt := 202) rfl (fun hh => ?_) (fun hh => ?_)
            · have hf13 := (if_neg hh).symm.trans hf12
              clear hf12
              refine j_loc (L' := [(0, vr (some a0)), (1, vi x1), (2, vi x2), (3, vi x3), (4, vi (((400) * x1) + x3))]) [1, 2, 3, 4, 0] rfl ?_
              exact w_X3_typeOf_n202 hc ho hnL hrm hre hct hq hk_31 hf13
            · have hf14 := (if_pos hh).symm.trans hf12
              clear hf12
              refine j_aload_n (pc := 120) hc dX3_typeOf_120 1 rfl rfl ?_
              refine j_dup (pc := 121) hc dX3_typeOf_121 rfl ?_
              refine j_mgI (pc := 122) hc ho fm_265 rfl dX3_typeOf_122 ?_
              refine j_iconst (pc := 125) (v := (1)) hc dX3_typeOf_125 rfl ?_
              refine j_iadd (pc := 126) hc dX3_typeOf_126 ?_
              obtain ⟨N7, eN7, hf15⟩ := ob_i hf14
              clear hf14
              refine j_mpI (pc := 127) hc ho fm_265 rfl rfl rfl rfl dX3_typeOf_127 eN7 ?_
              refine j_aload_n (pc := 130) hc dX3_typeOf_130 1 rfl rfl ?_
              refine j_mgA (pc := 131) hc ho fm_114 rfl dX3_typeOf_131 ?_
              refine j_aload_n (pc := 134) hc dX3_typeOf_134 1 rfl rfl ?_
              refine j_mgI (pc := 135) hc ho fm_265 rfl dX3_typeOf_135 ?_
              refine j_iconst (pc := 138) (v := (0)) hc dX3_typeOf_138 rfl ?_
              obtain ⟨N8, eN8, hf16⟩ := ob_i hf15
              clear hf15
              refine j_mstI (pc := 139) hc (k := 45) (by decide) rfl dX3_typeOf_139 eN8 ?_
              refine j_aload_n (pc := 140) hc dX3_typeOf_140 1 rfl rfl ?_
              refine j_mgA (pc := 141) hc ho fm_117 rfl dX3_typeOf_141 ?_
              refine j_aload_n (pc := 144) hc dX3_typeOf_144 1 rfl rfl ?_
              refine j_mgI (pc := 145) hc ho fm_265 rfl dX3_typeOf_145 ?_
              refine j_iconst (pc := 148) (v := (0)) hc dX3_typeOf_148 rfl ?_
              obtain ⟨N9, eN9, hf17⟩ := ob_i hf16
              clear hf16
              refine j_mstI (pc := 149) hc (k := 46) (by decide) rfl dX3_typeOf_149 eN9 ?_
              refine j_aload_n (pc := 150) hc dX3_typeOf_150 1 rfl rfl ?_
              refine j_mgA (pc := 151) hc ho fm_123 rfl dX3_typeOf_151 ?_
              refine j_aload_n (pc := 154) hc dX3_typeOf_154 1 rfl rfl ?_
              refine j_mgI (pc := 155) hc ho fm_265 rfl dX3_typeOf_155 ?_
              refine j_aload_n (pc := 158) hc dX3_typeOf_158 1 rfl rfl ?_
              refine j_iload_n (pc := 159) hc dX3_typeOf_159 2 rfl rfl ?_
              refine j_iload_n (pc := 160) hc dX3_typeOf_160 4 rfl rfl ?_
              obtain ⟨w11, N10, ew11, hf18⟩ := ob_c hf17
              clear hf17
              refine j_callV (pc := 161) (As := [vi x1, vi x3]) (rest := [vi (m_I N9 51), vr (some (a0 + m_po 48))]) (st2 := [vl w11, vi (m_I N9 51), vr (some (a0 + m_po 48))]) hc ho cw_X3_274 (c_X3_wordOf ew11) (Or.inr ⟨rfl, _, rfl⟩) hrm ⟨by decide, by decide⟩ rfl (Nat.le_of_ble_eq_true rfl) dX3_typeOf_161 rfl rfl ?_
              refine j_aload_n (pc := 164) hc dX3_typeOf_164 1 rfl rfl ?_
              refine j_mgJ (pc := 165) hc ho fm_99 rfl dX3_typeOf_165 ?_
              refine j_lcmp (pc := 168) hc dX3_typeOf_168 ?_
              refine j_if_ne (pc := 169) hc dX3_typeOf_169 (tgt := 177) rfl (fun hh => ?_) (fun hh => ?_)
              · have hf19 := (if_neg hh).symm.trans hf18
                clear hf18
                refine j_bipush (pc := 177) (v := (110)) hc dX3_typeOf_177 rfl ?_
                refine j_loc (L' := [(0, vr (some a0)), (1, vi x1), (2, vi x2), (3, vi x3), (4, vi (((400) * x1) + x3))]) [1, 2, 3, 4, 0] rfl ?_
                exact w_X3_typeOf_n179 hc ho hnL hrm hre hct hq hk_31 hf19
              · have hf20 := (if_pos hh).symm.trans hf18
                clear hf18
                refine j_bipush (pc := 172) (v := (116)) hc dX3_typeOf_172 rfl ?_
                refine j_goto (pc := 174) hc dX3_typeOf_174 (tgt := 179) rfl ?_
                refine j_loc (L' := [(0, vr (some a0)), (1, vi x1), (2, vi x2), (3, vi x3), (4, vi (((400) * x1) + x3))]) [1, 2, 3, 4, 0] rfl ?_
                exact w_X3_typeOf_n179 hc ho hnL hrm hre hct hq hk_31 hf20
        · have hf21 := (if_pos hh).symm.trans hf7
          clear hf7
          refine j_aload_n (pc := 86) hc dX3_typeOf_86 1 rfl rfl ?_
          refine j_bipush (pc := 87) (v := (116)) hc dX3_typeOf_87 rfl ?_
          obtain ⟨N12, eN12, hf22⟩ := ob_i hf21
          clear hf21
          refine j_callV (pc := 89) (As := [vi (116)]) (rest := []) (st2 := []) hc ho cw_X3_271 (c_X3_comes eN12) (Or.inr ⟨rfl, _, rfl⟩) hrm ⟨by decide, by decide⟩ rfl (Nat.le_of_ble_eq_true rfl) dX3_typeOf_89 rfl rfl ?_
          refine j_goto (pc := 92) hc dX3_typeOf_92 (tgt := 351) rfl ?_
          refine j_iinc (pc := 351) (L' := [(3, vi (x3 + (1))), (4, vi (((400) * x1) + x3)), (0, vr (some a0)), (1, vi x1), (2, vi x2)]) (v := (x3 + (1))) hc dX3_typeOf_351 4 rfl rfl hnL (by decide) rfl ?_
          refine j_goto (pc := 354) hc dX3_typeOf_354 (tgt := 31) rfl ?_
          refine j_loc (L' := [(0, vr (some a0)), (1, vi x1), (2, vi x2), (3, vi (x3 + (1)))]) [2, 3, 4, 0] rfl ?_
          exact hk_31 _ _ _ _ hf22
      · have hf23 := (if_pos hh).symm.trans hf5
        clear hf5
        refine j_aload_n (pc := 66) hc dX3_typeOf_66 1 rfl rfl ?_
        refine j_bipush (pc := 67) (v := (110)) hc dX3_typeOf_67 rfl ?_
        obtain ⟨N13, eN13, hf24⟩ := ob_i hf23
        clear hf23
        refine j_callV (pc := 69) (As := [vi (110)]) (rest := []) (st2 := []) hc ho cw_X3_271 (c_X3_comes eN13) (Or.inr ⟨rfl, _, rfl⟩) hrm ⟨by decide, by decide⟩ rfl (Nat.le_of_ble_eq_true rfl) dX3_typeOf_69 rfl rfl ?_
        refine j_goto (pc := 72) hc dX3_typeOf_72 (tgt := 351) rfl ?_
        refine j_iinc (pc := 351) (L' := [(3, vi (x3 + (1))), (4, vi (((400) * x1) + x3)), (0, vr (some a0)), (1, vi x1), (2, vi x2)]) (v := (x3 + (1))) hc dX3_typeOf_351 4 rfl rfl hnL (by decide) rfl ?_
        refine j_goto (pc := 354) hc dX3_typeOf_354 (tgt := 31) rfl ?_
        refine j_loc (L' := [(0, vr (some a0)), (1, vi x1), (2, vi x2), (3, vi (x3 + (1)))]) [2, 3, 4, 0] rfl ?_
        exact hk_31 _ _ _ _ hf24
set_option maxRecDepth 100000 in
set_option maxHeartbeats 2000000 in
theorem c_X3_typeOf {l : Launch} {g : PG} {a0 : Nat} {x1 : Int32} {x2 : Int32} {r : Int32} {S : HS} {M M1 : MS} (hf : f_X3_typeOf x1 x2 M = some (r, M1)) : (h_nx S ≤ h_nx S ∧ h_sl S ≤ h_sl S) ∧ Ct l g yX3_typeOf (ws_ yX3_typeOf cX3_typeOf 7 (some (.int))) 4 128 S (some (a0, M)) [vr (some a0), vi x1, vi x2] (some (vi r)) S (some (a0, M1)) := by
  refine met_of false (by decide) (fun h => by first | rfl | cases h) rfl (Nat.le_of_ble_eq_true rfl) (fun f hl hg hc ho hnL hrm hre hct hex hq => ?_)
  subst hl
  subst hg
  unfold f_X3_typeOf at hf
  refine j_aload_n (pc := 0) hc dX3_typeOf_0 0 rfl rfl ?_
  refine j_iconst (pc := 1) (v := (0)) hc dX3_typeOf_1 rfl ?_
  obtain ⟨N1, eN1, hf1⟩ := ob_i hf
  clear hf
  refine j_mpI (pc := 2) hc ho fm_265 rfl rfl rfl rfl dX3_typeOf_2 eN1 ?_
  refine j_aload_n (pc := 5) hc dX3_typeOf_5 0 rfl rfl ?_
  refine j_mgA (pc := 6) hc ho fm_114 rfl dX3_typeOf_6 ?_
  refine j_iconst (pc := 9) (v := (0)) hc dX3_typeOf_9 rfl ?_
  refine j_iconst (pc := 10) (v := (0)) hc dX3_typeOf_10 rfl ?_
  obtain ⟨N2, eN2, hf2⟩ := ob_i hf1
  clear hf1
  refine j_mstI (pc := 11) hc (k := 45) (by decide) rfl dX3_typeOf_11 eN2 ?_
  refine j_aload_n (pc := 12) hc dX3_typeOf_12 0 rfl rfl ?_
  refine j_mgA (pc := 13) hc ho fm_117 rfl dX3_typeOf_13 ?_
  refine j_iconst (pc := 16) (v := (0)) hc dX3_typeOf_16 rfl ?_
  refine j_iconst (pc := 17) (v := (0)) hc dX3_typeOf_17 rfl ?_
  obtain ⟨N3, eN3, hf3⟩ := ob_i hf2
  clear hf2
  refine j_mstI (pc := 18) hc (k := 46) (by decide) rfl dX3_typeOf_18 eN3 ?_
  refine j_aload_n (pc := 19) hc dX3_typeOf_19 0 rfl rfl ?_
  refine j_mgA (pc := 20) hc ho fm_63 rfl dX3_typeOf_20 ?_
  refine j_bipush (pc := 23) (v := (8)) hc dX3_typeOf_23 rfl ?_
  refine j_iload_n (pc := 25) hc dX3_typeOf_25 1 rfl rfl ?_
  refine j_imul (pc := 26) hc dX3_typeOf_26 ?_
  refine j_iload_n (pc := 27) hc dX3_typeOf_27 2 rfl rfl ?_
  refine j_iadd (pc := 28) hc dX3_typeOf_28 ?_
  obtain ⟨v4, ev4, hf4⟩ := ob_i hf3
  clear hf3
  refine j_mldI (pc := 29) hc (k := 18) (by decide) rfl dX3_typeOf_29 ev4 ?_
  refine j_istore_n (pc := 30) (L' := [(3, vi v4), (0, vr (some a0)), (1, vi x1), (2, vi x2)]) hc dX3_typeOf_30 rfl hnL (by decide) rfl ?_
  refine j_loc (L' := [(0, vr (some a0)), (1, vi x1), (2, vi x2), (3, vi v4)]) [1, 2, 3, 0] rfl ?_
  exact w_X3_typeOf_n31 hc ho hnL hrm hre hct hq fu_ _ _ _ _ hf4
theorem fm_159 : FM 159 0 := ⟨by decide, q1173⟩
theorem fm_7 : FM 7 1 := ⟨by decide, q1174⟩
def f_X3_tableNamed_n2 : Nat → Int64 → Int32 → MS → Option (Int32 × MS)
  | 0, _, _, _ => none
  | n + 1, y1, x3, M =>
    if (m_I M 0) ≤ x3 then
      some ((-1), M)
    else
      (g_mA M 1 x3).bind fun v1 =>
      if v1 = 0 then
        (fun y1 x3 M => f_X3_tableNamed_n2 n y1 x3 M) y1 (x3 + (1)) M
      else
        (g_mB M 2 x3).bind fun w2 =>
        if (lg_cmp w2 y1) = 0 then
          some (x3, M)
        else
          (fun y1 x3 M => f_X3_tableNamed_n2 n y1 x3 M) y1 (x3 + (1)) M
def f_X3_tableNamed (y1 : Int64) (M : MS) : Option (Int32 × MS) :=
  f_X3_tableNamed_n2 fu_ y1 (0) M
set_option maxRecDepth 100000 in
set_option maxHeartbeats 2000000 in
theorem w_X3_tableNamed_n2 {f : CfT} {a0 : Nat} {r : Int32} {S : HS} {M1 : MS} (hc : cf_cc f = cX3_tableNamed) (ho : cf_ow f = "TableCatalogModel") (hnL : cf_nL f = 4) (hrm : cf_rm f = (1, 60)) (hre : cf_re f = (some (.int))) (hct : cf_ct f = false) (hq : Qok f (some (vi r)) S (some (a0, M1))) : ∀ (n : Nat) (y1 : Int64) (x3 : Int32) (M : MS), f_X3_tableNamed_n2 n y1 x3 M = some (r, M1) → JJ f S (some (a0, M)) 2 [(0, vr (some a0)), (1, vl y1), (3, vi x3)] [] := by
  intro n
  induction n with
  | zero =>
    intro y1 x3 M hf
    have hf : (none : Option (Int32 × MS)) = some (r, M1) := hf
    cases hf
  | succ n ih =>
    intro y1 x3 M hf
    unfold f_X3_tableNamed_n2 at hf
    have hk_2 := ih
    refine j_iload_n (pc := 2) hc dX3_tableNamed_2 2 rfl rfl ?_
    refine j_aload_n (pc := 3) hc dX3_tableNamed_3 0 rfl rfl ?_
    refine j_mgI (pc := 4) hc ho fm_159 rfl dX3_tableNamed_4 ?_
    refine j_icmp_ge (pc := 7) hc dX3_tableNamed_7 (tgt := 38) rfl (fun hh => ?_) (fun hh => ?_)
    · have hf1 := (if_pos hh).symm.trans hf
      clear hf
      refine j_iconst (pc := 38) (v := (-1)) hc dX3_tableNamed_38 rfl ?_
      cases hf1
      exact j_iret (pc := 39) hc hq hre rfl dX3_tableNamed_39
    · have hf2 := (if_neg hh).symm.trans hf
      clear hf
      refine j_aload_n (pc := 10) hc dX3_tableNamed_10 0 rfl rfl ?_
      refine j_mgA (pc := 11) hc ho fm_7 rfl dX3_tableNamed_11 ?_
      refine j_iload_n (pc := 14) hc dX3_tableNamed_14 2 rfl rfl ?_
      obtain ⟨v1, ev1, hf3⟩ := ob_i hf2
      clear hf2
      refine j_mldZ (pc := 15) hc (k := 1) (by decide) rfl dX3_tableNamed_15 ev1 ?_
      refine j_if_eq (pc := 16) hc dX3_tableNamed_16 (tgt := 32) rfl (fun hh => ?_) (fun hh => ?_)
      · have hf4 := (if_pos hh).symm.trans hf3
        clear hf3
        refine j_iinc (pc := 32) (L' := [(3, vi (x3 + (1))), (0, vr (some a0)), (1, vl y1)]) (v := (x3 + (1))) hc dX3_tableNamed_32 2 rfl rfl hnL (by decide) rfl ?_
        refine j_goto (pc := 35) hc dX3_tableNamed_35 (tgt := 2) rfl ?_
        refine j_loc (L' := [(0, vr (some a0)), (1, vl y1), (3, vi (x3 + (1)))]) [1, 2, 0] rfl ?_
        exact hk_2 _ _ _ hf4
      · have hf5 := (if_neg hh).symm.trans hf3
        clear hf3
        refine j_aload_n (pc := 19) hc dX3_tableNamed_19 0 rfl rfl ?_
        refine j_mgA (pc := 20) hc ho fm_13 rfl dX3_tableNamed_20 ?_
        refine j_iload_n (pc := 23) hc dX3_tableNamed_23 2 rfl rfl ?_
        obtain ⟨w2, ew2, hf6⟩ := ob_i hf5
        clear hf5
        refine j_mldJ (pc := 24) hc (k := 2) (by decide) rfl dX3_tableNamed_24 ew2 ?_
        refine j_lload_n (pc := 25) hc dX3_tableNamed_25 1 rfl rfl ?_
        refine j_lcmp (pc := 26) hc dX3_tableNamed_26 ?_
        refine j_if_ne (pc := 27) hc dX3_tableNamed_27 (tgt := 32) rfl (fun hh => ?_) (fun hh => ?_)
        · have hf7 := (if_neg hh).symm.trans hf6
          clear hf6
          refine j_iinc (pc := 32) (L' := [(3, vi (x3 + (1))), (0, vr (some a0)), (1, vl y1)]) (v := (x3 + (1))) hc dX3_tableNamed_32 2 rfl rfl hnL (by decide) rfl ?_
          refine j_goto (pc := 35) hc dX3_tableNamed_35 (tgt := 2) rfl ?_
          refine j_loc (L' := [(0, vr (some a0)), (1, vl y1), (3, vi (x3 + (1)))]) [1, 2, 0] rfl ?_
          exact hk_2 _ _ _ hf7
        · have hf8 := (if_pos hh).symm.trans hf6
          clear hf6
          refine j_iload_n (pc := 30) hc dX3_tableNamed_30 2 rfl rfl ?_
          cases hf8
          exact j_iret (pc := 31) hc hq hre rfl dX3_tableNamed_31
set_option maxRecDepth 100000 in
set_option maxHeartbeats 2000000 in
theorem c_X3_tableNamed {l : Launch} {g : PG} {a0 : Nat} {y1 : Int64} {r : Int32} {S : HS} {M M1 : MS} (hf : f_X3_tableNamed y1 M = some (r, M1)) : (h_nx S ≤ h_nx S ∧ h_sl S ≤ h_sl S) ∧ Ct l g yX3_tableNamed (ws_ yX3_tableNamed cX3_tableNamed 4 (some (.int))) 1 60 S (some (a0, M)) [vr (some a0), vl y1] (some (vi r)) S (some (a0, M1)) := by
  refine met_of false (by decide) (fun h => by first | rfl | cases h) rfl (Nat.le_of_ble_eq_true rfl) (fun f hl hg hc ho hnL hrm hre hct hex hq => ?_)
  subst hl
  subst hg
  unfold f_X3_tableNamed at hf
  refine j_iconst (pc := 0) (v := (0)) hc dX3_tableNamed_0 rfl ?_
  refine j_istore_n (pc := 1) (L' := [(3, vi (0)), (0, vr (some a0)), (1, vl y1)]) hc dX3_tableNamed_1 rfl hnL (by decide) rfl ?_
  refine j_loc (L' := [(0, vr (some a0)), (1, vl y1), (3, vi (0))]) [1, 2, 0] rfl ?_
  exact w_X3_tableNamed_n2 hc ho hnL hrm hre hct hq fu_ _ _ _ hf
theorem fm_17 : FM 17 3 := ⟨by decide, q1176⟩
theorem fm_111 : FM 111 44 := ⟨by decide, q1217⟩
theorem cw_X3_295 : CV "TableCatalogModel" 295 RX3 yX3_hasWhere cX3_hasWhere 2 (some (.boolean)) 1 := ⟨⟨q1492, q1494, qs63, q90, q1495⟩, rfl, by decide, by decide, by decide +kernel⟩
theorem cw_X3_292 : CV "TableCatalogModel" 292 RX3 yX3_typeOf cX3_typeOf 7 (some (.int)) 2 := ⟨⟨q1464, q1466, qs56, q90, q1467⟩, rfl, by decide, by decide, by decide +kernel⟩
theorem fm_252 : FM 252 42 := ⟨by decide, q1215⟩
theorem cw_X3_288 : CV "TableCatalogModel" 288 RX3 yX3_tableNamed cX3_tableNamed 4 (some (.int)) 1 := ⟨⟨q1456, q1458, qs54, q90, q1459⟩, rfl, by decide, by decide, by decide +kernel⟩
def f_X3_meant_n53 (k_40 : Int32 → Int32 → Int32 → MS → Option MS) : Nat → Int32 → Int32 → Int32 → Int32 → MS → Option MS
  | 0, _, _, _, _, _ => none
  | n + 1, x1, x2, x3, x4, M =>
    if x3 ≤ x4 then
      (g_mA M 3 x1).bind fun v1 =>
      if v1 = 0 then
        k_40 x1 (x2 + (3)) (x3 + (1)) M
      else
        (g_mA M 19 (((8) * x1) + x3)).bind fun v2 =>
        k_40 x1 (v2 + (1)) (x3 + (1)) M
    else
      (g_mB M 5 (((8) * x1) + x4)).bind fun w3 =>
      (g_mB M 5 (((8) * x1) + x3)).bind fun w4 =>
      if (lg_cmp w3 w4) = 0 then
        (g_mA M 15 (((400) * x1) + x2)).bind fun v5 =>
        (f_X3_means (4) v5 M).bind fun N6 =>
        (fun x1 x2 x3 x4 M => f_X3_meant_n53 k_40 n x1 x2 x3 x4 M) x1 x2 x3 (x4 + (1)) N6
      else
        (fun x1 x2 x3 x4 M => f_X3_meant_n53 k_40 n x1 x2 x3 x4 M) x1 x2 x3 (x4 + (1)) M
def f_X3_meant_n204 (k_146 : Int32 → Int32 → MS → Option MS) : Nat → Int32 → Int32 → Int32 → MS → Option MS
  | 0, _, _, _, _ => none
  | n + 1, x1, x3, x4, M =>
    if x3 ≤ x4 then
      k_146 x1 (x3 + (1)) M
    else
      (g_mB M 43 x4).bind fun w1 =>
      (g_mB M 43 x3).bind fun w2 =>
      if (lg_cmp w1 w2) = 0 then
        (g_mA M 44 x3).bind fun v3 =>
        (f_X3_means (4) v3 M).bind fun N4 =>
        (fun x1 x3 x4 M => f_X3_meant_n204 k_146 n x1 x3 x4 M) x1 x3 (x4 + (1)) N4
      else
        (fun x1 x3 x4 M => f_X3_meant_n204 k_146 n x1 x3 x4 M) x1 x3 (x4 + (1)) M
def f_X3_meant_n299 (x1 : Int32) (M : MS) : Option MS :=
  o_bd (f_X3_hasWhere x1 M) fun v2 N1 =>
  if v2 = 0 then
    (some (m_sI N1 52 (0))).bind fun N3 =>
    some N3
  else
    o_bd (f_X3_typeOf x1 (6) N1) fun v5 N4 =>
    o_bd (f_X3_typeOf x1 (7) N4) fun v7 N6 =>
    if v5 = 0 then
      (some (m_sI N6 52 (0))).bind fun N8 =>
      some N8
    else
      if v7 = 0 then
        (some (m_sI N6 52 (0))).bind fun N9 =>
        some N9
      else
        if v5 = v7 then
          (some (m_sI N6 52 (0))).bind fun N10 =>
          some N10
        else
          (f_X3_means (3) (m_I N6 42) N6).bind fun N11 =>
          (some (m_sI N11 52 (0))).bind fun N12 =>
          some N12
def f_X3_meant_n266 : Nat → Int32 → Int32 → MS → Option MS
  | 0, _, _, _ => none
  | n + 1, x1, x3, M =>
    (g_mA M 4 x1).bind fun v1 =>
    if v1 ≤ x3 then
      f_X3_meant_n299 x1 M
    else
      o_bd (f_X3_typeOf x1 x3 M) fun v3 N2 =>
      (p_mA N2 6 (((8) * x1) + x3) v3).bind fun N4 =>
      (fun x1 x3 M => f_X3_meant_n266 n x1 x3 M) x1 (x3 + (1)) N4
def f_X3_meant_n146 : Nat → Int32 → Int32 → MS → Option MS
  | 0, _, _, _ => none
  | n + 1, x1, x3, M =>
    (g_mA M 7 x1).bind fun v1 =>
    if v1 ≤ x3 then
      (some (m_sI M 52 (1))).bind fun N2 =>
      (g_mA N2 3 x1).bind fun v3 =>
      if v3 ≤ 0 then
        f_X3_meant_n299 x1 N2
      else
        f_X3_meant_n266 fu_ x1 (0) N2
    else
      (g_mB M 43 x3).bind fun w4 =>
      o_bd (f_X3_tableNamed w4 M) fun v6 N5 =>
      (p_mA N5 8 (((3) * x1) + x3) v6).bind fun N7 =>
      (g_mA N7 8 (((3) * x1) + x3)).bind fun v8 =>
      if v8 = (-1) then
        (g_mA N7 44 x3).bind fun v9 =>
        (f_X3_means (2) v9 N7).bind fun N10 =>
        f_X3_meant_n204 (fun x1 x3 M => f_X3_meant_n146 n x1 x3 M) fu_ x1 x3 (0) N10
      else
        f_X3_meant_n204 (fun x1 x3 M => f_X3_meant_n146 n x1 x3 M) fu_ x1 x3 (0) N7
def f_X3_meant_n40 : Nat → Int32 → Int32 → Int32 → MS → Option MS
  | 0, _, _, _, _ => none
  | n + 1, x1, x2, x3, M =>
    (g_mA M 4 x1).bind fun v1 =>
    if v1 ≤ x3 then
      f_X3_meant_n146 fu_ x1 (0) M
    else
      f_X3_meant_n53 (fun x1 x2 x3 M => f_X3_meant_n40 n x1 x2 x3 M) fu_ x1 x2 x3 (0) M
def f_X3_meant_n36 (x1 : Int32) (M : MS) : Option MS :=
  f_X3_meant_n40 fu_ x1 (3) (0) M
def f_X3_meant (M : MS) : Option MS :=
  (g_mB M 2 (m_I M 0)).bind fun w1 =>
  o_bd (f_X3_tableNamed w1 M) fun v3 N2 =>
  if v3 = (-1) then
    f_X3_meant_n36 (m_I M 0) N2
  else
    (g_mA N2 15 (((400) * (m_I M 0)) + (1))).bind fun v4 =>
    (f_X3_means (4) v4 N2).bind fun N5 =>
    f_X3_meant_n36 (m_I M 0) N5
set_option maxRecDepth 100000 in
set_option maxHeartbeats 2000000 in
theorem w_X3_meant_n53 {f : CfT} {a0 : Nat} {S : HS} {M1 : MS} (hc : cf_cc f = cX3_meant) (ho : cf_ow f = "TableCatalogModel") (hnL : cf_nL f = 5) (hrm : cf_rm f = (5, 154)) (hre : cf_re f = none) (hct : cf_ct f = false) (hq : Qok f none S (some (a0, M1))) {k_40 : Int32 → Int32 → Int32 → MS → Option MS} (hk_40 : ∀ (x1 : Int32) (x2 : Int32) (x3 : Int32) (M : MS), k_40 x1 x2 x3 M = some M1 → JJ f S (some (a0, M)) 40 [(0, vr (some a0)), (1, vi x1), (2, vi x2), (3, vi x3)] []) : ∀ (n : Nat) (x1 : Int32) (x2 : Int32) (x3 : Int32) (x4 : Int32) (M : MS), f_X3_meant_n53 k_40 n x1 x2 x3 x4 M = some M1 → JJ f S (some (a0, M)) 53 [(0, vr (some a0)), (1, vi x1), (2, vi x2), (3, vi x3), (4, vi x4)] [] := by
  intro n
  induction n with
  | zero =>
    intro x1 x2 x3 x4 M hf
    have hf : (none : Option MS) = some M1 := hf
    cases hf
  | succ n ih =>
    intro x1 x2 x3 x4 M hf
    unfold f_X3_meant_n53 at hf
    have hk_53 := ih
    refine j_iload (pc := 53) hc dX3_meant_53 4 rfl ?_
    refine j_iload_n (pc := 55) hc dX3_meant_55 3 rfl rfl ?_
    refine j_icmp_ge (pc := 56) hc dX3_meant_56 (tgt := 109) rfl (fun hh => ?_) (fun hh => ?_)
    · have hf1 := (if_pos hh).symm.trans hf
      clear hf
      refine j_aload_n (pc := 109) hc dX3_meant_109 0 rfl rfl ?_
      refine j_mgA (pc := 110) hc ho fm_17 rfl dX3_meant_110 ?_
      refine j_iload_n (pc := 113) hc dX3_meant_113 1 rfl rfl ?_
      obtain ⟨v1, ev1, hf2⟩ := ob_i hf1
      clear hf1
      refine j_mldI (pc := 114) hc (k := 3) (by decide) rfl dX3_meant_114 ev1 ?_
      refine j_if_ne (pc := 115) hc dX3_meant_115 (tgt := 124) rfl (fun hh => ?_) (fun hh => ?_)
      · have hf3 := (if_neg hh).symm.trans hf2
        clear hf2
        refine j_aload_n (pc := 124) hc dX3_meant_124 0 rfl rfl ?_
        refine j_mgA (pc := 125) hc ho fm_66 rfl dX3_meant_125 ?_
        refine j_bipush (pc := 128) (v := (8)) hc dX3_meant_128 rfl ?_
        refine j_iload_n (pc := 130) hc dX3_meant_130 1 rfl rfl ?_
        refine j_imul (pc := 131) hc dX3_meant_131 ?_
        refine j_iload_n (pc := 132) hc dX3_meant_132 3 rfl rfl ?_
        refine j_iadd (pc := 133) hc dX3_meant_133 ?_
        obtain ⟨v2, ev2, hf4⟩ := ob_i hf3
        clear hf3
        refine j_mldI (pc := 134) hc (k := 19) (by decide) rfl dX3_meant_134 ev2 ?_
        refine j_iconst (pc := 135) (v := (1)) hc dX3_meant_135 rfl ?_
        refine j_iadd (pc := 136) hc dX3_meant_136 ?_
        refine j_istore_n (pc := 137) (L' := [(2, vi (v2 + (1))), (0, vr (some a0)), (1, vi x1), (3, vi x3), (4, vi x4)]) hc dX3_meant_137 rfl hnL (by decide) rfl ?_
        refine j_iinc (pc := 138) (L' := [(3, vi (x3 + (1))), (2, vi (v2 + (1))), (0, vr (some a0)), (1, vi x1), (4, vi x4)]) (v := (x3 + (1))) hc dX3_meant_138 3 rfl rfl hnL (by decide) rfl ?_
        refine j_goto (pc := 141) hc dX3_meant_141 (tgt := 40) rfl ?_
        refine j_loc (L' := [(0, vr (some a0)), (1, vi x1), (2, vi (v2 + (1))), (3, vi (x3 + (1)))]) [2, 3, 1, 0] rfl ?_
        exact hk_40 _ _ _ _ hf4
      · have hf5 := (if_pos hh).symm.trans hf2
        clear hf2
        refine j_iload_n (pc := 118) hc dX3_meant_118 2 rfl rfl ?_
        refine j_iconst (pc := 119) (v := (3)) hc dX3_meant_119 rfl ?_
        refine j_iadd (pc := 120) hc dX3_meant_120 ?_
        refine j_goto (pc := 121) hc dX3_meant_121 (tgt := 137) rfl ?_
        refine j_istore_n (pc := 137) (L' := [(2, vi (x2 + (3))), (0, vr (some a0)), (1, vi x1), (3, vi x3), (4, vi x4)]) hc dX3_meant_137 rfl hnL (by decide) rfl ?_
        refine j_iinc (pc := 138) (L' := [(3, vi (x3 + (1))), (2, vi (x2 + (3))), (0, vr (some a0)), (1, vi x1), (4, vi x4)]) (v := (x3 + (1))) hc dX3_meant_138 3 rfl rfl hnL (by decide) rfl ?_
        refine j_goto (pc := 141) hc dX3_meant_141 (tgt := 40) rfl ?_
        refine j_loc (L' := [(0, vr (some a0)), (1, vi x1), (2, vi (x2 + (3))), (3, vi (x3 + (1)))]) [2, 3, 1, 0] rfl ?_
        exact hk_40 _ _ _ _ hf5
    · have hf6 := (if_neg hh).symm.trans hf
      clear hf
      refine j_aload_n (pc := 59) hc dX3_meant_59 0 rfl rfl ?_
      refine j_mgA (pc := 60) hc ho fm_24 rfl dX3_meant_60 ?_
      refine j_bipush (pc := 63) (v := (8)) hc dX3_meant_63 rfl ?_
      refine j_iload_n (pc := 65) hc dX3_meant_65 1 rfl rfl ?_
      refine j_imul (pc := 66) hc dX3_meant_66 ?_
      refine j_iload (pc := 67) hc dX3_meant_67 4 rfl ?_
      refine j_iadd (pc := 69) hc dX3_meant_69 ?_
      obtain ⟨w3, ew3, hf7⟩ := ob_i hf6
      clear hf6
      refine j_mldJ (pc := 70) hc (k := 5) (by decide) rfl dX3_meant_70 ew3 ?_
      refine j_aload_n (pc := 71) hc dX3_meant_71 0 rfl rfl ?_
      refine j_mgA (pc := 72) hc ho fm_24 rfl dX3_meant_72 ?_
      refine j_bipush (pc := 75) (v := (8)) hc dX3_meant_75 rfl ?_
      refine j_iload_n (pc := 77) hc dX3_meant_77 1 rfl rfl ?_
      refine j_imul (pc := 78) hc dX3_meant_78 ?_
      refine j_iload_n (pc := 79) hc dX3_meant_79 3 rfl rfl ?_
      refine j_iadd (pc := 80) hc dX3_meant_80 ?_
      obtain ⟨w4, ew4, hf8⟩ := ob_i hf7
      clear hf7
      refine j_mldJ (pc := 81) hc (k := 5) (by decide) rfl dX3_meant_81 ew4 ?_
      refine j_lcmp (pc := 82) hc dX3_meant_82 ?_
      refine j_if_ne (pc := 83) hc dX3_meant_83 (tgt := 103) rfl (fun hh => ?_) (fun hh => ?_)
      · have hf9 := (if_neg hh).symm.trans hf8
        clear hf8
        refine j_iinc (pc := 103) (L' := [(4, vi (x4 + (1))), (0, vr (some a0)), (1, vi x1), (2, vi x2), (3, vi x3)]) (v := (x4 + (1))) hc dX3_meant_103 4 rfl rfl hnL (by decide) rfl ?_
        refine j_goto (pc := 106) hc dX3_meant_106 (tgt := 53) rfl ?_
        refine j_loc (L' := [(0, vr (some a0)), (1, vi x1), (2, vi x2), (3, vi x3), (4, vi (x4 + (1)))]) [1, 2, 3, 4, 0] rfl ?_
        exact hk_53 _ _ _ _ _ hf9
      · have hf10 := (if_pos hh).symm.trans hf8
        clear hf8
        refine j_aload_n (pc := 86) hc dX3_meant_86 0 rfl rfl ?_
        refine j_iconst (pc := 87) (v := (4)) hc dX3_meant_87 rfl ?_
        refine j_aload_n (pc := 88) hc dX3_meant_88 0 rfl rfl ?_
        refine j_mgA (pc := 89) hc ho fm_54 rfl dX3_meant_89 ?_
        refine j_sipush (pc := 92) (v := (400)) hc dX3_meant_92 rfl ?_
        refine j_iload_n (pc := 95) hc dX3_meant_95 1 rfl rfl ?_
        refine j_imul (pc := 96) hc dX3_meant_96 ?_
        refine j_iload_n (pc := 97) hc dX3_meant_97 2 rfl rfl ?_
        refine j_iadd (pc := 98) hc dX3_meant_98 ?_
        obtain ⟨v5, ev5, hf11⟩ := ob_i hf10
        clear hf10
        refine j_mldI (pc := 99) hc (k := 15) (by decide) rfl dX3_meant_99 ev5 ?_
        obtain ⟨N6, eN6, hf12⟩ := ob_i hf11
        clear hf11
        refine j_callV (pc := 100) (As := [vi (4), vi v5]) (rest := []) (st2 := []) hc ho cw_X3_262 (c_X3_means eN6) (Or.inr ⟨rfl, _, rfl⟩) hrm ⟨by decide, by decide⟩ rfl (Nat.le_of_ble_eq_true rfl) dX3_meant_100 rfl rfl ?_
        refine j_iinc (pc := 103) (L' := [(4, vi (x4 + (1))), (0, vr (some a0)), (1, vi x1), (2, vi x2), (3, vi x3)]) (v := (x4 + (1))) hc dX3_meant_103 4 rfl rfl hnL (by decide) rfl ?_
        refine j_goto (pc := 106) hc dX3_meant_106 (tgt := 53) rfl ?_
        refine j_loc (L' := [(0, vr (some a0)), (1, vi x1), (2, vi x2), (3, vi x3), (4, vi (x4 + (1)))]) [1, 2, 3, 4, 0] rfl ?_
        exact hk_53 _ _ _ _ _ hf12
set_option maxRecDepth 100000 in
set_option maxHeartbeats 2000000 in
theorem w_X3_meant_n204 {f : CfT} {a0 : Nat} {S : HS} {M1 : MS} (hc : cf_cc f = cX3_meant) (ho : cf_ow f = "TableCatalogModel") (hnL : cf_nL f = 5) (hrm : cf_rm f = (5, 154)) (hre : cf_re f = none) (hct : cf_ct f = false) (hq : Qok f none S (some (a0, M1))) {k_146 : Int32 → Int32 → MS → Option MS} (hk_146 : ∀ (x1 : Int32) (x3 : Int32) (M : MS), k_146 x1 x3 M = some M1 → JJ f S (some (a0, M)) 146 [(0, vr (some a0)), (1, vi x1), (3, vi x3)] []) : ∀ (n : Nat) (x1 : Int32) (x3 : Int32) (x4 : Int32) (M : MS), f_X3_meant_n204 k_146 n x1 x3 x4 M = some M1 → JJ f S (some (a0, M)) 204 [(0, vr (some a0)), (1, vi x1), (3, vi x3), (4, vi x4)] [] := by
  intro n
  induction n with
  | zero =>
    intro x1 x3 x4 M hf
    have hf : (none : Option MS) = some M1 := hf
    cases hf
  | succ n ih =>
    intro x1 x3 x4 M hf
    unfold f_X3_meant_n204 at hf
    have hk_204 := ih
    refine j_iload (pc := 204) hc dX3_meant_204 3 rfl ?_
    refine j_iload_n (pc := 206) hc dX3_meant_206 2 rfl rfl ?_
    refine j_icmp_ge (pc := 207) hc dX3_meant_207 (tgt := 244) rfl (fun hh => ?_) (fun hh => ?_)
    · have hf1 := (if_pos hh).symm.trans hf
      clear hf
      refine j_iinc (pc := 244) (L' := [(3, vi (x3 + (1))), (0, vr (some a0)), (1, vi x1), (4, vi x4)]) (v := (x3 + (1))) hc dX3_meant_244 2 rfl rfl hnL (by decide) rfl ?_
      refine j_goto (pc := 247) hc dX3_meant_247 (tgt := 146) rfl ?_
      refine j_loc (L' := [(0, vr (some a0)), (1, vi x1), (3, vi (x3 + (1)))]) [1, 2, 0] rfl ?_
      exact hk_146 _ _ _ hf1
    · have hf2 := (if_neg hh).symm.trans hf
      clear hf
      refine j_aload_n (pc := 210) hc dX3_meant_210 0 rfl rfl ?_
      refine j_mgA (pc := 211) hc ho fm_108 rfl dX3_meant_211 ?_
      refine j_iload (pc := 214) hc dX3_meant_214 3 rfl ?_
      obtain ⟨w1, ew1, hf3⟩ := ob_i hf2
      clear hf2
      refine j_mldJ (pc := 216) hc (k := 43) (by decide) rfl dX3_meant_216 ew1 ?_
      refine j_aload_n (pc := 217) hc dX3_meant_217 0 rfl rfl ?_
      refine j_mgA (pc := 218) hc ho fm_108 rfl dX3_meant_218 ?_
      refine j_iload_n (pc := 221) hc dX3_meant_221 2 rfl rfl ?_
      obtain ⟨w2, ew2, hf4⟩ := ob_i hf3
      clear hf3
      refine j_mldJ (pc := 222) hc (k := 43) (by decide) rfl dX3_meant_222 ew2 ?_
      refine j_lcmp (pc := 223) hc dX3_meant_223 ?_
      refine j_if_ne (pc := 224) hc dX3_meant_224 (tgt := 238) rfl (fun hh => ?_) (fun hh => ?_)
      · have hf5 := (if_neg hh).symm.trans hf4
        clear hf4
        refine j_iinc (pc := 238) (L' := [(4, vi (x4 + (1))), (0, vr (some a0)), (1, vi x1), (3, vi x3)]) (v := (x4 + (1))) hc dX3_meant_238 3 rfl rfl hnL (by decide) rfl ?_
        refine j_goto (pc := 241) hc dX3_meant_241 (tgt := 204) rfl ?_
        refine j_loc (L' := [(0, vr (some a0)), (1, vi x1), (3, vi x3), (4, vi (x4 + (1)))]) [1, 2, 3, 0] rfl ?_
        exact hk_204 _ _ _ _ hf5
      · have hf6 := (if_pos hh).symm.trans hf4
        clear hf4
        refine j_aload_n (pc := 227) hc dX3_meant_227 0 rfl rfl ?_
        refine j_iconst (pc := 228) (v := (4)) hc dX3_meant_228 rfl ?_
        refine j_aload_n (pc := 229) hc dX3_meant_229 0 rfl rfl ?_
        refine j_mgA (pc := 230) hc ho fm_111 rfl dX3_meant_230 ?_
        refine j_iload_n (pc := 233) hc dX3_meant_233 2 rfl rfl ?_
        obtain ⟨v3, ev3, hf7⟩ := ob_i hf6
        clear hf6
        refine j_mldI (pc := 234) hc (k := 44) (by decide) rfl dX3_meant_234 ev3 ?_
        obtain ⟨N4, eN4, hf8⟩ := ob_i hf7
        clear hf7
        refine j_callV (pc := 235) (As := [vi (4), vi v3]) (rest := []) (st2 := []) hc ho cw_X3_262 (c_X3_means eN4) (Or.inr ⟨rfl, _, rfl⟩) hrm ⟨by decide, by decide⟩ rfl (Nat.le_of_ble_eq_true rfl) dX3_meant_235 rfl rfl ?_
        refine j_iinc (pc := 238) (L' := [(4, vi (x4 + (1))), (0, vr (some a0)), (1, vi x1), (3, vi x3)]) (v := (x4 + (1))) hc dX3_meant_238 3 rfl rfl hnL (by decide) rfl ?_
        refine j_goto (pc := 241) hc dX3_meant_241 (tgt := 204) rfl ?_
        refine j_loc (L' := [(0, vr (some a0)), (1, vi x1), (3, vi x3), (4, vi (x4 + (1)))]) [1, 2, 3, 0] rfl ?_
        exact hk_204 _ _ _ _ hf8
set_option maxRecDepth 100000 in
set_option maxHeartbeats 2000000 in
theorem w_X3_meant_n299 {f : CfT} {a0 : Nat} {S : HS} {M1 : MS} (hc : cf_cc f = cX3_meant) (ho : cf_ow f = "TableCatalogModel") (hnL : cf_nL f = 5) (hrm : cf_rm f = (5, 154)) (hre : cf_re f = none) (hct : cf_ct f = false) (hq : Qok f none S (some (a0, M1))) {x1 : Int32} {M : MS} (hf : f_X3_meant_n299 x1 M = some M1) : JJ f S (some (a0, M)) 299 [(0, vr (some a0)), (1, vi x1)] [] := by
  unfold f_X3_meant_n299 at hf
  refine j_aload_n (pc := 299) hc dX3_meant_299 0 rfl rfl ?_
  refine j_iload_n (pc := 300) hc dX3_meant_300 1 rfl rfl ?_
  obtain ⟨v2, N1, ev2, hf1⟩ := ob_c hf
  clear hf
  refine j_callV (pc := 301) (As := [vi x1]) (rest := []) (st2 := [vi v2]) hc ho cw_X3_295 (c_X3_hasWhere ev2) (Or.inr ⟨rfl, _, rfl⟩) hrm ⟨by decide, by decide⟩ rfl (Nat.le_of_ble_eq_true rfl) dX3_meant_301 rfl rfl ?_
  refine j_if_eq (pc := 304) hc dX3_meant_304 (tgt := 348) rfl (fun hh => ?_) (fun hh => ?_)
  · have hf2 := (if_pos hh).symm.trans hf1
    clear hf1
    refine j_aload_n (pc := 348) hc dX3_meant_348 0 rfl rfl ?_
    refine j_iconst (pc := 349) (v := (0)) hc dX3_meant_349 rfl ?_
    obtain ⟨N3, eN3, hf3⟩ := ob_i hf2
    clear hf2
    refine j_mpI (pc := 350) hc ho fm_258 rfl rfl rfl rfl dX3_meant_350 eN3 ?_
    cases hf3
    exact j_vret (pc := 353) hc hq hre dX3_meant_353
  · have hf4 := (if_neg hh).symm.trans hf1
    clear hf1
    refine j_aload_n (pc := 307) hc dX3_meant_307 0 rfl rfl ?_
    refine j_iload_n (pc := 308) hc dX3_meant_308 1 rfl rfl ?_
    refine j_bipush (pc := 309) (v := (6)) hc dX3_meant_309 rfl ?_
    obtain ⟨v5, N4, ev5, hf5⟩ := ob_c hf4
    clear hf4
    refine j_callV (pc := 311) (As := [vi x1, vi (6)]) (rest := []) (st2 := [vi v5]) hc ho cw_X3_292 (c_X3_typeOf ev5) (Or.inr ⟨rfl, _, rfl⟩) hrm ⟨by decide, by decide⟩ rfl (Nat.le_of_ble_eq_true rfl) dX3_meant_311 rfl rfl ?_
    refine j_istore_n (pc := 314) (L' := [(3, vi v5), (0, vr (some a0)), (1, vi x1)]) hc dX3_meant_314 rfl hnL (by decide) rfl ?_
    refine j_aload_n (pc := 315) hc dX3_meant_315 1 rfl rfl ?_
    refine j_iload_n (pc := 316) hc dX3_meant_316 2 rfl rfl ?_
    refine j_bipush (pc := 317) (v := (7)) hc dX3_meant_317 rfl ?_
    obtain ⟨v7, N6, ev7, hf6⟩ := ob_c hf5
    clear hf5
    refine j_callV (pc := 319) (As := [vi x1, vi (7)]) (rest := []) (st2 := [vi v7]) hc ho cw_X3_292 (c_X3_typeOf ev7) (Or.inr ⟨rfl, _, rfl⟩) hrm ⟨by decide, by decide⟩ rfl (Nat.le_of_ble_eq_true rfl) dX3_meant_319 rfl rfl ?_
    refine j_istore (pc := 322) (L' := [(4, vi v7), (3, vi v5), (0, vr (some a0)), (1, vi x1)]) hc dX3_meant_322 hnL (by decide) rfl ?_
    refine j_iload_n (pc := 324) hc dX3_meant_324 1 rfl rfl ?_
    refine j_if_eq (pc := 325) hc dX3_meant_325 (tgt := 348) rfl (fun hh => ?_) (fun hh => ?_)
    · have hf7 := (if_pos hh).symm.trans hf6
      clear hf6
      refine j_aload_n (pc := 348) hc dX3_meant_348 2 rfl rfl ?_
      refine j_iconst (pc := 349) (v := (0)) hc dX3_meant_349 rfl ?_
      obtain ⟨N8, eN8, hf8⟩ := ob_i hf7
      clear hf7
      refine j_mpI (pc := 350) hc ho fm_258 rfl rfl rfl rfl dX3_meant_350 eN8 ?_
      cases hf8
      exact j_vret (pc := 353) hc hq hre dX3_meant_353
    · have hf9 := (if_neg hh).symm.trans hf6
      clear hf6
      refine j_iload (pc := 328) hc dX3_meant_328 0 rfl ?_
      refine j_if_eq (pc := 330) hc dX3_meant_330 (tgt := 348) rfl (fun hh => ?_) (fun hh => ?_)
      · have hf10 := (if_pos hh).symm.trans hf9
        clear hf9
        refine j_aload_n (pc := 348) hc dX3_meant_348 2 rfl rfl ?_
        refine j_iconst (pc := 349) (v := (0)) hc dX3_meant_349 rfl ?_
        obtain ⟨N9, eN9, hf11⟩ := ob_i hf10
        clear hf10
        refine j_mpI (pc := 350) hc ho fm_258 rfl rfl rfl rfl dX3_meant_350 eN9 ?_
        cases hf11
        exact j_vret (pc := 353) hc hq hre dX3_meant_353
      · have hf12 := (if_neg hh).symm.trans hf9
        clear hf9
        refine j_iload_n (pc := 333) hc dX3_meant_333 1 rfl rfl ?_
        refine j_iload (pc := 334) hc dX3_meant_334 0 rfl ?_
        refine j_icmp_eq (pc := 336) hc dX3_meant_336 (tgt := 348) rfl (fun hh => ?_) (fun hh => ?_)
        · have hf13 := (if_pos hh).symm.trans hf12
          clear hf12
          refine j_aload_n (pc := 348) hc dX3_meant_348 2 rfl rfl ?_
          refine j_iconst (pc := 349) (v := (0)) hc dX3_meant_349 rfl ?_
          obtain ⟨N10, eN10, hf14⟩ := ob_i hf13
          clear hf13
          refine j_mpI (pc := 350) hc ho fm_258 rfl rfl rfl rfl dX3_meant_350 eN10 ?_
          cases hf14
          exact j_vret (pc := 353) hc hq hre dX3_meant_353
        · have hf15 := (if_neg hh).symm.trans hf12
          clear hf12
          refine j_aload_n (pc := 339) hc dX3_meant_339 2 rfl rfl ?_
          refine j_iconst (pc := 340) (v := (3)) hc dX3_meant_340 rfl ?_
          refine j_aload_n (pc := 341) hc dX3_meant_341 2 rfl rfl ?_
          refine j_mgI (pc := 342) hc ho fm_252 rfl dX3_meant_342 ?_
          obtain ⟨N11, eN11, hf16⟩ := ob_i hf15
          clear hf15
          refine j_callV (pc := 345) (As := [vi (3), vi (m_I N6 42)]) (rest := []) (st2 := []) hc ho cw_X3_262 (c_X3_means eN11) (Or.inr ⟨rfl, _, rfl⟩) hrm ⟨by decide, by decide⟩ rfl (Nat.le_of_ble_eq_true rfl) dX3_meant_345 rfl rfl ?_
          refine j_aload_n (pc := 348) hc dX3_meant_348 2 rfl rfl ?_
          refine j_iconst (pc := 349) (v := (0)) hc dX3_meant_349 rfl ?_
          obtain ⟨N12, eN12, hf17⟩ := ob_i hf16
          clear hf16
          refine j_mpI (pc := 350) hc ho fm_258 rfl rfl rfl rfl dX3_meant_350 eN12 ?_
          cases hf17
          exact j_vret (pc := 353) hc hq hre dX3_meant_353
set_option maxRecDepth 100000 in
set_option maxHeartbeats 2000000 in
theorem w_X3_meant_n266 {f : CfT} {a0 : Nat} {S : HS} {M1 : MS} (hc : cf_cc f = cX3_meant) (ho : cf_ow f = "TableCatalogModel") (hnL : cf_nL f = 5) (hrm : cf_rm f = (5, 154)) (hre : cf_re f = none) (hct : cf_ct f = false) (hq : Qok f none S (some (a0, M1))) : ∀ (n : Nat) (x1 : Int32) (x3 : Int32) (M : MS), f_X3_meant_n266 n x1 x3 M = some M1 → JJ f S (some (a0, M)) 266 [(0, vr (some a0)), (1, vi x1), (3, vi x3)] [] := by
  intro n
  induction n with
  | zero =>
    intro x1 x3 M hf
    have hf : (none : Option MS) = some M1 := hf
    cases hf
  | succ n ih =>
    intro x1 x3 M hf
    unfold f_X3_meant_n266 at hf
    have hk_266 := ih
    refine j_iload_n (pc := 266) hc dX3_meant_266 2 rfl rfl ?_
    refine j_aload_n (pc := 267) hc dX3_meant_267 0 rfl rfl ?_
    refine j_mgA (pc := 268) hc ho fm_21 rfl dX3_meant_268 ?_
    refine j_iload_n (pc := 271) hc dX3_meant_271 1 rfl rfl ?_
    obtain ⟨v1, ev1, hf1⟩ := ob_i hf
    clear hf
    refine j_mldI (pc := 272) hc (k := 4) (by decide) rfl dX3_meant_272 ev1 ?_
    refine j_icmp_ge (pc := 273) hc dX3_meant_273 (tgt := 299) rfl (fun hh => ?_) (fun hh => ?_)
    · have hf2 := (if_pos hh).symm.trans hf1
      clear hf1
      refine j_loc (L' := [(0, vr (some a0)), (1, vi x1)]) [0, 1] rfl ?_
      exact w_X3_meant_n299 hc ho hnL hrm hre hct hq hf2
    · have hf3 := (if_neg hh).symm.trans hf1
      clear hf1
      refine j_aload_n (pc := 276) hc dX3_meant_276 0 rfl rfl ?_
      refine j_mgA (pc := 277) hc ho fm_27 rfl dX3_meant_277 ?_
      refine j_bipush (pc := 280) (v := (8)) hc dX3_meant_280 rfl ?_
      refine j_iload_n (pc := 282) hc dX3_meant_282 1 rfl rfl ?_
      refine j_imul (pc := 283) hc dX3_meant_283 ?_
      refine j_iload_n (pc := 284) hc dX3_meant_284 2 rfl rfl ?_
      refine j_iadd (pc := 285) hc dX3_meant_285 ?_
      refine j_aload_n (pc := 286) hc dX3_meant_286 0 rfl rfl ?_
      refine j_iload_n (pc := 287) hc dX3_meant_287 1 rfl rfl ?_
      refine j_iload_n (pc := 288) hc dX3_meant_288 2 rfl rfl ?_
      obtain ⟨v3, N2, ev3, hf4⟩ := ob_c hf3
      clear hf3
      refine j_callV (pc := 289) (As := [vi x1, vi x3]) (rest := [vi (((8) * x1) + x3), vr (some (a0 + m_po 6))]) (st2 := [vi v3, vi (((8) * x1) + x3), vr (some (a0 + m_po 6))]) hc ho cw_X3_292 (c_X3_typeOf ev3) (Or.inr ⟨rfl, _, rfl⟩) hrm ⟨by decide, by decide⟩ rfl (Nat.le_of_ble_eq_true rfl) dX3_meant_289 rfl rfl ?_
      obtain ⟨N4, eN4, hf5⟩ := ob_i hf4
      clear hf4
      refine j_mstI (pc := 292) hc (k := 6) (by decide) rfl dX3_meant_292 eN4 ?_
      refine j_iinc (pc := 293) (L' := [(3, vi (x3 + (1))), (0, vr (some a0)), (1, vi x1)]) (v := (x3 + (1))) hc dX3_meant_293 2 rfl rfl hnL (by decide) rfl ?_
      refine j_goto (pc := 296) hc dX3_meant_296 (tgt := 266) rfl ?_
      refine j_loc (L' := [(0, vr (some a0)), (1, vi x1), (3, vi (x3 + (1)))]) [1, 2, 0] rfl ?_
      exact hk_266 _ _ _ hf5
set_option maxRecDepth 100000 in
set_option maxHeartbeats 2000000 in
theorem w_X3_meant_n146 {f : CfT} {a0 : Nat} {S : HS} {M1 : MS} (hc : cf_cc f = cX3_meant) (ho : cf_ow f = "TableCatalogModel") (hnL : cf_nL f = 5) (hrm : cf_rm f = (5, 154)) (hre : cf_re f = none) (hct : cf_ct f = false) (hq : Qok f none S (some (a0, M1))) : ∀ (n : Nat) (x1 : Int32) (x3 : Int32) (M : MS), f_X3_meant_n146 n x1 x3 M = some M1 → JJ f S (some (a0, M)) 146 [(0, vr (some a0)), (1, vi x1), (3, vi x3)] [] := by
  intro n
  induction n with
  | zero =>
    intro x1 x3 M hf
    have hf : (none : Option MS) = some M1 := hf
    cases hf
  | succ n ih =>
    intro x1 x3 M hf
    unfold f_X3_meant_n146 at hf
    have hk_146 := ih
    refine j_iload_n (pc := 146) hc dX3_meant_146 2 rfl rfl ?_
    refine j_aload_n (pc := 147) hc dX3_meant_147 0 rfl rfl ?_
    refine j_mgA (pc := 148) hc ho fm_30 rfl dX3_meant_148 ?_
    refine j_iload_n (pc := 151) hc dX3_meant_151 1 rfl rfl ?_
    obtain ⟨v1, ev1, hf1⟩ := ob_i hf
    clear hf
    refine j_mldI (pc := 152) hc (k := 7) (by decide) rfl dX3_meant_152 ev1 ?_
    refine j_icmp_ge (pc := 153) hc dX3_meant_153 (tgt := 250) rfl (fun hh => ?_) (fun hh => ?_)
    · have hf2 := (if_pos hh).symm.trans hf1
      clear hf1
      refine j_aload_n (pc := 250) hc dX3_meant_250 0 rfl rfl ?_
      refine j_iconst (pc := 251) (v := (1)) hc dX3_meant_251 rfl ?_
      obtain ⟨N2, eN2, hf3⟩ := ob_i hf2
      clear hf2
      refine j_mpI (pc := 252) hc ho fm_258 rfl rfl rfl rfl dX3_meant_252 eN2 ?_
      refine j_aload_n (pc := 255) hc dX3_meant_255 0 rfl rfl ?_
      refine j_mgA (pc := 256) hc ho fm_17 rfl dX3_meant_256 ?_
      refine j_iload_n (pc := 259) hc dX3_meant_259 1 rfl rfl ?_
      obtain ⟨v3, ev3, hf4⟩ := ob_i hf3
      clear hf3
      refine j_mldI (pc := 260) hc (k := 3) (by decide) rfl dX3_meant_260 ev3 ?_
      refine j_if_le (pc := 261) hc dX3_meant_261 (tgt := 299) rfl (fun hh => ?_) (fun hh => ?_)
      · have hf5 := (if_pos hh).symm.trans hf4
        clear hf4
        refine j_loc (L' := [(0, vr (some a0)), (1, vi x1)]) [0, 1] rfl ?_
        exact w_X3_meant_n299 hc ho hnL hrm hre hct hq hf5
      · have hf6 := (if_neg hh).symm.trans hf4
        clear hf4
        refine j_iconst (pc := 264) (v := (0)) hc dX3_meant_264 rfl ?_
        refine j_istore_n (pc := 265) (L' := [(3, vi (0)), (0, vr (some a0)), (1, vi x1)]) hc dX3_meant_265 rfl hnL (by decide) rfl ?_
        refine j_loc (L' := [(0, vr (some a0)), (1, vi x1), (3, vi (0))]) [1, 2, 0] rfl ?_
        exact w_X3_meant_n266 hc ho hnL hrm hre hct hq fu_ _ _ _ hf6
    · have hf7 := (if_neg hh).symm.trans hf1
      clear hf1
      refine j_aload_n (pc := 156) hc dX3_meant_156 0 rfl rfl ?_
      refine j_mgA (pc := 157) hc ho fm_33 rfl dX3_meant_157 ?_
      refine j_iconst (pc := 160) (v := (3)) hc dX3_meant_160 rfl ?_
      refine j_iload_n (pc := 161) hc dX3_meant_161 1 rfl rfl ?_
      refine j_imul (pc := 162) hc dX3_meant_162 ?_
      refine j_iload_n (pc := 163) hc dX3_meant_163 2 rfl rfl ?_
      refine j_iadd (pc := 164) hc dX3_meant_164 ?_
      refine j_aload_n (pc := 165) hc dX3_meant_165 0 rfl rfl ?_
      refine j_aload_n (pc := 166) hc dX3_meant_166 0 rfl rfl ?_
      refine j_mgA (pc := 167) hc ho fm_108 rfl dX3_meant_167 ?_
      refine j_iload_n (pc := 170) hc dX3_meant_170 2 rfl rfl ?_
      obtain ⟨w4, ew4, hf8⟩ := ob_i hf7
      clear hf7
      refine j_mldJ (pc := 171) hc (k := 43) (by decide) rfl dX3_meant_171 ew4 ?_
      obtain ⟨v6, N5, ev6, hf9⟩ := ob_c hf8
      clear hf8
      refine j_callV (pc := 172) (As := [vl w4]) (rest := [vi (((3) * x1) + x3), vr (some (a0 + m_po 8))]) (st2 := [vi v6, vi (((3) * x1) + x3), vr (some (a0 + m_po 8))]) hc ho cw_X3_288 (c_X3_tableNamed ev6) (Or.inr ⟨rfl, _, rfl⟩) hrm ⟨by decide, by decide⟩ rfl (Nat.le_of_ble_eq_true rfl) dX3_meant_172 rfl rfl ?_
      obtain ⟨N7, eN7, hf10⟩ := ob_i hf9
      clear hf9
      refine j_mstI (pc := 175) hc (k := 8) (by decide) rfl dX3_meant_175 eN7 ?_
      refine j_aload_n (pc := 176) hc dX3_meant_176 0 rfl rfl ?_
      refine j_mgA (pc := 177) hc ho fm_33 rfl dX3_meant_177 ?_
      refine j_iconst (pc := 180) (v := (3)) hc dX3_meant_180 rfl ?_
      refine j_iload_n (pc := 181) hc dX3_meant_181 1 rfl rfl ?_
      refine j_imul (pc := 182) hc dX3_meant_182 ?_
      refine j_iload_n (pc := 183) hc dX3_meant_183 2 rfl rfl ?_
      refine j_iadd (pc := 184) hc dX3_meant_184 ?_
      obtain ⟨v8, ev8, hf11⟩ := ob_i hf10
      clear hf10
      refine j_mldI (pc := 185) hc (k := 8) (by decide) rfl dX3_meant_185 ev8 ?_
      refine j_iconst (pc := 186) (v := (-1)) hc dX3_meant_186 rfl ?_
      refine j_icmp_ne (pc := 187) hc dX3_meant_187 (tgt := 201) rfl (fun hh => ?_) (fun hh => ?_)
      · have hf12 := (if_neg hh).symm.trans hf11
        clear hf11
        refine j_iconst (pc := 201) (v := (0)) hc dX3_meant_201 rfl ?_
        refine j_istore (pc := 202) (L' := [(4, vi (0)), (0, vr (some a0)), (1, vi x1), (3, vi x3)]) hc dX3_meant_202 hnL (by decide) rfl ?_
        refine j_loc (L' := [(0, vr (some a0)), (1, vi x1), (3, vi x3), (4, vi (0))]) [1, 2, 3, 0] rfl ?_
        exact w_X3_meant_n204 hc ho hnL hrm hre hct hq hk_146 fu_ _ _ _ _ hf12
      · have hf13 := (if_pos hh).symm.trans hf11
        clear hf11
        refine j_aload_n (pc := 190) hc dX3_meant_190 0 rfl rfl ?_
        refine j_iconst (pc := 191) (v := (2)) hc dX3_meant_191 rfl ?_
        refine j_aload_n (pc := 192) hc dX3_meant_192 0 rfl rfl ?_
        refine j_mgA (pc := 193) hc ho fm_111 rfl dX3_meant_193 ?_
        refine j_iload_n (pc := 196) hc dX3_meant_196 2 rfl rfl ?_
        obtain ⟨v9, ev9, hf14⟩ := ob_i hf13
        clear hf13
        refine j_mldI (pc := 197) hc (k := 44) (by decide) rfl dX3_meant_197 ev9 ?_
        obtain ⟨N10, eN10, hf15⟩ := ob_i hf14
        clear hf14
        refine j_callV (pc := 198) (As := [vi (2), vi v9]) (rest := []) (st2 := []) hc ho cw_X3_262 (c_X3_means eN10) (Or.inr ⟨rfl, _, rfl⟩) hrm ⟨by decide, by decide⟩ rfl (Nat.le_of_ble_eq_true rfl) dX3_meant_198 rfl rfl ?_
        refine j_iconst (pc := 201) (v := (0)) hc dX3_meant_201 rfl ?_
        refine j_istore (pc := 202) (L' := [(4, vi (0)), (0, vr (some a0)), (1, vi x1), (3, vi x3)]) hc dX3_meant_202 hnL (by decide) rfl ?_
        refine j_loc (L' := [(0, vr (some a0)), (1, vi x1), (3, vi x3), (4, vi (0))]) [1, 2, 3, 0] rfl ?_
        exact w_X3_meant_n204 hc ho hnL hrm hre hct hq hk_146 fu_ _ _ _ _ hf15
set_option maxRecDepth 100000 in
set_option maxHeartbeats 2000000 in
theorem w_X3_meant_n40 {f : CfT} {a0 : Nat} {S : HS} {M1 : MS} (hc : cf_cc f = cX3_meant) (ho : cf_ow f = "TableCatalogModel") (hnL : cf_nL f = 5) (hrm : cf_rm f = (5, 154)) (hre : cf_re f = none) (hct : cf_ct f = false) (hq : Qok f none S (some (a0, M1))) : ∀ (n : Nat) (x1 : Int32) (x2 : Int32) (x3 : Int32) (M : MS), f_X3_meant_n40 n x1 x2 x3 M = some M1 → JJ f S (some (a0, M)) 40 [(0, vr (some a0)), (1, vi x1), (2, vi x2), (3, vi x3)] [] := by
  intro n
  induction n with
  | zero =>
    intro x1 x2 x3 M hf
    have hf : (none : Option MS) = some M1 := hf
    cases hf
  | succ n ih =>
    intro x1 x2 x3 M hf
    unfold f_X3_meant_n40 at hf
    have hk_40 := ih
    refine j_iload_n (pc := 40) hc dX3_meant_40 3 rfl rfl ?_
    refine j_aload_n (pc := 41) hc dX3_meant_41 0 rfl rfl ?_
    refine j_mgA (pc := 42) hc ho fm_21 rfl dX3_meant_42 ?_
    refine j_iload_n (pc := 45) hc dX3_meant_45 1 rfl rfl ?_
    obtain ⟨v1, ev1, hf1⟩ := ob_i hf
    clear hf
    refine j_mldI (pc := 46) hc (k := 4) (by decide) rfl dX3_meant_46 ev1 ?_
    refine j_icmp_ge (pc := 47) hc dX3_meant_47 (tgt := 144) rfl (fun hh => ?_) (fun hh => ?_)
    · have hf2 := (if_pos hh).symm.trans hf1
      clear hf1
      refine j_iconst (pc := 144) (v := (0)) hc dX3_meant_144 rfl ?_
      refine j_istore_n (pc := 145) (L' := [(3, vi (0)), (0, vr (some a0)), (1, vi x1), (2, vi x2)]) hc dX3_meant_145 rfl hnL (by decide) rfl ?_
      refine j_loc (L' := [(0, vr (some a0)), (1, vi x1), (3, vi (0))]) [1, 2, 0] rfl ?_
      exact w_X3_meant_n146 hc ho hnL hrm hre hct hq fu_ _ _ _ hf2
    · have hf3 := (if_neg hh).symm.trans hf1
      clear hf1
      refine j_iconst (pc := 50) (v := (0)) hc dX3_meant_50 rfl ?_
      refine j_istore (pc := 51) (L' := [(4, vi (0)), (0, vr (some a0)), (1, vi x1), (2, vi x2), (3, vi x3)]) hc dX3_meant_51 hnL (by decide) rfl ?_
      refine j_loc (L' := [(0, vr (some a0)), (1, vi x1), (2, vi x2), (3, vi x3), (4, vi (0))]) [1, 2, 3, 4, 0] rfl ?_
      exact w_X3_meant_n53 hc ho hnL hrm hre hct hq hk_40 fu_ _ _ _ _ _ hf3
set_option maxRecDepth 100000 in
set_option maxHeartbeats 2000000 in
theorem w_X3_meant_n36 {f : CfT} {a0 : Nat} {S : HS} {M1 : MS} (hc : cf_cc f = cX3_meant) (ho : cf_ow f = "TableCatalogModel") (hnL : cf_nL f = 5) (hrm : cf_rm f = (5, 154)) (hre : cf_re f = none) (hct : cf_ct f = false) (hq : Qok f none S (some (a0, M1))) {x1 : Int32} {M : MS} (hf : f_X3_meant_n36 x1 M = some M1) : JJ f S (some (a0, M)) 36 [(0, vr (some a0)), (1, vi x1)] [] := by
  unfold f_X3_meant_n36 at hf
  refine j_iconst (pc := 36) (v := (3)) hc dX3_meant_36 rfl ?_
  refine j_istore_n (pc := 37) (L' := [(2, vi (3)), (0, vr (some a0)), (1, vi x1)]) hc dX3_meant_37 rfl hnL (by decide) rfl ?_
  refine j_iconst (pc := 38) (v := (0)) hc dX3_meant_38 rfl ?_
  refine j_istore_n (pc := 39) (L' := [(3, vi (0)), (2, vi (3)), (0, vr (some a0)), (1, vi x1)]) hc dX3_meant_39 rfl hnL (by decide) rfl ?_
  refine j_loc (L' := [(0, vr (some a0)), (1, vi x1), (2, vi (3)), (3, vi (0))]) [2, 3, 1, 0] rfl ?_
  exact w_X3_meant_n40 hc ho hnL hrm hre hct hq fu_ _ _ _ _ hf
set_option maxRecDepth 100000 in
set_option maxHeartbeats 2000000 in
theorem c_X3_meant {l : Launch} {g : PG} {a0 : Nat} {S : HS} {M M1 : MS} (hf : f_X3_meant M = some M1) : (h_nx S ≤ h_nx S ∧ h_sl S ≤ h_sl S) ∧ Ct l g yX3_meant (ws_ yX3_meant cX3_meant 5 none) 5 154 S (some (a0, M)) [vr (some a0)] none S (some (a0, M1)) := by
  refine met_of false (by decide) (fun h => by first | rfl | cases h) rfl (Nat.le_of_ble_eq_true rfl) (fun f hl hg hc ho hnL hrm hre hct hex hq => ?_)
  subst hl
  subst hg
  unfold f_X3_meant at hf
  refine j_aload_n (pc := 0) hc dX3_meant_0 0 rfl rfl ?_
  refine j_mgI (pc := 1) hc ho fm_159 rfl dX3_meant_1 ?_
  refine j_istore_n (pc := 4) (L' := [(1, vi (m_I M 0)), (0, vr (some a0))]) hc dX3_meant_4 rfl hnL (by decide) rfl ?_
  refine j_aload_n (pc := 5) hc dX3_meant_5 1 rfl rfl ?_
  refine j_aload_n (pc := 6) hc dX3_meant_6 1 rfl rfl ?_
  refine j_mgA (pc := 7) hc ho fm_13 rfl dX3_meant_7 ?_
  refine j_iload_n (pc := 10) hc dX3_meant_10 0 rfl rfl ?_
  obtain ⟨w1, ew1, hf1⟩ := ob_i hf
  clear hf
  refine j_mldJ (pc := 11) hc (k := 2) (by decide) rfl dX3_meant_11 ew1 ?_
  obtain ⟨v3, N2, ev3, hf2⟩ := ob_c hf1
  clear hf1
  refine j_callV (pc := 12) (As := [vl w1]) (rest := []) (st2 := [vi v3]) hc ho cw_X3_288 (c_X3_tableNamed ev3) (Or.inr ⟨rfl, _, rfl⟩) hrm ⟨by decide, by decide⟩ rfl (Nat.le_of_ble_eq_true rfl) dX3_meant_12 rfl rfl ?_
  refine j_iconst (pc := 15) (v := (-1)) hc dX3_meant_15 rfl ?_
  refine j_icmp_eq (pc := 16) hc dX3_meant_16 (tgt := 36) rfl (fun hh => ?_) (fun hh => ?_)
  · have hf3 := (if_pos hh).symm.trans hf2
    clear hf2
    refine j_loc (L' := [(0, vr (some a0)), (1, vi (m_I M 0))]) [1, 0] rfl ?_
    exact w_X3_meant_n36 hc ho hnL hrm hre hct hq hf3
  · have hf4 := (if_neg hh).symm.trans hf2
    clear hf2
    refine j_aload_n (pc := 19) hc dX3_meant_19 1 rfl rfl ?_
    refine j_iconst (pc := 20) (v := (4)) hc dX3_meant_20 rfl ?_
    refine j_aload_n (pc := 21) hc dX3_meant_21 1 rfl rfl ?_
    refine j_mgA (pc := 22) hc ho fm_54 rfl dX3_meant_22 ?_
    refine j_sipush (pc := 25) (v := (400)) hc dX3_meant_25 rfl ?_
    refine j_iload_n (pc := 28) hc dX3_meant_28 0 rfl rfl ?_
    refine j_imul (pc := 29) hc dX3_meant_29 ?_
    refine j_iconst (pc := 30) (v := (1)) hc dX3_meant_30 rfl ?_
    refine j_iadd (pc := 31) hc dX3_meant_31 ?_
    obtain ⟨v4, ev4, hf5⟩ := ob_i hf4
    clear hf4
    refine j_mldI (pc := 32) hc (k := 15) (by decide) rfl dX3_meant_32 ev4 ?_
    obtain ⟨N5, eN5, hf6⟩ := ob_i hf5
    clear hf5
    refine j_callV (pc := 33) (As := [vi (4), vi v4]) (rest := []) (st2 := []) hc ho cw_X3_262 (c_X3_means eN5) (Or.inr ⟨rfl, _, rfl⟩) hrm ⟨by decide, by decide⟩ rfl (Nat.le_of_ble_eq_true rfl) dX3_meant_33 rfl rfl ?_
    refine j_loc (L' := [(0, vr (some a0)), (1, vi (m_I M 0))]) [1, 0] rfl ?_
    exact w_X3_meant_n36 hc ho hnL hrm hre hct hq hf6
def f_X3_fail (x1 : Int32) (x2 : Int32) (M : MS) : Option MS :=
  if (m_I M 25) = 0 then
    (some (m_sI M 25 x1)).bind fun N1 =>
    (some (m_sI N1 26 x2)).bind fun N2 =>
    some N2
  else
    some M
set_option maxRecDepth 100000 in
set_option maxHeartbeats 2000000 in
theorem c_X3_fail {l : Launch} {g : PG} {a0 : Nat} {x1 : Int32} {x2 : Int32} {S : HS} {M M1 : MS} (hf : f_X3_fail x1 x2 M = some M1) : (h_nx S ≤ h_nx S ∧ h_sl S ≤ h_sl S) ∧ Ct l g yX3_fail (ws_ yX3_fail cX3_fail 3 none) 1 60 S (some (a0, M)) [vr (some a0), vi x1, vi x2] none S (some (a0, M1)) := by
  refine met_of false (by decide) (fun h => by first | rfl | cases h) rfl (Nat.le_of_ble_eq_true rfl) (fun f hl hg hc ho hnL hrm hre hct hex hq => ?_)
  subst hl
  subst hg
  unfold f_X3_fail at hf
  refine j_aload_n (pc := 0) hc dX3_fail_0 0 rfl rfl ?_
  refine j_mgI (pc := 1) hc ho fm_169 rfl dX3_fail_1 ?_
  refine j_if_eq (pc := 4) hc dX3_fail_4 (tgt := 8) rfl (fun hh => ?_) (fun hh => ?_)
  · have hf1 := (if_pos hh).symm.trans hf
    clear hf
    refine j_aload_n (pc := 8) hc dX3_fail_8 0 rfl rfl ?_
    refine j_iload_n (pc := 9) hc dX3_fail_9 1 rfl rfl ?_
    obtain ⟨N1, eN1, hf2⟩ := ob_i hf1
    clear hf1
    refine j_mpI (pc := 10) hc ho fm_169 rfl rfl rfl rfl dX3_fail_10 eN1 ?_
    refine j_aload_n (pc := 13) hc dX3_fail_13 0 rfl rfl ?_
    refine j_iload_n (pc := 14) hc dX3_fail_14 2 rfl rfl ?_
    obtain ⟨N2, eN2, hf3⟩ := ob_i hf2
    clear hf2
    refine j_mpI (pc := 15) hc ho fm_172 rfl rfl rfl rfl dX3_fail_15 eN2 ?_
    cases hf3
    exact j_vret (pc := 18) hc hq hre dX3_fail_18
  · have hf4 := (if_neg hh).symm.trans hf
    clear hf
    cases hf4
    exact j_vret (pc := 7) hc hq hre dX3_fail_7
def f_X3_wordFrom_n5 : Nat → Int32 → Int32 → Int64 → Int32 → MS → Option (Int64 × MS)
  | 0, _, _, _, _, _ => none
  | n + 1, x1, x2, y3, x5, M =>
    if x2 ≤ x5 then
      some (y3, M)
    else
      if (x1 + (8)) ≤ x5 then
        some (y3, M)
      else
        (g_mA M 21 x5).bind fun v1 =>
        (fun x1 x2 y3 x5 M => f_X3_wordFrom_n5 n x1 x2 y3 x5 M) x1 x2 (((((27) * y3) + (Int32.toInt64 v1)) - (97)) + (1)) (x5 + (1)) M
def f_X3_wordFrom (x1 : Int32) (x2 : Int32) (M : MS) : Option (Int64 × MS) :=
  f_X3_wordFrom_n5 fu_ x1 x2 (0) x1 M
set_option maxRecDepth 100000 in
set_option maxHeartbeats 2000000 in
theorem w_X3_wordFrom_n5 {f : CfT} {a0 : Nat} {r : Int64} {S : HS} {M1 : MS} (hc : cf_cc f = cX3_wordFrom) (ho : cf_ow f = "TableCatalogModel") (hnL : cf_nL f = 6) (hrm : cf_rm f = (1, 60)) (hre : cf_re f = (some (.long))) (hct : cf_ct f = false) (hq : Qok f (some (vl r)) S (some (a0, M1))) : ∀ (n : Nat) (x1 : Int32) (x2 : Int32) (y3 : Int64) (x5 : Int32) (M : MS), f_X3_wordFrom_n5 n x1 x2 y3 x5 M = some (r, M1) → JJ f S (some (a0, M)) 5 [(0, vr (some a0)), (1, vi x1), (2, vi x2), (3, vl y3), (5, vi x5)] [] := by
  intro n
  induction n with
  | zero =>
    intro x1 x2 y3 x5 M hf
    have hf : (none : Option (Int64 × MS)) = some (r, M1) := hf
    cases hf
  | succ n ih =>
    intro x1 x2 y3 x5 M hf
    unfold f_X3_wordFrom_n5 at hf
    have hk_5 := ih
    refine j_iload (pc := 5) hc dX3_wordFrom_5 4 rfl ?_
    refine j_iload_n (pc := 7) hc dX3_wordFrom_7 2 rfl rfl ?_
    refine j_icmp_ge (pc := 8) hc dX3_wordFrom_8 (tgt := 47) rfl (fun hh => ?_) (fun hh => ?_)
    · have hf1 := (if_pos hh).symm.trans hf
      clear hf
      refine j_lload_n (pc := 47) hc dX3_wordFrom_47 3 rfl rfl ?_
      cases hf1
      exact j_lret (pc := 48) hc hq hre dX3_wordFrom_48
    · have hf2 := (if_neg hh).symm.trans hf
      clear hf
      refine j_iload (pc := 11) hc dX3_wordFrom_11 4 rfl ?_
      refine j_iload_n (pc := 13) hc dX3_wordFrom_13 1 rfl rfl ?_
      refine j_bipush (pc := 14) (v := (8)) hc dX3_wordFrom_14 rfl ?_
      refine j_iadd (pc := 16) hc dX3_wordFrom_16 ?_
      refine j_icmp_ge (pc := 17) hc dX3_wordFrom_17 (tgt := 47) rfl (fun hh => ?_) (fun hh => ?_)
      · have hf3 := (if_pos hh).symm.trans hf2
        clear hf2
        refine j_lload_n (pc := 47) hc dX3_wordFrom_47 3 rfl rfl ?_
        cases hf3
        exact j_lret (pc := 48) hc hq hre dX3_wordFrom_48
      · have hf4 := (if_neg hh).symm.trans hf2
        clear hf2
        refine j_ldc2 (pc := 20) hc ho q1171 dX3_wordFrom_20 ?_
        refine j_lload_n (pc := 23) hc dX3_wordFrom_23 3 rfl rfl ?_
        refine j_lmul (pc := 24) hc dX3_wordFrom_24 ?_
        refine j_aload_n (pc := 25) hc dX3_wordFrom_25 0 rfl rfl ?_
        refine j_mgA (pc := 26) hc ho fm_72 rfl dX3_wordFrom_26 ?_
        refine j_iload (pc := 29) hc dX3_wordFrom_29 4 rfl ?_
        obtain ⟨v1, ev1, hf5⟩ := ob_i hf4
        clear hf4
        refine j_mldI (pc := 31) hc (k := 21) (by decide) rfl dX3_wordFrom_31 ev1 ?_
        refine j_i2l (pc := 32) hc dX3_wordFrom_32 ?_
        refine j_ladd (pc := 33) hc dX3_wordFrom_33 ?_
        refine j_ldc2 (pc := 34) hc ho q1172 dX3_wordFrom_34 ?_
        refine j_lsub (pc := 37) hc dX3_wordFrom_37 ?_
        refine j_lconst (pc := 38) (v := 1) hc dX3_wordFrom_38 rfl ?_
        refine j_ladd (pc := 39) hc dX3_wordFrom_39 ?_
        refine j_lstore_n (pc := 40) (L' := [(3, vl (((((27) * y3) + (Int32.toInt64 v1)) - (97)) + (1))), (0, vr (some a0)), (1, vi x1), (2, vi x2), (5, vi x5)]) hc dX3_wordFrom_40 rfl hnL (by decide) rfl ?_
        refine j_iinc (pc := 41) (L' := [(5, vi (x5 + (1))), (3, vl (((((27) * y3) + (Int32.toInt64 v1)) - (97)) + (1))), (0, vr (some a0)), (1, vi x1), (2, vi x2)]) (v := (x5 + (1))) hc dX3_wordFrom_41 4 rfl rfl hnL (by decide) rfl ?_
        refine j_goto (pc := 44) hc dX3_wordFrom_44 (tgt := 5) rfl ?_
        refine j_loc (L' := [(0, vr (some a0)), (1, vi x1), (2, vi x2), (3, vl (((((27) * y3) + (Int32.toInt64 v1)) - (97)) + (1))), (5, vi (x5 + (1)))]) [2, 3, 4, 1, 0] rfl ?_
        exact hk_5 _ _ _ _ _ hf5
set_option maxRecDepth 100000 in
set_option maxHeartbeats 2000000 in
theorem c_X3_wordFrom {l : Launch} {g : PG} {a0 : Nat} {x1 : Int32} {x2 : Int32} {r : Int64} {S : HS} {M M1 : MS} (hf : f_X3_wordFrom x1 x2 M = some (r, M1)) : (h_nx S ≤ h_nx S ∧ h_sl S ≤ h_sl S) ∧ Ct l g yX3_wordFrom (ws_ yX3_wordFrom cX3_wordFrom 6 (some (.long))) 1 60 S (some (a0, M)) [vr (some a0), vi x1, vi x2] (some (vl r)) S (some (a0, M1)) := by
  refine met_of false (by decide) (fun h => by first | rfl | cases h) rfl (Nat.le_of_ble_eq_true rfl) (fun f hl hg hc ho hnL hrm hre hct hex hq => ?_)
  subst hl
  subst hg
  unfold f_X3_wordFrom at hf
  refine j_lconst (pc := 0) (v := 0) hc dX3_wordFrom_0 rfl ?_
  refine j_lstore_n (pc := 1) (L' := [(3, vl (0)), (0, vr (some a0)), (1, vi x1), (2, vi x2)]) hc dX3_wordFrom_1 rfl hnL (by decide) rfl ?_
  refine j_iload_n (pc := 2) hc dX3_wordFrom_2 2 rfl rfl ?_
  refine j_istore (pc := 3) (L' := [(5, vi x1), (3, vl (0)), (0, vr (some a0)), (1, vi x1), (2, vi x2)]) hc dX3_wordFrom_3 hnL (by decide) rfl ?_
  refine j_loc (L' := [(0, vr (some a0)), (1, vi x1), (2, vi x2), (3, vl (0)), (5, vi x1)]) [2, 3, 4, 1, 0] rfl ?_
  exact w_X3_wordFrom_n5 hc ho hnL hrm hre hct hq fu_ _ _ _ _ _ hf
def f_X3_isLetter (x0 : Int32)  : Option (Int32) :=
  if x0 < (97) then
    some (0)
  else
    if (122) < x0 then
      some (0)
    else
      some (1)
set_option maxRecDepth 100000 in
set_option maxHeartbeats 2000000 in
theorem c_X3_isLetter {l : Launch} {g : PG} {mo : MO} {x0 : Int32} {r : Int32} {S : HS} (hf : f_X3_isLetter x0 = some r) : (h_nx S ≤ h_nx S ∧ h_sl S ≤ h_sl S) ∧ Ct l g yX3_isLetter (ws_ yX3_isLetter cX3_isLetter 1 (some (.boolean))) 1 60 S mo [vi x0] (some (vi r)) S mo := by
  refine met_of false (by decide) (fun h => by first | rfl | cases h) rfl (Nat.le_of_ble_eq_true rfl) (fun f hl hg hc ho hnL hrm hre hct hex hq => ?_)
  subst hl
  subst hg
  unfold f_X3_isLetter at hf
  refine j_iload_n (pc := 0) hc dX3_isLetter_0 0 rfl rfl ?_
  refine j_bipush (pc := 1) (v := (97)) hc dX3_isLetter_1 rfl ?_
  refine j_icmp_lt (pc := 3) hc dX3_isLetter_3 (tgt := 16) rfl (fun hh => ?_) (fun hh => ?_)
  · have hf1 := (if_pos hh).symm.trans hf
    clear hf
    refine j_iconst (pc := 16) (v := (0)) hc dX3_isLetter_16 rfl ?_
    cases hf1
    exact j_iret (pc := 17) hc hq hre rfl dX3_isLetter_17
  · have hf2 := (if_neg hh).symm.trans hf
    clear hf
    refine j_iload_n (pc := 6) hc dX3_isLetter_6 0 rfl rfl ?_
    refine j_bipush (pc := 7) (v := (122)) hc dX3_isLetter_7 rfl ?_
    refine j_icmp_gt (pc := 9) hc dX3_isLetter_9 (tgt := 16) rfl (fun hh => ?_) (fun hh => ?_)
    · have hf3 := (if_pos hh).symm.trans hf2
      clear hf2
      refine j_iconst (pc := 16) (v := (0)) hc dX3_isLetter_16 rfl ?_
      cases hf3
      exact j_iret (pc := 17) hc hq hre rfl dX3_isLetter_17
    · have hf4 := (if_neg hh).symm.trans hf2
      clear hf2
      refine j_iconst (pc := 12) (v := (1)) hc dX3_isLetter_12 rfl ?_
      refine j_goto (pc := 13) hc dX3_isLetter_13 (tgt := 17) rfl ?_
      cases hf4
      exact j_iret (pc := 17) hc hq hre rfl dX3_isLetter_17
def f_X3_isDigit (x0 : Int32)  : Option (Int32) :=
  if x0 < (48) then
    some (0)
  else
    if (57) < x0 then
      some (0)
    else
      some (1)
set_option maxRecDepth 100000 in
set_option maxHeartbeats 2000000 in
theorem c_X3_isDigit {l : Launch} {g : PG} {mo : MO} {x0 : Int32} {r : Int32} {S : HS} (hf : f_X3_isDigit x0 = some r) : (h_nx S ≤ h_nx S ∧ h_sl S ≤ h_sl S) ∧ Ct l g yX3_isDigit (ws_ yX3_isDigit cX3_isDigit 1 (some (.boolean))) 1 60 S mo [vi x0] (some (vi r)) S mo := by
  refine met_of false (by decide) (fun h => by first | rfl | cases h) rfl (Nat.le_of_ble_eq_true rfl) (fun f hl hg hc ho hnL hrm hre hct hex hq => ?_)
  subst hl
  subst hg
  unfold f_X3_isDigit at hf
  refine j_iload_n (pc := 0) hc dX3_isDigit_0 0 rfl rfl ?_
  refine j_bipush (pc := 1) (v := (48)) hc dX3_isDigit_1 rfl ?_
  refine j_icmp_lt (pc := 3) hc dX3_isDigit_3 (tgt := 16) rfl (fun hh => ?_) (fun hh => ?_)
  · have hf1 := (if_pos hh).symm.trans hf
    clear hf
    refine j_iconst (pc := 16) (v := (0)) hc dX3_isDigit_16 rfl ?_
    cases hf1
    exact j_iret (pc := 17) hc hq hre rfl dX3_isDigit_17
  · have hf2 := (if_neg hh).symm.trans hf
    clear hf
    refine j_iload_n (pc := 6) hc dX3_isDigit_6 0 rfl rfl ?_
    refine j_bipush (pc := 7) (v := (57)) hc dX3_isDigit_7 rfl ?_
    refine j_icmp_gt (pc := 9) hc dX3_isDigit_9 (tgt := 16) rfl (fun hh => ?_) (fun hh => ?_)
    · have hf3 := (if_pos hh).symm.trans hf2
      clear hf2
      refine j_iconst (pc := 16) (v := (0)) hc dX3_isDigit_16 rfl ?_
      cases hf3
      exact j_iret (pc := 17) hc hq hre rfl dX3_isDigit_17
    · have hf4 := (if_neg hh).symm.trans hf2
      clear hf2
      refine j_iconst (pc := 12) (v := (1)) hc dX3_isDigit_12 rfl ?_
      refine j_goto (pc := 13) hc dX3_isDigit_13 (tgt := 17) rfl ?_
      cases hf4
      exact j_iret (pc := 17) hc hq hre rfl dX3_isDigit_17
def f_X3_isBlank (x0 : Int32)  : Option (Int32) :=
  if x0 = (10) then
    some (1)
  else
    if x0 = (32) then
      some (1)
    else
      some (0)
set_option maxRecDepth 100000 in
set_option maxHeartbeats 2000000 in
theorem c_X3_isBlank {l : Launch} {g : PG} {mo : MO} {x0 : Int32} {r : Int32} {S : HS} (hf : f_X3_isBlank x0 = some r) : (h_nx S ≤ h_nx S ∧ h_sl S ≤ h_sl S) ∧ Ct l g yX3_isBlank (ws_ yX3_isBlank cX3_isBlank 1 (some (.boolean))) 1 60 S mo [vi x0] (some (vi r)) S mo := by
  refine met_of false (by decide) (fun h => by first | rfl | cases h) rfl (Nat.le_of_ble_eq_true rfl) (fun f hl hg hc ho hnL hrm hre hct hex hq => ?_)
  subst hl
  subst hg
  unfold f_X3_isBlank at hf
  refine j_iload_n (pc := 0) hc dX3_isBlank_0 0 rfl rfl ?_
  refine j_bipush (pc := 1) (v := (10)) hc dX3_isBlank_1 rfl ?_
  refine j_icmp_eq (pc := 3) hc dX3_isBlank_3 (tgt := 12) rfl (fun hh => ?_) (fun hh => ?_)
  · have hf1 := (if_pos hh).symm.trans hf
    clear hf
    refine j_iconst (pc := 12) (v := (1)) hc dX3_isBlank_12 rfl ?_
    refine j_goto (pc := 13) hc dX3_isBlank_13 (tgt := 17) rfl ?_
    cases hf1
    exact j_iret (pc := 17) hc hq hre rfl dX3_isBlank_17
  · have hf2 := (if_neg hh).symm.trans hf
    clear hf
    refine j_iload_n (pc := 6) hc dX3_isBlank_6 0 rfl rfl ?_
    refine j_bipush (pc := 7) (v := (32)) hc dX3_isBlank_7 rfl ?_
    refine j_icmp_ne (pc := 9) hc dX3_isBlank_9 (tgt := 16) rfl (fun hh => ?_) (fun hh => ?_)
    · have hf3 := (if_neg hh).symm.trans hf2
      clear hf2
      refine j_iconst (pc := 16) (v := (0)) hc dX3_isBlank_16 rfl ?_
      cases hf3
      exact j_iret (pc := 17) hc hq hre rfl dX3_isBlank_17
    · have hf4 := (if_pos hh).symm.trans hf2
      clear hf2
      refine j_iconst (pc := 12) (v := (1)) hc dX3_isBlank_12 rfl ?_
      refine j_goto (pc := 13) hc dX3_isBlank_13 (tgt := 17) rfl ?_
      cases hf4
      exact j_iret (pc := 17) hc hq hre rfl dX3_isBlank_17
theorem fm_179 : FM 179 23 := ⟨by decide, q1196⟩
theorem fm_188 : FM 188 30 := ⟨by decide, q1203⟩
theorem cw_X3_203 : CV "TableCatalogModel" 203 RX3 yX3_wordFrom cX3_wordFrom 6 (some (.long)) 2 := ⟨⟨q1398, q1400, qs41, q90, q1401⟩, rfl, by decide, by decide, by decide +kernel⟩
theorem fm_194 : FM 194 32 := ⟨by decide, q1205⟩
theorem fm_191 : FM 191 31 := ⟨by decide, q1204⟩
theorem fm_182 : FM 182 24 := ⟨by decide, q1197⟩
theorem cw_X3_200 : CS "TableCatalogModel" 200 yX3_isLetter cX3_isLetter 1 (some (.boolean)) 1 := ⟨⟨q1395, q1396, q90, q1397⟩, by decide, by decide, by decide +kernel⟩
theorem cw_X3_207 : CS "TableCatalogModel" 207 yX3_isDigit cX3_isDigit 1 (some (.boolean)) 1 := ⟨⟨q1402, q1403, q90, q1404⟩, by decide, by decide, by decide +kernel⟩
theorem fm_197 : FM 197 29 := ⟨by decide, q1202⟩
theorem cw_X3_185 : CS "TableCatalogModel" 185 yX3_isBlank cX3_isBlank 1 (some (.boolean)) 1 := ⟨⟨q1392, q1393, q90, q1394⟩, by decide, by decide, by decide +kernel⟩
def f_X3_next_n135 (M : MS) : Option MS :=
  if ((m_I M 23) - (m_I M 30)) ≤ (8) then
    o_bd (f_X3_wordFrom (m_I M 30) (m_I M 23) M) fun w2 N1 =>
    (some (m_sJ N1 32 w2)).bind fun N3 =>
    some N3
  else
    (some (m_sI M 31 ((m_I M 30) + (8)))).bind fun N4 =>
    some N4
def f_X3_next_n96 : Nat → MS → Option MS
  | 0, _ => none
  | n + 1, M =>
    if (m_I M 24) ≤ (m_I M 23) then
      f_X3_next_n135 M
    else
      (g_mA M 21 (m_I M 23)).bind fun v1 =>
      (f_X3_isLetter v1).bind fun v2 =>
      if v2 = 0 then
        f_X3_next_n135 M
      else
        (some (m_sI M 23 ((m_I M 23) + (1)))).bind fun N3 =>
        (fun  M => f_X3_next_n96 n  M) N3
def f_X3_next_n241 (M : MS) : Option MS :=
  if ((m_I M 23) - (m_I M 30)) ≤ (4) then
    some M
  else
    (some (m_sI M 31 ((m_I M 30) + (4)))).bind fun N1 =>
    some N1
def f_X3_next_n202 : Nat → MS → Option MS
  | 0, _ => none
  | n + 1, M =>
    if (m_I M 24) ≤ (m_I M 23) then
      f_X3_next_n241 M
    else
      (g_mA M 21 (m_I M 23)).bind fun v1 =>
      (f_X3_isDigit v1).bind fun v2 =>
      if v2 = 0 then
        f_X3_next_n241 M
      else
        (some (m_sI M 23 ((m_I M 23) + (1)))).bind fun N3 =>
        (fun  M => f_X3_next_n202 n  M) N3
def f_X3_next_n313 (sx1 : Int32) (M : MS) : Option MS :=
  (some (m_sI M 29 sx1)).bind fun N1 =>
  (some (m_sI N1 23 ((m_I N1 23) + (1)))).bind fun N2 =>
  some N2
def f_X3_next_n39 (M : MS) : Option MS :=
  (some (m_sI M 30 (m_I M 23))).bind fun N1 =>
  (some (m_sI N1 31 (-1))).bind fun N2 =>
  (some (m_sJ N2 32 (0))).bind fun N3 =>
  if (m_I N3 23) = (m_I N3 24) then
    (some (m_sI N3 29 (0))).bind fun N13 =>
    some N13
  else
    (g_mA N3 21 (m_I N3 23)).bind fun v4 =>
    (f_X3_isLetter v4).bind fun v5 =>
    if v5 = 0 then
      (g_mA N3 21 (m_I N3 23)).bind fun v6 =>
      (f_X3_isDigit v6).bind fun v7 =>
      if v7 = 0 then
        (g_mA N3 21 (m_I N3 23)).bind fun v8 =>
        if v8 = (39) then
          f_X3_next_n313 (3) N3
        else
          (g_mA N3 21 (m_I N3 23)).bind fun v9 =>
          if (32) ≤ v9 then
            (g_mA N3 21 (m_I N3 23)).bind fun v10 =>
            f_X3_next_n313 v10 N3
          else
            f_X3_next_n313 (-1) N3
      else
        (some (m_sI N3 29 (2))).bind fun N11 =>
        f_X3_next_n202 fu_ N11
    else
      (some (m_sI N3 29 (1))).bind fun N12 =>
      f_X3_next_n96 fu_ N12
def f_X3_next_n0 : Nat → MS → Option MS
  | 0, _ => none
  | n + 1, M =>
    if (m_I M 24) ≤ (m_I M 23) then
      f_X3_next_n39 M
    else
      (g_mA M 21 (m_I M 23)).bind fun v1 =>
      (f_X3_isBlank v1).bind fun v2 =>
      if v2 = 0 then
        f_X3_next_n39 M
      else
        (some (m_sI M 23 ((m_I M 23) + (1)))).bind fun N3 =>
        (fun  M => f_X3_next_n0 n  M) N3
def f_X3_next (M : MS) : Option MS :=
  f_X3_next_n0 fu_ M
set_option maxRecDepth 100000 in
set_option maxHeartbeats 2000000 in
theorem w_X3_next_n135 {f : CfT} {a0 : Nat} {S : HS} {M1 : MS} (hc : cf_cc f = cX3_next) (ho : cf_ow f = "TableCatalogModel") (hnL : cf_nL f = 1) (hrm : cf_rm f = (2, 85)) (hre : cf_re f = none) (hct : cf_ct f = false) (hq : Qok f none S (some (a0, M1))) {M : MS} (hf : f_X3_next_n135 M = some M1) : JJ f S (some (a0, M)) 135 [(0, vr (some a0))] [] := by
  unfold f_X3_next_n135 at hf
  refine j_aload_n (pc := 135) hc dX3_next_135 0 rfl rfl ?_
  refine j_mgI (pc := 136) hc ho fm_179 rfl dX3_next_136 ?_
  refine j_aload_n (pc := 139) hc dX3_next_139 0 rfl rfl ?_
  refine j_mgI (pc := 140) hc ho fm_188 rfl dX3_next_140 ?_
  refine j_isub (pc := 143) hc dX3_next_143 ?_
  refine j_bipush (pc := 144) (v := (8)) hc dX3_next_144 rfl ?_
  refine j_icmp_le (pc := 146) hc dX3_next_146 (tgt := 163) rfl (fun hh => ?_) (fun hh => ?_)
  · have hf1 := (if_pos hh).symm.trans hf
    clear hf
    refine j_aload_n (pc := 163) hc dX3_next_163 0 rfl rfl ?_
    refine j_aload_n (pc := 164) hc dX3_next_164 0 rfl rfl ?_
    refine j_aload_n (pc := 165) hc dX3_next_165 0 rfl rfl ?_
    refine j_mgI (pc := 166) hc ho fm_188 rfl dX3_next_166 ?_
    refine j_aload_n (pc := 169) hc dX3_next_169 0 rfl rfl ?_
    refine j_mgI (pc := 170) hc ho fm_179 rfl dX3_next_170 ?_
    obtain ⟨w2, N1, ew2, hf2⟩ := ob_c hf1
    clear hf1
    refine j_callV (pc := 173) (As := [vi (m_I M 30), vi (m_I M 23)]) (rest := [vr (some a0)]) (st2 := [vl w2, vr (some a0)]) hc ho cw_X3_203 (c_X3_wordFrom ew2) (Or.inr ⟨rfl, _, rfl⟩) hrm ⟨by decide, by decide⟩ rfl (Nat.le_of_ble_eq_true rfl) dX3_next_173 rfl rfl ?_
    obtain ⟨N3, eN3, hf3⟩ := ob_i hf2
    clear hf2
    refine j_mpJ (pc := 176) hc ho fm_194 rfl rfl rfl dX3_next_176 eN3 ?_
    refine j_goto (pc := 179) hc dX3_next_179 (tgt := 326) rfl ?_
    cases hf3
    exact j_vret (pc := 326) hc hq hre dX3_next_326
  · have hf4 := (if_neg hh).symm.trans hf
    clear hf
    refine j_aload_n (pc := 149) hc dX3_next_149 0 rfl rfl ?_
    refine j_aload_n (pc := 150) hc dX3_next_150 0 rfl rfl ?_
    refine j_mgI (pc := 151) hc ho fm_188 rfl dX3_next_151 ?_
    refine j_bipush (pc := 154) (v := (8)) hc dX3_next_154 rfl ?_
    refine j_iadd (pc := 156) hc dX3_next_156 ?_
    obtain ⟨N4, eN4, hf5⟩ := ob_i hf4
    clear hf4
    refine j_mpI (pc := 157) hc ho fm_191 rfl rfl rfl rfl dX3_next_157 eN4 ?_
    refine j_goto (pc := 160) hc dX3_next_160 (tgt := 326) rfl ?_
    cases hf5
    exact j_vret (pc := 326) hc hq hre dX3_next_326
set_option maxRecDepth 100000 in
set_option maxHeartbeats 2000000 in
theorem w_X3_next_n96 {f : CfT} {a0 : Nat} {S : HS} {M1 : MS} (hc : cf_cc f = cX3_next) (ho : cf_ow f = "TableCatalogModel") (hnL : cf_nL f = 1) (hrm : cf_rm f = (2, 85)) (hre : cf_re f = none) (hct : cf_ct f = false) (hq : Qok f none S (some (a0, M1))) : ∀ (n : Nat)  (M : MS), f_X3_next_n96 n M = some M1 → JJ f S (some (a0, M)) 96 [(0, vr (some a0))] [] := by
  intro n
  induction n with
  | zero =>
    intro M hf
    have hf : (none : Option MS) = some M1 := hf
    cases hf
  | succ n ih =>
    intro M hf
    unfold f_X3_next_n96 at hf
    have hk_96 := ih
    refine j_aload_n (pc := 96) hc dX3_next_96 0 rfl rfl ?_
    refine j_mgI (pc := 97) hc ho fm_179 rfl dX3_next_97 ?_
    refine j_aload_n (pc := 100) hc dX3_next_100 0 rfl rfl ?_
    refine j_mgI (pc := 101) hc ho fm_182 rfl dX3_next_101 ?_
    refine j_icmp_ge (pc := 104) hc dX3_next_104 (tgt := 135) rfl (fun hh => ?_) (fun hh => ?_)
    · have hf1 := (if_pos hh).symm.trans hf
      clear hf
      exact w_X3_next_n135 hc ho hnL hrm hre hct hq hf1
    · have hf2 := (if_neg hh).symm.trans hf
      clear hf
      refine j_aload_n (pc := 107) hc dX3_next_107 0 rfl rfl ?_
      refine j_mgA (pc := 108) hc ho fm_72 rfl dX3_next_108 ?_
      refine j_aload_n (pc := 111) hc dX3_next_111 0 rfl rfl ?_
      refine j_mgI (pc := 112) hc ho fm_179 rfl dX3_next_112 ?_
      obtain ⟨v1, ev1, hf3⟩ := ob_i hf2
      clear hf2
      refine j_mldI (pc := 115) hc (k := 21) (by decide) rfl dX3_next_115 ev1 ?_
      obtain ⟨v2, ev2, hf4⟩ := ob_i hf3
      clear hf3
      refine j_callS (pc := 116) (As := [vi v1]) (rest := []) (st2 := [vi v2]) hc ho cw_X3_200 (c_X3_isLetter ev2) hrm ⟨by decide, by decide⟩ rfl (Nat.le_of_ble_eq_true rfl) dX3_next_116 rfl rfl ?_
      refine j_if_eq (pc := 119) hc dX3_next_119 (tgt := 135) rfl (fun hh => ?_) (fun hh => ?_)
      · have hf5 := (if_pos hh).symm.trans hf4
        clear hf4
        exact w_X3_next_n135 hc ho hnL hrm hre hct hq hf5
      · have hf6 := (if_neg hh).symm.trans hf4
        clear hf4
        refine j_aload_n (pc := 122) hc dX3_next_122 0 rfl rfl ?_
        refine j_dup (pc := 123) hc dX3_next_123 rfl ?_
        refine j_mgI (pc := 124) hc ho fm_179 rfl dX3_next_124 ?_
        refine j_iconst (pc := 127) (v := (1)) hc dX3_next_127 rfl ?_
        refine j_iadd (pc := 128) hc dX3_next_128 ?_
        obtain ⟨N3, eN3, hf7⟩ := ob_i hf6
        clear hf6
        refine j_mpI (pc := 129) hc ho fm_179 rfl rfl rfl rfl dX3_next_129 eN3 ?_
        refine j_goto (pc := 132) hc dX3_next_132 (tgt := 96) rfl ?_
        exact hk_96 _ hf7
set_option maxRecDepth 100000 in
set_option maxHeartbeats 2000000 in
theorem w_X3_next_n241 {f : CfT} {a0 : Nat} {S : HS} {M1 : MS} (hc : cf_cc f = cX3_next) (ho : cf_ow f = "TableCatalogModel") (hnL : cf_nL f = 1) (hrm : cf_rm f = (2, 85)) (hre : cf_re f = none) (hct : cf_ct f = false) (hq : Qok f none S (some (a0, M1))) {M : MS} (hf : f_X3_next_n241 M = some M1) : JJ f S (some (a0, M)) 241 [(0, vr (some a0))] [] := by
  unfold f_X3_next_n241 at hf
  refine j_aload_n (pc := 241) hc dX3_next_241 0 rfl rfl ?_
  refine j_mgI (pc := 242) hc ho fm_179 rfl dX3_next_242 ?_
  refine j_aload_n (pc := 245) hc dX3_next_245 0 rfl rfl ?_
  refine j_mgI (pc := 246) hc ho fm_188 rfl dX3_next_246 ?_
  refine j_isub (pc := 249) hc dX3_next_249 ?_
  refine j_iconst (pc := 250) (v := (4)) hc dX3_next_250 rfl ?_
  refine j_icmp_le (pc := 251) hc dX3_next_251 (tgt := 326) rfl (fun hh => ?_) (fun hh => ?_)
  · have hf1 := (if_pos hh).symm.trans hf
    clear hf
    cases hf1
    exact j_vret (pc := 326) hc hq hre dX3_next_326
  · have hf2 := (if_neg hh).symm.trans hf
    clear hf
    refine j_aload_n (pc := 254) hc dX3_next_254 0 rfl rfl ?_
    refine j_aload_n (pc := 255) hc dX3_next_255 0 rfl rfl ?_
    refine j_mgI (pc := 256) hc ho fm_188 rfl dX3_next_256 ?_
    refine j_iconst (pc := 259) (v := (4)) hc dX3_next_259 rfl ?_
    refine j_iadd (pc := 260) hc dX3_next_260 ?_
    obtain ⟨N1, eN1, hf3⟩ := ob_i hf2
    clear hf2
    refine j_mpI (pc := 261) hc ho fm_191 rfl rfl rfl rfl dX3_next_261 eN1 ?_
    refine j_goto (pc := 264) hc dX3_next_264 (tgt := 326) rfl ?_
    cases hf3
    exact j_vret (pc := 326) hc hq hre dX3_next_326
set_option maxRecDepth 100000 in
set_option maxHeartbeats 2000000 in
theorem w_X3_next_n202 {f : CfT} {a0 : Nat} {S : HS} {M1 : MS} (hc : cf_cc f = cX3_next) (ho : cf_ow f = "TableCatalogModel") (hnL : cf_nL f = 1) (hrm : cf_rm f = (2, 85)) (hre : cf_re f = none) (hct : cf_ct f = false) (hq : Qok f none S (some (a0, M1))) : ∀ (n : Nat)  (M : MS), f_X3_next_n202 n M = some M1 → JJ f S (some (a0, M)) 202 [(0, vr (some a0))] [] := by
  intro n
  induction n with
  | zero =>
    intro M hf
    have hf : (none : Option MS) = some M1 := hf
    cases hf
  | succ n ih =>
    intro M hf
    unfold f_X3_next_n202 at hf
    have hk_202 := ih
    refine j_aload_n (pc := 202) hc dX3_next_202 0 rfl rfl ?_
    refine j_mgI (pc := 203) hc ho fm_179 rfl dX3_next_203 ?_
    refine j_aload_n (pc := 206) hc dX3_next_206 0 rfl rfl ?_
    refine j_mgI (pc := 207) hc ho fm_182 rfl dX3_next_207 ?_
    refine j_icmp_ge (pc := 210) hc dX3_next_210 (tgt := 241) rfl (fun hh => ?_) (fun hh => ?_)
    · have hf1 := (if_pos hh).symm.trans hf
      clear hf
      exact w_X3_next_n241 hc ho hnL hrm hre hct hq hf1
    · have hf2 := (if_neg hh).symm.trans hf
      clear hf
      refine j_aload_n (pc := 213) hc dX3_next_213 0 rfl rfl ?_
      refine j_mgA (pc := 214) hc ho fm_72 rfl dX3_next_214 ?_
      refine j_aload_n (pc := 217) hc dX3_next_217 0 rfl rfl ?_
      refine j_mgI (pc := 218) hc ho fm_179 rfl dX3_next_218 ?_
      obtain ⟨v1, ev1, hf3⟩ := ob_i hf2
      clear hf2
      refine j_mldI (pc := 221) hc (k := 21) (by decide) rfl dX3_next_221 ev1 ?_
      obtain ⟨v2, ev2, hf4⟩ := ob_i hf3
      clear hf3
      refine j_callS (pc := 222) (As := [vi v1]) (rest := []) (st2 := [vi v2]) hc ho cw_X3_207 (c_X3_isDigit ev2) hrm ⟨by decide, by decide⟩ rfl (Nat.le_of_ble_eq_true rfl) dX3_next_222 rfl rfl ?_
      refine j_if_eq (pc := 225) hc dX3_next_225 (tgt := 241) rfl (fun hh => ?_) (fun hh => ?_)
      · have hf5 := (if_pos hh).symm.trans hf4
        clear hf4
        exact w_X3_next_n241 hc ho hnL hrm hre hct hq hf5
      · have hf6 := (if_neg hh).symm.trans hf4
        clear hf4
        refine j_aload_n (pc := 228) hc dX3_next_228 0 rfl rfl ?_
        refine j_dup (pc := 229) hc dX3_next_229 rfl ?_
        refine j_mgI (pc := 230) hc ho fm_179 rfl dX3_next_230 ?_
        refine j_iconst (pc := 233) (v := (1)) hc dX3_next_233 rfl ?_
        refine j_iadd (pc := 234) hc dX3_next_234 ?_
        obtain ⟨N3, eN3, hf7⟩ := ob_i hf6
        clear hf6
        refine j_mpI (pc := 235) hc ho fm_179 rfl rfl rfl rfl dX3_next_235 eN3 ?_
        refine j_goto (pc := 238) hc dX3_next_238 (tgt := 202) rfl ?_
        exact hk_202 _ hf7
set_option maxRecDepth 100000 in
set_option maxHeartbeats 2000000 in
theorem w_X3_next_n313 {f : CfT} {a0 : Nat} {S : HS} {M1 : MS} (hc : cf_cc f = cX3_next) (ho : cf_ow f = "TableCatalogModel") (hnL : cf_nL f = 1) (hrm : cf_rm f = (2, 85)) (hre : cf_re f = none) (hct : cf_ct f = false) (hq : Qok f none S (some (a0, M1))) {sx1 : Int32} {M : MS} (hf : f_X3_next_n313 sx1 M = some M1) : JJ f S (some (a0, M)) 313 [(0, vr (some a0))] [vi sx1, vr (some a0)] := by
  unfold f_X3_next_n313 at hf
  obtain ⟨N1, eN1, hf1⟩ := ob_i hf
  clear hf
  refine j_mpI (pc := 313) hc ho fm_197 rfl rfl rfl rfl dX3_next_313 eN1 ?_
  refine j_aload_n (pc := 316) hc dX3_next_316 0 rfl rfl ?_
  refine j_dup (pc := 317) hc dX3_next_317 rfl ?_
  refine j_mgI (pc := 318) hc ho fm_179 rfl dX3_next_318 ?_
  refine j_iconst (pc := 321) (v := (1)) hc dX3_next_321 rfl ?_
  refine j_iadd (pc := 322) hc dX3_next_322 ?_
  obtain ⟨N2, eN2, hf2⟩ := ob_i hf1
  clear hf1
  refine j_mpI (pc := 323) hc ho fm_179 rfl rfl rfl rfl dX3_next_323 eN2 ?_
  cases hf2
  exact j_vret (pc := 326) hc hq hre dX3_next_326
set_option maxRecDepth 100000 in
set_option maxHeartbeats 2000000 in
theorem w_X3_next_n39 {f : CfT} {a0 : Nat} {S : HS} {M1 : MS} (hc : cf_cc f = cX3_next) (ho : cf_ow f = "TableCatalogModel") (hnL : cf_nL f = 1) (hrm : cf_rm f = (2, 85)) (hre : cf_re f = none) (hct : cf_ct f = false) (hq : Qok f none S (some (a0, M1))) {M : MS} (hf : f_X3_next_n39 M = some M1) : JJ f S (some (a0, M)) 39 [(0, vr (some a0))] [] := by
  unfold f_X3_next_n39 at hf
  refine j_aload_n (pc := 39) hc dX3_next_39 0 rfl rfl ?_
  refine j_aload_n (pc := 40) hc dX3_next_40 0 rfl rfl ?_
  refine j_mgI (pc := 41) hc ho fm_179 rfl dX3_next_41 ?_
  obtain ⟨N1, eN1, hf1⟩ := ob_i hf
  clear hf
  refine j_mpI (pc := 44) hc ho fm_188 rfl rfl rfl rfl dX3_next_44 eN1 ?_
  refine j_aload_n (pc := 47) hc dX3_next_47 0 rfl rfl ?_
  refine j_iconst (pc := 48) (v := (-1)) hc dX3_next_48 rfl ?_
  obtain ⟨N2, eN2, hf2⟩ := ob_i hf1
  clear hf1
  refine j_mpI (pc := 49) hc ho fm_191 rfl rfl rfl rfl dX3_next_49 eN2 ?_
  refine j_aload_n (pc := 52) hc dX3_next_52 0 rfl rfl ?_
  refine j_lconst (pc := 53) (v := 0) hc dX3_next_53 rfl ?_
  obtain ⟨N3, eN3, hf3⟩ := ob_i hf2
  clear hf2
  refine j_mpJ (pc := 54) hc ho fm_194 rfl rfl rfl dX3_next_54 eN3 ?_
  refine j_aload_n (pc := 57) hc dX3_next_57 0 rfl rfl ?_
  refine j_mgI (pc := 58) hc ho fm_179 rfl dX3_next_58 ?_
  refine j_aload_n (pc := 61) hc dX3_next_61 0 rfl rfl ?_
  refine j_mgI (pc := 62) hc ho fm_182 rfl dX3_next_62 ?_
  refine j_icmp_ne (pc := 65) hc dX3_next_65 (tgt := 76) rfl (fun hh => ?_) (fun hh => ?_)
  · have hf4 := (if_neg hh).symm.trans hf3
    clear hf3
    refine j_aload_n (pc := 76) hc dX3_next_76 0 rfl rfl ?_
    refine j_mgA (pc := 77) hc ho fm_72 rfl dX3_next_77 ?_
    refine j_aload_n (pc := 80) hc dX3_next_80 0 rfl rfl ?_
    refine j_mgI (pc := 81) hc ho fm_179 rfl dX3_next_81 ?_
    obtain ⟨v4, ev4, hf5⟩ := ob_i hf4
    clear hf4
    refine j_mldI (pc := 84) hc (k := 21) (by decide) rfl dX3_next_84 ev4 ?_
    obtain ⟨v5, ev5, hf6⟩ := ob_i hf5
    clear hf5
    refine j_callS (pc := 85) (As := [vi v4]) (rest := []) (st2 := [vi v5]) hc ho cw_X3_200 (c_X3_isLetter ev5) hrm ⟨by decide, by decide⟩ rfl (Nat.le_of_ble_eq_true rfl) dX3_next_85 rfl rfl ?_
    refine j_if_eq (pc := 88) hc dX3_next_88 (tgt := 182) rfl (fun hh => ?_) (fun hh => ?_)
    · have hf7 := (if_pos hh).symm.trans hf6
      clear hf6
      refine j_aload_n (pc := 182) hc dX3_next_182 0 rfl rfl ?_
      refine j_mgA (pc := 183) hc ho fm_72 rfl dX3_next_183 ?_
      refine j_aload_n (pc := 186) hc dX3_next_186 0 rfl rfl ?_
      refine j_mgI (pc := 187) hc ho fm_179 rfl dX3_next_187 ?_
      obtain ⟨v6, ev6, hf8⟩ := ob_i hf7
      clear hf7
      refine j_mldI (pc := 190) hc (k := 21) (by decide) rfl dX3_next_190 ev6 ?_
      obtain ⟨v7, ev7, hf9⟩ := ob_i hf8
      clear hf8
      refine j_callS (pc := 191) (As := [vi v6]) (rest := []) (st2 := [vi v7]) hc ho cw_X3_207 (c_X3_isDigit ev7) hrm ⟨by decide, by decide⟩ rfl (Nat.le_of_ble_eq_true rfl) dX3_next_191 rfl rfl ?_
      refine j_if_eq (pc := 194) hc dX3_next_194 (tgt := 267) rfl (fun hh => ?_) (fun hh => ?_)
      · have hf10 := (if_pos hh).symm.trans hf9
        clear hf9
        refine j_aload_n (pc := 267) hc dX3_next_267 0 rfl rfl ?_
        refine j_aload_n (pc := 268) hc dX3_next_268 0 rfl rfl ?_
        refine j_mgA (pc := 269) hc ho fm_72 rfl dX3_next_269 ?_
        refine j_aload_n (pc := 272) hc dX3_next_272 0 rfl rfl ?_
        refine j_mgI (pc := 273) hc ho fm_179 rfl dX3_next_273 ?_
        obtain ⟨v8, ev8, hf11⟩ := ob_i hf10
        clear hf10
        refine j_mldI (pc := 276) hc (k := 21) (by decide) rfl dX3_next_276 ev8 ?_
        refine j_bipush (pc := 277) (v := (39)) hc dX3_next_277 rfl ?_
        refine j_icmp_ne (pc := 279) hc dX3_next_279 (tgt := 286) rfl (fun hh => ?_) (fun hh => ?_)
        · have hf12 := (if_neg hh).symm.trans hf11
          clear hf11
          refine j_aload_n (pc := 286) hc dX3_next_286 0 rfl rfl ?_
          refine j_mgA (pc := 287) hc ho fm_72 rfl dX3_next_287 ?_
          refine j_aload_n (pc := 290) hc dX3_next_290 0 rfl rfl ?_
          refine j_mgI (pc := 291) hc ho fm_179 rfl dX3_next_291 ?_
          obtain ⟨v9, ev9, hf13⟩ := ob_i hf12
          clear hf12
          refine j_mldI (pc := 294) hc (k := 21) (by decide) rfl dX3_next_294 ev9 ?_
          refine j_bipush (pc := 295) (v := (32)) hc dX3_next_295 rfl ?_
          refine j_icmp_ge (pc := 297) hc dX3_next_297 (tgt := 304) rfl (fun hh => ?_) (fun hh => ?_)
          · have hf14 := (if_pos hh).symm.trans hf13
            clear hf13
            refine j_aload_n (pc := 304) hc dX3_next_304 0 rfl rfl ?_
            refine j_mgA (pc := 305) hc ho fm_72 rfl dX3_next_305 ?_
            refine j_aload_n (pc := 308) hc dX3_next_308 0 rfl rfl ?_
            refine j_mgI (pc := 309) hc ho fm_179 rfl dX3_next_309 ?_
            obtain ⟨v10, ev10, hf15⟩ := ob_i hf14
            clear hf14
            refine j_mldI (pc := 312) hc (k := 21) (by decide) rfl dX3_next_312 ev10 ?_
            exact w_X3_next_n313 hc ho hnL hrm hre hct hq hf15
          · have hf16 := (if_neg hh).symm.trans hf13
            clear hf13
            refine j_iconst (pc := 300) (v := (-1)) hc dX3_next_300 rfl ?_
            refine j_goto (pc := 301) hc dX3_next_301 (tgt := 313) rfl ?_
            exact w_X3_next_n313 hc ho hnL hrm hre hct hq hf16
        · have hf17 := (if_pos hh).symm.trans hf11
          clear hf11
          refine j_iconst (pc := 282) (v := (3)) hc dX3_next_282 rfl ?_
          refine j_goto (pc := 283) hc dX3_next_283 (tgt := 313) rfl ?_
          exact w_X3_next_n313 hc ho hnL hrm hre hct hq hf17
      · have hf18 := (if_neg hh).symm.trans hf9
        clear hf9
        refine j_aload_n (pc := 197) hc dX3_next_197 0 rfl rfl ?_
        refine j_iconst (pc := 198) (v := (2)) hc dX3_next_198 rfl ?_
        obtain ⟨N11, eN11, hf19⟩ := ob_i hf18
        clear hf18
        refine j_mpI (pc := 199) hc ho fm_197 rfl rfl rfl rfl dX3_next_199 eN11 ?_
        exact w_X3_next_n202 hc ho hnL hrm hre hct hq fu_ _ hf19
    · have hf20 := (if_neg hh).symm.trans hf6
      clear hf6
      refine j_aload_n (pc := 91) hc dX3_next_91 0 rfl rfl ?_
      refine j_iconst (pc := 92) (v := (1)) hc dX3_next_92 rfl ?_
      obtain ⟨N12, eN12, hf21⟩ := ob_i hf20
      clear hf20
      refine j_mpI (pc := 93) hc ho fm_197 rfl rfl rfl rfl dX3_next_93 eN12 ?_
      exact w_X3_next_n96 hc ho hnL hrm hre hct hq fu_ _ hf21
  · have hf22 := (if_pos hh).symm.trans hf3
    clear hf3
    refine j_aload_n (pc := 68) hc dX3_next_68 0 rfl rfl ?_
    refine j_iconst (pc := 69) (v := (0)) hc dX3_next_69 rfl ?_
    obtain ⟨N13, eN13, hf23⟩ := ob_i hf22
    clear hf22
    refine j_mpI (pc := 70) hc ho fm_197 rfl rfl rfl rfl dX3_next_70 eN13 ?_
    refine j_goto (pc := 73) hc dX3_next_73 (tgt := 326) rfl ?_
    cases hf23
    exact j_vret (pc := 326) hc hq hre dX3_next_326
set_option maxRecDepth 100000 in
set_option maxHeartbeats 2000000 in
theorem w_X3_next_n0 {f : CfT} {a0 : Nat} {S : HS} {M1 : MS} (hc : cf_cc f = cX3_next) (ho : cf_ow f = "TableCatalogModel") (hnL : cf_nL f = 1) (hrm : cf_rm f = (2, 85)) (hre : cf_re f = none) (hct : cf_ct f = false) (hq : Qok f none S (some (a0, M1))) : ∀ (n : Nat)  (M : MS), f_X3_next_n0 n M = some M1 → JJ f S (some (a0, M)) 0 [(0, vr (some a0))] [] := by
  intro n
  induction n with
  | zero =>
    intro M hf
    have hf : (none : Option MS) = some M1 := hf
    cases hf
  | succ n ih =>
    intro M hf
    unfold f_X3_next_n0 at hf
    have hk_0 := ih
    refine j_aload_n (pc := 0) hc dX3_next_0 0 rfl rfl ?_
    refine j_mgI (pc := 1) hc ho fm_179 rfl dX3_next_1 ?_
    refine j_aload_n (pc := 4) hc dX3_next_4 0 rfl rfl ?_
    refine j_mgI (pc := 5) hc ho fm_182 rfl dX3_next_5 ?_
    refine j_icmp_ge (pc := 8) hc dX3_next_8 (tgt := 39) rfl (fun hh => ?_) (fun hh => ?_)
    · have hf1 := (if_pos hh).symm.trans hf
      clear hf
      exact w_X3_next_n39 hc ho hnL hrm hre hct hq hf1
    · have hf2 := (if_neg hh).symm.trans hf
      clear hf
      refine j_aload_n (pc := 11) hc dX3_next_11 0 rfl rfl ?_
      refine j_mgA (pc := 12) hc ho fm_72 rfl dX3_next_12 ?_
      refine j_aload_n (pc := 15) hc dX3_next_15 0 rfl rfl ?_
      refine j_mgI (pc := 16) hc ho fm_179 rfl dX3_next_16 ?_
      obtain ⟨v1, ev1, hf3⟩ := ob_i hf2
      clear hf2
      refine j_mldI (pc := 19) hc (k := 21) (by decide) rfl dX3_next_19 ev1 ?_
      obtain ⟨v2, ev2, hf4⟩ := ob_i hf3
      clear hf3
      refine j_callS (pc := 20) (As := [vi v1]) (rest := []) (st2 := [vi v2]) hc ho cw_X3_185 (c_X3_isBlank ev2) hrm ⟨by decide, by decide⟩ rfl (Nat.le_of_ble_eq_true rfl) dX3_next_20 rfl rfl ?_
      refine j_if_eq (pc := 23) hc dX3_next_23 (tgt := 39) rfl (fun hh => ?_) (fun hh => ?_)
      · have hf5 := (if_pos hh).symm.trans hf4
        clear hf4
        exact w_X3_next_n39 hc ho hnL hrm hre hct hq hf5
      · have hf6 := (if_neg hh).symm.trans hf4
        clear hf4
        refine j_aload_n (pc := 26) hc dX3_next_26 0 rfl rfl ?_
        refine j_dup (pc := 27) hc dX3_next_27 rfl ?_
        refine j_mgI (pc := 28) hc ho fm_179 rfl dX3_next_28 ?_
        refine j_iconst (pc := 31) (v := (1)) hc dX3_next_31 rfl ?_
        refine j_iadd (pc := 32) hc dX3_next_32 ?_
        obtain ⟨N3, eN3, hf7⟩ := ob_i hf6
        clear hf6
        refine j_mpI (pc := 33) hc ho fm_179 rfl rfl rfl rfl dX3_next_33 eN3 ?_
        refine j_goto (pc := 36) hc dX3_next_36 (tgt := 0) rfl ?_
        exact hk_0 _ hf7
set_option maxRecDepth 100000 in
set_option maxHeartbeats 2000000 in
theorem c_X3_next {l : Launch} {g : PG} {a0 : Nat} {S : HS} {M M1 : MS} (hf : f_X3_next M = some M1) : (h_nx S ≤ h_nx S ∧ h_sl S ≤ h_sl S) ∧ Ct l g yX3_next (ws_ yX3_next cX3_next 1 none) 2 85 S (some (a0, M)) [vr (some a0)] none S (some (a0, M1)) := by
  refine met_of false (by decide) (fun h => by first | rfl | cases h) rfl (Nat.le_of_ble_eq_true rfl) (fun f hl hg hc ho hnL hrm hre hct hex hq => ?_)
  subst hl
  subst hg
  unfold f_X3_next at hf
  exact w_X3_next_n0 hc ho hnL hrm hre hct hq fu_ _ hf
theorem fm_48 : FM 48 13 := ⟨by decide, q1186⟩
theorem cw_X3_210 : CV "TableCatalogModel" 210 RX3 yX3_next cX3_next 1 none 0 := ⟨⟨q1388, q1390, qs40, q90, q1391⟩, rfl, by decide, by decide, by decide +kernel⟩
def f_X3_keeps (M : MS) : Option MS :=
  (g_mA M 13 (m_I M 0)).bind fun v1 =>
  (p_mA M 14 (((400) * (m_I M 0)) + v1) (m_I M 29)).bind fun N2 =>
  (p_mA N2 15 (((400) * (m_I M 0)) + v1) (m_I N2 30)).bind fun N3 =>
  (p_mA N3 16 (((400) * (m_I M 0)) + v1) ((m_I N3 23) - (m_I N3 30))).bind fun N4 =>
  (g_mA N4 13 (m_I N4 0)).bind fun v5 =>
  (p_mA N4 13 (m_I N4 0) (v5 + (1))).bind fun N6 =>
  (f_X3_next N6).bind fun N7 =>
  some N7
set_option maxRecDepth 100000 in
set_option maxHeartbeats 2000000 in
theorem c_X3_keeps {l : Launch} {g : PG} {a0 : Nat} {S : HS} {M M1 : MS} (hf : f_X3_keeps M = some M1) : (h_nx S ≤ h_nx S ∧ h_sl S ≤ h_sl S) ∧ Ct l g yX3_keeps (ws_ yX3_keeps cX3_keeps 2 none) 3 105 S (some (a0, M)) [vr (some a0)] none S (some (a0, M1)) := by
  refine met_of false (by decide) (fun h => by first | rfl | cases h) rfl (Nat.le_of_ble_eq_true rfl) (fun f hl hg hc ho hnL hrm hre hct hex hq => ?_)
  subst hl
  subst hg
  unfold f_X3_keeps at hf
  refine j_sipush (pc := 0) (v := (400)) hc dX3_keeps_0 rfl ?_
  refine j_aload_n (pc := 3) hc dX3_keeps_3 0 rfl rfl ?_
  refine j_mgI (pc := 4) hc ho fm_159 rfl dX3_keeps_4 ?_
  refine j_imul (pc := 7) hc dX3_keeps_7 ?_
  refine j_aload_n (pc := 8) hc dX3_keeps_8 0 rfl rfl ?_
  refine j_mgA (pc := 9) hc ho fm_48 rfl dX3_keeps_9 ?_
  refine j_aload_n (pc := 12) hc dX3_keeps_12 0 rfl rfl ?_
  refine j_mgI (pc := 13) hc ho fm_159 rfl dX3_keeps_13 ?_
  obtain ⟨v1, ev1, hf1⟩ := ob_i hf
  clear hf
  refine j_mldI (pc := 16) hc (k := 13) (by decide) rfl dX3_keeps_16 ev1 ?_
  refine j_iadd (pc := 17) hc dX3_keeps_17 ?_
  refine j_istore_n (pc := 18) (L' := [(1, vi (((400) * (m_I M 0)) + v1)), (0, vr (some a0))]) hc dX3_keeps_18 rfl hnL (by decide) rfl ?_
  refine j_aload_n (pc := 19) hc dX3_keeps_19 1 rfl rfl ?_
  refine j_mgA (pc := 20) hc ho fm_51 rfl dX3_keeps_20 ?_
  refine j_iload_n (pc := 23) hc dX3_keeps_23 0 rfl rfl ?_
  refine j_aload_n (pc := 24) hc dX3_keeps_24 1 rfl rfl ?_
  refine j_mgI (pc := 25) hc ho fm_197 rfl dX3_keeps_25 ?_
  obtain ⟨N2, eN2, hf2⟩ := ob_i hf1
  clear hf1
  refine j_mstI (pc := 28) hc (k := 14) (by decide) rfl dX3_keeps_28 eN2 ?_
  refine j_aload_n (pc := 29) hc dX3_keeps_29 1 rfl rfl ?_
  refine j_mgA (pc := 30) hc ho fm_54 rfl dX3_keeps_30 ?_
  refine j_iload_n (pc := 33) hc dX3_keeps_33 0 rfl rfl ?_
  refine j_aload_n (pc := 34) hc dX3_keeps_34 1 rfl rfl ?_
  refine j_mgI (pc := 35) hc ho fm_188 rfl dX3_keeps_35 ?_
  obtain ⟨N3, eN3, hf3⟩ := ob_i hf2
  clear hf2
  refine j_mstI (pc := 38) hc (k := 15) (by decide) rfl dX3_keeps_38 eN3 ?_
  refine j_aload_n (pc := 39) hc dX3_keeps_39 1 rfl rfl ?_
  refine j_mgA (pc := 40) hc ho fm_57 rfl dX3_keeps_40 ?_
  refine j_iload_n (pc := 43) hc dX3_keeps_43 0 rfl rfl ?_
  refine j_aload_n (pc := 44) hc dX3_keeps_44 1 rfl rfl ?_
  refine j_mgI (pc := 45) hc ho fm_179 rfl dX3_keeps_45 ?_
  refine j_aload_n (pc := 48) hc dX3_keeps_48 1 rfl rfl ?_
  refine j_mgI (pc := 49) hc ho fm_188 rfl dX3_keeps_49 ?_
  refine j_isub (pc := 52) hc dX3_keeps_52 ?_
  obtain ⟨N4, eN4, hf4⟩ := ob_i hf3
  clear hf3
  refine j_mstI (pc := 53) hc (k := 16) (by decide) rfl dX3_keeps_53 eN4 ?_
  refine j_aload_n (pc := 54) hc dX3_keeps_54 1 rfl rfl ?_
  refine j_mgA (pc := 55) hc ho fm_48 rfl dX3_keeps_55 ?_
  refine j_aload_n (pc := 58) hc dX3_keeps_58 1 rfl rfl ?_
  refine j_mgI (pc := 59) hc ho fm_159 rfl dX3_keeps_59 ?_
  refine j_dup2_11 (pc := 62) hc dX3_keeps_62 rfl rfl ?_
  obtain ⟨v5, ev5, hf5⟩ := ob_i hf4
  clear hf4
  refine j_mldI (pc := 63) hc (k := 13) (by decide) rfl dX3_keeps_63 ev5 ?_
  refine j_iconst (pc := 64) (v := (1)) hc dX3_keeps_64 rfl ?_
  refine j_iadd (pc := 65) hc dX3_keeps_65 ?_
  obtain ⟨N6, eN6, hf6⟩ := ob_i hf5
  clear hf5
  refine j_mstI (pc := 66) hc (k := 13) (by decide) rfl dX3_keeps_66 eN6 ?_
  refine j_aload_n (pc := 67) hc dX3_keeps_67 1 rfl rfl ?_
  obtain ⟨N7, eN7, hf7⟩ := ob_i hf6
  clear hf6
  refine j_callV (pc := 68) (As := []) (rest := []) (st2 := []) hc ho cw_X3_210 (c_X3_next eN7) (Or.inr ⟨rfl, _, rfl⟩) hrm ⟨by decide, by decide⟩ rfl (Nat.le_of_ble_eq_true rfl) dX3_keeps_68 rfl rfl ?_
  cases hf7
  exact j_vret (pc := 71) hc hq hre dX3_keeps_71
theorem cw_X3_216 : CV "TableCatalogModel" 216 RX3 yX3_fail cX3_fail 3 none 2 := ⟨⟨q1409, q1411, qs43, q90, q1412⟩, rfl, by decide, by decide, by decide +kernel⟩
theorem cw_X3_213 : CV "TableCatalogModel" 213 RX3 yX3_keeps cX3_keeps 2 none 0 := ⟨⟨q1413, q1415, qs44, q90, q1416⟩, rfl, by decide, by decide, by decide +kernel⟩
def f_X3_sign (x1 : Int32) (M : MS) : Option MS :=
  if (m_I M 29) = x1 then
    (f_X3_keeps M).bind fun N2 =>
    some N2
  else
    (f_X3_fail (1) (m_I M 30) M).bind fun N1 =>
    some N1
set_option maxRecDepth 100000 in
set_option maxHeartbeats 2000000 in
theorem c_X3_sign {l : Launch} {g : PG} {a0 : Nat} {x1 : Int32} {S : HS} {M M1 : MS} (hf : f_X3_sign x1 M = some M1) : (h_nx S ≤ h_nx S ∧ h_sl S ≤ h_sl S) ∧ Ct l g yX3_sign (ws_ yX3_sign cX3_sign 2 none) 4 126 S (some (a0, M)) [vr (some a0), vi x1] none S (some (a0, M1)) := by
  refine met_of false (by decide) (fun h => by first | rfl | cases h) rfl (Nat.le_of_ble_eq_true rfl) (fun f hl hg hc ho hnL hrm hre hct hex hq => ?_)
  subst hl
  subst hg
  unfold f_X3_sign at hf
  refine j_aload_n (pc := 0) hc dX3_sign_0 0 rfl rfl ?_
  refine j_mgI (pc := 1) hc ho fm_197 rfl dX3_sign_1 ?_
  refine j_iload_n (pc := 4) hc dX3_sign_4 1 rfl rfl ?_
  refine j_icmp_ne (pc := 5) hc dX3_sign_5 (tgt := 15) rfl (fun hh => ?_) (fun hh => ?_)
  · have hf1 := (if_neg hh).symm.trans hf
    clear hf
    refine j_aload_n (pc := 15) hc dX3_sign_15 0 rfl rfl ?_
    refine j_iconst (pc := 16) (v := (1)) hc dX3_sign_16 rfl ?_
    refine j_aload_n (pc := 17) hc dX3_sign_17 0 rfl rfl ?_
    refine j_mgI (pc := 18) hc ho fm_188 rfl dX3_sign_18 ?_
    obtain ⟨N1, eN1, hf2⟩ := ob_i hf1
    clear hf1
    refine j_callV (pc := 21) (As := [vi (1), vi (m_I M 30)]) (rest := []) (st2 := []) hc ho cw_X3_216 (c_X3_fail eN1) (Or.inr ⟨rfl, _, rfl⟩) hrm ⟨by decide, by decide⟩ rfl (Nat.le_of_ble_eq_true rfl) dX3_sign_21 rfl rfl ?_
    cases hf2
    exact j_vret (pc := 24) hc hq hre dX3_sign_24
  · have hf3 := (if_pos hh).symm.trans hf
    clear hf
    refine j_aload_n (pc := 8) hc dX3_sign_8 0 rfl rfl ?_
    obtain ⟨N2, eN2, hf4⟩ := ob_i hf3
    clear hf3
    refine j_callV (pc := 9) (As := []) (rest := []) (st2 := []) hc ho cw_X3_213 (c_X3_keeps eN2) (Or.inr ⟨rfl, _, rfl⟩) hrm ⟨by decide, by decide⟩ rfl (Nat.le_of_ble_eq_true rfl) dX3_sign_9 rfl rfl ?_
    refine j_goto (pc := 12) hc dX3_sign_12 (tgt := 24) rfl ?_
    cases hf4
    exact j_vret (pc := 24) hc hq hre dX3_sign_24
theorem fm_83 : FM 83 33 := ⟨by decide, q1206⟩
theorem fm_87 : FM 87 34 := ⟨by decide, q1207⟩
theorem fm_90 : FM 90 35 := ⟨by decide, q1208⟩
theorem fm_93 : FM 93 36 := ⟨by decide, q1209⟩
theorem fm_96 : FM 96 37 := ⟨by decide, q1210⟩
theorem fm_102 : FM 102 39 := ⟨by decide, q1212⟩
def f_X3_isName (M : MS) : Option (Int32 × MS) :=
  if (m_I M 29) = (1) then
    if (m_I M 31) = (-1) then
      if (lg_cmp (m_J M 32) (m_J M 33)) = 0 then
        some ((0), M)
      else
        if (lg_cmp (m_J M 32) (m_J M 34)) = 0 then
          some ((0), M)
        else
          if (lg_cmp (m_J M 32) (m_J M 35)) = 0 then
            some ((0), M)
          else
            if (lg_cmp (m_J M 32) (m_J M 36)) = 0 then
              some ((0), M)
            else
              if (lg_cmp (m_J M 32) (m_J M 37)) = 0 then
                some ((0), M)
              else
                if (lg_cmp (m_J M 32) (m_J M 38)) = 0 then
                  some ((0), M)
                else
                  if (lg_cmp (m_J M 32) (m_J M 39)) = 0 then
                    some ((0), M)
                  else
                    some ((1), M)
    else
      some ((0), M)
  else
    some ((0), M)
set_option maxRecDepth 100000 in
set_option maxHeartbeats 2000000 in
theorem c_X3_isName {l : Launch} {g : PG} {a0 : Nat} {r : Int32} {S : HS} {M M1 : MS} (hf : f_X3_isName M = some (r, M1)) : (h_nx S ≤ h_nx S ∧ h_sl S ≤ h_sl S) ∧ Ct l g yX3_isName (ws_ yX3_isName cX3_isName 1 (some (.boolean))) 1 60 S (some (a0, M)) [vr (some a0)] (some (vi r)) S (some (a0, M1)) := by
  refine met_of false (by decide) (fun h => by first | rfl | cases h) rfl (Nat.le_of_ble_eq_true rfl) (fun f hl hg hc ho hnL hrm hre hct hex hq => ?_)
  subst hl
  subst hg
  unfold f_X3_isName at hf
  refine j_aload_n (pc := 0) hc dX3_isName_0 0 rfl rfl ?_
  refine j_mgI (pc := 1) hc ho fm_197 rfl dX3_isName_1 ?_
  refine j_iconst (pc := 4) (v := (1)) hc dX3_isName_4 rfl ?_
  refine j_icmp_ne (pc := 5) hc dX3_isName_5 (tgt := 104) rfl (fun hh => ?_) (fun hh => ?_)
  · have hf1 := (if_neg hh).symm.trans hf
    clear hf
    refine j_iconst (pc := 104) (v := (0)) hc dX3_isName_104 rfl ?_
    cases hf1
    exact j_iret (pc := 105) hc hq hre rfl dX3_isName_105
  · have hf2 := (if_pos hh).symm.trans hf
    clear hf
    refine j_aload_n (pc := 8) hc dX3_isName_8 0 rfl rfl ?_
    refine j_mgI (pc := 9) hc ho fm_191 rfl dX3_isName_9 ?_
    refine j_iconst (pc := 12) (v := (-1)) hc dX3_isName_12 rfl ?_
    refine j_icmp_ne (pc := 13) hc dX3_isName_13 (tgt := 104) rfl (fun hh => ?_) (fun hh => ?_)
    · have hf3 := (if_neg hh).symm.trans hf2
      clear hf2
      refine j_iconst (pc := 104) (v := (0)) hc dX3_isName_104 rfl ?_
      cases hf3
      exact j_iret (pc := 105) hc hq hre rfl dX3_isName_105
    · have hf4 := (if_pos hh).symm.trans hf2
      clear hf2
      refine j_aload_n (pc := 16) hc dX3_isName_16 0 rfl rfl ?_
      refine j_mgJ (pc := 17) hc ho fm_194 rfl dX3_isName_17 ?_
      refine j_aload_n (pc := 20) hc dX3_isName_20 0 rfl rfl ?_
      refine j_mgJ (pc := 21) hc ho fm_83 rfl dX3_isName_21 ?_
      refine j_lcmp (pc := 24) hc dX3_isName_24 ?_
      refine j_if_eq (pc := 25) hc dX3_isName_25 (tgt := 104) rfl (fun hh => ?_) (fun hh => ?_)
      · have hf5 := (if_pos hh).symm.trans hf4
        clear hf4
        refine j_iconst (pc := 104) (v := (0)) hc dX3_isName_104 rfl ?_
        cases hf5
        exact j_iret (pc := 105) hc hq hre rfl dX3_isName_105
      · have hf6 := (if_neg hh).symm.trans hf4
        clear hf4
        refine j_aload_n (pc := 28) hc dX3_isName_28 0 rfl rfl ?_
        refine j_mgJ (pc := 29) hc ho fm_194 rfl dX3_isName_29 ?_
        refine j_aload_n (pc := 32) hc dX3_isName_32 0 rfl rfl ?_
        refine j_mgJ (pc := 33) hc ho fm_87 rfl dX3_isName_33 ?_
        refine j_lcmp (pc := 36) hc dX3_isName_36 ?_
        refine j_if_eq (pc := 37) hc dX3_isName_37 (tgt := 104) rfl (fun hh => ?_) (fun hh => ?_)
        · have hf7 := (if_pos hh).symm.trans hf6
          clear hf6
          refine j_iconst (pc := 104) (v := (0)) hc dX3_isName_104 rfl ?_
          cases hf7
          exact j_iret (pc := 105) hc hq hre rfl dX3_isName_105
        · have hf8 := (if_neg hh).symm.trans hf6
          clear hf6
          refine j_aload_n (pc := 40) hc dX3_isName_40 0 rfl rfl ?_
          refine j_mgJ (pc := 41) hc ho fm_194 rfl dX3_isName_41 ?_
          refine j_aload_n (pc := 44) hc dX3_isName_44 0 rfl rfl ?_
          refine j_mgJ (pc := 45) hc ho fm_90 rfl dX3_isName_45 ?_
          refine j_lcmp (pc := 48) hc dX3_isName_48 ?_
          refine j_if_eq (pc := 49) hc dX3_isName_49 (tgt := 104) rfl (fun hh => ?_) (fun hh => ?_)
          · have hf9 := (if_pos hh).symm.trans hf8
            clear hf8
            refine j_iconst (pc := 104) (v := (0)) hc dX3_isName_104 rfl ?_
            cases hf9
            exact j_iret (pc := 105) hc hq hre rfl dX3_isName_105
          · have hf10 := (if_neg hh).symm.trans hf8
            clear hf8
            refine j_aload_n (pc := 52) hc dX3_isName_52 0 rfl rfl ?_
            refine j_mgJ (pc := 53) hc ho fm_194 rfl dX3_isName_53 ?_
            refine j_aload_n (pc := 56) hc dX3_isName_56 0 rfl rfl ?_
            refine j_mgJ (pc := 57) hc ho fm_93 rfl dX3_isName_57 ?_
            refine j_lcmp (pc := 60) hc dX3_isName_60 ?_
            refine j_if_eq (pc := 61) hc dX3_isName_61 (tgt := 104) rfl (fun hh => ?_) (fun hh => ?_)
            · have hf11 := (if_pos hh).symm.trans hf10
              clear hf10
              refine j_iconst (pc := 104) (v := (0)) hc dX3_isName_104 rfl ?_
              cases hf11
              exact j_iret (pc := 105) hc hq hre rfl dX3_isName_105
            · have hf12 := (if_neg hh).symm.trans hf10
              clear hf10
              refine j_aload_n (pc := 64) hc dX3_isName_64 0 rfl rfl ?_
              refine j_mgJ (pc := 65) hc ho fm_194 rfl dX3_isName_65 ?_
              refine j_aload_n (pc := 68) hc dX3_isName_68 0 rfl rfl ?_
              refine j_mgJ (pc := 69) hc ho fm_96 rfl dX3_isName_69 ?_
              refine j_lcmp (pc := 72) hc dX3_isName_72 ?_
              refine j_if_eq (pc := 73) hc dX3_isName_73 (tgt := 104) rfl (fun hh => ?_) (fun hh => ?_)
              · have hf13 := (if_pos hh).symm.trans hf12
                clear hf12
                refine j_iconst (pc := 104) (v := (0)) hc dX3_isName_104 rfl ?_
                cases hf13
                exact j_iret (pc := 105) hc hq hre rfl dX3_isName_105
              · have hf14 := (if_neg hh).symm.trans hf12
                clear hf12
                refine j_aload_n (pc := 76) hc dX3_isName_76 0 rfl rfl ?_
                refine j_mgJ (pc := 77) hc ho fm_194 rfl dX3_isName_77 ?_
                refine j_aload_n (pc := 80) hc dX3_isName_80 0 rfl rfl ?_
                refine j_mgJ (pc := 81) hc ho fm_99 rfl dX3_isName_81 ?_
                refine j_lcmp (pc := 84) hc dX3_isName_84 ?_
                refine j_if_eq (pc := 85) hc dX3_isName_85 (tgt := 104) rfl (fun hh => ?_) (fun hh => ?_)
                · have hf15 := (if_pos hh).symm.trans hf14
                  clear hf14
                  refine j_iconst (pc := 104) (v := (0)) hc dX3_isName_104 rfl ?_
                  cases hf15
                  exact j_iret (pc := 105) hc hq hre rfl dX3_isName_105
                · have hf16 := (if_neg hh).symm.trans hf14
                  clear hf14
                  refine j_aload_n (pc := 88) hc dX3_isName_88 0 rfl rfl ?_
                  refine j_mgJ (pc := 89) hc ho fm_194 rfl dX3_isName_89 ?_
                  refine j_aload_n (pc := 92) hc dX3_isName_92 0 rfl rfl ?_
                  refine j_mgJ (pc := 93) hc ho fm_102 rfl dX3_isName_93 ?_
                  refine j_lcmp (pc := 96) hc dX3_isName_96 ?_
                  refine j_if_eq (pc := 97) hc dX3_isName_97 (tgt := 104) rfl (fun hh => ?_) (fun hh => ?_)
                  · have hf17 := (if_pos hh).symm.trans hf16
                    clear hf16
                    refine j_iconst (pc := 104) (v := (0)) hc dX3_isName_104 rfl ?_
                    cases hf17
                    exact j_iret (pc := 105) hc hq hre rfl dX3_isName_105
                  · have hf18 := (if_neg hh).symm.trans hf16
                    clear hf16
                    refine j_iconst (pc := 100) (v := (1)) hc dX3_isName_100 rfl ?_
                    refine j_goto (pc := 101) hc dX3_isName_101 (tgt := 105) rfl ?_
                    cases hf18
                    exact j_iret (pc := 105) hc hq hre rfl dX3_isName_105
theorem cw_X3_220 : CV "TableCatalogModel" 220 RX3 yX3_isName cX3_isName 1 (some (.boolean)) 0 := ⟨⟨q1421, q1423, qs46, q90, q1424⟩, rfl, by decide, by decide, by decide +kernel⟩
def f_X3_name_n28 (M : MS) : Option MS :=
  o_bd (f_X3_isName M) fun v2 N1 =>
  if v2 = 0 then
    (f_X3_fail (1) (m_I N1 30) N1).bind fun N4 =>
    some N4
  else
    (f_X3_keeps N1).bind fun N3 =>
    some N3
def f_X3_name (M : MS) : Option MS :=
  if (m_I M 29) = (1) then
    if (m_I M 31) = (-1) then
      f_X3_name_n28 M
    else
      (f_X3_fail (1) (m_I M 31) M).bind fun N1 =>
      some N1
  else
    f_X3_name_n28 M
set_option maxRecDepth 100000 in
set_option maxHeartbeats 2000000 in
theorem w_X3_name_n28 {f : CfT} {a0 : Nat} {S : HS} {M1 : MS} (hc : cf_cc f = cX3_name) (ho : cf_ow f = "TableCatalogModel") (hnL : cf_nL f = 1) (hrm : cf_rm f = (4, 126)) (hre : cf_re f = none) (hct : cf_ct f = false) (hq : Qok f none S (some (a0, M1))) {M : MS} (hf : f_X3_name_n28 M = some M1) : JJ f S (some (a0, M)) 28 [(0, vr (some a0))] [] := by
  unfold f_X3_name_n28 at hf
  refine j_aload_n (pc := 28) hc dX3_name_28 0 rfl rfl ?_
  obtain ⟨v2, N1, ev2, hf1⟩ := ob_c hf
  clear hf
  refine j_callV (pc := 29) (As := []) (rest := []) (st2 := [vi v2]) hc ho cw_X3_220 (c_X3_isName ev2) (Or.inr ⟨rfl, _, rfl⟩) hrm ⟨by decide, by decide⟩ rfl (Nat.le_of_ble_eq_true rfl) dX3_name_29 rfl rfl ?_
  refine j_if_ne (pc := 32) hc dX3_name_32 (tgt := 47) rfl (fun hh => ?_) (fun hh => ?_)
  · have hf2 := (if_neg hh).symm.trans hf1
    clear hf1
    refine j_aload_n (pc := 47) hc dX3_name_47 0 rfl rfl ?_
    obtain ⟨N3, eN3, hf3⟩ := ob_i hf2
    clear hf2
    refine j_callV (pc := 48) (As := []) (rest := []) (st2 := []) hc ho cw_X3_213 (c_X3_keeps eN3) (Or.inr ⟨rfl, _, rfl⟩) hrm ⟨by decide, by decide⟩ rfl (Nat.le_of_ble_eq_true rfl) dX3_name_48 rfl rfl ?_
    cases hf3
    exact j_vret (pc := 51) hc hq hre dX3_name_51
  · have hf4 := (if_pos hh).symm.trans hf1
    clear hf1
    refine j_aload_n (pc := 35) hc dX3_name_35 0 rfl rfl ?_
    refine j_iconst (pc := 36) (v := (1)) hc dX3_name_36 rfl ?_
    refine j_aload_n (pc := 37) hc dX3_name_37 0 rfl rfl ?_
    refine j_mgI (pc := 38) hc ho fm_188 rfl dX3_name_38 ?_
    obtain ⟨N4, eN4, hf5⟩ := ob_i hf4
    clear hf4
    refine j_callV (pc := 41) (As := [vi (1), vi (m_I N1 30)]) (rest := []) (st2 := []) hc ho cw_X3_216 (c_X3_fail eN4) (Or.inr ⟨rfl, _, rfl⟩) hrm ⟨by decide, by decide⟩ rfl (Nat.le_of_ble_eq_true rfl) dX3_name_41 rfl rfl ?_
    refine j_goto (pc := 44) hc dX3_name_44 (tgt := 51) rfl ?_
    cases hf5
    exact j_vret (pc := 51) hc hq hre dX3_name_51
set_option maxRecDepth 100000 in
set_option maxHeartbeats 2000000 in
theorem c_X3_name {l : Launch} {g : PG} {a0 : Nat} {S : HS} {M M1 : MS} (hf : f_X3_name M = some M1) : (h_nx S ≤ h_nx S ∧ h_sl S ≤ h_sl S) ∧ Ct l g yX3_name (ws_ yX3_name cX3_name 1 none) 4 126 S (some (a0, M)) [vr (some a0)] none S (some (a0, M1)) := by
  refine met_of false (by decide) (fun h => by first | rfl | cases h) rfl (Nat.le_of_ble_eq_true rfl) (fun f hl hg hc ho hnL hrm hre hct hex hq => ?_)
  subst hl
  subst hg
  unfold f_X3_name at hf
  refine j_aload_n (pc := 0) hc dX3_name_0 0 rfl rfl ?_
  refine j_mgI (pc := 1) hc ho fm_197 rfl dX3_name_1 ?_
  refine j_iconst (pc := 4) (v := (1)) hc dX3_name_4 rfl ?_
  refine j_icmp_ne (pc := 5) hc dX3_name_5 (tgt := 28) rfl (fun hh => ?_) (fun hh => ?_)
  · have hf1 := (if_neg hh).symm.trans hf
    clear hf
    exact w_X3_name_n28 hc ho hnL hrm hre hct hq hf1
  · have hf2 := (if_pos hh).symm.trans hf
    clear hf
    refine j_aload_n (pc := 8) hc dX3_name_8 0 rfl rfl ?_
    refine j_mgI (pc := 9) hc ho fm_191 rfl dX3_name_9 ?_
    refine j_iconst (pc := 12) (v := (-1)) hc dX3_name_12 rfl ?_
    refine j_icmp_eq (pc := 13) hc dX3_name_13 (tgt := 28) rfl (fun hh => ?_) (fun hh => ?_)
    · have hf3 := (if_pos hh).symm.trans hf2
      clear hf2
      exact w_X3_name_n28 hc ho hnL hrm hre hct hq hf3
    · have hf4 := (if_neg hh).symm.trans hf2
      clear hf2
      refine j_aload_n (pc := 16) hc dX3_name_16 0 rfl rfl ?_
      refine j_iconst (pc := 17) (v := (1)) hc dX3_name_17 rfl ?_
      refine j_aload_n (pc := 18) hc dX3_name_18 0 rfl rfl ?_
      refine j_mgI (pc := 19) hc ho fm_191 rfl dX3_name_19 ?_
      obtain ⟨N1, eN1, hf5⟩ := ob_i hf4
      clear hf4
      refine j_callV (pc := 22) (As := [vi (1), vi (m_I M 31)]) (rest := []) (st2 := []) hc ho cw_X3_216 (c_X3_fail eN1) (Or.inr ⟨rfl, _, rfl⟩) hrm ⟨by decide, by decide⟩ rfl (Nat.le_of_ble_eq_true rfl) dX3_name_22 rfl rfl ?_
      refine j_goto (pc := 25) hc dX3_name_25 (tgt := 51) rfl ?_
      cases hf5
      exact j_vret (pc := 51) hc hq hre dX3_name_51
theorem cw_X3_238 : CV "TableCatalogModel" 238 RX3 yX3_name cX3_name 1 none 0 := ⟨⟨q1417, q1419, qs45, q90, q1420⟩, rfl, by decide, by decide, by decide +kernel⟩
theorem cw_X3_231 : CV "TableCatalogModel" 231 RX3 yX3_sign cX3_sign 2 none 1 := ⟨⟨q1429, q1431, qs48, q90, q1432⟩, rfl, by decide, by decide, by decide +kernel⟩
def f_X3_term_n83 (k_43 : MS → Option MS) (M : MS) : Option MS :=
  (some (m_sI M 23 ((m_I M 23) + (1)))).bind fun N1 =>
  k_43 N1
def f_X3_term_n121 (M : MS) : Option MS :=
  (f_X3_fail (1) (m_I M 23) M).bind fun N1 =>
  some N1
def f_X3_term_n96 (M : MS) : Option MS :=
  if (m_I M 23) = (m_I M 24) then
    f_X3_term_n121 M
  else
    (g_mA M 21 (m_I M 23)).bind fun v1 =>
    if v1 = (39) then
      (some (m_sI M 23 ((m_I M 23) + (1)))).bind fun N2 =>
      (f_X3_keeps N2).bind fun N3 =>
      some N3
    else
      f_X3_term_n121 M
def f_X3_term_n43 : Nat → MS → Option MS
  | 0, _ => none
  | n + 1, M =>
    if (m_I M 24) ≤ (m_I M 23) then
      f_X3_term_n96 M
    else
      (g_mA M 21 (m_I M 23)).bind fun v1 =>
      (f_X3_isLetter v1).bind fun v2 =>
      if v2 = 0 then
        (g_mA M 21 (m_I M 23)).bind fun v3 =>
        if v3 = (32) then
          f_X3_term_n83 (fun  M => f_X3_term_n43 n  M) M
        else
          f_X3_term_n96 M
      else
        f_X3_term_n83 (fun  M => f_X3_term_n43 n  M) M
def f_X3_term_n165 (M : MS) : Option MS :=
  if (m_I M 25) = 0 then
    (f_X3_name M).bind fun N1 =>
    some N1
  else
    some M
def f_X3_term (M : MS) : Option MS :=
  if (m_I M 29) = (2) then
    if (m_I M 31) = (-1) then
      (f_X3_keeps M).bind fun N3 =>
      some N3
    else
      (f_X3_fail (1) (m_I M 31) M).bind fun N4 =>
      some N4
  else
    if (m_I M 29) = (3) then
      f_X3_term_n43 fu_ M
    else
      (f_X3_name M).bind fun N1 =>
      if (m_I N1 25) = 0 then
        (f_X3_sign (46) N1).bind fun N2 =>
        f_X3_term_n165 N2
      else
        f_X3_term_n165 N1
set_option maxRecDepth 100000 in
set_option maxHeartbeats 2000000 in
theorem w_X3_term_n83 {f : CfT} {a0 : Nat} {S : HS} {M1 : MS} (hc : cf_cc f = cX3_term) (ho : cf_ow f = "TableCatalogModel") (hnL : cf_nL f = 1) (hrm : cf_rm f = (5, 147)) (hre : cf_re f = none) (hct : cf_ct f = false) (hq : Qok f none S (some (a0, M1))) {k_43 : MS → Option MS} (hk_43 : ∀  (M : MS), k_43 M = some M1 → JJ f S (some (a0, M)) 43 [(0, vr (some a0))] []) {M : MS} (hf : f_X3_term_n83 k_43 M = some M1) : JJ f S (some (a0, M)) 83 [(0, vr (some a0))] [] := by
  unfold f_X3_term_n83 at hf
  refine j_aload_n (pc := 83) hc dX3_term_83 0 rfl rfl ?_
  refine j_dup (pc := 84) hc dX3_term_84 rfl ?_
  refine j_mgI (pc := 85) hc ho fm_179 rfl dX3_term_85 ?_
  refine j_iconst (pc := 88) (v := (1)) hc dX3_term_88 rfl ?_
  refine j_iadd (pc := 89) hc dX3_term_89 ?_
  obtain ⟨N1, eN1, hf1⟩ := ob_i hf
  clear hf
  refine j_mpI (pc := 90) hc ho fm_179 rfl rfl rfl rfl dX3_term_90 eN1 ?_
  refine j_goto (pc := 93) hc dX3_term_93 (tgt := 43) rfl ?_
  exact hk_43 _ hf1
set_option maxRecDepth 100000 in
set_option maxHeartbeats 2000000 in
theorem w_X3_term_n121 {f : CfT} {a0 : Nat} {S : HS} {M1 : MS} (hc : cf_cc f = cX3_term) (ho : cf_ow f = "TableCatalogModel") (hnL : cf_nL f = 1) (hrm : cf_rm f = (5, 147)) (hre : cf_re f = none) (hct : cf_ct f = false) (hq : Qok f none S (some (a0, M1))) {M : MS} (hf : f_X3_term_n121 M = some M1) : JJ f S (some (a0, M)) 121 [(0, vr (some a0))] [] := by
  unfold f_X3_term_n121 at hf
  refine j_aload_n (pc := 121) hc dX3_term_121 0 rfl rfl ?_
  refine j_iconst (pc := 122) (v := (1)) hc dX3_term_122 rfl ?_
  refine j_aload_n (pc := 123) hc dX3_term_123 0 rfl rfl ?_
  refine j_mgI (pc := 124) hc ho fm_179 rfl dX3_term_124 ?_
  obtain ⟨N1, eN1, hf1⟩ := ob_i hf
  clear hf
  refine j_callV (pc := 127) (As := [vi (1), vi (m_I M 23)]) (rest := []) (st2 := []) hc ho cw_X3_216 (c_X3_fail eN1) (Or.inr ⟨rfl, _, rfl⟩) hrm ⟨by decide, by decide⟩ rfl (Nat.le_of_ble_eq_true rfl) dX3_term_127 rfl rfl ?_
  cases hf1
  exact j_vret (pc := 130) hc hq hre dX3_term_130
set_option maxRecDepth 100000 in
set_option maxHeartbeats 2000000 in
theorem w_X3_term_n96 {f : CfT} {a0 : Nat} {S : HS} {M1 : MS} (hc : cf_cc f = cX3_term) (ho : cf_ow f = "TableCatalogModel") (hnL : cf_nL f = 1) (hrm : cf_rm f = (5, 147)) (hre : cf_re f = none) (hct : cf_ct f = false) (hq : Qok f none S (some (a0, M1))) {M : MS} (hf : f_X3_term_n96 M = some M1) : JJ f S (some (a0, M)) 96 [(0, vr (some a0))] [] := by
  unfold f_X3_term_n96 at hf
  refine j_aload_n (pc := 96) hc dX3_term_96 0 rfl rfl ?_
  refine j_mgI (pc := 97) hc ho fm_179 rfl dX3_term_97 ?_
  refine j_aload_n (pc := 100) hc dX3_term_100 0 rfl rfl ?_
  refine j_mgI (pc := 101) hc ho fm_182 rfl dX3_term_101 ?_
  refine j_icmp_eq (pc := 104) hc dX3_term_104 (tgt := 121) rfl (fun hh => ?_) (fun hh => ?_)
  · have hf1 := (if_pos hh).symm.trans hf
    clear hf
    exact w_X3_term_n121 hc ho hnL hrm hre hct hq hf1
  · have hf2 := (if_neg hh).symm.trans hf
    clear hf
    refine j_aload_n (pc := 107) hc dX3_term_107 0 rfl rfl ?_
    refine j_mgA (pc := 108) hc ho fm_72 rfl dX3_term_108 ?_
    refine j_aload_n (pc := 111) hc dX3_term_111 0 rfl rfl ?_
    refine j_mgI (pc := 112) hc ho fm_179 rfl dX3_term_112 ?_
    obtain ⟨v1, ev1, hf3⟩ := ob_i hf2
    clear hf2
    refine j_mldI (pc := 115) hc (k := 21) (by decide) rfl dX3_term_115 ev1 ?_
    refine j_bipush (pc := 116) (v := (39)) hc dX3_term_116 rfl ?_
    refine j_icmp_eq (pc := 118) hc dX3_term_118 (tgt := 131) rfl (fun hh => ?_) (fun hh => ?_)
    · have hf4 := (if_pos hh).symm.trans hf3
      clear hf3
      refine j_aload_n (pc := 131) hc dX3_term_131 0 rfl rfl ?_
      refine j_dup (pc := 132) hc dX3_term_132 rfl ?_
      refine j_mgI (pc := 133) hc ho fm_179 rfl dX3_term_133 ?_
      refine j_iconst (pc := 136) (v := (1)) hc dX3_term_136 rfl ?_
      refine j_iadd (pc := 137) hc dX3_term_137 ?_
      obtain ⟨N2, eN2, hf5⟩ := ob_i hf4
      clear hf4
      refine j_mpI (pc := 138) hc ho fm_179 rfl rfl rfl rfl dX3_term_138 eN2 ?_
      refine j_aload_n (pc := 141) hc dX3_term_141 0 rfl rfl ?_
      obtain ⟨N3, eN3, hf6⟩ := ob_i hf5
      clear hf5
      refine j_callV (pc := 142) (As := []) (rest := []) (st2 := []) hc ho cw_X3_213 (c_X3_keeps eN3) (Or.inr ⟨rfl, _, rfl⟩) hrm ⟨by decide, by decide⟩ rfl (Nat.le_of_ble_eq_true rfl) dX3_term_142 rfl rfl ?_
      refine j_goto (pc := 145) hc dX3_term_145 (tgt := 176) rfl ?_
      cases hf6
      exact j_vret (pc := 176) hc hq hre dX3_term_176
    · have hf7 := (if_neg hh).symm.trans hf3
      clear hf3
      exact w_X3_term_n121 hc ho hnL hrm hre hct hq hf7
set_option maxRecDepth 100000 in
set_option maxHeartbeats 2000000 in
theorem w_X3_term_n43 {f : CfT} {a0 : Nat} {S : HS} {M1 : MS} (hc : cf_cc f = cX3_term) (ho : cf_ow f = "TableCatalogModel") (hnL : cf_nL f = 1) (hrm : cf_rm f = (5, 147)) (hre : cf_re f = none) (hct : cf_ct f = false) (hq : Qok f none S (some (a0, M1))) : ∀ (n : Nat)  (M : MS), f_X3_term_n43 n M = some M1 → JJ f S (some (a0, M)) 43 [(0, vr (some a0))] [] := by
  intro n
  induction n with
  | zero =>
    intro M hf
    have hf : (none : Option MS) = some M1 := hf
    cases hf
  | succ n ih =>
    intro M hf
    unfold f_X3_term_n43 at hf
    have hk_43 := ih
    refine j_aload_n (pc := 43) hc dX3_term_43 0 rfl rfl ?_
    refine j_mgI (pc := 44) hc ho fm_179 rfl dX3_term_44 ?_
    refine j_aload_n (pc := 47) hc dX3_term_47 0 rfl rfl ?_
    refine j_mgI (pc := 48) hc ho fm_182 rfl dX3_term_48 ?_
    refine j_icmp_ge (pc := 51) hc dX3_term_51 (tgt := 96) rfl (fun hh => ?_) (fun hh => ?_)
    · have hf1 := (if_pos hh).symm.trans hf
      clear hf
      exact w_X3_term_n96 hc ho hnL hrm hre hct hq hf1
    · have hf2 := (if_neg hh).symm.trans hf
      clear hf
      refine j_aload_n (pc := 54) hc dX3_term_54 0 rfl rfl ?_
      refine j_mgA (pc := 55) hc ho fm_72 rfl dX3_term_55 ?_
      refine j_aload_n (pc := 58) hc dX3_term_58 0 rfl rfl ?_
      refine j_mgI (pc := 59) hc ho fm_179 rfl dX3_term_59 ?_
      obtain ⟨v1, ev1, hf3⟩ := ob_i hf2
      clear hf2
      refine j_mldI (pc := 62) hc (k := 21) (by decide) rfl dX3_term_62 ev1 ?_
      obtain ⟨v2, ev2, hf4⟩ := ob_i hf3
      clear hf3
      refine j_callS (pc := 63) (As := [vi v1]) (rest := []) (st2 := [vi v2]) hc ho cw_X3_200 (c_X3_isLetter ev2) hrm ⟨by decide, by decide⟩ rfl (Nat.le_of_ble_eq_true rfl) dX3_term_63 rfl rfl ?_
      refine j_if_ne (pc := 66) hc dX3_term_66 (tgt := 83) rfl (fun hh => ?_) (fun hh => ?_)
      · have hf5 := (if_neg hh).symm.trans hf4
        clear hf4
        exact w_X3_term_n83 hc ho hnL hrm hre hct hq hk_43 hf5
      · have hf6 := (if_pos hh).symm.trans hf4
        clear hf4
        refine j_aload_n (pc := 69) hc dX3_term_69 0 rfl rfl ?_
        refine j_mgA (pc := 70) hc ho fm_72 rfl dX3_term_70 ?_
        refine j_aload_n (pc := 73) hc dX3_term_73 0 rfl rfl ?_
        refine j_mgI (pc := 74) hc ho fm_179 rfl dX3_term_74 ?_
        obtain ⟨v3, ev3, hf7⟩ := ob_i hf6
        clear hf6
        refine j_mldI (pc := 77) hc (k := 21) (by decide) rfl dX3_term_77 ev3 ?_
        refine j_bipush (pc := 78) (v := (32)) hc dX3_term_78 rfl ?_
        refine j_icmp_ne (pc := 80) hc dX3_term_80 (tgt := 96) rfl (fun hh => ?_) (fun hh => ?_)
        · have hf8 := (if_neg hh).symm.trans hf7
          clear hf7
          exact w_X3_term_n96 hc ho hnL hrm hre hct hq hf8
        · have hf9 := (if_pos hh).symm.trans hf7
          clear hf7
          exact w_X3_term_n83 hc ho hnL hrm hre hct hq hk_43 hf9
set_option maxRecDepth 100000 in
set_option maxHeartbeats 2000000 in
theorem w_X3_term_n165 {f : CfT} {a0 : Nat} {S : HS} {M1 : MS} (hc : cf_cc f = cX3_term) (ho : cf_ow f = "TableCatalogModel") (hnL : cf_nL f = 1) (hrm : cf_rm f = (5, 147)) (hre : cf_re f = none) (hct : cf_ct f = false) (hq : Qok f none S (some (a0, M1))) {M : MS} (hf : f_X3_term_n165 M = some M1) : JJ f S (some (a0, M)) 165 [(0, vr (some a0))] [] := by
  unfold f_X3_term_n165 at hf
  refine j_aload_n (pc := 165) hc dX3_term_165 0 rfl rfl ?_
  refine j_mgI (pc := 166) hc ho fm_169 rfl dX3_term_166 ?_
  refine j_if_ne (pc := 169) hc dX3_term_169 (tgt := 176) rfl (fun hh => ?_) (fun hh => ?_)
  · have hf1 := (if_neg hh).symm.trans hf
    clear hf
    cases hf1
    exact j_vret (pc := 176) hc hq hre dX3_term_176
  · have hf2 := (if_pos hh).symm.trans hf
    clear hf
    refine j_aload_n (pc := 172) hc dX3_term_172 0 rfl rfl ?_
    obtain ⟨N1, eN1, hf3⟩ := ob_i hf2
    clear hf2
    refine j_callV (pc := 173) (As := []) (rest := []) (st2 := []) hc ho cw_X3_238 (c_X3_name eN1) (Or.inr ⟨rfl, _, rfl⟩) hrm ⟨by decide, by decide⟩ rfl (Nat.le_of_ble_eq_true rfl) dX3_term_173 rfl rfl ?_
    cases hf3
    exact j_vret (pc := 176) hc hq hre dX3_term_176
set_option maxRecDepth 100000 in
set_option maxHeartbeats 2000000 in
theorem c_X3_term {l : Launch} {g : PG} {a0 : Nat} {S : HS} {M M1 : MS} (hf : f_X3_term M = some M1) : (h_nx S ≤ h_nx S ∧ h_sl S ≤ h_sl S) ∧ Ct l g yX3_term (ws_ yX3_term cX3_term 1 none) 5 147 S (some (a0, M)) [vr (some a0)] none S (some (a0, M1)) := by
  refine met_of false (by decide) (fun h => by first | rfl | cases h) rfl (Nat.le_of_ble_eq_true rfl) (fun f hl hg hc ho hnL hrm hre hct hex hq => ?_)
  subst hl
  subst hg
  unfold f_X3_term at hf
  refine j_aload_n (pc := 0) hc dX3_term_0 0 rfl rfl ?_
  refine j_mgI (pc := 1) hc ho fm_197 rfl dX3_term_1 ?_
  refine j_iconst (pc := 4) (v := (2)) hc dX3_term_4 rfl ?_
  refine j_icmp_ne (pc := 5) hc dX3_term_5 (tgt := 35) rfl (fun hh => ?_) (fun hh => ?_)
  · have hf1 := (if_neg hh).symm.trans hf
    clear hf
    refine j_aload_n (pc := 35) hc dX3_term_35 0 rfl rfl ?_
    refine j_mgI (pc := 36) hc ho fm_197 rfl dX3_term_36 ?_
    refine j_iconst (pc := 39) (v := (3)) hc dX3_term_39 rfl ?_
    refine j_icmp_ne (pc := 40) hc dX3_term_40 (tgt := 148) rfl (fun hh => ?_) (fun hh => ?_)
    · have hf2 := (if_neg hh).symm.trans hf1
      clear hf1
      refine j_aload_n (pc := 148) hc dX3_term_148 0 rfl rfl ?_
      obtain ⟨N1, eN1, hf3⟩ := ob_i hf2
      clear hf2
      refine j_callV (pc := 149) (As := []) (rest := []) (st2 := []) hc ho cw_X3_238 (c_X3_name eN1) (Or.inr ⟨rfl, _, rfl⟩) hrm ⟨by decide, by decide⟩ rfl (Nat.le_of_ble_eq_true rfl) dX3_term_149 rfl rfl ?_
      refine j_aload_n (pc := 152) hc dX3_term_152 0 rfl rfl ?_
      refine j_mgI (pc := 153) hc ho fm_169 rfl dX3_term_153 ?_
      refine j_if_ne (pc := 156) hc dX3_term_156 (tgt := 165) rfl (fun hh => ?_) (fun hh => ?_)
      · have hf4 := (if_neg hh).symm.trans hf3
        clear hf3
        exact w_X3_term_n165 hc ho hnL hrm hre hct hq hf4
      · have hf5 := (if_pos hh).symm.trans hf3
        clear hf3
        refine j_aload_n (pc := 159) hc dX3_term_159 0 rfl rfl ?_
        refine j_bipush (pc := 160) (v := (46)) hc dX3_term_160 rfl ?_
        obtain ⟨N2, eN2, hf6⟩ := ob_i hf5
        clear hf5
        refine j_callV (pc := 162) (As := [vi (46)]) (rest := []) (st2 := []) hc ho cw_X3_231 (c_X3_sign eN2) (Or.inr ⟨rfl, _, rfl⟩) hrm ⟨by decide, by decide⟩ rfl (Nat.le_of_ble_eq_true rfl) dX3_term_162 rfl rfl ?_
        exact w_X3_term_n165 hc ho hnL hrm hre hct hq hf6
    · have hf7 := (if_pos hh).symm.trans hf1
      clear hf1
      exact w_X3_term_n43 hc ho hnL hrm hre hct hq fu_ _ hf7
  · have hf8 := (if_pos hh).symm.trans hf
    clear hf
    refine j_aload_n (pc := 8) hc dX3_term_8 0 rfl rfl ?_
    refine j_mgI (pc := 9) hc ho fm_191 rfl dX3_term_9 ?_
    refine j_iconst (pc := 12) (v := (-1)) hc dX3_term_12 rfl ?_
    refine j_icmp_eq (pc := 13) hc dX3_term_13 (tgt := 28) rfl (fun hh => ?_) (fun hh => ?_)
    · have hf9 := (if_pos hh).symm.trans hf8
      clear hf8
      refine j_aload_n (pc := 28) hc dX3_term_28 0 rfl rfl ?_
      obtain ⟨N3, eN3, hf10⟩ := ob_i hf9
      clear hf9
      refine j_callV (pc := 29) (As := []) (rest := []) (st2 := []) hc ho cw_X3_213 (c_X3_keeps eN3) (Or.inr ⟨rfl, _, rfl⟩) hrm ⟨by decide, by decide⟩ rfl (Nat.le_of_ble_eq_true rfl) dX3_term_29 rfl rfl ?_
      refine j_goto (pc := 32) hc dX3_term_32 (tgt := 176) rfl ?_
      cases hf10
      exact j_vret (pc := 176) hc hq hre dX3_term_176
    · have hf11 := (if_neg hh).symm.trans hf8
      clear hf8
      refine j_aload_n (pc := 16) hc dX3_term_16 0 rfl rfl ?_
      refine j_iconst (pc := 17) (v := (1)) hc dX3_term_17 rfl ?_
      refine j_aload_n (pc := 18) hc dX3_term_18 0 rfl rfl ?_
      refine j_mgI (pc := 19) hc ho fm_191 rfl dX3_term_19 ?_
      obtain ⟨N4, eN4, hf12⟩ := ob_i hf11
      clear hf11
      refine j_callV (pc := 22) (As := [vi (1), vi (m_I M 31)]) (rest := []) (st2 := []) hc ho cw_X3_216 (c_X3_fail eN4) (Or.inr ⟨rfl, _, rfl⟩) hrm ⟨by decide, by decide⟩ rfl (Nat.le_of_ble_eq_true rfl) dX3_term_22 rfl rfl ?_
      refine j_goto (pc := 25) hc dX3_term_25 (tgt := 176) rfl ?_
      cases hf12
      exact j_vret (pc := 176) hc hq hre dX3_term_176
def f_X3_isMore (M : MS) : Option (Int32 × MS) :=
  if (m_I M 29) = (43) then
    some ((1), M)
  else
    if (m_I M 29) = (45) then
      some ((1), M)
    else
      if (m_I M 29) = (38) then
        some ((1), M)
      else
        some ((0), M)
set_option maxRecDepth 100000 in
set_option maxHeartbeats 2000000 in
theorem c_X3_isMore {l : Launch} {g : PG} {a0 : Nat} {r : Int32} {S : HS} {M M1 : MS} (hf : f_X3_isMore M = some (r, M1)) : (h_nx S ≤ h_nx S ∧ h_sl S ≤ h_sl S) ∧ Ct l g yX3_isMore (ws_ yX3_isMore cX3_isMore 1 (some (.boolean))) 1 60 S (some (a0, M)) [vr (some a0)] (some (vi r)) S (some (a0, M1)) := by
  refine met_of false (by decide) (fun h => by first | rfl | cases h) rfl (Nat.le_of_ble_eq_true rfl) (fun f hl hg hc ho hnL hrm hre hct hex hq => ?_)
  subst hl
  subst hg
  unfold f_X3_isMore at hf
  refine j_aload_n (pc := 0) hc dX3_isMore_0 0 rfl rfl ?_
  refine j_mgI (pc := 1) hc ho fm_197 rfl dX3_isMore_1 ?_
  refine j_bipush (pc := 4) (v := (43)) hc dX3_isMore_4 rfl ?_
  refine j_icmp_eq (pc := 6) hc dX3_isMore_6 (tgt := 27) rfl (fun hh => ?_) (fun hh => ?_)
  · have hf1 := (if_pos hh).symm.trans hf
    clear hf
    refine j_iconst (pc := 27) (v := (1)) hc dX3_isMore_27 rfl ?_
    refine j_goto (pc := 28) hc dX3_isMore_28 (tgt := 32) rfl ?_
    cases hf1
    exact j_iret (pc := 32) hc hq hre rfl dX3_isMore_32
  · have hf2 := (if_neg hh).symm.trans hf
    clear hf
    refine j_aload_n (pc := 9) hc dX3_isMore_9 0 rfl rfl ?_
    refine j_mgI (pc := 10) hc ho fm_197 rfl dX3_isMore_10 ?_
    refine j_bipush (pc := 13) (v := (45)) hc dX3_isMore_13 rfl ?_
    refine j_icmp_eq (pc := 15) hc dX3_isMore_15 (tgt := 27) rfl (fun hh => ?_) (fun hh => ?_)
    · have hf3 := (if_pos hh).symm.trans hf2
      clear hf2
      refine j_iconst (pc := 27) (v := (1)) hc dX3_isMore_27 rfl ?_
      refine j_goto (pc := 28) hc dX3_isMore_28 (tgt := 32) rfl ?_
      cases hf3
      exact j_iret (pc := 32) hc hq hre rfl dX3_isMore_32
    · have hf4 := (if_neg hh).symm.trans hf2
      clear hf2
      refine j_aload_n (pc := 18) hc dX3_isMore_18 0 rfl rfl ?_
      refine j_mgI (pc := 19) hc ho fm_197 rfl dX3_isMore_19 ?_
      refine j_bipush (pc := 22) (v := (38)) hc dX3_isMore_22 rfl ?_
      refine j_icmp_ne (pc := 24) hc dX3_isMore_24 (tgt := 31) rfl (fun hh => ?_) (fun hh => ?_)
      · have hf5 := (if_neg hh).symm.trans hf4
        clear hf4
        refine j_iconst (pc := 31) (v := (0)) hc dX3_isMore_31 rfl ?_
        cases hf5
        exact j_iret (pc := 32) hc hq hre rfl dX3_isMore_32
      · have hf6 := (if_pos hh).symm.trans hf4
        clear hf4
        refine j_iconst (pc := 27) (v := (1)) hc dX3_isMore_27 rfl ?_
        refine j_goto (pc := 28) hc dX3_isMore_28 (tgt := 32) rfl ?_
        cases hf6
        exact j_iret (pc := 32) hc hq hre rfl dX3_isMore_32
def f_X3_isWord (y1 : Int64) (M : MS) : Option (Int32 × MS) :=
  if (m_I M 29) = (1) then
    if (lg_cmp (m_J M 32) y1) = 0 then
      some ((1), M)
    else
      some ((0), M)
  else
    some ((0), M)
set_option maxRecDepth 100000 in
set_option maxHeartbeats 2000000 in
theorem c_X3_isWord {l : Launch} {g : PG} {a0 : Nat} {y1 : Int64} {r : Int32} {S : HS} {M M1 : MS} (hf : f_X3_isWord y1 M = some (r, M1)) : (h_nx S ≤ h_nx S ∧ h_sl S ≤ h_sl S) ∧ Ct l g yX3_isWord (ws_ yX3_isWord cX3_isWord 3 (some (.boolean))) 1 60 S (some (a0, M)) [vr (some a0), vl y1] (some (vi r)) S (some (a0, M1)) := by
  refine met_of false (by decide) (fun h => by first | rfl | cases h) rfl (Nat.le_of_ble_eq_true rfl) (fun f hl hg hc ho hnL hrm hre hct hex hq => ?_)
  subst hl
  subst hg
  unfold f_X3_isWord at hf
  refine j_aload_n (pc := 0) hc dX3_isWord_0 0 rfl rfl ?_
  refine j_mgI (pc := 1) hc ho fm_197 rfl dX3_isWord_1 ?_
  refine j_iconst (pc := 4) (v := (1)) hc dX3_isWord_4 rfl ?_
  refine j_icmp_ne (pc := 5) hc dX3_isWord_5 (tgt := 21) rfl (fun hh => ?_) (fun hh => ?_)
  · have hf1 := (if_neg hh).symm.trans hf
    clear hf
    refine j_iconst (pc := 21) (v := (0)) hc dX3_isWord_21 rfl ?_
    cases hf1
    exact j_iret (pc := 22) hc hq hre rfl dX3_isWord_22
  · have hf2 := (if_pos hh).symm.trans hf
    clear hf
    refine j_aload_n (pc := 8) hc dX3_isWord_8 0 rfl rfl ?_
    refine j_mgJ (pc := 9) hc ho fm_194 rfl dX3_isWord_9 ?_
    refine j_lload_n (pc := 12) hc dX3_isWord_12 1 rfl rfl ?_
    refine j_lcmp (pc := 13) hc dX3_isWord_13 ?_
    refine j_if_ne (pc := 14) hc dX3_isWord_14 (tgt := 21) rfl (fun hh => ?_) (fun hh => ?_)
    · have hf3 := (if_neg hh).symm.trans hf2
      clear hf2
      refine j_iconst (pc := 21) (v := (0)) hc dX3_isWord_21 rfl ?_
      cases hf3
      exact j_iret (pc := 22) hc hq hre rfl dX3_isWord_22
    · have hf4 := (if_pos hh).symm.trans hf2
      clear hf2
      refine j_iconst (pc := 17) (v := (1)) hc dX3_isWord_17 rfl ?_
      refine j_goto (pc := 18) hc dX3_isWord_18 (tgt := 22) rfl ?_
      cases hf4
      exact j_iret (pc := 22) hc hq hre rfl dX3_isWord_22
theorem fm_105 : FM 105 40 := ⟨by decide, q1213⟩
theorem cw_X3_235 : CV "TableCatalogModel" 235 RX3 yX3_term cX3_term 1 none 0 := ⟨⟨q1448, q1450, qs52, q90, q1451⟩, rfl, by decide, by decide, by decide +kernel⟩
theorem cw_X3_224 : CV "TableCatalogModel" 224 RX3 yX3_isMore cX3_isMore 1 (some (.boolean)) 0 := ⟨⟨q1444, q1446, qs51, q90, q1447⟩, rfl, by decide, by decide, by decide +kernel⟩
theorem cw_X3_227 : CV "TableCatalogModel" 227 RX3 yX3_isWord cX3_isWord 3 (some (.boolean)) 1 := ⟨⟨q1405, q1407, qs42, q90, q1408⟩, rfl, by decide, by decide, by decide +kernel⟩
def f_X3_formula_n134 (k_34 : Int32 → Int32 → Int32 → MS → Option MS) (x1 : Int32) (x2 : Int32) (x3 : Int32) (M : MS) : Option MS :=
  if (m_I M 25) = 0 then
    (p_mA M 40 (x2 + (1)) (0)).bind fun N1 =>
    k_34 x1 (x2 + (1)) x3 N1
  else
    some M
def f_X3_formula_n121 (k_34 : Int32 → Int32 → Int32 → MS → Option MS) (x1 : Int32) (x2 : Int32) (x3 : Int32) (M : MS) : Option MS :=
  if (m_I M 25) = 0 then
    (f_X3_sign (40) M).bind fun N1 =>
    f_X3_formula_n134 k_34 x1 x2 x3 N1
  else
    f_X3_formula_n134 k_34 x1 x2 x3 M
def f_X3_formula_n87 (k_34 : Int32 → Int32 → Int32 → MS → Option MS) (x1 : Int32) (x2 : Int32) (x3 : Int32) (sx0 : Int32) (M : MS) : Option MS :=
  if sx0 = 0 then
    (f_X3_term M).bind fun N1 =>
    k_34 x1 x2 (0) N1
  else
    (f_X3_keeps M).bind fun N2 =>
    if (m_I N2 29) = (40) then
      if x2 = (3) then
        (f_X3_fail (1) (m_I N2 30) N2).bind fun N3 =>
        f_X3_formula_n121 k_34 x1 x2 x3 N3
      else
        f_X3_formula_n121 k_34 x1 x2 x3 N2
    else
      f_X3_formula_n121 k_34 x1 x2 x3 N2
def f_X3_formula_n82 (k_34 : Int32 → Int32 → Int32 → MS → Option MS) (x1 : Int32) (x2 : Int32) (x3 : Int32) (M : MS) : Option MS :=
  f_X3_formula_n87 k_34 x1 x2 x3 (1) M
def f_X3_formula_n201 (k_34 : Int32 → Int32 → Int32 → MS → Option MS) (x1 : Int32) (x2 : Int32) (M : MS) : Option MS :=
  if (m_I M 25) = 0 then
    (f_X3_keeps M).bind fun N1 =>
    k_34 x1 x2 (1) N1
  else
    k_34 x1 x2 (1) M
def f_X3_formula_n235 (k_34 : Int32 → Int32 → Int32 → MS → Option MS) (x1 : Int32) (x2 : Int32) (x3 : Int32) (M : MS) : Option MS :=
  if (m_I M 25) = 0 then
    (f_X3_keeps M).bind fun N1 =>
    k_34 x1 (x2 + (-1)) x3 N1
  else
    k_34 x1 (x2 + (-1)) x3 M
def f_X3_formula_n56 (k_34 : Int32 → Int32 → Int32 → MS → Option MS) (x1 : Int32) (x2 : Int32) (x3 : Int32) (M : MS) : Option MS :=
  if x3 = 0 then
    o_bd (f_X3_isMore M) fun v2 N1 =>
    if v2 = 0 then
      if (m_I N1 29) = (41) then
        f_X3_formula_n235 k_34 x1 x2 x3 N1
      else
        (f_X3_fail (1) (m_I N1 30) N1).bind fun N3 =>
        f_X3_formula_n235 k_34 x1 x2 x3 N3
    else
      (g_mA N1 40 x2).bind fun v4 =>
      (p_mA N1 40 x2 (v4 + (1))).bind fun N5 =>
      (g_mA N5 40 x2).bind fun v6 =>
      if v6 = (6) then
        (f_X3_fail (1) (m_I N5 30) N5).bind fun N7 =>
        f_X3_formula_n201 k_34 x1 x2 N7
      else
        f_X3_formula_n201 k_34 x1 x2 N5
  else
    o_bd (f_X3_isWord (m_J M 38) M) fun v9 N8 =>
    if v9 = 0 then
      o_bd (f_X3_isWord (m_J N8 39) N8) fun v11 N10 =>
      if v11 = 0 then
        f_X3_formula_n87 k_34 x1 x2 x3 (0) N10
      else
        f_X3_formula_n82 k_34 x1 x2 x3 N10
    else
      f_X3_formula_n82 k_34 x1 x2 x3 N8
def f_X3_formula_n252 (x1 : Int32) (M : MS) : Option MS :=
  (g_mA M 13 (m_I M 0)).bind fun v1 =>
  (p_mA M 19 (((8) * (m_I M 0)) + x1) v1).bind fun N2 =>
  some N2
def f_X3_formula_n34 : Nat → Int32 → Int32 → Int32 → MS → Option MS
  | 0, _, _, _, _ => none
  | n + 1, x1, x2, x3, M =>
    if (m_I M 25) = 0 then
      if x3 = 0 then
        if 0 < x2 then
          f_X3_formula_n56 (fun x1 x2 x3 M => f_X3_formula_n34 n x1 x2 x3 M) x1 x2 x3 M
        else
          o_bd (f_X3_isMore M) fun v2 N1 =>
          if v2 = 0 then
            f_X3_formula_n252 x1 N1
          else
            f_X3_formula_n56 (fun x1 x2 x3 M => f_X3_formula_n34 n x1 x2 x3 M) x1 x2 x3 N1
      else
        f_X3_formula_n56 (fun x1 x2 x3 M => f_X3_formula_n34 n x1 x2 x3 M) x1 x2 x3 M
    else
      f_X3_formula_n252 x1 M
def f_X3_formula (x1 : Int32) (M : MS) : Option MS :=
  (g_mA M 13 (m_I M 0)).bind fun v1 =>
  (p_mA M 18 (((8) * (m_I M 0)) + x1) v1).bind fun N2 =>
  (p_mA N2 40 (0) (0)).bind fun N3 =>
  f_X3_formula_n34 fu_ x1 (0) (1) N3
set_option maxRecDepth 100000 in
set_option maxHeartbeats 2000000 in
theorem w_X3_formula_n134 {f : CfT} {a0 : Nat} {S : HS} {M1 : MS} (hc : cf_cc f = cX3_formula) (ho : cf_ow f = "TableCatalogModel") (hnL : cf_nL f = 5) (hrm : cf_rm f = (6, 167)) (hre : cf_re f = none) (hct : cf_ct f = false) (hq : Qok f none S (some (a0, M1))) {k_34 : Int32 → Int32 → Int32 → MS → Option MS} (hk_34 : ∀ (x1 : Int32) (x2 : Int32) (x3 : Int32) (M : MS), k_34 x1 x2 x3 M = some M1 → JJ f S (some (a0, M)) 34 [(0, vr (some a0)), (1, vi x1), (2, vi x2), (3, vi x3)] []) {x1 : Int32} {x2 : Int32} {x3 : Int32} {M : MS} (hf : f_X3_formula_n134 k_34 x1 x2 x3 M = some M1) : JJ f S (some (a0, M)) 134 [(0, vr (some a0)), (1, vi x1), (2, vi x2), (3, vi x3)] [] := by
  unfold f_X3_formula_n134 at hf
  refine j_aload_n (pc := 134) hc dX3_formula_134 0 rfl rfl ?_
  refine j_mgI (pc := 135) hc ho fm_169 rfl dX3_formula_135 ?_
  refine j_if_eq (pc := 138) hc dX3_formula_138 (tgt := 142) rfl (fun hh => ?_) (fun hh => ?_)
  · have hf1 := (if_pos hh).symm.trans hf
    clear hf
    refine j_iinc (pc := 142) (L' := [(2, vi (x2 + (1))), (0, vr (some a0)), (1, vi x1), (3, vi x3)]) (v := (x2 + (1))) hc dX3_formula_142 2 rfl rfl hnL (by decide) rfl ?_
    refine j_aload_n (pc := 145) hc dX3_formula_145 1 rfl rfl ?_
    refine j_mgA (pc := 146) hc ho fm_105 rfl dX3_formula_146 ?_
    refine j_iload_n (pc := 149) hc dX3_formula_149 0 rfl rfl ?_
    refine j_iconst (pc := 150) (v := (0)) hc dX3_formula_150 rfl ?_
    obtain ⟨N1, eN1, hf2⟩ := ob_i hf1
    clear hf1
    refine j_mstI (pc := 151) hc (k := 40) (by decide) rfl dX3_formula_151 eN1 ?_
    refine j_goto (pc := 152) hc dX3_formula_152 (tgt := 34) rfl ?_
    refine j_loc (L' := [(0, vr (some a0)), (1, vi x1), (2, vi (x2 + (1))), (3, vi x3)]) [1, 2, 0, 3] rfl ?_
    exact hk_34 _ _ _ _ hf2
  · have hf3 := (if_neg hh).symm.trans hf
    clear hf
    cases hf3
    exact j_vret (pc := 141) hc hq hre dX3_formula_141
set_option maxRecDepth 100000 in
set_option maxHeartbeats 2000000 in
theorem w_X3_formula_n121 {f : CfT} {a0 : Nat} {S : HS} {M1 : MS} (hc : cf_cc f = cX3_formula) (ho : cf_ow f = "TableCatalogModel") (hnL : cf_nL f = 5) (hrm : cf_rm f = (6, 167)) (hre : cf_re f = none) (hct : cf_ct f = false) (hq : Qok f none S (some (a0, M1))) {k_34 : Int32 → Int32 → Int32 → MS → Option MS} (hk_34 : ∀ (x1 : Int32) (x2 : Int32) (x3 : Int32) (M : MS), k_34 x1 x2 x3 M = some M1 → JJ f S (some (a0, M)) 34 [(0, vr (some a0)), (1, vi x1), (2, vi x2), (3, vi x3)] []) {x1 : Int32} {x2 : Int32} {x3 : Int32} {M : MS} (hf : f_X3_formula_n121 k_34 x1 x2 x3 M = some M1) : JJ f S (some (a0, M)) 121 [(0, vr (some a0)), (1, vi x1), (2, vi x2), (3, vi x3)] [] := by
  unfold f_X3_formula_n121 at hf
  refine j_aload_n (pc := 121) hc dX3_formula_121 0 rfl rfl ?_
  refine j_mgI (pc := 122) hc ho fm_169 rfl dX3_formula_122 ?_
  refine j_if_ne (pc := 125) hc dX3_formula_125 (tgt := 134) rfl (fun hh => ?_) (fun hh => ?_)
  · have hf1 := (if_neg hh).symm.trans hf
    clear hf
    exact w_X3_formula_n134 hc ho hnL hrm hre hct hq hk_34 hf1
  · have hf2 := (if_pos hh).symm.trans hf
    clear hf
    refine j_aload_n (pc := 128) hc dX3_formula_128 0 rfl rfl ?_
    refine j_bipush (pc := 129) (v := (40)) hc dX3_formula_129 rfl ?_
    obtain ⟨N1, eN1, hf3⟩ := ob_i hf2
    clear hf2
    refine j_callV (pc := 131) (As := [vi (40)]) (rest := []) (st2 := []) hc ho cw_X3_231 (c_X3_sign eN1) (Or.inr ⟨rfl, _, rfl⟩) hrm ⟨by decide, by decide⟩ rfl (Nat.le_of_ble_eq_true rfl) dX3_formula_131 rfl rfl ?_
    exact w_X3_formula_n134 hc ho hnL hrm hre hct hq hk_34 hf3
set_option maxRecDepth 100000 in
set_option maxHeartbeats 2000000 in
theorem w_X3_formula_n87 {f : CfT} {a0 : Nat} {S : HS} {M1 : MS} (hc : cf_cc f = cX3_formula) (ho : cf_ow f = "TableCatalogModel") (hnL : cf_nL f = 5) (hrm : cf_rm f = (6, 167)) (hre : cf_re f = none) (hct : cf_ct f = false) (hq : Qok f none S (some (a0, M1))) {k_34 : Int32 → Int32 → Int32 → MS → Option MS} (hk_34 : ∀ (x1 : Int32) (x2 : Int32) (x3 : Int32) (M : MS), k_34 x1 x2 x3 M = some M1 → JJ f S (some (a0, M)) 34 [(0, vr (some a0)), (1, vi x1), (2, vi x2), (3, vi x3)] []) {x1 : Int32} {x2 : Int32} {x3 : Int32} {sx0 : Int32} {M : MS} (hf : f_X3_formula_n87 k_34 x1 x2 x3 sx0 M = some M1) : JJ f S (some (a0, M)) 87 [(0, vr (some a0)), (1, vi x1), (2, vi x2), (3, vi x3)] [vi sx0] := by
  unfold f_X3_formula_n87 at hf
  refine j_istore (pc := 87) (L' := [(4, vi sx0), (0, vr (some a0)), (1, vi x1), (2, vi x2), (3, vi x3)]) hc dX3_formula_87 hnL (by decide) rfl ?_
  refine j_iload (pc := 89) hc dX3_formula_89 0 rfl ?_
  refine j_if_eq (pc := 91) hc dX3_formula_91 (tgt := 155) rfl (fun hh => ?_) (fun hh => ?_)
  · have hf1 := (if_pos hh).symm.trans hf
    clear hf
    refine j_aload_n (pc := 155) hc dX3_formula_155 1 rfl rfl ?_
    obtain ⟨N1, eN1, hf2⟩ := ob_i hf1
    clear hf1
    refine j_callV (pc := 156) (As := []) (rest := []) (st2 := []) hc ho cw_X3_235 (c_X3_term eN1) (Or.inr ⟨rfl, _, rfl⟩) hrm ⟨by decide, by decide⟩ rfl (Nat.le_of_ble_eq_true rfl) dX3_formula_156 rfl rfl ?_
    refine j_iconst (pc := 159) (v := (0)) hc dX3_formula_159 rfl ?_
    refine j_istore_n (pc := 160) (L' := [(3, vi (0)), (4, vi sx0), (0, vr (some a0)), (1, vi x1), (2, vi x2)]) hc dX3_formula_160 rfl hnL (by decide) rfl ?_
    refine j_goto (pc := 161) hc dX3_formula_161 (tgt := 34) rfl ?_
    refine j_loc (L' := [(0, vr (some a0)), (1, vi x1), (2, vi x2), (3, vi (0))]) [2, 3, 4, 0] rfl ?_
    exact hk_34 _ _ _ _ hf2
  · have hf3 := (if_neg hh).symm.trans hf
    clear hf
    refine j_aload_n (pc := 94) hc dX3_formula_94 1 rfl rfl ?_
    obtain ⟨N2, eN2, hf4⟩ := ob_i hf3
    clear hf3
    refine j_callV (pc := 95) (As := []) (rest := []) (st2 := []) hc ho cw_X3_213 (c_X3_keeps eN2) (Or.inr ⟨rfl, _, rfl⟩) hrm ⟨by decide, by decide⟩ rfl (Nat.le_of_ble_eq_true rfl) dX3_formula_95 rfl rfl ?_
    refine j_aload_n (pc := 98) hc dX3_formula_98 1 rfl rfl ?_
    refine j_mgI (pc := 99) hc ho fm_197 rfl dX3_formula_99 ?_
    refine j_bipush (pc := 102) (v := (40)) hc dX3_formula_102 rfl ?_
    refine j_icmp_ne (pc := 104) hc dX3_formula_104 (tgt := 121) rfl (fun hh => ?_) (fun hh => ?_)
    · have hf5 := (if_neg hh).symm.trans hf4
      clear hf4
      refine j_loc (L' := [(0, vr (some a0)), (1, vi x1), (2, vi x2), (3, vi x3)]) [1, 2, 3, 4] rfl ?_
      exact w_X3_formula_n121 hc ho hnL hrm hre hct hq hk_34 hf5
    · have hf6 := (if_pos hh).symm.trans hf4
      clear hf4
      refine j_iload_n (pc := 107) hc dX3_formula_107 3 rfl rfl ?_
      refine j_iconst (pc := 108) (v := (3)) hc dX3_formula_108 rfl ?_
      refine j_icmp_ne (pc := 109) hc dX3_formula_109 (tgt := 121) rfl (fun hh => ?_) (fun hh => ?_)
      · have hf7 := (if_neg hh).symm.trans hf6
        clear hf6
        refine j_loc (L' := [(0, vr (some a0)), (1, vi x1), (2, vi x2), (3, vi x3)]) [1, 2, 3, 4] rfl ?_
        exact w_X3_formula_n121 hc ho hnL hrm hre hct hq hk_34 hf7
      · have hf8 := (if_pos hh).symm.trans hf6
        clear hf6
        refine j_aload_n (pc := 112) hc dX3_formula_112 1 rfl rfl ?_
        refine j_iconst (pc := 113) (v := (1)) hc dX3_formula_113 rfl ?_
        refine j_aload_n (pc := 114) hc dX3_formula_114 1 rfl rfl ?_
        refine j_mgI (pc := 115) hc ho fm_188 rfl dX3_formula_115 ?_
        obtain ⟨N3, eN3, hf9⟩ := ob_i hf8
        clear hf8
        refine j_callV (pc := 118) (As := [vi (1), vi (m_I N2 30)]) (rest := []) (st2 := []) hc ho cw_X3_216 (c_X3_fail eN3) (Or.inr ⟨rfl, _, rfl⟩) hrm ⟨by decide, by decide⟩ rfl (Nat.le_of_ble_eq_true rfl) dX3_formula_118 rfl rfl ?_
        refine j_loc (L' := [(0, vr (some a0)), (1, vi x1), (2, vi x2), (3, vi x3)]) [1, 2, 3, 4] rfl ?_
        exact w_X3_formula_n121 hc ho hnL hrm hre hct hq hk_34 hf9
set_option maxRecDepth 100000 in
set_option maxHeartbeats 2000000 in
theorem w_X3_formula_n82 {f : CfT} {a0 : Nat} {S : HS} {M1 : MS} (hc : cf_cc f = cX3_formula) (ho : cf_ow f = "TableCatalogModel") (hnL : cf_nL f = 5) (hrm : cf_rm f = (6, 167)) (hre : cf_re f = none) (hct : cf_ct f = false) (hq : Qok f none S (some (a0, M1))) {k_34 : Int32 → Int32 → Int32 → MS → Option MS} (hk_34 : ∀ (x1 : Int32) (x2 : Int32) (x3 : Int32) (M : MS), k_34 x1 x2 x3 M = some M1 → JJ f S (some (a0, M)) 34 [(0, vr (some a0)), (1, vi x1), (2, vi x2), (3, vi x3)] []) {x1 : Int32} {x2 : Int32} {x3 : Int32} {M : MS} (hf : f_X3_formula_n82 k_34 x1 x2 x3 M = some M1) : JJ f S (some (a0, M)) 82 [(0, vr (some a0)), (1, vi x1), (2, vi x2), (3, vi x3)] [] := by
  unfold f_X3_formula_n82 at hf
  refine j_iconst (pc := 82) (v := (1)) hc dX3_formula_82 rfl ?_
  refine j_goto (pc := 83) hc dX3_formula_83 (tgt := 87) rfl ?_
  exact w_X3_formula_n87 hc ho hnL hrm hre hct hq hk_34 hf
set_option maxRecDepth 100000 in
set_option maxHeartbeats 2000000 in
theorem w_X3_formula_n201 {f : CfT} {a0 : Nat} {S : HS} {M1 : MS} (hc : cf_cc f = cX3_formula) (ho : cf_ow f = "TableCatalogModel") (hnL : cf_nL f = 5) (hrm : cf_rm f = (6, 167)) (hre : cf_re f = none) (hct : cf_ct f = false) (hq : Qok f none S (some (a0, M1))) {k_34 : Int32 → Int32 → Int32 → MS → Option MS} (hk_34 : ∀ (x1 : Int32) (x2 : Int32) (x3 : Int32) (M : MS), k_34 x1 x2 x3 M = some M1 → JJ f S (some (a0, M)) 34 [(0, vr (some a0)), (1, vi x1), (2, vi x2), (3, vi x3)] []) {x1 : Int32} {x2 : Int32} {M : MS} (hf : f_X3_formula_n201 k_34 x1 x2 M = some M1) : JJ f S (some (a0, M)) 201 [(0, vr (some a0)), (1, vi x1), (2, vi x2)] [] := by
  unfold f_X3_formula_n201 at hf
  refine j_aload_n (pc := 201) hc dX3_formula_201 0 rfl rfl ?_
  refine j_mgI (pc := 202) hc ho fm_169 rfl dX3_formula_202 ?_
  refine j_if_ne (pc := 205) hc dX3_formula_205 (tgt := 212) rfl (fun hh => ?_) (fun hh => ?_)
  · have hf1 := (if_neg hh).symm.trans hf
    clear hf
    refine j_iconst (pc := 212) (v := (1)) hc dX3_formula_212 rfl ?_
    refine j_istore_n (pc := 213) (L' := [(3, vi (1)), (0, vr (some a0)), (1, vi x1), (2, vi x2)]) hc dX3_formula_213 rfl hnL (by decide) rfl ?_
    refine j_goto (pc := 214) hc dX3_formula_214 (tgt := 34) rfl ?_
    refine j_loc (L' := [(0, vr (some a0)), (1, vi x1), (2, vi x2), (3, vi (1))]) [1, 2, 3, 0] rfl ?_
    exact hk_34 _ _ _ _ hf1
  · have hf2 := (if_pos hh).symm.trans hf
    clear hf
    refine j_aload_n (pc := 208) hc dX3_formula_208 0 rfl rfl ?_
    obtain ⟨N1, eN1, hf3⟩ := ob_i hf2
    clear hf2
    refine j_callV (pc := 209) (As := []) (rest := []) (st2 := []) hc ho cw_X3_213 (c_X3_keeps eN1) (Or.inr ⟨rfl, _, rfl⟩) hrm ⟨by decide, by decide⟩ rfl (Nat.le_of_ble_eq_true rfl) dX3_formula_209 rfl rfl ?_
    refine j_iconst (pc := 212) (v := (1)) hc dX3_formula_212 rfl ?_
    refine j_istore_n (pc := 213) (L' := [(3, vi (1)), (0, vr (some a0)), (1, vi x1), (2, vi x2)]) hc dX3_formula_213 rfl hnL (by decide) rfl ?_
    refine j_goto (pc := 214) hc dX3_formula_214 (tgt := 34) rfl ?_
    refine j_loc (L' := [(0, vr (some a0)), (1, vi x1), (2, vi x2), (3, vi (1))]) [1, 2, 3, 0] rfl ?_
    exact hk_34 _ _ _ _ hf3
set_option maxRecDepth 100000 in
set_option maxHeartbeats 2000000 in
theorem w_X3_formula_n235 {f : CfT} {a0 : Nat} {S : HS} {M1 : MS} (hc : cf_cc f = cX3_formula) (ho : cf_ow f = "TableCatalogModel") (hnL : cf_nL f = 5) (hrm : cf_rm f = (6, 167)) (hre : cf_re f = none) (hct : cf_ct f = false) (hq : Qok f none S (some (a0, M1))) {k_34 : Int32 → Int32 → Int32 → MS → Option MS} (hk_34 : ∀ (x1 : Int32) (x2 : Int32) (x3 : Int32) (M : MS), k_34 x1 x2 x3 M = some M1 → JJ f S (some (a0, M)) 34 [(0, vr (some a0)), (1, vi x1), (2, vi x2), (3, vi x3)] []) {x1 : Int32} {x2 : Int32} {x3 : Int32} {M : MS} (hf : f_X3_formula_n235 k_34 x1 x2 x3 M = some M1) : JJ f S (some (a0, M)) 235 [(0, vr (some a0)), (1, vi x1), (2, vi x2), (3, vi x3)] [] := by
  unfold f_X3_formula_n235 at hf
  refine j_aload_n (pc := 235) hc dX3_formula_235 0 rfl rfl ?_
  refine j_mgI (pc := 236) hc ho fm_169 rfl dX3_formula_236 ?_
  refine j_if_ne (pc := 239) hc dX3_formula_239 (tgt := 246) rfl (fun hh => ?_) (fun hh => ?_)
  · have hf1 := (if_neg hh).symm.trans hf
    clear hf
    refine j_iinc (pc := 246) (L' := [(2, vi (x2 + (-1))), (0, vr (some a0)), (1, vi x1), (3, vi x3)]) (v := (x2 + (-1))) hc dX3_formula_246 2 rfl rfl hnL (by decide) rfl ?_
    refine j_goto (pc := 249) hc dX3_formula_249 (tgt := 34) rfl ?_
    refine j_loc (L' := [(0, vr (some a0)), (1, vi x1), (2, vi (x2 + (-1))), (3, vi x3)]) [1, 2, 0, 3] rfl ?_
    exact hk_34 _ _ _ _ hf1
  · have hf2 := (if_pos hh).symm.trans hf
    clear hf
    refine j_aload_n (pc := 242) hc dX3_formula_242 0 rfl rfl ?_
    obtain ⟨N1, eN1, hf3⟩ := ob_i hf2
    clear hf2
    refine j_callV (pc := 243) (As := []) (rest := []) (st2 := []) hc ho cw_X3_213 (c_X3_keeps eN1) (Or.inr ⟨rfl, _, rfl⟩) hrm ⟨by decide, by decide⟩ rfl (Nat.le_of_ble_eq_true rfl) dX3_formula_243 rfl rfl ?_
    refine j_iinc (pc := 246) (L' := [(2, vi (x2 + (-1))), (0, vr (some a0)), (1, vi x1), (3, vi x3)]) (v := (x2 + (-1))) hc dX3_formula_246 2 rfl rfl hnL (by decide) rfl ?_
    refine j_goto (pc := 249) hc dX3_formula_249 (tgt := 34) rfl ?_
    refine j_loc (L' := [(0, vr (some a0)), (1, vi x1), (2, vi (x2 + (-1))), (3, vi x3)]) [1, 2, 0, 3] rfl ?_
    exact hk_34 _ _ _ _ hf3
set_option maxRecDepth 100000 in
set_option maxHeartbeats 2000000 in
theorem w_X3_formula_n56 {f : CfT} {a0 : Nat} {S : HS} {M1 : MS} (hc : cf_cc f = cX3_formula) (ho : cf_ow f = "TableCatalogModel") (hnL : cf_nL f = 5) (hrm : cf_rm f = (6, 167)) (hre : cf_re f = none) (hct : cf_ct f = false) (hq : Qok f none S (some (a0, M1))) {k_34 : Int32 → Int32 → Int32 → MS → Option MS} (hk_34 : ∀ (x1 : Int32) (x2 : Int32) (x3 : Int32) (M : MS), k_34 x1 x2 x3 M = some M1 → JJ f S (some (a0, M)) 34 [(0, vr (some a0)), (1, vi x1), (2, vi x2), (3, vi x3)] []) {x1 : Int32} {x2 : Int32} {x3 : Int32} {M : MS} (hf : f_X3_formula_n56 k_34 x1 x2 x3 M = some M1) : JJ f S (some (a0, M)) 56 [(0, vr (some a0)), (1, vi x1), (2, vi x2), (3, vi x3)] [] := by
  unfold f_X3_formula_n56 at hf
  refine j_iload_n (pc := 56) hc dX3_formula_56 3 rfl rfl ?_
  refine j_if_eq (pc := 57) hc dX3_formula_57 (tgt := 164) rfl (fun hh => ?_) (fun hh => ?_)
  · have hf1 := (if_pos hh).symm.trans hf
    clear hf
    refine j_aload_n (pc := 164) hc dX3_formula_164 0 rfl rfl ?_
    obtain ⟨v2, N1, ev2, hf2⟩ := ob_c hf1
    clear hf1
    refine j_callV (pc := 165) (As := []) (rest := []) (st2 := [vi v2]) hc ho cw_X3_224 (c_X3_isMore ev2) (Or.inr ⟨rfl, _, rfl⟩) hrm ⟨by decide, by decide⟩ rfl (Nat.le_of_ble_eq_true rfl) dX3_formula_165 rfl rfl ?_
    refine j_if_eq (pc := 168) hc dX3_formula_168 (tgt := 217) rfl (fun hh => ?_) (fun hh => ?_)
    · have hf3 := (if_pos hh).symm.trans hf2
      clear hf2
      refine j_aload_n (pc := 217) hc dX3_formula_217 0 rfl rfl ?_
      refine j_mgI (pc := 218) hc ho fm_197 rfl dX3_formula_218 ?_
      refine j_bipush (pc := 221) (v := (41)) hc dX3_formula_221 rfl ?_
      refine j_icmp_eq (pc := 223) hc dX3_formula_223 (tgt := 235) rfl (fun hh => ?_) (fun hh => ?_)
      · have hf4 := (if_pos hh).symm.trans hf3
        clear hf3
        exact w_X3_formula_n235 hc ho hnL hrm hre hct hq hk_34 hf4
      · have hf5 := (if_neg hh).symm.trans hf3
        clear hf3
        refine j_aload_n (pc := 226) hc dX3_formula_226 0 rfl rfl ?_
        refine j_iconst (pc := 227) (v := (1)) hc dX3_formula_227 rfl ?_
        refine j_aload_n (pc := 228) hc dX3_formula_228 0 rfl rfl ?_
        refine j_mgI (pc := 229) hc ho fm_188 rfl dX3_formula_229 ?_
        obtain ⟨N3, eN3, hf6⟩ := ob_i hf5
        clear hf5
        refine j_callV (pc := 232) (As := [vi (1), vi (m_I N1 30)]) (rest := []) (st2 := []) hc ho cw_X3_216 (c_X3_fail eN3) (Or.inr ⟨rfl, _, rfl⟩) hrm ⟨by decide, by decide⟩ rfl (Nat.le_of_ble_eq_true rfl) dX3_formula_232 rfl rfl ?_
        exact w_X3_formula_n235 hc ho hnL hrm hre hct hq hk_34 hf6
    · have hf7 := (if_neg hh).symm.trans hf2
      clear hf2
      refine j_aload_n (pc := 171) hc dX3_formula_171 0 rfl rfl ?_
      refine j_mgA (pc := 172) hc ho fm_105 rfl dX3_formula_172 ?_
      refine j_iload_n (pc := 175) hc dX3_formula_175 2 rfl rfl ?_
      refine j_dup2_11 (pc := 176) hc dX3_formula_176 rfl rfl ?_
      obtain ⟨v4, ev4, hf8⟩ := ob_i hf7
      clear hf7
      refine j_mldI (pc := 177) hc (k := 40) (by decide) rfl dX3_formula_177 ev4 ?_
      refine j_iconst (pc := 178) (v := (1)) hc dX3_formula_178 rfl ?_
      refine j_iadd (pc := 179) hc dX3_formula_179 ?_
      obtain ⟨N5, eN5, hf9⟩ := ob_i hf8
      clear hf8
      refine j_mstI (pc := 180) hc (k := 40) (by decide) rfl dX3_formula_180 eN5 ?_
      refine j_aload_n (pc := 181) hc dX3_formula_181 0 rfl rfl ?_
      refine j_mgA (pc := 182) hc ho fm_105 rfl dX3_formula_182 ?_
      refine j_iload_n (pc := 185) hc dX3_formula_185 2 rfl rfl ?_
      obtain ⟨v6, ev6, hf10⟩ := ob_i hf9
      clear hf9
      refine j_mldI (pc := 186) hc (k := 40) (by decide) rfl dX3_formula_186 ev6 ?_
      refine j_bipush (pc := 187) (v := (6)) hc dX3_formula_187 rfl ?_
      refine j_icmp_ne (pc := 189) hc dX3_formula_189 (tgt := 201) rfl (fun hh => ?_) (fun hh => ?_)
      · have hf11 := (if_neg hh).symm.trans hf10
        clear hf10
        refine j_loc (L' := [(0, vr (some a0)), (1, vi x1), (2, vi x2)]) [0, 1, 2] rfl ?_
        exact w_X3_formula_n201 hc ho hnL hrm hre hct hq hk_34 hf11
      · have hf12 := (if_pos hh).symm.trans hf10
        clear hf10
        refine j_aload_n (pc := 192) hc dX3_formula_192 0 rfl rfl ?_
        refine j_iconst (pc := 193) (v := (1)) hc dX3_formula_193 rfl ?_
        refine j_aload_n (pc := 194) hc dX3_formula_194 0 rfl rfl ?_
        refine j_mgI (pc := 195) hc ho fm_188 rfl dX3_formula_195 ?_
        obtain ⟨N7, eN7, hf13⟩ := ob_i hf12
        clear hf12
        refine j_callV (pc := 198) (As := [vi (1), vi (m_I N5 30)]) (rest := []) (st2 := []) hc ho cw_X3_216 (c_X3_fail eN7) (Or.inr ⟨rfl, _, rfl⟩) hrm ⟨by decide, by decide⟩ rfl (Nat.le_of_ble_eq_true rfl) dX3_formula_198 rfl rfl ?_
        refine j_loc (L' := [(0, vr (some a0)), (1, vi x1), (2, vi x2)]) [0, 1, 2] rfl ?_
        exact w_X3_formula_n201 hc ho hnL hrm hre hct hq hk_34 hf13
  · have hf14 := (if_neg hh).symm.trans hf
    clear hf
    refine j_aload_n (pc := 60) hc dX3_formula_60 0 rfl rfl ?_
    refine j_aload_n (pc := 61) hc dX3_formula_61 0 rfl rfl ?_
    refine j_mgJ (pc := 62) hc ho fm_99 rfl dX3_formula_62 ?_
    obtain ⟨v9, N8, ev9, hf15⟩ := ob_c hf14
    clear hf14
    refine j_callV (pc := 65) (As := [vl (m_J M 38)]) (rest := []) (st2 := [vi v9]) hc ho cw_X3_227 (c_X3_isWord ev9) (Or.inr ⟨rfl, _, rfl⟩) hrm ⟨by decide, by decide⟩ rfl (Nat.le_of_ble_eq_true rfl) dX3_formula_65 rfl rfl ?_
    refine j_if_ne (pc := 68) hc dX3_formula_68 (tgt := 82) rfl (fun hh => ?_) (fun hh => ?_)
    · have hf16 := (if_neg hh).symm.trans hf15
      clear hf15
      exact w_X3_formula_n82 hc ho hnL hrm hre hct hq hk_34 hf16
    · have hf17 := (if_pos hh).symm.trans hf15
      clear hf15
      refine j_aload_n (pc := 71) hc dX3_formula_71 0 rfl rfl ?_
      refine j_aload_n (pc := 72) hc dX3_formula_72 0 rfl rfl ?_
      refine j_mgJ (pc := 73) hc ho fm_102 rfl dX3_formula_73 ?_
      obtain ⟨v11, N10, ev11, hf18⟩ := ob_c hf17
      clear hf17
      refine j_callV (pc := 76) (As := [vl (m_J N8 39)]) (rest := []) (st2 := [vi v11]) hc ho cw_X3_227 (c_X3_isWord ev11) (Or.inr ⟨rfl, _, rfl⟩) hrm ⟨by decide, by decide⟩ rfl (Nat.le_of_ble_eq_true rfl) dX3_formula_76 rfl rfl ?_
      refine j_if_eq (pc := 79) hc dX3_formula_79 (tgt := 86) rfl (fun hh => ?_) (fun hh => ?_)
      · have hf19 := (if_pos hh).symm.trans hf18
        clear hf18
        refine j_iconst (pc := 86) (v := (0)) hc dX3_formula_86 rfl ?_
        exact w_X3_formula_n87 hc ho hnL hrm hre hct hq hk_34 hf19
      · have hf20 := (if_neg hh).symm.trans hf18
        clear hf18
        exact w_X3_formula_n82 hc ho hnL hrm hre hct hq hk_34 hf20
set_option maxRecDepth 100000 in
set_option maxHeartbeats 2000000 in
theorem w_X3_formula_n252 {f : CfT} {a0 : Nat} {S : HS} {M1 : MS} (hc : cf_cc f = cX3_formula) (ho : cf_ow f = "TableCatalogModel") (hnL : cf_nL f = 5) (hrm : cf_rm f = (6, 167)) (hre : cf_re f = none) (hct : cf_ct f = false) (hq : Qok f none S (some (a0, M1))) {x1 : Int32} {M : MS} (hf : f_X3_formula_n252 x1 M = some M1) : JJ f S (some (a0, M)) 252 [(0, vr (some a0)), (1, vi x1)] [] := by
  unfold f_X3_formula_n252 at hf
  refine j_aload_n (pc := 252) hc dX3_formula_252 0 rfl rfl ?_
  refine j_mgA (pc := 253) hc ho fm_66 rfl dX3_formula_253 ?_
  refine j_bipush (pc := 256) (v := (8)) hc dX3_formula_256 rfl ?_
  refine j_aload_n (pc := 258) hc dX3_formula_258 0 rfl rfl ?_
  refine j_mgI (pc := 259) hc ho fm_159 rfl dX3_formula_259 ?_
  refine j_imul (pc := 262) hc dX3_formula_262 ?_
  refine j_iload_n (pc := 263) hc dX3_formula_263 1 rfl rfl ?_
  refine j_iadd (pc := 264) hc dX3_formula_264 ?_
  refine j_aload_n (pc := 265) hc dX3_formula_265 0 rfl rfl ?_
  refine j_mgA (pc := 266) hc ho fm_48 rfl dX3_formula_266 ?_
  refine j_aload_n (pc := 269) hc dX3_formula_269 0 rfl rfl ?_
  refine j_mgI (pc := 270) hc ho fm_159 rfl dX3_formula_270 ?_
  obtain ⟨v1, ev1, hf1⟩ := ob_i hf
  clear hf
  refine j_mldI (pc := 273) hc (k := 13) (by decide) rfl dX3_formula_273 ev1 ?_
  obtain ⟨N2, eN2, hf2⟩ := ob_i hf1
  clear hf1
  refine j_mstI (pc := 274) hc (k := 19) (by decide) rfl dX3_formula_274 eN2 ?_
  cases hf2
  exact j_vret (pc := 275) hc hq hre dX3_formula_275
set_option maxRecDepth 100000 in
set_option maxHeartbeats 2000000 in
theorem w_X3_formula_n34 {f : CfT} {a0 : Nat} {S : HS} {M1 : MS} (hc : cf_cc f = cX3_formula) (ho : cf_ow f = "TableCatalogModel") (hnL : cf_nL f = 5) (hrm : cf_rm f = (6, 167)) (hre : cf_re f = none) (hct : cf_ct f = false) (hq : Qok f none S (some (a0, M1))) : ∀ (n : Nat) (x1 : Int32) (x2 : Int32) (x3 : Int32) (M : MS), f_X3_formula_n34 n x1 x2 x3 M = some M1 → JJ f S (some (a0, M)) 34 [(0, vr (some a0)), (1, vi x1), (2, vi x2), (3, vi x3)] [] := by
  intro n
  induction n with
  | zero =>
    intro x1 x2 x3 M hf
    have hf : (none : Option MS) = some M1 := hf
    cases hf
  | succ n ih =>
    intro x1 x2 x3 M hf
    unfold f_X3_formula_n34 at hf
    have hk_34 := ih
    refine j_aload_n (pc := 34) hc dX3_formula_34 0 rfl rfl ?_
    refine j_mgI (pc := 35) hc ho fm_169 rfl dX3_formula_35 ?_
    refine j_if_ne (pc := 38) hc dX3_formula_38 (tgt := 252) rfl (fun hh => ?_) (fun hh => ?_)
    · have hf1 := (if_neg hh).symm.trans hf
      clear hf
      refine j_loc (L' := [(0, vr (some a0)), (1, vi x1)]) [0, 1] rfl ?_
      exact w_X3_formula_n252 hc ho hnL hrm hre hct hq hf1
    · have hf2 := (if_pos hh).symm.trans hf
      clear hf
      refine j_iload_n (pc := 41) hc dX3_formula_41 3 rfl rfl ?_
      refine j_if_ne (pc := 42) hc dX3_formula_42 (tgt := 56) rfl (fun hh => ?_) (fun hh => ?_)
      · have hf3 := (if_neg hh).symm.trans hf2
        clear hf2
        exact w_X3_formula_n56 hc ho hnL hrm hre hct hq hk_34 hf3
      · have hf4 := (if_pos hh).symm.trans hf2
        clear hf2
        refine j_iload_n (pc := 45) hc dX3_formula_45 2 rfl rfl ?_
        refine j_if_gt (pc := 46) hc dX3_formula_46 (tgt := 56) rfl (fun hh => ?_) (fun hh => ?_)
        · have hf5 := (if_pos hh).symm.trans hf4
          clear hf4
          exact w_X3_formula_n56 hc ho hnL hrm hre hct hq hk_34 hf5
        · have hf6 := (if_neg hh).symm.trans hf4
          clear hf4
          refine j_aload_n (pc := 49) hc dX3_formula_49 0 rfl rfl ?_
          obtain ⟨v2, N1, ev2, hf7⟩ := ob_c hf6
          clear hf6
          refine j_callV (pc := 50) (As := []) (rest := []) (st2 := [vi v2]) hc ho cw_X3_224 (c_X3_isMore ev2) (Or.inr ⟨rfl, _, rfl⟩) hrm ⟨by decide, by decide⟩ rfl (Nat.le_of_ble_eq_true rfl) dX3_formula_50 rfl rfl ?_
          refine j_if_eq (pc := 53) hc dX3_formula_53 (tgt := 252) rfl (fun hh => ?_) (fun hh => ?_)
          · have hf8 := (if_pos hh).symm.trans hf7
            clear hf7
            refine j_loc (L' := [(0, vr (some a0)), (1, vi x1)]) [0, 1] rfl ?_
            exact w_X3_formula_n252 hc ho hnL hrm hre hct hq hf8
          · have hf9 := (if_neg hh).symm.trans hf7
            clear hf7
            exact w_X3_formula_n56 hc ho hnL hrm hre hct hq hk_34 hf9
set_option maxRecDepth 100000 in
set_option maxHeartbeats 2000000 in
theorem c_X3_formula {l : Launch} {g : PG} {a0 : Nat} {x1 : Int32} {S : HS} {M M1 : MS} (hf : f_X3_formula x1 M = some M1) : (h_nx S ≤ h_nx S ∧ h_sl S ≤ h_sl S) ∧ Ct l g yX3_formula (ws_ yX3_formula cX3_formula 5 none) 6 167 S (some (a0, M)) [vr (some a0), vi x1] none S (some (a0, M1)) := by
  refine met_of false (by decide) (fun h => by first | rfl | cases h) rfl (Nat.le_of_ble_eq_true rfl) (fun f hl hg hc ho hnL hrm hre hct hex hq => ?_)
  subst hl
  subst hg
  unfold f_X3_formula at hf
  refine j_aload_n (pc := 0) hc dX3_formula_0 0 rfl rfl ?_
  refine j_mgA (pc := 1) hc ho fm_63 rfl dX3_formula_1 ?_
  refine j_bipush (pc := 4) (v := (8)) hc dX3_formula_4 rfl ?_
  refine j_aload_n (pc := 6) hc dX3_formula_6 0 rfl rfl ?_
  refine j_mgI (pc := 7) hc ho fm_159 rfl dX3_formula_7 ?_
  refine j_imul (pc := 10) hc dX3_formula_10 ?_
  refine j_iload_n (pc := 11) hc dX3_formula_11 1 rfl rfl ?_
  refine j_iadd (pc := 12) hc dX3_formula_12 ?_
  refine j_aload_n (pc := 13) hc dX3_formula_13 0 rfl rfl ?_
  refine j_mgA (pc := 14) hc ho fm_48 rfl dX3_formula_14 ?_
  refine j_aload_n (pc := 17) hc dX3_formula_17 0 rfl rfl ?_
  refine j_mgI (pc := 18) hc ho fm_159 rfl dX3_formula_18 ?_
  obtain ⟨v1, ev1, hf1⟩ := ob_i hf
  clear hf
  refine j_mldI (pc := 21) hc (k := 13) (by decide) rfl dX3_formula_21 ev1 ?_
  obtain ⟨N2, eN2, hf2⟩ := ob_i hf1
  clear hf1
  refine j_mstI (pc := 22) hc (k := 18) (by decide) rfl dX3_formula_22 eN2 ?_
  refine j_iconst (pc := 23) (v := (0)) hc dX3_formula_23 rfl ?_
  refine j_istore_n (pc := 24) (L' := [(2, vi (0)), (0, vr (some a0)), (1, vi x1)]) hc dX3_formula_24 rfl hnL (by decide) rfl ?_
  refine j_aload_n (pc := 25) hc dX3_formula_25 1 rfl rfl ?_
  refine j_mgA (pc := 26) hc ho fm_105 rfl dX3_formula_26 ?_
  refine j_iconst (pc := 29) (v := (0)) hc dX3_formula_29 rfl ?_
  refine j_iconst (pc := 30) (v := (0)) hc dX3_formula_30 rfl ?_
  obtain ⟨N3, eN3, hf3⟩ := ob_i hf2
  clear hf2
  refine j_mstI (pc := 31) hc (k := 40) (by decide) rfl dX3_formula_31 eN3 ?_
  refine j_iconst (pc := 32) (v := (1)) hc dX3_formula_32 rfl ?_
  refine j_istore_n (pc := 33) (L' := [(3, vi (1)), (2, vi (0)), (0, vr (some a0)), (1, vi x1)]) hc dX3_formula_33 rfl hnL (by decide) rfl ?_
  refine j_loc (L' := [(0, vr (some a0)), (1, vi x1), (2, vi (0)), (3, vi (1))]) [2, 3, 1, 0] rfl ?_
  exact w_X3_formula_n34 hc ho hnL hrm hre hct hq fu_ _ _ _ _ hf3
theorem cw_X3_246 : CV "TableCatalogModel" 246 RX3 yX3_formula cX3_formula 5 none 1 := ⟨⟨q1440, q1442, qs50, q90, q1443⟩, rfl, by decide, by decide, by decide +kernel⟩
theorem fm_249 : FM 249 41 := ⟨by decide, q1214⟩
theorem fm_69 : FM 69 20 := ⟨by decide, q1193⟩
def f_X3_select_n169 (k_37 : Int32 → MS → Option MS) (sx0 : Int32) (M : MS) : Option MS :=
  if sx0 = 0 then
    k_37 sx0 M
  else
    (f_X3_keeps M).bind fun N1 =>
    k_37 sx0 N1
def f_X3_select_n134 (k_37 : Int32 → MS → Option MS) (M : MS) : Option MS :=
  if (m_I M 25) = 0 then
    (g_mA M 4 (m_I M 0)).bind fun v1 =>
    (p_mA M 4 (m_I M 0) (v1 + (1))).bind fun N2 =>
    if (m_I N2 29) = (44) then
      f_X3_select_n169 k_37 (1) N2
    else
      f_X3_select_n169 k_37 (0) N2
  else
    some M
def f_X3_select_n114 (k_37 : Int32 → MS → Option MS) (M : MS) : Option MS :=
  if (m_I M 25) = 0 then
    (g_mA M 4 (m_I M 0)).bind fun v1 =>
    (f_X3_formula v1 M).bind fun N2 =>
    f_X3_select_n134 k_37 N2
  else
    f_X3_select_n134 k_37 M
def f_X3_select_n101 (k_37 : Int32 → MS → Option MS) (M : MS) : Option MS :=
  if (m_I M 25) = 0 then
    (f_X3_sign (58) M).bind fun N1 =>
    f_X3_select_n114 k_37 N1
  else
    f_X3_select_n114 k_37 M
def f_X3_select_n64 (k_37 : Int32 → MS → Option MS) (M : MS) : Option MS :=
  if (m_I M 25) = 0 then
    (g_mA M 4 (m_I M 0)).bind fun v1 =>
    (p_mB M 5 (((8) * (m_I M 0)) + v1) (m_J M 32)).bind fun N2 =>
    (f_X3_name N2).bind fun N3 =>
    f_X3_select_n101 k_37 N3
  else
    f_X3_select_n101 k_37 M
def f_X3_select_n343 (k_235 : Int32 → MS → Option MS) (sx0 : Int32) (M : MS) : Option MS :=
  if sx0 = 0 then
    k_235 sx0 M
  else
    (f_X3_keeps M).bind fun N1 =>
    k_235 sx0 N1
def f_X3_select_n308 (k_235 : Int32 → MS → Option MS) (M : MS) : Option MS :=
  if (m_I M 25) = 0 then
    (g_mA M 7 (m_I M 0)).bind fun v1 =>
    (p_mA M 7 (m_I M 0) (v1 + (1))).bind fun N2 =>
    if (m_I N2 29) = (44) then
      f_X3_select_n343 k_235 (1) N2
    else
      f_X3_select_n343 k_235 (0) N2
  else
    some M
def f_X3_select_n261 (k_235 : Int32 → MS → Option MS) (M : MS) : Option MS :=
  if (m_I M 25) = 0 then
    (g_mA M 7 (m_I M 0)).bind fun v1 =>
    (p_mB M 43 v1 (m_J M 32)).bind fun N2 =>
    (g_mA N2 7 (m_I N2 0)).bind fun v3 =>
    (p_mA N2 44 v3 (m_I N2 30)).bind fun N4 =>
    (f_X3_name N4).bind fun N5 =>
    f_X3_select_n308 k_235 N5
  else
    f_X3_select_n308 k_235 M
def f_X3_select_n411 (M : MS) : Option MS :=
  if (m_I M 25) = 0 then
    (some (m_sI M 42 (m_I M 30))).bind fun N1 =>
    (f_X3_keeps N1).bind fun N2 =>
    (f_X3_formula (7) N2).bind fun N3 =>
    some N3
  else
    some M
def f_X3_select_n235 : Nat → Int32 → MS → Option MS
  | 0, _, _ => none
  | n + 1, x1, M =>
    if x1 = 0 then
      o_bd (f_X3_isWord (m_J M 37) M) fun v2 N1 =>
      if v2 = 0 then
        some N1
      else
        (f_X3_keeps N1).bind fun N3 =>
        (f_X3_formula (6) N3).bind fun N4 =>
        if (m_I N4 25) = 0 then
          if (m_I N4 29) = (60) then
            f_X3_select_n411 N4
          else
            if (m_I N4 29) = (61) then
              f_X3_select_n411 N4
            else
              (f_X3_fail (1) (m_I N4 30) N4).bind fun N5 =>
              f_X3_select_n411 N5
        else
          f_X3_select_n411 N4
    else
      (g_mA M 7 (m_I M 0)).bind fun v6 =>
      if v6 = (3) then
        (f_X3_fail (1) (m_I M 30) M).bind fun N7 =>
        f_X3_select_n261 (fun x1 M => f_X3_select_n235 n x1 M) N7
      else
        f_X3_select_n261 (fun x1 M => f_X3_select_n235 n x1 M) M
def f_X3_select_n208 (M : MS) : Option MS :=
  if (m_I M 25) = 0 then
    (f_X3_keeps M).bind fun N1 =>
    (g_mA N1 13 (m_I N1 0)).bind fun v2 =>
    (some (m_sI N1 41 v2)).bind fun N3 =>
    f_X3_select_n235 fu_ (1) N3
  else
    some M
def f_X3_select_n37 : Nat → Int32 → MS → Option MS
  | 0, _, _ => none
  | n + 1, x1, M =>
    if x1 = 0 then
      if (m_I M 25) = 0 then
        o_bd (f_X3_isWord (m_J M 36) M) fun v2 N1 =>
        if v2 = 0 then
          (f_X3_fail (1) (m_I N1 30) N1).bind fun N3 =>
          f_X3_select_n208 N3
        else
          f_X3_select_n208 N1
      else
        f_X3_select_n208 M
    else
      (g_mA M 4 (m_I M 0)).bind fun v4 =>
      if v4 = (6) then
        (f_X3_fail (1) (m_I M 30) M).bind fun N5 =>
        f_X3_select_n64 (fun x1 M => f_X3_select_n37 n x1 M) N5
      else
        f_X3_select_n64 (fun x1 M => f_X3_select_n37 n x1 M) M
def f_X3_select (M : MS) : Option MS :=
  (g_mA M 13 (m_I M 0)).bind fun v1 =>
  (p_mA M 20 (m_I M 0) v1).bind fun N2 =>
  (f_X3_sign (61) N2).bind fun N3 =>
  if (m_I N3 25) = 0 then
    f_X3_select_n37 fu_ (1) N3
  else
    f_X3_select_n37 fu_ (0) N3
set_option maxRecDepth 100000 in
set_option maxHeartbeats 2000000 in
theorem w_X3_select_n169 {f : CfT} {a0 : Nat} {S : HS} {M1 : MS} (hc : cf_cc f = cX3_select) (ho : cf_ow f = "TableCatalogModel") (hnL : cf_nL f = 2) (hrm : cf_rm f = (7, 191)) (hre : cf_re f = none) (hct : cf_ct f = false) (hq : Qok f none S (some (a0, M1))) {k_37 : Int32 → MS → Option MS} (hk_37 : ∀ (x1 : Int32) (M : MS), k_37 x1 M = some M1 → JJ f S (some (a0, M)) 37 [(0, vr (some a0)), (1, vi x1)] []) {sx0 : Int32} {M : MS} (hf : f_X3_select_n169 k_37 sx0 M = some M1) : JJ f S (some (a0, M)) 169 [(0, vr (some a0))] [vi sx0] := by
  unfold f_X3_select_n169 at hf
  refine j_istore_n (pc := 169) (L' := [(1, vi sx0), (0, vr (some a0))]) hc dX3_select_169 rfl hnL (by decide) rfl ?_
  refine j_iload_n (pc := 170) hc dX3_select_170 0 rfl rfl ?_
  refine j_if_eq (pc := 171) hc dX3_select_171 (tgt := 37) rfl (fun hh => ?_) (fun hh => ?_)
  · have hf1 := (if_pos hh).symm.trans hf
    clear hf
    refine j_loc (L' := [(0, vr (some a0)), (1, vi sx0)]) [1, 0] rfl ?_
    exact hk_37 _ _ hf1
  · have hf2 := (if_neg hh).symm.trans hf
    clear hf
    refine j_aload_n (pc := 174) hc dX3_select_174 1 rfl rfl ?_
    obtain ⟨N1, eN1, hf3⟩ := ob_i hf2
    clear hf2
    refine j_callV (pc := 175) (As := []) (rest := []) (st2 := []) hc ho cw_X3_213 (c_X3_keeps eN1) (Or.inr ⟨rfl, _, rfl⟩) hrm ⟨by decide, by decide⟩ rfl (Nat.le_of_ble_eq_true rfl) dX3_select_175 rfl rfl ?_
    refine j_goto (pc := 178) hc dX3_select_178 (tgt := 37) rfl ?_
    refine j_loc (L' := [(0, vr (some a0)), (1, vi sx0)]) [1, 0] rfl ?_
    exact hk_37 _ _ hf3
set_option maxRecDepth 100000 in
set_option maxHeartbeats 2000000 in
theorem w_X3_select_n134 {f : CfT} {a0 : Nat} {S : HS} {M1 : MS} (hc : cf_cc f = cX3_select) (ho : cf_ow f = "TableCatalogModel") (hnL : cf_nL f = 2) (hrm : cf_rm f = (7, 191)) (hre : cf_re f = none) (hct : cf_ct f = false) (hq : Qok f none S (some (a0, M1))) {k_37 : Int32 → MS → Option MS} (hk_37 : ∀ (x1 : Int32) (M : MS), k_37 x1 M = some M1 → JJ f S (some (a0, M)) 37 [(0, vr (some a0)), (1, vi x1)] []) {M : MS} (hf : f_X3_select_n134 k_37 M = some M1) : JJ f S (some (a0, M)) 134 [(0, vr (some a0))] [] := by
  unfold f_X3_select_n134 at hf
  refine j_aload_n (pc := 134) hc dX3_select_134 0 rfl rfl ?_
  refine j_mgI (pc := 135) hc ho fm_169 rfl dX3_select_135 ?_
  refine j_if_eq (pc := 138) hc dX3_select_138 (tgt := 142) rfl (fun hh => ?_) (fun hh => ?_)
  · have hf1 := (if_pos hh).symm.trans hf
    clear hf
    refine j_aload_n (pc := 142) hc dX3_select_142 0 rfl rfl ?_
    refine j_mgA (pc := 143) hc ho fm_21 rfl dX3_select_143 ?_
    refine j_aload_n (pc := 146) hc dX3_select_146 0 rfl rfl ?_
    refine j_mgI (pc := 147) hc ho fm_159 rfl dX3_select_147 ?_
    refine j_dup2_11 (pc := 150) hc dX3_select_150 rfl rfl ?_
    obtain ⟨v1, ev1, hf2⟩ := ob_i hf1
    clear hf1
    refine j_mldI (pc := 151) hc (k := 4) (by decide) rfl dX3_select_151 ev1 ?_
    refine j_iconst (pc := 152) (v := (1)) hc dX3_select_152 rfl ?_
    refine j_iadd (pc := 153) hc dX3_select_153 ?_
    obtain ⟨N2, eN2, hf3⟩ := ob_i hf2
    clear hf2
    refine j_mstI (pc := 154) hc (k := 4) (by decide) rfl dX3_select_154 eN2 ?_
    refine j_aload_n (pc := 155) hc dX3_select_155 0 rfl rfl ?_
    refine j_mgI (pc := 156) hc ho fm_197 rfl dX3_select_156 ?_
    refine j_bipush (pc := 159) (v := (44)) hc dX3_select_159 rfl ?_
    refine j_icmp_ne (pc := 161) hc dX3_select_161 (tgt := 168) rfl (fun hh => ?_) (fun hh => ?_)
    · have hf4 := (if_neg hh).symm.trans hf3
      clear hf3
      refine j_iconst (pc := 168) (v := (0)) hc dX3_select_168 rfl ?_
      exact w_X3_select_n169 hc ho hnL hrm hre hct hq hk_37 hf4
    · have hf5 := (if_pos hh).symm.trans hf3
      clear hf3
      refine j_iconst (pc := 164) (v := (1)) hc dX3_select_164 rfl ?_
      refine j_goto (pc := 165) hc dX3_select_165 (tgt := 169) rfl ?_
      exact w_X3_select_n169 hc ho hnL hrm hre hct hq hk_37 hf5
  · have hf6 := (if_neg hh).symm.trans hf
    clear hf
    cases hf6
    exact j_vret (pc := 141) hc hq hre dX3_select_141
set_option maxRecDepth 100000 in
set_option maxHeartbeats 2000000 in
theorem w_X3_select_n114 {f : CfT} {a0 : Nat} {S : HS} {M1 : MS} (hc : cf_cc f = cX3_select) (ho : cf_ow f = "TableCatalogModel") (hnL : cf_nL f = 2) (hrm : cf_rm f = (7, 191)) (hre : cf_re f = none) (hct : cf_ct f = false) (hq : Qok f none S (some (a0, M1))) {k_37 : Int32 → MS → Option MS} (hk_37 : ∀ (x1 : Int32) (M : MS), k_37 x1 M = some M1 → JJ f S (some (a0, M)) 37 [(0, vr (some a0)), (1, vi x1)] []) {M : MS} (hf : f_X3_select_n114 k_37 M = some M1) : JJ f S (some (a0, M)) 114 [(0, vr (some a0))] [] := by
  unfold f_X3_select_n114 at hf
  refine j_aload_n (pc := 114) hc dX3_select_114 0 rfl rfl ?_
  refine j_mgI (pc := 115) hc ho fm_169 rfl dX3_select_115 ?_
  refine j_if_ne (pc := 118) hc dX3_select_118 (tgt := 134) rfl (fun hh => ?_) (fun hh => ?_)
  · have hf1 := (if_neg hh).symm.trans hf
    clear hf
    exact w_X3_select_n134 hc ho hnL hrm hre hct hq hk_37 hf1
  · have hf2 := (if_pos hh).symm.trans hf
    clear hf
    refine j_aload_n (pc := 121) hc dX3_select_121 0 rfl rfl ?_
    refine j_aload_n (pc := 122) hc dX3_select_122 0 rfl rfl ?_
    refine j_mgA (pc := 123) hc ho fm_21 rfl dX3_select_123 ?_
    refine j_aload_n (pc := 126) hc dX3_select_126 0 rfl rfl ?_
    refine j_mgI (pc := 127) hc ho fm_159 rfl dX3_select_127 ?_
    obtain ⟨v1, ev1, hf3⟩ := ob_i hf2
    clear hf2
    refine j_mldI (pc := 130) hc (k := 4) (by decide) rfl dX3_select_130 ev1 ?_
    obtain ⟨N2, eN2, hf4⟩ := ob_i hf3
    clear hf3
    refine j_callV (pc := 131) (As := [vi v1]) (rest := []) (st2 := []) hc ho cw_X3_246 (c_X3_formula eN2) (Or.inr ⟨rfl, _, rfl⟩) hrm ⟨by decide, by decide⟩ rfl (Nat.le_of_ble_eq_true rfl) dX3_select_131 rfl rfl ?_
    exact w_X3_select_n134 hc ho hnL hrm hre hct hq hk_37 hf4
set_option maxRecDepth 100000 in
set_option maxHeartbeats 2000000 in
theorem w_X3_select_n101 {f : CfT} {a0 : Nat} {S : HS} {M1 : MS} (hc : cf_cc f = cX3_select) (ho : cf_ow f = "TableCatalogModel") (hnL : cf_nL f = 2) (hrm : cf_rm f = (7, 191)) (hre : cf_re f = none) (hct : cf_ct f = false) (hq : Qok f none S (some (a0, M1))) {k_37 : Int32 → MS → Option MS} (hk_37 : ∀ (x1 : Int32) (M : MS), k_37 x1 M = some M1 → JJ f S (some (a0, M)) 37 [(0, vr (some a0)), (1, vi x1)] []) {M : MS} (hf : f_X3_select_n101 k_37 M = some M1) : JJ f S (some (a0, M)) 101 [(0, vr (some a0))] [] := by
  unfold f_X3_select_n101 at hf
  refine j_aload_n (pc := 101) hc dX3_select_101 0 rfl rfl ?_
  refine j_mgI (pc := 102) hc ho fm_169 rfl dX3_select_102 ?_
  refine j_if_ne (pc := 105) hc dX3_select_105 (tgt := 114) rfl (fun hh => ?_) (fun hh => ?_)
  · have hf1 := (if_neg hh).symm.trans hf
    clear hf
    exact w_X3_select_n114 hc ho hnL hrm hre hct hq hk_37 hf1
  · have hf2 := (if_pos hh).symm.trans hf
    clear hf
    refine j_aload_n (pc := 108) hc dX3_select_108 0 rfl rfl ?_
    refine j_bipush (pc := 109) (v := (58)) hc dX3_select_109 rfl ?_
    obtain ⟨N1, eN1, hf3⟩ := ob_i hf2
    clear hf2
    refine j_callV (pc := 111) (As := [vi (58)]) (rest := []) (st2 := []) hc ho cw_X3_231 (c_X3_sign eN1) (Or.inr ⟨rfl, _, rfl⟩) hrm ⟨by decide, by decide⟩ rfl (Nat.le_of_ble_eq_true rfl) dX3_select_111 rfl rfl ?_
    exact w_X3_select_n114 hc ho hnL hrm hre hct hq hk_37 hf3
set_option maxRecDepth 100000 in
set_option maxHeartbeats 2000000 in
theorem w_X3_select_n64 {f : CfT} {a0 : Nat} {S : HS} {M1 : MS} (hc : cf_cc f = cX3_select) (ho : cf_ow f = "TableCatalogModel") (hnL : cf_nL f = 2) (hrm : cf_rm f = (7, 191)) (hre : cf_re f = none) (hct : cf_ct f = false) (hq : Qok f none S (some (a0, M1))) {k_37 : Int32 → MS → Option MS} (hk_37 : ∀ (x1 : Int32) (M : MS), k_37 x1 M = some M1 → JJ f S (some (a0, M)) 37 [(0, vr (some a0)), (1, vi x1)] []) {M : MS} (hf : f_X3_select_n64 k_37 M = some M1) : JJ f S (some (a0, M)) 64 [(0, vr (some a0))] [] := by
  unfold f_X3_select_n64 at hf
  refine j_aload_n (pc := 64) hc dX3_select_64 0 rfl rfl ?_
  refine j_mgI (pc := 65) hc ho fm_169 rfl dX3_select_65 ?_
  refine j_if_ne (pc := 68) hc dX3_select_68 (tgt := 101) rfl (fun hh => ?_) (fun hh => ?_)
  · have hf1 := (if_neg hh).symm.trans hf
    clear hf
    exact w_X3_select_n101 hc ho hnL hrm hre hct hq hk_37 hf1
  · have hf2 := (if_pos hh).symm.trans hf
    clear hf
    refine j_aload_n (pc := 71) hc dX3_select_71 0 rfl rfl ?_
    refine j_mgA (pc := 72) hc ho fm_24 rfl dX3_select_72 ?_
    refine j_bipush (pc := 75) (v := (8)) hc dX3_select_75 rfl ?_
    refine j_aload_n (pc := 77) hc dX3_select_77 0 rfl rfl ?_
    refine j_mgI (pc := 78) hc ho fm_159 rfl dX3_select_78 ?_
    refine j_imul (pc := 81) hc dX3_select_81 ?_
    refine j_aload_n (pc := 82) hc dX3_select_82 0 rfl rfl ?_
    refine j_mgA (pc := 83) hc ho fm_21 rfl dX3_select_83 ?_
    refine j_aload_n (pc := 86) hc dX3_select_86 0 rfl rfl ?_
    refine j_mgI (pc := 87) hc ho fm_159 rfl dX3_select_87 ?_
    obtain ⟨v1, ev1, hf3⟩ := ob_i hf2
    clear hf2
    refine j_mldI (pc := 90) hc (k := 4) (by decide) rfl dX3_select_90 ev1 ?_
    refine j_iadd (pc := 91) hc dX3_select_91 ?_
    refine j_aload_n (pc := 92) hc dX3_select_92 0 rfl rfl ?_
    refine j_mgJ (pc := 93) hc ho fm_194 rfl dX3_select_93 ?_
    obtain ⟨N2, eN2, hf4⟩ := ob_i hf3
    clear hf3
    refine j_mstJ (pc := 96) hc (k := 5) (by decide) rfl dX3_select_96 eN2 ?_
    refine j_aload_n (pc := 97) hc dX3_select_97 0 rfl rfl ?_
    obtain ⟨N3, eN3, hf5⟩ := ob_i hf4
    clear hf4
    refine j_callV (pc := 98) (As := []) (rest := []) (st2 := []) hc ho cw_X3_238 (c_X3_name eN3) (Or.inr ⟨rfl, _, rfl⟩) hrm ⟨by decide, by decide⟩ rfl (Nat.le_of_ble_eq_true rfl) dX3_select_98 rfl rfl ?_
    exact w_X3_select_n101 hc ho hnL hrm hre hct hq hk_37 hf5
set_option maxRecDepth 100000 in
set_option maxHeartbeats 2000000 in
theorem w_X3_select_n343 {f : CfT} {a0 : Nat} {S : HS} {M1 : MS} (hc : cf_cc f = cX3_select) (ho : cf_ow f = "TableCatalogModel") (hnL : cf_nL f = 2) (hrm : cf_rm f = (7, 191)) (hre : cf_re f = none) (hct : cf_ct f = false) (hq : Qok f none S (some (a0, M1))) {k_235 : Int32 → MS → Option MS} (hk_235 : ∀ (x1 : Int32) (M : MS), k_235 x1 M = some M1 → JJ f S (some (a0, M)) 235 [(0, vr (some a0)), (1, vi x1)] []) {sx0 : Int32} {M : MS} (hf : f_X3_select_n343 k_235 sx0 M = some M1) : JJ f S (some (a0, M)) 343 [(0, vr (some a0))] [vi sx0] := by
  unfold f_X3_select_n343 at hf
  refine j_istore_n (pc := 343) (L' := [(1, vi sx0), (0, vr (some a0))]) hc dX3_select_343 rfl hnL (by decide) rfl ?_
  refine j_iload_n (pc := 344) hc dX3_select_344 0 rfl rfl ?_
  refine j_if_eq (pc := 345) hc dX3_select_345 (tgt := 235) rfl (fun hh => ?_) (fun hh => ?_)
  · have hf1 := (if_pos hh).symm.trans hf
    clear hf
    refine j_loc (L' := [(0, vr (some a0)), (1, vi sx0)]) [1, 0] rfl ?_
    exact hk_235 _ _ hf1
  · have hf2 := (if_neg hh).symm.trans hf
    clear hf
    refine j_aload_n (pc := 348) hc dX3_select_348 1 rfl rfl ?_
    obtain ⟨N1, eN1, hf3⟩ := ob_i hf2
    clear hf2
    refine j_callV (pc := 349) (As := []) (rest := []) (st2 := []) hc ho cw_X3_213 (c_X3_keeps eN1) (Or.inr ⟨rfl, _, rfl⟩) hrm ⟨by decide, by decide⟩ rfl (Nat.le_of_ble_eq_true rfl) dX3_select_349 rfl rfl ?_
    refine j_goto (pc := 352) hc dX3_select_352 (tgt := 235) rfl ?_
    refine j_loc (L' := [(0, vr (some a0)), (1, vi sx0)]) [1, 0] rfl ?_
    exact hk_235 _ _ hf3
set_option maxRecDepth 100000 in
set_option maxHeartbeats 2000000 in
theorem w_X3_select_n308 {f : CfT} {a0 : Nat} {S : HS} {M1 : MS} (hc : cf_cc f = cX3_select) (ho : cf_ow f = "TableCatalogModel") (hnL : cf_nL f = 2) (hrm : cf_rm f = (7, 191)) (hre : cf_re f = none) (hct : cf_ct f = false) (hq : Qok f none S (some (a0, M1))) {k_235 : Int32 → MS → Option MS} (hk_235 : ∀ (x1 : Int32) (M : MS), k_235 x1 M = some M1 → JJ f S (some (a0, M)) 235 [(0, vr (some a0)), (1, vi x1)] []) {M : MS} (hf : f_X3_select_n308 k_235 M = some M1) : JJ f S (some (a0, M)) 308 [(0, vr (some a0))] [] := by
  unfold f_X3_select_n308 at hf
  refine j_aload_n (pc := 308) hc dX3_select_308 0 rfl rfl ?_
  refine j_mgI (pc := 309) hc ho fm_169 rfl dX3_select_309 ?_
  refine j_if_eq (pc := 312) hc dX3_select_312 (tgt := 316) rfl (fun hh => ?_) (fun hh => ?_)
  · have hf1 := (if_pos hh).symm.trans hf
    clear hf
    refine j_aload_n (pc := 316) hc dX3_select_316 0 rfl rfl ?_
    refine j_mgA (pc := 317) hc ho fm_30 rfl dX3_select_317 ?_
    refine j_aload_n (pc := 320) hc dX3_select_320 0 rfl rfl ?_
    refine j_mgI (pc := 321) hc ho fm_159 rfl dX3_select_321 ?_
    refine j_dup2_11 (pc := 324) hc dX3_select_324 rfl rfl ?_
    obtain ⟨v1, ev1, hf2⟩ := ob_i hf1
    clear hf1
    refine j_mldI (pc := 325) hc (k := 7) (by decide) rfl dX3_select_325 ev1 ?_
    refine j_iconst (pc := 326) (v := (1)) hc dX3_select_326 rfl ?_
    refine j_iadd (pc := 327) hc dX3_select_327 ?_
    obtain ⟨N2, eN2, hf3⟩ := ob_i hf2
    clear hf2
    refine j_mstI (pc := 328) hc (k := 7) (by decide) rfl dX3_select_328 eN2 ?_
    refine j_aload_n (pc := 329) hc dX3_select_329 0 rfl rfl ?_
    refine j_mgI (pc := 330) hc ho fm_197 rfl dX3_select_330 ?_
    refine j_bipush (pc := 333) (v := (44)) hc dX3_select_333 rfl ?_
    refine j_icmp_ne (pc := 335) hc dX3_select_335 (tgt := 342) rfl (fun hh => ?_) (fun hh => ?_)
    · have hf4 := (if_neg hh).symm.trans hf3
      clear hf3
      refine j_iconst (pc := 342) (v := (0)) hc dX3_select_342 rfl ?_
      exact w_X3_select_n343 hc ho hnL hrm hre hct hq hk_235 hf4
    · have hf5 := (if_pos hh).symm.trans hf3
      clear hf3
      refine j_iconst (pc := 338) (v := (1)) hc dX3_select_338 rfl ?_
      refine j_goto (pc := 339) hc dX3_select_339 (tgt := 343) rfl ?_
      exact w_X3_select_n343 hc ho hnL hrm hre hct hq hk_235 hf5
  · have hf6 := (if_neg hh).symm.trans hf
    clear hf
    cases hf6
    exact j_vret (pc := 315) hc hq hre dX3_select_315
set_option maxRecDepth 100000 in
set_option maxHeartbeats 2000000 in
theorem w_X3_select_n261 {f : CfT} {a0 : Nat} {S : HS} {M1 : MS} (hc : cf_cc f = cX3_select) (ho : cf_ow f = "TableCatalogModel") (hnL : cf_nL f = 2) (hrm : cf_rm f = (7, 191)) (hre : cf_re f = none) (hct : cf_ct f = false) (hq : Qok f none S (some (a0, M1))) {k_235 : Int32 → MS → Option MS} (hk_235 : ∀ (x1 : Int32) (M : MS), k_235 x1 M = some M1 → JJ f S (some (a0, M)) 235 [(0, vr (some a0)), (1, vi x1)] []) {M : MS} (hf : f_X3_select_n261 k_235 M = some M1) : JJ f S (some (a0, M)) 261 [(0, vr (some a0))] [] := by
  unfold f_X3_select_n261 at hf
  refine j_aload_n (pc := 261) hc dX3_select_261 0 rfl rfl ?_
  refine j_mgI (pc := 262) hc ho fm_169 rfl dX3_select_262 ?_
  refine j_if_ne (pc := 265) hc dX3_select_265 (tgt := 308) rfl (fun hh => ?_) (fun hh => ?_)
  · have hf1 := (if_neg hh).symm.trans hf
    clear hf
    exact w_X3_select_n308 hc ho hnL hrm hre hct hq hk_235 hf1
  · have hf2 := (if_pos hh).symm.trans hf
    clear hf
    refine j_aload_n (pc := 268) hc dX3_select_268 0 rfl rfl ?_
    refine j_mgA (pc := 269) hc ho fm_108 rfl dX3_select_269 ?_
    refine j_aload_n (pc := 272) hc dX3_select_272 0 rfl rfl ?_
    refine j_mgA (pc := 273) hc ho fm_30 rfl dX3_select_273 ?_
    refine j_aload_n (pc := 276) hc dX3_select_276 0 rfl rfl ?_
    refine j_mgI (pc := 277) hc ho fm_159 rfl dX3_select_277 ?_
    obtain ⟨v1, ev1, hf3⟩ := ob_i hf2
    clear hf2
    refine j_mldI (pc := 280) hc (k := 7) (by decide) rfl dX3_select_280 ev1 ?_
    refine j_aload_n (pc := 281) hc dX3_select_281 0 rfl rfl ?_
    refine j_mgJ (pc := 282) hc ho fm_194 rfl dX3_select_282 ?_
    obtain ⟨N2, eN2, hf4⟩ := ob_i hf3
    clear hf3
    refine j_mstJ (pc := 285) hc (k := 43) (by decide) rfl dX3_select_285 eN2 ?_
    refine j_aload_n (pc := 286) hc dX3_select_286 0 rfl rfl ?_
    refine j_mgA (pc := 287) hc ho fm_111 rfl dX3_select_287 ?_
    refine j_aload_n (pc := 290) hc dX3_select_290 0 rfl rfl ?_
    refine j_mgA (pc := 291) hc ho fm_30 rfl dX3_select_291 ?_
    refine j_aload_n (pc := 294) hc dX3_select_294 0 rfl rfl ?_
    refine j_mgI (pc := 295) hc ho fm_159 rfl dX3_select_295 ?_
    obtain ⟨v3, ev3, hf5⟩ := ob_i hf4
    clear hf4
    refine j_mldI (pc := 298) hc (k := 7) (by decide) rfl dX3_select_298 ev3 ?_
    refine j_aload_n (pc := 299) hc dX3_select_299 0 rfl rfl ?_
    refine j_mgI (pc := 300) hc ho fm_188 rfl dX3_select_300 ?_
    obtain ⟨N4, eN4, hf6⟩ := ob_i hf5
    clear hf5
    refine j_mstI (pc := 303) hc (k := 44) (by decide) rfl dX3_select_303 eN4 ?_
    refine j_aload_n (pc := 304) hc dX3_select_304 0 rfl rfl ?_
    obtain ⟨N5, eN5, hf7⟩ := ob_i hf6
    clear hf6
    refine j_callV (pc := 305) (As := []) (rest := []) (st2 := []) hc ho cw_X3_238 (c_X3_name eN5) (Or.inr ⟨rfl, _, rfl⟩) hrm ⟨by decide, by decide⟩ rfl (Nat.le_of_ble_eq_true rfl) dX3_select_305 rfl rfl ?_
    exact w_X3_select_n308 hc ho hnL hrm hre hct hq hk_235 hf7
set_option maxRecDepth 100000 in
set_option maxHeartbeats 2000000 in
theorem w_X3_select_n411 {f : CfT} {a0 : Nat} {S : HS} {M1 : MS} (hc : cf_cc f = cX3_select) (ho : cf_ow f = "TableCatalogModel") (hnL : cf_nL f = 2) (hrm : cf_rm f = (7, 191)) (hre : cf_re f = none) (hct : cf_ct f = false) (hq : Qok f none S (some (a0, M1))) {M : MS} (hf : f_X3_select_n411 M = some M1) : JJ f S (some (a0, M)) 411 [(0, vr (some a0))] [] := by
  unfold f_X3_select_n411 at hf
  refine j_aload_n (pc := 411) hc dX3_select_411 0 rfl rfl ?_
  refine j_mgI (pc := 412) hc ho fm_169 rfl dX3_select_412 ?_
  refine j_if_eq (pc := 415) hc dX3_select_415 (tgt := 419) rfl (fun hh => ?_) (fun hh => ?_)
  · have hf1 := (if_pos hh).symm.trans hf
    clear hf
    refine j_aload_n (pc := 419) hc dX3_select_419 0 rfl rfl ?_
    refine j_aload_n (pc := 420) hc dX3_select_420 0 rfl rfl ?_
    refine j_mgI (pc := 421) hc ho fm_188 rfl dX3_select_421 ?_
    obtain ⟨N1, eN1, hf2⟩ := ob_i hf1
    clear hf1
    refine j_mpI (pc := 424) hc ho fm_252 rfl rfl rfl rfl dX3_select_424 eN1 ?_
    refine j_aload_n (pc := 427) hc dX3_select_427 0 rfl rfl ?_
    obtain ⟨N2, eN2, hf3⟩ := ob_i hf2
    clear hf2
    refine j_callV (pc := 428) (As := []) (rest := []) (st2 := []) hc ho cw_X3_213 (c_X3_keeps eN2) (Or.inr ⟨rfl, _, rfl⟩) hrm ⟨by decide, by decide⟩ rfl (Nat.le_of_ble_eq_true rfl) dX3_select_428 rfl rfl ?_
    refine j_aload_n (pc := 431) hc dX3_select_431 0 rfl rfl ?_
    refine j_bipush (pc := 432) (v := (7)) hc dX3_select_432 rfl ?_
    obtain ⟨N3, eN3, hf4⟩ := ob_i hf3
    clear hf3
    refine j_callV (pc := 434) (As := [vi (7)]) (rest := []) (st2 := []) hc ho cw_X3_246 (c_X3_formula eN3) (Or.inr ⟨rfl, _, rfl⟩) hrm ⟨by decide, by decide⟩ rfl (Nat.le_of_ble_eq_true rfl) dX3_select_434 rfl rfl ?_
    cases hf4
    exact j_vret (pc := 437) hc hq hre dX3_select_437
  · have hf5 := (if_neg hh).symm.trans hf
    clear hf
    cases hf5
    exact j_vret (pc := 418) hc hq hre dX3_select_418
set_option maxRecDepth 100000 in
set_option maxHeartbeats 2000000 in
theorem w_X3_select_n235 {f : CfT} {a0 : Nat} {S : HS} {M1 : MS} (hc : cf_cc f = cX3_select) (ho : cf_ow f = "TableCatalogModel") (hnL : cf_nL f = 2) (hrm : cf_rm f = (7, 191)) (hre : cf_re f = none) (hct : cf_ct f = false) (hq : Qok f none S (some (a0, M1))) : ∀ (n : Nat) (x1 : Int32) (M : MS), f_X3_select_n235 n x1 M = some M1 → JJ f S (some (a0, M)) 235 [(0, vr (some a0)), (1, vi x1)] [] := by
  intro n
  induction n with
  | zero =>
    intro x1 M hf
    have hf : (none : Option MS) = some M1 := hf
    cases hf
  | succ n ih =>
    intro x1 M hf
    unfold f_X3_select_n235 at hf
    have hk_235 := ih
    refine j_iload_n (pc := 235) hc dX3_select_235 1 rfl rfl ?_
    refine j_if_eq (pc := 236) hc dX3_select_236 (tgt := 355) rfl (fun hh => ?_) (fun hh => ?_)
    · have hf1 := (if_pos hh).symm.trans hf
      clear hf
      refine j_aload_n (pc := 355) hc dX3_select_355 0 rfl rfl ?_
      refine j_aload_n (pc := 356) hc dX3_select_356 0 rfl rfl ?_
      refine j_mgJ (pc := 357) hc ho fm_96 rfl dX3_select_357 ?_
      obtain ⟨v2, N1, ev2, hf2⟩ := ob_c hf1
      clear hf1
      refine j_callV (pc := 360) (As := [vl (m_J M 37)]) (rest := []) (st2 := [vi v2]) hc ho cw_X3_227 (c_X3_isWord ev2) (Or.inr ⟨rfl, _, rfl⟩) hrm ⟨by decide, by decide⟩ rfl (Nat.le_of_ble_eq_true rfl) dX3_select_360 rfl rfl ?_
      refine j_if_ne (pc := 363) hc dX3_select_363 (tgt := 367) rfl (fun hh => ?_) (fun hh => ?_)
      · have hf3 := (if_neg hh).symm.trans hf2
        clear hf2
        refine j_aload_n (pc := 367) hc dX3_select_367 0 rfl rfl ?_
        obtain ⟨N3, eN3, hf4⟩ := ob_i hf3
        clear hf3
        refine j_callV (pc := 368) (As := []) (rest := []) (st2 := []) hc ho cw_X3_213 (c_X3_keeps eN3) (Or.inr ⟨rfl, _, rfl⟩) hrm ⟨by decide, by decide⟩ rfl (Nat.le_of_ble_eq_true rfl) dX3_select_368 rfl rfl ?_
        refine j_aload_n (pc := 371) hc dX3_select_371 0 rfl rfl ?_
        refine j_bipush (pc := 372) (v := (6)) hc dX3_select_372 rfl ?_
        obtain ⟨N4, eN4, hf5⟩ := ob_i hf4
        clear hf4
        refine j_callV (pc := 374) (As := [vi (6)]) (rest := []) (st2 := []) hc ho cw_X3_246 (c_X3_formula eN4) (Or.inr ⟨rfl, _, rfl⟩) hrm ⟨by decide, by decide⟩ rfl (Nat.le_of_ble_eq_true rfl) dX3_select_374 rfl rfl ?_
        refine j_aload_n (pc := 377) hc dX3_select_377 0 rfl rfl ?_
        refine j_mgI (pc := 378) hc ho fm_169 rfl dX3_select_378 ?_
        refine j_if_ne (pc := 381) hc dX3_select_381 (tgt := 411) rfl (fun hh => ?_) (fun hh => ?_)
        · have hf6 := (if_neg hh).symm.trans hf5
          clear hf5
          refine j_loc (L' := [(0, vr (some a0))]) [0] rfl ?_
          exact w_X3_select_n411 hc ho hnL hrm hre hct hq hf6
        · have hf7 := (if_pos hh).symm.trans hf5
          clear hf5
          refine j_aload_n (pc := 384) hc dX3_select_384 0 rfl rfl ?_
          refine j_mgI (pc := 385) hc ho fm_197 rfl dX3_select_385 ?_
          refine j_bipush (pc := 388) (v := (60)) hc dX3_select_388 rfl ?_
          refine j_icmp_eq (pc := 390) hc dX3_select_390 (tgt := 411) rfl (fun hh => ?_) (fun hh => ?_)
          · have hf8 := (if_pos hh).symm.trans hf7
            clear hf7
            refine j_loc (L' := [(0, vr (some a0))]) [0] rfl ?_
            exact w_X3_select_n411 hc ho hnL hrm hre hct hq hf8
          · have hf9 := (if_neg hh).symm.trans hf7
            clear hf7
            refine j_aload_n (pc := 393) hc dX3_select_393 0 rfl rfl ?_
            refine j_mgI (pc := 394) hc ho fm_197 rfl dX3_select_394 ?_
            refine j_bipush (pc := 397) (v := (61)) hc dX3_select_397 rfl ?_
            refine j_icmp_eq (pc := 399) hc dX3_select_399 (tgt := 411) rfl (fun hh => ?_) (fun hh => ?_)
            · have hf10 := (if_pos hh).symm.trans hf9
              clear hf9
              refine j_loc (L' := [(0, vr (some a0))]) [0] rfl ?_
              exact w_X3_select_n411 hc ho hnL hrm hre hct hq hf10
            · have hf11 := (if_neg hh).symm.trans hf9
              clear hf9
              refine j_aload_n (pc := 402) hc dX3_select_402 0 rfl rfl ?_
              refine j_iconst (pc := 403) (v := (1)) hc dX3_select_403 rfl ?_
              refine j_aload_n (pc := 404) hc dX3_select_404 0 rfl rfl ?_
              refine j_mgI (pc := 405) hc ho fm_188 rfl dX3_select_405 ?_
              obtain ⟨N5, eN5, hf12⟩ := ob_i hf11
              clear hf11
              refine j_callV (pc := 408) (As := [vi (1), vi (m_I N4 30)]) (rest := []) (st2 := []) hc ho cw_X3_216 (c_X3_fail eN5) (Or.inr ⟨rfl, _, rfl⟩) hrm ⟨by decide, by decide⟩ rfl (Nat.le_of_ble_eq_true rfl) dX3_select_408 rfl rfl ?_
              refine j_loc (L' := [(0, vr (some a0))]) [0] rfl ?_
              exact w_X3_select_n411 hc ho hnL hrm hre hct hq hf12
      · have hf13 := (if_pos hh).symm.trans hf2
        clear hf2
        cases hf13
        exact j_vret (pc := 366) hc hq hre dX3_select_366
    · have hf14 := (if_neg hh).symm.trans hf
      clear hf
      refine j_aload_n (pc := 239) hc dX3_select_239 0 rfl rfl ?_
      refine j_mgA (pc := 240) hc ho fm_30 rfl dX3_select_240 ?_
      refine j_aload_n (pc := 243) hc dX3_select_243 0 rfl rfl ?_
      refine j_mgI (pc := 244) hc ho fm_159 rfl dX3_select_244 ?_
      obtain ⟨v6, ev6, hf15⟩ := ob_i hf14
      clear hf14
      refine j_mldI (pc := 247) hc (k := 7) (by decide) rfl dX3_select_247 ev6 ?_
      refine j_iconst (pc := 248) (v := (3)) hc dX3_select_248 rfl ?_
      refine j_icmp_ne (pc := 249) hc dX3_select_249 (tgt := 261) rfl (fun hh => ?_) (fun hh => ?_)
      · have hf16 := (if_neg hh).symm.trans hf15
        clear hf15
        refine j_loc (L' := [(0, vr (some a0))]) [0] rfl ?_
        exact w_X3_select_n261 hc ho hnL hrm hre hct hq hk_235 hf16
      · have hf17 := (if_pos hh).symm.trans hf15
        clear hf15
        refine j_aload_n (pc := 252) hc dX3_select_252 0 rfl rfl ?_
        refine j_iconst (pc := 253) (v := (1)) hc dX3_select_253 rfl ?_
        refine j_aload_n (pc := 254) hc dX3_select_254 0 rfl rfl ?_
        refine j_mgI (pc := 255) hc ho fm_188 rfl dX3_select_255 ?_
        obtain ⟨N7, eN7, hf18⟩ := ob_i hf17
        clear hf17
        refine j_callV (pc := 258) (As := [vi (1), vi (m_I M 30)]) (rest := []) (st2 := []) hc ho cw_X3_216 (c_X3_fail eN7) (Or.inr ⟨rfl, _, rfl⟩) hrm ⟨by decide, by decide⟩ rfl (Nat.le_of_ble_eq_true rfl) dX3_select_258 rfl rfl ?_
        refine j_loc (L' := [(0, vr (some a0))]) [0] rfl ?_
        exact w_X3_select_n261 hc ho hnL hrm hre hct hq hk_235 hf18
set_option maxRecDepth 100000 in
set_option maxHeartbeats 2000000 in
theorem w_X3_select_n208 {f : CfT} {a0 : Nat} {S : HS} {M1 : MS} (hc : cf_cc f = cX3_select) (ho : cf_ow f = "TableCatalogModel") (hnL : cf_nL f = 2) (hrm : cf_rm f = (7, 191)) (hre : cf_re f = none) (hct : cf_ct f = false) (hq : Qok f none S (some (a0, M1))) {M : MS} (hf : f_X3_select_n208 M = some M1) : JJ f S (some (a0, M)) 208 [(0, vr (some a0))] [] := by
  unfold f_X3_select_n208 at hf
  refine j_aload_n (pc := 208) hc dX3_select_208 0 rfl rfl ?_
  refine j_mgI (pc := 209) hc ho fm_169 rfl dX3_select_209 ?_
  refine j_if_eq (pc := 212) hc dX3_select_212 (tgt := 216) rfl (fun hh => ?_) (fun hh => ?_)
  · have hf1 := (if_pos hh).symm.trans hf
    clear hf
    refine j_aload_n (pc := 216) hc dX3_select_216 0 rfl rfl ?_
    obtain ⟨N1, eN1, hf2⟩ := ob_i hf1
    clear hf1
    refine j_callV (pc := 217) (As := []) (rest := []) (st2 := []) hc ho cw_X3_213 (c_X3_keeps eN1) (Or.inr ⟨rfl, _, rfl⟩) hrm ⟨by decide, by decide⟩ rfl (Nat.le_of_ble_eq_true rfl) dX3_select_217 rfl rfl ?_
    refine j_aload_n (pc := 220) hc dX3_select_220 0 rfl rfl ?_
    refine j_aload_n (pc := 221) hc dX3_select_221 0 rfl rfl ?_
    refine j_mgA (pc := 222) hc ho fm_48 rfl dX3_select_222 ?_
    refine j_aload_n (pc := 225) hc dX3_select_225 0 rfl rfl ?_
    refine j_mgI (pc := 226) hc ho fm_159 rfl dX3_select_226 ?_
    obtain ⟨v2, ev2, hf3⟩ := ob_i hf2
    clear hf2
    refine j_mldI (pc := 229) hc (k := 13) (by decide) rfl dX3_select_229 ev2 ?_
    obtain ⟨N3, eN3, hf4⟩ := ob_i hf3
    clear hf3
    refine j_mpI (pc := 230) hc ho fm_249 rfl rfl rfl rfl dX3_select_230 eN3 ?_
    refine j_iconst (pc := 233) (v := (1)) hc dX3_select_233 rfl ?_
    refine j_istore_n (pc := 234) (L' := [(1, vi (1)), (0, vr (some a0))]) hc dX3_select_234 rfl hnL (by decide) rfl ?_
    refine j_loc (L' := [(0, vr (some a0)), (1, vi (1))]) [1, 0] rfl ?_
    exact w_X3_select_n235 hc ho hnL hrm hre hct hq fu_ _ _ hf4
  · have hf5 := (if_neg hh).symm.trans hf
    clear hf
    cases hf5
    exact j_vret (pc := 215) hc hq hre dX3_select_215
set_option maxRecDepth 100000 in
set_option maxHeartbeats 2000000 in
theorem w_X3_select_n37 {f : CfT} {a0 : Nat} {S : HS} {M1 : MS} (hc : cf_cc f = cX3_select) (ho : cf_ow f = "TableCatalogModel") (hnL : cf_nL f = 2) (hrm : cf_rm f = (7, 191)) (hre : cf_re f = none) (hct : cf_ct f = false) (hq : Qok f none S (some (a0, M1))) : ∀ (n : Nat) (x1 : Int32) (M : MS), f_X3_select_n37 n x1 M = some M1 → JJ f S (some (a0, M)) 37 [(0, vr (some a0)), (1, vi x1)] [] := by
  intro n
  induction n with
  | zero =>
    intro x1 M hf
    have hf : (none : Option MS) = some M1 := hf
    cases hf
  | succ n ih =>
    intro x1 M hf
    unfold f_X3_select_n37 at hf
    have hk_37 := ih
    refine j_iload_n (pc := 37) hc dX3_select_37 1 rfl rfl ?_
    refine j_if_eq (pc := 38) hc dX3_select_38 (tgt := 181) rfl (fun hh => ?_) (fun hh => ?_)
    · have hf1 := (if_pos hh).symm.trans hf
      clear hf
      refine j_aload_n (pc := 181) hc dX3_select_181 0 rfl rfl ?_
      refine j_mgI (pc := 182) hc ho fm_169 rfl dX3_select_182 ?_
      refine j_if_ne (pc := 185) hc dX3_select_185 (tgt := 208) rfl (fun hh => ?_) (fun hh => ?_)
      · have hf2 := (if_neg hh).symm.trans hf1
        clear hf1
        refine j_loc (L' := [(0, vr (some a0))]) [0] rfl ?_
        exact w_X3_select_n208 hc ho hnL hrm hre hct hq hf2
      · have hf3 := (if_pos hh).symm.trans hf1
        clear hf1
        refine j_aload_n (pc := 188) hc dX3_select_188 0 rfl rfl ?_
        refine j_aload_n (pc := 189) hc dX3_select_189 0 rfl rfl ?_
        refine j_mgJ (pc := 190) hc ho fm_93 rfl dX3_select_190 ?_
        obtain ⟨v2, N1, ev2, hf4⟩ := ob_c hf3
        clear hf3
        refine j_callV (pc := 193) (As := [vl (m_J M 36)]) (rest := []) (st2 := [vi v2]) hc ho cw_X3_227 (c_X3_isWord ev2) (Or.inr ⟨rfl, _, rfl⟩) hrm ⟨by decide, by decide⟩ rfl (Nat.le_of_ble_eq_true rfl) dX3_select_193 rfl rfl ?_
        refine j_if_ne (pc := 196) hc dX3_select_196 (tgt := 208) rfl (fun hh => ?_) (fun hh => ?_)
        · have hf5 := (if_neg hh).symm.trans hf4
          clear hf4
          refine j_loc (L' := [(0, vr (some a0))]) [0] rfl ?_
          exact w_X3_select_n208 hc ho hnL hrm hre hct hq hf5
        · have hf6 := (if_pos hh).symm.trans hf4
          clear hf4
          refine j_aload_n (pc := 199) hc dX3_select_199 0 rfl rfl ?_
          refine j_iconst (pc := 200) (v := (1)) hc dX3_select_200 rfl ?_
          refine j_aload_n (pc := 201) hc dX3_select_201 0 rfl rfl ?_
          refine j_mgI (pc := 202) hc ho fm_188 rfl dX3_select_202 ?_
          obtain ⟨N3, eN3, hf7⟩ := ob_i hf6
          clear hf6
          refine j_callV (pc := 205) (As := [vi (1), vi (m_I N1 30)]) (rest := []) (st2 := []) hc ho cw_X3_216 (c_X3_fail eN3) (Or.inr ⟨rfl, _, rfl⟩) hrm ⟨by decide, by decide⟩ rfl (Nat.le_of_ble_eq_true rfl) dX3_select_205 rfl rfl ?_
          refine j_loc (L' := [(0, vr (some a0))]) [0] rfl ?_
          exact w_X3_select_n208 hc ho hnL hrm hre hct hq hf7
    · have hf8 := (if_neg hh).symm.trans hf
      clear hf
      refine j_aload_n (pc := 41) hc dX3_select_41 0 rfl rfl ?_
      refine j_mgA (pc := 42) hc ho fm_21 rfl dX3_select_42 ?_
      refine j_aload_n (pc := 45) hc dX3_select_45 0 rfl rfl ?_
      refine j_mgI (pc := 46) hc ho fm_159 rfl dX3_select_46 ?_
      obtain ⟨v4, ev4, hf9⟩ := ob_i hf8
      clear hf8
      refine j_mldI (pc := 49) hc (k := 4) (by decide) rfl dX3_select_49 ev4 ?_
      refine j_bipush (pc := 50) (v := (6)) hc dX3_select_50 rfl ?_
      refine j_icmp_ne (pc := 52) hc dX3_select_52 (tgt := 64) rfl (fun hh => ?_) (fun hh => ?_)
      · have hf10 := (if_neg hh).symm.trans hf9
        clear hf9
        refine j_loc (L' := [(0, vr (some a0))]) [0] rfl ?_
        exact w_X3_select_n64 hc ho hnL hrm hre hct hq hk_37 hf10
      · have hf11 := (if_pos hh).symm.trans hf9
        clear hf9
        refine j_aload_n (pc := 55) hc dX3_select_55 0 rfl rfl ?_
        refine j_iconst (pc := 56) (v := (1)) hc dX3_select_56 rfl ?_
        refine j_aload_n (pc := 57) hc dX3_select_57 0 rfl rfl ?_
        refine j_mgI (pc := 58) hc ho fm_188 rfl dX3_select_58 ?_
        obtain ⟨N5, eN5, hf12⟩ := ob_i hf11
        clear hf11
        refine j_callV (pc := 61) (As := [vi (1), vi (m_I M 30)]) (rest := []) (st2 := []) hc ho cw_X3_216 (c_X3_fail eN5) (Or.inr ⟨rfl, _, rfl⟩) hrm ⟨by decide, by decide⟩ rfl (Nat.le_of_ble_eq_true rfl) dX3_select_61 rfl rfl ?_
        refine j_loc (L' := [(0, vr (some a0))]) [0] rfl ?_
        exact w_X3_select_n64 hc ho hnL hrm hre hct hq hk_37 hf12
set_option maxRecDepth 100000 in
set_option maxHeartbeats 2000000 in
theorem c_X3_select {l : Launch} {g : PG} {a0 : Nat} {S : HS} {M M1 : MS} (hf : f_X3_select M = some M1) : (h_nx S ≤ h_nx S ∧ h_sl S ≤ h_sl S) ∧ Ct l g yX3_select (ws_ yX3_select cX3_select 2 none) 7 191 S (some (a0, M)) [vr (some a0)] none S (some (a0, M1)) := by
  refine met_of false (by decide) (fun h => by first | rfl | cases h) rfl (Nat.le_of_ble_eq_true rfl) (fun f hl hg hc ho hnL hrm hre hct hex hq => ?_)
  subst hl
  subst hg
  unfold f_X3_select at hf
  refine j_aload_n (pc := 0) hc dX3_select_0 0 rfl rfl ?_
  refine j_mgA (pc := 1) hc ho fm_69 rfl dX3_select_1 ?_
  refine j_aload_n (pc := 4) hc dX3_select_4 0 rfl rfl ?_
  refine j_mgI (pc := 5) hc ho fm_159 rfl dX3_select_5 ?_
  refine j_aload_n (pc := 8) hc dX3_select_8 0 rfl rfl ?_
  refine j_mgA (pc := 9) hc ho fm_48 rfl dX3_select_9 ?_
  refine j_aload_n (pc := 12) hc dX3_select_12 0 rfl rfl ?_
  refine j_mgI (pc := 13) hc ho fm_159 rfl dX3_select_13 ?_
  obtain ⟨v1, ev1, hf1⟩ := ob_i hf
  clear hf
  refine j_mldI (pc := 16) hc (k := 13) (by decide) rfl dX3_select_16 ev1 ?_
  obtain ⟨N2, eN2, hf2⟩ := ob_i hf1
  clear hf1
  refine j_mstI (pc := 17) hc (k := 20) (by decide) rfl dX3_select_17 eN2 ?_
  refine j_aload_n (pc := 18) hc dX3_select_18 0 rfl rfl ?_
  refine j_bipush (pc := 19) (v := (61)) hc dX3_select_19 rfl ?_
  obtain ⟨N3, eN3, hf3⟩ := ob_i hf2
  clear hf2
  refine j_callV (pc := 21) (As := [vi (61)]) (rest := []) (st2 := []) hc ho cw_X3_231 (c_X3_sign eN3) (Or.inr ⟨rfl, _, rfl⟩) hrm ⟨by decide, by decide⟩ rfl (Nat.le_of_ble_eq_true rfl) dX3_select_21 rfl rfl ?_
  refine j_aload_n (pc := 24) hc dX3_select_24 0 rfl rfl ?_
  refine j_mgI (pc := 25) hc ho fm_169 rfl dX3_select_25 ?_
  refine j_if_ne (pc := 28) hc dX3_select_28 (tgt := 35) rfl (fun hh => ?_) (fun hh => ?_)
  · have hf4 := (if_neg hh).symm.trans hf3
    clear hf3
    refine j_iconst (pc := 35) (v := (0)) hc dX3_select_35 rfl ?_
    refine j_istore_n (pc := 36) (L' := [(1, vi (0)), (0, vr (some a0))]) hc dX3_select_36 rfl hnL (by decide) rfl ?_
    refine j_loc (L' := [(0, vr (some a0)), (1, vi (0))]) [1, 0] rfl ?_
    exact w_X3_select_n37 hc ho hnL hrm hre hct hq fu_ _ _ hf4
  · have hf5 := (if_pos hh).symm.trans hf3
    clear hf3
    refine j_iconst (pc := 31) (v := (1)) hc dX3_select_31 rfl ?_
    refine j_goto (pc := 32) hc dX3_select_32 (tgt := 36) rfl ?_
    refine j_istore_n (pc := 36) (L' := [(1, vi (1)), (0, vr (some a0))]) hc dX3_select_36 rfl hnL (by decide) rfl ?_
    refine j_loc (L' := [(0, vr (some a0)), (1, vi (1))]) [1, 0] rfl ?_
    exact w_X3_select_n37 hc ho hnL hrm hre hct hq fu_ _ _ hf5
def f_X3_source_n235 (k_19 : Int32 → MS → Option MS) (sx0 : Int32) (M : MS) : Option MS :=
  if sx0 = 0 then
    k_19 sx0 M
  else
    (f_X3_keeps M).bind fun N1 =>
    k_19 sx0 N1
def f_X3_source_n203 (k_19 : Int32 → MS → Option MS) (sx1 : Int32) (sx2 : Int32) (M : MS) : Option MS :=
  (p_mA M 6 sx1 sx2).bind fun N1 =>
  (g_mA N1 4 (m_I N1 0)).bind fun v2 =>
  (p_mA N1 4 (m_I N1 0) (v2 + (1))).bind fun N3 =>
  (f_X3_keeps N3).bind fun N4 =>
  if (m_I N4 29) = (44) then
    f_X3_source_n235 k_19 (1) N4
  else
    f_X3_source_n235 k_19 (0) N4
def f_X3_source_n140 (k_19 : Int32 → MS → Option MS) (M : MS) : Option MS :=
  if (m_I M 25) = 0 then
    (g_mA M 4 (m_I M 0)).bind fun v1 =>
    if (lg_cmp (m_J M 32) (14)) = 0 then
      f_X3_source_n203 k_19 (((8) * (m_I M 0)) + v1) (110) M
    else
      if (lg_cmp (m_J M 32) (20)) = 0 then
        f_X3_source_n203 k_19 (((8) * (m_I M 0)) + v1) (116) M
      else
        f_X3_source_n203 k_19 (((8) * (m_I M 0)) + v1) (100) M
  else
    some M
def f_X3_source_n131 (k_19 : Int32 → MS → Option MS) (M : MS) : Option MS :=
  (f_X3_fail (1) (m_I M 30) M).bind fun N1 =>
  f_X3_source_n140 k_19 N1
def f_X3_source_n83 (k_19 : Int32 → MS → Option MS) (M : MS) : Option MS :=
  if (m_I M 25) = 0 then
    if (m_I M 29) = (1) then
      if (lg_cmp (m_J M 32) (14)) = 0 then
        f_X3_source_n140 k_19 M
      else
        if (lg_cmp (m_J M 32) (20)) = 0 then
          f_X3_source_n140 k_19 M
        else
          if (lg_cmp (m_J M 32) (4)) = 0 then
            f_X3_source_n140 k_19 M
          else
            f_X3_source_n131 k_19 M
    else
      f_X3_source_n131 k_19 M
  else
    f_X3_source_n140 k_19 M
def f_X3_source_n46 (k_19 : Int32 → MS → Option MS) (M : MS) : Option MS :=
  if (m_I M 25) = 0 then
    (g_mA M 4 (m_I M 0)).bind fun v1 =>
    (p_mB M 5 (((8) * (m_I M 0)) + v1) (m_J M 32)).bind fun N2 =>
    (f_X3_name N2).bind fun N3 =>
    f_X3_source_n83 k_19 N3
  else
    f_X3_source_n83 k_19 M
def f_X3_source_n19 : Nat → Int32 → MS → Option MS
  | 0, _, _ => none
  | n + 1, x1, M =>
    if x1 = 0 then
      (f_X3_sign (41) M).bind fun N1 =>
      some N1
    else
      (g_mA M 4 (m_I M 0)).bind fun v2 =>
      if v2 = (6) then
        (f_X3_fail (1) (m_I M 30) M).bind fun N3 =>
        f_X3_source_n46 (fun x1 M => f_X3_source_n19 n x1 M) N3
      else
        f_X3_source_n46 (fun x1 M => f_X3_source_n19 n x1 M) M
def f_X3_source (M : MS) : Option MS :=
  (f_X3_sign (40) M).bind fun N1 =>
  if (m_I N1 25) = 0 then
    f_X3_source_n19 fu_ (1) N1
  else
    f_X3_source_n19 fu_ (0) N1
set_option maxRecDepth 100000 in
set_option maxHeartbeats 2000000 in
theorem w_X3_source_n235 {f : CfT} {a0 : Nat} {S : HS} {M1 : MS} (hc : cf_cc f = cX3_source) (ho : cf_ow f = "TableCatalogModel") (hnL : cf_nL f = 2) (hrm : cf_rm f = (5, 147)) (hre : cf_re f = none) (hct : cf_ct f = false) (hq : Qok f none S (some (a0, M1))) {k_19 : Int32 → MS → Option MS} (hk_19 : ∀ (x1 : Int32) (M : MS), k_19 x1 M = some M1 → JJ f S (some (a0, M)) 19 [(0, vr (some a0)), (1, vi x1)] []) {sx0 : Int32} {M : MS} (hf : f_X3_source_n235 k_19 sx0 M = some M1) : JJ f S (some (a0, M)) 235 [(0, vr (some a0))] [vi sx0] := by
  unfold f_X3_source_n235 at hf
  refine j_istore_n (pc := 235) (L' := [(1, vi sx0), (0, vr (some a0))]) hc dX3_source_235 rfl hnL (by decide) rfl ?_
  refine j_iload_n (pc := 236) hc dX3_source_236 0 rfl rfl ?_
  refine j_if_eq (pc := 237) hc dX3_source_237 (tgt := 19) rfl (fun hh => ?_) (fun hh => ?_)
  · have hf1 := (if_pos hh).symm.trans hf
    clear hf
    refine j_loc (L' := [(0, vr (some a0)), (1, vi sx0)]) [1, 0] rfl ?_
    exact hk_19 _ _ hf1
  · have hf2 := (if_neg hh).symm.trans hf
    clear hf
    refine j_aload_n (pc := 240) hc dX3_source_240 1 rfl rfl ?_
    obtain ⟨N1, eN1, hf3⟩ := ob_i hf2
    clear hf2
    refine j_callV (pc := 241) (As := []) (rest := []) (st2 := []) hc ho cw_X3_213 (c_X3_keeps eN1) (Or.inr ⟨rfl, _, rfl⟩) hrm ⟨by decide, by decide⟩ rfl (Nat.le_of_ble_eq_true rfl) dX3_source_241 rfl rfl ?_
    refine j_goto (pc := 244) hc dX3_source_244 (tgt := 19) rfl ?_
    refine j_loc (L' := [(0, vr (some a0)), (1, vi sx0)]) [1, 0] rfl ?_
    exact hk_19 _ _ hf3
set_option maxRecDepth 100000 in
set_option maxHeartbeats 2000000 in
theorem w_X3_source_n203 {f : CfT} {a0 : Nat} {S : HS} {M1 : MS} (hc : cf_cc f = cX3_source) (ho : cf_ow f = "TableCatalogModel") (hnL : cf_nL f = 2) (hrm : cf_rm f = (5, 147)) (hre : cf_re f = none) (hct : cf_ct f = false) (hq : Qok f none S (some (a0, M1))) {k_19 : Int32 → MS → Option MS} (hk_19 : ∀ (x1 : Int32) (M : MS), k_19 x1 M = some M1 → JJ f S (some (a0, M)) 19 [(0, vr (some a0)), (1, vi x1)] []) {sx1 : Int32} {sx2 : Int32} {M : MS} (hf : f_X3_source_n203 k_19 sx1 sx2 M = some M1) : JJ f S (some (a0, M)) 203 [(0, vr (some a0))] [vi sx2, vi sx1, vr (some (a0 + m_po 6))] := by
  unfold f_X3_source_n203 at hf
  obtain ⟨N1, eN1, hf1⟩ := ob_i hf
  clear hf
  refine j_mstI (pc := 203) hc (k := 6) (by decide) rfl dX3_source_203 eN1 ?_
  refine j_aload_n (pc := 204) hc dX3_source_204 0 rfl rfl ?_
  refine j_mgA (pc := 205) hc ho fm_21 rfl dX3_source_205 ?_
  refine j_aload_n (pc := 208) hc dX3_source_208 0 rfl rfl ?_
  refine j_mgI (pc := 209) hc ho fm_159 rfl dX3_source_209 ?_
  refine j_dup2_11 (pc := 212) hc dX3_source_212 rfl rfl ?_
  obtain ⟨v2, ev2, hf2⟩ := ob_i hf1
  clear hf1
  refine j_mldI (pc := 213) hc (k := 4) (by decide) rfl dX3_source_213 ev2 ?_
  refine j_iconst (pc := 214) (v := (1)) hc dX3_source_214 rfl ?_
  refine j_iadd (pc := 215) hc dX3_source_215 ?_
  obtain ⟨N3, eN3, hf3⟩ := ob_i hf2
  clear hf2
  refine j_mstI (pc := 216) hc (k := 4) (by decide) rfl dX3_source_216 eN3 ?_
  refine j_aload_n (pc := 217) hc dX3_source_217 0 rfl rfl ?_
  obtain ⟨N4, eN4, hf4⟩ := ob_i hf3
  clear hf3
  refine j_callV (pc := 218) (As := []) (rest := []) (st2 := []) hc ho cw_X3_213 (c_X3_keeps eN4) (Or.inr ⟨rfl, _, rfl⟩) hrm ⟨by decide, by decide⟩ rfl (Nat.le_of_ble_eq_true rfl) dX3_source_218 rfl rfl ?_
  refine j_aload_n (pc := 221) hc dX3_source_221 0 rfl rfl ?_
  refine j_mgI (pc := 222) hc ho fm_197 rfl dX3_source_222 ?_
  refine j_bipush (pc := 225) (v := (44)) hc dX3_source_225 rfl ?_
  refine j_icmp_ne (pc := 227) hc dX3_source_227 (tgt := 234) rfl (fun hh => ?_) (fun hh => ?_)
  · have hf5 := (if_neg hh).symm.trans hf4
    clear hf4
    refine j_iconst (pc := 234) (v := (0)) hc dX3_source_234 rfl ?_
    exact w_X3_source_n235 hc ho hnL hrm hre hct hq hk_19 hf5
  · have hf6 := (if_pos hh).symm.trans hf4
    clear hf4
    refine j_iconst (pc := 230) (v := (1)) hc dX3_source_230 rfl ?_
    refine j_goto (pc := 231) hc dX3_source_231 (tgt := 235) rfl ?_
    exact w_X3_source_n235 hc ho hnL hrm hre hct hq hk_19 hf6
set_option maxRecDepth 100000 in
set_option maxHeartbeats 2000000 in
theorem w_X3_source_n140 {f : CfT} {a0 : Nat} {S : HS} {M1 : MS} (hc : cf_cc f = cX3_source) (ho : cf_ow f = "TableCatalogModel") (hnL : cf_nL f = 2) (hrm : cf_rm f = (5, 147)) (hre : cf_re f = none) (hct : cf_ct f = false) (hq : Qok f none S (some (a0, M1))) {k_19 : Int32 → MS → Option MS} (hk_19 : ∀ (x1 : Int32) (M : MS), k_19 x1 M = some M1 → JJ f S (some (a0, M)) 19 [(0, vr (some a0)), (1, vi x1)] []) {M : MS} (hf : f_X3_source_n140 k_19 M = some M1) : JJ f S (some (a0, M)) 140 [(0, vr (some a0))] [] := by
  unfold f_X3_source_n140 at hf
  refine j_aload_n (pc := 140) hc dX3_source_140 0 rfl rfl ?_
  refine j_mgI (pc := 141) hc ho fm_169 rfl dX3_source_141 ?_
  refine j_if_eq (pc := 144) hc dX3_source_144 (tgt := 148) rfl (fun hh => ?_) (fun hh => ?_)
  · have hf1 := (if_pos hh).symm.trans hf
    clear hf
    refine j_aload_n (pc := 148) hc dX3_source_148 0 rfl rfl ?_
    refine j_mgA (pc := 149) hc ho fm_27 rfl dX3_source_149 ?_
    refine j_bipush (pc := 152) (v := (8)) hc dX3_source_152 rfl ?_
    refine j_aload_n (pc := 154) hc dX3_source_154 0 rfl rfl ?_
    refine j_mgI (pc := 155) hc ho fm_159 rfl dX3_source_155 ?_
    refine j_imul (pc := 158) hc dX3_source_158 ?_
    refine j_aload_n (pc := 159) hc dX3_source_159 0 rfl rfl ?_
    refine j_mgA (pc := 160) hc ho fm_21 rfl dX3_source_160 ?_
    refine j_aload_n (pc := 163) hc dX3_source_163 0 rfl rfl ?_
    refine j_mgI (pc := 164) hc ho fm_159 rfl dX3_source_164 ?_
    obtain ⟨v1, ev1, hf2⟩ := ob_i hf1
    clear hf1
    refine j_mldI (pc := 167) hc (k := 4) (by decide) rfl dX3_source_167 ev1 ?_
    refine j_iadd (pc := 168) hc dX3_source_168 ?_
    refine j_aload_n (pc := 169) hc dX3_source_169 0 rfl rfl ?_
    refine j_mgJ (pc := 170) hc ho fm_194 rfl dX3_source_170 ?_
    refine j_ldc2 (pc := 173) hc ho q1433 dX3_source_173 ?_
    refine j_lcmp (pc := 176) hc dX3_source_176 ?_
    refine j_if_ne (pc := 177) hc dX3_source_177 (tgt := 185) rfl (fun hh => ?_) (fun hh => ?_)
    · have hf3 := (if_neg hh).symm.trans hf2
      clear hf2
      refine j_aload_n (pc := 185) hc dX3_source_185 0 rfl rfl ?_
      refine j_mgJ (pc := 186) hc ho fm_194 rfl dX3_source_186 ?_
      refine j_ldc2 (pc := 189) hc ho q1434 dX3_source_189 ?_
      refine j_lcmp (pc := 192) hc dX3_source_192 ?_
      refine j_if_ne (pc := 193) hc dX3_source_193 (tgt := 201) rfl (fun hh => ?_) (fun hh => ?_)
      · have hf4 := (if_neg hh).symm.trans hf3
        clear hf3
        refine j_bipush (pc := 201) (v := (100)) hc dX3_source_201 rfl ?_
        exact w_X3_source_n203 hc ho hnL hrm hre hct hq hk_19 hf4
      · have hf5 := (if_pos hh).symm.trans hf3
        clear hf3
        refine j_bipush (pc := 196) (v := (116)) hc dX3_source_196 rfl ?_
        refine j_goto (pc := 198) hc dX3_source_198 (tgt := 203) rfl ?_
        exact w_X3_source_n203 hc ho hnL hrm hre hct hq hk_19 hf5
    · have hf6 := (if_pos hh).symm.trans hf2
      clear hf2
      refine j_bipush (pc := 180) (v := (110)) hc dX3_source_180 rfl ?_
      refine j_goto (pc := 182) hc dX3_source_182 (tgt := 203) rfl ?_
      exact w_X3_source_n203 hc ho hnL hrm hre hct hq hk_19 hf6
  · have hf7 := (if_neg hh).symm.trans hf
    clear hf
    cases hf7
    exact j_vret (pc := 147) hc hq hre dX3_source_147
set_option maxRecDepth 100000 in
set_option maxHeartbeats 2000000 in
theorem w_X3_source_n131 {f : CfT} {a0 : Nat} {S : HS} {M1 : MS} (hc : cf_cc f = cX3_source) (ho : cf_ow f = "TableCatalogModel") (hnL : cf_nL f = 2) (hrm : cf_rm f = (5, 147)) (hre : cf_re f = none) (hct : cf_ct f = false) (hq : Qok f none S (some (a0, M1))) {k_19 : Int32 → MS → Option MS} (hk_19 : ∀ (x1 : Int32) (M : MS), k_19 x1 M = some M1 → JJ f S (some (a0, M)) 19 [(0, vr (some a0)), (1, vi x1)] []) {M : MS} (hf : f_X3_source_n131 k_19 M = some M1) : JJ f S (some (a0, M)) 131 [(0, vr (some a0))] [] := by
  unfold f_X3_source_n131 at hf
  refine j_aload_n (pc := 131) hc dX3_source_131 0 rfl rfl ?_
  refine j_iconst (pc := 132) (v := (1)) hc dX3_source_132 rfl ?_
  refine j_aload_n (pc := 133) hc dX3_source_133 0 rfl rfl ?_
  refine j_mgI (pc := 134) hc ho fm_188 rfl dX3_source_134 ?_
  obtain ⟨N1, eN1, hf1⟩ := ob_i hf
  clear hf
  refine j_callV (pc := 137) (As := [vi (1), vi (m_I M 30)]) (rest := []) (st2 := []) hc ho cw_X3_216 (c_X3_fail eN1) (Or.inr ⟨rfl, _, rfl⟩) hrm ⟨by decide, by decide⟩ rfl (Nat.le_of_ble_eq_true rfl) dX3_source_137 rfl rfl ?_
  exact w_X3_source_n140 hc ho hnL hrm hre hct hq hk_19 hf1
set_option maxRecDepth 100000 in
set_option maxHeartbeats 2000000 in
theorem w_X3_source_n83 {f : CfT} {a0 : Nat} {S : HS} {M1 : MS} (hc : cf_cc f = cX3_source) (ho : cf_ow f = "TableCatalogModel") (hnL : cf_nL f = 2) (hrm : cf_rm f = (5, 147)) (hre : cf_re f = none) (hct : cf_ct f = false) (hq : Qok f none S (some (a0, M1))) {k_19 : Int32 → MS → Option MS} (hk_19 : ∀ (x1 : Int32) (M : MS), k_19 x1 M = some M1 → JJ f S (some (a0, M)) 19 [(0, vr (some a0)), (1, vi x1)] []) {M : MS} (hf : f_X3_source_n83 k_19 M = some M1) : JJ f S (some (a0, M)) 83 [(0, vr (some a0))] [] := by
  unfold f_X3_source_n83 at hf
  refine j_aload_n (pc := 83) hc dX3_source_83 0 rfl rfl ?_
  refine j_mgI (pc := 84) hc ho fm_169 rfl dX3_source_84 ?_
  refine j_if_ne (pc := 87) hc dX3_source_87 (tgt := 140) rfl (fun hh => ?_) (fun hh => ?_)
  · have hf1 := (if_neg hh).symm.trans hf
    clear hf
    exact w_X3_source_n140 hc ho hnL hrm hre hct hq hk_19 hf1
  · have hf2 := (if_pos hh).symm.trans hf
    clear hf
    refine j_aload_n (pc := 90) hc dX3_source_90 0 rfl rfl ?_
    refine j_mgI (pc := 91) hc ho fm_197 rfl dX3_source_91 ?_
    refine j_iconst (pc := 94) (v := (1)) hc dX3_source_94 rfl ?_
    refine j_icmp_ne (pc := 95) hc dX3_source_95 (tgt := 131) rfl (fun hh => ?_) (fun hh => ?_)
    · have hf3 := (if_neg hh).symm.trans hf2
      clear hf2
      exact w_X3_source_n131 hc ho hnL hrm hre hct hq hk_19 hf3
    · have hf4 := (if_pos hh).symm.trans hf2
      clear hf2
      refine j_aload_n (pc := 98) hc dX3_source_98 0 rfl rfl ?_
      refine j_mgJ (pc := 99) hc ho fm_194 rfl dX3_source_99 ?_
      refine j_ldc2 (pc := 102) hc ho q1433 dX3_source_102 ?_
      refine j_lcmp (pc := 105) hc dX3_source_105 ?_
      refine j_if_eq (pc := 106) hc dX3_source_106 (tgt := 140) rfl (fun hh => ?_) (fun hh => ?_)
      · have hf5 := (if_pos hh).symm.trans hf4
        clear hf4
        exact w_X3_source_n140 hc ho hnL hrm hre hct hq hk_19 hf5
      · have hf6 := (if_neg hh).symm.trans hf4
        clear hf4
        refine j_aload_n (pc := 109) hc dX3_source_109 0 rfl rfl ?_
        refine j_mgJ (pc := 110) hc ho fm_194 rfl dX3_source_110 ?_
        refine j_ldc2 (pc := 113) hc ho q1434 dX3_source_113 ?_
        refine j_lcmp (pc := 116) hc dX3_source_116 ?_
        refine j_if_eq (pc := 117) hc dX3_source_117 (tgt := 140) rfl (fun hh => ?_) (fun hh => ?_)
        · have hf7 := (if_pos hh).symm.trans hf6
          clear hf6
          exact w_X3_source_n140 hc ho hnL hrm hre hct hq hk_19 hf7
        · have hf8 := (if_neg hh).symm.trans hf6
          clear hf6
          refine j_aload_n (pc := 120) hc dX3_source_120 0 rfl rfl ?_
          refine j_mgJ (pc := 121) hc ho fm_194 rfl dX3_source_121 ?_
          refine j_ldc2 (pc := 124) hc ho q1435 dX3_source_124 ?_
          refine j_lcmp (pc := 127) hc dX3_source_127 ?_
          refine j_if_eq (pc := 128) hc dX3_source_128 (tgt := 140) rfl (fun hh => ?_) (fun hh => ?_)
          · have hf9 := (if_pos hh).symm.trans hf8
            clear hf8
            exact w_X3_source_n140 hc ho hnL hrm hre hct hq hk_19 hf9
          · have hf10 := (if_neg hh).symm.trans hf8
            clear hf8
            exact w_X3_source_n131 hc ho hnL hrm hre hct hq hk_19 hf10
set_option maxRecDepth 100000 in
set_option maxHeartbeats 2000000 in
theorem w_X3_source_n46 {f : CfT} {a0 : Nat} {S : HS} {M1 : MS} (hc : cf_cc f = cX3_source) (ho : cf_ow f = "TableCatalogModel") (hnL : cf_nL f = 2) (hrm : cf_rm f = (5, 147)) (hre : cf_re f = none) (hct : cf_ct f = false) (hq : Qok f none S (some (a0, M1))) {k_19 : Int32 → MS → Option MS} (hk_19 : ∀ (x1 : Int32) (M : MS), k_19 x1 M = some M1 → JJ f S (some (a0, M)) 19 [(0, vr (some a0)), (1, vi x1)] []) {M : MS} (hf : f_X3_source_n46 k_19 M = some M1) : JJ f S (some (a0, M)) 46 [(0, vr (some a0))] [] := by
  unfold f_X3_source_n46 at hf
  refine j_aload_n (pc := 46) hc dX3_source_46 0 rfl rfl ?_
  refine j_mgI (pc := 47) hc ho fm_169 rfl dX3_source_47 ?_
  refine j_if_ne (pc := 50) hc dX3_source_50 (tgt := 83) rfl (fun hh => ?_) (fun hh => ?_)
  · have hf1 := (if_neg hh).symm.trans hf
    clear hf
    exact w_X3_source_n83 hc ho hnL hrm hre hct hq hk_19 hf1
  · have hf2 := (if_pos hh).symm.trans hf
    clear hf
    refine j_aload_n (pc := 53) hc dX3_source_53 0 rfl rfl ?_
    refine j_mgA (pc := 54) hc ho fm_24 rfl dX3_source_54 ?_
    refine j_bipush (pc := 57) (v := (8)) hc dX3_source_57 rfl ?_
    refine j_aload_n (pc := 59) hc dX3_source_59 0 rfl rfl ?_
    refine j_mgI (pc := 60) hc ho fm_159 rfl dX3_source_60 ?_
    refine j_imul (pc := 63) hc dX3_source_63 ?_
    refine j_aload_n (pc := 64) hc dX3_source_64 0 rfl rfl ?_
    refine j_mgA (pc := 65) hc ho fm_21 rfl dX3_source_65 ?_
    refine j_aload_n (pc := 68) hc dX3_source_68 0 rfl rfl ?_
    refine j_mgI (pc := 69) hc ho fm_159 rfl dX3_source_69 ?_
    obtain ⟨v1, ev1, hf3⟩ := ob_i hf2
    clear hf2
    refine j_mldI (pc := 72) hc (k := 4) (by decide) rfl dX3_source_72 ev1 ?_
    refine j_iadd (pc := 73) hc dX3_source_73 ?_
    refine j_aload_n (pc := 74) hc dX3_source_74 0 rfl rfl ?_
    refine j_mgJ (pc := 75) hc ho fm_194 rfl dX3_source_75 ?_
    obtain ⟨N2, eN2, hf4⟩ := ob_i hf3
    clear hf3
    refine j_mstJ (pc := 78) hc (k := 5) (by decide) rfl dX3_source_78 eN2 ?_
    refine j_aload_n (pc := 79) hc dX3_source_79 0 rfl rfl ?_
    obtain ⟨N3, eN3, hf5⟩ := ob_i hf4
    clear hf4
    refine j_callV (pc := 80) (As := []) (rest := []) (st2 := []) hc ho cw_X3_238 (c_X3_name eN3) (Or.inr ⟨rfl, _, rfl⟩) hrm ⟨by decide, by decide⟩ rfl (Nat.le_of_ble_eq_true rfl) dX3_source_80 rfl rfl ?_
    exact w_X3_source_n83 hc ho hnL hrm hre hct hq hk_19 hf5
set_option maxRecDepth 100000 in
set_option maxHeartbeats 2000000 in
theorem w_X3_source_n19 {f : CfT} {a0 : Nat} {S : HS} {M1 : MS} (hc : cf_cc f = cX3_source) (ho : cf_ow f = "TableCatalogModel") (hnL : cf_nL f = 2) (hrm : cf_rm f = (5, 147)) (hre : cf_re f = none) (hct : cf_ct f = false) (hq : Qok f none S (some (a0, M1))) : ∀ (n : Nat) (x1 : Int32) (M : MS), f_X3_source_n19 n x1 M = some M1 → JJ f S (some (a0, M)) 19 [(0, vr (some a0)), (1, vi x1)] [] := by
  intro n
  induction n with
  | zero =>
    intro x1 M hf
    have hf : (none : Option MS) = some M1 := hf
    cases hf
  | succ n ih =>
    intro x1 M hf
    unfold f_X3_source_n19 at hf
    have hk_19 := ih
    refine j_iload_n (pc := 19) hc dX3_source_19 1 rfl rfl ?_
    refine j_if_eq (pc := 20) hc dX3_source_20 (tgt := 247) rfl (fun hh => ?_) (fun hh => ?_)
    · have hf1 := (if_pos hh).symm.trans hf
      clear hf
      refine j_aload_n (pc := 247) hc dX3_source_247 0 rfl rfl ?_
      refine j_bipush (pc := 248) (v := (41)) hc dX3_source_248 rfl ?_
      obtain ⟨N1, eN1, hf2⟩ := ob_i hf1
      clear hf1
      refine j_callV (pc := 250) (As := [vi (41)]) (rest := []) (st2 := []) hc ho cw_X3_231 (c_X3_sign eN1) (Or.inr ⟨rfl, _, rfl⟩) hrm ⟨by decide, by decide⟩ rfl (Nat.le_of_ble_eq_true rfl) dX3_source_250 rfl rfl ?_
      cases hf2
      exact j_vret (pc := 253) hc hq hre dX3_source_253
    · have hf3 := (if_neg hh).symm.trans hf
      clear hf
      refine j_aload_n (pc := 23) hc dX3_source_23 0 rfl rfl ?_
      refine j_mgA (pc := 24) hc ho fm_21 rfl dX3_source_24 ?_
      refine j_aload_n (pc := 27) hc dX3_source_27 0 rfl rfl ?_
      refine j_mgI (pc := 28) hc ho fm_159 rfl dX3_source_28 ?_
      obtain ⟨v2, ev2, hf4⟩ := ob_i hf3
      clear hf3
      refine j_mldI (pc := 31) hc (k := 4) (by decide) rfl dX3_source_31 ev2 ?_
      refine j_bipush (pc := 32) (v := (6)) hc dX3_source_32 rfl ?_
      refine j_icmp_ne (pc := 34) hc dX3_source_34 (tgt := 46) rfl (fun hh => ?_) (fun hh => ?_)
      · have hf5 := (if_neg hh).symm.trans hf4
        clear hf4
        refine j_loc (L' := [(0, vr (some a0))]) [0] rfl ?_
        exact w_X3_source_n46 hc ho hnL hrm hre hct hq hk_19 hf5
      · have hf6 := (if_pos hh).symm.trans hf4
        clear hf4
        refine j_aload_n (pc := 37) hc dX3_source_37 0 rfl rfl ?_
        refine j_iconst (pc := 38) (v := (1)) hc dX3_source_38 rfl ?_
        refine j_aload_n (pc := 39) hc dX3_source_39 0 rfl rfl ?_
        refine j_mgI (pc := 40) hc ho fm_188 rfl dX3_source_40 ?_
        obtain ⟨N3, eN3, hf7⟩ := ob_i hf6
        clear hf6
        refine j_callV (pc := 43) (As := [vi (1), vi (m_I M 30)]) (rest := []) (st2 := []) hc ho cw_X3_216 (c_X3_fail eN3) (Or.inr ⟨rfl, _, rfl⟩) hrm ⟨by decide, by decide⟩ rfl (Nat.le_of_ble_eq_true rfl) dX3_source_43 rfl rfl ?_
        refine j_loc (L' := [(0, vr (some a0))]) [0] rfl ?_
        exact w_X3_source_n46 hc ho hnL hrm hre hct hq hk_19 hf7
set_option maxRecDepth 100000 in
set_option maxHeartbeats 2000000 in
theorem c_X3_source {l : Launch} {g : PG} {a0 : Nat} {S : HS} {M M1 : MS} (hf : f_X3_source M = some M1) : (h_nx S ≤ h_nx S ∧ h_sl S ≤ h_sl S) ∧ Ct l g yX3_source (ws_ yX3_source cX3_source 2 none) 5 147 S (some (a0, M)) [vr (some a0)] none S (some (a0, M1)) := by
  refine met_of false (by decide) (fun h => by first | rfl | cases h) rfl (Nat.le_of_ble_eq_true rfl) (fun f hl hg hc ho hnL hrm hre hct hex hq => ?_)
  subst hl
  subst hg
  unfold f_X3_source at hf
  refine j_aload_n (pc := 0) hc dX3_source_0 0 rfl rfl ?_
  refine j_bipush (pc := 1) (v := (40)) hc dX3_source_1 rfl ?_
  obtain ⟨N1, eN1, hf1⟩ := ob_i hf
  clear hf
  refine j_callV (pc := 3) (As := [vi (40)]) (rest := []) (st2 := []) hc ho cw_X3_231 (c_X3_sign eN1) (Or.inr ⟨rfl, _, rfl⟩) hrm ⟨by decide, by decide⟩ rfl (Nat.le_of_ble_eq_true rfl) dX3_source_3 rfl rfl ?_
  refine j_aload_n (pc := 6) hc dX3_source_6 0 rfl rfl ?_
  refine j_mgI (pc := 7) hc ho fm_169 rfl dX3_source_7 ?_
  refine j_if_ne (pc := 10) hc dX3_source_10 (tgt := 17) rfl (fun hh => ?_) (fun hh => ?_)
  · have hf2 := (if_neg hh).symm.trans hf1
    clear hf1
    refine j_iconst (pc := 17) (v := (0)) hc dX3_source_17 rfl ?_
    refine j_istore_n (pc := 18) (L' := [(1, vi (0)), (0, vr (some a0))]) hc dX3_source_18 rfl hnL (by decide) rfl ?_
    refine j_loc (L' := [(0, vr (some a0)), (1, vi (0))]) [1, 0] rfl ?_
    exact w_X3_source_n19 hc ho hnL hrm hre hct hq fu_ _ _ hf2
  · have hf3 := (if_pos hh).symm.trans hf1
    clear hf1
    refine j_iconst (pc := 13) (v := (1)) hc dX3_source_13 rfl ?_
    refine j_goto (pc := 14) hc dX3_source_14 (tgt := 18) rfl ?_
    refine j_istore_n (pc := 18) (L' := [(1, vi (1)), (0, vr (some a0))]) hc dX3_source_18 rfl hnL (by decide) rfl ?_
    refine j_loc (L' := [(0, vr (some a0)), (1, vi (1))]) [1, 0] rfl ?_
    exact w_X3_source_n19 hc ho hnL hrm hre hct hq fu_ _ _ hf3
theorem fm_307 : FM 307 27 := ⟨by decide, q1200⟩
theorem fm_75 : FM 75 28 := ⟨by decide, q1201⟩
theorem fm_36 : FM 36 9 := ⟨by decide, q1182⟩
theorem fm_39 : FM 39 10 := ⟨by decide, q1183⟩
theorem fm_42 : FM 42 11 := ⟨by decide, q1184⟩
theorem fm_45 : FM 45 12 := ⟨by decide, q1185⟩
theorem cw_X3_304 : CV "TableCatalogModel" 304 RX3 yX3_meant cX3_meant 5 none 0 := ⟨⟨q1452, q1454, qs53, q90, q1455⟩, rfl, by decide, by decide, by decide +kernel⟩
theorem cw_X3_301 : CV "TableCatalogModel" 301 RX3 yX3_select cX3_select 2 none 0 := ⟨⟨q1436, q1438, qs49, q90, q1439⟩, rfl, by decide, by decide, by decide +kernel⟩
theorem cw_X3_298 : CV "TableCatalogModel" 298 RX3 yX3_source cX3_source 2 none 0 := ⟨⟨q1425, q1427, qs47, q90, q1428⟩, rfl, by decide, by decide, by decide +kernel⟩
def f_X3_act_n332 (x1 : Int32) (M : MS) : Option (Int32 × MS) :=
  (some (m_sI M 27 (m_I M 25))).bind fun N1 =>
  (some (m_sI N1 28 (m_I N1 26))).bind fun N2 =>
  if (m_I N2 25) = 0 then
    (p_mA N2 1 x1 (vp_nar .boolean (1))).bind fun N3 =>
    (p_mA N3 9 x1 (-1)).bind fun N4 =>
    (p_mA N4 10 x1 (-1)).bind fun N5 =>
    (p_mA N5 11 x1 (-1)).bind fun N6 =>
    (p_mA N6 12 x1 (-1)).bind fun N7 =>
    (some (m_sI N7 0 ((m_I N7 0) + (1)))).bind fun N8 =>
    some (x1, N8)
  else
    some ((-1), N2)
def f_X3_act_n310 (x1 : Int32) (M : MS) : Option (Int32 × MS) :=
  if (m_I M 25) = 0 then
    if (m_I M 0) = (16) then
      (f_X3_means (5) (0) M).bind fun N1 =>
      f_X3_act_n332 x1 N1
    else
      f_X3_act_n332 x1 M
  else
    f_X3_act_n332 x1 M
def f_X3_act_n299 (x1 : Int32) (M : MS) : Option (Int32 × MS) :=
  if (m_I M 25) = 0 then
    (f_X3_meant M).bind fun N1 =>
    f_X3_act_n310 x1 N1
  else
    f_X3_act_n310 x1 M
def f_X3_act_n276 (x1 : Int32) (M : MS) : Option (Int32 × MS) :=
  if (m_I M 25) = 0 then
    if (m_I M 29) = 0 then
      f_X3_act_n299 x1 M
    else
      (f_X3_fail (1) (m_I M 30) M).bind fun N1 =>
      f_X3_act_n299 x1 N1
  else
    f_X3_act_n299 x1 M
def f_X3_act_n263 (x1 : Int32) (M : MS) : Option (Int32 × MS) :=
  if (m_I M 25) = 0 then
    (f_X3_sign (59) M).bind fun N1 =>
    f_X3_act_n276 x1 N1
  else
    f_X3_act_n276 x1 M
def f_X3_act_n252 (x1 : Int32) (M : MS) : Option (Int32 × MS) :=
  if (m_I M 25) = 0 then
    (f_X3_select M).bind fun N1 =>
    f_X3_act_n263 x1 N1
  else
    f_X3_act_n263 x1 M
def f_X3_act_n229 (x1 : Int32) (M : MS) : Option (Int32 × MS) :=
  if (m_I M 25) = 0 then
    (g_mA M 3 x1).bind fun v1 =>
    if v1 = 0 then
      (f_X3_source M).bind fun N2 =>
      f_X3_act_n263 x1 N2
    else
      f_X3_act_n252 x1 M
  else
    f_X3_act_n252 x1 M
def f_X3_act_n208 (x1 : Int32) (M : MS) : Option (Int32 × MS) :=
  (p_mB M 2 x1 (m_J M 32)).bind fun N1 =>
  if (m_I N1 25) = 0 then
    (f_X3_name N1).bind fun N2 =>
    f_X3_act_n229 x1 N2
  else
    f_X3_act_n229 x1 N1
def f_X3_act_n181 (x1 : Int32) (sx1 : Int32) (sx2 : Int32) (M : MS) : Option (Int32 × MS) :=
  (p_mA M 3 sx1 sx2).bind fun N1 =>
  (g_mA N1 3 x1).bind fun v2 =>
  if v2 = (-1) then
    (f_X3_fail (1) (m_I N1 30) N1).bind fun N4 =>
    f_X3_act_n208 x1 N4
  else
    (f_X3_keeps N1).bind fun N3 =>
    f_X3_act_n208 x1 N3
def f_X3_act_n94 : Nat → Int32 → Int32 → MS → Option (Int32 × MS)
  | 0, _, _, _ => none
  | n + 1, x1, x2, M =>
    if (m_I M 24) ≤ x2 then
      (f_X3_next M).bind fun N1 =>
      o_bd (f_X3_isWord (m_J N1 35) N1) fun v3 N2 =>
      if v3 = 0 then
        o_bd (f_X3_isWord (m_J N2 33) N2) fun v5 N4 =>
        if v5 = 0 then
          o_bd (f_X3_isWord (m_J N4 34) N4) fun v7 N6 =>
          if v7 = 0 then
            f_X3_act_n181 x1 x1 (-1) N6
          else
            f_X3_act_n181 x1 x1 (2) N6
        else
          f_X3_act_n181 x1 x1 (1) N4
      else
        f_X3_act_n181 x1 x1 (0) N2
    else
      (g_mA M 21 x2).bind fun v8 =>
      (p_mA M 17 (((400) * x1) + x2) v8).bind fun N9 =>
      (fun x1 x2 M => f_X3_act_n94 n x1 x2 M) x1 (x2 + (1)) N9
def f_X3_act_n56 : Nat → Int32 → Int32 → MS → Option (Int32 × MS)
  | 0, _, _, _ => none
  | n + 1, x1, x2, M =>
    if (8) ≤ x2 then
      f_X3_act_n94 fu_ x1 (0) M
    else
      (p_mA M 18 (((8) * x1) + x2) (0)).bind fun N1 =>
      (p_mA N1 19 (((8) * x1) + x2) (0)).bind fun N2 =>
      (fun x1 x2 M => f_X3_act_n56 n x1 x2 M) x1 (x2 + (1)) N2
def f_X3_act (M : MS) : Option (Int32 × MS) :=
  (some (m_sI M 24 (m_I M 22))).bind fun N1 =>
  (some (m_sI N1 22 (0))).bind fun N2 =>
  (some (m_sI N2 23 (0))).bind fun N3 =>
  (some (m_sI N3 25 (0))).bind fun N4 =>
  (some (m_sI N4 26 (-1))).bind fun N5 =>
  (p_mA N5 13 (m_I M 0) (0)).bind fun N6 =>
  (p_mA N6 4 (m_I M 0) (0)).bind fun N7 =>
  (p_mA N7 7 (m_I M 0) (0)).bind fun N8 =>
  f_X3_act_n56 fu_ (m_I M 0) (0) N8
set_option maxRecDepth 100000 in
set_option maxHeartbeats 2000000 in
theorem w_X3_act_n332 {f : CfT} {a0 : Nat} {r : Int32} {S : HS} {M1 : MS} (hc : cf_cc f = cX3_act) (ho : cf_ow f = "TableCatalogModel") (hnL : cf_nL f = 3) (hrm : cf_rm f = (8, 212)) (hre : cf_re f = (some (.int))) (hct : cf_ct f = false) (hq : Qok f (some (vi r)) S (some (a0, M1))) {x1 : Int32} {M : MS} (hf : f_X3_act_n332 x1 M = some (r, M1)) : JJ f S (some (a0, M)) 332 [(0, vr (some a0)), (1, vi x1)] [] := by
  unfold f_X3_act_n332 at hf
  refine j_aload_n (pc := 332) hc dX3_act_332 0 rfl rfl ?_
  refine j_aload_n (pc := 333) hc dX3_act_333 0 rfl rfl ?_
  refine j_mgI (pc := 334) hc ho fm_169 rfl dX3_act_334 ?_
  obtain ⟨N1, eN1, hf1⟩ := ob_i hf
  clear hf
  refine j_mpI (pc := 337) hc ho fm_307 rfl rfl rfl rfl dX3_act_337 eN1 ?_
  refine j_aload_n (pc := 340) hc dX3_act_340 0 rfl rfl ?_
  refine j_aload_n (pc := 341) hc dX3_act_341 0 rfl rfl ?_
  refine j_mgI (pc := 342) hc ho fm_172 rfl dX3_act_342 ?_
  obtain ⟨N2, eN2, hf2⟩ := ob_i hf1
  clear hf1
  refine j_mpI (pc := 345) hc ho fm_75 rfl rfl rfl rfl dX3_act_345 eN2 ?_
  refine j_aload_n (pc := 348) hc dX3_act_348 0 rfl rfl ?_
  refine j_mgI (pc := 349) hc ho fm_169 rfl dX3_act_349 ?_
  refine j_if_eq (pc := 352) hc dX3_act_352 (tgt := 357) rfl (fun hh => ?_) (fun hh => ?_)
  · have hf3 := (if_pos hh).symm.trans hf2
    clear hf2
    refine j_aload_n (pc := 357) hc dX3_act_357 0 rfl rfl ?_
    refine j_mgA (pc := 358) hc ho fm_7 rfl dX3_act_358 ?_
    refine j_iload_n (pc := 361) hc dX3_act_361 1 rfl rfl ?_
    refine j_iconst (pc := 362) (v := (1)) hc dX3_act_362 rfl ?_
    obtain ⟨N3, eN3, hf4⟩ := ob_i hf3
    clear hf3
    refine j_mstZ (pc := 363) hc (k := 1) (by decide) rfl dX3_act_363 eN3 ?_
    refine j_aload_n (pc := 364) hc dX3_act_364 0 rfl rfl ?_
    refine j_mgA (pc := 365) hc ho fm_36 rfl dX3_act_365 ?_
    refine j_iload_n (pc := 368) hc dX3_act_368 1 rfl rfl ?_
    refine j_iconst (pc := 369) (v := (-1)) hc dX3_act_369 rfl ?_
    obtain ⟨N4, eN4, hf5⟩ := ob_i hf4
    clear hf4
    refine j_mstI (pc := 370) hc (k := 9) (by decide) rfl dX3_act_370 eN4 ?_
    refine j_aload_n (pc := 371) hc dX3_act_371 0 rfl rfl ?_
    refine j_mgA (pc := 372) hc ho fm_39 rfl dX3_act_372 ?_
    refine j_iload_n (pc := 375) hc dX3_act_375 1 rfl rfl ?_
    refine j_iconst (pc := 376) (v := (-1)) hc dX3_act_376 rfl ?_
    obtain ⟨N5, eN5, hf6⟩ := ob_i hf5
    clear hf5
    refine j_mstI (pc := 377) hc (k := 10) (by decide) rfl dX3_act_377 eN5 ?_
    refine j_aload_n (pc := 378) hc dX3_act_378 0 rfl rfl ?_
    refine j_mgA (pc := 379) hc ho fm_42 rfl dX3_act_379 ?_
    refine j_iload_n (pc := 382) hc dX3_act_382 1 rfl rfl ?_
    refine j_iconst (pc := 383) (v := (-1)) hc dX3_act_383 rfl ?_
    obtain ⟨N6, eN6, hf7⟩ := ob_i hf6
    clear hf6
    refine j_mstI (pc := 384) hc (k := 11) (by decide) rfl dX3_act_384 eN6 ?_
    refine j_aload_n (pc := 385) hc dX3_act_385 0 rfl rfl ?_
    refine j_mgA (pc := 386) hc ho fm_45 rfl dX3_act_386 ?_
    refine j_iload_n (pc := 389) hc dX3_act_389 1 rfl rfl ?_
    refine j_iconst (pc := 390) (v := (-1)) hc dX3_act_390 rfl ?_
    obtain ⟨N7, eN7, hf8⟩ := ob_i hf7
    clear hf7
    refine j_mstI (pc := 391) hc (k := 12) (by decide) rfl dX3_act_391 eN7 ?_
    refine j_aload_n (pc := 392) hc dX3_act_392 0 rfl rfl ?_
    refine j_dup (pc := 393) hc dX3_act_393 rfl ?_
    refine j_mgI (pc := 394) hc ho fm_159 rfl dX3_act_394 ?_
    refine j_iconst (pc := 397) (v := (1)) hc dX3_act_397 rfl ?_
    refine j_iadd (pc := 398) hc dX3_act_398 ?_
    obtain ⟨N8, eN8, hf9⟩ := ob_i hf8
    clear hf8
    refine j_mpI (pc := 399) hc ho fm_159 rfl rfl rfl rfl dX3_act_399 eN8 ?_
    refine j_iload_n (pc := 402) hc dX3_act_402 1 rfl rfl ?_
    cases hf9
    exact j_iret (pc := 403) hc hq hre rfl dX3_act_403
  · have hf10 := (if_neg hh).symm.trans hf2
    clear hf2
    refine j_iconst (pc := 355) (v := (-1)) hc dX3_act_355 rfl ?_
    cases hf10
    exact j_iret (pc := 356) hc hq hre rfl dX3_act_356
set_option maxRecDepth 100000 in
set_option maxHeartbeats 2000000 in
theorem w_X3_act_n310 {f : CfT} {a0 : Nat} {r : Int32} {S : HS} {M1 : MS} (hc : cf_cc f = cX3_act) (ho : cf_ow f = "TableCatalogModel") (hnL : cf_nL f = 3) (hrm : cf_rm f = (8, 212)) (hre : cf_re f = (some (.int))) (hct : cf_ct f = false) (hq : Qok f (some (vi r)) S (some (a0, M1))) {x1 : Int32} {M : MS} (hf : f_X3_act_n310 x1 M = some (r, M1)) : JJ f S (some (a0, M)) 310 [(0, vr (some a0)), (1, vi x1)] [] := by
  unfold f_X3_act_n310 at hf
  refine j_aload_n (pc := 310) hc dX3_act_310 0 rfl rfl ?_
  refine j_mgI (pc := 311) hc ho fm_169 rfl dX3_act_311 ?_
  refine j_if_ne (pc := 314) hc dX3_act_314 (tgt := 332) rfl (fun hh => ?_) (fun hh => ?_)
  · have hf1 := (if_neg hh).symm.trans hf
    clear hf
    exact w_X3_act_n332 hc ho hnL hrm hre hct hq hf1
  · have hf2 := (if_pos hh).symm.trans hf
    clear hf
    refine j_aload_n (pc := 317) hc dX3_act_317 0 rfl rfl ?_
    refine j_mgI (pc := 318) hc ho fm_159 rfl dX3_act_318 ?_
    refine j_bipush (pc := 321) (v := (16)) hc dX3_act_321 rfl ?_
    refine j_icmp_ne (pc := 323) hc dX3_act_323 (tgt := 332) rfl (fun hh => ?_) (fun hh => ?_)
    · have hf3 := (if_neg hh).symm.trans hf2
      clear hf2
      exact w_X3_act_n332 hc ho hnL hrm hre hct hq hf3
    · have hf4 := (if_pos hh).symm.trans hf2
      clear hf2
      refine j_aload_n (pc := 326) hc dX3_act_326 0 rfl rfl ?_
      refine j_iconst (pc := 327) (v := (5)) hc dX3_act_327 rfl ?_
      refine j_iconst (pc := 328) (v := (0)) hc dX3_act_328 rfl ?_
      obtain ⟨N1, eN1, hf5⟩ := ob_i hf4
      clear hf4
      refine j_callV (pc := 329) (As := [vi (5), vi (0)]) (rest := []) (st2 := []) hc ho cw_X3_262 (c_X3_means eN1) (Or.inr ⟨rfl, _, rfl⟩) hrm ⟨by decide, by decide⟩ rfl (Nat.le_of_ble_eq_true rfl) dX3_act_329 rfl rfl ?_
      exact w_X3_act_n332 hc ho hnL hrm hre hct hq hf5
set_option maxRecDepth 100000 in
set_option maxHeartbeats 2000000 in
theorem w_X3_act_n299 {f : CfT} {a0 : Nat} {r : Int32} {S : HS} {M1 : MS} (hc : cf_cc f = cX3_act) (ho : cf_ow f = "TableCatalogModel") (hnL : cf_nL f = 3) (hrm : cf_rm f = (8, 212)) (hre : cf_re f = (some (.int))) (hct : cf_ct f = false) (hq : Qok f (some (vi r)) S (some (a0, M1))) {x1 : Int32} {M : MS} (hf : f_X3_act_n299 x1 M = some (r, M1)) : JJ f S (some (a0, M)) 299 [(0, vr (some a0)), (1, vi x1)] [] := by
  unfold f_X3_act_n299 at hf
  refine j_aload_n (pc := 299) hc dX3_act_299 0 rfl rfl ?_
  refine j_mgI (pc := 300) hc ho fm_169 rfl dX3_act_300 ?_
  refine j_if_ne (pc := 303) hc dX3_act_303 (tgt := 310) rfl (fun hh => ?_) (fun hh => ?_)
  · have hf1 := (if_neg hh).symm.trans hf
    clear hf
    exact w_X3_act_n310 hc ho hnL hrm hre hct hq hf1
  · have hf2 := (if_pos hh).symm.trans hf
    clear hf
    refine j_aload_n (pc := 306) hc dX3_act_306 0 rfl rfl ?_
    obtain ⟨N1, eN1, hf3⟩ := ob_i hf2
    clear hf2
    refine j_callV (pc := 307) (As := []) (rest := []) (st2 := []) hc ho cw_X3_304 (c_X3_meant eN1) (Or.inr ⟨rfl, _, rfl⟩) hrm ⟨by decide, by decide⟩ rfl (Nat.le_of_ble_eq_true rfl) dX3_act_307 rfl rfl ?_
    exact w_X3_act_n310 hc ho hnL hrm hre hct hq hf3
set_option maxRecDepth 100000 in
set_option maxHeartbeats 2000000 in
theorem w_X3_act_n276 {f : CfT} {a0 : Nat} {r : Int32} {S : HS} {M1 : MS} (hc : cf_cc f = cX3_act) (ho : cf_ow f = "TableCatalogModel") (hnL : cf_nL f = 3) (hrm : cf_rm f = (8, 212)) (hre : cf_re f = (some (.int))) (hct : cf_ct f = false) (hq : Qok f (some (vi r)) S (some (a0, M1))) {x1 : Int32} {M : MS} (hf : f_X3_act_n276 x1 M = some (r, M1)) : JJ f S (some (a0, M)) 276 [(0, vr (some a0)), (1, vi x1)] [] := by
  unfold f_X3_act_n276 at hf
  refine j_aload_n (pc := 276) hc dX3_act_276 0 rfl rfl ?_
  refine j_mgI (pc := 277) hc ho fm_169 rfl dX3_act_277 ?_
  refine j_if_ne (pc := 280) hc dX3_act_280 (tgt := 299) rfl (fun hh => ?_) (fun hh => ?_)
  · have hf1 := (if_neg hh).symm.trans hf
    clear hf
    exact w_X3_act_n299 hc ho hnL hrm hre hct hq hf1
  · have hf2 := (if_pos hh).symm.trans hf
    clear hf
    refine j_aload_n (pc := 283) hc dX3_act_283 0 rfl rfl ?_
    refine j_mgI (pc := 284) hc ho fm_197 rfl dX3_act_284 ?_
    refine j_if_eq (pc := 287) hc dX3_act_287 (tgt := 299) rfl (fun hh => ?_) (fun hh => ?_)
    · have hf3 := (if_pos hh).symm.trans hf2
      clear hf2
      exact w_X3_act_n299 hc ho hnL hrm hre hct hq hf3
    · have hf4 := (if_neg hh).symm.trans hf2
      clear hf2
      refine j_aload_n (pc := 290) hc dX3_act_290 0 rfl rfl ?_
      refine j_iconst (pc := 291) (v := (1)) hc dX3_act_291 rfl ?_
      refine j_aload_n (pc := 292) hc dX3_act_292 0 rfl rfl ?_
      refine j_mgI (pc := 293) hc ho fm_188 rfl dX3_act_293 ?_
      obtain ⟨N1, eN1, hf5⟩ := ob_i hf4
      clear hf4
      refine j_callV (pc := 296) (As := [vi (1), vi (m_I M 30)]) (rest := []) (st2 := []) hc ho cw_X3_216 (c_X3_fail eN1) (Or.inr ⟨rfl, _, rfl⟩) hrm ⟨by decide, by decide⟩ rfl (Nat.le_of_ble_eq_true rfl) dX3_act_296 rfl rfl ?_
      exact w_X3_act_n299 hc ho hnL hrm hre hct hq hf5
set_option maxRecDepth 100000 in
set_option maxHeartbeats 2000000 in
theorem w_X3_act_n263 {f : CfT} {a0 : Nat} {r : Int32} {S : HS} {M1 : MS} (hc : cf_cc f = cX3_act) (ho : cf_ow f = "TableCatalogModel") (hnL : cf_nL f = 3) (hrm : cf_rm f = (8, 212)) (hre : cf_re f = (some (.int))) (hct : cf_ct f = false) (hq : Qok f (some (vi r)) S (some (a0, M1))) {x1 : Int32} {M : MS} (hf : f_X3_act_n263 x1 M = some (r, M1)) : JJ f S (some (a0, M)) 263 [(0, vr (some a0)), (1, vi x1)] [] := by
  unfold f_X3_act_n263 at hf
  refine j_aload_n (pc := 263) hc dX3_act_263 0 rfl rfl ?_
  refine j_mgI (pc := 264) hc ho fm_169 rfl dX3_act_264 ?_
  refine j_if_ne (pc := 267) hc dX3_act_267 (tgt := 276) rfl (fun hh => ?_) (fun hh => ?_)
  · have hf1 := (if_neg hh).symm.trans hf
    clear hf
    exact w_X3_act_n276 hc ho hnL hrm hre hct hq hf1
  · have hf2 := (if_pos hh).symm.trans hf
    clear hf
    refine j_aload_n (pc := 270) hc dX3_act_270 0 rfl rfl ?_
    refine j_bipush (pc := 271) (v := (59)) hc dX3_act_271 rfl ?_
    obtain ⟨N1, eN1, hf3⟩ := ob_i hf2
    clear hf2
    refine j_callV (pc := 273) (As := [vi (59)]) (rest := []) (st2 := []) hc ho cw_X3_231 (c_X3_sign eN1) (Or.inr ⟨rfl, _, rfl⟩) hrm ⟨by decide, by decide⟩ rfl (Nat.le_of_ble_eq_true rfl) dX3_act_273 rfl rfl ?_
    exact w_X3_act_n276 hc ho hnL hrm hre hct hq hf3
set_option maxRecDepth 100000 in
set_option maxHeartbeats 2000000 in
theorem w_X3_act_n252 {f : CfT} {a0 : Nat} {r : Int32} {S : HS} {M1 : MS} (hc : cf_cc f = cX3_act) (ho : cf_ow f = "TableCatalogModel") (hnL : cf_nL f = 3) (hrm : cf_rm f = (8, 212)) (hre : cf_re f = (some (.int))) (hct : cf_ct f = false) (hq : Qok f (some (vi r)) S (some (a0, M1))) {x1 : Int32} {M : MS} (hf : f_X3_act_n252 x1 M = some (r, M1)) : JJ f S (some (a0, M)) 252 [(0, vr (some a0)), (1, vi x1)] [] := by
  unfold f_X3_act_n252 at hf
  refine j_aload_n (pc := 252) hc dX3_act_252 0 rfl rfl ?_
  refine j_mgI (pc := 253) hc ho fm_169 rfl dX3_act_253 ?_
  refine j_if_ne (pc := 256) hc dX3_act_256 (tgt := 263) rfl (fun hh => ?_) (fun hh => ?_)
  · have hf1 := (if_neg hh).symm.trans hf
    clear hf
    exact w_X3_act_n263 hc ho hnL hrm hre hct hq hf1
  · have hf2 := (if_pos hh).symm.trans hf
    clear hf
    refine j_aload_n (pc := 259) hc dX3_act_259 0 rfl rfl ?_
    obtain ⟨N1, eN1, hf3⟩ := ob_i hf2
    clear hf2
    refine j_callV (pc := 260) (As := []) (rest := []) (st2 := []) hc ho cw_X3_301 (c_X3_select eN1) (Or.inr ⟨rfl, _, rfl⟩) hrm ⟨by decide, by decide⟩ rfl (Nat.le_of_ble_eq_true rfl) dX3_act_260 rfl rfl ?_
    exact w_X3_act_n263 hc ho hnL hrm hre hct hq hf3
set_option maxRecDepth 100000 in
set_option maxHeartbeats 2000000 in
theorem w_X3_act_n229 {f : CfT} {a0 : Nat} {r : Int32} {S : HS} {M1 : MS} (hc : cf_cc f = cX3_act) (ho : cf_ow f = "TableCatalogModel") (hnL : cf_nL f = 3) (hrm : cf_rm f = (8, 212)) (hre : cf_re f = (some (.int))) (hct : cf_ct f = false) (hq : Qok f (some (vi r)) S (some (a0, M1))) {x1 : Int32} {M : MS} (hf : f_X3_act_n229 x1 M = some (r, M1)) : JJ f S (some (a0, M)) 229 [(0, vr (some a0)), (1, vi x1)] [] := by
  unfold f_X3_act_n229 at hf
  refine j_aload_n (pc := 229) hc dX3_act_229 0 rfl rfl ?_
  refine j_mgI (pc := 230) hc ho fm_169 rfl dX3_act_230 ?_
  refine j_if_ne (pc := 233) hc dX3_act_233 (tgt := 252) rfl (fun hh => ?_) (fun hh => ?_)
  · have hf1 := (if_neg hh).symm.trans hf
    clear hf
    exact w_X3_act_n252 hc ho hnL hrm hre hct hq hf1
  · have hf2 := (if_pos hh).symm.trans hf
    clear hf
    refine j_aload_n (pc := 236) hc dX3_act_236 0 rfl rfl ?_
    refine j_mgA (pc := 237) hc ho fm_17 rfl dX3_act_237 ?_
    refine j_iload_n (pc := 240) hc dX3_act_240 1 rfl rfl ?_
    obtain ⟨v1, ev1, hf3⟩ := ob_i hf2
    clear hf2
    refine j_mldI (pc := 241) hc (k := 3) (by decide) rfl dX3_act_241 ev1 ?_
    refine j_if_ne (pc := 242) hc dX3_act_242 (tgt := 252) rfl (fun hh => ?_) (fun hh => ?_)
    · have hf4 := (if_neg hh).symm.trans hf3
      clear hf3
      exact w_X3_act_n252 hc ho hnL hrm hre hct hq hf4
    · have hf5 := (if_pos hh).symm.trans hf3
      clear hf3
      refine j_aload_n (pc := 245) hc dX3_act_245 0 rfl rfl ?_
      obtain ⟨N2, eN2, hf6⟩ := ob_i hf5
      clear hf5
      refine j_callV (pc := 246) (As := []) (rest := []) (st2 := []) hc ho cw_X3_298 (c_X3_source eN2) (Or.inr ⟨rfl, _, rfl⟩) hrm ⟨by decide, by decide⟩ rfl (Nat.le_of_ble_eq_true rfl) dX3_act_246 rfl rfl ?_
      refine j_goto (pc := 249) hc dX3_act_249 (tgt := 263) rfl ?_
      exact w_X3_act_n263 hc ho hnL hrm hre hct hq hf6
set_option maxRecDepth 100000 in
set_option maxHeartbeats 2000000 in
theorem w_X3_act_n208 {f : CfT} {a0 : Nat} {r : Int32} {S : HS} {M1 : MS} (hc : cf_cc f = cX3_act) (ho : cf_ow f = "TableCatalogModel") (hnL : cf_nL f = 3) (hrm : cf_rm f = (8, 212)) (hre : cf_re f = (some (.int))) (hct : cf_ct f = false) (hq : Qok f (some (vi r)) S (some (a0, M1))) {x1 : Int32} {M : MS} (hf : f_X3_act_n208 x1 M = some (r, M1)) : JJ f S (some (a0, M)) 208 [(0, vr (some a0)), (1, vi x1)] [] := by
  unfold f_X3_act_n208 at hf
  refine j_aload_n (pc := 208) hc dX3_act_208 0 rfl rfl ?_
  refine j_mgA (pc := 209) hc ho fm_13 rfl dX3_act_209 ?_
  refine j_iload_n (pc := 212) hc dX3_act_212 1 rfl rfl ?_
  refine j_aload_n (pc := 213) hc dX3_act_213 0 rfl rfl ?_
  refine j_mgJ (pc := 214) hc ho fm_194 rfl dX3_act_214 ?_
  obtain ⟨N1, eN1, hf1⟩ := ob_i hf
  clear hf
  refine j_mstJ (pc := 217) hc (k := 2) (by decide) rfl dX3_act_217 eN1 ?_
  refine j_aload_n (pc := 218) hc dX3_act_218 0 rfl rfl ?_
  refine j_mgI (pc := 219) hc ho fm_169 rfl dX3_act_219 ?_
  refine j_if_ne (pc := 222) hc dX3_act_222 (tgt := 229) rfl (fun hh => ?_) (fun hh => ?_)
  · have hf2 := (if_neg hh).symm.trans hf1
    clear hf1
    exact w_X3_act_n229 hc ho hnL hrm hre hct hq hf2
  · have hf3 := (if_pos hh).symm.trans hf1
    clear hf1
    refine j_aload_n (pc := 225) hc dX3_act_225 0 rfl rfl ?_
    obtain ⟨N2, eN2, hf4⟩ := ob_i hf3
    clear hf3
    refine j_callV (pc := 226) (As := []) (rest := []) (st2 := []) hc ho cw_X3_238 (c_X3_name eN2) (Or.inr ⟨rfl, _, rfl⟩) hrm ⟨by decide, by decide⟩ rfl (Nat.le_of_ble_eq_true rfl) dX3_act_226 rfl rfl ?_
    exact w_X3_act_n229 hc ho hnL hrm hre hct hq hf4
set_option maxRecDepth 100000 in
set_option maxHeartbeats 2000000 in
theorem w_X3_act_n181 {f : CfT} {a0 : Nat} {r : Int32} {S : HS} {M1 : MS} (hc : cf_cc f = cX3_act) (ho : cf_ow f = "TableCatalogModel") (hnL : cf_nL f = 3) (hrm : cf_rm f = (8, 212)) (hre : cf_re f = (some (.int))) (hct : cf_ct f = false) (hq : Qok f (some (vi r)) S (some (a0, M1))) {x1 : Int32} {sx1 : Int32} {sx2 : Int32} {M : MS} (hf : f_X3_act_n181 x1 sx1 sx2 M = some (r, M1)) : JJ f S (some (a0, M)) 181 [(0, vr (some a0)), (1, vi x1)] [vi sx2, vi sx1, vr (some (a0 + m_po 3))] := by
  unfold f_X3_act_n181 at hf
  obtain ⟨N1, eN1, hf1⟩ := ob_i hf
  clear hf
  refine j_mstI (pc := 181) hc (k := 3) (by decide) rfl dX3_act_181 eN1 ?_
  refine j_aload_n (pc := 182) hc dX3_act_182 0 rfl rfl ?_
  refine j_mgA (pc := 183) hc ho fm_17 rfl dX3_act_183 ?_
  refine j_iload_n (pc := 186) hc dX3_act_186 1 rfl rfl ?_
  obtain ⟨v2, ev2, hf2⟩ := ob_i hf1
  clear hf1
  refine j_mldI (pc := 187) hc (k := 3) (by decide) rfl dX3_act_187 ev2 ?_
  refine j_iconst (pc := 188) (v := (-1)) hc dX3_act_188 rfl ?_
  refine j_icmp_ne (pc := 189) hc dX3_act_189 (tgt := 204) rfl (fun hh => ?_) (fun hh => ?_)
  · have hf3 := (if_neg hh).symm.trans hf2
    clear hf2
    refine j_aload_n (pc := 204) hc dX3_act_204 0 rfl rfl ?_
    obtain ⟨N3, eN3, hf4⟩ := ob_i hf3
    clear hf3
    refine j_callV (pc := 205) (As := []) (rest := []) (st2 := []) hc ho cw_X3_213 (c_X3_keeps eN3) (Or.inr ⟨rfl, _, rfl⟩) hrm ⟨by decide, by decide⟩ rfl (Nat.le_of_ble_eq_true rfl) dX3_act_205 rfl rfl ?_
    exact w_X3_act_n208 hc ho hnL hrm hre hct hq hf4
  · have hf5 := (if_pos hh).symm.trans hf2
    clear hf2
    refine j_aload_n (pc := 192) hc dX3_act_192 0 rfl rfl ?_
    refine j_iconst (pc := 193) (v := (1)) hc dX3_act_193 rfl ?_
    refine j_aload_n (pc := 194) hc dX3_act_194 0 rfl rfl ?_
    refine j_mgI (pc := 195) hc ho fm_188 rfl dX3_act_195 ?_
    obtain ⟨N4, eN4, hf6⟩ := ob_i hf5
    clear hf5
    refine j_callV (pc := 198) (As := [vi (1), vi (m_I N1 30)]) (rest := []) (st2 := []) hc ho cw_X3_216 (c_X3_fail eN4) (Or.inr ⟨rfl, _, rfl⟩) hrm ⟨by decide, by decide⟩ rfl (Nat.le_of_ble_eq_true rfl) dX3_act_198 rfl rfl ?_
    refine j_goto (pc := 201) hc dX3_act_201 (tgt := 208) rfl ?_
    exact w_X3_act_n208 hc ho hnL hrm hre hct hq hf6
set_option maxRecDepth 100000 in
set_option maxHeartbeats 2000000 in
theorem w_X3_act_n94 {f : CfT} {a0 : Nat} {r : Int32} {S : HS} {M1 : MS} (hc : cf_cc f = cX3_act) (ho : cf_ow f = "TableCatalogModel") (hnL : cf_nL f = 3) (hrm : cf_rm f = (8, 212)) (hre : cf_re f = (some (.int))) (hct : cf_ct f = false) (hq : Qok f (some (vi r)) S (some (a0, M1))) : ∀ (n : Nat) (x1 : Int32) (x2 : Int32) (M : MS), f_X3_act_n94 n x1 x2 M = some (r, M1) → JJ f S (some (a0, M)) 94 [(0, vr (some a0)), (1, vi x1), (2, vi x2)] [] := by
  intro n
  induction n with
  | zero =>
    intro x1 x2 M hf
    have hf : (none : Option (Int32 × MS)) = some (r, M1) := hf
    cases hf
  | succ n ih =>
    intro x1 x2 M hf
    unfold f_X3_act_n94 at hf
    have hk_94 := ih
    refine j_iload_n (pc := 94) hc dX3_act_94 2 rfl rfl ?_
    refine j_aload_n (pc := 95) hc dX3_act_95 0 rfl rfl ?_
    refine j_mgI (pc := 96) hc ho fm_182 rfl dX3_act_96 ?_
    refine j_icmp_ge (pc := 99) hc dX3_act_99 (tgt := 126) rfl (fun hh => ?_) (fun hh => ?_)
    · have hf1 := (if_pos hh).symm.trans hf
      clear hf
      refine j_aload_n (pc := 126) hc dX3_act_126 0 rfl rfl ?_
      obtain ⟨N1, eN1, hf2⟩ := ob_i hf1
      clear hf1
      refine j_callV (pc := 127) (As := []) (rest := []) (st2 := []) hc ho cw_X3_210 (c_X3_next eN1) (Or.inr ⟨rfl, _, rfl⟩) hrm ⟨by decide, by decide⟩ rfl (Nat.le_of_ble_eq_true rfl) dX3_act_127 rfl rfl ?_
      refine j_aload_n (pc := 130) hc dX3_act_130 0 rfl rfl ?_
      refine j_mgA (pc := 131) hc ho fm_17 rfl dX3_act_131 ?_
      refine j_iload_n (pc := 134) hc dX3_act_134 1 rfl rfl ?_
      refine j_aload_n (pc := 135) hc dX3_act_135 0 rfl rfl ?_
      refine j_aload_n (pc := 136) hc dX3_act_136 0 rfl rfl ?_
      refine j_mgJ (pc := 137) hc ho fm_90 rfl dX3_act_137 ?_
      obtain ⟨v3, N2, ev3, hf3⟩ := ob_c hf2
      clear hf2
      refine j_callV (pc := 140) (As := [vl (m_J N1 35)]) (rest := [vi x1, vr (some (a0 + m_po 3))]) (st2 := [vi v3, vi x1, vr (some (a0 + m_po 3))]) hc ho cw_X3_227 (c_X3_isWord ev3) (Or.inr ⟨rfl, _, rfl⟩) hrm ⟨by decide, by decide⟩ rfl (Nat.le_of_ble_eq_true rfl) dX3_act_140 rfl rfl ?_
      refine j_if_eq (pc := 143) hc dX3_act_143 (tgt := 150) rfl (fun hh => ?_) (fun hh => ?_)
      · have hf4 := (if_pos hh).symm.trans hf3
        clear hf3
        refine j_aload_n (pc := 150) hc dX3_act_150 0 rfl rfl ?_
        refine j_aload_n (pc := 151) hc dX3_act_151 0 rfl rfl ?_
        refine j_mgJ (pc := 152) hc ho fm_83 rfl dX3_act_152 ?_
        obtain ⟨v5, N4, ev5, hf5⟩ := ob_c hf4
        clear hf4
        refine j_callV (pc := 155) (As := [vl (m_J N2 33)]) (rest := [vi x1, vr (some (a0 + m_po 3))]) (st2 := [vi v5, vi x1, vr (some (a0 + m_po 3))]) hc ho cw_X3_227 (c_X3_isWord ev5) (Or.inr ⟨rfl, _, rfl⟩) hrm ⟨by decide, by decide⟩ rfl (Nat.le_of_ble_eq_true rfl) dX3_act_155 rfl rfl ?_
        refine j_if_eq (pc := 158) hc dX3_act_158 (tgt := 165) rfl (fun hh => ?_) (fun hh => ?_)
        · have hf6 := (if_pos hh).symm.trans hf5
          clear hf5
          refine j_aload_n (pc := 165) hc dX3_act_165 0 rfl rfl ?_
          refine j_aload_n (pc := 166) hc dX3_act_166 0 rfl rfl ?_
          refine j_mgJ (pc := 167) hc ho fm_87 rfl dX3_act_167 ?_
          obtain ⟨v7, N6, ev7, hf7⟩ := ob_c hf6
          clear hf6
          refine j_callV (pc := 170) (As := [vl (m_J N4 34)]) (rest := [vi x1, vr (some (a0 + m_po 3))]) (st2 := [vi v7, vi x1, vr (some (a0 + m_po 3))]) hc ho cw_X3_227 (c_X3_isWord ev7) (Or.inr ⟨rfl, _, rfl⟩) hrm ⟨by decide, by decide⟩ rfl (Nat.le_of_ble_eq_true rfl) dX3_act_170 rfl rfl ?_
          refine j_if_eq (pc := 173) hc dX3_act_173 (tgt := 180) rfl (fun hh => ?_) (fun hh => ?_)
          · have hf8 := (if_pos hh).symm.trans hf7
            clear hf7
            refine j_iconst (pc := 180) (v := (-1)) hc dX3_act_180 rfl ?_
            refine j_loc (L' := [(0, vr (some a0)), (1, vi x1)]) [0, 1] rfl ?_
            exact w_X3_act_n181 hc ho hnL hrm hre hct hq hf8
          · have hf9 := (if_neg hh).symm.trans hf7
            clear hf7
            refine j_iconst (pc := 176) (v := (2)) hc dX3_act_176 rfl ?_
            refine j_goto (pc := 177) hc dX3_act_177 (tgt := 181) rfl ?_
            refine j_loc (L' := [(0, vr (some a0)), (1, vi x1)]) [0, 1] rfl ?_
            exact w_X3_act_n181 hc ho hnL hrm hre hct hq hf9
        · have hf10 := (if_neg hh).symm.trans hf5
          clear hf5
          refine j_iconst (pc := 161) (v := (1)) hc dX3_act_161 rfl ?_
          refine j_goto (pc := 162) hc dX3_act_162 (tgt := 181) rfl ?_
          refine j_loc (L' := [(0, vr (some a0)), (1, vi x1)]) [0, 1] rfl ?_
          exact w_X3_act_n181 hc ho hnL hrm hre hct hq hf10
      · have hf11 := (if_neg hh).symm.trans hf3
        clear hf3
        refine j_iconst (pc := 146) (v := (0)) hc dX3_act_146 rfl ?_
        refine j_goto (pc := 147) hc dX3_act_147 (tgt := 181) rfl ?_
        refine j_loc (L' := [(0, vr (some a0)), (1, vi x1)]) [0, 1] rfl ?_
        exact w_X3_act_n181 hc ho hnL hrm hre hct hq hf11
    · have hf12 := (if_neg hh).symm.trans hf
      clear hf
      refine j_aload_n (pc := 102) hc dX3_act_102 0 rfl rfl ?_
      refine j_mgA (pc := 103) hc ho fm_60 rfl dX3_act_103 ?_
      refine j_sipush (pc := 106) (v := (400)) hc dX3_act_106 rfl ?_
      refine j_iload_n (pc := 109) hc dX3_act_109 1 rfl rfl ?_
      refine j_imul (pc := 110) hc dX3_act_110 ?_
      refine j_iload_n (pc := 111) hc dX3_act_111 2 rfl rfl ?_
      refine j_iadd (pc := 112) hc dX3_act_112 ?_
      refine j_aload_n (pc := 113) hc dX3_act_113 0 rfl rfl ?_
      refine j_mgA (pc := 114) hc ho fm_72 rfl dX3_act_114 ?_
      refine j_iload_n (pc := 117) hc dX3_act_117 2 rfl rfl ?_
      obtain ⟨v8, ev8, hf13⟩ := ob_i hf12
      clear hf12
      refine j_mldI (pc := 118) hc (k := 21) (by decide) rfl dX3_act_118 ev8 ?_
      obtain ⟨N9, eN9, hf14⟩ := ob_i hf13
      clear hf13
      refine j_mstI (pc := 119) hc (k := 17) (by decide) rfl dX3_act_119 eN9 ?_
      refine j_iinc (pc := 120) (L' := [(2, vi (x2 + (1))), (0, vr (some a0)), (1, vi x1)]) (v := (x2 + (1))) hc dX3_act_120 2 rfl rfl hnL (by decide) rfl ?_
      refine j_goto (pc := 123) hc dX3_act_123 (tgt := 94) rfl ?_
      refine j_loc (L' := [(0, vr (some a0)), (1, vi x1), (2, vi (x2 + (1)))]) [1, 2, 0] rfl ?_
      exact hk_94 _ _ _ hf14
set_option maxRecDepth 100000 in
set_option maxHeartbeats 2000000 in
theorem w_X3_act_n56 {f : CfT} {a0 : Nat} {r : Int32} {S : HS} {M1 : MS} (hc : cf_cc f = cX3_act) (ho : cf_ow f = "TableCatalogModel") (hnL : cf_nL f = 3) (hrm : cf_rm f = (8, 212)) (hre : cf_re f = (some (.int))) (hct : cf_ct f = false) (hq : Qok f (some (vi r)) S (some (a0, M1))) : ∀ (n : Nat) (x1 : Int32) (x2 : Int32) (M : MS), f_X3_act_n56 n x1 x2 M = some (r, M1) → JJ f S (some (a0, M)) 56 [(0, vr (some a0)), (1, vi x1), (2, vi x2)] [] := by
  intro n
  induction n with
  | zero =>
    intro x1 x2 M hf
    have hf : (none : Option (Int32 × MS)) = some (r, M1) := hf
    cases hf
  | succ n ih =>
    intro x1 x2 M hf
    unfold f_X3_act_n56 at hf
    have hk_56 := ih
    refine j_iload_n (pc := 56) hc dX3_act_56 2 rfl rfl ?_
    refine j_bipush (pc := 57) (v := (8)) hc dX3_act_57 rfl ?_
    refine j_icmp_ge (pc := 59) hc dX3_act_59 (tgt := 92) rfl (fun hh => ?_) (fun hh => ?_)
    · have hf1 := (if_pos hh).symm.trans hf
      clear hf
      refine j_iconst (pc := 92) (v := (0)) hc dX3_act_92 rfl ?_
      refine j_istore_n (pc := 93) (L' := [(2, vi (0)), (0, vr (some a0)), (1, vi x1)]) hc dX3_act_93 rfl hnL (by decide) rfl ?_
      refine j_loc (L' := [(0, vr (some a0)), (1, vi x1), (2, vi (0))]) [1, 2, 0] rfl ?_
      exact w_X3_act_n94 hc ho hnL hrm hre hct hq fu_ _ _ _ hf1
    · have hf2 := (if_neg hh).symm.trans hf
      clear hf
      refine j_aload_n (pc := 62) hc dX3_act_62 0 rfl rfl ?_
      refine j_mgA (pc := 63) hc ho fm_63 rfl dX3_act_63 ?_
      refine j_bipush (pc := 66) (v := (8)) hc dX3_act_66 rfl ?_
      refine j_iload_n (pc := 68) hc dX3_act_68 1 rfl rfl ?_
      refine j_imul (pc := 69) hc dX3_act_69 ?_
      refine j_iload_n (pc := 70) hc dX3_act_70 2 rfl rfl ?_
      refine j_iadd (pc := 71) hc dX3_act_71 ?_
      refine j_iconst (pc := 72) (v := (0)) hc dX3_act_72 rfl ?_
      obtain ⟨N1, eN1, hf3⟩ := ob_i hf2
      clear hf2
      refine j_mstI (pc := 73) hc (k := 18) (by decide) rfl dX3_act_73 eN1 ?_
      refine j_aload_n (pc := 74) hc dX3_act_74 0 rfl rfl ?_
      refine j_mgA (pc := 75) hc ho fm_66 rfl dX3_act_75 ?_
      refine j_bipush (pc := 78) (v := (8)) hc dX3_act_78 rfl ?_
      refine j_iload_n (pc := 80) hc dX3_act_80 1 rfl rfl ?_
      refine j_imul (pc := 81) hc dX3_act_81 ?_
      refine j_iload_n (pc := 82) hc dX3_act_82 2 rfl rfl ?_
      refine j_iadd (pc := 83) hc dX3_act_83 ?_
      refine j_iconst (pc := 84) (v := (0)) hc dX3_act_84 rfl ?_
      obtain ⟨N2, eN2, hf4⟩ := ob_i hf3
      clear hf3
      refine j_mstI (pc := 85) hc (k := 19) (by decide) rfl dX3_act_85 eN2 ?_
      refine j_iinc (pc := 86) (L' := [(2, vi (x2 + (1))), (0, vr (some a0)), (1, vi x1)]) (v := (x2 + (1))) hc dX3_act_86 2 rfl rfl hnL (by decide) rfl ?_
      refine j_goto (pc := 89) hc dX3_act_89 (tgt := 56) rfl ?_
      refine j_loc (L' := [(0, vr (some a0)), (1, vi x1), (2, vi (x2 + (1)))]) [1, 2, 0] rfl ?_
      exact hk_56 _ _ _ hf4
set_option maxRecDepth 100000 in
set_option maxHeartbeats 2000000 in
theorem c_X3_act {l : Launch} {g : PG} {a0 : Nat} {r : Int32} {S : HS} {M M1 : MS} (hf : f_X3_act M = some (r, M1)) : (h_nx S ≤ h_nx S ∧ h_sl S ≤ h_sl S) ∧ Ct l g yX3_act (ws_ yX3_act cX3_act 3 (some (.int))) 8 212 S (some (a0, M)) [vr (some a0)] (some (vi r)) S (some (a0, M1)) := by
  refine met_of false (by decide) (fun h => by first | rfl | cases h) rfl (Nat.le_of_ble_eq_true rfl) (fun f hl hg hc ho hnL hrm hre hct hex hq => ?_)
  subst hl
  subst hg
  unfold f_X3_act at hf
  refine j_aload_n (pc := 0) hc dX3_act_0 0 rfl rfl ?_
  refine j_mgI (pc := 1) hc ho fm_159 rfl dX3_act_1 ?_
  refine j_istore_n (pc := 4) (L' := [(1, vi (m_I M 0)), (0, vr (some a0))]) hc dX3_act_4 rfl hnL (by decide) rfl ?_
  refine j_aload_n (pc := 5) hc dX3_act_5 1 rfl rfl ?_
  refine j_aload_n (pc := 6) hc dX3_act_6 1 rfl rfl ?_
  refine j_mgI (pc := 7) hc ho fm_166 rfl dX3_act_7 ?_
  obtain ⟨N1, eN1, hf1⟩ := ob_i hf
  clear hf
  refine j_mpI (pc := 10) hc ho fm_182 rfl rfl rfl rfl dX3_act_10 eN1 ?_
  refine j_aload_n (pc := 13) hc dX3_act_13 1 rfl rfl ?_
  refine j_iconst (pc := 14) (v := (0)) hc dX3_act_14 rfl ?_
  obtain ⟨N2, eN2, hf2⟩ := ob_i hf1
  clear hf1
  refine j_mpI (pc := 15) hc ho fm_166 rfl rfl rfl rfl dX3_act_15 eN2 ?_
  refine j_aload_n (pc := 18) hc dX3_act_18 1 rfl rfl ?_
  refine j_iconst (pc := 19) (v := (0)) hc dX3_act_19 rfl ?_
  obtain ⟨N3, eN3, hf3⟩ := ob_i hf2
  clear hf2
  refine j_mpI (pc := 20) hc ho fm_179 rfl rfl rfl rfl dX3_act_20 eN3 ?_
  refine j_aload_n (pc := 23) hc dX3_act_23 1 rfl rfl ?_
  refine j_iconst (pc := 24) (v := (0)) hc dX3_act_24 rfl ?_
  obtain ⟨N4, eN4, hf4⟩ := ob_i hf3
  clear hf3
  refine j_mpI (pc := 25) hc ho fm_169 rfl rfl rfl rfl dX3_act_25 eN4 ?_
  refine j_aload_n (pc := 28) hc dX3_act_28 1 rfl rfl ?_
  refine j_iconst (pc := 29) (v := (-1)) hc dX3_act_29 rfl ?_
  obtain ⟨N5, eN5, hf5⟩ := ob_i hf4
  clear hf4
  refine j_mpI (pc := 30) hc ho fm_172 rfl rfl rfl rfl dX3_act_30 eN5 ?_
  refine j_aload_n (pc := 33) hc dX3_act_33 1 rfl rfl ?_
  refine j_mgA (pc := 34) hc ho fm_48 rfl dX3_act_34 ?_
  refine j_iload_n (pc := 37) hc dX3_act_37 0 rfl rfl ?_
  refine j_iconst (pc := 38) (v := (0)) hc dX3_act_38 rfl ?_
  obtain ⟨N6, eN6, hf6⟩ := ob_i hf5
  clear hf5
  refine j_mstI (pc := 39) hc (k := 13) (by decide) rfl dX3_act_39 eN6 ?_
  refine j_aload_n (pc := 40) hc dX3_act_40 1 rfl rfl ?_
  refine j_mgA (pc := 41) hc ho fm_21 rfl dX3_act_41 ?_
  refine j_iload_n (pc := 44) hc dX3_act_44 0 rfl rfl ?_
  refine j_iconst (pc := 45) (v := (0)) hc dX3_act_45 rfl ?_
  obtain ⟨N7, eN7, hf7⟩ := ob_i hf6
  clear hf6
  refine j_mstI (pc := 46) hc (k := 4) (by decide) rfl dX3_act_46 eN7 ?_
  refine j_aload_n (pc := 47) hc dX3_act_47 1 rfl rfl ?_
  refine j_mgA (pc := 48) hc ho fm_30 rfl dX3_act_48 ?_
  refine j_iload_n (pc := 51) hc dX3_act_51 0 rfl rfl ?_
  refine j_iconst (pc := 52) (v := (0)) hc dX3_act_52 rfl ?_
  obtain ⟨N8, eN8, hf8⟩ := ob_i hf7
  clear hf7
  refine j_mstI (pc := 53) hc (k := 7) (by decide) rfl dX3_act_53 eN8 ?_
  refine j_iconst (pc := 54) (v := (0)) hc dX3_act_54 rfl ?_
  refine j_istore_n (pc := 55) (L' := [(2, vi (0)), (1, vi (m_I M 0)), (0, vr (some a0))]) hc dX3_act_55 rfl hnL (by decide) rfl ?_
  refine j_loc (L' := [(0, vr (some a0)), (1, vi (m_I M 0)), (2, vi (0))]) [2, 1, 0] rfl ?_
  exact w_X3_act_n56 hc ho hnL hrm hre hct hq fu_ _ _ _ hf8
def f_X3_fault (x1 : Int32) (M : MS) : Option (Int32 × MS) :=
  if x1 = 0 then
    some ((m_I M 27), M)
  else
    if x1 = (1) then
      some ((m_I M 28), M)
    else
      some ((-1), M)
set_option maxRecDepth 100000 in
set_option maxHeartbeats 2000000 in
theorem c_X3_fault {l : Launch} {g : PG} {a0 : Nat} {x1 : Int32} {r : Int32} {S : HS} {M M1 : MS} (hf : f_X3_fault x1 M = some (r, M1)) : (h_nx S ≤ h_nx S ∧ h_sl S ≤ h_sl S) ∧ Ct l g yX3_fault (ws_ yX3_fault cX3_fault 2 (some (.int))) 1 60 S (some (a0, M)) [vr (some a0), vi x1] (some (vi r)) S (some (a0, M1)) := by
  refine met_of false (by decide) (fun h => by first | rfl | cases h) rfl (Nat.le_of_ble_eq_true rfl) (fun f hl hg hc ho hnL hrm hre hct hex hq => ?_)
  subst hl
  subst hg
  unfold f_X3_fault at hf
  refine j_iload_n (pc := 0) hc dX3_fault_0 1 rfl rfl ?_
  refine j_if_ne (pc := 1) hc dX3_fault_1 (tgt := 11) rfl (fun hh => ?_) (fun hh => ?_)
  · have hf1 := (if_neg hh).symm.trans hf
    clear hf
    refine j_iload_n (pc := 11) hc dX3_fault_11 1 rfl rfl ?_
    refine j_iconst (pc := 12) (v := (1)) hc dX3_fault_12 rfl ?_
    refine j_icmp_ne (pc := 13) hc dX3_fault_13 (tgt := 23) rfl (fun hh => ?_) (fun hh => ?_)
    · have hf2 := (if_neg hh).symm.trans hf1
      clear hf1
      refine j_iconst (pc := 23) (v := (-1)) hc dX3_fault_23 rfl ?_
      cases hf2
      exact j_iret (pc := 24) hc hq hre rfl dX3_fault_24
    · have hf3 := (if_pos hh).symm.trans hf1
      clear hf1
      refine j_aload_n (pc := 16) hc dX3_fault_16 0 rfl rfl ?_
      refine j_mgI (pc := 17) hc ho fm_75 rfl dX3_fault_17 ?_
      refine j_goto (pc := 20) hc dX3_fault_20 (tgt := 24) rfl ?_
      cases hf3
      exact j_iret (pc := 24) hc hq hre rfl dX3_fault_24
  · have hf4 := (if_pos hh).symm.trans hf
    clear hf
    refine j_aload_n (pc := 4) hc dX3_fault_4 0 rfl rfl ?_
    refine j_mgI (pc := 5) hc ho fm_307 rfl dX3_fault_5 ?_
    refine j_goto (pc := 8) hc dX3_fault_8 (tgt := 24) rfl ?_
    cases hf4
    exact j_iret (pc := 24) hc hq hre rfl dX3_fault_24
def f_X3_named_2 (M : MS) : Option (Int32 × MS) :=
  (some (m_sI M 23 (0))).bind fun N1 =>
  (some (m_sI N1 24 (m_I N1 22))).bind fun N2 =>
  (some (m_sI N2 22 (0))).bind fun N3 =>
  (f_X3_next N3).bind fun N4 =>
  o_bd (f_X3_isName N4) fun v6 N5 =>
  (f_X3_next N5).bind fun N7 =>
  if v6 = 0 then
    some ((-1), N7)
  else
    if (m_I N7 29) = 0 then
      o_bd (f_X3_tableNamed (m_J N5 32) N7) fun v9 N8 =>
      if v9 = (-1) then
        some ((-2), N8)
      else
        some (v9, N8)
    else
      some ((-1), N7)
set_option maxRecDepth 100000 in
set_option maxHeartbeats 2000000 in
theorem c_X3_named_2 {l : Launch} {g : PG} {a0 : Nat} {r : Int32} {S : HS} {M M1 : MS} (hf : f_X3_named_2 M = some (r, M1)) : (h_nx S ≤ h_nx S ∧ h_sl S ≤ h_sl S) ∧ Ct l g yX3_named_2 (ws_ yX3_named_2 cX3_named_2 5 (some (.int))) 3 105 S (some (a0, M)) [vr (some a0)] (some (vi r)) S (some (a0, M1)) := by
  refine met_of false (by decide) (fun h => by first | rfl | cases h) rfl (Nat.le_of_ble_eq_true rfl) (fun f hl hg hc ho hnL hrm hre hct hex hq => ?_)
  subst hl
  subst hg
  unfold f_X3_named_2 at hf
  refine j_aload_n (pc := 0) hc dX3_named_2_0 0 rfl rfl ?_
  refine j_iconst (pc := 1) (v := (0)) hc dX3_named_2_1 rfl ?_
  obtain ⟨N1, eN1, hf1⟩ := ob_i hf
  clear hf
  refine j_mpI (pc := 2) hc ho fm_179 rfl rfl rfl rfl dX3_named_2_2 eN1 ?_
  refine j_aload_n (pc := 5) hc dX3_named_2_5 0 rfl rfl ?_
  refine j_aload_n (pc := 6) hc dX3_named_2_6 0 rfl rfl ?_
  refine j_mgI (pc := 7) hc ho fm_166 rfl dX3_named_2_7 ?_
  obtain ⟨N2, eN2, hf2⟩ := ob_i hf1
  clear hf1
  refine j_mpI (pc := 10) hc ho fm_182 rfl rfl rfl rfl dX3_named_2_10 eN2 ?_
  refine j_aload_n (pc := 13) hc dX3_named_2_13 0 rfl rfl ?_
  refine j_iconst (pc := 14) (v := (0)) hc dX3_named_2_14 rfl ?_
  obtain ⟨N3, eN3, hf3⟩ := ob_i hf2
  clear hf2
  refine j_mpI (pc := 15) hc ho fm_166 rfl rfl rfl rfl dX3_named_2_15 eN3 ?_
  refine j_aload_n (pc := 18) hc dX3_named_2_18 0 rfl rfl ?_
  obtain ⟨N4, eN4, hf4⟩ := ob_i hf3
  clear hf3
  refine j_callV (pc := 19) (As := []) (rest := []) (st2 := []) hc ho cw_X3_210 (c_X3_next eN4) (Or.inr ⟨rfl, _, rfl⟩) hrm ⟨by decide, by decide⟩ rfl (Nat.le_of_ble_eq_true rfl) dX3_named_2_19 rfl rfl ?_
  refine j_aload_n (pc := 22) hc dX3_named_2_22 0 rfl rfl ?_
  obtain ⟨v6, N5, ev6, hf5⟩ := ob_c hf4
  clear hf4
  refine j_callV (pc := 23) (As := []) (rest := []) (st2 := [vi v6]) hc ho cw_X3_220 (c_X3_isName ev6) (Or.inr ⟨rfl, _, rfl⟩) hrm ⟨by decide, by decide⟩ rfl (Nat.le_of_ble_eq_true rfl) dX3_named_2_23 rfl rfl ?_
  refine j_istore_n (pc := 26) (L' := [(1, vi v6), (0, vr (some a0))]) hc dX3_named_2_26 rfl hnL (by decide) rfl ?_
  refine j_aload_n (pc := 27) hc dX3_named_2_27 1 rfl rfl ?_
  refine j_mgJ (pc := 28) hc ho fm_194 rfl dX3_named_2_28 ?_
  refine j_lstore_n (pc := 31) (L' := [(2, vl (m_J N5 32)), (1, vi v6), (0, vr (some a0))]) hc dX3_named_2_31 rfl hnL (by decide) rfl ?_
  refine j_aload_n (pc := 32) hc dX3_named_2_32 2 rfl rfl ?_
  obtain ⟨N7, eN7, hf6⟩ := ob_i hf5
  clear hf5
  refine j_callV (pc := 33) (As := []) (rest := []) (st2 := []) hc ho cw_X3_210 (c_X3_next eN7) (Or.inr ⟨rfl, _, rfl⟩) hrm ⟨by decide, by decide⟩ rfl (Nat.le_of_ble_eq_true rfl) dX3_named_2_33 rfl rfl ?_
  refine j_iload_n (pc := 36) hc dX3_named_2_36 1 rfl rfl ?_
  refine j_if_eq (pc := 37) hc dX3_named_2_37 (tgt := 47) rfl (fun hh => ?_) (fun hh => ?_)
  · have hf7 := (if_pos hh).symm.trans hf6
    clear hf6
    refine j_iconst (pc := 47) (v := (-1)) hc dX3_named_2_47 rfl ?_
    cases hf7
    exact j_iret (pc := 48) hc hq hre rfl dX3_named_2_48
  · have hf8 := (if_neg hh).symm.trans hf6
    clear hf6
    refine j_aload_n (pc := 40) hc dX3_named_2_40 2 rfl rfl ?_
    refine j_mgI (pc := 41) hc ho fm_197 rfl dX3_named_2_41 ?_
    refine j_if_eq (pc := 44) hc dX3_named_2_44 (tgt := 49) rfl (fun hh => ?_) (fun hh => ?_)
    · have hf9 := (if_pos hh).symm.trans hf8
      clear hf8
      refine j_aload_n (pc := 49) hc dX3_named_2_49 2 rfl rfl ?_
      refine j_lload_n (pc := 50) hc dX3_named_2_50 0 rfl rfl ?_
      obtain ⟨v9, N8, ev9, hf10⟩ := ob_c hf9
      clear hf9
      refine j_callV (pc := 51) (As := [vl (m_J N5 32)]) (rest := []) (st2 := [vi v9]) hc ho cw_X3_288 (c_X3_tableNamed ev9) (Or.inr ⟨rfl, _, rfl⟩) hrm ⟨by decide, by decide⟩ rfl (Nat.le_of_ble_eq_true rfl) dX3_named_2_51 rfl rfl ?_
      refine j_istore (pc := 54) (L' := [(4, vi v9), (2, vl (m_J N5 32)), (1, vi v6), (0, vr (some a0))]) hc dX3_named_2_54 hnL (by decide) rfl ?_
      refine j_iload (pc := 56) hc dX3_named_2_56 0 rfl ?_
      refine j_iconst (pc := 58) (v := (-1)) hc dX3_named_2_58 rfl ?_
      refine j_icmp_ne (pc := 59) hc dX3_named_2_59 (tgt := 67) rfl (fun hh => ?_) (fun hh => ?_)
      · have hf11 := (if_neg hh).symm.trans hf10
        clear hf10
        refine j_iload (pc := 67) hc dX3_named_2_67 0 rfl ?_
        cases hf11
        exact j_iret (pc := 69) hc hq hre rfl dX3_named_2_69
      · have hf12 := (if_pos hh).symm.trans hf10
        clear hf10
        refine j_bipush (pc := 62) (v := (-2)) hc dX3_named_2_62 rfl ?_
        refine j_goto (pc := 64) hc dX3_named_2_64 (tgt := 69) rfl ?_
        cases hf12
        exact j_iret (pc := 69) hc hq hre rfl dX3_named_2_69
    · have hf13 := (if_neg hh).symm.trans hf8
      clear hf8
      refine j_iconst (pc := 47) (v := (-1)) hc dX3_named_2_47 rfl ?_
      cases hf13
      exact j_iret (pc := 48) hc hq hre rfl dX3_named_2_48
def f_X3_isTable (x1 : Int32) (M : MS) : Option (Int32 × MS) :=
  if x1 < 0 then
    some ((0), M)
  else
    if (m_I M 0) ≤ x1 then
      some ((0), M)
    else
      (g_mA M 1 x1).bind fun v1 =>
      if v1 = 0 then
        some ((0), M)
      else
        some ((1), M)
set_option maxRecDepth 100000 in
set_option maxHeartbeats 2000000 in
theorem c_X3_isTable {l : Launch} {g : PG} {a0 : Nat} {x1 : Int32} {r : Int32} {S : HS} {M M1 : MS} (hf : f_X3_isTable x1 M = some (r, M1)) : (h_nx S ≤ h_nx S ∧ h_sl S ≤ h_sl S) ∧ Ct l g yX3_isTable (ws_ yX3_isTable cX3_isTable 2 (some (.boolean))) 1 60 S (some (a0, M)) [vr (some a0), vi x1] (some (vi r)) S (some (a0, M1)) := by
  refine met_of false (by decide) (fun h => by first | rfl | cases h) rfl (Nat.le_of_ble_eq_true rfl) (fun f hl hg hc ho hnL hrm hre hct hex hq => ?_)
  subst hl
  subst hg
  unfold f_X3_isTable at hf
  refine j_iload_n (pc := 0) hc dX3_isTable_0 1 rfl rfl ?_
  refine j_if_lt (pc := 1) hc dX3_isTable_1 (tgt := 25) rfl (fun hh => ?_) (fun hh => ?_)
  · have hf1 := (if_pos hh).symm.trans hf
    clear hf
    refine j_iconst (pc := 25) (v := (0)) hc dX3_isTable_25 rfl ?_
    cases hf1
    exact j_iret (pc := 26) hc hq hre rfl dX3_isTable_26
  · have hf2 := (if_neg hh).symm.trans hf
    clear hf
    refine j_iload_n (pc := 4) hc dX3_isTable_4 1 rfl rfl ?_
    refine j_aload_n (pc := 5) hc dX3_isTable_5 0 rfl rfl ?_
    refine j_mgI (pc := 6) hc ho fm_159 rfl dX3_isTable_6 ?_
    refine j_icmp_ge (pc := 9) hc dX3_isTable_9 (tgt := 25) rfl (fun hh => ?_) (fun hh => ?_)
    · have hf3 := (if_pos hh).symm.trans hf2
      clear hf2
      refine j_iconst (pc := 25) (v := (0)) hc dX3_isTable_25 rfl ?_
      cases hf3
      exact j_iret (pc := 26) hc hq hre rfl dX3_isTable_26
    · have hf4 := (if_neg hh).symm.trans hf2
      clear hf2
      refine j_aload_n (pc := 12) hc dX3_isTable_12 0 rfl rfl ?_
      refine j_mgA (pc := 13) hc ho fm_7 rfl dX3_isTable_13 ?_
      refine j_iload_n (pc := 16) hc dX3_isTable_16 1 rfl rfl ?_
      obtain ⟨v1, ev1, hf5⟩ := ob_i hf4
      clear hf4
      refine j_mldZ (pc := 17) hc (k := 1) (by decide) rfl dX3_isTable_17 ev1 ?_
      refine j_if_eq (pc := 18) hc dX3_isTable_18 (tgt := 25) rfl (fun hh => ?_) (fun hh => ?_)
      · have hf6 := (if_pos hh).symm.trans hf5
        clear hf5
        refine j_iconst (pc := 25) (v := (0)) hc dX3_isTable_25 rfl ?_
        cases hf6
        exact j_iret (pc := 26) hc hq hre rfl dX3_isTable_26
      · have hf7 := (if_neg hh).symm.trans hf5
        clear hf5
        refine j_iconst (pc := 21) (v := (1)) hc dX3_isTable_21 rfl ?_
        refine j_goto (pc := 22) hc dX3_isTable_22 (tgt := 26) rfl ?_
        cases hf7
        exact j_iret (pc := 26) hc hq hre rfl dX3_isTable_26
theorem fm_135 : FM 135 55 := ⟨by decide, q1228⟩
theorem fm_132 : FM 132 54 := ⟨by decide, q1227⟩
def f_X3_agesBehind_n99 (k_16 : Int32 → Int32 → MS → Option MS) (x1 : Int32) (x2 : Int32) (x3 : Int32) (M : MS) : Option MS :=
  (g_mA M 55 x3).bind fun v1 =>
  (g_mA M 55 x1).bind fun v2 =>
  if v1 ≤ v2 then
    k_16 x1 (x2 + (1)) M
  else
    (g_mA M 55 x3).bind fun v3 =>
    (p_mA M 55 x1 v3).bind fun N4 =>
    k_16 x1 (x2 + (1)) N4
def f_X3_agesBehind_n87 (k_16 : Int32 → Int32 → MS → Option MS) (x1 : Int32) (x2 : Int32) (x3 : Int32) (M : MS) : Option MS :=
  (g_mA M 54 x3).bind fun v1 =>
  (p_mA M 54 x1 v1).bind fun N2 =>
  f_X3_agesBehind_n99 k_16 x1 x2 x3 N2
def f_X3_agesBehind_n16 : Nat → Int32 → Int32 → MS → Option MS
  | 0, _, _, _ => none
  | n + 1, x1, x2, M =>
    (g_mA M 7 x1).bind fun v1 =>
    if v1 ≤ x2 then
      some M
    else
      (g_mA M 8 (((3) * x1) + x2)).bind fun v2 =>
      (g_mA M 55 v2).bind fun v3 =>
      if v3 = (-1) then
        (p_mA M 54 x1 (-1)).bind fun N7 =>
        (p_mA N7 55 x1 (-1)).bind fun N8 =>
        some N8
      else
        (g_mA M 54 x1).bind fun v4 =>
        if v4 = (-1) then
          f_X3_agesBehind_n87 (fun x1 x2 M => f_X3_agesBehind_n16 n x1 x2 M) x1 x2 v2 M
        else
          (g_mA M 54 v2).bind fun v5 =>
          (g_mA M 54 x1).bind fun v6 =>
          if v6 ≤ v5 then
            f_X3_agesBehind_n99 (fun x1 x2 M => f_X3_agesBehind_n16 n x1 x2 M) x1 x2 v2 M
          else
            f_X3_agesBehind_n87 (fun x1 x2 M => f_X3_agesBehind_n16 n x1 x2 M) x1 x2 v2 M
def f_X3_agesBehind (x1 : Int32) (M : MS) : Option MS :=
  (p_mA M 54 x1 (-1)).bind fun N1 =>
  (p_mA N1 55 x1 (-1)).bind fun N2 =>
  f_X3_agesBehind_n16 fu_ x1 (0) N2
set_option maxRecDepth 100000 in
set_option maxHeartbeats 2000000 in
theorem w_X3_agesBehind_n99 {f : CfT} {a0 : Nat} {S : HS} {M1 : MS} (hc : cf_cc f = cX3_agesBehind) (ho : cf_ow f = "TableCatalogModel") (hnL : cf_nL f = 4) (hrm : cf_rm f = (1, 60)) (hre : cf_re f = none) (hct : cf_ct f = false) (hq : Qok f none S (some (a0, M1))) {k_16 : Int32 → Int32 → MS → Option MS} (hk_16 : ∀ (x1 : Int32) (x2 : Int32) (M : MS), k_16 x1 x2 M = some M1 → JJ f S (some (a0, M)) 16 [(0, vr (some a0)), (1, vi x1), (2, vi x2)] []) {x1 : Int32} {x2 : Int32} {x3 : Int32} {M : MS} (hf : f_X3_agesBehind_n99 k_16 x1 x2 x3 M = some M1) : JJ f S (some (a0, M)) 99 [(0, vr (some a0)), (1, vi x1), (2, vi x2), (3, vi x3)] [] := by
  unfold f_X3_agesBehind_n99 at hf
  refine j_aload_n (pc := 99) hc dX3_agesBehind_99 0 rfl rfl ?_
  refine j_mgA (pc := 100) hc ho fm_135 rfl dX3_agesBehind_100 ?_
  refine j_iload_n (pc := 103) hc dX3_agesBehind_103 3 rfl rfl ?_
  obtain ⟨v1, ev1, hf1⟩ := ob_i hf
  clear hf
  refine j_mldI (pc := 104) hc (k := 55) (by decide) rfl dX3_agesBehind_104 ev1 ?_
  refine j_aload_n (pc := 105) hc dX3_agesBehind_105 0 rfl rfl ?_
  refine j_mgA (pc := 106) hc ho fm_135 rfl dX3_agesBehind_106 ?_
  refine j_iload_n (pc := 109) hc dX3_agesBehind_109 1 rfl rfl ?_
  obtain ⟨v2, ev2, hf2⟩ := ob_i hf1
  clear hf1
  refine j_mldI (pc := 110) hc (k := 55) (by decide) rfl dX3_agesBehind_110 ev2 ?_
  refine j_icmp_le (pc := 111) hc dX3_agesBehind_111 (tgt := 126) rfl (fun hh => ?_) (fun hh => ?_)
  · have hf3 := (if_pos hh).symm.trans hf2
    clear hf2
    refine j_iinc (pc := 126) (L' := [(2, vi (x2 + (1))), (0, vr (some a0)), (1, vi x1), (3, vi x3)]) (v := (x2 + (1))) hc dX3_agesBehind_126 2 rfl rfl hnL (by decide) rfl ?_
    refine j_goto (pc := 129) hc dX3_agesBehind_129 (tgt := 16) rfl ?_
    refine j_loc (L' := [(0, vr (some a0)), (1, vi x1), (2, vi (x2 + (1)))]) [1, 2, 0] rfl ?_
    exact hk_16 _ _ _ hf3
  · have hf4 := (if_neg hh).symm.trans hf2
    clear hf2
    refine j_aload_n (pc := 114) hc dX3_agesBehind_114 0 rfl rfl ?_
    refine j_mgA (pc := 115) hc ho fm_135 rfl dX3_agesBehind_115 ?_
    refine j_iload_n (pc := 118) hc dX3_agesBehind_118 1 rfl rfl ?_
    refine j_aload_n (pc := 119) hc dX3_agesBehind_119 0 rfl rfl ?_
    refine j_mgA (pc := 120) hc ho fm_135 rfl dX3_agesBehind_120 ?_
    refine j_iload_n (pc := 123) hc dX3_agesBehind_123 3 rfl rfl ?_
    obtain ⟨v3, ev3, hf5⟩ := ob_i hf4
    clear hf4
    refine j_mldI (pc := 124) hc (k := 55) (by decide) rfl dX3_agesBehind_124 ev3 ?_
    obtain ⟨N4, eN4, hf6⟩ := ob_i hf5
    clear hf5
    refine j_mstI (pc := 125) hc (k := 55) (by decide) rfl dX3_agesBehind_125 eN4 ?_
    refine j_iinc (pc := 126) (L' := [(2, vi (x2 + (1))), (0, vr (some a0)), (1, vi x1), (3, vi x3)]) (v := (x2 + (1))) hc dX3_agesBehind_126 2 rfl rfl hnL (by decide) rfl ?_
    refine j_goto (pc := 129) hc dX3_agesBehind_129 (tgt := 16) rfl ?_
    refine j_loc (L' := [(0, vr (some a0)), (1, vi x1), (2, vi (x2 + (1)))]) [1, 2, 0] rfl ?_
    exact hk_16 _ _ _ hf6
set_option maxRecDepth 100000 in
set_option maxHeartbeats 2000000 in
theorem w_X3_agesBehind_n87 {f : CfT} {a0 : Nat} {S : HS} {M1 : MS} (hc : cf_cc f = cX3_agesBehind) (ho : cf_ow f = "TableCatalogModel") (hnL : cf_nL f = 4) (hrm : cf_rm f = (1, 60)) (hre : cf_re f = none) (hct : cf_ct f = false) (hq : Qok f none S (some (a0, M1))) {k_16 : Int32 → Int32 → MS → Option MS} (hk_16 : ∀ (x1 : Int32) (x2 : Int32) (M : MS), k_16 x1 x2 M = some M1 → JJ f S (some (a0, M)) 16 [(0, vr (some a0)), (1, vi x1), (2, vi x2)] []) {x1 : Int32} {x2 : Int32} {x3 : Int32} {M : MS} (hf : f_X3_agesBehind_n87 k_16 x1 x2 x3 M = some M1) : JJ f S (some (a0, M)) 87 [(0, vr (some a0)), (1, vi x1), (2, vi x2), (3, vi x3)] [] := by
  unfold f_X3_agesBehind_n87 at hf
  refine j_aload_n (pc := 87) hc dX3_agesBehind_87 0 rfl rfl ?_
  refine j_mgA (pc := 88) hc ho fm_132 rfl dX3_agesBehind_88 ?_
  refine j_iload_n (pc := 91) hc dX3_agesBehind_91 1 rfl rfl ?_
  refine j_aload_n (pc := 92) hc dX3_agesBehind_92 0 rfl rfl ?_
  refine j_mgA (pc := 93) hc ho fm_132 rfl dX3_agesBehind_93 ?_
  refine j_iload_n (pc := 96) hc dX3_agesBehind_96 3 rfl rfl ?_
  obtain ⟨v1, ev1, hf1⟩ := ob_i hf
  clear hf
  refine j_mldI (pc := 97) hc (k := 54) (by decide) rfl dX3_agesBehind_97 ev1 ?_
  obtain ⟨N2, eN2, hf2⟩ := ob_i hf1
  clear hf1
  refine j_mstI (pc := 98) hc (k := 54) (by decide) rfl dX3_agesBehind_98 eN2 ?_
  exact w_X3_agesBehind_n99 hc ho hnL hrm hre hct hq hk_16 hf2
set_option maxRecDepth 100000 in
set_option maxHeartbeats 2000000 in
theorem w_X3_agesBehind_n16 {f : CfT} {a0 : Nat} {S : HS} {M1 : MS} (hc : cf_cc f = cX3_agesBehind) (ho : cf_ow f = "TableCatalogModel") (hnL : cf_nL f = 4) (hrm : cf_rm f = (1, 60)) (hre : cf_re f = none) (hct : cf_ct f = false) (hq : Qok f none S (some (a0, M1))) : ∀ (n : Nat) (x1 : Int32) (x2 : Int32) (M : MS), f_X3_agesBehind_n16 n x1 x2 M = some M1 → JJ f S (some (a0, M)) 16 [(0, vr (some a0)), (1, vi x1), (2, vi x2)] [] := by
  intro n
  induction n with
  | zero =>
    intro x1 x2 M hf
    have hf : (none : Option MS) = some M1 := hf
    cases hf
  | succ n ih =>
    intro x1 x2 M hf
    unfold f_X3_agesBehind_n16 at hf
    have hk_16 := ih
    refine j_iload_n (pc := 16) hc dX3_agesBehind_16 2 rfl rfl ?_
    refine j_aload_n (pc := 17) hc dX3_agesBehind_17 0 rfl rfl ?_
    refine j_mgA (pc := 18) hc ho fm_30 rfl dX3_agesBehind_18 ?_
    refine j_iload_n (pc := 21) hc dX3_agesBehind_21 1 rfl rfl ?_
    obtain ⟨v1, ev1, hf1⟩ := ob_i hf
    clear hf
    refine j_mldI (pc := 22) hc (k := 7) (by decide) rfl dX3_agesBehind_22 ev1 ?_
    refine j_icmp_ge (pc := 23) hc dX3_agesBehind_23 (tgt := 132) rfl (fun hh => ?_) (fun hh => ?_)
    · have hf2 := (if_pos hh).symm.trans hf1
      clear hf1
      cases hf2
      exact j_vret (pc := 132) hc hq hre dX3_agesBehind_132
    · have hf3 := (if_neg hh).symm.trans hf1
      clear hf1
      refine j_aload_n (pc := 26) hc dX3_agesBehind_26 0 rfl rfl ?_
      refine j_mgA (pc := 27) hc ho fm_33 rfl dX3_agesBehind_27 ?_
      refine j_iconst (pc := 30) (v := (3)) hc dX3_agesBehind_30 rfl ?_
      refine j_iload_n (pc := 31) hc dX3_agesBehind_31 1 rfl rfl ?_
      refine j_imul (pc := 32) hc dX3_agesBehind_32 ?_
      refine j_iload_n (pc := 33) hc dX3_agesBehind_33 2 rfl rfl ?_
      refine j_iadd (pc := 34) hc dX3_agesBehind_34 ?_
      obtain ⟨v2, ev2, hf4⟩ := ob_i hf3
      clear hf3
      refine j_mldI (pc := 35) hc (k := 8) (by decide) rfl dX3_agesBehind_35 ev2 ?_
      refine j_istore_n (pc := 36) (L' := [(3, vi v2), (0, vr (some a0)), (1, vi x1), (2, vi x2)]) hc dX3_agesBehind_36 rfl hnL (by decide) rfl ?_
      refine j_aload_n (pc := 37) hc dX3_agesBehind_37 1 rfl rfl ?_
      refine j_mgA (pc := 38) hc ho fm_135 rfl dX3_agesBehind_38 ?_
      refine j_iload_n (pc := 41) hc dX3_agesBehind_41 0 rfl rfl ?_
      obtain ⟨v3, ev3, hf5⟩ := ob_i hf4
      clear hf4
      refine j_mldI (pc := 42) hc (k := 55) (by decide) rfl dX3_agesBehind_42 ev3 ?_
      refine j_iconst (pc := 43) (v := (-1)) hc dX3_agesBehind_43 rfl ?_
      refine j_icmp_ne (pc := 44) hc dX3_agesBehind_44 (tgt := 62) rfl (fun hh => ?_) (fun hh => ?_)
      · have hf6 := (if_neg hh).symm.trans hf5
        clear hf5
        refine j_aload_n (pc := 62) hc dX3_agesBehind_62 1 rfl rfl ?_
        refine j_mgA (pc := 63) hc ho fm_132 rfl dX3_agesBehind_63 ?_
        refine j_iload_n (pc := 66) hc dX3_agesBehind_66 2 rfl rfl ?_
        obtain ⟨v4, ev4, hf7⟩ := ob_i hf6
        clear hf6
        refine j_mldI (pc := 67) hc (k := 54) (by decide) rfl dX3_agesBehind_67 ev4 ?_
        refine j_iconst (pc := 68) (v := (-1)) hc dX3_agesBehind_68 rfl ?_
        refine j_icmp_eq (pc := 69) hc dX3_agesBehind_69 (tgt := 87) rfl (fun hh => ?_) (fun hh => ?_)
        · have hf8 := (if_pos hh).symm.trans hf7
          clear hf7
          refine j_loc (L' := [(0, vr (some a0)), (1, vi x1), (2, vi x2), (3, vi v2)]) [1, 2, 3, 0] rfl ?_
          exact w_X3_agesBehind_n87 hc ho hnL hrm hre hct hq hk_16 hf8
        · have hf9 := (if_neg hh).symm.trans hf7
          clear hf7
          refine j_aload_n (pc := 72) hc dX3_agesBehind_72 1 rfl rfl ?_
          refine j_mgA (pc := 73) hc ho fm_132 rfl dX3_agesBehind_73 ?_
          refine j_iload_n (pc := 76) hc dX3_agesBehind_76 0 rfl rfl ?_
          obtain ⟨v5, ev5, hf10⟩ := ob_i hf9
          clear hf9
          refine j_mldI (pc := 77) hc (k := 54) (by decide) rfl dX3_agesBehind_77 ev5 ?_
          refine j_aload_n (pc := 78) hc dX3_agesBehind_78 1 rfl rfl ?_
          refine j_mgA (pc := 79) hc ho fm_132 rfl dX3_agesBehind_79 ?_
          refine j_iload_n (pc := 82) hc dX3_agesBehind_82 2 rfl rfl ?_
          obtain ⟨v6, ev6, hf11⟩ := ob_i hf10
          clear hf10
          refine j_mldI (pc := 83) hc (k := 54) (by decide) rfl dX3_agesBehind_83 ev6 ?_
          refine j_icmp_ge (pc := 84) hc dX3_agesBehind_84 (tgt := 99) rfl (fun hh => ?_) (fun hh => ?_)
          · have hf12 := (if_pos hh).symm.trans hf11
            clear hf11
            refine j_loc (L' := [(0, vr (some a0)), (1, vi x1), (2, vi x2), (3, vi v2)]) [1, 2, 3, 0] rfl ?_
            exact w_X3_agesBehind_n99 hc ho hnL hrm hre hct hq hk_16 hf12
          · have hf13 := (if_neg hh).symm.trans hf11
            clear hf11
            refine j_loc (L' := [(0, vr (some a0)), (1, vi x1), (2, vi x2), (3, vi v2)]) [1, 2, 3, 0] rfl ?_
            exact w_X3_agesBehind_n87 hc ho hnL hrm hre hct hq hk_16 hf13
      · have hf14 := (if_pos hh).symm.trans hf5
        clear hf5
        refine j_aload_n (pc := 47) hc dX3_agesBehind_47 1 rfl rfl ?_
        refine j_mgA (pc := 48) hc ho fm_132 rfl dX3_agesBehind_48 ?_
        refine j_iload_n (pc := 51) hc dX3_agesBehind_51 2 rfl rfl ?_
        refine j_iconst (pc := 52) (v := (-1)) hc dX3_agesBehind_52 rfl ?_
        obtain ⟨N7, eN7, hf15⟩ := ob_i hf14
        clear hf14
        refine j_mstI (pc := 53) hc (k := 54) (by decide) rfl dX3_agesBehind_53 eN7 ?_
        refine j_aload_n (pc := 54) hc dX3_agesBehind_54 1 rfl rfl ?_
        refine j_mgA (pc := 55) hc ho fm_135 rfl dX3_agesBehind_55 ?_
        refine j_iload_n (pc := 58) hc dX3_agesBehind_58 2 rfl rfl ?_
        refine j_iconst (pc := 59) (v := (-1)) hc dX3_agesBehind_59 rfl ?_
        obtain ⟨N8, eN8, hf16⟩ := ob_i hf15
        clear hf15
        refine j_mstI (pc := 60) hc (k := 55) (by decide) rfl dX3_agesBehind_60 eN8 ?_
        cases hf16
        exact j_vret (pc := 61) hc hq hre dX3_agesBehind_61
set_option maxRecDepth 100000 in
set_option maxHeartbeats 2000000 in
theorem c_X3_agesBehind {l : Launch} {g : PG} {a0 : Nat} {x1 : Int32} {S : HS} {M M1 : MS} (hf : f_X3_agesBehind x1 M = some M1) : (h_nx S ≤ h_nx S ∧ h_sl S ≤ h_sl S) ∧ Ct l g yX3_agesBehind (ws_ yX3_agesBehind cX3_agesBehind 4 none) 1 60 S (some (a0, M)) [vr (some a0), vi x1] none S (some (a0, M1)) := by
  refine met_of false (by decide) (fun h => by first | rfl | cases h) rfl (Nat.le_of_ble_eq_true rfl) (fun f hl hg hc ho hnL hrm hre hct hex hq => ?_)
  subst hl
  subst hg
  unfold f_X3_agesBehind at hf
  refine j_aload_n (pc := 0) hc dX3_agesBehind_0 0 rfl rfl ?_
  refine j_mgA (pc := 1) hc ho fm_132 rfl dX3_agesBehind_1 ?_
  refine j_iload_n (pc := 4) hc dX3_agesBehind_4 1 rfl rfl ?_
  refine j_iconst (pc := 5) (v := (-1)) hc dX3_agesBehind_5 rfl ?_
  obtain ⟨N1, eN1, hf1⟩ := ob_i hf
  clear hf
  refine j_mstI (pc := 6) hc (k := 54) (by decide) rfl dX3_agesBehind_6 eN1 ?_
  refine j_aload_n (pc := 7) hc dX3_agesBehind_7 0 rfl rfl ?_
  refine j_mgA (pc := 8) hc ho fm_135 rfl dX3_agesBehind_8 ?_
  refine j_iload_n (pc := 11) hc dX3_agesBehind_11 1 rfl rfl ?_
  refine j_iconst (pc := 12) (v := (-1)) hc dX3_agesBehind_12 rfl ?_
  obtain ⟨N2, eN2, hf2⟩ := ob_i hf1
  clear hf1
  refine j_mstI (pc := 13) hc (k := 55) (by decide) rfl dX3_agesBehind_13 eN2 ?_
  refine j_iconst (pc := 14) (v := (0)) hc dX3_agesBehind_14 rfl ?_
  refine j_istore_n (pc := 15) (L' := [(2, vi (0)), (0, vr (some a0)), (1, vi x1)]) hc dX3_agesBehind_15 rfl hnL (by decide) rfl ?_
  refine j_loc (L' := [(0, vr (some a0)), (1, vi x1), (2, vi (0))]) [1, 2, 0] rfl ?_
  exact w_X3_agesBehind_n16 hc ho hnL hrm hre hct hq fu_ _ _ _ hf2
theorem cw_X3_310 : CV "TableCatalogModel" 310 RX3 yX3_agesBehind cX3_agesBehind 4 none 1 := ⟨⟨q1516, q1518, qs66, q90, q1519⟩, rfl, by decide, by decide, by decide +kernel⟩
def f_X3_ages_n2 : Nat → Int32 → MS → Option MS
  | 0, _, _ => none
  | n + 1, x1, M =>
    if (m_I M 0) ≤ x1 then
      some M
    else
      (g_mA M 11 x1).bind fun v1 =>
      (p_mA M 54 x1 v1).bind fun N2 =>
      (g_mA N2 12 x1).bind fun v3 =>
      (p_mA N2 55 x1 v3).bind fun N4 =>
      (g_mA N4 3 x1).bind fun v5 =>
      if v5 = (1) then
        (f_X3_agesBehind x1 N4).bind fun N6 =>
        (fun x1 M => f_X3_ages_n2 n x1 M) (x1 + (1)) N6
      else
        (fun x1 M => f_X3_ages_n2 n x1 M) (x1 + (1)) N4
def f_X3_ages (M : MS) : Option MS :=
  f_X3_ages_n2 fu_ (0) M
set_option maxRecDepth 100000 in
set_option maxHeartbeats 2000000 in
theorem w_X3_ages_n2 {f : CfT} {a0 : Nat} {S : HS} {M1 : MS} (hc : cf_cc f = cX3_ages) (ho : cf_ow f = "TableCatalogModel") (hnL : cf_nL f = 2) (hrm : cf_rm f = (2, 83)) (hre : cf_re f = none) (hct : cf_ct f = false) (hq : Qok f none S (some (a0, M1))) : ∀ (n : Nat) (x1 : Int32) (M : MS), f_X3_ages_n2 n x1 M = some M1 → JJ f S (some (a0, M)) 2 [(0, vr (some a0)), (1, vi x1)] [] := by
  intro n
  induction n with
  | zero =>
    intro x1 M hf
    have hf : (none : Option MS) = some M1 := hf
    cases hf
  | succ n ih =>
    intro x1 M hf
    unfold f_X3_ages_n2 at hf
    have hk_2 := ih
    refine j_iload_n (pc := 2) hc dX3_ages_2 1 rfl rfl ?_
    refine j_aload_n (pc := 3) hc dX3_ages_3 0 rfl rfl ?_
    refine j_mgI (pc := 4) hc ho fm_159 rfl dX3_ages_4 ?_
    refine j_icmp_ge (pc := 7) hc dX3_ages_7 (tgt := 55) rfl (fun hh => ?_) (fun hh => ?_)
    · have hf1 := (if_pos hh).symm.trans hf
      clear hf
      cases hf1
      exact j_vret (pc := 55) hc hq hre dX3_ages_55
    · have hf2 := (if_neg hh).symm.trans hf
      clear hf
      refine j_aload_n (pc := 10) hc dX3_ages_10 0 rfl rfl ?_
      refine j_mgA (pc := 11) hc ho fm_132 rfl dX3_ages_11 ?_
      refine j_iload_n (pc := 14) hc dX3_ages_14 1 rfl rfl ?_
      refine j_aload_n (pc := 15) hc dX3_ages_15 0 rfl rfl ?_
      refine j_mgA (pc := 16) hc ho fm_42 rfl dX3_ages_16 ?_
      refine j_iload_n (pc := 19) hc dX3_ages_19 1 rfl rfl ?_
      obtain ⟨v1, ev1, hf3⟩ := ob_i hf2
      clear hf2
      refine j_mldI (pc := 20) hc (k := 11) (by decide) rfl dX3_ages_20 ev1 ?_
      obtain ⟨N2, eN2, hf4⟩ := ob_i hf3
      clear hf3
      refine j_mstI (pc := 21) hc (k := 54) (by decide) rfl dX3_ages_21 eN2 ?_
      refine j_aload_n (pc := 22) hc dX3_ages_22 0 rfl rfl ?_
      refine j_mgA (pc := 23) hc ho fm_135 rfl dX3_ages_23 ?_
      refine j_iload_n (pc := 26) hc dX3_ages_26 1 rfl rfl ?_
      refine j_aload_n (pc := 27) hc dX3_ages_27 0 rfl rfl ?_
      refine j_mgA (pc := 28) hc ho fm_45 rfl dX3_ages_28 ?_
      refine j_iload_n (pc := 31) hc dX3_ages_31 1 rfl rfl ?_
      obtain ⟨v3, ev3, hf5⟩ := ob_i hf4
      clear hf4
      refine j_mldI (pc := 32) hc (k := 12) (by decide) rfl dX3_ages_32 ev3 ?_
      obtain ⟨N4, eN4, hf6⟩ := ob_i hf5
      clear hf5
      refine j_mstI (pc := 33) hc (k := 55) (by decide) rfl dX3_ages_33 eN4 ?_
      refine j_aload_n (pc := 34) hc dX3_ages_34 0 rfl rfl ?_
      refine j_mgA (pc := 35) hc ho fm_17 rfl dX3_ages_35 ?_
      refine j_iload_n (pc := 38) hc dX3_ages_38 1 rfl rfl ?_
      obtain ⟨v5, ev5, hf7⟩ := ob_i hf6
      clear hf6
      refine j_mldI (pc := 39) hc (k := 3) (by decide) rfl dX3_ages_39 ev5 ?_
      refine j_iconst (pc := 40) (v := (1)) hc dX3_ages_40 rfl ?_
      refine j_icmp_ne (pc := 41) hc dX3_ages_41 (tgt := 49) rfl (fun hh => ?_) (fun hh => ?_)
      · have hf8 := (if_neg hh).symm.trans hf7
        clear hf7
        refine j_iinc (pc := 49) (L' := [(1, vi (x1 + (1))), (0, vr (some a0))]) (v := (x1 + (1))) hc dX3_ages_49 1 rfl rfl hnL (by decide) rfl ?_
        refine j_goto (pc := 52) hc dX3_ages_52 (tgt := 2) rfl ?_
        refine j_loc (L' := [(0, vr (some a0)), (1, vi (x1 + (1)))]) [1, 0] rfl ?_
        exact hk_2 _ _ hf8
      · have hf9 := (if_pos hh).symm.trans hf7
        clear hf7
        refine j_aload_n (pc := 44) hc dX3_ages_44 0 rfl rfl ?_
        refine j_iload_n (pc := 45) hc dX3_ages_45 1 rfl rfl ?_
        obtain ⟨N6, eN6, hf10⟩ := ob_i hf9
        clear hf9
        refine j_callV (pc := 46) (As := [vi x1]) (rest := []) (st2 := []) hc ho cw_X3_310 (c_X3_agesBehind eN6) (Or.inr ⟨rfl, _, rfl⟩) hrm ⟨by decide, by decide⟩ rfl (Nat.le_of_ble_eq_true rfl) dX3_ages_46 rfl rfl ?_
        refine j_iinc (pc := 49) (L' := [(1, vi (x1 + (1))), (0, vr (some a0))]) (v := (x1 + (1))) hc dX3_ages_49 1 rfl rfl hnL (by decide) rfl ?_
        refine j_goto (pc := 52) hc dX3_ages_52 (tgt := 2) rfl ?_
        refine j_loc (L' := [(0, vr (some a0)), (1, vi (x1 + (1)))]) [1, 0] rfl ?_
        exact hk_2 _ _ hf10
set_option maxRecDepth 100000 in
set_option maxHeartbeats 2000000 in
theorem c_X3_ages {l : Launch} {g : PG} {a0 : Nat} {S : HS} {M M1 : MS} (hf : f_X3_ages M = some M1) : (h_nx S ≤ h_nx S ∧ h_sl S ≤ h_sl S) ∧ Ct l g yX3_ages (ws_ yX3_ages cX3_ages 2 none) 2 83 S (some (a0, M)) [vr (some a0)] none S (some (a0, M1)) := by
  refine met_of false (by decide) (fun h => by first | rfl | cases h) rfl (Nat.le_of_ble_eq_true rfl) (fun f hl hg hc ho hnL hrm hre hct hex hq => ?_)
  subst hl
  subst hg
  unfold f_X3_ages at hf
  refine j_iconst (pc := 0) (v := (0)) hc dX3_ages_0 rfl ?_
  refine j_istore_n (pc := 1) (L' := [(1, vi (0)), (0, vr (some a0))]) hc dX3_ages_1 rfl hnL (by decide) rfl ?_
  refine j_loc (L' := [(0, vr (some a0)), (1, vi (0))]) [1, 0] rfl ?_
  exact w_X3_ages_n2 hc ho hnL hrm hre hct hq fu_ _ _ hf
def f_X3_ownerOf_n33 (x2 : Int32) (M : MS) : Option (Int32 × MS) :=
  (g_mA M 9 x2).bind fun v1 =>
  some (v1, M)
def f_X3_ownerOf_n2 : Nat → Int32 → MS → Option (Int32 × MS)
  | 0, _, _ => none
  | n + 1, x2, M =>
    (g_mA M 9 x2).bind fun v1 =>
    if v1 = (-1) then
      (g_mA M 7 x2).bind fun v2 =>
      if v2 ≤ 0 then
        f_X3_ownerOf_n33 x2 M
      else
        (g_mA M 8 ((3) * x2)).bind fun v3 =>
        (fun x2 M => f_X3_ownerOf_n2 n x2 M) v3 M
    else
      f_X3_ownerOf_n33 x2 M
def f_X3_ownerOf (x1 : Int32) (M : MS) : Option (Int32 × MS) :=
  f_X3_ownerOf_n2 fu_ x1 M
set_option maxRecDepth 100000 in
set_option maxHeartbeats 2000000 in
theorem w_X3_ownerOf_n33 {f : CfT} {a0 : Nat} {r : Int32} {S : HS} {M1 : MS} (hc : cf_cc f = cX3_ownerOf) (ho : cf_ow f = "TableCatalogModel") (hnL : cf_nL f = 3) (hrm : cf_rm f = (1, 60)) (hre : cf_re f = (some (.int))) (hct : cf_ct f = false) (hq : Qok f (some (vi r)) S (some (a0, M1))) {x2 : Int32} {M : MS} (hf : f_X3_ownerOf_n33 x2 M = some (r, M1)) : JJ f S (some (a0, M)) 33 [(0, vr (some a0)), (2, vi x2)] [] := by
  unfold f_X3_ownerOf_n33 at hf
  refine j_aload_n (pc := 33) hc dX3_ownerOf_33 0 rfl rfl ?_
  refine j_mgA (pc := 34) hc ho fm_36 rfl dX3_ownerOf_34 ?_
  refine j_iload_n (pc := 37) hc dX3_ownerOf_37 1 rfl rfl ?_
  obtain ⟨v1, ev1, hf1⟩ := ob_i hf
  clear hf
  refine j_mldI (pc := 38) hc (k := 9) (by decide) rfl dX3_ownerOf_38 ev1 ?_
  cases hf1
  exact j_iret (pc := 39) hc hq hre rfl dX3_ownerOf_39
set_option maxRecDepth 100000 in
set_option maxHeartbeats 2000000 in
theorem w_X3_ownerOf_n2 {f : CfT} {a0 : Nat} {r : Int32} {S : HS} {M1 : MS} (hc : cf_cc f = cX3_ownerOf) (ho : cf_ow f = "TableCatalogModel") (hnL : cf_nL f = 3) (hrm : cf_rm f = (1, 60)) (hre : cf_re f = (some (.int))) (hct : cf_ct f = false) (hq : Qok f (some (vi r)) S (some (a0, M1))) : ∀ (n : Nat) (x2 : Int32) (M : MS), f_X3_ownerOf_n2 n x2 M = some (r, M1) → JJ f S (some (a0, M)) 2 [(0, vr (some a0)), (2, vi x2)] [] := by
  intro n
  induction n with
  | zero =>
    intro x2 M hf
    have hf : (none : Option (Int32 × MS)) = some (r, M1) := hf
    cases hf
  | succ n ih =>
    intro x2 M hf
    unfold f_X3_ownerOf_n2 at hf
    have hk_2 := ih
    refine j_aload_n (pc := 2) hc dX3_ownerOf_2 0 rfl rfl ?_
    refine j_mgA (pc := 3) hc ho fm_36 rfl dX3_ownerOf_3 ?_
    refine j_iload_n (pc := 6) hc dX3_ownerOf_6 1 rfl rfl ?_
    obtain ⟨v1, ev1, hf1⟩ := ob_i hf
    clear hf
    refine j_mldI (pc := 7) hc (k := 9) (by decide) rfl dX3_ownerOf_7 ev1 ?_
    refine j_iconst (pc := 8) (v := (-1)) hc dX3_ownerOf_8 rfl ?_
    refine j_icmp_ne (pc := 9) hc dX3_ownerOf_9 (tgt := 33) rfl (fun hh => ?_) (fun hh => ?_)
    · have hf2 := (if_neg hh).symm.trans hf1
      clear hf1
      exact w_X3_ownerOf_n33 hc ho hnL hrm hre hct hq hf2
    · have hf3 := (if_pos hh).symm.trans hf1
      clear hf1
      refine j_aload_n (pc := 12) hc dX3_ownerOf_12 0 rfl rfl ?_
      refine j_mgA (pc := 13) hc ho fm_30 rfl dX3_ownerOf_13 ?_
      refine j_iload_n (pc := 16) hc dX3_ownerOf_16 1 rfl rfl ?_
      obtain ⟨v2, ev2, hf4⟩ := ob_i hf3
      clear hf3
      refine j_mldI (pc := 17) hc (k := 7) (by decide) rfl dX3_ownerOf_17 ev2 ?_
      refine j_if_le (pc := 18) hc dX3_ownerOf_18 (tgt := 33) rfl (fun hh => ?_) (fun hh => ?_)
      · have hf5 := (if_pos hh).symm.trans hf4
        clear hf4
        exact w_X3_ownerOf_n33 hc ho hnL hrm hre hct hq hf5
      · have hf6 := (if_neg hh).symm.trans hf4
        clear hf4
        refine j_aload_n (pc := 21) hc dX3_ownerOf_21 0 rfl rfl ?_
        refine j_mgA (pc := 22) hc ho fm_33 rfl dX3_ownerOf_22 ?_
        refine j_iconst (pc := 25) (v := (3)) hc dX3_ownerOf_25 rfl ?_
        refine j_iload_n (pc := 26) hc dX3_ownerOf_26 1 rfl rfl ?_
        refine j_imul (pc := 27) hc dX3_ownerOf_27 ?_
        obtain ⟨v3, ev3, hf7⟩ := ob_i hf6
        clear hf6
        refine j_mldI (pc := 28) hc (k := 8) (by decide) rfl dX3_ownerOf_28 ev3 ?_
        refine j_istore_n (pc := 29) (L' := [(2, vi v3), (0, vr (some a0))]) hc dX3_ownerOf_29 rfl hnL (by decide) rfl ?_
        refine j_goto (pc := 30) hc dX3_ownerOf_30 (tgt := 2) rfl ?_
        refine j_loc (L' := [(0, vr (some a0)), (2, vi v3)]) [1, 0] rfl ?_
        exact hk_2 _ _ hf7
set_option maxRecDepth 100000 in
set_option maxHeartbeats 2000000 in
theorem c_X3_ownerOf {l : Launch} {g : PG} {a0 : Nat} {x1 : Int32} {r : Int32} {S : HS} {M M1 : MS} (hf : f_X3_ownerOf x1 M = some (r, M1)) : (h_nx S ≤ h_nx S ∧ h_sl S ≤ h_sl S) ∧ Ct l g yX3_ownerOf (ws_ yX3_ownerOf cX3_ownerOf 3 (some (.int))) 1 60 S (some (a0, M)) [vr (some a0), vi x1] (some (vi r)) S (some (a0, M1)) := by
  refine met_of false (by decide) (fun h => by first | rfl | cases h) rfl (Nat.le_of_ble_eq_true rfl) (fun f hl hg hc ho hnL hrm hre hct hex hq => ?_)
  subst hl
  subst hg
  unfold f_X3_ownerOf at hf
  refine j_iload_n (pc := 0) hc dX3_ownerOf_0 1 rfl rfl ?_
  refine j_istore_n (pc := 1) (L' := [(2, vi x1), (0, vr (some a0)), (1, vi x1)]) hc dX3_ownerOf_1 rfl hnL (by decide) rfl ?_
  refine j_loc (L' := [(0, vr (some a0)), (2, vi x1)]) [1, 0] rfl ?_
  exact w_X3_ownerOf_n2 hc ho hnL hrm hre hct hq fu_ _ _ hf
theorem cw_X3_162 : CV "TableCatalogModel" 162 RX3 yX3_isTable cX3_isTable 2 (some (.boolean)) 1 := ⟨⟨q1508, q1510, qs64, q90, q1511⟩, rfl, by decide, by decide, by decide +kernel⟩
theorem cw_X3_313 : CV "TableCatalogModel" 313 RX3 yX3_ages cX3_ages 2 none 0 := ⟨⟨q1512, q1514, qs65, q90, q1515⟩, rfl, by decide, by decide, by decide +kernel⟩
theorem cw_X3_316 : CV "TableCatalogModel" 316 RX3 yX3_ownerOf cX3_ownerOf 3 (some (.int)) 1 := ⟨⟨q1520, q1522, qs67, q90, q1523⟩, rfl, by decide, by decide, by decide +kernel⟩
def f_X3_table_n97 (x1 : Int32) (x2 : Int32) (M : MS) : Option (Int32 × MS) :=
  (g_mA M 7 x1).bind fun v1 =>
  if v1 ≤ (x2 - (3)) then
    some ((-1), M)
  else
    (g_mA M 8 ((((3) * x1) + x2) - (3))).bind fun v2 =>
    some (v2, M)
def f_X3_table (x1 : Int32) (x2 : Int32) (M : MS) : Option (Int32 × MS) :=
  o_bd (f_X3_isTable x1 M) fun v2 N1 =>
  if v2 = 0 then
    some ((-1), N1)
  else
    if x2 < 0 then
      some ((-1), N1)
    else
      if x2 ≤ (9) then
        (f_X3_ages N1).bind fun N3 =>
        if x2 = (0) then
          (g_mA N3 3 x1).bind fun v4 =>
          some (v4, N3)
        else
          if x2 = (1) then
            (g_mA N3 4 x1).bind fun v5 =>
            some (v5, N3)
          else
            if x2 = (2) then
              (g_mA N3 7 x1).bind fun v6 =>
              some (v6, N3)
            else
              if x2 = (3) then
                f_X3_table_n97 x1 x2 N3
              else
                if x2 = (4) then
                  f_X3_table_n97 x1 x2 N3
                else
                  if x2 = (5) then
                    f_X3_table_n97 x1 x2 N3
                  else
                    if x2 = (6) then
                      (g_mA N3 54 x1).bind fun v7 =>
                      some (v7, N3)
                    else
                      if x2 = (7) then
                        (g_mA N3 55 x1).bind fun v8 =>
                        some (v8, N3)
                      else
                        if x2 = (8) then
                          o_bd (f_X3_ownerOf x1 N3) fun v10 N9 =>
                          some (v10, N9)
                        else
                          (g_mA N3 10 x1).bind fun v11 =>
                          some (v11, N3)
      else
        some ((-1), N1)
set_option maxRecDepth 100000 in
set_option maxHeartbeats 2000000 in
theorem w_X3_table_n97 {f : CfT} {a0 : Nat} {r : Int32} {S : HS} {M1 : MS} (hc : cf_cc f = cX3_table) (ho : cf_ow f = "TableCatalogModel") (hnL : cf_nL f = 3) (hrm : cf_rm f = (3, 104)) (hre : cf_re f = (some (.int))) (hct : cf_ct f = false) (hq : Qok f (some (vi r)) S (some (a0, M1))) {x1 : Int32} {x2 : Int32} {M : MS} (hf : f_X3_table_n97 x1 x2 M = some (r, M1)) : JJ f S (some (a0, M)) 97 [(0, vr (some a0)), (1, vi x1), (2, vi x2)] [] := by
  unfold f_X3_table_n97 at hf
  refine j_iload_n (pc := 97) hc dX3_table_97 2 rfl rfl ?_
  refine j_iconst (pc := 98) (v := (3)) hc dX3_table_98 rfl ?_
  refine j_isub (pc := 99) hc dX3_table_99 ?_
  refine j_aload_n (pc := 100) hc dX3_table_100 0 rfl rfl ?_
  refine j_mgA (pc := 101) hc ho fm_30 rfl dX3_table_101 ?_
  refine j_iload_n (pc := 104) hc dX3_table_104 1 rfl rfl ?_
  obtain ⟨v1, ev1, hf1⟩ := ob_i hf
  clear hf
  refine j_mldI (pc := 105) hc (k := 7) (by decide) rfl dX3_table_105 ev1 ?_
  refine j_icmp_ge (pc := 106) hc dX3_table_106 (tgt := 124) rfl (fun hh => ?_) (fun hh => ?_)
  · have hf2 := (if_pos hh).symm.trans hf1
    clear hf1
    refine j_iconst (pc := 124) (v := (-1)) hc dX3_table_124 rfl ?_
    cases hf2
    exact j_iret (pc := 125) hc hq hre rfl dX3_table_125
  · have hf3 := (if_neg hh).symm.trans hf1
    clear hf1
    refine j_aload_n (pc := 109) hc dX3_table_109 0 rfl rfl ?_
    refine j_mgA (pc := 110) hc ho fm_33 rfl dX3_table_110 ?_
    refine j_iconst (pc := 113) (v := (3)) hc dX3_table_113 rfl ?_
    refine j_iload_n (pc := 114) hc dX3_table_114 1 rfl rfl ?_
    refine j_imul (pc := 115) hc dX3_table_115 ?_
    refine j_iload_n (pc := 116) hc dX3_table_116 2 rfl rfl ?_
    refine j_iadd (pc := 117) hc dX3_table_117 ?_
    refine j_iconst (pc := 118) (v := (3)) hc dX3_table_118 rfl ?_
    refine j_isub (pc := 119) hc dX3_table_119 ?_
    obtain ⟨v2, ev2, hf4⟩ := ob_i hf3
    clear hf3
    refine j_mldI (pc := 120) hc (k := 8) (by decide) rfl dX3_table_120 ev2 ?_
    refine j_goto (pc := 121) hc dX3_table_121 (tgt := 125) rfl ?_
    cases hf4
    exact j_iret (pc := 125) hc hq hre rfl dX3_table_125
set_option maxRecDepth 100000 in
set_option maxHeartbeats 2000000 in
theorem c_X3_table {l : Launch} {g : PG} {a0 : Nat} {x1 : Int32} {x2 : Int32} {r : Int32} {S : HS} {M M1 : MS} (hf : f_X3_table x1 x2 M = some (r, M1)) : (h_nx S ≤ h_nx S ∧ h_sl S ≤ h_sl S) ∧ Ct l g yX3_table (ws_ yX3_table cX3_table 3 (some (.int))) 3 104 S (some (a0, M)) [vr (some a0), vi x1, vi x2] (some (vi r)) S (some (a0, M1)) := by
  refine met_of false (by decide) (fun h => by first | rfl | cases h) rfl (Nat.le_of_ble_eq_true rfl) (fun f hl hg hc ho hnL hrm hre hct hex hq => ?_)
  subst hl
  subst hg
  unfold f_X3_table at hf
  refine j_aload_n (pc := 0) hc dX3_table_0 0 rfl rfl ?_
  refine j_iload_n (pc := 1) hc dX3_table_1 1 rfl rfl ?_
  obtain ⟨v2, N1, ev2, hf1⟩ := ob_c hf
  clear hf
  refine j_callV (pc := 2) (As := [vi x1]) (rest := []) (st2 := [vi v2]) hc ho cw_X3_162 (c_X3_isTable ev2) (Or.inr ⟨rfl, _, rfl⟩) hrm ⟨by decide, by decide⟩ rfl (Nat.le_of_ble_eq_true rfl) dX3_table_2 rfl rfl ?_
  refine j_if_eq (pc := 5) hc dX3_table_5 (tgt := 18) rfl (fun hh => ?_) (fun hh => ?_)
  · have hf2 := (if_pos hh).symm.trans hf1
    clear hf1
    refine j_iconst (pc := 18) (v := (-1)) hc dX3_table_18 rfl ?_
    cases hf2
    exact j_iret (pc := 19) hc hq hre rfl dX3_table_19
  · have hf3 := (if_neg hh).symm.trans hf1
    clear hf1
    refine j_iload_n (pc := 8) hc dX3_table_8 2 rfl rfl ?_
    refine j_if_lt (pc := 9) hc dX3_table_9 (tgt := 18) rfl (fun hh => ?_) (fun hh => ?_)
    · have hf4 := (if_pos hh).symm.trans hf3
      clear hf3
      refine j_iconst (pc := 18) (v := (-1)) hc dX3_table_18 rfl ?_
      cases hf4
      exact j_iret (pc := 19) hc hq hre rfl dX3_table_19
    · have hf5 := (if_neg hh).symm.trans hf3
      clear hf3
      refine j_iload_n (pc := 12) hc dX3_table_12 2 rfl rfl ?_
      refine j_bipush (pc := 13) (v := (9)) hc dX3_table_13 rfl ?_
      refine j_icmp_le (pc := 15) hc dX3_table_15 (tgt := 20) rfl (fun hh => ?_) (fun hh => ?_)
      · have hf6 := (if_pos hh).symm.trans hf5
        clear hf5
        refine j_aload_n (pc := 20) hc dX3_table_20 0 rfl rfl ?_
        obtain ⟨N3, eN3, hf7⟩ := ob_i hf6
        clear hf6
        refine j_callV (pc := 21) (As := []) (rest := []) (st2 := []) hc ho cw_X3_313 (c_X3_ages eN3) (Or.inr ⟨rfl, _, rfl⟩) hrm ⟨by decide, by decide⟩ rfl (Nat.le_of_ble_eq_true rfl) dX3_table_21 rfl rfl ?_
        refine j_iload_n (pc := 24) hc dX3_table_24 2 rfl rfl ?_
        by_cases hh0 : x2 = (0)
        · have hf8 := (if_pos hh0).symm.trans hf7
          clear hf7
          refine j_tsw (pc := 25) (k := (0)) (tgt := 76) hc dX3_table_25 hh0 (by decide) (by decide) rfl rfl ?_
          refine j_aload_n (pc := 76) hc dX3_table_76 0 rfl rfl ?_
          refine j_mgA (pc := 77) hc ho fm_17 rfl dX3_table_77 ?_
          refine j_iload_n (pc := 80) hc dX3_table_80 1 rfl rfl ?_
          obtain ⟨v4, ev4, hf9⟩ := ob_i hf8
          clear hf8
          refine j_mldI (pc := 81) hc (k := 3) (by decide) rfl dX3_table_81 ev4 ?_
          cases hf9
          exact j_iret (pc := 82) hc hq hre rfl dX3_table_82
        · have hf10 := (if_neg hh0).symm.trans hf7
          clear hf7
          by_cases hh1 : x2 = (1)
          · have hf11 := (if_pos hh1).symm.trans hf10
            clear hf10
            refine j_tsw (pc := 25) (k := (1)) (tgt := 83) hc dX3_table_25 hh1 (by decide) (by decide) rfl rfl ?_
            refine j_aload_n (pc := 83) hc dX3_table_83 0 rfl rfl ?_
            refine j_mgA (pc := 84) hc ho fm_21 rfl dX3_table_84 ?_
            refine j_iload_n (pc := 87) hc dX3_table_87 1 rfl rfl ?_
            obtain ⟨v5, ev5, hf12⟩ := ob_i hf11
            clear hf11
            refine j_mldI (pc := 88) hc (k := 4) (by decide) rfl dX3_table_88 ev5 ?_
            cases hf12
            exact j_iret (pc := 89) hc hq hre rfl dX3_table_89
          · have hf13 := (if_neg hh1).symm.trans hf10
            clear hf10
            by_cases hh2 : x2 = (2)
            · have hf14 := (if_pos hh2).symm.trans hf13
              clear hf13
              refine j_tsw (pc := 25) (k := (2)) (tgt := 90) hc dX3_table_25 hh2 (by decide) (by decide) rfl rfl ?_
              refine j_aload_n (pc := 90) hc dX3_table_90 0 rfl rfl ?_
              refine j_mgA (pc := 91) hc ho fm_30 rfl dX3_table_91 ?_
              refine j_iload_n (pc := 94) hc dX3_table_94 1 rfl rfl ?_
              obtain ⟨v6, ev6, hf15⟩ := ob_i hf14
              clear hf14
              refine j_mldI (pc := 95) hc (k := 7) (by decide) rfl dX3_table_95 ev6 ?_
              cases hf15
              exact j_iret (pc := 96) hc hq hre rfl dX3_table_96
            · have hf16 := (if_neg hh2).symm.trans hf13
              clear hf13
              by_cases hh3 : x2 = (3)
              · have hf17 := (if_pos hh3).symm.trans hf16
                clear hf16
                refine j_tsw (pc := 25) (k := (3)) (tgt := 97) hc dX3_table_25 hh3 (by decide) (by decide) rfl rfl ?_
                exact w_X3_table_n97 hc ho hnL hrm hre hct hq hf17
              · have hf18 := (if_neg hh3).symm.trans hf16
                clear hf16
                by_cases hh4 : x2 = (4)
                · have hf19 := (if_pos hh4).symm.trans hf18
                  clear hf18
                  refine j_tsw (pc := 25) (k := (4)) (tgt := 97) hc dX3_table_25 hh4 (by decide) (by decide) rfl rfl ?_
                  exact w_X3_table_n97 hc ho hnL hrm hre hct hq hf19
                · have hf20 := (if_neg hh4).symm.trans hf18
                  clear hf18
                  by_cases hh5 : x2 = (5)
                  · have hf21 := (if_pos hh5).symm.trans hf20
                    clear hf20
                    refine j_tsw (pc := 25) (k := (5)) (tgt := 97) hc dX3_table_25 hh5 (by decide) (by decide) rfl rfl ?_
                    exact w_X3_table_n97 hc ho hnL hrm hre hct hq hf21
                  · have hf22 := (if_neg hh5).symm.trans hf20
                    clear hf20
                    by_cases hh6 : x2 = (6)
                    · have hf23 := (if_pos hh6).symm.trans hf22
                      clear hf22
                      refine j_tsw (pc := 25) (k := (6)) (tgt := 126) hc dX3_table_25 hh6 (by decide) (by decide) rfl rfl ?_
                      refine j_aload_n (pc := 126) hc dX3_table_126 0 rfl rfl ?_
                      refine j_mgA (pc := 127) hc ho fm_132 rfl dX3_table_127 ?_
                      refine j_iload_n (pc := 130) hc dX3_table_130 1 rfl rfl ?_
                      obtain ⟨v7, ev7, hf24⟩ := ob_i hf23
                      clear hf23
                      refine j_mldI (pc := 131) hc (k := 54) (by decide) rfl dX3_table_131 ev7 ?_
                      cases hf24
                      exact j_iret (pc := 132) hc hq hre rfl dX3_table_132
                    · have hf25 := (if_neg hh6).symm.trans hf22
                      clear hf22
                      by_cases hh7 : x2 = (7)
                      · have hf26 := (if_pos hh7).symm.trans hf25
                        clear hf25
                        refine j_tsw (pc := 25) (k := (7)) (tgt := 133) hc dX3_table_25 hh7 (by decide) (by decide) rfl rfl ?_
                        refine j_aload_n (pc := 133) hc dX3_table_133 0 rfl rfl ?_
                        refine j_mgA (pc := 134) hc ho fm_135 rfl dX3_table_134 ?_
                        refine j_iload_n (pc := 137) hc dX3_table_137 1 rfl rfl ?_
                        obtain ⟨v8, ev8, hf27⟩ := ob_i hf26
                        clear hf26
                        refine j_mldI (pc := 138) hc (k := 55) (by decide) rfl dX3_table_138 ev8 ?_
                        cases hf27
                        exact j_iret (pc := 139) hc hq hre rfl dX3_table_139
                      · have hf28 := (if_neg hh7).symm.trans hf25
                        clear hf25
                        by_cases hh8 : x2 = (8)
                        · have hf29 := (if_pos hh8).symm.trans hf28
                          clear hf28
                          refine j_tsw (pc := 25) (k := (8)) (tgt := 140) hc dX3_table_25 hh8 (by decide) (by decide) rfl rfl ?_
                          refine j_aload_n (pc := 140) hc dX3_table_140 0 rfl rfl ?_
                          refine j_iload_n (pc := 141) hc dX3_table_141 1 rfl rfl ?_
                          obtain ⟨v10, N9, ev10, hf30⟩ := ob_c hf29
                          clear hf29
                          refine j_callV (pc := 142) (As := [vi x1]) (rest := []) (st2 := [vi v10]) hc ho cw_X3_316 (c_X3_ownerOf ev10) (Or.inr ⟨rfl, _, rfl⟩) hrm ⟨by decide, by decide⟩ rfl (Nat.le_of_ble_eq_true rfl) dX3_table_142 rfl rfl ?_
                          cases hf30
                          exact j_iret (pc := 145) hc hq hre rfl dX3_table_145
                        · have hf31 := (if_neg hh8).symm.trans hf28
                          clear hf28
                          refine j_tswD (pc := 25) (tgt := 146) hc dX3_table_25 (by have h0 : ¬ x2.toInt = 0 := lv_neT hh0 rfl; have h1 : ¬ x2.toInt = 1 := lv_neT hh1 rfl; have h2 : ¬ x2.toInt = 2 := lv_neT hh2 rfl; have h3 : ¬ x2.toInt = 3 := lv_neT hh3 rfl; have h4 : ¬ x2.toInt = 4 := lv_neT hh4 rfl; have h5 : ¬ x2.toInt = 5 := lv_neT hh5 rfl; have h6 : ¬ x2.toInt = 6 := lv_neT hh6 rfl; have h7 : ¬ x2.toInt = 7 := lv_neT hh7 rfl; have h8 : ¬ x2.toInt = 8 := lv_neT hh8 rfl; omega) rfl ?_
                          refine j_aload_n (pc := 146) hc dX3_table_146 0 rfl rfl ?_
                          refine j_mgA (pc := 147) hc ho fm_39 rfl dX3_table_147 ?_
                          refine j_iload_n (pc := 150) hc dX3_table_150 1 rfl rfl ?_
                          obtain ⟨v11, ev11, hf32⟩ := ob_i hf31
                          clear hf31
                          refine j_mldI (pc := 151) hc (k := 10) (by decide) rfl dX3_table_151 ev11 ?_
                          cases hf32
                          exact j_iret (pc := 152) hc hq hre rfl dX3_table_152
      · have hf33 := (if_neg hh).symm.trans hf5
        clear hf5
        refine j_iconst (pc := 18) (v := (-1)) hc dX3_table_18 rfl ?_
        cases hf33
        exact j_iret (pc := 19) hc hq hre rfl dX3_table_19
def f_X3_isColumn (x1 : Int32) (x2 : Int32) (M : MS) : Option (Int32 × MS) :=
  o_bd (f_X3_isTable x1 M) fun v2 N1 =>
  if v2 = 0 then
    some ((0), N1)
  else
    if x2 < 0 then
      some ((0), N1)
    else
      (g_mA N1 4 x1).bind fun v3 =>
      if v3 ≤ x2 then
        some ((0), N1)
      else
        some ((1), N1)
set_option maxRecDepth 100000 in
set_option maxHeartbeats 2000000 in
theorem c_X3_isColumn {l : Launch} {g : PG} {a0 : Nat} {x1 : Int32} {x2 : Int32} {r : Int32} {S : HS} {M M1 : MS} (hf : f_X3_isColumn x1 x2 M = some (r, M1)) : (h_nx S ≤ h_nx S ∧ h_sl S ≤ h_sl S) ∧ Ct l g yX3_isColumn (ws_ yX3_isColumn cX3_isColumn 3 (some (.boolean))) 2 81 S (some (a0, M)) [vr (some a0), vi x1, vi x2] (some (vi r)) S (some (a0, M1)) := by
  refine met_of false (by decide) (fun h => by first | rfl | cases h) rfl (Nat.le_of_ble_eq_true rfl) (fun f hl hg hc ho hnL hrm hre hct hex hq => ?_)
  subst hl
  subst hg
  unfold f_X3_isColumn at hf
  refine j_aload_n (pc := 0) hc dX3_isColumn_0 0 rfl rfl ?_
  refine j_iload_n (pc := 1) hc dX3_isColumn_1 1 rfl rfl ?_
  obtain ⟨v2, N1, ev2, hf1⟩ := ob_c hf
  clear hf
  refine j_callV (pc := 2) (As := [vi x1]) (rest := []) (st2 := [vi v2]) hc ho cw_X3_162 (c_X3_isTable ev2) (Or.inr ⟨rfl, _, rfl⟩) hrm ⟨by decide, by decide⟩ rfl (Nat.le_of_ble_eq_true rfl) dX3_isColumn_2 rfl rfl ?_
  refine j_if_eq (pc := 5) hc dX3_isColumn_5 (tgt := 26) rfl (fun hh => ?_) (fun hh => ?_)
  · have hf2 := (if_pos hh).symm.trans hf1
    clear hf1
    refine j_iconst (pc := 26) (v := (0)) hc dX3_isColumn_26 rfl ?_
    cases hf2
    exact j_iret (pc := 27) hc hq hre rfl dX3_isColumn_27
  · have hf3 := (if_neg hh).symm.trans hf1
    clear hf1
    refine j_iload_n (pc := 8) hc dX3_isColumn_8 2 rfl rfl ?_
    refine j_if_lt (pc := 9) hc dX3_isColumn_9 (tgt := 26) rfl (fun hh => ?_) (fun hh => ?_)
    · have hf4 := (if_pos hh).symm.trans hf3
      clear hf3
      refine j_iconst (pc := 26) (v := (0)) hc dX3_isColumn_26 rfl ?_
      cases hf4
      exact j_iret (pc := 27) hc hq hre rfl dX3_isColumn_27
    · have hf5 := (if_neg hh).symm.trans hf3
      clear hf3
      refine j_iload_n (pc := 12) hc dX3_isColumn_12 2 rfl rfl ?_
      refine j_aload_n (pc := 13) hc dX3_isColumn_13 0 rfl rfl ?_
      refine j_mgA (pc := 14) hc ho fm_21 rfl dX3_isColumn_14 ?_
      refine j_iload_n (pc := 17) hc dX3_isColumn_17 1 rfl rfl ?_
      obtain ⟨v3, ev3, hf6⟩ := ob_i hf5
      clear hf5
      refine j_mldI (pc := 18) hc (k := 4) (by decide) rfl dX3_isColumn_18 ev3 ?_
      refine j_icmp_ge (pc := 19) hc dX3_isColumn_19 (tgt := 26) rfl (fun hh => ?_) (fun hh => ?_)
      · have hf7 := (if_pos hh).symm.trans hf6
        clear hf6
        refine j_iconst (pc := 26) (v := (0)) hc dX3_isColumn_26 rfl ?_
        cases hf7
        exact j_iret (pc := 27) hc hq hre rfl dX3_isColumn_27
      · have hf8 := (if_neg hh).symm.trans hf6
        clear hf6
        refine j_iconst (pc := 22) (v := (1)) hc dX3_isColumn_22 rfl ?_
        refine j_goto (pc := 23) hc dX3_isColumn_23 (tgt := 27) rfl ?_
        cases hf8
        exact j_iret (pc := 27) hc hq hre rfl dX3_isColumn_27
theorem cw_X3_320 : CV "TableCatalogModel" 320 RX3 yX3_isColumn cX3_isColumn 3 (some (.boolean)) 2 := ⟨⟨q1528, q1530, qs68, q90, q1531⟩, rfl, by decide, by decide, by decide +kernel⟩
def f_X3_type (x1 : Int32) (x2 : Int32) (M : MS) : Option (Int32 × MS) :=
  o_bd (f_X3_isColumn x1 x2 M) fun v2 N1 =>
  if v2 = 0 then
    some ((-1), N1)
  else
    (g_mA N1 6 (((8) * x1) + x2)).bind fun v3 =>
    some (v3, N1)
set_option maxRecDepth 100000 in
set_option maxHeartbeats 2000000 in
theorem c_X3_type {l : Launch} {g : PG} {a0 : Nat} {x1 : Int32} {x2 : Int32} {r : Int32} {S : HS} {M M1 : MS} (hf : f_X3_type x1 x2 M = some (r, M1)) : (h_nx S ≤ h_nx S ∧ h_sl S ≤ h_sl S) ∧ Ct l g yX3_type (ws_ yX3_type cX3_type 3 (some (.int))) 3 103 S (some (a0, M)) [vr (some a0), vi x1, vi x2] (some (vi r)) S (some (a0, M1)) := by
  refine met_of false (by decide) (fun h => by first | rfl | cases h) rfl (Nat.le_of_ble_eq_true rfl) (fun f hl hg hc ho hnL hrm hre hct hex hq => ?_)
  subst hl
  subst hg
  unfold f_X3_type at hf
  refine j_aload_n (pc := 0) hc dX3_type_0 0 rfl rfl ?_
  refine j_iload_n (pc := 1) hc dX3_type_1 1 rfl rfl ?_
  refine j_iload_n (pc := 2) hc dX3_type_2 2 rfl rfl ?_
  obtain ⟨v2, N1, ev2, hf1⟩ := ob_c hf
  clear hf
  refine j_callV (pc := 3) (As := [vi x1, vi x2]) (rest := []) (st2 := [vi v2]) hc ho cw_X3_320 (c_X3_isColumn ev2) (Or.inr ⟨rfl, _, rfl⟩) hrm ⟨by decide, by decide⟩ rfl (Nat.le_of_ble_eq_true rfl) dX3_type_3 rfl rfl ?_
  refine j_if_eq (pc := 6) hc dX3_type_6 (tgt := 23) rfl (fun hh => ?_) (fun hh => ?_)
  · have hf2 := (if_pos hh).symm.trans hf1
    clear hf1
    refine j_iconst (pc := 23) (v := (-1)) hc dX3_type_23 rfl ?_
    cases hf2
    exact j_iret (pc := 24) hc hq hre rfl dX3_type_24
  · have hf3 := (if_neg hh).symm.trans hf1
    clear hf1
    refine j_aload_n (pc := 9) hc dX3_type_9 0 rfl rfl ?_
    refine j_mgA (pc := 10) hc ho fm_27 rfl dX3_type_10 ?_
    refine j_bipush (pc := 13) (v := (8)) hc dX3_type_13 rfl ?_
    refine j_iload_n (pc := 15) hc dX3_type_15 1 rfl rfl ?_
    refine j_imul (pc := 16) hc dX3_type_16 ?_
    refine j_iload_n (pc := 17) hc dX3_type_17 2 rfl rfl ?_
    refine j_iadd (pc := 18) hc dX3_type_18 ?_
    obtain ⟨v3, ev3, hf4⟩ := ob_i hf3
    clear hf3
    refine j_mldI (pc := 19) hc (k := 6) (by decide) rfl dX3_type_19 ev3 ?_
    refine j_goto (pc := 20) hc dX3_type_20 (tgt := 24) rfl ?_
    cases hf4
    exact j_iret (pc := 24) hc hq hre rfl dX3_type_24
theorem fm_324 : FM 324 57 := ⟨by decide, q1230⟩
theorem fm_141 : FM 141 58 := ⟨by decide, q1231⟩
def f_X3_found (x1 : Int32) (M : MS) : Option (Int32 × MS) :=
  if x1 < 0 then
    some ((-1), M)
  else
    if (m_I M 57) ≤ x1 then
      some ((-1), M)
    else
      (g_mA M 58 x1).bind fun v1 =>
      some (v1, M)
set_option maxRecDepth 100000 in
set_option maxHeartbeats 2000000 in
theorem c_X3_found {l : Launch} {g : PG} {a0 : Nat} {x1 : Int32} {r : Int32} {S : HS} {M M1 : MS} (hf : f_X3_found x1 M = some (r, M1)) : (h_nx S ≤ h_nx S ∧ h_sl S ≤ h_sl S) ∧ Ct l g yX3_found (ws_ yX3_found cX3_found 2 (some (.int))) 1 60 S (some (a0, M)) [vr (some a0), vi x1] (some (vi r)) S (some (a0, M1)) := by
  refine met_of false (by decide) (fun h => by first | rfl | cases h) rfl (Nat.le_of_ble_eq_true rfl) (fun f hl hg hc ho hnL hrm hre hct hex hq => ?_)
  subst hl
  subst hg
  unfold f_X3_found at hf
  refine j_iload_n (pc := 0) hc dX3_found_0 1 rfl rfl ?_
  refine j_if_lt (pc := 1) hc dX3_found_1 (tgt := 21) rfl (fun hh => ?_) (fun hh => ?_)
  · have hf1 := (if_pos hh).symm.trans hf
    clear hf
    refine j_iconst (pc := 21) (v := (-1)) hc dX3_found_21 rfl ?_
    cases hf1
    exact j_iret (pc := 22) hc hq hre rfl dX3_found_22
  · have hf2 := (if_neg hh).symm.trans hf
    clear hf
    refine j_iload_n (pc := 4) hc dX3_found_4 1 rfl rfl ?_
    refine j_aload_n (pc := 5) hc dX3_found_5 0 rfl rfl ?_
    refine j_mgI (pc := 6) hc ho fm_324 rfl dX3_found_6 ?_
    refine j_icmp_ge (pc := 9) hc dX3_found_9 (tgt := 21) rfl (fun hh => ?_) (fun hh => ?_)
    · have hf3 := (if_pos hh).symm.trans hf2
      clear hf2
      refine j_iconst (pc := 21) (v := (-1)) hc dX3_found_21 rfl ?_
      cases hf3
      exact j_iret (pc := 22) hc hq hre rfl dX3_found_22
    · have hf4 := (if_neg hh).symm.trans hf2
      clear hf2
      refine j_aload_n (pc := 12) hc dX3_found_12 0 rfl rfl ?_
      refine j_mgA (pc := 13) hc ho fm_141 rfl dX3_found_13 ?_
      refine j_iload_n (pc := 16) hc dX3_found_16 1 rfl rfl ?_
      obtain ⟨v1, ev1, hf5⟩ := ob_i hf4
      clear hf4
      refine j_mldI (pc := 17) hc (k := 58) (by decide) rfl dX3_found_17 ev1 ?_
      refine j_goto (pc := 18) hc dX3_found_18 (tgt := 22) rfl ?_
      cases hf5
      exact j_iret (pc := 22) hc hq hre rfl dX3_found_22
def f_X3_isNameAt (x1 : Int32) (x2 : Int32) (M : MS) : Option (Int32 × MS) :=
  (g_mA M 14 (((400) * x1) + x2)).bind fun v1 =>
  if v1 = (1) then
    (g_mA M 14 ((((400) * x1) + x2) + (1))).bind fun v2 =>
    if v2 = (46) then
      some ((1), M)
    else
      some ((0), M)
  else
    some ((0), M)
set_option maxRecDepth 100000 in
set_option maxHeartbeats 2000000 in
theorem c_X3_isNameAt {l : Launch} {g : PG} {a0 : Nat} {x1 : Int32} {x2 : Int32} {r : Int32} {S : HS} {M M1 : MS} (hf : f_X3_isNameAt x1 x2 M = some (r, M1)) : (h_nx S ≤ h_nx S ∧ h_sl S ≤ h_sl S) ∧ Ct l g yX3_isNameAt (ws_ yX3_isNameAt cX3_isNameAt 3 (some (.boolean))) 1 60 S (some (a0, M)) [vr (some a0), vi x1, vi x2] (some (vi r)) S (some (a0, M1)) := by
  refine met_of false (by decide) (fun h => by first | rfl | cases h) rfl (Nat.le_of_ble_eq_true rfl) (fun f hl hg hc ho hnL hrm hre hct hex hq => ?_)
  subst hl
  subst hg
  unfold f_X3_isNameAt at hf
  refine j_aload_n (pc := 0) hc dX3_isNameAt_0 0 rfl rfl ?_
  refine j_mgA (pc := 1) hc ho fm_51 rfl dX3_isNameAt_1 ?_
  refine j_sipush (pc := 4) (v := (400)) hc dX3_isNameAt_4 rfl ?_
  refine j_iload_n (pc := 7) hc dX3_isNameAt_7 1 rfl rfl ?_
  refine j_imul (pc := 8) hc dX3_isNameAt_8 ?_
  refine j_iload_n (pc := 9) hc dX3_isNameAt_9 2 rfl rfl ?_
  refine j_iadd (pc := 10) hc dX3_isNameAt_10 ?_
  obtain ⟨v1, ev1, hf1⟩ := ob_i hf
  clear hf
  refine j_mldI (pc := 11) hc (k := 14) (by decide) rfl dX3_isNameAt_11 ev1 ?_
  refine j_iconst (pc := 12) (v := (1)) hc dX3_isNameAt_12 rfl ?_
  refine j_icmp_ne (pc := 13) hc dX3_isNameAt_13 (tgt := 39) rfl (fun hh => ?_) (fun hh => ?_)
  · have hf2 := (if_neg hh).symm.trans hf1
    clear hf1
    refine j_iconst (pc := 39) (v := (0)) hc dX3_isNameAt_39 rfl ?_
    cases hf2
    exact j_iret (pc := 40) hc hq hre rfl dX3_isNameAt_40
  · have hf3 := (if_pos hh).symm.trans hf1
    clear hf1
    refine j_aload_n (pc := 16) hc dX3_isNameAt_16 0 rfl rfl ?_
    refine j_mgA (pc := 17) hc ho fm_51 rfl dX3_isNameAt_17 ?_
    refine j_sipush (pc := 20) (v := (400)) hc dX3_isNameAt_20 rfl ?_
    refine j_iload_n (pc := 23) hc dX3_isNameAt_23 1 rfl rfl ?_
    refine j_imul (pc := 24) hc dX3_isNameAt_24 ?_
    refine j_iload_n (pc := 25) hc dX3_isNameAt_25 2 rfl rfl ?_
    refine j_iadd (pc := 26) hc dX3_isNameAt_26 ?_
    refine j_iconst (pc := 27) (v := (1)) hc dX3_isNameAt_27 rfl ?_
    refine j_iadd (pc := 28) hc dX3_isNameAt_28 ?_
    obtain ⟨v2, ev2, hf4⟩ := ob_i hf3
    clear hf3
    refine j_mldI (pc := 29) hc (k := 14) (by decide) rfl dX3_isNameAt_29 ev2 ?_
    refine j_bipush (pc := 30) (v := (46)) hc dX3_isNameAt_30 rfl ?_
    refine j_icmp_ne (pc := 32) hc dX3_isNameAt_32 (tgt := 39) rfl (fun hh => ?_) (fun hh => ?_)
    · have hf5 := (if_neg hh).symm.trans hf4
      clear hf4
      refine j_iconst (pc := 39) (v := (0)) hc dX3_isNameAt_39 rfl ?_
      cases hf5
      exact j_iret (pc := 40) hc hq hre rfl dX3_isNameAt_40
    · have hf6 := (if_pos hh).symm.trans hf4
      clear hf4
      refine j_iconst (pc := 35) (v := (1)) hc dX3_isNameAt_35 rfl ?_
      refine j_goto (pc := 36) hc dX3_isNameAt_36 (tgt := 40) rfl ?_
      cases hf6
      exact j_iret (pc := 40) hc hq hre rfl dX3_isNameAt_40
def f_X3_usedAt (x1 : Int32) (x2 : Int32) (M : MS) : Option (Int32 × MS) :=
  o_bd (f_X3_wordOf x1 x2 M) fun w2 N1 =>
  o_bd (f_X3_behindNamed x1 w2 N1) fun v4 N3 =>
  o_bd (f_X3_wordOf x1 (x2 + (2)) N3) fun w6 N5 =>
  o_bd (f_X3_columnNamed v4 w6 N5) fun v8 N7 =>
  some ((((8) * v4) + v8), N7)
set_option maxRecDepth 100000 in
set_option maxHeartbeats 2000000 in
theorem c_X3_usedAt {l : Launch} {g : PG} {a0 : Nat} {x1 : Int32} {x2 : Int32} {r : Int32} {S : HS} {M M1 : MS} (hf : f_X3_usedAt x1 x2 M = some (r, M1)) : (h_nx S ≤ h_nx S ∧ h_sl S ≤ h_sl S) ∧ Ct l g yX3_usedAt (ws_ yX3_usedAt cX3_usedAt 4 (some (.int))) 2 86 S (some (a0, M)) [vr (some a0), vi x1, vi x2] (some (vi r)) S (some (a0, M1)) := by
  refine met_of false (by decide) (fun h => by first | rfl | cases h) rfl (Nat.le_of_ble_eq_true rfl) (fun f hl hg hc ho hnL hrm hre hct hex hq => ?_)
  subst hl
  subst hg
  unfold f_X3_usedAt at hf
  refine j_aload_n (pc := 0) hc dX3_usedAt_0 0 rfl rfl ?_
  refine j_iload_n (pc := 1) hc dX3_usedAt_1 1 rfl rfl ?_
  refine j_aload_n (pc := 2) hc dX3_usedAt_2 0 rfl rfl ?_
  refine j_iload_n (pc := 3) hc dX3_usedAt_3 1 rfl rfl ?_
  refine j_iload_n (pc := 4) hc dX3_usedAt_4 2 rfl rfl ?_
  obtain ⟨w2, N1, ew2, hf1⟩ := ob_c hf
  clear hf
  refine j_callV (pc := 5) (As := [vi x1, vi x2]) (rest := [vi x1, vr (some a0)]) (st2 := [vl w2, vi x1, vr (some a0)]) hc ho cw_X3_274 (c_X3_wordOf ew2) (Or.inr ⟨rfl, _, rfl⟩) hrm ⟨by decide, by decide⟩ rfl (Nat.le_of_ble_eq_true rfl) dX3_usedAt_5 rfl rfl ?_
  obtain ⟨v4, N3, ev4, hf2⟩ := ob_c hf1
  clear hf1
  refine j_callV (pc := 8) (As := [vi x1, vl w2]) (rest := []) (st2 := [vi v4]) hc ho cw_X3_281 (c_X3_behindNamed ev4) (Or.inr ⟨rfl, _, rfl⟩) hrm ⟨by decide, by decide⟩ rfl (Nat.le_of_ble_eq_true rfl) dX3_usedAt_8 rfl rfl ?_
  refine j_istore_n (pc := 11) (L' := [(3, vi v4), (0, vr (some a0)), (1, vi x1), (2, vi x2)]) hc dX3_usedAt_11 rfl hnL (by decide) rfl ?_
  refine j_bipush (pc := 12) (v := (8)) hc dX3_usedAt_12 rfl ?_
  refine j_iload_n (pc := 14) hc dX3_usedAt_14 0 rfl rfl ?_
  refine j_imul (pc := 15) hc dX3_usedAt_15 ?_
  refine j_aload_n (pc := 16) hc dX3_usedAt_16 1 rfl rfl ?_
  refine j_iload_n (pc := 17) hc dX3_usedAt_17 0 rfl rfl ?_
  refine j_aload_n (pc := 18) hc dX3_usedAt_18 1 rfl rfl ?_
  refine j_iload_n (pc := 19) hc dX3_usedAt_19 2 rfl rfl ?_
  refine j_iload_n (pc := 20) hc dX3_usedAt_20 3 rfl rfl ?_
  refine j_iconst (pc := 21) (v := (2)) hc dX3_usedAt_21 rfl ?_
  refine j_iadd (pc := 22) hc dX3_usedAt_22 ?_
  obtain ⟨w6, N5, ew6, hf3⟩ := ob_c hf2
  clear hf2
  refine j_callV (pc := 23) (As := [vi x1, vi (x2 + (2))]) (rest := [vi v4, vr (some a0), vi ((8) * v4)]) (st2 := [vl w6, vi v4, vr (some a0), vi ((8) * v4)]) hc ho cw_X3_274 (c_X3_wordOf ew6) (Or.inr ⟨rfl, _, rfl⟩) hrm ⟨by decide, by decide⟩ rfl (Nat.le_of_ble_eq_true rfl) dX3_usedAt_23 rfl rfl ?_
  obtain ⟨v8, N7, ev8, hf4⟩ := ob_c hf3
  clear hf3
  refine j_callV (pc := 26) (As := [vi v4, vl w6]) (rest := [vi ((8) * v4)]) (st2 := [vi v8, vi ((8) * v4)]) hc ho cw_X3_285 (c_X3_columnNamed ev8) (Or.inr ⟨rfl, _, rfl⟩) hrm ⟨by decide, by decide⟩ rfl (Nat.le_of_ble_eq_true rfl) dX3_usedAt_26 rfl rfl ?_
  refine j_iadd (pc := 29) hc dX3_usedAt_29 ?_
  cases hf4
  exact j_iret (pc := 30) hc hq hre rfl dX3_usedAt_30
theorem cw_X3_327 : CV "TableCatalogModel" 327 RX3 yX3_isNameAt cX3_isNameAt 3 (some (.boolean)) 2 := ⟨⟨q1548, q1550, qs71, q90, q1551⟩, rfl, by decide, by decide, by decide +kernel⟩
theorem fm_138 : FM 138 56 := ⟨by decide, q1229⟩
theorem cw_X3_330 : CV "TableCatalogModel" 330 RX3 yX3_usedAt cX3_usedAt 4 (some (.int)) 2 := ⟨⟨q1552, q1554, qs72, q90, q1555⟩, rfl, by decide, by decide, by decide +kernel⟩
def f_X3_marksUsed_n12 : Nat → Int32 → Int32 → Int32 → MS → Option MS
  | 0, _, _, _, _ => none
  | n + 1, x1, x2, x3, M =>
    (g_mA M 19 (((8) * x1) + x2)).bind fun v1 =>
    if v1 ≤ x3 then
      some M
    else
      o_bd (f_X3_isNameAt x1 x3 M) fun v3 N2 =>
      if v3 = 0 then
        (fun x1 x2 x3 M => f_X3_marksUsed_n12 n x1 x2 x3 M) x1 x2 (x3 + (1)) N2
      else
        o_bd (f_X3_usedAt x1 x3 N2) fun v5 N4 =>
        (p_mA N4 56 v5 (vp_nar .boolean (1))).bind fun N6 =>
        (fun x1 x2 x3 M => f_X3_marksUsed_n12 n x1 x2 x3 M) x1 x2 ((x3 + (2)) + (1)) N6
def f_X3_marksUsed (x1 : Int32) (x2 : Int32) (M : MS) : Option MS :=
  (g_mA M 18 (((8) * x1) + x2)).bind fun v1 =>
  f_X3_marksUsed_n12 fu_ x1 x2 v1 M
set_option maxRecDepth 100000 in
set_option maxHeartbeats 2000000 in
theorem w_X3_marksUsed_n12 {f : CfT} {a0 : Nat} {S : HS} {M1 : MS} (hc : cf_cc f = cX3_marksUsed) (ho : cf_ow f = "TableCatalogModel") (hnL : cf_nL f = 4) (hrm : cf_rm f = (3, 109)) (hre : cf_re f = none) (hct : cf_ct f = false) (hq : Qok f none S (some (a0, M1))) : ∀ (n : Nat) (x1 : Int32) (x2 : Int32) (x3 : Int32) (M : MS), f_X3_marksUsed_n12 n x1 x2 x3 M = some M1 → JJ f S (some (a0, M)) 12 [(0, vr (some a0)), (1, vi x1), (2, vi x2), (3, vi x3)] [] := by
  intro n
  induction n with
  | zero =>
    intro x1 x2 x3 M hf
    have hf : (none : Option MS) = some M1 := hf
    cases hf
  | succ n ih =>
    intro x1 x2 x3 M hf
    unfold f_X3_marksUsed_n12 at hf
    have hk_12 := ih
    refine j_iload_n (pc := 12) hc dX3_marksUsed_12 3 rfl rfl ?_
    refine j_aload_n (pc := 13) hc dX3_marksUsed_13 0 rfl rfl ?_
    refine j_mgA (pc := 14) hc ho fm_66 rfl dX3_marksUsed_14 ?_
    refine j_bipush (pc := 17) (v := (8)) hc dX3_marksUsed_17 rfl ?_
    refine j_iload_n (pc := 19) hc dX3_marksUsed_19 1 rfl rfl ?_
    refine j_imul (pc := 20) hc dX3_marksUsed_20 ?_
    refine j_iload_n (pc := 21) hc dX3_marksUsed_21 2 rfl rfl ?_
    refine j_iadd (pc := 22) hc dX3_marksUsed_22 ?_
    obtain ⟨v1, ev1, hf1⟩ := ob_i hf
    clear hf
    refine j_mldI (pc := 23) hc (k := 19) (by decide) rfl dX3_marksUsed_23 ev1 ?_
    refine j_icmp_ge (pc := 24) hc dX3_marksUsed_24 (tgt := 60) rfl (fun hh => ?_) (fun hh => ?_)
    · have hf2 := (if_pos hh).symm.trans hf1
      clear hf1
      cases hf2
      exact j_vret (pc := 60) hc hq hre dX3_marksUsed_60
    · have hf3 := (if_neg hh).symm.trans hf1
      clear hf1
      refine j_aload_n (pc := 27) hc dX3_marksUsed_27 0 rfl rfl ?_
      refine j_iload_n (pc := 28) hc dX3_marksUsed_28 1 rfl rfl ?_
      refine j_iload_n (pc := 29) hc dX3_marksUsed_29 3 rfl rfl ?_
      obtain ⟨v3, N2, ev3, hf4⟩ := ob_c hf3
      clear hf3
      refine j_callV (pc := 30) (As := [vi x1, vi x3]) (rest := []) (st2 := [vi v3]) hc ho cw_X3_327 (c_X3_isNameAt ev3) (Or.inr ⟨rfl, _, rfl⟩) hrm ⟨by decide, by decide⟩ rfl (Nat.le_of_ble_eq_true rfl) dX3_marksUsed_30 rfl rfl ?_
      refine j_if_ne (pc := 33) hc dX3_marksUsed_33 (tgt := 39) rfl (fun hh => ?_) (fun hh => ?_)
      · have hf5 := (if_neg hh).symm.trans hf4
        clear hf4
        refine j_aload_n (pc := 39) hc dX3_marksUsed_39 0 rfl rfl ?_
        refine j_mgA (pc := 40) hc ho fm_138 rfl dX3_marksUsed_40 ?_
        refine j_aload_n (pc := 43) hc dX3_marksUsed_43 0 rfl rfl ?_
        refine j_iload_n (pc := 44) hc dX3_marksUsed_44 1 rfl rfl ?_
        refine j_iload_n (pc := 45) hc dX3_marksUsed_45 3 rfl rfl ?_
        obtain ⟨v5, N4, ev5, hf6⟩ := ob_c hf5
        clear hf5
        refine j_callV (pc := 46) (As := [vi x1, vi x3]) (rest := [vr (some (a0 + m_po 56))]) (st2 := [vi v5, vr (some (a0 + m_po 56))]) hc ho cw_X3_330 (c_X3_usedAt ev5) (Or.inr ⟨rfl, _, rfl⟩) hrm ⟨by decide, by decide⟩ rfl (Nat.le_of_ble_eq_true rfl) dX3_marksUsed_46 rfl rfl ?_
        refine j_iconst (pc := 49) (v := (1)) hc dX3_marksUsed_49 rfl ?_
        obtain ⟨N6, eN6, hf7⟩ := ob_i hf6
        clear hf6
        refine j_mstZ (pc := 50) hc (k := 56) (by decide) rfl dX3_marksUsed_50 eN6 ?_
        refine j_iinc (pc := 51) (L' := [(3, vi (x3 + (2))), (0, vr (some a0)), (1, vi x1), (2, vi x2)]) (v := (x3 + (2))) hc dX3_marksUsed_51 3 rfl rfl hnL (by decide) rfl ?_
        refine j_iinc (pc := 54) (L' := [(3, vi ((x3 + (2)) + (1))), (0, vr (some a0)), (1, vi x1), (2, vi x2)]) (v := ((x3 + (2)) + (1))) hc dX3_marksUsed_54 0 rfl rfl hnL (by decide) rfl ?_
        refine j_goto (pc := 57) hc dX3_marksUsed_57 (tgt := 12) rfl ?_
        refine j_loc (L' := [(0, vr (some a0)), (1, vi x1), (2, vi x2), (3, vi ((x3 + (2)) + (1)))]) [1, 2, 3, 0] rfl ?_
        exact hk_12 _ _ _ _ hf7
      · have hf8 := (if_pos hh).symm.trans hf4
        clear hf4
        refine j_goto (pc := 36) hc dX3_marksUsed_36 (tgt := 54) rfl ?_
        refine j_iinc (pc := 54) (L' := [(3, vi (x3 + (1))), (0, vr (some a0)), (1, vi x1), (2, vi x2)]) (v := (x3 + (1))) hc dX3_marksUsed_54 3 rfl rfl hnL (by decide) rfl ?_
        refine j_goto (pc := 57) hc dX3_marksUsed_57 (tgt := 12) rfl ?_
        refine j_loc (L' := [(0, vr (some a0)), (1, vi x1), (2, vi x2), (3, vi (x3 + (1)))]) [1, 2, 3, 0] rfl ?_
        exact hk_12 _ _ _ _ hf8
set_option maxRecDepth 100000 in
set_option maxHeartbeats 2000000 in
theorem c_X3_marksUsed {l : Launch} {g : PG} {a0 : Nat} {x1 : Int32} {x2 : Int32} {S : HS} {M M1 : MS} (hf : f_X3_marksUsed x1 x2 M = some M1) : (h_nx S ≤ h_nx S ∧ h_sl S ≤ h_sl S) ∧ Ct l g yX3_marksUsed (ws_ yX3_marksUsed cX3_marksUsed 4 none) 3 109 S (some (a0, M)) [vr (some a0), vi x1, vi x2] none S (some (a0, M1)) := by
  refine met_of false (by decide) (fun h => by first | rfl | cases h) rfl (Nat.le_of_ble_eq_true rfl) (fun f hl hg hc ho hnL hrm hre hct hex hq => ?_)
  subst hl
  subst hg
  unfold f_X3_marksUsed at hf
  refine j_aload_n (pc := 0) hc dX3_marksUsed_0 0 rfl rfl ?_
  refine j_mgA (pc := 1) hc ho fm_63 rfl dX3_marksUsed_1 ?_
  refine j_bipush (pc := 4) (v := (8)) hc dX3_marksUsed_4 rfl ?_
  refine j_iload_n (pc := 6) hc dX3_marksUsed_6 1 rfl rfl ?_
  refine j_imul (pc := 7) hc dX3_marksUsed_7 ?_
  refine j_iload_n (pc := 8) hc dX3_marksUsed_8 2 rfl rfl ?_
  refine j_iadd (pc := 9) hc dX3_marksUsed_9 ?_
  obtain ⟨v1, ev1, hf1⟩ := ob_i hf
  clear hf
  refine j_mldI (pc := 10) hc (k := 18) (by decide) rfl dX3_marksUsed_10 ev1 ?_
  refine j_istore_n (pc := 11) (L' := [(3, vi v1), (0, vr (some a0)), (1, vi x1), (2, vi x2)]) hc dX3_marksUsed_11 rfl hnL (by decide) rfl ?_
  refine j_loc (L' := [(0, vr (some a0)), (1, vi x1), (2, vi x2), (3, vi v1)]) [1, 2, 3, 0] rfl ?_
  exact w_X3_marksUsed_n12 hc ho hnL hrm hre hct hq fu_ _ _ _ _ hf1
def f_X3_finds (x1 : Int32) (M : MS) : Option MS :=
  (p_mA M 58 (m_I M 57) x1).bind fun N1 =>
  (some (m_sI N1 57 ((m_I N1 57) + (1)))).bind fun N2 =>
  some N2
set_option maxRecDepth 100000 in
set_option maxHeartbeats 2000000 in
theorem c_X3_finds {l : Launch} {g : PG} {a0 : Nat} {x1 : Int32} {S : HS} {M M1 : MS} (hf : f_X3_finds x1 M = some M1) : (h_nx S ≤ h_nx S ∧ h_sl S ≤ h_sl S) ∧ Ct l g yX3_finds (ws_ yX3_finds cX3_finds 2 none) 1 60 S (some (a0, M)) [vr (some a0), vi x1] none S (some (a0, M1)) := by
  refine met_of false (by decide) (fun h => by first | rfl | cases h) rfl (Nat.le_of_ble_eq_true rfl) (fun f hl hg hc ho hnL hrm hre hct hex hq => ?_)
  subst hl
  subst hg
  unfold f_X3_finds at hf
  refine j_aload_n (pc := 0) hc dX3_finds_0 0 rfl rfl ?_
  refine j_mgA (pc := 1) hc ho fm_141 rfl dX3_finds_1 ?_
  refine j_aload_n (pc := 4) hc dX3_finds_4 0 rfl rfl ?_
  refine j_mgI (pc := 5) hc ho fm_324 rfl dX3_finds_5 ?_
  refine j_iload_n (pc := 8) hc dX3_finds_8 1 rfl rfl ?_
  obtain ⟨N1, eN1, hf1⟩ := ob_i hf
  clear hf
  refine j_mstI (pc := 9) hc (k := 58) (by decide) rfl dX3_finds_9 eN1 ?_
  refine j_aload_n (pc := 10) hc dX3_finds_10 0 rfl rfl ?_
  refine j_dup (pc := 11) hc dX3_finds_11 rfl ?_
  refine j_mgI (pc := 12) hc ho fm_324 rfl dX3_finds_12 ?_
  refine j_iconst (pc := 15) (v := (1)) hc dX3_finds_15 rfl ?_
  refine j_iadd (pc := 16) hc dX3_finds_16 ?_
  obtain ⟨N2, eN2, hf2⟩ := ob_i hf1
  clear hf1
  refine j_mpI (pc := 17) hc ho fm_324 rfl rfl rfl rfl dX3_finds_17 eN2 ?_
  cases hf2
  exact j_vret (pc := 20) hc hq hre dX3_finds_20
def f_X3_clears_n2 : Nat → Int32 → MS → Option MS
  | 0, _, _ => none
  | n + 1, x1, M =>
    if (136) ≤ x1 then
      some M
    else
      (p_mA M 56 x1 (vp_nar .boolean (0))).bind fun N1 =>
      (fun x1 M => f_X3_clears_n2 n x1 M) (x1 + (1)) N1
def f_X3_clears (M : MS) : Option MS :=
  f_X3_clears_n2 fu_ (0) M
set_option maxRecDepth 100000 in
set_option maxHeartbeats 2000000 in
theorem w_X3_clears_n2 {f : CfT} {a0 : Nat} {S : HS} {M1 : MS} (hc : cf_cc f = cX3_clears) (ho : cf_ow f = "TableCatalogModel") (hnL : cf_nL f = 2) (hrm : cf_rm f = (1, 60)) (hre : cf_re f = none) (hct : cf_ct f = false) (hq : Qok f none S (some (a0, M1))) : ∀ (n : Nat) (x1 : Int32) (M : MS), f_X3_clears_n2 n x1 M = some M1 → JJ f S (some (a0, M)) 2 [(0, vr (some a0)), (1, vi x1)] [] := by
  intro n
  induction n with
  | zero =>
    intro x1 M hf
    have hf : (none : Option MS) = some M1 := hf
    cases hf
  | succ n ih =>
    intro x1 M hf
    unfold f_X3_clears_n2 at hf
    have hk_2 := ih
    refine j_iload_n (pc := 2) hc dX3_clears_2 1 rfl rfl ?_
    refine j_sipush (pc := 3) (v := (136)) hc dX3_clears_3 rfl ?_
    refine j_icmp_ge (pc := 6) hc dX3_clears_6 (tgt := 22) rfl (fun hh => ?_) (fun hh => ?_)
    · have hf1 := (if_pos hh).symm.trans hf
      clear hf
      cases hf1
      exact j_vret (pc := 22) hc hq hre dX3_clears_22
    · have hf2 := (if_neg hh).symm.trans hf
      clear hf
      refine j_aload_n (pc := 9) hc dX3_clears_9 0 rfl rfl ?_
      refine j_mgA (pc := 10) hc ho fm_138 rfl dX3_clears_10 ?_
      refine j_iload_n (pc := 13) hc dX3_clears_13 1 rfl rfl ?_
      refine j_iconst (pc := 14) (v := (0)) hc dX3_clears_14 rfl ?_
      obtain ⟨N1, eN1, hf3⟩ := ob_i hf2
      clear hf2
      refine j_mstZ (pc := 15) hc (k := 56) (by decide) rfl dX3_clears_15 eN1 ?_
      refine j_iinc (pc := 16) (L' := [(1, vi (x1 + (1))), (0, vr (some a0))]) (v := (x1 + (1))) hc dX3_clears_16 1 rfl rfl hnL (by decide) rfl ?_
      refine j_goto (pc := 19) hc dX3_clears_19 (tgt := 2) rfl ?_
      refine j_loc (L' := [(0, vr (some a0)), (1, vi (x1 + (1)))]) [1, 0] rfl ?_
      exact hk_2 _ _ hf3
set_option maxRecDepth 100000 in
set_option maxHeartbeats 2000000 in
theorem c_X3_clears {l : Launch} {g : PG} {a0 : Nat} {S : HS} {M M1 : MS} (hf : f_X3_clears M = some M1) : (h_nx S ≤ h_nx S ∧ h_sl S ≤ h_sl S) ∧ Ct l g yX3_clears (ws_ yX3_clears cX3_clears 2 none) 1 60 S (some (a0, M)) [vr (some a0)] none S (some (a0, M1)) := by
  refine met_of false (by decide) (fun h => by first | rfl | cases h) rfl (Nat.le_of_ble_eq_true rfl) (fun f hl hg hc ho hnL hrm hre hct hex hq => ?_)
  subst hl
  subst hg
  unfold f_X3_clears at hf
  refine j_iconst (pc := 0) (v := (0)) hc dX3_clears_0 rfl ?_
  refine j_istore_n (pc := 1) (L' := [(1, vi (0)), (0, vr (some a0))]) hc dX3_clears_1 rfl hnL (by decide) rfl ?_
  refine j_loc (L' := [(0, vr (some a0)), (1, vi (0))]) [1, 0] rfl ?_
  exact w_X3_clears_n2 hc ho hnL hrm hre hct hq fu_ _ _ hf
theorem cw_X3_336 : CV "TableCatalogModel" 336 RX3 yX3_marksUsed cX3_marksUsed 4 none 2 := ⟨⟨q1544, q1546, qs70, q90, q1547⟩, rfl, by decide, by decide, by decide +kernel⟩
theorem cw_X3_339 : CV "TableCatalogModel" 339 RX3 yX3_finds cX3_finds 2 none 1 := ⟨⟨q1556, q1558, qs73, q90, q1559⟩, rfl, by decide, by decide, by decide +kernel⟩
theorem cw_X3_333 : CV "TableCatalogModel" 333 RX3 yX3_clears cX3_clears 2 none 0 := ⟨⟨q1540, q1542, qs69, q90, q1543⟩, rfl, by decide, by decide, by decide +kernel⟩
def f_X3_from_n101 (k_55 : Int32 → Int32 → MS → Option (Int32 × MS)) : Nat → Int32 → Int32 → Int32 → MS → Option (Int32 × MS)
  | 0, _, _, _, _ => none
  | n + 1, x3, x4, x5, M =>
    (g_mA M 4 x4).bind fun v1 =>
    if v1 ≤ x5 then
      k_55 x3 (x4 + (-1)) M
    else
      (g_mA M 56 (((8) * x4) + x5)).bind fun v2 =>
      if v2 = 0 then
        (fun x3 x4 x5 M => f_X3_from_n101 k_55 n x3 x4 x5 M) x3 x4 (x5 + (1)) M
      else
        (f_X3_marksUsed x4 x5 M).bind fun N3 =>
        (fun x3 x4 x5 M => f_X3_from_n101 k_55 n x3 x4 x5 M) x3 x4 (x5 + (1)) N3
def f_X3_from_n193 (k_157 : Int32 → Int32 → MS → Option (Int32 × MS)) (x3 : Int32) (x4 : Int32) (M : MS) : Option (Int32 × MS) :=
  (f_X3_finds x4 M).bind fun N1 =>
  k_157 x3 (x4 + (1)) N1
def f_X3_from_n157 : Nat → Int32 → Int32 → MS → Option (Int32 × MS)
  | 0, _, _, _ => none
  | n + 1, x3, x4, M =>
    if (136) ≤ x4 then
      some ((m_I M 57), M)
    else
      (g_mA M 56 x4).bind fun v1 =>
      if v1 = 0 then
        (fun x3 x4 M => f_X3_from_n157 n x3 x4 M) x3 (x4 + (1)) M
      else
        if x3 < (2) then
          f_X3_from_n193 (fun x3 x4 M => f_X3_from_n157 n x3 x4 M) x3 x4 M
        else
          (g_mA M 3 (x4 / (8))).bind fun v2 =>
          if v2 = 0 then
            f_X3_from_n193 (fun x3 x4 M => f_X3_from_n157 n x3 x4 M) x3 x4 M
          else
            (fun x3 x4 M => f_X3_from_n157 n x3 x4 M) x3 (x4 + (1)) M
def f_X3_from_n149 (x3 : Int32) (M : MS) : Option (Int32 × MS) :=
  (some (m_sI M 57 (0))).bind fun N1 =>
  f_X3_from_n157 fu_ x3 (0) N1
def f_X3_from_n55 : Nat → Int32 → Int32 → MS → Option (Int32 × MS)
  | 0, _, _, _ => none
  | n + 1, x3, x4, M =>
    if x4 < 0 then
      f_X3_from_n149 x3 M
    else
      if x3 ≤ 0 then
        f_X3_from_n149 x3 M
      else
        (g_mA M 3 x4).bind fun v1 =>
        if v1 = 0 then
          (fun x3 x4 M => f_X3_from_n55 n x3 x4 M) x3 (x4 + (-1)) M
        else
          (g_mA M 3 x4).bind fun v2 =>
          if v2 = (3) then
            (fun x3 x4 M => f_X3_from_n55 n x3 x4 M) x3 (x4 + (-1)) M
          else
            (g_mA M 1 x4).bind fun v3 =>
            if v3 = 0 then
              (fun x3 x4 M => f_X3_from_n55 n x3 x4 M) x3 (x4 + (-1)) M
            else
              f_X3_from_n101 (fun x3 x4 M => f_X3_from_n55 n x3 x4 M) fu_ x3 x4 (0) M
def f_X3_from_n50 (x1 : Int32) (x3 : Int32) (M : MS) : Option (Int32 × MS) :=
  f_X3_from_n55 fu_ x3 (x1 - (1)) M
def f_X3_from_n44 (x1 : Int32) (x2 : Int32) (x3 : Int32) (M : MS) : Option (Int32 × MS) :=
  (f_X3_marksUsed x1 x2 M).bind fun N1 =>
  f_X3_from_n50 x1 x3 N1
def f_X3_from (x1 : Int32) (x2 : Int32) (x3 : Int32) (M : MS) : Option (Int32 × MS) :=
  o_bd (f_X3_isColumn x1 x2 M) fun v2 N1 =>
  if v2 = 0 then
    some ((-1), N1)
  else
    if x3 < 0 then
      some ((-1), N1)
    else
      if x3 ≤ (2) then
        (f_X3_clears N1).bind fun N3 =>
        (g_mA N3 3 x1).bind fun v4 =>
        if v4 = (1) then
          f_X3_from_n44 x1 x2 x3 N3
        else
          (g_mA N3 3 x1).bind fun v5 =>
          if v5 = (2) then
            f_X3_from_n44 x1 x2 x3 N3
          else
            f_X3_from_n50 x1 x3 N3
      else
        some ((-1), N1)
set_option maxRecDepth 100000 in
set_option maxHeartbeats 2000000 in
theorem w_X3_from_n101 {f : CfT} {a0 : Nat} {r : Int32} {S : HS} {M1 : MS} (hc : cf_cc f = cX3_from) (ho : cf_ow f = "TableCatalogModel") (hnL : cf_nL f = 6) (hrm : cf_rm f = (4, 132)) (hre : cf_re f = (some (.int))) (hct : cf_ct f = false) (hq : Qok f (some (vi r)) S (some (a0, M1))) {k_55 : Int32 → Int32 → MS → Option (Int32 × MS)} (hk_55 : ∀ (x3 : Int32) (x4 : Int32) (M : MS), k_55 x3 x4 M = some (r, M1) → JJ f S (some (a0, M)) 55 [(0, vr (some a0)), (3, vi x3), (4, vi x4)] []) : ∀ (n : Nat) (x3 : Int32) (x4 : Int32) (x5 : Int32) (M : MS), f_X3_from_n101 k_55 n x3 x4 x5 M = some (r, M1) → JJ f S (some (a0, M)) 101 [(0, vr (some a0)), (3, vi x3), (4, vi x4), (5, vi x5)] [] := by
  intro n
  induction n with
  | zero =>
    intro x3 x4 x5 M hf
    have hf : (none : Option (Int32 × MS)) = some (r, M1) := hf
    cases hf
  | succ n ih =>
    intro x3 x4 x5 M hf
    unfold f_X3_from_n101 at hf
    have hk_101 := ih
    refine j_iload (pc := 101) hc dX3_from_101 3 rfl ?_
    refine j_aload_n (pc := 103) hc dX3_from_103 0 rfl rfl ?_
    refine j_mgA (pc := 104) hc ho fm_21 rfl dX3_from_104 ?_
    refine j_iload (pc := 107) hc dX3_from_107 2 rfl ?_
    obtain ⟨v1, ev1, hf1⟩ := ob_i hf
    clear hf
    refine j_mldI (pc := 109) hc (k := 4) (by decide) rfl dX3_from_109 ev1 ?_
    refine j_icmp_ge (pc := 110) hc dX3_from_110 (tgt := 143) rfl (fun hh => ?_) (fun hh => ?_)
    · have hf2 := (if_pos hh).symm.trans hf1
      clear hf1
      refine j_iinc (pc := 143) (L' := [(4, vi (x4 + (-1))), (0, vr (some a0)), (3, vi x3), (5, vi x5)]) (v := (x4 + (-1))) hc dX3_from_143 2 rfl rfl hnL (by decide) rfl ?_
      refine j_goto (pc := 146) hc dX3_from_146 (tgt := 55) rfl ?_
      refine j_loc (L' := [(0, vr (some a0)), (3, vi x3), (4, vi (x4 + (-1)))]) [1, 2, 0] rfl ?_
      exact hk_55 _ _ _ hf2
    · have hf3 := (if_neg hh).symm.trans hf1
      clear hf1
      refine j_aload_n (pc := 113) hc dX3_from_113 0 rfl rfl ?_
      refine j_mgA (pc := 114) hc ho fm_138 rfl dX3_from_114 ?_
      refine j_bipush (pc := 117) (v := (8)) hc dX3_from_117 rfl ?_
      refine j_iload (pc := 119) hc dX3_from_119 2 rfl ?_
      refine j_imul (pc := 121) hc dX3_from_121 ?_
      refine j_iload (pc := 122) hc dX3_from_122 3 rfl ?_
      refine j_iadd (pc := 124) hc dX3_from_124 ?_
      obtain ⟨v2, ev2, hf4⟩ := ob_i hf3
      clear hf3
      refine j_mldZ (pc := 125) hc (k := 56) (by decide) rfl dX3_from_125 ev2 ?_
      refine j_if_eq (pc := 126) hc dX3_from_126 (tgt := 137) rfl (fun hh => ?_) (fun hh => ?_)
      · have hf5 := (if_pos hh).symm.trans hf4
        clear hf4
        refine j_iinc (pc := 137) (L' := [(5, vi (x5 + (1))), (0, vr (some a0)), (3, vi x3), (4, vi x4)]) (v := (x5 + (1))) hc dX3_from_137 3 rfl rfl hnL (by decide) rfl ?_
        refine j_goto (pc := 140) hc dX3_from_140 (tgt := 101) rfl ?_
        refine j_loc (L' := [(0, vr (some a0)), (3, vi x3), (4, vi x4), (5, vi (x5 + (1)))]) [1, 2, 3, 0] rfl ?_
        exact hk_101 _ _ _ _ hf5
      · have hf6 := (if_neg hh).symm.trans hf4
        clear hf4
        refine j_aload_n (pc := 129) hc dX3_from_129 0 rfl rfl ?_
        refine j_iload (pc := 130) hc dX3_from_130 2 rfl ?_
        refine j_iload (pc := 132) hc dX3_from_132 3 rfl ?_
        obtain ⟨N3, eN3, hf7⟩ := ob_i hf6
        clear hf6
        refine j_callV (pc := 134) (As := [vi x4, vi x5]) (rest := []) (st2 := []) hc ho cw_X3_336 (c_X3_marksUsed eN3) (Or.inr ⟨rfl, _, rfl⟩) hrm ⟨by decide, by decide⟩ rfl (Nat.le_of_ble_eq_true rfl) dX3_from_134 rfl rfl ?_
        refine j_iinc (pc := 137) (L' := [(5, vi (x5 + (1))), (0, vr (some a0)), (3, vi x3), (4, vi x4)]) (v := (x5 + (1))) hc dX3_from_137 3 rfl rfl hnL (by decide) rfl ?_
        refine j_goto (pc := 140) hc dX3_from_140 (tgt := 101) rfl ?_
        refine j_loc (L' := [(0, vr (some a0)), (3, vi x3), (4, vi x4), (5, vi (x5 + (1)))]) [1, 2, 3, 0] rfl ?_
        exact hk_101 _ _ _ _ hf7
set_option maxRecDepth 100000 in
set_option maxHeartbeats 2000000 in
theorem w_X3_from_n193 {f : CfT} {a0 : Nat} {r : Int32} {S : HS} {M1 : MS} (hc : cf_cc f = cX3_from) (ho : cf_ow f = "TableCatalogModel") (hnL : cf_nL f = 6) (hrm : cf_rm f = (4, 132)) (hre : cf_re f = (some (.int))) (hct : cf_ct f = false) (hq : Qok f (some (vi r)) S (some (a0, M1))) {k_157 : Int32 → Int32 → MS → Option (Int32 × MS)} (hk_157 : ∀ (x3 : Int32) (x4 : Int32) (M : MS), k_157 x3 x4 M = some (r, M1) → JJ f S (some (a0, M)) 157 [(0, vr (some a0)), (3, vi x3), (4, vi x4)] []) {x3 : Int32} {x4 : Int32} {M : MS} (hf : f_X3_from_n193 k_157 x3 x4 M = some (r, M1)) : JJ f S (some (a0, M)) 193 [(0, vr (some a0)), (3, vi x3), (4, vi x4)] [] := by
  unfold f_X3_from_n193 at hf
  refine j_aload_n (pc := 193) hc dX3_from_193 0 rfl rfl ?_
  refine j_iload (pc := 194) hc dX3_from_194 2 rfl ?_
  obtain ⟨N1, eN1, hf1⟩ := ob_i hf
  clear hf
  refine j_callV (pc := 196) (As := [vi x4]) (rest := []) (st2 := []) hc ho cw_X3_339 (c_X3_finds eN1) (Or.inr ⟨rfl, _, rfl⟩) hrm ⟨by decide, by decide⟩ rfl (Nat.le_of_ble_eq_true rfl) dX3_from_196 rfl rfl ?_
  refine j_iinc (pc := 199) (L' := [(4, vi (x4 + (1))), (0, vr (some a0)), (3, vi x3)]) (v := (x4 + (1))) hc dX3_from_199 2 rfl rfl hnL (by decide) rfl ?_
  refine j_goto (pc := 202) hc dX3_from_202 (tgt := 157) rfl ?_
  refine j_loc (L' := [(0, vr (some a0)), (3, vi x3), (4, vi (x4 + (1)))]) [1, 2, 0] rfl ?_
  exact hk_157 _ _ _ hf1
set_option maxRecDepth 100000 in
set_option maxHeartbeats 2000000 in
theorem w_X3_from_n157 {f : CfT} {a0 : Nat} {r : Int32} {S : HS} {M1 : MS} (hc : cf_cc f = cX3_from) (ho : cf_ow f = "TableCatalogModel") (hnL : cf_nL f = 6) (hrm : cf_rm f = (4, 132)) (hre : cf_re f = (some (.int))) (hct : cf_ct f = false) (hq : Qok f (some (vi r)) S (some (a0, M1))) : ∀ (n : Nat) (x3 : Int32) (x4 : Int32) (M : MS), f_X3_from_n157 n x3 x4 M = some (r, M1) → JJ f S (some (a0, M)) 157 [(0, vr (some a0)), (3, vi x3), (4, vi x4)] [] := by
  intro n
  induction n with
  | zero =>
    intro x3 x4 M hf
    have hf : (none : Option (Int32 × MS)) = some (r, M1) := hf
    cases hf
  | succ n ih =>
    intro x3 x4 M hf
    unfold f_X3_from_n157 at hf
    have hk_157 := ih
    refine j_iload (pc := 157) hc dX3_from_157 2 rfl ?_
    refine j_sipush (pc := 159) (v := (136)) hc dX3_from_159 rfl ?_
    refine j_icmp_ge (pc := 162) hc dX3_from_162 (tgt := 205) rfl (fun hh => ?_) (fun hh => ?_)
    · have hf1 := (if_pos hh).symm.trans hf
      clear hf
      refine j_aload_n (pc := 205) hc dX3_from_205 0 rfl rfl ?_
      refine j_mgI (pc := 206) hc ho fm_324 rfl dX3_from_206 ?_
      cases hf1
      exact j_iret (pc := 209) hc hq hre rfl dX3_from_209
    · have hf2 := (if_neg hh).symm.trans hf
      clear hf
      refine j_aload_n (pc := 165) hc dX3_from_165 0 rfl rfl ?_
      refine j_mgA (pc := 166) hc ho fm_138 rfl dX3_from_166 ?_
      refine j_iload (pc := 169) hc dX3_from_169 2 rfl ?_
      obtain ⟨v1, ev1, hf3⟩ := ob_i hf2
      clear hf2
      refine j_mldZ (pc := 171) hc (k := 56) (by decide) rfl dX3_from_171 ev1 ?_
      refine j_if_eq (pc := 172) hc dX3_from_172 (tgt := 199) rfl (fun hh => ?_) (fun hh => ?_)
      · have hf4 := (if_pos hh).symm.trans hf3
        clear hf3
        refine j_iinc (pc := 199) (L' := [(4, vi (x4 + (1))), (0, vr (some a0)), (3, vi x3)]) (v := (x4 + (1))) hc dX3_from_199 2 rfl rfl hnL (by decide) rfl ?_
        refine j_goto (pc := 202) hc dX3_from_202 (tgt := 157) rfl ?_
        refine j_loc (L' := [(0, vr (some a0)), (3, vi x3), (4, vi (x4 + (1)))]) [1, 2, 0] rfl ?_
        exact hk_157 _ _ _ hf4
      · have hf5 := (if_neg hh).symm.trans hf3
        clear hf3
        refine j_iload_n (pc := 175) hc dX3_from_175 1 rfl rfl ?_
        refine j_iconst (pc := 176) (v := (2)) hc dX3_from_176 rfl ?_
        refine j_icmp_lt (pc := 177) hc dX3_from_177 (tgt := 193) rfl (fun hh => ?_) (fun hh => ?_)
        · have hf6 := (if_pos hh).symm.trans hf5
          clear hf5
          exact w_X3_from_n193 hc ho hnL hrm hre hct hq hk_157 hf6
        · have hf7 := (if_neg hh).symm.trans hf5
          clear hf5
          refine j_aload_n (pc := 180) hc dX3_from_180 0 rfl rfl ?_
          refine j_mgA (pc := 181) hc ho fm_17 rfl dX3_from_181 ?_
          refine j_iload (pc := 184) hc dX3_from_184 2 rfl ?_
          refine j_bipush (pc := 186) (v := (8)) hc dX3_from_186 rfl ?_
          refine j_idiv (pc := 188) hc dX3_from_188 (by decide) ?_
          obtain ⟨v2, ev2, hf8⟩ := ob_i hf7
          clear hf7
          refine j_mldI (pc := 189) hc (k := 3) (by decide) rfl dX3_from_189 ev2 ?_
          refine j_if_ne (pc := 190) hc dX3_from_190 (tgt := 199) rfl (fun hh => ?_) (fun hh => ?_)
          · have hf9 := (if_neg hh).symm.trans hf8
            clear hf8
            refine j_iinc (pc := 199) (L' := [(4, vi (x4 + (1))), (0, vr (some a0)), (3, vi x3)]) (v := (x4 + (1))) hc dX3_from_199 2 rfl rfl hnL (by decide) rfl ?_
            refine j_goto (pc := 202) hc dX3_from_202 (tgt := 157) rfl ?_
            refine j_loc (L' := [(0, vr (some a0)), (3, vi x3), (4, vi (x4 + (1)))]) [1, 2, 0] rfl ?_
            exact hk_157 _ _ _ hf9
          · have hf10 := (if_pos hh).symm.trans hf8
            clear hf8
            exact w_X3_from_n193 hc ho hnL hrm hre hct hq hk_157 hf10
set_option maxRecDepth 100000 in
set_option maxHeartbeats 2000000 in
theorem w_X3_from_n149 {f : CfT} {a0 : Nat} {r : Int32} {S : HS} {M1 : MS} (hc : cf_cc f = cX3_from) (ho : cf_ow f = "TableCatalogModel") (hnL : cf_nL f = 6) (hrm : cf_rm f = (4, 132)) (hre : cf_re f = (some (.int))) (hct : cf_ct f = false) (hq : Qok f (some (vi r)) S (some (a0, M1))) {x3 : Int32} {M : MS} (hf : f_X3_from_n149 x3 M = some (r, M1)) : JJ f S (some (a0, M)) 149 [(0, vr (some a0)), (3, vi x3)] [] := by
  unfold f_X3_from_n149 at hf
  refine j_aload_n (pc := 149) hc dX3_from_149 0 rfl rfl ?_
  refine j_iconst (pc := 150) (v := (0)) hc dX3_from_150 rfl ?_
  obtain ⟨N1, eN1, hf1⟩ := ob_i hf
  clear hf
  refine j_mpI (pc := 151) hc ho fm_324 rfl rfl rfl rfl dX3_from_151 eN1 ?_
  refine j_iconst (pc := 154) (v := (0)) hc dX3_from_154 rfl ?_
  refine j_istore (pc := 155) (L' := [(4, vi (0)), (0, vr (some a0)), (3, vi x3)]) hc dX3_from_155 hnL (by decide) rfl ?_
  refine j_loc (L' := [(0, vr (some a0)), (3, vi x3), (4, vi (0))]) [1, 2, 0] rfl ?_
  exact w_X3_from_n157 hc ho hnL hrm hre hct hq fu_ _ _ _ hf1
set_option maxRecDepth 100000 in
set_option maxHeartbeats 2000000 in
theorem w_X3_from_n55 {f : CfT} {a0 : Nat} {r : Int32} {S : HS} {M1 : MS} (hc : cf_cc f = cX3_from) (ho : cf_ow f = "TableCatalogModel") (hnL : cf_nL f = 6) (hrm : cf_rm f = (4, 132)) (hre : cf_re f = (some (.int))) (hct : cf_ct f = false) (hq : Qok f (some (vi r)) S (some (a0, M1))) : ∀ (n : Nat) (x3 : Int32) (x4 : Int32) (M : MS), f_X3_from_n55 n x3 x4 M = some (r, M1) → JJ f S (some (a0, M)) 55 [(0, vr (some a0)), (3, vi x3), (4, vi x4)] [] := by
  intro n
  induction n with
  | zero =>
    intro x3 x4 M hf
    have hf : (none : Option (Int32 × MS)) = some (r, M1) := hf
    cases hf
  | succ n ih =>
    intro x3 x4 M hf
    unfold f_X3_from_n55 at hf
    have hk_55 := ih
    refine j_iload (pc := 55) hc dX3_from_55 2 rfl ?_
    refine j_if_lt (pc := 57) hc dX3_from_57 (tgt := 149) rfl (fun hh => ?_) (fun hh => ?_)
    · have hf1 := (if_pos hh).symm.trans hf
      clear hf
      refine j_loc (L' := [(0, vr (some a0)), (3, vi x3)]) [0, 1] rfl ?_
      exact w_X3_from_n149 hc ho hnL hrm hre hct hq hf1
    · have hf2 := (if_neg hh).symm.trans hf
      clear hf
      refine j_iload_n (pc := 60) hc dX3_from_60 1 rfl rfl ?_
      refine j_if_le (pc := 61) hc dX3_from_61 (tgt := 149) rfl (fun hh => ?_) (fun hh => ?_)
      · have hf3 := (if_pos hh).symm.trans hf2
        clear hf2
        refine j_loc (L' := [(0, vr (some a0)), (3, vi x3)]) [0, 1] rfl ?_
        exact w_X3_from_n149 hc ho hnL hrm hre hct hq hf3
      · have hf4 := (if_neg hh).symm.trans hf2
        clear hf2
        refine j_aload_n (pc := 64) hc dX3_from_64 0 rfl rfl ?_
        refine j_mgA (pc := 65) hc ho fm_17 rfl dX3_from_65 ?_
        refine j_iload (pc := 68) hc dX3_from_68 2 rfl ?_
        obtain ⟨v1, ev1, hf5⟩ := ob_i hf4
        clear hf4
        refine j_mldI (pc := 70) hc (k := 3) (by decide) rfl dX3_from_70 ev1 ?_
        refine j_if_eq (pc := 71) hc dX3_from_71 (tgt := 143) rfl (fun hh => ?_) (fun hh => ?_)
        · have hf6 := (if_pos hh).symm.trans hf5
          clear hf5
          refine j_iinc (pc := 143) (L' := [(4, vi (x4 + (-1))), (0, vr (some a0)), (3, vi x3)]) (v := (x4 + (-1))) hc dX3_from_143 2 rfl rfl hnL (by decide) rfl ?_
          refine j_goto (pc := 146) hc dX3_from_146 (tgt := 55) rfl ?_
          refine j_loc (L' := [(0, vr (some a0)), (3, vi x3), (4, vi (x4 + (-1)))]) [1, 2, 0] rfl ?_
          exact hk_55 _ _ _ hf6
        · have hf7 := (if_neg hh).symm.trans hf5
          clear hf5
          refine j_aload_n (pc := 74) hc dX3_from_74 0 rfl rfl ?_
          refine j_mgA (pc := 75) hc ho fm_17 rfl dX3_from_75 ?_
          refine j_iload (pc := 78) hc dX3_from_78 2 rfl ?_
          obtain ⟨v2, ev2, hf8⟩ := ob_i hf7
          clear hf7
          refine j_mldI (pc := 80) hc (k := 3) (by decide) rfl dX3_from_80 ev2 ?_
          refine j_iconst (pc := 81) (v := (3)) hc dX3_from_81 rfl ?_
          refine j_icmp_eq (pc := 82) hc dX3_from_82 (tgt := 143) rfl (fun hh => ?_) (fun hh => ?_)
          · have hf9 := (if_pos hh).symm.trans hf8
            clear hf8
            refine j_iinc (pc := 143) (L' := [(4, vi (x4 + (-1))), (0, vr (some a0)), (3, vi x3)]) (v := (x4 + (-1))) hc dX3_from_143 2 rfl rfl hnL (by decide) rfl ?_
            refine j_goto (pc := 146) hc dX3_from_146 (tgt := 55) rfl ?_
            refine j_loc (L' := [(0, vr (some a0)), (3, vi x3), (4, vi (x4 + (-1)))]) [1, 2, 0] rfl ?_
            exact hk_55 _ _ _ hf9
          · have hf10 := (if_neg hh).symm.trans hf8
            clear hf8
            refine j_aload_n (pc := 85) hc dX3_from_85 0 rfl rfl ?_
            refine j_mgA (pc := 86) hc ho fm_7 rfl dX3_from_86 ?_
            refine j_iload (pc := 89) hc dX3_from_89 2 rfl ?_
            obtain ⟨v3, ev3, hf11⟩ := ob_i hf10
            clear hf10
            refine j_mldZ (pc := 91) hc (k := 1) (by decide) rfl dX3_from_91 ev3 ?_
            refine j_if_ne (pc := 92) hc dX3_from_92 (tgt := 98) rfl (fun hh => ?_) (fun hh => ?_)
            · have hf12 := (if_neg hh).symm.trans hf11
              clear hf11
              refine j_iconst (pc := 98) (v := (0)) hc dX3_from_98 rfl ?_
              refine j_istore (pc := 99) (L' := [(5, vi (0)), (0, vr (some a0)), (3, vi x3), (4, vi x4)]) hc dX3_from_99 hnL (by decide) rfl ?_
              refine j_loc (L' := [(0, vr (some a0)), (3, vi x3), (4, vi x4), (5, vi (0))]) [1, 2, 3, 0] rfl ?_
              exact w_X3_from_n101 hc ho hnL hrm hre hct hq hk_55 fu_ _ _ _ _ hf12
            · have hf13 := (if_pos hh).symm.trans hf11
              clear hf11
              refine j_goto (pc := 95) hc dX3_from_95 (tgt := 143) rfl ?_
              refine j_iinc (pc := 143) (L' := [(4, vi (x4 + (-1))), (0, vr (some a0)), (3, vi x3)]) (v := (x4 + (-1))) hc dX3_from_143 2 rfl rfl hnL (by decide) rfl ?_
              refine j_goto (pc := 146) hc dX3_from_146 (tgt := 55) rfl ?_
              refine j_loc (L' := [(0, vr (some a0)), (3, vi x3), (4, vi (x4 + (-1)))]) [1, 2, 0] rfl ?_
              exact hk_55 _ _ _ hf13
set_option maxRecDepth 100000 in
set_option maxHeartbeats 2000000 in
theorem w_X3_from_n50 {f : CfT} {a0 : Nat} {r : Int32} {S : HS} {M1 : MS} (hc : cf_cc f = cX3_from) (ho : cf_ow f = "TableCatalogModel") (hnL : cf_nL f = 6) (hrm : cf_rm f = (4, 132)) (hre : cf_re f = (some (.int))) (hct : cf_ct f = false) (hq : Qok f (some (vi r)) S (some (a0, M1))) {x1 : Int32} {x3 : Int32} {M : MS} (hf : f_X3_from_n50 x1 x3 M = some (r, M1)) : JJ f S (some (a0, M)) 50 [(0, vr (some a0)), (1, vi x1), (3, vi x3)] [] := by
  unfold f_X3_from_n50 at hf
  refine j_iload_n (pc := 50) hc dX3_from_50 1 rfl rfl ?_
  refine j_iconst (pc := 51) (v := (1)) hc dX3_from_51 rfl ?_
  refine j_isub (pc := 52) hc dX3_from_52 ?_
  refine j_istore (pc := 53) (L' := [(4, vi (x1 - (1))), (0, vr (some a0)), (1, vi x1), (3, vi x3)]) hc dX3_from_53 hnL (by decide) rfl ?_
  refine j_loc (L' := [(0, vr (some a0)), (3, vi x3), (4, vi (x1 - (1)))]) [1, 3, 0] rfl ?_
  exact w_X3_from_n55 hc ho hnL hrm hre hct hq fu_ _ _ _ hf
set_option maxRecDepth 100000 in
set_option maxHeartbeats 2000000 in
theorem w_X3_from_n44 {f : CfT} {a0 : Nat} {r : Int32} {S : HS} {M1 : MS} (hc : cf_cc f = cX3_from) (ho : cf_ow f = "TableCatalogModel") (hnL : cf_nL f = 6) (hrm : cf_rm f = (4, 132)) (hre : cf_re f = (some (.int))) (hct : cf_ct f = false) (hq : Qok f (some (vi r)) S (some (a0, M1))) {x1 : Int32} {x2 : Int32} {x3 : Int32} {M : MS} (hf : f_X3_from_n44 x1 x2 x3 M = some (r, M1)) : JJ f S (some (a0, M)) 44 [(0, vr (some a0)), (1, vi x1), (2, vi x2), (3, vi x3)] [] := by
  unfold f_X3_from_n44 at hf
  refine j_aload_n (pc := 44) hc dX3_from_44 0 rfl rfl ?_
  refine j_iload_n (pc := 45) hc dX3_from_45 1 rfl rfl ?_
  refine j_iload_n (pc := 46) hc dX3_from_46 2 rfl rfl ?_
  obtain ⟨N1, eN1, hf1⟩ := ob_i hf
  clear hf
  refine j_callV (pc := 47) (As := [vi x1, vi x2]) (rest := []) (st2 := []) hc ho cw_X3_336 (c_X3_marksUsed eN1) (Or.inr ⟨rfl, _, rfl⟩) hrm ⟨by decide, by decide⟩ rfl (Nat.le_of_ble_eq_true rfl) dX3_from_47 rfl rfl ?_
  refine j_loc (L' := [(0, vr (some a0)), (1, vi x1), (3, vi x3)]) [0, 1, 3] rfl ?_
  exact w_X3_from_n50 hc ho hnL hrm hre hct hq hf1
set_option maxRecDepth 100000 in
set_option maxHeartbeats 2000000 in
theorem c_X3_from {l : Launch} {g : PG} {a0 : Nat} {x1 : Int32} {x2 : Int32} {x3 : Int32} {r : Int32} {S : HS} {M M1 : MS} (hf : f_X3_from x1 x2 x3 M = some (r, M1)) : (h_nx S ≤ h_nx S ∧ h_sl S ≤ h_sl S) ∧ Ct l g yX3_from (ws_ yX3_from cX3_from 6 (some (.int))) 4 132 S (some (a0, M)) [vr (some a0), vi x1, vi x2, vi x3] (some (vi r)) S (some (a0, M1)) := by
  refine met_of false (by decide) (fun h => by first | rfl | cases h) rfl (Nat.le_of_ble_eq_true rfl) (fun f hl hg hc ho hnL hrm hre hct hex hq => ?_)
  subst hl
  subst hg
  unfold f_X3_from at hf
  refine j_aload_n (pc := 0) hc dX3_from_0 0 rfl rfl ?_
  refine j_iload_n (pc := 1) hc dX3_from_1 1 rfl rfl ?_
  refine j_iload_n (pc := 2) hc dX3_from_2 2 rfl rfl ?_
  obtain ⟨v2, N1, ev2, hf1⟩ := ob_c hf
  clear hf
  refine j_callV (pc := 3) (As := [vi x1, vi x2]) (rest := []) (st2 := [vi v2]) hc ho cw_X3_320 (c_X3_isColumn ev2) (Or.inr ⟨rfl, _, rfl⟩) hrm ⟨by decide, by decide⟩ rfl (Nat.le_of_ble_eq_true rfl) dX3_from_3 rfl rfl ?_
  refine j_if_eq (pc := 6) hc dX3_from_6 (tgt := 18) rfl (fun hh => ?_) (fun hh => ?_)
  · have hf2 := (if_pos hh).symm.trans hf1
    clear hf1
    refine j_iconst (pc := 18) (v := (-1)) hc dX3_from_18 rfl ?_
    cases hf2
    exact j_iret (pc := 19) hc hq hre rfl dX3_from_19
  · have hf3 := (if_neg hh).symm.trans hf1
    clear hf1
    refine j_iload_n (pc := 9) hc dX3_from_9 3 rfl rfl ?_
    refine j_if_lt (pc := 10) hc dX3_from_10 (tgt := 18) rfl (fun hh => ?_) (fun hh => ?_)
    · have hf4 := (if_pos hh).symm.trans hf3
      clear hf3
      refine j_iconst (pc := 18) (v := (-1)) hc dX3_from_18 rfl ?_
      cases hf4
      exact j_iret (pc := 19) hc hq hre rfl dX3_from_19
    · have hf5 := (if_neg hh).symm.trans hf3
      clear hf3
      refine j_iload_n (pc := 13) hc dX3_from_13 3 rfl rfl ?_
      refine j_iconst (pc := 14) (v := (2)) hc dX3_from_14 rfl ?_
      refine j_icmp_le (pc := 15) hc dX3_from_15 (tgt := 20) rfl (fun hh => ?_) (fun hh => ?_)
      · have hf6 := (if_pos hh).symm.trans hf5
        clear hf5
        refine j_aload_n (pc := 20) hc dX3_from_20 0 rfl rfl ?_
        obtain ⟨N3, eN3, hf7⟩ := ob_i hf6
        clear hf6
        refine j_callV (pc := 21) (As := []) (rest := []) (st2 := []) hc ho cw_X3_333 (c_X3_clears eN3) (Or.inr ⟨rfl, _, rfl⟩) hrm ⟨by decide, by decide⟩ rfl (Nat.le_of_ble_eq_true rfl) dX3_from_21 rfl rfl ?_
        refine j_aload_n (pc := 24) hc dX3_from_24 0 rfl rfl ?_
        refine j_mgA (pc := 25) hc ho fm_17 rfl dX3_from_25 ?_
        refine j_iload_n (pc := 28) hc dX3_from_28 1 rfl rfl ?_
        obtain ⟨v4, ev4, hf8⟩ := ob_i hf7
        clear hf7
        refine j_mldI (pc := 29) hc (k := 3) (by decide) rfl dX3_from_29 ev4 ?_
        refine j_iconst (pc := 30) (v := (1)) hc dX3_from_30 rfl ?_
        refine j_icmp_eq (pc := 31) hc dX3_from_31 (tgt := 44) rfl (fun hh => ?_) (fun hh => ?_)
        · have hf9 := (if_pos hh).symm.trans hf8
          clear hf8
          exact w_X3_from_n44 hc ho hnL hrm hre hct hq hf9
        · have hf10 := (if_neg hh).symm.trans hf8
          clear hf8
          refine j_aload_n (pc := 34) hc dX3_from_34 0 rfl rfl ?_
          refine j_mgA (pc := 35) hc ho fm_17 rfl dX3_from_35 ?_
          refine j_iload_n (pc := 38) hc dX3_from_38 1 rfl rfl ?_
          obtain ⟨v5, ev5, hf11⟩ := ob_i hf10
          clear hf10
          refine j_mldI (pc := 39) hc (k := 3) (by decide) rfl dX3_from_39 ev5 ?_
          refine j_iconst (pc := 40) (v := (2)) hc dX3_from_40 rfl ?_
          refine j_icmp_ne (pc := 41) hc dX3_from_41 (tgt := 50) rfl (fun hh => ?_) (fun hh => ?_)
          · have hf12 := (if_neg hh).symm.trans hf11
            clear hf11
            refine j_loc (L' := [(0, vr (some a0)), (1, vi x1), (3, vi x3)]) [0, 1, 3] rfl ?_
            exact w_X3_from_n50 hc ho hnL hrm hre hct hq hf12
          · have hf13 := (if_pos hh).symm.trans hf11
            clear hf11
            exact w_X3_from_n44 hc ho hnL hrm hre hct hq hf13
      · have hf14 := (if_neg hh).symm.trans hf5
        clear hf5
        refine j_iconst (pc := 18) (v := (-1)) hc dX3_from_18 rfl ?_
        cases hf14
        exact j_iret (pc := 19) hc hq hre rfl dX3_from_19
def f_X3_usesMarked_n12 : Nat → Int32 → Int32 → Int32 → MS → Option (Int32 × MS)
  | 0, _, _, _, _ => none
  | n + 1, x1, x2, x3, M =>
    (g_mA M 19 (((8) * x1) + x2)).bind fun v1 =>
    if v1 ≤ x3 then
      some ((0), M)
    else
      o_bd (f_X3_isNameAt x1 x3 M) fun v3 N2 =>
      if v3 = 0 then
        (fun x1 x2 x3 M => f_X3_usesMarked_n12 n x1 x2 x3 M) x1 x2 (x3 + (1)) N2
      else
        o_bd (f_X3_usedAt x1 x3 N2) fun v5 N4 =>
        (g_mA N4 56 v5).bind fun v6 =>
        if v6 = 0 then
          (fun x1 x2 x3 M => f_X3_usesMarked_n12 n x1 x2 x3 M) x1 x2 ((x3 + (2)) + (1)) N4
        else
          some ((1), N4)
def f_X3_usesMarked (x1 : Int32) (x2 : Int32) (M : MS) : Option (Int32 × MS) :=
  (g_mA M 18 (((8) * x1) + x2)).bind fun v1 =>
  f_X3_usesMarked_n12 fu_ x1 x2 v1 M
set_option maxRecDepth 100000 in
set_option maxHeartbeats 2000000 in
theorem w_X3_usesMarked_n12 {f : CfT} {a0 : Nat} {r : Int32} {S : HS} {M1 : MS} (hc : cf_cc f = cX3_usesMarked) (ho : cf_ow f = "TableCatalogModel") (hnL : cf_nL f = 4) (hrm : cf_rm f = (3, 109)) (hre : cf_re f = (some (.boolean))) (hct : cf_ct f = false) (hq : Qok f (some (vi r)) S (some (a0, M1))) : ∀ (n : Nat) (x1 : Int32) (x2 : Int32) (x3 : Int32) (M : MS), f_X3_usesMarked_n12 n x1 x2 x3 M = some (r, M1) → JJ f S (some (a0, M)) 12 [(0, vr (some a0)), (1, vi x1), (2, vi x2), (3, vi x3)] [] := by
  intro n
  induction n with
  | zero =>
    intro x1 x2 x3 M hf
    have hf : (none : Option (Int32 × MS)) = some (r, M1) := hf
    cases hf
  | succ n ih =>
    intro x1 x2 x3 M hf
    unfold f_X3_usesMarked_n12 at hf
    have hk_12 := ih
    refine j_iload_n (pc := 12) hc dX3_usesMarked_12 3 rfl rfl ?_
    refine j_aload_n (pc := 13) hc dX3_usesMarked_13 0 rfl rfl ?_
    refine j_mgA (pc := 14) hc ho fm_66 rfl dX3_usesMarked_14 ?_
    refine j_bipush (pc := 17) (v := (8)) hc dX3_usesMarked_17 rfl ?_
    refine j_iload_n (pc := 19) hc dX3_usesMarked_19 1 rfl rfl ?_
    refine j_imul (pc := 20) hc dX3_usesMarked_20 ?_
    refine j_iload_n (pc := 21) hc dX3_usesMarked_21 2 rfl rfl ?_
    refine j_iadd (pc := 22) hc dX3_usesMarked_22 ?_
    obtain ⟨v1, ev1, hf1⟩ := ob_i hf
    clear hf
    refine j_mldI (pc := 23) hc (k := 19) (by decide) rfl dX3_usesMarked_23 ev1 ?_
    refine j_icmp_ge (pc := 24) hc dX3_usesMarked_24 (tgt := 64) rfl (fun hh => ?_) (fun hh => ?_)
    · have hf2 := (if_pos hh).symm.trans hf1
      clear hf1
      refine j_iconst (pc := 64) (v := (0)) hc dX3_usesMarked_64 rfl ?_
      cases hf2
      exact j_iret (pc := 65) hc hq hre rfl dX3_usesMarked_65
    · have hf3 := (if_neg hh).symm.trans hf1
      clear hf1
      refine j_aload_n (pc := 27) hc dX3_usesMarked_27 0 rfl rfl ?_
      refine j_iload_n (pc := 28) hc dX3_usesMarked_28 1 rfl rfl ?_
      refine j_iload_n (pc := 29) hc dX3_usesMarked_29 3 rfl rfl ?_
      obtain ⟨v3, N2, ev3, hf4⟩ := ob_c hf3
      clear hf3
      refine j_callV (pc := 30) (As := [vi x1, vi x3]) (rest := []) (st2 := [vi v3]) hc ho cw_X3_327 (c_X3_isNameAt ev3) (Or.inr ⟨rfl, _, rfl⟩) hrm ⟨by decide, by decide⟩ rfl (Nat.le_of_ble_eq_true rfl) dX3_usesMarked_30 rfl rfl ?_
      refine j_if_ne (pc := 33) hc dX3_usesMarked_33 (tgt := 39) rfl (fun hh => ?_) (fun hh => ?_)
      · have hf5 := (if_neg hh).symm.trans hf4
        clear hf4
        refine j_aload_n (pc := 39) hc dX3_usesMarked_39 0 rfl rfl ?_
        refine j_mgA (pc := 40) hc ho fm_138 rfl dX3_usesMarked_40 ?_
        refine j_aload_n (pc := 43) hc dX3_usesMarked_43 0 rfl rfl ?_
        refine j_iload_n (pc := 44) hc dX3_usesMarked_44 1 rfl rfl ?_
        refine j_iload_n (pc := 45) hc dX3_usesMarked_45 3 rfl rfl ?_
        obtain ⟨v5, N4, ev5, hf6⟩ := ob_c hf5
        clear hf5
        refine j_callV (pc := 46) (As := [vi x1, vi x3]) (rest := [vr (some (a0 + m_po 56))]) (st2 := [vi v5, vr (some (a0 + m_po 56))]) hc ho cw_X3_330 (c_X3_usedAt ev5) (Or.inr ⟨rfl, _, rfl⟩) hrm ⟨by decide, by decide⟩ rfl (Nat.le_of_ble_eq_true rfl) dX3_usesMarked_46 rfl rfl ?_
        obtain ⟨v6, ev6, hf7⟩ := ob_i hf6
        clear hf6
        refine j_mldZ (pc := 49) hc (k := 56) (by decide) rfl dX3_usesMarked_49 ev6 ?_
        refine j_if_eq (pc := 50) hc dX3_usesMarked_50 (tgt := 55) rfl (fun hh => ?_) (fun hh => ?_)
        · have hf8 := (if_pos hh).symm.trans hf7
          clear hf7
          refine j_iinc (pc := 55) (L' := [(3, vi (x3 + (2))), (0, vr (some a0)), (1, vi x1), (2, vi x2)]) (v := (x3 + (2))) hc dX3_usesMarked_55 3 rfl rfl hnL (by decide) rfl ?_
          refine j_iinc (pc := 58) (L' := [(3, vi ((x3 + (2)) + (1))), (0, vr (some a0)), (1, vi x1), (2, vi x2)]) (v := ((x3 + (2)) + (1))) hc dX3_usesMarked_58 0 rfl rfl hnL (by decide) rfl ?_
          refine j_goto (pc := 61) hc dX3_usesMarked_61 (tgt := 12) rfl ?_
          refine j_loc (L' := [(0, vr (some a0)), (1, vi x1), (2, vi x2), (3, vi ((x3 + (2)) + (1)))]) [1, 2, 3, 0] rfl ?_
          exact hk_12 _ _ _ _ hf8
        · have hf9 := (if_neg hh).symm.trans hf7
          clear hf7
          refine j_iconst (pc := 53) (v := (1)) hc dX3_usesMarked_53 rfl ?_
          cases hf9
          exact j_iret (pc := 54) hc hq hre rfl dX3_usesMarked_54
      · have hf10 := (if_pos hh).symm.trans hf4
        clear hf4
        refine j_goto (pc := 36) hc dX3_usesMarked_36 (tgt := 58) rfl ?_
        refine j_iinc (pc := 58) (L' := [(3, vi (x3 + (1))), (0, vr (some a0)), (1, vi x1), (2, vi x2)]) (v := (x3 + (1))) hc dX3_usesMarked_58 3 rfl rfl hnL (by decide) rfl ?_
        refine j_goto (pc := 61) hc dX3_usesMarked_61 (tgt := 12) rfl ?_
        refine j_loc (L' := [(0, vr (some a0)), (1, vi x1), (2, vi x2), (3, vi (x3 + (1)))]) [1, 2, 3, 0] rfl ?_
        exact hk_12 _ _ _ _ hf10
set_option maxRecDepth 100000 in
set_option maxHeartbeats 2000000 in
theorem c_X3_usesMarked {l : Launch} {g : PG} {a0 : Nat} {x1 : Int32} {x2 : Int32} {r : Int32} {S : HS} {M M1 : MS} (hf : f_X3_usesMarked x1 x2 M = some (r, M1)) : (h_nx S ≤ h_nx S ∧ h_sl S ≤ h_sl S) ∧ Ct l g yX3_usesMarked (ws_ yX3_usesMarked cX3_usesMarked 4 (some (.boolean))) 3 109 S (some (a0, M)) [vr (some a0), vi x1, vi x2] (some (vi r)) S (some (a0, M1)) := by
  refine met_of false (by decide) (fun h => by first | rfl | cases h) rfl (Nat.le_of_ble_eq_true rfl) (fun f hl hg hc ho hnL hrm hre hct hex hq => ?_)
  subst hl
  subst hg
  unfold f_X3_usesMarked at hf
  refine j_aload_n (pc := 0) hc dX3_usesMarked_0 0 rfl rfl ?_
  refine j_mgA (pc := 1) hc ho fm_63 rfl dX3_usesMarked_1 ?_
  refine j_bipush (pc := 4) (v := (8)) hc dX3_usesMarked_4 rfl ?_
  refine j_iload_n (pc := 6) hc dX3_usesMarked_6 1 rfl rfl ?_
  refine j_imul (pc := 7) hc dX3_usesMarked_7 ?_
  refine j_iload_n (pc := 8) hc dX3_usesMarked_8 2 rfl rfl ?_
  refine j_iadd (pc := 9) hc dX3_usesMarked_9 ?_
  obtain ⟨v1, ev1, hf1⟩ := ob_i hf
  clear hf
  refine j_mldI (pc := 10) hc (k := 18) (by decide) rfl dX3_usesMarked_10 ev1 ?_
  refine j_istore_n (pc := 11) (L' := [(3, vi v1), (0, vr (some a0)), (1, vi x1), (2, vi x2)]) hc dX3_usesMarked_11 rfl hnL (by decide) rfl ?_
  refine j_loc (L' := [(0, vr (some a0)), (1, vi x1), (2, vi x2), (3, vi v1)]) [1, 2, 3, 0] rfl ?_
  exact w_X3_usesMarked_n12 hc ho hnL hrm hre hct hq fu_ _ _ _ _ hf1
theorem cw_X3_342 : CV "TableCatalogModel" 342 RX3 yX3_usesMarked cX3_usesMarked 4 (some (.boolean)) 2 := ⟨⟨q1568, q1570, qs75, q90, q1571⟩, rfl, by decide, by decide, by decide +kernel⟩
def f_X3_touches_n123 (k_20 : Int32 → MS → Option MS) (k_97 : Int32 → Int32 → Int32 → MS → Option MS) (x3 : Int32) (x4 : Int32) (x5 : Int32) (M : MS) : Option MS :=
  (p_mA M 56 (((8) * x3) + x5) (vp_nar .boolean (1))).bind fun N1 =>
  k_97 x3 x4 (x5 + (1)) N1
def f_X3_touches_n97 (k_20 : Int32 → MS → Option MS) : Nat → Int32 → Int32 → Int32 → MS → Option MS
  | 0, _, _, _, _ => none
  | n + 1, x3, x4, x5, M =>
    (g_mA M 4 x3).bind fun v1 =>
    if v1 ≤ x5 then
      k_20 (x3 + (1)) M
    else
      if x4 = 0 then
        o_bd (f_X3_usesMarked x3 x5 M) fun v3 N2 =>
        if v3 = 0 then
          (fun x3 x4 x5 M => f_X3_touches_n97 k_20 n x3 x4 x5 M) x3 x4 (x5 + (1)) N2
        else
          f_X3_touches_n123 k_20 (fun x3 x4 x5 M => f_X3_touches_n97 k_20 n x3 x4 x5 M) x3 x4 x5 N2
      else
        f_X3_touches_n123 k_20 (fun x3 x4 x5 M => f_X3_touches_n97 k_20 n x3 x4 x5 M) x3 x4 x5 M
def f_X3_touches_n87 (k_20 : Int32 → MS → Option MS) (x3 : Int32) (M : MS) : Option MS :=
  f_X3_touches_n97 k_20 fu_ x3 (1) (0) M
def f_X3_touches_n91 (k_20 : Int32 → MS → Option MS) (x3 : Int32) (M : MS) : Option MS :=
  f_X3_touches_n97 k_20 fu_ x3 (0) (0) M
def f_X3_touches_n20 : Nat → Int32 → MS → Option MS
  | 0, _, _ => none
  | n + 1, x3, M =>
    if (m_I M 0) ≤ x3 then
      some M
    else
      (g_mA M 1 x3).bind fun v1 =>
      if v1 = 0 then
        (fun x3 M => f_X3_touches_n20 n x3 M) (x3 + (1)) M
      else
        (g_mA M 3 x3).bind fun v2 =>
        if v2 = 0 then
          (fun x3 M => f_X3_touches_n20 n x3 M) (x3 + (1)) M
        else
          (g_mA M 3 x3).bind fun v3 =>
          if v3 = (3) then
            (fun x3 M => f_X3_touches_n20 n x3 M) (x3 + (1)) M
          else
            o_bd (f_X3_hasWhere x3 M) fun v5 N4 =>
            if v5 = 0 then
              f_X3_touches_n91 (fun x3 M => f_X3_touches_n20 n x3 M) x3 N4
            else
              o_bd (f_X3_usesMarked x3 (6) N4) fun v7 N6 =>
              if v7 = 0 then
                o_bd (f_X3_usesMarked x3 (7) N6) fun v9 N8 =>
                if v9 = 0 then
                  f_X3_touches_n91 (fun x3 M => f_X3_touches_n20 n x3 M) x3 N8
                else
                  f_X3_touches_n87 (fun x3 M => f_X3_touches_n20 n x3 M) x3 N8
              else
                f_X3_touches_n87 (fun x3 M => f_X3_touches_n20 n x3 M) x3 N6
def f_X3_touches (x1 : Int32) (x2 : Int32) (M : MS) : Option MS :=
  (f_X3_clears M).bind fun N1 =>
  (p_mA N1 56 (((8) * x1) + x2) (vp_nar .boolean (1))).bind fun N2 =>
  f_X3_touches_n20 fu_ (x1 + (1)) N2
set_option maxRecDepth 100000 in
set_option maxHeartbeats 2000000 in
theorem w_X3_touches_n123 {f : CfT} {a0 : Nat} {S : HS} {M1 : MS} (hc : cf_cc f = cX3_touches) (ho : cf_ow f = "TableCatalogModel") (hnL : cf_nL f = 6) (hrm : cf_rm f = (4, 132)) (hre : cf_re f = none) (hct : cf_ct f = false) (hq : Qok f none S (some (a0, M1))) {k_20 : Int32 → MS → Option MS} (hk_20 : ∀ (x3 : Int32) (M : MS), k_20 x3 M = some M1 → JJ f S (some (a0, M)) 20 [(0, vr (some a0)), (3, vi x3)] []) {k_97 : Int32 → Int32 → Int32 → MS → Option MS} (hk_97 : ∀ (x3 : Int32) (x4 : Int32) (x5 : Int32) (M : MS), k_97 x3 x4 x5 M = some M1 → JJ f S (some (a0, M)) 97 [(0, vr (some a0)), (3, vi x3), (4, vi x4), (5, vi x5)] []) {x3 : Int32} {x4 : Int32} {x5 : Int32} {M : MS} (hf : f_X3_touches_n123 k_20 k_97 x3 x4 x5 M = some M1) : JJ f S (some (a0, M)) 123 [(0, vr (some a0)), (3, vi x3), (4, vi x4), (5, vi x5)] [] := by
  unfold f_X3_touches_n123 at hf
  refine j_aload_n (pc := 123) hc dX3_touches_123 0 rfl rfl ?_
  refine j_mgA (pc := 124) hc ho fm_138 rfl dX3_touches_124 ?_
  refine j_bipush (pc := 127) (v := (8)) hc dX3_touches_127 rfl ?_
  refine j_iload_n (pc := 129) hc dX3_touches_129 1 rfl rfl ?_
  refine j_imul (pc := 130) hc dX3_touches_130 ?_
  refine j_iload (pc := 131) hc dX3_touches_131 3 rfl ?_
  refine j_iadd (pc := 133) hc dX3_touches_133 ?_
  refine j_iconst (pc := 134) (v := (1)) hc dX3_touches_134 rfl ?_
  obtain ⟨N1, eN1, hf1⟩ := ob_i hf
  clear hf
  refine j_mstZ (pc := 135) hc (k := 56) (by decide) rfl dX3_touches_135 eN1 ?_
  refine j_iinc (pc := 136) (L' := [(5, vi (x5 + (1))), (0, vr (some a0)), (3, vi x3), (4, vi x4)]) (v := (x5 + (1))) hc dX3_touches_136 3 rfl rfl hnL (by decide) rfl ?_
  refine j_goto (pc := 139) hc dX3_touches_139 (tgt := 97) rfl ?_
  refine j_loc (L' := [(0, vr (some a0)), (3, vi x3), (4, vi x4), (5, vi (x5 + (1)))]) [1, 2, 3, 0] rfl ?_
  exact hk_97 _ _ _ _ hf1
set_option maxRecDepth 100000 in
set_option maxHeartbeats 2000000 in
theorem w_X3_touches_n97 {f : CfT} {a0 : Nat} {S : HS} {M1 : MS} (hc : cf_cc f = cX3_touches) (ho : cf_ow f = "TableCatalogModel") (hnL : cf_nL f = 6) (hrm : cf_rm f = (4, 132)) (hre : cf_re f = none) (hct : cf_ct f = false) (hq : Qok f none S (some (a0, M1))) {k_20 : Int32 → MS → Option MS} (hk_20 : ∀ (x3 : Int32) (M : MS), k_20 x3 M = some M1 → JJ f S (some (a0, M)) 20 [(0, vr (some a0)), (3, vi x3)] []) : ∀ (n : Nat) (x3 : Int32) (x4 : Int32) (x5 : Int32) (M : MS), f_X3_touches_n97 k_20 n x3 x4 x5 M = some M1 → JJ f S (some (a0, M)) 97 [(0, vr (some a0)), (3, vi x3), (4, vi x4), (5, vi x5)] [] := by
  intro n
  induction n with
  | zero =>
    intro x3 x4 x5 M hf
    have hf : (none : Option MS) = some M1 := hf
    cases hf
  | succ n ih =>
    intro x3 x4 x5 M hf
    unfold f_X3_touches_n97 at hf
    have hk_97 := ih
    refine j_iload (pc := 97) hc dX3_touches_97 3 rfl ?_
    refine j_aload_n (pc := 99) hc dX3_touches_99 0 rfl rfl ?_
    refine j_mgA (pc := 100) hc ho fm_21 rfl dX3_touches_100 ?_
    refine j_iload_n (pc := 103) hc dX3_touches_103 1 rfl rfl ?_
    obtain ⟨v1, ev1, hf1⟩ := ob_i hf
    clear hf
    refine j_mldI (pc := 104) hc (k := 4) (by decide) rfl dX3_touches_104 ev1 ?_
    refine j_icmp_ge (pc := 105) hc dX3_touches_105 (tgt := 142) rfl (fun hh => ?_) (fun hh => ?_)
    · have hf2 := (if_pos hh).symm.trans hf1
      clear hf1
      refine j_iinc (pc := 142) (L' := [(3, vi (x3 + (1))), (0, vr (some a0)), (4, vi x4), (5, vi x5)]) (v := (x3 + (1))) hc dX3_touches_142 1 rfl rfl hnL (by decide) rfl ?_
      refine j_goto (pc := 145) hc dX3_touches_145 (tgt := 20) rfl ?_
      refine j_loc (L' := [(0, vr (some a0)), (3, vi (x3 + (1)))]) [1, 0] rfl ?_
      exact hk_20 _ _ hf2
    · have hf3 := (if_neg hh).symm.trans hf1
      clear hf1
      refine j_iload (pc := 108) hc dX3_touches_108 2 rfl ?_
      refine j_if_ne (pc := 110) hc dX3_touches_110 (tgt := 123) rfl (fun hh => ?_) (fun hh => ?_)
      · have hf4 := (if_neg hh).symm.trans hf3
        clear hf3
        exact w_X3_touches_n123 hc ho hnL hrm hre hct hq hk_20 hk_97 hf4
      · have hf5 := (if_pos hh).symm.trans hf3
        clear hf3
        refine j_aload_n (pc := 113) hc dX3_touches_113 0 rfl rfl ?_
        refine j_iload_n (pc := 114) hc dX3_touches_114 1 rfl rfl ?_
        refine j_iload (pc := 115) hc dX3_touches_115 3 rfl ?_
        obtain ⟨v3, N2, ev3, hf6⟩ := ob_c hf5
        clear hf5
        refine j_callV (pc := 117) (As := [vi x3, vi x5]) (rest := []) (st2 := [vi v3]) hc ho cw_X3_342 (c_X3_usesMarked ev3) (Or.inr ⟨rfl, _, rfl⟩) hrm ⟨by decide, by decide⟩ rfl (Nat.le_of_ble_eq_true rfl) dX3_touches_117 rfl rfl ?_
        refine j_if_eq (pc := 120) hc dX3_touches_120 (tgt := 136) rfl (fun hh => ?_) (fun hh => ?_)
        · have hf7 := (if_pos hh).symm.trans hf6
          clear hf6
          refine j_iinc (pc := 136) (L' := [(5, vi (x5 + (1))), (0, vr (some a0)), (3, vi x3), (4, vi x4)]) (v := (x5 + (1))) hc dX3_touches_136 3 rfl rfl hnL (by decide) rfl ?_
          refine j_goto (pc := 139) hc dX3_touches_139 (tgt := 97) rfl ?_
          refine j_loc (L' := [(0, vr (some a0)), (3, vi x3), (4, vi x4), (5, vi (x5 + (1)))]) [1, 2, 3, 0] rfl ?_
          exact hk_97 _ _ _ _ hf7
        · have hf8 := (if_neg hh).symm.trans hf6
          clear hf6
          exact w_X3_touches_n123 hc ho hnL hrm hre hct hq hk_20 hk_97 hf8
set_option maxRecDepth 100000 in
set_option maxHeartbeats 2000000 in
theorem w_X3_touches_n87 {f : CfT} {a0 : Nat} {S : HS} {M1 : MS} (hc : cf_cc f = cX3_touches) (ho : cf_ow f = "TableCatalogModel") (hnL : cf_nL f = 6) (hrm : cf_rm f = (4, 132)) (hre : cf_re f = none) (hct : cf_ct f = false) (hq : Qok f none S (some (a0, M1))) {k_20 : Int32 → MS → Option MS} (hk_20 : ∀ (x3 : Int32) (M : MS), k_20 x3 M = some M1 → JJ f S (some (a0, M)) 20 [(0, vr (some a0)), (3, vi x3)] []) {x3 : Int32} {M : MS} (hf : f_X3_touches_n87 k_20 x3 M = some M1) : JJ f S (some (a0, M)) 87 [(0, vr (some a0)), (3, vi x3)] [] := by
  unfold f_X3_touches_n87 at hf
  refine j_iconst (pc := 87) (v := (1)) hc dX3_touches_87 rfl ?_
  refine j_goto (pc := 88) hc dX3_touches_88 (tgt := 92) rfl ?_
  refine j_istore (pc := 92) (L' := [(4, vi (1)), (0, vr (some a0)), (3, vi x3)]) hc dX3_touches_92 hnL (by decide) rfl ?_
  refine j_iconst (pc := 94) (v := (0)) hc dX3_touches_94 rfl ?_
  refine j_istore (pc := 95) (L' := [(5, vi (0)), (4, vi (1)), (0, vr (some a0)), (3, vi x3)]) hc dX3_touches_95 hnL (by decide) rfl ?_
  refine j_loc (L' := [(0, vr (some a0)), (3, vi x3), (4, vi (1)), (5, vi (0))]) [2, 3, 1, 0] rfl ?_
  exact w_X3_touches_n97 hc ho hnL hrm hre hct hq hk_20 fu_ _ _ _ _ hf
set_option maxRecDepth 100000 in
set_option maxHeartbeats 2000000 in
theorem w_X3_touches_n91 {f : CfT} {a0 : Nat} {S : HS} {M1 : MS} (hc : cf_cc f = cX3_touches) (ho : cf_ow f = "TableCatalogModel") (hnL : cf_nL f = 6) (hrm : cf_rm f = (4, 132)) (hre : cf_re f = none) (hct : cf_ct f = false) (hq : Qok f none S (some (a0, M1))) {k_20 : Int32 → MS → Option MS} (hk_20 : ∀ (x3 : Int32) (M : MS), k_20 x3 M = some M1 → JJ f S (some (a0, M)) 20 [(0, vr (some a0)), (3, vi x3)] []) {x3 : Int32} {M : MS} (hf : f_X3_touches_n91 k_20 x3 M = some M1) : JJ f S (some (a0, M)) 91 [(0, vr (some a0)), (3, vi x3)] [] := by
  unfold f_X3_touches_n91 at hf
  refine j_iconst (pc := 91) (v := (0)) hc dX3_touches_91 rfl ?_
  refine j_istore (pc := 92) (L' := [(4, vi (0)), (0, vr (some a0)), (3, vi x3)]) hc dX3_touches_92 hnL (by decide) rfl ?_
  refine j_iconst (pc := 94) (v := (0)) hc dX3_touches_94 rfl ?_
  refine j_istore (pc := 95) (L' := [(5, vi (0)), (4, vi (0)), (0, vr (some a0)), (3, vi x3)]) hc dX3_touches_95 hnL (by decide) rfl ?_
  refine j_loc (L' := [(0, vr (some a0)), (3, vi x3), (4, vi (0)), (5, vi (0))]) [2, 3, 1, 0] rfl ?_
  exact w_X3_touches_n97 hc ho hnL hrm hre hct hq hk_20 fu_ _ _ _ _ hf
set_option maxRecDepth 100000 in
set_option maxHeartbeats 2000000 in
theorem w_X3_touches_n20 {f : CfT} {a0 : Nat} {S : HS} {M1 : MS} (hc : cf_cc f = cX3_touches) (ho : cf_ow f = "TableCatalogModel") (hnL : cf_nL f = 6) (hrm : cf_rm f = (4, 132)) (hre : cf_re f = none) (hct : cf_ct f = false) (hq : Qok f none S (some (a0, M1))) : ∀ (n : Nat) (x3 : Int32) (M : MS), f_X3_touches_n20 n x3 M = some M1 → JJ f S (some (a0, M)) 20 [(0, vr (some a0)), (3, vi x3)] [] := by
  intro n
  induction n with
  | zero =>
    intro x3 M hf
    have hf : (none : Option MS) = some M1 := hf
    cases hf
  | succ n ih =>
    intro x3 M hf
    unfold f_X3_touches_n20 at hf
    have hk_20 := ih
    refine j_iload_n (pc := 20) hc dX3_touches_20 1 rfl rfl ?_
    refine j_aload_n (pc := 21) hc dX3_touches_21 0 rfl rfl ?_
    refine j_mgI (pc := 22) hc ho fm_159 rfl dX3_touches_22 ?_
    refine j_icmp_ge (pc := 25) hc dX3_touches_25 (tgt := 148) rfl (fun hh => ?_) (fun hh => ?_)
    · have hf1 := (if_pos hh).symm.trans hf
      clear hf
      cases hf1
      exact j_vret (pc := 148) hc hq hre dX3_touches_148
    · have hf2 := (if_neg hh).symm.trans hf
      clear hf
      refine j_aload_n (pc := 28) hc dX3_touches_28 0 rfl rfl ?_
      refine j_mgA (pc := 29) hc ho fm_7 rfl dX3_touches_29 ?_
      refine j_iload_n (pc := 32) hc dX3_touches_32 1 rfl rfl ?_
      obtain ⟨v1, ev1, hf3⟩ := ob_i hf2
      clear hf2
      refine j_mldZ (pc := 33) hc (k := 1) (by decide) rfl dX3_touches_33 ev1 ?_
      refine j_if_eq (pc := 34) hc dX3_touches_34 (tgt := 142) rfl (fun hh => ?_) (fun hh => ?_)
      · have hf4 := (if_pos hh).symm.trans hf3
        clear hf3
        refine j_iinc (pc := 142) (L' := [(3, vi (x3 + (1))), (0, vr (some a0))]) (v := (x3 + (1))) hc dX3_touches_142 1 rfl rfl hnL (by decide) rfl ?_
        refine j_goto (pc := 145) hc dX3_touches_145 (tgt := 20) rfl ?_
        refine j_loc (L' := [(0, vr (some a0)), (3, vi (x3 + (1)))]) [1, 0] rfl ?_
        exact hk_20 _ _ hf4
      · have hf5 := (if_neg hh).symm.trans hf3
        clear hf3
        refine j_aload_n (pc := 37) hc dX3_touches_37 0 rfl rfl ?_
        refine j_mgA (pc := 38) hc ho fm_17 rfl dX3_touches_38 ?_
        refine j_iload_n (pc := 41) hc dX3_touches_41 1 rfl rfl ?_
        obtain ⟨v2, ev2, hf6⟩ := ob_i hf5
        clear hf5
        refine j_mldI (pc := 42) hc (k := 3) (by decide) rfl dX3_touches_42 ev2 ?_
        refine j_if_eq (pc := 43) hc dX3_touches_43 (tgt := 142) rfl (fun hh => ?_) (fun hh => ?_)
        · have hf7 := (if_pos hh).symm.trans hf6
          clear hf6
          refine j_iinc (pc := 142) (L' := [(3, vi (x3 + (1))), (0, vr (some a0))]) (v := (x3 + (1))) hc dX3_touches_142 1 rfl rfl hnL (by decide) rfl ?_
          refine j_goto (pc := 145) hc dX3_touches_145 (tgt := 20) rfl ?_
          refine j_loc (L' := [(0, vr (some a0)), (3, vi (x3 + (1)))]) [1, 0] rfl ?_
          exact hk_20 _ _ hf7
        · have hf8 := (if_neg hh).symm.trans hf6
          clear hf6
          refine j_aload_n (pc := 46) hc dX3_touches_46 0 rfl rfl ?_
          refine j_mgA (pc := 47) hc ho fm_17 rfl dX3_touches_47 ?_
          refine j_iload_n (pc := 50) hc dX3_touches_50 1 rfl rfl ?_
          obtain ⟨v3, ev3, hf9⟩ := ob_i hf8
          clear hf8
          refine j_mldI (pc := 51) hc (k := 3) (by decide) rfl dX3_touches_51 ev3 ?_
          refine j_iconst (pc := 52) (v := (3)) hc dX3_touches_52 rfl ?_
          refine j_icmp_ne (pc := 53) hc dX3_touches_53 (tgt := 59) rfl (fun hh => ?_) (fun hh => ?_)
          · have hf10 := (if_neg hh).symm.trans hf9
            clear hf9
            refine j_aload_n (pc := 59) hc dX3_touches_59 0 rfl rfl ?_
            refine j_iload_n (pc := 60) hc dX3_touches_60 1 rfl rfl ?_
            obtain ⟨v5, N4, ev5, hf11⟩ := ob_c hf10
            clear hf10
            refine j_callV (pc := 61) (As := [vi x3]) (rest := []) (st2 := [vi v5]) hc ho cw_X3_295 (c_X3_hasWhere ev5) (Or.inr ⟨rfl, _, rfl⟩) hrm ⟨by decide, by decide⟩ rfl (Nat.le_of_ble_eq_true rfl) dX3_touches_61 rfl rfl ?_
            refine j_if_eq (pc := 64) hc dX3_touches_64 (tgt := 91) rfl (fun hh => ?_) (fun hh => ?_)
            · have hf12 := (if_pos hh).symm.trans hf11
              clear hf11
              exact w_X3_touches_n91 hc ho hnL hrm hre hct hq hk_20 hf12
            · have hf13 := (if_neg hh).symm.trans hf11
              clear hf11
              refine j_aload_n (pc := 67) hc dX3_touches_67 0 rfl rfl ?_
              refine j_iload_n (pc := 68) hc dX3_touches_68 1 rfl rfl ?_
              refine j_bipush (pc := 69) (v := (6)) hc dX3_touches_69 rfl ?_
              obtain ⟨v7, N6, ev7, hf14⟩ := ob_c hf13
              clear hf13
              refine j_callV (pc := 71) (As := [vi x3, vi (6)]) (rest := []) (st2 := [vi v7]) hc ho cw_X3_342 (c_X3_usesMarked ev7) (Or.inr ⟨rfl, _, rfl⟩) hrm ⟨by decide, by decide⟩ rfl (Nat.le_of_ble_eq_true rfl) dX3_touches_71 rfl rfl ?_
              refine j_if_ne (pc := 74) hc dX3_touches_74 (tgt := 87) rfl (fun hh => ?_) (fun hh => ?_)
              · have hf15 := (if_neg hh).symm.trans hf14
                clear hf14
                exact w_X3_touches_n87 hc ho hnL hrm hre hct hq hk_20 hf15
              · have hf16 := (if_pos hh).symm.trans hf14
                clear hf14
                refine j_aload_n (pc := 77) hc dX3_touches_77 0 rfl rfl ?_
                refine j_iload_n (pc := 78) hc dX3_touches_78 1 rfl rfl ?_
                refine j_bipush (pc := 79) (v := (7)) hc dX3_touches_79 rfl ?_
                obtain ⟨v9, N8, ev9, hf17⟩ := ob_c hf16
                clear hf16
                refine j_callV (pc := 81) (As := [vi x3, vi (7)]) (rest := []) (st2 := [vi v9]) hc ho cw_X3_342 (c_X3_usesMarked ev9) (Or.inr ⟨rfl, _, rfl⟩) hrm ⟨by decide, by decide⟩ rfl (Nat.le_of_ble_eq_true rfl) dX3_touches_81 rfl rfl ?_
                refine j_if_eq (pc := 84) hc dX3_touches_84 (tgt := 91) rfl (fun hh => ?_) (fun hh => ?_)
                · have hf18 := (if_pos hh).symm.trans hf17
                  clear hf17
                  exact w_X3_touches_n91 hc ho hnL hrm hre hct hq hk_20 hf18
                · have hf19 := (if_neg hh).symm.trans hf17
                  clear hf17
                  exact w_X3_touches_n87 hc ho hnL hrm hre hct hq hk_20 hf19
          · have hf20 := (if_pos hh).symm.trans hf9
            clear hf9
            refine j_goto (pc := 56) hc dX3_touches_56 (tgt := 142) rfl ?_
            refine j_iinc (pc := 142) (L' := [(3, vi (x3 + (1))), (0, vr (some a0))]) (v := (x3 + (1))) hc dX3_touches_142 1 rfl rfl hnL (by decide) rfl ?_
            refine j_goto (pc := 145) hc dX3_touches_145 (tgt := 20) rfl ?_
            refine j_loc (L' := [(0, vr (some a0)), (3, vi (x3 + (1)))]) [1, 0] rfl ?_
            exact hk_20 _ _ hf20
set_option maxRecDepth 100000 in
set_option maxHeartbeats 2000000 in
theorem c_X3_touches {l : Launch} {g : PG} {a0 : Nat} {x1 : Int32} {x2 : Int32} {S : HS} {M M1 : MS} (hf : f_X3_touches x1 x2 M = some M1) : (h_nx S ≤ h_nx S ∧ h_sl S ≤ h_sl S) ∧ Ct l g yX3_touches (ws_ yX3_touches cX3_touches 6 none) 4 132 S (some (a0, M)) [vr (some a0), vi x1, vi x2] none S (some (a0, M1)) := by
  refine met_of false (by decide) (fun h => by first | rfl | cases h) rfl (Nat.le_of_ble_eq_true rfl) (fun f hl hg hc ho hnL hrm hre hct hex hq => ?_)
  subst hl
  subst hg
  unfold f_X3_touches at hf
  refine j_aload_n (pc := 0) hc dX3_touches_0 0 rfl rfl ?_
  obtain ⟨N1, eN1, hf1⟩ := ob_i hf
  clear hf
  refine j_callV (pc := 1) (As := []) (rest := []) (st2 := []) hc ho cw_X3_333 (c_X3_clears eN1) (Or.inr ⟨rfl, _, rfl⟩) hrm ⟨by decide, by decide⟩ rfl (Nat.le_of_ble_eq_true rfl) dX3_touches_1 rfl rfl ?_
  refine j_aload_n (pc := 4) hc dX3_touches_4 0 rfl rfl ?_
  refine j_mgA (pc := 5) hc ho fm_138 rfl dX3_touches_5 ?_
  refine j_bipush (pc := 8) (v := (8)) hc dX3_touches_8 rfl ?_
  refine j_iload_n (pc := 10) hc dX3_touches_10 1 rfl rfl ?_
  refine j_imul (pc := 11) hc dX3_touches_11 ?_
  refine j_iload_n (pc := 12) hc dX3_touches_12 2 rfl rfl ?_
  refine j_iadd (pc := 13) hc dX3_touches_13 ?_
  refine j_iconst (pc := 14) (v := (1)) hc dX3_touches_14 rfl ?_
  obtain ⟨N2, eN2, hf2⟩ := ob_i hf1
  clear hf1
  refine j_mstZ (pc := 15) hc (k := 56) (by decide) rfl dX3_touches_15 eN2 ?_
  refine j_iload_n (pc := 16) hc dX3_touches_16 1 rfl rfl ?_
  refine j_iconst (pc := 17) (v := (1)) hc dX3_touches_17 rfl ?_
  refine j_iadd (pc := 18) hc dX3_touches_18 ?_
  refine j_istore_n (pc := 19) (L' := [(3, vi (x1 + (1))), (0, vr (some a0)), (1, vi x1), (2, vi x2)]) hc dX3_touches_19 rfl hnL (by decide) rfl ?_
  refine j_loc (L' := [(0, vr (some a0)), (3, vi (x1 + (1)))]) [1, 0] rfl ?_
  exact w_X3_touches_n20 hc ho hnL hrm hre hct hq fu_ _ _ hf2
theorem cw_X3_345 : CV "TableCatalogModel" 345 RX3 yX3_touches cX3_touches 6 none 2 := ⟨⟨q1564, q1566, qs74, q90, q1567⟩, rfl, by decide, by decide, by decide +kernel⟩
def f_X3_touch_n24 : Nat → Int32 → Int32 → Int32 → MS → Option (Int32 × MS)
  | 0, _, _, _, _ => none
  | n + 1, x1, x2, x3, M =>
    if (136) ≤ x3 then
      some ((m_I M 57), M)
    else
      (g_mA M 56 x3).bind fun v1 =>
      if v1 = 0 then
        (fun x1 x2 x3 M => f_X3_touch_n24 n x1 x2 x3 M) x1 x2 (x3 + (1)) M
      else
        if x3 = (((8) * x1) + x2) then
          (fun x1 x2 x3 M => f_X3_touch_n24 n x1 x2 x3 M) x1 x2 (x3 + (1)) M
        else
          (f_X3_finds x3 M).bind fun N2 =>
          (fun x1 x2 x3 M => f_X3_touch_n24 n x1 x2 x3 M) x1 x2 (x3 + (1)) N2
def f_X3_touch (x1 : Int32) (x2 : Int32) (M : MS) : Option (Int32 × MS) :=
  o_bd (f_X3_isColumn x1 x2 M) fun v2 N1 =>
  if v2 = 0 then
    some ((-1), N1)
  else
    (f_X3_touches x1 x2 N1).bind fun N3 =>
    (some (m_sI N3 57 (0))).bind fun N4 =>
    f_X3_touch_n24 fu_ x1 x2 (0) N4
set_option maxRecDepth 100000 in
set_option maxHeartbeats 2000000 in
theorem w_X3_touch_n24 {f : CfT} {a0 : Nat} {r : Int32} {S : HS} {M1 : MS} (hc : cf_cc f = cX3_touch) (ho : cf_ow f = "TableCatalogModel") (hnL : cf_nL f = 4) (hrm : cf_rm f = (5, 157)) (hre : cf_re f = (some (.int))) (hct : cf_ct f = false) (hq : Qok f (some (vi r)) S (some (a0, M1))) : ∀ (n : Nat) (x1 : Int32) (x2 : Int32) (x3 : Int32) (M : MS), f_X3_touch_n24 n x1 x2 x3 M = some (r, M1) → JJ f S (some (a0, M)) 24 [(0, vr (some a0)), (1, vi x1), (2, vi x2), (3, vi x3)] [] := by
  intro n
  induction n with
  | zero =>
    intro x1 x2 x3 M hf
    have hf : (none : Option (Int32 × MS)) = some (r, M1) := hf
    cases hf
  | succ n ih =>
    intro x1 x2 x3 M hf
    unfold f_X3_touch_n24 at hf
    have hk_24 := ih
    refine j_iload_n (pc := 24) hc dX3_touch_24 3 rfl rfl ?_
    refine j_sipush (pc := 25) (v := (136)) hc dX3_touch_25 rfl ?_
    refine j_icmp_ge (pc := 28) hc dX3_touch_28 (tgt := 61) rfl (fun hh => ?_) (fun hh => ?_)
    · have hf1 := (if_pos hh).symm.trans hf
      clear hf
      refine j_aload_n (pc := 61) hc dX3_touch_61 0 rfl rfl ?_
      refine j_mgI (pc := 62) hc ho fm_324 rfl dX3_touch_62 ?_
      cases hf1
      exact j_iret (pc := 65) hc hq hre rfl dX3_touch_65
    · have hf2 := (if_neg hh).symm.trans hf
      clear hf
      refine j_aload_n (pc := 31) hc dX3_touch_31 0 rfl rfl ?_
      refine j_mgA (pc := 32) hc ho fm_138 rfl dX3_touch_32 ?_
      refine j_iload_n (pc := 35) hc dX3_touch_35 3 rfl rfl ?_
      obtain ⟨v1, ev1, hf3⟩ := ob_i hf2
      clear hf2
      refine j_mldZ (pc := 36) hc (k := 56) (by decide) rfl dX3_touch_36 ev1 ?_
      refine j_if_eq (pc := 37) hc dX3_touch_37 (tgt := 55) rfl (fun hh => ?_) (fun hh => ?_)
      · have hf4 := (if_pos hh).symm.trans hf3
        clear hf3
        refine j_iinc (pc := 55) (L' := [(3, vi (x3 + (1))), (0, vr (some a0)), (1, vi x1), (2, vi x2)]) (v := (x3 + (1))) hc dX3_touch_55 3 rfl rfl hnL (by decide) rfl ?_
        refine j_goto (pc := 58) hc dX3_touch_58 (tgt := 24) rfl ?_
        refine j_loc (L' := [(0, vr (some a0)), (1, vi x1), (2, vi x2), (3, vi (x3 + (1)))]) [1, 2, 3, 0] rfl ?_
        exact hk_24 _ _ _ _ hf4
      · have hf5 := (if_neg hh).symm.trans hf3
        clear hf3
        refine j_iload_n (pc := 40) hc dX3_touch_40 3 rfl rfl ?_
        refine j_bipush (pc := 41) (v := (8)) hc dX3_touch_41 rfl ?_
        refine j_iload_n (pc := 43) hc dX3_touch_43 1 rfl rfl ?_
        refine j_imul (pc := 44) hc dX3_touch_44 ?_
        refine j_iload_n (pc := 45) hc dX3_touch_45 2 rfl rfl ?_
        refine j_iadd (pc := 46) hc dX3_touch_46 ?_
        refine j_icmp_eq (pc := 47) hc dX3_touch_47 (tgt := 55) rfl (fun hh => ?_) (fun hh => ?_)
        · have hf6 := (if_pos hh).symm.trans hf5
          clear hf5
          refine j_iinc (pc := 55) (L' := [(3, vi (x3 + (1))), (0, vr (some a0)), (1, vi x1), (2, vi x2)]) (v := (x3 + (1))) hc dX3_touch_55 3 rfl rfl hnL (by decide) rfl ?_
          refine j_goto (pc := 58) hc dX3_touch_58 (tgt := 24) rfl ?_
          refine j_loc (L' := [(0, vr (some a0)), (1, vi x1), (2, vi x2), (3, vi (x3 + (1)))]) [1, 2, 3, 0] rfl ?_
          exact hk_24 _ _ _ _ hf6
        · have hf7 := (if_neg hh).symm.trans hf5
          clear hf5
          refine j_aload_n (pc := 50) hc dX3_touch_50 0 rfl rfl ?_
          refine j_iload_n (pc := 51) hc dX3_touch_51 3 rfl rfl ?_
          obtain ⟨N2, eN2, hf8⟩ := ob_i hf7
          clear hf7
          refine j_callV (pc := 52) (As := [vi x3]) (rest := []) (st2 := []) hc ho cw_X3_339 (c_X3_finds eN2) (Or.inr ⟨rfl, _, rfl⟩) hrm ⟨by decide, by decide⟩ rfl (Nat.le_of_ble_eq_true rfl) dX3_touch_52 rfl rfl ?_
          refine j_iinc (pc := 55) (L' := [(3, vi (x3 + (1))), (0, vr (some a0)), (1, vi x1), (2, vi x2)]) (v := (x3 + (1))) hc dX3_touch_55 3 rfl rfl hnL (by decide) rfl ?_
          refine j_goto (pc := 58) hc dX3_touch_58 (tgt := 24) rfl ?_
          refine j_loc (L' := [(0, vr (some a0)), (1, vi x1), (2, vi x2), (3, vi (x3 + (1)))]) [1, 2, 3, 0] rfl ?_
          exact hk_24 _ _ _ _ hf8
set_option maxRecDepth 100000 in
set_option maxHeartbeats 2000000 in
theorem c_X3_touch {l : Launch} {g : PG} {a0 : Nat} {x1 : Int32} {x2 : Int32} {r : Int32} {S : HS} {M M1 : MS} (hf : f_X3_touch x1 x2 M = some (r, M1)) : (h_nx S ≤ h_nx S ∧ h_sl S ≤ h_sl S) ∧ Ct l g yX3_touch (ws_ yX3_touch cX3_touch 4 (some (.int))) 5 157 S (some (a0, M)) [vr (some a0), vi x1, vi x2] (some (vi r)) S (some (a0, M1)) := by
  refine met_of false (by decide) (fun h => by first | rfl | cases h) rfl (Nat.le_of_ble_eq_true rfl) (fun f hl hg hc ho hnL hrm hre hct hex hq => ?_)
  subst hl
  subst hg
  unfold f_X3_touch at hf
  refine j_aload_n (pc := 0) hc dX3_touch_0 0 rfl rfl ?_
  refine j_iload_n (pc := 1) hc dX3_touch_1 1 rfl rfl ?_
  refine j_iload_n (pc := 2) hc dX3_touch_2 2 rfl rfl ?_
  obtain ⟨v2, N1, ev2, hf1⟩ := ob_c hf
  clear hf
  refine j_callV (pc := 3) (As := [vi x1, vi x2]) (rest := []) (st2 := [vi v2]) hc ho cw_X3_320 (c_X3_isColumn ev2) (Or.inr ⟨rfl, _, rfl⟩) hrm ⟨by decide, by decide⟩ rfl (Nat.le_of_ble_eq_true rfl) dX3_touch_3 rfl rfl ?_
  refine j_if_ne (pc := 6) hc dX3_touch_6 (tgt := 11) rfl (fun hh => ?_) (fun hh => ?_)
  · have hf2 := (if_neg hh).symm.trans hf1
    clear hf1
    refine j_aload_n (pc := 11) hc dX3_touch_11 0 rfl rfl ?_
    refine j_iload_n (pc := 12) hc dX3_touch_12 1 rfl rfl ?_
    refine j_iload_n (pc := 13) hc dX3_touch_13 2 rfl rfl ?_
    obtain ⟨N3, eN3, hf3⟩ := ob_i hf2
    clear hf2
    refine j_callV (pc := 14) (As := [vi x1, vi x2]) (rest := []) (st2 := []) hc ho cw_X3_345 (c_X3_touches eN3) (Or.inr ⟨rfl, _, rfl⟩) hrm ⟨by decide, by decide⟩ rfl (Nat.le_of_ble_eq_true rfl) dX3_touch_14 rfl rfl ?_
    refine j_aload_n (pc := 17) hc dX3_touch_17 0 rfl rfl ?_
    refine j_iconst (pc := 18) (v := (0)) hc dX3_touch_18 rfl ?_
    obtain ⟨N4, eN4, hf4⟩ := ob_i hf3
    clear hf3
    refine j_mpI (pc := 19) hc ho fm_324 rfl rfl rfl rfl dX3_touch_19 eN4 ?_
    refine j_iconst (pc := 22) (v := (0)) hc dX3_touch_22 rfl ?_
    refine j_istore_n (pc := 23) (L' := [(3, vi (0)), (0, vr (some a0)), (1, vi x1), (2, vi x2)]) hc dX3_touch_23 rfl hnL (by decide) rfl ?_
    refine j_loc (L' := [(0, vr (some a0)), (1, vi x1), (2, vi x2), (3, vi (0))]) [1, 2, 3, 0] rfl ?_
    exact w_X3_touch_n24 hc ho hnL hrm hre hct hq fu_ _ _ _ _ hf4
  · have hf5 := (if_pos hh).symm.trans hf1
    clear hf1
    refine j_iconst (pc := 9) (v := (-1)) hc dX3_touch_9 rfl ?_
    cases hf5
    exact j_iret (pc := 10) hc hq hre rfl dX3_touch_10
theorem fm_150 : FM 150 62 := ⟨by decide, q1235⟩
theorem fm_147 : FM 147 61 := ⟨by decide, q1234⟩
theorem fm_348 : FM 348 59 := ⟨by decide, q1232⟩
def f_X3_asked_n85 (k_24 : Int32 → MS → Option (Int32 × MS)) (k_38 : Int32 → Int32 → Int32 → MS → Option (Int32 × MS)) (x3 : Int32) (x5 : Int32) (M : MS) : Option (Int32 × MS) :=
  k_38 x3 (1) (x5 + (1)) M
def f_X3_asked_n89 (k_24 : Int32 → MS → Option (Int32 × MS)) (k_38 : Int32 → Int32 → Int32 → MS → Option (Int32 × MS)) (x3 : Int32) (x5 : Int32) (M : MS) : Option (Int32 × MS) :=
  k_38 x3 (0) (x5 + (1)) M
def f_X3_asked_n38 (k_24 : Int32 → MS → Option (Int32 × MS)) : Nat → Int32 → Int32 → Int32 → MS → Option (Int32 × MS)
  | 0, _, _, _, _ => none
  | n + 1, x3, x4, x5, M =>
    if (6) ≤ x5 then
      if x4 = 0 then
        k_24 (x3 + (1)) M
      else
        (f_X3_finds x3 M).bind fun N1 =>
        k_24 (x3 + (1)) N1
    else
      if x4 = 0 then
        (g_mA M 62 x3).bind fun v2 =>
        if ((v2 >>> (x5 &&& 31)) &&& (1)) = (1) then
          (g_mA M 61 x3).bind fun v3 =>
          (g_mA M 56 (((8) * v3) + x5)).bind fun v4 =>
          if v4 = 0 then
            f_X3_asked_n89 k_24 (fun x3 x4 x5 M => f_X3_asked_n38 k_24 n x3 x4 x5 M) x3 x5 M
          else
            f_X3_asked_n85 k_24 (fun x3 x4 x5 M => f_X3_asked_n38 k_24 n x3 x4 x5 M) x3 x5 M
        else
          f_X3_asked_n89 k_24 (fun x3 x4 x5 M => f_X3_asked_n38 k_24 n x3 x4 x5 M) x3 x5 M
      else
        f_X3_asked_n85 k_24 (fun x3 x4 x5 M => f_X3_asked_n38 k_24 n x3 x4 x5 M) x3 x5 M
def f_X3_asked_n24 : Nat → Int32 → MS → Option (Int32 × MS)
  | 0, _, _ => none
  | n + 1, x3, M =>
    if (m_I M 59) ≤ x3 then
      some ((m_I M 57), M)
    else
      f_X3_asked_n38 (fun x3 M => f_X3_asked_n24 n x3 M) fu_ x3 (0) (0) M
def f_X3_asked (x1 : Int32) (x2 : Int32) (M : MS) : Option (Int32 × MS) :=
  o_bd (f_X3_isColumn x1 x2 M) fun v2 N1 =>
  if v2 = 0 then
    some ((-1), N1)
  else
    (f_X3_touches x1 x2 N1).bind fun N3 =>
    (some (m_sI N3 57 (0))).bind fun N4 =>
    f_X3_asked_n24 fu_ (0) N4
set_option maxRecDepth 100000 in
set_option maxHeartbeats 2000000 in
theorem w_X3_asked_n85 {f : CfT} {a0 : Nat} {r : Int32} {S : HS} {M1 : MS} (hc : cf_cc f = cX3_asked) (ho : cf_ow f = "TableCatalogModel") (hnL : cf_nL f = 6) (hrm : cf_rm f = (5, 157)) (hre : cf_re f = (some (.int))) (hct : cf_ct f = false) (hq : Qok f (some (vi r)) S (some (a0, M1))) {k_24 : Int32 → MS → Option (Int32 × MS)} (hk_24 : ∀ (x3 : Int32) (M : MS), k_24 x3 M = some (r, M1) → JJ f S (some (a0, M)) 24 [(0, vr (some a0)), (3, vi x3)] []) {k_38 : Int32 → Int32 → Int32 → MS → Option (Int32 × MS)} (hk_38 : ∀ (x3 : Int32) (x4 : Int32) (x5 : Int32) (M : MS), k_38 x3 x4 x5 M = some (r, M1) → JJ f S (some (a0, M)) 38 [(0, vr (some a0)), (3, vi x3), (4, vi x4), (5, vi x5)] []) {x3 : Int32} {x5 : Int32} {M : MS} (hf : f_X3_asked_n85 k_24 k_38 x3 x5 M = some (r, M1)) : JJ f S (some (a0, M)) 85 [(0, vr (some a0)), (3, vi x3), (5, vi x5)] [] := by
  unfold f_X3_asked_n85 at hf
  refine j_iconst (pc := 85) (v := (1)) hc dX3_asked_85 rfl ?_
  refine j_goto (pc := 86) hc dX3_asked_86 (tgt := 90) rfl ?_
  refine j_istore (pc := 90) (L' := [(4, vi (1)), (0, vr (some a0)), (3, vi x3), (5, vi x5)]) hc dX3_asked_90 hnL (by decide) rfl ?_
  refine j_iinc (pc := 92) (L' := [(5, vi (x5 + (1))), (4, vi (1)), (0, vr (some a0)), (3, vi x3)]) (v := (x5 + (1))) hc dX3_asked_92 3 rfl rfl hnL (by decide) rfl ?_
  refine j_goto (pc := 95) hc dX3_asked_95 (tgt := 38) rfl ?_
  refine j_loc (L' := [(0, vr (some a0)), (3, vi x3), (4, vi (1)), (5, vi (x5 + (1)))]) [2, 3, 1, 0] rfl ?_
  exact hk_38 _ _ _ _ hf
set_option maxRecDepth 100000 in
set_option maxHeartbeats 2000000 in
theorem w_X3_asked_n89 {f : CfT} {a0 : Nat} {r : Int32} {S : HS} {M1 : MS} (hc : cf_cc f = cX3_asked) (ho : cf_ow f = "TableCatalogModel") (hnL : cf_nL f = 6) (hrm : cf_rm f = (5, 157)) (hre : cf_re f = (some (.int))) (hct : cf_ct f = false) (hq : Qok f (some (vi r)) S (some (a0, M1))) {k_24 : Int32 → MS → Option (Int32 × MS)} (hk_24 : ∀ (x3 : Int32) (M : MS), k_24 x3 M = some (r, M1) → JJ f S (some (a0, M)) 24 [(0, vr (some a0)), (3, vi x3)] []) {k_38 : Int32 → Int32 → Int32 → MS → Option (Int32 × MS)} (hk_38 : ∀ (x3 : Int32) (x4 : Int32) (x5 : Int32) (M : MS), k_38 x3 x4 x5 M = some (r, M1) → JJ f S (some (a0, M)) 38 [(0, vr (some a0)), (3, vi x3), (4, vi x4), (5, vi x5)] []) {x3 : Int32} {x5 : Int32} {M : MS} (hf : f_X3_asked_n89 k_24 k_38 x3 x5 M = some (r, M1)) : JJ f S (some (a0, M)) 89 [(0, vr (some a0)), (3, vi x3), (5, vi x5)] [] := by
  unfold f_X3_asked_n89 at hf
  refine j_iconst (pc := 89) (v := (0)) hc dX3_asked_89 rfl ?_
  refine j_istore (pc := 90) (L' := [(4, vi (0)), (0, vr (some a0)), (3, vi x3), (5, vi x5)]) hc dX3_asked_90 hnL (by decide) rfl ?_
  refine j_iinc (pc := 92) (L' := [(5, vi (x5 + (1))), (4, vi (0)), (0, vr (some a0)), (3, vi x3)]) (v := (x5 + (1))) hc dX3_asked_92 3 rfl rfl hnL (by decide) rfl ?_
  refine j_goto (pc := 95) hc dX3_asked_95 (tgt := 38) rfl ?_
  refine j_loc (L' := [(0, vr (some a0)), (3, vi x3), (4, vi (0)), (5, vi (x5 + (1)))]) [2, 3, 1, 0] rfl ?_
  exact hk_38 _ _ _ _ hf
set_option maxRecDepth 100000 in
set_option maxHeartbeats 2000000 in
theorem w_X3_asked_n38 {f : CfT} {a0 : Nat} {r : Int32} {S : HS} {M1 : MS} (hc : cf_cc f = cX3_asked) (ho : cf_ow f = "TableCatalogModel") (hnL : cf_nL f = 6) (hrm : cf_rm f = (5, 157)) (hre : cf_re f = (some (.int))) (hct : cf_ct f = false) (hq : Qok f (some (vi r)) S (some (a0, M1))) {k_24 : Int32 → MS → Option (Int32 × MS)} (hk_24 : ∀ (x3 : Int32) (M : MS), k_24 x3 M = some (r, M1) → JJ f S (some (a0, M)) 24 [(0, vr (some a0)), (3, vi x3)] []) : ∀ (n : Nat) (x3 : Int32) (x4 : Int32) (x5 : Int32) (M : MS), f_X3_asked_n38 k_24 n x3 x4 x5 M = some (r, M1) → JJ f S (some (a0, M)) 38 [(0, vr (some a0)), (3, vi x3), (4, vi x4), (5, vi x5)] [] := by
  intro n
  induction n with
  | zero =>
    intro x3 x4 x5 M hf
    have hf : (none : Option (Int32 × MS)) = some (r, M1) := hf
    cases hf
  | succ n ih =>
    intro x3 x4 x5 M hf
    unfold f_X3_asked_n38 at hf
    have hk_38 := ih
    refine j_iload (pc := 38) hc dX3_asked_38 3 rfl ?_
    refine j_bipush (pc := 40) (v := (6)) hc dX3_asked_40 rfl ?_
    refine j_icmp_ge (pc := 42) hc dX3_asked_42 (tgt := 98) rfl (fun hh => ?_) (fun hh => ?_)
    · have hf1 := (if_pos hh).symm.trans hf
      clear hf
      refine j_iload (pc := 98) hc dX3_asked_98 2 rfl ?_
      refine j_if_eq (pc := 100) hc dX3_asked_100 (tgt := 108) rfl (fun hh => ?_) (fun hh => ?_)
      · have hf2 := (if_pos hh).symm.trans hf1
        clear hf1
        refine j_iinc (pc := 108) (L' := [(3, vi (x3 + (1))), (0, vr (some a0)), (4, vi x4), (5, vi x5)]) (v := (x3 + (1))) hc dX3_asked_108 1 rfl rfl hnL (by decide) rfl ?_
        refine j_goto (pc := 111) hc dX3_asked_111 (tgt := 24) rfl ?_
        refine j_loc (L' := [(0, vr (some a0)), (3, vi (x3 + (1)))]) [1, 0] rfl ?_
        exact hk_24 _ _ hf2
      · have hf3 := (if_neg hh).symm.trans hf1
        clear hf1
        refine j_aload_n (pc := 103) hc dX3_asked_103 0 rfl rfl ?_
        refine j_iload_n (pc := 104) hc dX3_asked_104 1 rfl rfl ?_
        obtain ⟨N1, eN1, hf4⟩ := ob_i hf3
        clear hf3
        refine j_callV (pc := 105) (As := [vi x3]) (rest := []) (st2 := []) hc ho cw_X3_339 (c_X3_finds eN1) (Or.inr ⟨rfl, _, rfl⟩) hrm ⟨by decide, by decide⟩ rfl (Nat.le_of_ble_eq_true rfl) dX3_asked_105 rfl rfl ?_
        refine j_iinc (pc := 108) (L' := [(3, vi (x3 + (1))), (0, vr (some a0)), (4, vi x4), (5, vi x5)]) (v := (x3 + (1))) hc dX3_asked_108 1 rfl rfl hnL (by decide) rfl ?_
        refine j_goto (pc := 111) hc dX3_asked_111 (tgt := 24) rfl ?_
        refine j_loc (L' := [(0, vr (some a0)), (3, vi (x3 + (1)))]) [1, 0] rfl ?_
        exact hk_24 _ _ hf4
    · have hf5 := (if_neg hh).symm.trans hf
      clear hf
      refine j_iload (pc := 45) hc dX3_asked_45 2 rfl ?_
      refine j_if_ne (pc := 47) hc dX3_asked_47 (tgt := 85) rfl (fun hh => ?_) (fun hh => ?_)
      · have hf6 := (if_neg hh).symm.trans hf5
        clear hf5
        refine j_loc (L' := [(0, vr (some a0)), (3, vi x3), (5, vi x5)]) [0, 1, 3] rfl ?_
        exact w_X3_asked_n85 hc ho hnL hrm hre hct hq hk_24 hk_38 hf6
      · have hf7 := (if_pos hh).symm.trans hf5
        clear hf5
        refine j_aload_n (pc := 50) hc dX3_asked_50 0 rfl rfl ?_
        refine j_mgA (pc := 51) hc ho fm_150 rfl dX3_asked_51 ?_
        refine j_iload_n (pc := 54) hc dX3_asked_54 1 rfl rfl ?_
        obtain ⟨v2, ev2, hf8⟩ := ob_i hf7
        clear hf7
        refine j_mldI (pc := 55) hc (k := 62) (by decide) rfl dX3_asked_55 ev2 ?_
        refine j_iload (pc := 56) hc dX3_asked_56 3 rfl ?_
        refine j_ishr (pc := 58) hc dX3_asked_58 ?_
        refine j_iconst (pc := 59) (v := (1)) hc dX3_asked_59 rfl ?_
        refine j_iand (pc := 60) hc dX3_asked_60 ?_
        refine j_iconst (pc := 61) (v := (1)) hc dX3_asked_61 rfl ?_
        refine j_icmp_ne (pc := 62) hc dX3_asked_62 (tgt := 89) rfl (fun hh => ?_) (fun hh => ?_)
        · have hf9 := (if_neg hh).symm.trans hf8
          clear hf8
          refine j_loc (L' := [(0, vr (some a0)), (3, vi x3), (5, vi x5)]) [0, 1, 3] rfl ?_
          exact w_X3_asked_n89 hc ho hnL hrm hre hct hq hk_24 hk_38 hf9
        · have hf10 := (if_pos hh).symm.trans hf8
          clear hf8
          refine j_aload_n (pc := 65) hc dX3_asked_65 0 rfl rfl ?_
          refine j_mgA (pc := 66) hc ho fm_138 rfl dX3_asked_66 ?_
          refine j_bipush (pc := 69) (v := (8)) hc dX3_asked_69 rfl ?_
          refine j_aload_n (pc := 71) hc dX3_asked_71 0 rfl rfl ?_
          refine j_mgA (pc := 72) hc ho fm_147 rfl dX3_asked_72 ?_
          refine j_iload_n (pc := 75) hc dX3_asked_75 1 rfl rfl ?_
          obtain ⟨v3, ev3, hf11⟩ := ob_i hf10
          clear hf10
          refine j_mldI (pc := 76) hc (k := 61) (by decide) rfl dX3_asked_76 ev3 ?_
          refine j_imul (pc := 77) hc dX3_asked_77 ?_
          refine j_iload (pc := 78) hc dX3_asked_78 3 rfl ?_
          refine j_iadd (pc := 80) hc dX3_asked_80 ?_
          obtain ⟨v4, ev4, hf12⟩ := ob_i hf11
          clear hf11
          refine j_mldZ (pc := 81) hc (k := 56) (by decide) rfl dX3_asked_81 ev4 ?_
          refine j_if_eq (pc := 82) hc dX3_asked_82 (tgt := 89) rfl (fun hh => ?_) (fun hh => ?_)
          · have hf13 := (if_pos hh).symm.trans hf12
            clear hf12
            refine j_loc (L' := [(0, vr (some a0)), (3, vi x3), (5, vi x5)]) [0, 1, 3] rfl ?_
            exact w_X3_asked_n89 hc ho hnL hrm hre hct hq hk_24 hk_38 hf13
          · have hf14 := (if_neg hh).symm.trans hf12
            clear hf12
            refine j_loc (L' := [(0, vr (some a0)), (3, vi x3), (5, vi x5)]) [0, 1, 3] rfl ?_
            exact w_X3_asked_n85 hc ho hnL hrm hre hct hq hk_24 hk_38 hf14
set_option maxRecDepth 100000 in
set_option maxHeartbeats 2000000 in
theorem w_X3_asked_n24 {f : CfT} {a0 : Nat} {r : Int32} {S : HS} {M1 : MS} (hc : cf_cc f = cX3_asked) (ho : cf_ow f = "TableCatalogModel") (hnL : cf_nL f = 6) (hrm : cf_rm f = (5, 157)) (hre : cf_re f = (some (.int))) (hct : cf_ct f = false) (hq : Qok f (some (vi r)) S (some (a0, M1))) : ∀ (n : Nat) (x3 : Int32) (M : MS), f_X3_asked_n24 n x3 M = some (r, M1) → JJ f S (some (a0, M)) 24 [(0, vr (some a0)), (3, vi x3)] [] := by
  intro n
  induction n with
  | zero =>
    intro x3 M hf
    have hf : (none : Option (Int32 × MS)) = some (r, M1) := hf
    cases hf
  | succ n ih =>
    intro x3 M hf
    unfold f_X3_asked_n24 at hf
    have hk_24 := ih
    refine j_iload_n (pc := 24) hc dX3_asked_24 1 rfl rfl ?_
    refine j_aload_n (pc := 25) hc dX3_asked_25 0 rfl rfl ?_
    refine j_mgI (pc := 26) hc ho fm_348 rfl dX3_asked_26 ?_
    refine j_icmp_ge (pc := 29) hc dX3_asked_29 (tgt := 114) rfl (fun hh => ?_) (fun hh => ?_)
    · have hf1 := (if_pos hh).symm.trans hf
      clear hf
      refine j_aload_n (pc := 114) hc dX3_asked_114 0 rfl rfl ?_
      refine j_mgI (pc := 115) hc ho fm_324 rfl dX3_asked_115 ?_
      cases hf1
      exact j_iret (pc := 118) hc hq hre rfl dX3_asked_118
    · have hf2 := (if_neg hh).symm.trans hf
      clear hf
      refine j_iconst (pc := 32) (v := (0)) hc dX3_asked_32 rfl ?_
      refine j_istore (pc := 33) (L' := [(4, vi (0)), (0, vr (some a0)), (3, vi x3)]) hc dX3_asked_33 hnL (by decide) rfl ?_
      refine j_iconst (pc := 35) (v := (0)) hc dX3_asked_35 rfl ?_
      refine j_istore (pc := 36) (L' := [(5, vi (0)), (4, vi (0)), (0, vr (some a0)), (3, vi x3)]) hc dX3_asked_36 hnL (by decide) rfl ?_
      refine j_loc (L' := [(0, vr (some a0)), (3, vi x3), (4, vi (0)), (5, vi (0))]) [2, 3, 1, 0] rfl ?_
      exact w_X3_asked_n38 hc ho hnL hrm hre hct hq hk_24 fu_ _ _ _ _ hf2
set_option maxRecDepth 100000 in
set_option maxHeartbeats 2000000 in
theorem c_X3_asked {l : Launch} {g : PG} {a0 : Nat} {x1 : Int32} {x2 : Int32} {r : Int32} {S : HS} {M M1 : MS} (hf : f_X3_asked x1 x2 M = some (r, M1)) : (h_nx S ≤ h_nx S ∧ h_sl S ≤ h_sl S) ∧ Ct l g yX3_asked (ws_ yX3_asked cX3_asked 6 (some (.int))) 5 157 S (some (a0, M)) [vr (some a0), vi x1, vi x2] (some (vi r)) S (some (a0, M1)) := by
  refine met_of false (by decide) (fun h => by first | rfl | cases h) rfl (Nat.le_of_ble_eq_true rfl) (fun f hl hg hc ho hnL hrm hre hct hex hq => ?_)
  subst hl
  subst hg
  unfold f_X3_asked at hf
  refine j_aload_n (pc := 0) hc dX3_asked_0 0 rfl rfl ?_
  refine j_iload_n (pc := 1) hc dX3_asked_1 1 rfl rfl ?_
  refine j_iload_n (pc := 2) hc dX3_asked_2 2 rfl rfl ?_
  obtain ⟨v2, N1, ev2, hf1⟩ := ob_c hf
  clear hf
  refine j_callV (pc := 3) (As := [vi x1, vi x2]) (rest := []) (st2 := [vi v2]) hc ho cw_X3_320 (c_X3_isColumn ev2) (Or.inr ⟨rfl, _, rfl⟩) hrm ⟨by decide, by decide⟩ rfl (Nat.le_of_ble_eq_true rfl) dX3_asked_3 rfl rfl ?_
  refine j_if_ne (pc := 6) hc dX3_asked_6 (tgt := 11) rfl (fun hh => ?_) (fun hh => ?_)
  · have hf2 := (if_neg hh).symm.trans hf1
    clear hf1
    refine j_aload_n (pc := 11) hc dX3_asked_11 0 rfl rfl ?_
    refine j_iload_n (pc := 12) hc dX3_asked_12 1 rfl rfl ?_
    refine j_iload_n (pc := 13) hc dX3_asked_13 2 rfl rfl ?_
    obtain ⟨N3, eN3, hf3⟩ := ob_i hf2
    clear hf2
    refine j_callV (pc := 14) (As := [vi x1, vi x2]) (rest := []) (st2 := []) hc ho cw_X3_345 (c_X3_touches eN3) (Or.inr ⟨rfl, _, rfl⟩) hrm ⟨by decide, by decide⟩ rfl (Nat.le_of_ble_eq_true rfl) dX3_asked_14 rfl rfl ?_
    refine j_aload_n (pc := 17) hc dX3_asked_17 0 rfl rfl ?_
    refine j_iconst (pc := 18) (v := (0)) hc dX3_asked_18 rfl ?_
    obtain ⟨N4, eN4, hf4⟩ := ob_i hf3
    clear hf3
    refine j_mpI (pc := 19) hc ho fm_324 rfl rfl rfl rfl dX3_asked_19 eN4 ?_
    refine j_iconst (pc := 22) (v := (0)) hc dX3_asked_22 rfl ?_
    refine j_istore_n (pc := 23) (L' := [(3, vi (0)), (0, vr (some a0)), (1, vi x1), (2, vi x2)]) hc dX3_asked_23 rfl hnL (by decide) rfl ?_
    refine j_loc (L' := [(0, vr (some a0)), (3, vi (0))]) [1, 0] rfl ?_
    exact w_X3_asked_n24 hc ho hnL hrm hre hct hq fu_ _ _ hf4
  · have hf5 := (if_pos hh).symm.trans hf1
    clear hf1
    refine j_iconst (pc := 9) (v := (-1)) hc dX3_asked_9 rfl ?_
    cases hf5
    exact j_iret (pc := 10) hc hq hre rfl dX3_asked_10
theorem fm_144 : FM 144 60 := ⟨by decide, q1233⟩
theorem fm_153 : FM 153 63 := ⟨by decide, q1236⟩
theorem fm_351 : FM 351 64 := ⟨by decide, q1237⟩
def f_X3_ask (x1 : Int32) (x2 : Int32) (x3 : Int32) (M : MS) : Option (Int32 × MS) :=
  if x1 < 0 then
    some ((-1), M)
  else
    if (9) < x1 then
      some ((-1), M)
    else
      o_bd (f_X3_isTable x2 M) fun v2 N1 =>
      if v2 = 0 then
        some ((-1), N1)
      else
        if x3 < (1) then
          some ((-1), N1)
        else
          (g_mA N1 4 x2).bind fun v3 =>
          if ((1) <<< (v3 &&& 31)) ≤ x3 then
            some ((-1), N1)
          else
            if (m_I N1 59) = (40) then
              some ((-1), N1)
            else
              (p_mA N1 60 (m_I N1 59) x1).bind fun N4 =>
              (p_mA N4 61 (m_I N4 59) x2).bind fun N5 =>
              (p_mA N5 62 (m_I N5 59) x3).bind fun N6 =>
              (p_mA N6 63 (m_I N6 59) (m_I N6 64)).bind fun N7 =>
              (some (m_sI N7 59 ((m_I N7 59) + (1)))).bind fun N8 =>
              some (((m_I N8 59) - (1)), N8)
set_option maxRecDepth 100000 in
set_option maxHeartbeats 2000000 in
theorem c_X3_ask {l : Launch} {g : PG} {a0 : Nat} {x1 : Int32} {x2 : Int32} {x3 : Int32} {r : Int32} {S : HS} {M M1 : MS} (hf : f_X3_ask x1 x2 x3 M = some (r, M1)) : (h_nx S ≤ h_nx S ∧ h_sl S ≤ h_sl S) ∧ Ct l g yX3_ask (ws_ yX3_ask cX3_ask 4 (some (.int))) 2 81 S (some (a0, M)) [vr (some a0), vi x1, vi x2, vi x3] (some (vi r)) S (some (a0, M1)) := by
  refine met_of false (by decide) (fun h => by first | rfl | cases h) rfl (Nat.le_of_ble_eq_true rfl) (fun f hl hg hc ho hnL hrm hre hct hex hq => ?_)
  subst hl
  subst hg
  unfold f_X3_ask at hf
  refine j_iload_n (pc := 0) hc dX3_ask_0 1 rfl rfl ?_
  refine j_if_lt (pc := 1) hc dX3_ask_1 (tgt := 44) rfl (fun hh => ?_) (fun hh => ?_)
  · have hf1 := (if_pos hh).symm.trans hf
    clear hf
    refine j_iconst (pc := 44) (v := (-1)) hc dX3_ask_44 rfl ?_
    cases hf1
    exact j_iret (pc := 45) hc hq hre rfl dX3_ask_45
  · have hf2 := (if_neg hh).symm.trans hf
    clear hf
    refine j_iload_n (pc := 4) hc dX3_ask_4 1 rfl rfl ?_
    refine j_bipush (pc := 5) (v := (9)) hc dX3_ask_5 rfl ?_
    refine j_icmp_gt (pc := 7) hc dX3_ask_7 (tgt := 44) rfl (fun hh => ?_) (fun hh => ?_)
    · have hf3 := (if_pos hh).symm.trans hf2
      clear hf2
      refine j_iconst (pc := 44) (v := (-1)) hc dX3_ask_44 rfl ?_
      cases hf3
      exact j_iret (pc := 45) hc hq hre rfl dX3_ask_45
    · have hf4 := (if_neg hh).symm.trans hf2
      clear hf2
      refine j_aload_n (pc := 10) hc dX3_ask_10 0 rfl rfl ?_
      refine j_iload_n (pc := 11) hc dX3_ask_11 2 rfl rfl ?_
      obtain ⟨v2, N1, ev2, hf5⟩ := ob_c hf4
      clear hf4
      refine j_callV (pc := 12) (As := [vi x2]) (rest := []) (st2 := [vi v2]) hc ho cw_X3_162 (c_X3_isTable ev2) (Or.inr ⟨rfl, _, rfl⟩) hrm ⟨by decide, by decide⟩ rfl (Nat.le_of_ble_eq_true rfl) dX3_ask_12 rfl rfl ?_
      refine j_if_eq (pc := 15) hc dX3_ask_15 (tgt := 44) rfl (fun hh => ?_) (fun hh => ?_)
      · have hf6 := (if_pos hh).symm.trans hf5
        clear hf5
        refine j_iconst (pc := 44) (v := (-1)) hc dX3_ask_44 rfl ?_
        cases hf6
        exact j_iret (pc := 45) hc hq hre rfl dX3_ask_45
      · have hf7 := (if_neg hh).symm.trans hf5
        clear hf5
        refine j_iload_n (pc := 18) hc dX3_ask_18 3 rfl rfl ?_
        refine j_iconst (pc := 19) (v := (1)) hc dX3_ask_19 rfl ?_
        refine j_icmp_lt (pc := 20) hc dX3_ask_20 (tgt := 44) rfl (fun hh => ?_) (fun hh => ?_)
        · have hf8 := (if_pos hh).symm.trans hf7
          clear hf7
          refine j_iconst (pc := 44) (v := (-1)) hc dX3_ask_44 rfl ?_
          cases hf8
          exact j_iret (pc := 45) hc hq hre rfl dX3_ask_45
        · have hf9 := (if_neg hh).symm.trans hf7
          clear hf7
          refine j_iload_n (pc := 23) hc dX3_ask_23 3 rfl rfl ?_
          refine j_iconst (pc := 24) (v := (1)) hc dX3_ask_24 rfl ?_
          refine j_aload_n (pc := 25) hc dX3_ask_25 0 rfl rfl ?_
          refine j_mgA (pc := 26) hc ho fm_21 rfl dX3_ask_26 ?_
          refine j_iload_n (pc := 29) hc dX3_ask_29 2 rfl rfl ?_
          obtain ⟨v3, ev3, hf10⟩ := ob_i hf9
          clear hf9
          refine j_mldI (pc := 30) hc (k := 4) (by decide) rfl dX3_ask_30 ev3 ?_
          refine j_ishl (pc := 31) hc dX3_ask_31 ?_
          refine j_icmp_ge (pc := 32) hc dX3_ask_32 (tgt := 44) rfl (fun hh => ?_) (fun hh => ?_)
          · have hf11 := (if_pos hh).symm.trans hf10
            clear hf10
            refine j_iconst (pc := 44) (v := (-1)) hc dX3_ask_44 rfl ?_
            cases hf11
            exact j_iret (pc := 45) hc hq hre rfl dX3_ask_45
          · have hf12 := (if_neg hh).symm.trans hf10
            clear hf10
            refine j_aload_n (pc := 35) hc dX3_ask_35 0 rfl rfl ?_
            refine j_mgI (pc := 36) hc ho fm_348 rfl dX3_ask_36 ?_
            refine j_bipush (pc := 39) (v := (40)) hc dX3_ask_39 rfl ?_
            refine j_icmp_ne (pc := 41) hc dX3_ask_41 (tgt := 46) rfl (fun hh => ?_) (fun hh => ?_)
            · have hf13 := (if_neg hh).symm.trans hf12
              clear hf12
              refine j_aload_n (pc := 46) hc dX3_ask_46 0 rfl rfl ?_
              refine j_mgA (pc := 47) hc ho fm_144 rfl dX3_ask_47 ?_
              refine j_aload_n (pc := 50) hc dX3_ask_50 0 rfl rfl ?_
              refine j_mgI (pc := 51) hc ho fm_348 rfl dX3_ask_51 ?_
              refine j_iload_n (pc := 54) hc dX3_ask_54 1 rfl rfl ?_
              obtain ⟨N4, eN4, hf14⟩ := ob_i hf13
              clear hf13
              refine j_mstI (pc := 55) hc (k := 60) (by decide) rfl dX3_ask_55 eN4 ?_
              refine j_aload_n (pc := 56) hc dX3_ask_56 0 rfl rfl ?_
              refine j_mgA (pc := 57) hc ho fm_147 rfl dX3_ask_57 ?_
              refine j_aload_n (pc := 60) hc dX3_ask_60 0 rfl rfl ?_
              refine j_mgI (pc := 61) hc ho fm_348 rfl dX3_ask_61 ?_
              refine j_iload_n (pc := 64) hc dX3_ask_64 2 rfl rfl ?_
              obtain ⟨N5, eN5, hf15⟩ := ob_i hf14
              clear hf14
              refine j_mstI (pc := 65) hc (k := 61) (by decide) rfl dX3_ask_65 eN5 ?_
              refine j_aload_n (pc := 66) hc dX3_ask_66 0 rfl rfl ?_
              refine j_mgA (pc := 67) hc ho fm_150 rfl dX3_ask_67 ?_
              refine j_aload_n (pc := 70) hc dX3_ask_70 0 rfl rfl ?_
              refine j_mgI (pc := 71) hc ho fm_348 rfl dX3_ask_71 ?_
              refine j_iload_n (pc := 74) hc dX3_ask_74 3 rfl rfl ?_
              obtain ⟨N6, eN6, hf16⟩ := ob_i hf15
              clear hf15
              refine j_mstI (pc := 75) hc (k := 62) (by decide) rfl dX3_ask_75 eN6 ?_
              refine j_aload_n (pc := 76) hc dX3_ask_76 0 rfl rfl ?_
              refine j_mgA (pc := 77) hc ho fm_153 rfl dX3_ask_77 ?_
              refine j_aload_n (pc := 80) hc dX3_ask_80 0 rfl rfl ?_
              refine j_mgI (pc := 81) hc ho fm_348 rfl dX3_ask_81 ?_
              refine j_aload_n (pc := 84) hc dX3_ask_84 0 rfl rfl ?_
              refine j_mgI (pc := 85) hc ho fm_351 rfl dX3_ask_85 ?_
              obtain ⟨N7, eN7, hf17⟩ := ob_i hf16
              clear hf16
              refine j_mstI (pc := 88) hc (k := 63) (by decide) rfl dX3_ask_88 eN7 ?_
              refine j_aload_n (pc := 89) hc dX3_ask_89 0 rfl rfl ?_
              refine j_dup (pc := 90) hc dX3_ask_90 rfl ?_
              refine j_mgI (pc := 91) hc ho fm_348 rfl dX3_ask_91 ?_
              refine j_iconst (pc := 94) (v := (1)) hc dX3_ask_94 rfl ?_
              refine j_iadd (pc := 95) hc dX3_ask_95 ?_
              obtain ⟨N8, eN8, hf18⟩ := ob_i hf17
              clear hf17
              refine j_mpI (pc := 96) hc ho fm_348 rfl rfl rfl rfl dX3_ask_96 eN8 ?_
              refine j_aload_n (pc := 99) hc dX3_ask_99 0 rfl rfl ?_
              refine j_mgI (pc := 100) hc ho fm_348 rfl dX3_ask_100 ?_
              refine j_iconst (pc := 103) (v := (1)) hc dX3_ask_103 rfl ?_
              refine j_isub (pc := 104) hc dX3_ask_104 ?_
              cases hf18
              exact j_iret (pc := 105) hc hq hre rfl dX3_ask_105
            · have hf19 := (if_pos hh).symm.trans hf12
              clear hf12
              refine j_iconst (pc := 44) (v := (-1)) hc dX3_ask_44 rfl ?_
              cases hf19
              exact j_iret (pc := 45) hc hq hre rfl dX3_ask_45
theorem fm_156 : FM 156 66 := ⟨by decide, q1239⟩
theorem fm_357 : FM 357 65 := ⟨by decide, q1238⟩
def f_X3_looks (x1 : Int32) (M : MS) : Option MS :=
  (p_mA M 66 (m_I M 65) x1).bind fun N1 =>
  (some (m_sI N1 65 ((m_I N1 65) + (1)))).bind fun N2 =>
  some N2
set_option maxRecDepth 100000 in
set_option maxHeartbeats 2000000 in
theorem c_X3_looks {l : Launch} {g : PG} {a0 : Nat} {x1 : Int32} {S : HS} {M M1 : MS} (hf : f_X3_looks x1 M = some M1) : (h_nx S ≤ h_nx S ∧ h_sl S ≤ h_sl S) ∧ Ct l g yX3_looks (ws_ yX3_looks cX3_looks 2 none) 1 60 S (some (a0, M)) [vr (some a0), vi x1] none S (some (a0, M1)) := by
  refine met_of false (by decide) (fun h => by first | rfl | cases h) rfl (Nat.le_of_ble_eq_true rfl) (fun f hl hg hc ho hnL hrm hre hct hex hq => ?_)
  subst hl
  subst hg
  unfold f_X3_looks at hf
  refine j_aload_n (pc := 0) hc dX3_looks_0 0 rfl rfl ?_
  refine j_mgA (pc := 1) hc ho fm_156 rfl dX3_looks_1 ?_
  refine j_aload_n (pc := 4) hc dX3_looks_4 0 rfl rfl ?_
  refine j_mgI (pc := 5) hc ho fm_357 rfl dX3_looks_5 ?_
  refine j_iload_n (pc := 8) hc dX3_looks_8 1 rfl rfl ?_
  obtain ⟨N1, eN1, hf1⟩ := ob_i hf
  clear hf
  refine j_mstI (pc := 9) hc (k := 66) (by decide) rfl dX3_looks_9 eN1 ?_
  refine j_aload_n (pc := 10) hc dX3_looks_10 0 rfl rfl ?_
  refine j_dup (pc := 11) hc dX3_looks_11 rfl ?_
  refine j_mgI (pc := 12) hc ho fm_357 rfl dX3_looks_12 ?_
  refine j_iconst (pc := 15) (v := (1)) hc dX3_looks_15 rfl ?_
  refine j_iadd (pc := 16) hc dX3_looks_16 ?_
  obtain ⟨N2, eN2, hf2⟩ := ob_i hf1
  clear hf1
  refine j_mpI (pc := 17) hc ho fm_357 rfl rfl rfl rfl dX3_looks_17 eN2 ?_
  cases hf2
  exact j_vret (pc := 20) hc hq hre dX3_looks_20
theorem cw_X3_354 : CV "TableCatalogModel" 354 RX3 yX3_looks cX3_looks 2 none 1 := ⟨⟨q1584, q1586, qs76, q90, q1587⟩, rfl, by decide, by decide, by decide +kernel⟩
def f_X3_retype_n208 (k_98 : Int32 → Int32 → Int32 → MS → Option (Int32 × MS)) (k_144 : Int32 → Int32 → Int32 → Int32 → MS → Option (Int32 × MS)) (x4 : Int32) (x5 : Int32) (x6 : Int32) (x7 : Int32) (M : MS) : Option (Int32 × MS) :=
  (g_mA M 53 (((8) * x6) + x7)).bind fun v1 =>
  (g_mA M 6 (((8) * x6) + x7)).bind fun v2 =>
  if v1 = v2 then
    k_144 x4 x5 x6 (x7 + (1)) M
  else
    k_144 x4 (x5 + (1)) x6 (x7 + (1)) M
def f_X3_retype_n297 (k_98 : Int32 → Int32 → Int32 → MS → Option (Int32 × MS)) (x4 : Int32) (x5 : Int32) (x6 : Int32) (M : MS) : Option (Int32 × MS) :=
  (f_X3_looks (((8) * x6) + (6)) M).bind fun N1 =>
  k_98 x4 x5 (x6 + (1)) N1
def f_X3_retype_n144 (k_98 : Int32 → Int32 → Int32 → MS → Option (Int32 × MS)) : Nat → Int32 → Int32 → Int32 → Int32 → MS → Option (Int32 × MS)
  | 0, _, _, _, _, _ => none
  | n + 1, x4, x5, x6, x7, M =>
    (g_mA M 4 x6).bind fun v1 =>
    if v1 ≤ x7 then
      o_bd (f_X3_hasWhere x6 M) fun v3 N2 =>
      if v3 = 0 then
        k_98 x4 x5 (x6 + (1)) N2
      else
        (some (m_sI N2 50 (0))).bind fun N4 =>
        o_bd (f_X3_typeOf x6 (6) N4) fun v6 N5 =>
        o_bd (f_X3_typeOf x6 (7) N5) fun v8 N7 =>
        if 0 < (m_I N7 50) then
          f_X3_retype_n297 k_98 x4 x5 x6 N7
        else
          if v6 = v8 then
            k_98 x4 x5 (x6 + (1)) N7
          else
            f_X3_retype_n297 k_98 x4 x5 x6 N7
    else
      (some (m_sI M 50 (0))).bind fun N9 =>
      o_bd (f_X3_typeOf x6 x7 N9) fun v11 N10 =>
      if (m_I N10 50) ≤ 0 then
        (p_mA N10 53 (((8) * x6) + x7) v11).bind fun N12 =>
        f_X3_retype_n208 k_98 (fun x4 x5 x6 x7 M => f_X3_retype_n144 k_98 n x4 x5 x6 x7 M) x4 x5 x6 x7 N12
      else
        (f_X3_looks (((8) * x6) + x7) N10).bind fun N13 =>
        f_X3_retype_n208 k_98 (fun x4 x5 x6 x7 M => f_X3_retype_n144 k_98 n x4 x5 x6 x7 M) x4 x5 x6 x7 N13
def f_X3_retype_n333 : Nat → Int32 → MS → Option (Int32 × MS)
  | 0, _, _ => none
  | n + 1, x6, M =>
    if (m_I M 65) ≤ x6 then
      (some (m_sI M 65 (0))).bind fun N1 =>
      some ((-2), N1)
    else
      (g_mA M 66 x6).bind fun v2 =>
      (p_mA M 58 x6 v2).bind fun N3 =>
      (fun x6 M => f_X3_retype_n333 n x6 M) (x6 + (1)) N3
def f_X3_retype_n379 : Nat → Int32 → Int32 → MS → Option (Int32 × MS)
  | 0, _, _, _ => none
  | n + 1, x5, x6, M =>
    if (136) ≤ x6 then
      some (x5, M)
    else
      (g_mA M 53 x6).bind fun v1 =>
      (p_mA M 6 x6 v1).bind fun N2 =>
      (fun x5 x6 M => f_X3_retype_n379 n x5 x6 M) x5 (x6 + (1)) N2
def f_X3_retype_n98 : Nat → Int32 → Int32 → Int32 → MS → Option (Int32 × MS)
  | 0, _, _, _, _ => none
  | n + 1, x4, x5, x6, M =>
    if (m_I M 0) ≤ x6 then
      if (m_I M 65) ≤ 0 then
        (some (m_sI M 57 x4)).bind fun N1 =>
        f_X3_retype_n379 fu_ x5 (0) N1
      else
        (some (m_sI M 57 (m_I M 65))).bind fun N2 =>
        f_X3_retype_n333 fu_ (0) N2
    else
      (g_mA M 1 x6).bind fun v3 =>
      if v3 = 0 then
        (fun x4 x5 x6 M => f_X3_retype_n98 n x4 x5 x6 M) x4 x5 (x6 + (1)) M
      else
        (g_mA M 3 x6).bind fun v4 =>
        if v4 = 0 then
          (fun x4 x5 x6 M => f_X3_retype_n98 n x4 x5 x6 M) x4 x5 (x6 + (1)) M
        else
          (g_mA M 3 x6).bind fun v5 =>
          if v5 = (3) then
            (fun x4 x5 x6 M => f_X3_retype_n98 n x4 x5 x6 M) x4 x5 (x6 + (1)) M
          else
            f_X3_retype_n144 (fun x4 x5 x6 M => f_X3_retype_n98 n x4 x5 x6 M) fu_ x4 x5 x6 (0) M
def f_X3_retype_n41 : Nat → Int32 → Int32 → Int32 → Int32 → MS → Option (Int32 × MS)
  | 0, _, _, _, _, _ => none
  | n + 1, x1, x2, x3, x4, M =>
    if (136) ≤ x4 then
      (p_mA M 53 (((8) * x1) + x2) x3).bind fun N1 =>
      (some (m_sI N1 57 (0))).bind fun N2 =>
      f_X3_retype_n98 fu_ (m_I N1 57) (0) (0) N2
    else
      (g_mA M 6 x4).bind fun v3 =>
      (p_mA M 53 x4 v3).bind fun N4 =>
      (fun x1 x2 x3 x4 M => f_X3_retype_n41 n x1 x2 x3 x4 M) x1 x2 x3 (x4 + (1)) N4
def f_X3_retype (x1 : Int32) (x2 : Int32) (x3 : Int32) (M : MS) : Option (Int32 × MS) :=
  o_bd (f_X3_isColumn x1 x2 M) fun v2 N1 =>
  if v2 = 0 then
    some ((-1), N1)
  else
    (g_mA N1 3 x1).bind fun v3 =>
    if v3 = 0 then
      if x3 = (110) then
        f_X3_retype_n41 fu_ x1 x2 x3 (0) N1
      else
        if x3 = (116) then
          f_X3_retype_n41 fu_ x1 x2 x3 (0) N1
        else
          if x3 = (100) then
            f_X3_retype_n41 fu_ x1 x2 x3 (0) N1
          else
            some ((-1), N1)
    else
      some ((-1), N1)
set_option maxRecDepth 100000 in
set_option maxHeartbeats 2000000 in
theorem w_X3_retype_n208 {f : CfT} {a0 : Nat} {r : Int32} {S : HS} {M1 : MS} (hc : cf_cc f = cX3_retype) (ho : cf_ow f = "TableCatalogModel") (hnL : cf_nL f = 9) (hrm : cf_rm f = (5, 154)) (hre : cf_re f = (some (.int))) (hct : cf_ct f = false) (hq : Qok f (some (vi r)) S (some (a0, M1))) {k_98 : Int32 → Int32 → Int32 → MS → Option (Int32 × MS)} (hk_98 : ∀ (x4 : Int32) (x5 : Int32) (x6 : Int32) (M : MS), k_98 x4 x5 x6 M = some (r, M1) → JJ f S (some (a0, M)) 98 [(0, vr (some a0)), (4, vi x4), (5, vi x5), (6, vi x6)] []) {k_144 : Int32 → Int32 → Int32 → Int32 → MS → Option (Int32 × MS)} (hk_144 : ∀ (x4 : Int32) (x5 : Int32) (x6 : Int32) (x7 : Int32) (M : MS), k_144 x4 x5 x6 x7 M = some (r, M1) → JJ f S (some (a0, M)) 144 [(0, vr (some a0)), (4, vi x4), (5, vi x5), (6, vi x6), (7, vi x7)] []) {x4 : Int32} {x5 : Int32} {x6 : Int32} {x7 : Int32} {M : MS} (hf : f_X3_retype_n208 k_98 k_144 x4 x5 x6 x7 M = some (r, M1)) : JJ f S (some (a0, M)) 208 [(0, vr (some a0)), (4, vi x4), (5, vi x5), (6, vi x6), (7, vi x7)] [] := by
  unfold f_X3_retype_n208 at hf
  refine j_aload_n (pc := 208) hc dX3_retype_208 0 rfl rfl ?_
  refine j_mgA (pc := 209) hc ho fm_129 rfl dX3_retype_209 ?_
  refine j_bipush (pc := 212) (v := (8)) hc dX3_retype_212 rfl ?_
  refine j_iload (pc := 214) hc dX3_retype_214 3 rfl ?_
  refine j_imul (pc := 216) hc dX3_retype_216 ?_
  refine j_iload (pc := 217) hc dX3_retype_217 4 rfl ?_
  refine j_iadd (pc := 219) hc dX3_retype_219 ?_
  obtain ⟨v1, ev1, hf1⟩ := ob_i hf
  clear hf
  refine j_mldI (pc := 220) hc (k := 53) (by decide) rfl dX3_retype_220 ev1 ?_
  refine j_aload_n (pc := 221) hc dX3_retype_221 0 rfl rfl ?_
  refine j_mgA (pc := 222) hc ho fm_27 rfl dX3_retype_222 ?_
  refine j_bipush (pc := 225) (v := (8)) hc dX3_retype_225 rfl ?_
  refine j_iload (pc := 227) hc dX3_retype_227 3 rfl ?_
  refine j_imul (pc := 229) hc dX3_retype_229 ?_
  refine j_iload (pc := 230) hc dX3_retype_230 4 rfl ?_
  refine j_iadd (pc := 232) hc dX3_retype_232 ?_
  obtain ⟨v2, ev2, hf2⟩ := ob_i hf1
  clear hf1
  refine j_mldI (pc := 233) hc (k := 6) (by decide) rfl dX3_retype_233 ev2 ?_
  refine j_icmp_eq (pc := 234) hc dX3_retype_234 (tgt := 240) rfl (fun hh => ?_) (fun hh => ?_)
  · have hf3 := (if_pos hh).symm.trans hf2
    clear hf2
    refine j_iinc (pc := 240) (L' := [(7, vi (x7 + (1))), (0, vr (some a0)), (4, vi x4), (5, vi x5), (6, vi x6)]) (v := (x7 + (1))) hc dX3_retype_240 4 rfl rfl hnL (by decide) rfl ?_
    refine j_goto (pc := 243) hc dX3_retype_243 (tgt := 144) rfl ?_
    refine j_loc (L' := [(0, vr (some a0)), (4, vi x4), (5, vi x5), (6, vi x6), (7, vi (x7 + (1)))]) [1, 2, 3, 4, 0] rfl ?_
    exact hk_144 _ _ _ _ _ hf3
  · have hf4 := (if_neg hh).symm.trans hf2
    clear hf2
    refine j_iinc (pc := 237) (L' := [(5, vi (x5 + (1))), (0, vr (some a0)), (4, vi x4), (6, vi x6), (7, vi x7)]) (v := (x5 + (1))) hc dX3_retype_237 2 rfl rfl hnL (by decide) rfl ?_
    refine j_iinc (pc := 240) (L' := [(7, vi (x7 + (1))), (5, vi (x5 + (1))), (0, vr (some a0)), (4, vi x4), (6, vi x6)]) (v := (x7 + (1))) hc dX3_retype_240 4 rfl rfl hnL (by decide) rfl ?_
    refine j_goto (pc := 243) hc dX3_retype_243 (tgt := 144) rfl ?_
    refine j_loc (L' := [(0, vr (some a0)), (4, vi x4), (5, vi (x5 + (1))), (6, vi x6), (7, vi (x7 + (1)))]) [2, 3, 1, 4, 0] rfl ?_
    exact hk_144 _ _ _ _ _ hf4
set_option maxRecDepth 100000 in
set_option maxHeartbeats 2000000 in
theorem w_X3_retype_n297 {f : CfT} {a0 : Nat} {r : Int32} {S : HS} {M1 : MS} (hc : cf_cc f = cX3_retype) (ho : cf_ow f = "TableCatalogModel") (hnL : cf_nL f = 9) (hrm : cf_rm f = (5, 154)) (hre : cf_re f = (some (.int))) (hct : cf_ct f = false) (hq : Qok f (some (vi r)) S (some (a0, M1))) {k_98 : Int32 → Int32 → Int32 → MS → Option (Int32 × MS)} (hk_98 : ∀ (x4 : Int32) (x5 : Int32) (x6 : Int32) (M : MS), k_98 x4 x5 x6 M = some (r, M1) → JJ f S (some (a0, M)) 98 [(0, vr (some a0)), (4, vi x4), (5, vi x5), (6, vi x6)] []) {x4 : Int32} {x5 : Int32} {x6 : Int32} {M : MS} (hf : f_X3_retype_n297 k_98 x4 x5 x6 M = some (r, M1)) : JJ f S (some (a0, M)) 297 [(0, vr (some a0)), (4, vi x4), (5, vi x5), (6, vi x6)] [] := by
  unfold f_X3_retype_n297 at hf
  refine j_aload_n (pc := 297) hc dX3_retype_297 0 rfl rfl ?_
  refine j_bipush (pc := 298) (v := (8)) hc dX3_retype_298 rfl ?_
  refine j_iload (pc := 300) hc dX3_retype_300 3 rfl ?_
  refine j_imul (pc := 302) hc dX3_retype_302 ?_
  refine j_bipush (pc := 303) (v := (6)) hc dX3_retype_303 rfl ?_
  refine j_iadd (pc := 305) hc dX3_retype_305 ?_
  obtain ⟨N1, eN1, hf1⟩ := ob_i hf
  clear hf
  refine j_callV (pc := 306) (As := [vi (((8) * x6) + (6))]) (rest := []) (st2 := []) hc ho cw_X3_354 (c_X3_looks eN1) (Or.inr ⟨rfl, _, rfl⟩) hrm ⟨by decide, by decide⟩ rfl (Nat.le_of_ble_eq_true rfl) dX3_retype_306 rfl rfl ?_
  refine j_iinc (pc := 309) (L' := [(6, vi (x6 + (1))), (0, vr (some a0)), (4, vi x4), (5, vi x5)]) (v := (x6 + (1))) hc dX3_retype_309 3 rfl rfl hnL (by decide) rfl ?_
  refine j_goto (pc := 312) hc dX3_retype_312 (tgt := 98) rfl ?_
  refine j_loc (L' := [(0, vr (some a0)), (4, vi x4), (5, vi x5), (6, vi (x6 + (1)))]) [1, 2, 3, 0] rfl ?_
  exact hk_98 _ _ _ _ hf1
set_option maxRecDepth 100000 in
set_option maxHeartbeats 2000000 in
theorem w_X3_retype_n144 {f : CfT} {a0 : Nat} {r : Int32} {S : HS} {M1 : MS} (hc : cf_cc f = cX3_retype) (ho : cf_ow f = "TableCatalogModel") (hnL : cf_nL f = 9) (hrm : cf_rm f = (5, 154)) (hre : cf_re f = (some (.int))) (hct : cf_ct f = false) (hq : Qok f (some (vi r)) S (some (a0, M1))) {k_98 : Int32 → Int32 → Int32 → MS → Option (Int32 × MS)} (hk_98 : ∀ (x4 : Int32) (x5 : Int32) (x6 : Int32) (M : MS), k_98 x4 x5 x6 M = some (r, M1) → JJ f S (some (a0, M)) 98 [(0, vr (some a0)), (4, vi x4), (5, vi x5), (6, vi x6)] []) : ∀ (n : Nat) (x4 : Int32) (x5 : Int32) (x6 : Int32) (x7 : Int32) (M : MS), f_X3_retype_n144 k_98 n x4 x5 x6 x7 M = some (r, M1) → JJ f S (some (a0, M)) 144 [(0, vr (some a0)), (4, vi x4), (5, vi x5), (6, vi x6), (7, vi x7)] [] := by
  intro n
  induction n with
  | zero =>
    intro x4 x5 x6 x7 M hf
    have hf : (none : Option (Int32 × MS)) = some (r, M1) := hf
    cases hf
  | succ n ih =>
    intro x4 x5 x6 x7 M hf
    unfold f_X3_retype_n144 at hf
    have hk_144 := ih
    refine j_iload (pc := 144) hc dX3_retype_144 4 rfl ?_
    refine j_aload_n (pc := 146) hc dX3_retype_146 0 rfl rfl ?_
    refine j_mgA (pc := 147) hc ho fm_21 rfl dX3_retype_147 ?_
    refine j_iload (pc := 150) hc dX3_retype_150 3 rfl ?_
    obtain ⟨v1, ev1, hf1⟩ := ob_i hf
    clear hf
    refine j_mldI (pc := 152) hc (k := 4) (by decide) rfl dX3_retype_152 ev1 ?_
    refine j_icmp_ge (pc := 153) hc dX3_retype_153 (tgt := 246) rfl (fun hh => ?_) (fun hh => ?_)
    · have hf2 := (if_pos hh).symm.trans hf1
      clear hf1
      refine j_aload_n (pc := 246) hc dX3_retype_246 0 rfl rfl ?_
      refine j_iload (pc := 247) hc dX3_retype_247 3 rfl ?_
      obtain ⟨v3, N2, ev3, hf3⟩ := ob_c hf2
      clear hf2
      refine j_callV (pc := 249) (As := [vi x6]) (rest := []) (st2 := [vi v3]) hc ho cw_X3_295 (c_X3_hasWhere ev3) (Or.inr ⟨rfl, _, rfl⟩) hrm ⟨by decide, by decide⟩ rfl (Nat.le_of_ble_eq_true rfl) dX3_retype_249 rfl rfl ?_
      refine j_if_ne (pc := 252) hc dX3_retype_252 (tgt := 258) rfl (fun hh => ?_) (fun hh => ?_)
      · have hf4 := (if_neg hh).symm.trans hf3
        clear hf3
        refine j_aload_n (pc := 258) hc dX3_retype_258 0 rfl rfl ?_
        refine j_iconst (pc := 259) (v := (0)) hc dX3_retype_259 rfl ?_
        obtain ⟨N4, eN4, hf5⟩ := ob_i hf4
        clear hf4
        refine j_mpI (pc := 260) hc ho fm_255 rfl rfl rfl rfl dX3_retype_260 eN4 ?_
        refine j_aload_n (pc := 263) hc dX3_retype_263 0 rfl rfl ?_
        refine j_iload (pc := 264) hc dX3_retype_264 3 rfl ?_
        refine j_bipush (pc := 266) (v := (6)) hc dX3_retype_266 rfl ?_
        obtain ⟨v6, N5, ev6, hf6⟩ := ob_c hf5
        clear hf5
        refine j_callV (pc := 268) (As := [vi x6, vi (6)]) (rest := []) (st2 := [vi v6]) hc ho cw_X3_292 (c_X3_typeOf ev6) (Or.inr ⟨rfl, _, rfl⟩) hrm ⟨by decide, by decide⟩ rfl (Nat.le_of_ble_eq_true rfl) dX3_retype_268 rfl rfl ?_
        refine j_istore (pc := 271) (L' := [(7, vi v6), (0, vr (some a0)), (4, vi x4), (5, vi x5), (6, vi x6)]) hc dX3_retype_271 hnL (by decide) rfl ?_
        refine j_aload_n (pc := 273) hc dX3_retype_273 1 rfl rfl ?_
        refine j_iload (pc := 274) hc dX3_retype_274 4 rfl ?_
        refine j_bipush (pc := 276) (v := (7)) hc dX3_retype_276 rfl ?_
        obtain ⟨v8, N7, ev8, hf7⟩ := ob_c hf6
        clear hf6
        refine j_callV (pc := 278) (As := [vi x6, vi (7)]) (rest := []) (st2 := [vi v8]) hc ho cw_X3_292 (c_X3_typeOf ev8) (Or.inr ⟨rfl, _, rfl⟩) hrm ⟨by decide, by decide⟩ rfl (Nat.le_of_ble_eq_true rfl) dX3_retype_278 rfl rfl ?_
        refine j_istore (pc := 281) (L' := [(8, vi v8), (7, vi v6), (0, vr (some a0)), (4, vi x4), (5, vi x5), (6, vi x6)]) hc dX3_retype_281 hnL (by decide) rfl ?_
        refine j_aload_n (pc := 283) hc dX3_retype_283 2 rfl rfl ?_
        refine j_mgI (pc := 284) hc ho fm_255 rfl dX3_retype_284 ?_
        refine j_if_gt (pc := 287) hc dX3_retype_287 (tgt := 297) rfl (fun hh => ?_) (fun hh => ?_)
        · have hf8 := (if_pos hh).symm.trans hf7
          clear hf7
          refine j_loc (L' := [(0, vr (some a0)), (4, vi x4), (5, vi x5), (6, vi x6)]) [2, 3, 4, 5] rfl ?_
          exact w_X3_retype_n297 hc ho hnL hrm hre hct hq hk_98 hf8
        · have hf9 := (if_neg hh).symm.trans hf7
          clear hf7
          refine j_iload (pc := 290) hc dX3_retype_290 1 rfl ?_
          refine j_iload (pc := 292) hc dX3_retype_292 0 rfl ?_
          refine j_icmp_eq (pc := 294) hc dX3_retype_294 (tgt := 309) rfl (fun hh => ?_) (fun hh => ?_)
          · have hf10 := (if_pos hh).symm.trans hf9
            clear hf9
            refine j_iinc (pc := 309) (L' := [(6, vi (x6 + (1))), (8, vi v8), (7, vi v6), (0, vr (some a0)), (4, vi x4), (5, vi x5)]) (v := (x6 + (1))) hc dX3_retype_309 5 rfl rfl hnL (by decide) rfl ?_
            refine j_goto (pc := 312) hc dX3_retype_312 (tgt := 98) rfl ?_
            refine j_loc (L' := [(0, vr (some a0)), (4, vi x4), (5, vi x5), (6, vi (x6 + (1)))]) [3, 4, 5, 0] rfl ?_
            exact hk_98 _ _ _ _ hf10
          · have hf11 := (if_neg hh).symm.trans hf9
            clear hf9
            refine j_loc (L' := [(0, vr (some a0)), (4, vi x4), (5, vi x5), (6, vi x6)]) [2, 3, 4, 5] rfl ?_
            exact w_X3_retype_n297 hc ho hnL hrm hre hct hq hk_98 hf11
      · have hf12 := (if_pos hh).symm.trans hf3
        clear hf3
        refine j_goto (pc := 255) hc dX3_retype_255 (tgt := 309) rfl ?_
        refine j_iinc (pc := 309) (L' := [(6, vi (x6 + (1))), (0, vr (some a0)), (4, vi x4), (5, vi x5), (7, vi x7)]) (v := (x6 + (1))) hc dX3_retype_309 3 rfl rfl hnL (by decide) rfl ?_
        refine j_goto (pc := 312) hc dX3_retype_312 (tgt := 98) rfl ?_
        refine j_loc (L' := [(0, vr (some a0)), (4, vi x4), (5, vi x5), (6, vi (x6 + (1)))]) [1, 2, 3, 0] rfl ?_
        exact hk_98 _ _ _ _ hf12
    · have hf13 := (if_neg hh).symm.trans hf1
      clear hf1
      refine j_aload_n (pc := 156) hc dX3_retype_156 0 rfl rfl ?_
      refine j_iconst (pc := 157) (v := (0)) hc dX3_retype_157 rfl ?_
      obtain ⟨N9, eN9, hf14⟩ := ob_i hf13
      clear hf13
      refine j_mpI (pc := 158) hc ho fm_255 rfl rfl rfl rfl dX3_retype_158 eN9 ?_
      refine j_aload_n (pc := 161) hc dX3_retype_161 0 rfl rfl ?_
      refine j_iload (pc := 162) hc dX3_retype_162 3 rfl ?_
      refine j_iload (pc := 164) hc dX3_retype_164 4 rfl ?_
      obtain ⟨v11, N10, ev11, hf15⟩ := ob_c hf14
      clear hf14
      refine j_callV (pc := 166) (As := [vi x6, vi x7]) (rest := []) (st2 := [vi v11]) hc ho cw_X3_292 (c_X3_typeOf ev11) (Or.inr ⟨rfl, _, rfl⟩) hrm ⟨by decide, by decide⟩ rfl (Nat.le_of_ble_eq_true rfl) dX3_retype_166 rfl rfl ?_
      refine j_istore (pc := 169) (L' := [(8, vi v11), (0, vr (some a0)), (4, vi x4), (5, vi x5), (6, vi x6), (7, vi x7)]) hc dX3_retype_169 hnL (by decide) rfl ?_
      refine j_aload_n (pc := 171) hc dX3_retype_171 1 rfl rfl ?_
      refine j_mgI (pc := 172) hc ho fm_255 rfl dX3_retype_172 ?_
      refine j_if_le (pc := 175) hc dX3_retype_175 (tgt := 193) rfl (fun hh => ?_) (fun hh => ?_)
      · have hf16 := (if_pos hh).symm.trans hf15
        clear hf15
        refine j_aload_n (pc := 193) hc dX3_retype_193 1 rfl rfl ?_
        refine j_mgA (pc := 194) hc ho fm_129 rfl dX3_retype_194 ?_
        refine j_bipush (pc := 197) (v := (8)) hc dX3_retype_197 rfl ?_
        refine j_iload (pc := 199) hc dX3_retype_199 4 rfl ?_
        refine j_imul (pc := 201) hc dX3_retype_201 ?_
        refine j_iload (pc := 202) hc dX3_retype_202 5 rfl ?_
        refine j_iadd (pc := 204) hc dX3_retype_204 ?_
        refine j_iload (pc := 205) hc dX3_retype_205 0 rfl ?_
        obtain ⟨N12, eN12, hf17⟩ := ob_i hf16
        clear hf16
        refine j_mstI (pc := 207) hc (k := 53) (by decide) rfl dX3_retype_207 eN12 ?_
        refine j_loc (L' := [(0, vr (some a0)), (4, vi x4), (5, vi x5), (6, vi x6), (7, vi x7)]) [1, 2, 3, 4, 5] rfl ?_
        exact w_X3_retype_n208 hc ho hnL hrm hre hct hq hk_98 hk_144 hf17
      · have hf18 := (if_neg hh).symm.trans hf15
        clear hf15
        refine j_aload_n (pc := 178) hc dX3_retype_178 1 rfl rfl ?_
        refine j_bipush (pc := 179) (v := (8)) hc dX3_retype_179 rfl ?_
        refine j_iload (pc := 181) hc dX3_retype_181 4 rfl ?_
        refine j_imul (pc := 183) hc dX3_retype_183 ?_
        refine j_iload (pc := 184) hc dX3_retype_184 5 rfl ?_
        refine j_iadd (pc := 186) hc dX3_retype_186 ?_
        obtain ⟨N13, eN13, hf19⟩ := ob_i hf18
        clear hf18
        refine j_callV (pc := 187) (As := [vi (((8) * x6) + x7)]) (rest := []) (st2 := []) hc ho cw_X3_354 (c_X3_looks eN13) (Or.inr ⟨rfl, _, rfl⟩) hrm ⟨by decide, by decide⟩ rfl (Nat.le_of_ble_eq_true rfl) dX3_retype_187 rfl rfl ?_
        refine j_goto (pc := 190) hc dX3_retype_190 (tgt := 208) rfl ?_
        refine j_loc (L' := [(0, vr (some a0)), (4, vi x4), (5, vi x5), (6, vi x6), (7, vi x7)]) [1, 2, 3, 4, 5] rfl ?_
        exact w_X3_retype_n208 hc ho hnL hrm hre hct hq hk_98 hk_144 hf19
set_option maxRecDepth 100000 in
set_option maxHeartbeats 2000000 in
theorem w_X3_retype_n333 {f : CfT} {a0 : Nat} {r : Int32} {S : HS} {M1 : MS} (hc : cf_cc f = cX3_retype) (ho : cf_ow f = "TableCatalogModel") (hnL : cf_nL f = 9) (hrm : cf_rm f = (5, 154)) (hre : cf_re f = (some (.int))) (hct : cf_ct f = false) (hq : Qok f (some (vi r)) S (some (a0, M1))) : ∀ (n : Nat) (x6 : Int32) (M : MS), f_X3_retype_n333 n x6 M = some (r, M1) → JJ f S (some (a0, M)) 333 [(0, vr (some a0)), (6, vi x6)] [] := by
  intro n
  induction n with
  | zero =>
    intro x6 M hf
    have hf : (none : Option (Int32 × MS)) = some (r, M1) := hf
    cases hf
  | succ n ih =>
    intro x6 M hf
    unfold f_X3_retype_n333 at hf
    have hk_333 := ih
    refine j_iload (pc := 333) hc dX3_retype_333 1 rfl ?_
    refine j_aload_n (pc := 335) hc dX3_retype_335 0 rfl rfl ?_
    refine j_mgI (pc := 336) hc ho fm_357 rfl dX3_retype_336 ?_
    refine j_icmp_ge (pc := 339) hc dX3_retype_339 (tgt := 362) rfl (fun hh => ?_) (fun hh => ?_)
    · have hf1 := (if_pos hh).symm.trans hf
      clear hf
      refine j_aload_n (pc := 362) hc dX3_retype_362 0 rfl rfl ?_
      refine j_iconst (pc := 363) (v := (0)) hc dX3_retype_363 rfl ?_
      obtain ⟨N1, eN1, hf2⟩ := ob_i hf1
      clear hf1
      refine j_mpI (pc := 364) hc ho fm_357 rfl rfl rfl rfl dX3_retype_364 eN1 ?_
      refine j_bipush (pc := 367) (v := (-2)) hc dX3_retype_367 rfl ?_
      cases hf2
      exact j_iret (pc := 369) hc hq hre rfl dX3_retype_369
    · have hf3 := (if_neg hh).symm.trans hf
      clear hf
      refine j_aload_n (pc := 342) hc dX3_retype_342 0 rfl rfl ?_
      refine j_mgA (pc := 343) hc ho fm_141 rfl dX3_retype_343 ?_
      refine j_iload (pc := 346) hc dX3_retype_346 1 rfl ?_
      refine j_aload_n (pc := 348) hc dX3_retype_348 0 rfl rfl ?_
      refine j_mgA (pc := 349) hc ho fm_156 rfl dX3_retype_349 ?_
      refine j_iload (pc := 352) hc dX3_retype_352 1 rfl ?_
      obtain ⟨v2, ev2, hf4⟩ := ob_i hf3
      clear hf3
      refine j_mldI (pc := 354) hc (k := 66) (by decide) rfl dX3_retype_354 ev2 ?_
      obtain ⟨N3, eN3, hf5⟩ := ob_i hf4
      clear hf4
      refine j_mstI (pc := 355) hc (k := 58) (by decide) rfl dX3_retype_355 eN3 ?_
      refine j_iinc (pc := 356) (L' := [(6, vi (x6 + (1))), (0, vr (some a0))]) (v := (x6 + (1))) hc dX3_retype_356 1 rfl rfl hnL (by decide) rfl ?_
      refine j_goto (pc := 359) hc dX3_retype_359 (tgt := 333) rfl ?_
      refine j_loc (L' := [(0, vr (some a0)), (6, vi (x6 + (1)))]) [1, 0] rfl ?_
      exact hk_333 _ _ hf5
set_option maxRecDepth 100000 in
set_option maxHeartbeats 2000000 in
theorem w_X3_retype_n379 {f : CfT} {a0 : Nat} {r : Int32} {S : HS} {M1 : MS} (hc : cf_cc f = cX3_retype) (ho : cf_ow f = "TableCatalogModel") (hnL : cf_nL f = 9) (hrm : cf_rm f = (5, 154)) (hre : cf_re f = (some (.int))) (hct : cf_ct f = false) (hq : Qok f (some (vi r)) S (some (a0, M1))) : ∀ (n : Nat) (x5 : Int32) (x6 : Int32) (M : MS), f_X3_retype_n379 n x5 x6 M = some (r, M1) → JJ f S (some (a0, M)) 379 [(0, vr (some a0)), (5, vi x5), (6, vi x6)] [] := by
  intro n
  induction n with
  | zero =>
    intro x5 x6 M hf
    have hf : (none : Option (Int32 × MS)) = some (r, M1) := hf
    cases hf
  | succ n ih =>
    intro x5 x6 M hf
    unfold f_X3_retype_n379 at hf
    have hk_379 := ih
    refine j_iload (pc := 379) hc dX3_retype_379 2 rfl ?_
    refine j_sipush (pc := 381) (v := (136)) hc dX3_retype_381 rfl ?_
    refine j_icmp_ge (pc := 384) hc dX3_retype_384 (tgt := 407) rfl (fun hh => ?_) (fun hh => ?_)
    · have hf1 := (if_pos hh).symm.trans hf
      clear hf
      refine j_iload (pc := 407) hc dX3_retype_407 1 rfl ?_
      cases hf1
      exact j_iret (pc := 409) hc hq hre rfl dX3_retype_409
    · have hf2 := (if_neg hh).symm.trans hf
      clear hf
      refine j_aload_n (pc := 387) hc dX3_retype_387 0 rfl rfl ?_
      refine j_mgA (pc := 388) hc ho fm_27 rfl dX3_retype_388 ?_
      refine j_iload (pc := 391) hc dX3_retype_391 2 rfl ?_
      refine j_aload_n (pc := 393) hc dX3_retype_393 0 rfl rfl ?_
      refine j_mgA (pc := 394) hc ho fm_129 rfl dX3_retype_394 ?_
      refine j_iload (pc := 397) hc dX3_retype_397 2 rfl ?_
      obtain ⟨v1, ev1, hf3⟩ := ob_i hf2
      clear hf2
      refine j_mldI (pc := 399) hc (k := 53) (by decide) rfl dX3_retype_399 ev1 ?_
      obtain ⟨N2, eN2, hf4⟩ := ob_i hf3
      clear hf3
      refine j_mstI (pc := 400) hc (k := 6) (by decide) rfl dX3_retype_400 eN2 ?_
      refine j_iinc (pc := 401) (L' := [(6, vi (x6 + (1))), (0, vr (some a0)), (5, vi x5)]) (v := (x6 + (1))) hc dX3_retype_401 2 rfl rfl hnL (by decide) rfl ?_
      refine j_goto (pc := 404) hc dX3_retype_404 (tgt := 379) rfl ?_
      refine j_loc (L' := [(0, vr (some a0)), (5, vi x5), (6, vi (x6 + (1)))]) [1, 2, 0] rfl ?_
      exact hk_379 _ _ _ hf4
set_option maxRecDepth 100000 in
set_option maxHeartbeats 2000000 in
theorem w_X3_retype_n98 {f : CfT} {a0 : Nat} {r : Int32} {S : HS} {M1 : MS} (hc : cf_cc f = cX3_retype) (ho : cf_ow f = "TableCatalogModel") (hnL : cf_nL f = 9) (hrm : cf_rm f = (5, 154)) (hre : cf_re f = (some (.int))) (hct : cf_ct f = false) (hq : Qok f (some (vi r)) S (some (a0, M1))) : ∀ (n : Nat) (x4 : Int32) (x5 : Int32) (x6 : Int32) (M : MS), f_X3_retype_n98 n x4 x5 x6 M = some (r, M1) → JJ f S (some (a0, M)) 98 [(0, vr (some a0)), (4, vi x4), (5, vi x5), (6, vi x6)] [] := by
  intro n
  induction n with
  | zero =>
    intro x4 x5 x6 M hf
    have hf : (none : Option (Int32 × MS)) = some (r, M1) := hf
    cases hf
  | succ n ih =>
    intro x4 x5 x6 M hf
    unfold f_X3_retype_n98 at hf
    have hk_98 := ih
    refine j_iload (pc := 98) hc dX3_retype_98 3 rfl ?_
    refine j_aload_n (pc := 100) hc dX3_retype_100 0 rfl rfl ?_
    refine j_mgI (pc := 101) hc ho fm_159 rfl dX3_retype_101 ?_
    refine j_icmp_ge (pc := 104) hc dX3_retype_104 (tgt := 315) rfl (fun hh => ?_) (fun hh => ?_)
    · have hf1 := (if_pos hh).symm.trans hf
      clear hf
      refine j_aload_n (pc := 315) hc dX3_retype_315 0 rfl rfl ?_
      refine j_mgI (pc := 316) hc ho fm_357 rfl dX3_retype_316 ?_
      refine j_if_le (pc := 319) hc dX3_retype_319 (tgt := 370) rfl (fun hh => ?_) (fun hh => ?_)
      · have hf2 := (if_pos hh).symm.trans hf1
        clear hf1
        refine j_aload_n (pc := 370) hc dX3_retype_370 0 rfl rfl ?_
        refine j_iload (pc := 371) hc dX3_retype_371 1 rfl ?_
        obtain ⟨N1, eN1, hf3⟩ := ob_i hf2
        clear hf2
        refine j_mpI (pc := 373) hc ho fm_324 rfl rfl rfl rfl dX3_retype_373 eN1 ?_
        refine j_iconst (pc := 376) (v := (0)) hc dX3_retype_376 rfl ?_
        refine j_istore (pc := 377) (L' := [(6, vi (0)), (0, vr (some a0)), (4, vi x4), (5, vi x5)]) hc dX3_retype_377 hnL (by decide) rfl ?_
        refine j_loc (L' := [(0, vr (some a0)), (5, vi x5), (6, vi (0))]) [1, 3, 0] rfl ?_
        exact w_X3_retype_n379 hc ho hnL hrm hre hct hq fu_ _ _ _ hf3
      · have hf4 := (if_neg hh).symm.trans hf1
        clear hf1
        refine j_aload_n (pc := 322) hc dX3_retype_322 0 rfl rfl ?_
        refine j_aload_n (pc := 323) hc dX3_retype_323 0 rfl rfl ?_
        refine j_mgI (pc := 324) hc ho fm_357 rfl dX3_retype_324 ?_
        obtain ⟨N2, eN2, hf5⟩ := ob_i hf4
        clear hf4
        refine j_mpI (pc := 327) hc ho fm_324 rfl rfl rfl rfl dX3_retype_327 eN2 ?_
        refine j_iconst (pc := 330) (v := (0)) hc dX3_retype_330 rfl ?_
        refine j_istore (pc := 331) (L' := [(6, vi (0)), (0, vr (some a0)), (4, vi x4), (5, vi x5)]) hc dX3_retype_331 hnL (by decide) rfl ?_
        refine j_loc (L' := [(0, vr (some a0)), (6, vi (0))]) [1, 0] rfl ?_
        exact w_X3_retype_n333 hc ho hnL hrm hre hct hq fu_ _ _ hf5
    · have hf6 := (if_neg hh).symm.trans hf
      clear hf
      refine j_aload_n (pc := 107) hc dX3_retype_107 0 rfl rfl ?_
      refine j_mgA (pc := 108) hc ho fm_7 rfl dX3_retype_108 ?_
      refine j_iload (pc := 111) hc dX3_retype_111 3 rfl ?_
      obtain ⟨v3, ev3, hf7⟩ := ob_i hf6
      clear hf6
      refine j_mldZ (pc := 113) hc (k := 1) (by decide) rfl dX3_retype_113 ev3 ?_
      refine j_if_eq (pc := 114) hc dX3_retype_114 (tgt := 309) rfl (fun hh => ?_) (fun hh => ?_)
      · have hf8 := (if_pos hh).symm.trans hf7
        clear hf7
        refine j_iinc (pc := 309) (L' := [(6, vi (x6 + (1))), (0, vr (some a0)), (4, vi x4), (5, vi x5)]) (v := (x6 + (1))) hc dX3_retype_309 3 rfl rfl hnL (by decide) rfl ?_
        refine j_goto (pc := 312) hc dX3_retype_312 (tgt := 98) rfl ?_
        refine j_loc (L' := [(0, vr (some a0)), (4, vi x4), (5, vi x5), (6, vi (x6 + (1)))]) [1, 2, 3, 0] rfl ?_
        exact hk_98 _ _ _ _ hf8
      · have hf9 := (if_neg hh).symm.trans hf7
        clear hf7
        refine j_aload_n (pc := 117) hc dX3_retype_117 0 rfl rfl ?_
        refine j_mgA (pc := 118) hc ho fm_17 rfl dX3_retype_118 ?_
        refine j_iload (pc := 121) hc dX3_retype_121 3 rfl ?_
        obtain ⟨v4, ev4, hf10⟩ := ob_i hf9
        clear hf9
        refine j_mldI (pc := 123) hc (k := 3) (by decide) rfl dX3_retype_123 ev4 ?_
        refine j_if_eq (pc := 124) hc dX3_retype_124 (tgt := 309) rfl (fun hh => ?_) (fun hh => ?_)
        · have hf11 := (if_pos hh).symm.trans hf10
          clear hf10
          refine j_iinc (pc := 309) (L' := [(6, vi (x6 + (1))), (0, vr (some a0)), (4, vi x4), (5, vi x5)]) (v := (x6 + (1))) hc dX3_retype_309 3 rfl rfl hnL (by decide) rfl ?_
          refine j_goto (pc := 312) hc dX3_retype_312 (tgt := 98) rfl ?_
          refine j_loc (L' := [(0, vr (some a0)), (4, vi x4), (5, vi x5), (6, vi (x6 + (1)))]) [1, 2, 3, 0] rfl ?_
          exact hk_98 _ _ _ _ hf11
        · have hf12 := (if_neg hh).symm.trans hf10
          clear hf10
          refine j_aload_n (pc := 127) hc dX3_retype_127 0 rfl rfl ?_
          refine j_mgA (pc := 128) hc ho fm_17 rfl dX3_retype_128 ?_
          refine j_iload (pc := 131) hc dX3_retype_131 3 rfl ?_
          obtain ⟨v5, ev5, hf13⟩ := ob_i hf12
          clear hf12
          refine j_mldI (pc := 133) hc (k := 3) (by decide) rfl dX3_retype_133 ev5 ?_
          refine j_iconst (pc := 134) (v := (3)) hc dX3_retype_134 rfl ?_
          refine j_icmp_ne (pc := 135) hc dX3_retype_135 (tgt := 141) rfl (fun hh => ?_) (fun hh => ?_)
          · have hf14 := (if_neg hh).symm.trans hf13
            clear hf13
            refine j_iconst (pc := 141) (v := (0)) hc dX3_retype_141 rfl ?_
            refine j_istore (pc := 142) (L' := [(7, vi (0)), (0, vr (some a0)), (4, vi x4), (5, vi x5), (6, vi x6)]) hc dX3_retype_142 hnL (by decide) rfl ?_
            refine j_loc (L' := [(0, vr (some a0)), (4, vi x4), (5, vi x5), (6, vi x6), (7, vi (0))]) [1, 2, 3, 4, 0] rfl ?_
            exact w_X3_retype_n144 hc ho hnL hrm hre hct hq hk_98 fu_ _ _ _ _ _ hf14
          · have hf15 := (if_pos hh).symm.trans hf13
            clear hf13
            refine j_goto (pc := 138) hc dX3_retype_138 (tgt := 309) rfl ?_
            refine j_iinc (pc := 309) (L' := [(6, vi (x6 + (1))), (0, vr (some a0)), (4, vi x4), (5, vi x5)]) (v := (x6 + (1))) hc dX3_retype_309 3 rfl rfl hnL (by decide) rfl ?_
            refine j_goto (pc := 312) hc dX3_retype_312 (tgt := 98) rfl ?_
            refine j_loc (L' := [(0, vr (some a0)), (4, vi x4), (5, vi x5), (6, vi (x6 + (1)))]) [1, 2, 3, 0] rfl ?_
            exact hk_98 _ _ _ _ hf15
set_option maxRecDepth 100000 in
set_option maxHeartbeats 2000000 in
theorem w_X3_retype_n41 {f : CfT} {a0 : Nat} {r : Int32} {S : HS} {M1 : MS} (hc : cf_cc f = cX3_retype) (ho : cf_ow f = "TableCatalogModel") (hnL : cf_nL f = 9) (hrm : cf_rm f = (5, 154)) (hre : cf_re f = (some (.int))) (hct : cf_ct f = false) (hq : Qok f (some (vi r)) S (some (a0, M1))) : ∀ (n : Nat) (x1 : Int32) (x2 : Int32) (x3 : Int32) (x4 : Int32) (M : MS), f_X3_retype_n41 n x1 x2 x3 x4 M = some (r, M1) → JJ f S (some (a0, M)) 41 [(0, vr (some a0)), (1, vi x1), (2, vi x2), (3, vi x3), (4, vi x4)] [] := by
  intro n
  induction n with
  | zero =>
    intro x1 x2 x3 x4 M hf
    have hf : (none : Option (Int32 × MS)) = some (r, M1) := hf
    cases hf
  | succ n ih =>
    intro x1 x2 x3 x4 M hf
    unfold f_X3_retype_n41 at hf
    have hk_41 := ih
    refine j_iload (pc := 41) hc dX3_retype_41 4 rfl ?_
    refine j_sipush (pc := 43) (v := (136)) hc dX3_retype_43 rfl ?_
    refine j_icmp_ge (pc := 46) hc dX3_retype_46 (tgt := 69) rfl (fun hh => ?_) (fun hh => ?_)
    · have hf1 := (if_pos hh).symm.trans hf
      clear hf
      refine j_aload_n (pc := 69) hc dX3_retype_69 0 rfl rfl ?_
      refine j_mgA (pc := 70) hc ho fm_129 rfl dX3_retype_70 ?_
      refine j_bipush (pc := 73) (v := (8)) hc dX3_retype_73 rfl ?_
      refine j_iload_n (pc := 75) hc dX3_retype_75 1 rfl rfl ?_
      refine j_imul (pc := 76) hc dX3_retype_76 ?_
      refine j_iload_n (pc := 77) hc dX3_retype_77 2 rfl rfl ?_
      refine j_iadd (pc := 78) hc dX3_retype_78 ?_
      refine j_iload_n (pc := 79) hc dX3_retype_79 3 rfl rfl ?_
      obtain ⟨N1, eN1, hf2⟩ := ob_i hf1
      clear hf1
      refine j_mstI (pc := 80) hc (k := 53) (by decide) rfl dX3_retype_80 eN1 ?_
      refine j_aload_n (pc := 81) hc dX3_retype_81 0 rfl rfl ?_
      refine j_mgI (pc := 82) hc ho fm_324 rfl dX3_retype_82 ?_
      refine j_istore (pc := 85) (L' := [(4, vi (m_I N1 57)), (0, vr (some a0)), (1, vi x1), (2, vi x2), (3, vi x3)]) hc dX3_retype_85 hnL (by decide) rfl ?_
      refine j_aload_n (pc := 87) hc dX3_retype_87 1 rfl rfl ?_
      refine j_iconst (pc := 88) (v := (0)) hc dX3_retype_88 rfl ?_
      obtain ⟨N2, eN2, hf3⟩ := ob_i hf2
      clear hf2
      refine j_mpI (pc := 89) hc ho fm_324 rfl rfl rfl rfl dX3_retype_89 eN2 ?_
      refine j_iconst (pc := 92) (v := (0)) hc dX3_retype_92 rfl ?_
      refine j_istore (pc := 93) (L' := [(5, vi (0)), (4, vi (m_I N1 57)), (0, vr (some a0)), (1, vi x1), (2, vi x2), (3, vi x3)]) hc dX3_retype_93 hnL (by decide) rfl ?_
      refine j_iconst (pc := 95) (v := (0)) hc dX3_retype_95 rfl ?_
      refine j_istore (pc := 96) (L' := [(6, vi (0)), (5, vi (0)), (4, vi (m_I N1 57)), (0, vr (some a0)), (1, vi x1), (2, vi x2), (3, vi x3)]) hc dX3_retype_96 hnL (by decide) rfl ?_
      refine j_loc (L' := [(0, vr (some a0)), (4, vi (m_I N1 57)), (5, vi (0)), (6, vi (0))]) [3, 2, 1, 0] rfl ?_
      exact w_X3_retype_n98 hc ho hnL hrm hre hct hq fu_ _ _ _ _ hf3
    · have hf4 := (if_neg hh).symm.trans hf
      clear hf
      refine j_aload_n (pc := 49) hc dX3_retype_49 0 rfl rfl ?_
      refine j_mgA (pc := 50) hc ho fm_129 rfl dX3_retype_50 ?_
      refine j_iload (pc := 53) hc dX3_retype_53 4 rfl ?_
      refine j_aload_n (pc := 55) hc dX3_retype_55 0 rfl rfl ?_
      refine j_mgA (pc := 56) hc ho fm_27 rfl dX3_retype_56 ?_
      refine j_iload (pc := 59) hc dX3_retype_59 4 rfl ?_
      obtain ⟨v3, ev3, hf5⟩ := ob_i hf4
      clear hf4
      refine j_mldI (pc := 61) hc (k := 6) (by decide) rfl dX3_retype_61 ev3 ?_
      obtain ⟨N4, eN4, hf6⟩ := ob_i hf5
      clear hf5
      refine j_mstI (pc := 62) hc (k := 53) (by decide) rfl dX3_retype_62 eN4 ?_
      refine j_iinc (pc := 63) (L' := [(4, vi (x4 + (1))), (0, vr (some a0)), (1, vi x1), (2, vi x2), (3, vi x3)]) (v := (x4 + (1))) hc dX3_retype_63 4 rfl rfl hnL (by decide) rfl ?_
      refine j_goto (pc := 66) hc dX3_retype_66 (tgt := 41) rfl ?_
      refine j_loc (L' := [(0, vr (some a0)), (1, vi x1), (2, vi x2), (3, vi x3), (4, vi (x4 + (1)))]) [1, 2, 3, 4, 0] rfl ?_
      exact hk_41 _ _ _ _ _ hf6
set_option maxRecDepth 100000 in
set_option maxHeartbeats 2000000 in
theorem c_X3_retype {l : Launch} {g : PG} {a0 : Nat} {x1 : Int32} {x2 : Int32} {x3 : Int32} {r : Int32} {S : HS} {M M1 : MS} (hf : f_X3_retype x1 x2 x3 M = some (r, M1)) : (h_nx S ≤ h_nx S ∧ h_sl S ≤ h_sl S) ∧ Ct l g yX3_retype (ws_ yX3_retype cX3_retype 9 (some (.int))) 5 154 S (some (a0, M)) [vr (some a0), vi x1, vi x2, vi x3] (some (vi r)) S (some (a0, M1)) := by
  refine met_of false (by decide) (fun h => by first | rfl | cases h) rfl (Nat.le_of_ble_eq_true rfl) (fun f hl hg hc ho hnL hrm hre hct hex hq => ?_)
  subst hl
  subst hg
  unfold f_X3_retype at hf
  refine j_aload_n (pc := 0) hc dX3_retype_0 0 rfl rfl ?_
  refine j_iload_n (pc := 1) hc dX3_retype_1 1 rfl rfl ?_
  refine j_iload_n (pc := 2) hc dX3_retype_2 2 rfl rfl ?_
  obtain ⟨v2, N1, ev2, hf1⟩ := ob_c hf
  clear hf
  refine j_callV (pc := 3) (As := [vi x1, vi x2]) (rest := []) (st2 := [vi v2]) hc ho cw_X3_320 (c_X3_isColumn ev2) (Or.inr ⟨rfl, _, rfl⟩) hrm ⟨by decide, by decide⟩ rfl (Nat.le_of_ble_eq_true rfl) dX3_retype_3 rfl rfl ?_
  refine j_if_eq (pc := 6) hc dX3_retype_6 (tgt := 36) rfl (fun hh => ?_) (fun hh => ?_)
  · have hf2 := (if_pos hh).symm.trans hf1
    clear hf1
    refine j_iconst (pc := 36) (v := (-1)) hc dX3_retype_36 rfl ?_
    cases hf2
    exact j_iret (pc := 37) hc hq hre rfl dX3_retype_37
  · have hf3 := (if_neg hh).symm.trans hf1
    clear hf1
    refine j_aload_n (pc := 9) hc dX3_retype_9 0 rfl rfl ?_
    refine j_mgA (pc := 10) hc ho fm_17 rfl dX3_retype_10 ?_
    refine j_iload_n (pc := 13) hc dX3_retype_13 1 rfl rfl ?_
    obtain ⟨v3, ev3, hf4⟩ := ob_i hf3
    clear hf3
    refine j_mldI (pc := 14) hc (k := 3) (by decide) rfl dX3_retype_14 ev3 ?_
    refine j_if_ne (pc := 15) hc dX3_retype_15 (tgt := 36) rfl (fun hh => ?_) (fun hh => ?_)
    · have hf5 := (if_neg hh).symm.trans hf4
      clear hf4
      refine j_iconst (pc := 36) (v := (-1)) hc dX3_retype_36 rfl ?_
      cases hf5
      exact j_iret (pc := 37) hc hq hre rfl dX3_retype_37
    · have hf6 := (if_pos hh).symm.trans hf4
      clear hf4
      refine j_iload_n (pc := 18) hc dX3_retype_18 3 rfl rfl ?_
      refine j_bipush (pc := 19) (v := (110)) hc dX3_retype_19 rfl ?_
      refine j_icmp_eq (pc := 21) hc dX3_retype_21 (tgt := 38) rfl (fun hh => ?_) (fun hh => ?_)
      · have hf7 := (if_pos hh).symm.trans hf6
        clear hf6
        refine j_iconst (pc := 38) (v := (0)) hc dX3_retype_38 rfl ?_
        refine j_istore (pc := 39) (L' := [(4, vi (0)), (0, vr (some a0)), (1, vi x1), (2, vi x2), (3, vi x3)]) hc dX3_retype_39 hnL (by decide) rfl ?_
        refine j_loc (L' := [(0, vr (some a0)), (1, vi x1), (2, vi x2), (3, vi x3), (4, vi (0))]) [1, 2, 3, 4, 0] rfl ?_
        exact w_X3_retype_n41 hc ho hnL hrm hre hct hq fu_ _ _ _ _ _ hf7
      · have hf8 := (if_neg hh).symm.trans hf6
        clear hf6
        refine j_iload_n (pc := 24) hc dX3_retype_24 3 rfl rfl ?_
        refine j_bipush (pc := 25) (v := (116)) hc dX3_retype_25 rfl ?_
        refine j_icmp_eq (pc := 27) hc dX3_retype_27 (tgt := 38) rfl (fun hh => ?_) (fun hh => ?_)
        · have hf9 := (if_pos hh).symm.trans hf8
          clear hf8
          refine j_iconst (pc := 38) (v := (0)) hc dX3_retype_38 rfl ?_
          refine j_istore (pc := 39) (L' := [(4, vi (0)), (0, vr (some a0)), (1, vi x1), (2, vi x2), (3, vi x3)]) hc dX3_retype_39 hnL (by decide) rfl ?_
          refine j_loc (L' := [(0, vr (some a0)), (1, vi x1), (2, vi x2), (3, vi x3), (4, vi (0))]) [1, 2, 3, 4, 0] rfl ?_
          exact w_X3_retype_n41 hc ho hnL hrm hre hct hq fu_ _ _ _ _ _ hf9
        · have hf10 := (if_neg hh).symm.trans hf8
          clear hf8
          refine j_iload_n (pc := 30) hc dX3_retype_30 3 rfl rfl ?_
          refine j_bipush (pc := 31) (v := (100)) hc dX3_retype_31 rfl ?_
          refine j_icmp_eq (pc := 33) hc dX3_retype_33 (tgt := 38) rfl (fun hh => ?_) (fun hh => ?_)
          · have hf11 := (if_pos hh).symm.trans hf10
            clear hf10
            refine j_iconst (pc := 38) (v := (0)) hc dX3_retype_38 rfl ?_
            refine j_istore (pc := 39) (L' := [(4, vi (0)), (0, vr (some a0)), (1, vi x1), (2, vi x2), (3, vi x3)]) hc dX3_retype_39 hnL (by decide) rfl ?_
            refine j_loc (L' := [(0, vr (some a0)), (1, vi x1), (2, vi x2), (3, vi x3), (4, vi (0))]) [1, 2, 3, 4, 0] rfl ?_
            exact w_X3_retype_n41 hc ho hnL hrm hre hct hq fu_ _ _ _ _ _ hf11
          · have hf12 := (if_neg hh).symm.trans hf10
            clear hf10
            refine j_iconst (pc := 36) (v := (-1)) hc dX3_retype_36 rfl ?_
            cases hf12
            exact j_iret (pc := 37) hc hq hre rfl dX3_retype_37
def f_X3_hasBehind_n2 : Nat → Int32 → Int32 → Int32 → MS → Option (Int32 × MS)
  | 0, _, _, _, _ => none
  | n + 1, x1, x2, x3, M =>
    (g_mA M 7 x1).bind fun v1 =>
    if v1 ≤ x3 then
      some ((0), M)
    else
      (g_mA M 8 (((3) * x1) + x3)).bind fun v2 =>
      if v2 = x2 then
        some ((1), M)
      else
        (fun x1 x2 x3 M => f_X3_hasBehind_n2 n x1 x2 x3 M) x1 x2 (x3 + (1)) M
def f_X3_hasBehind (x1 : Int32) (x2 : Int32) (M : MS) : Option (Int32 × MS) :=
  f_X3_hasBehind_n2 fu_ x1 x2 (0) M
set_option maxRecDepth 100000 in
set_option maxHeartbeats 2000000 in
theorem w_X3_hasBehind_n2 {f : CfT} {a0 : Nat} {r : Int32} {S : HS} {M1 : MS} (hc : cf_cc f = cX3_hasBehind) (ho : cf_ow f = "TableCatalogModel") (hnL : cf_nL f = 4) (hrm : cf_rm f = (1, 60)) (hre : cf_re f = (some (.boolean))) (hct : cf_ct f = false) (hq : Qok f (some (vi r)) S (some (a0, M1))) : ∀ (n : Nat) (x1 : Int32) (x2 : Int32) (x3 : Int32) (M : MS), f_X3_hasBehind_n2 n x1 x2 x3 M = some (r, M1) → JJ f S (some (a0, M)) 2 [(0, vr (some a0)), (1, vi x1), (2, vi x2), (3, vi x3)] [] := by
  intro n
  induction n with
  | zero =>
    intro x1 x2 x3 M hf
    have hf : (none : Option (Int32 × MS)) = some (r, M1) := hf
    cases hf
  | succ n ih =>
    intro x1 x2 x3 M hf
    unfold f_X3_hasBehind_n2 at hf
    have hk_2 := ih
    refine j_iload_n (pc := 2) hc dX3_hasBehind_2 3 rfl rfl ?_
    refine j_aload_n (pc := 3) hc dX3_hasBehind_3 0 rfl rfl ?_
    refine j_mgA (pc := 4) hc ho fm_30 rfl dX3_hasBehind_4 ?_
    refine j_iload_n (pc := 7) hc dX3_hasBehind_7 1 rfl rfl ?_
    obtain ⟨v1, ev1, hf1⟩ := ob_i hf
    clear hf
    refine j_mldI (pc := 8) hc (k := 7) (by decide) rfl dX3_hasBehind_8 ev1 ?_
    refine j_icmp_ge (pc := 9) hc dX3_hasBehind_9 (tgt := 34) rfl (fun hh => ?_) (fun hh => ?_)
    · have hf2 := (if_pos hh).symm.trans hf1
      clear hf1
      refine j_iconst (pc := 34) (v := (0)) hc dX3_hasBehind_34 rfl ?_
      cases hf2
      exact j_iret (pc := 35) hc hq hre rfl dX3_hasBehind_35
    · have hf3 := (if_neg hh).symm.trans hf1
      clear hf1
      refine j_aload_n (pc := 12) hc dX3_hasBehind_12 0 rfl rfl ?_
      refine j_mgA (pc := 13) hc ho fm_33 rfl dX3_hasBehind_13 ?_
      refine j_iconst (pc := 16) (v := (3)) hc dX3_hasBehind_16 rfl ?_
      refine j_iload_n (pc := 17) hc dX3_hasBehind_17 1 rfl rfl ?_
      refine j_imul (pc := 18) hc dX3_hasBehind_18 ?_
      refine j_iload_n (pc := 19) hc dX3_hasBehind_19 3 rfl rfl ?_
      refine j_iadd (pc := 20) hc dX3_hasBehind_20 ?_
      obtain ⟨v2, ev2, hf4⟩ := ob_i hf3
      clear hf3
      refine j_mldI (pc := 21) hc (k := 8) (by decide) rfl dX3_hasBehind_21 ev2 ?_
      refine j_iload_n (pc := 22) hc dX3_hasBehind_22 2 rfl rfl ?_
      refine j_icmp_ne (pc := 23) hc dX3_hasBehind_23 (tgt := 28) rfl (fun hh => ?_) (fun hh => ?_)
      · have hf5 := (if_neg hh).symm.trans hf4
        clear hf4
        refine j_iinc (pc := 28) (L' := [(3, vi (x3 + (1))), (0, vr (some a0)), (1, vi x1), (2, vi x2)]) (v := (x3 + (1))) hc dX3_hasBehind_28 3 rfl rfl hnL (by decide) rfl ?_
        refine j_goto (pc := 31) hc dX3_hasBehind_31 (tgt := 2) rfl ?_
        refine j_loc (L' := [(0, vr (some a0)), (1, vi x1), (2, vi x2), (3, vi (x3 + (1)))]) [1, 2, 3, 0] rfl ?_
        exact hk_2 _ _ _ _ hf5
      · have hf6 := (if_pos hh).symm.trans hf4
        clear hf4
        refine j_iconst (pc := 26) (v := (1)) hc dX3_hasBehind_26 rfl ?_
        cases hf6
        exact j_iret (pc := 27) hc hq hre rfl dX3_hasBehind_27
set_option maxRecDepth 100000 in
set_option maxHeartbeats 2000000 in
theorem c_X3_hasBehind {l : Launch} {g : PG} {a0 : Nat} {x1 : Int32} {x2 : Int32} {r : Int32} {S : HS} {M M1 : MS} (hf : f_X3_hasBehind x1 x2 M = some (r, M1)) : (h_nx S ≤ h_nx S ∧ h_sl S ≤ h_sl S) ∧ Ct l g yX3_hasBehind (ws_ yX3_hasBehind cX3_hasBehind 4 (some (.boolean))) 1 60 S (some (a0, M)) [vr (some a0), vi x1, vi x2] (some (vi r)) S (some (a0, M1)) := by
  refine met_of false (by decide) (fun h => by first | rfl | cases h) rfl (Nat.le_of_ble_eq_true rfl) (fun f hl hg hc ho hnL hrm hre hct hex hq => ?_)
  subst hl
  subst hg
  unfold f_X3_hasBehind at hf
  refine j_iconst (pc := 0) (v := (0)) hc dX3_hasBehind_0 rfl ?_
  refine j_istore_n (pc := 1) (L' := [(3, vi (0)), (0, vr (some a0)), (1, vi x1), (2, vi x2)]) hc dX3_hasBehind_1 rfl hnL (by decide) rfl ?_
  refine j_loc (L' := [(0, vr (some a0)), (1, vi x1), (2, vi x2), (3, vi (0))]) [1, 2, 3, 0] rfl ?_
  exact w_X3_hasBehind_n2 hc ho hnL hrm hre hct hq fu_ _ _ _ _ hf
theorem cw_X3_360 : CV "TableCatalogModel" 360 RX3 yX3_hasBehind cX3_hasBehind 4 (some (.boolean)) 2 := ⟨⟨q1592, q1594, qs77, q90, q1595⟩, rfl, by decide, by decide, by decide +kernel⟩
def f_X3_drop_n58 : Nat → Int32 → Int32 → Int32 → MS → Option (Int32 × MS)
  | 0, _, _, _, _ => none
  | n + 1, x1, x2, x3, M =>
    if (m_I M 59) ≤ x3 then
      some (x2, M)
    else
      (g_mA M 61 x3).bind fun v1 =>
      if v1 = x1 then
        (g_mA M 62 x3).bind fun v2 =>
        if v2 = 0 then
          (fun x1 x2 x3 M => f_X3_drop_n58 n x1 x2 x3 M) x1 x2 (x3 + (1)) M
        else
          (p_mA M 62 x3 (0)).bind fun N3 =>
          (fun x1 x2 x3 M => f_X3_drop_n58 n x1 x2 x3 M) x1 (x2 + (1)) (x3 + (1)) N3
      else
        (fun x1 x2 x3 M => f_X3_drop_n58 n x1 x2 x3 M) x1 x2 (x3 + (1)) M
def f_X3_drop_n12 : Nat → Int32 → Int32 → MS → Option (Int32 × MS)
  | 0, _, _, _ => none
  | n + 1, x1, x2, M =>
    if (m_I M 0) ≤ x2 then
      (p_mA M 1 x1 (vp_nar .boolean (0))).bind fun N1 =>
      f_X3_drop_n58 fu_ x1 (0) (0) N1
    else
      (g_mA M 1 x2).bind fun v2 =>
      if v2 = 0 then
        (fun x1 x2 M => f_X3_drop_n12 n x1 x2 M) x1 (x2 + (1)) M
      else
        o_bd (f_X3_hasBehind x2 x1 M) fun v4 N3 =>
        if v4 = 0 then
          (fun x1 x2 M => f_X3_drop_n12 n x1 x2 M) x1 (x2 + (1)) N3
        else
          some ((-2), N3)
def f_X3_drop (x1 : Int32) (M : MS) : Option (Int32 × MS) :=
  o_bd (f_X3_isTable x1 M) fun v2 N1 =>
  if v2 = 0 then
    some ((-1), N1)
  else
    f_X3_drop_n12 fu_ x1 (0) N1
set_option maxRecDepth 100000 in
set_option maxHeartbeats 2000000 in
theorem w_X3_drop_n58 {f : CfT} {a0 : Nat} {r : Int32} {S : HS} {M1 : MS} (hc : cf_cc f = cX3_drop) (ho : cf_ow f = "TableCatalogModel") (hnL : cf_nL f = 4) (hrm : cf_rm f = (2, 83)) (hre : cf_re f = (some (.int))) (hct : cf_ct f = false) (hq : Qok f (some (vi r)) S (some (a0, M1))) : ∀ (n : Nat) (x1 : Int32) (x2 : Int32) (x3 : Int32) (M : MS), f_X3_drop_n58 n x1 x2 x3 M = some (r, M1) → JJ f S (some (a0, M)) 58 [(0, vr (some a0)), (1, vi x1), (2, vi x2), (3, vi x3)] [] := by
  intro n
  induction n with
  | zero =>
    intro x1 x2 x3 M hf
    have hf : (none : Option (Int32 × MS)) = some (r, M1) := hf
    cases hf
  | succ n ih =>
    intro x1 x2 x3 M hf
    unfold f_X3_drop_n58 at hf
    have hk_58 := ih
    refine j_iload_n (pc := 58) hc dX3_drop_58 3 rfl rfl ?_
    refine j_aload_n (pc := 59) hc dX3_drop_59 0 rfl rfl ?_
    refine j_mgI (pc := 60) hc ho fm_348 rfl dX3_drop_60 ?_
    refine j_icmp_ge (pc := 63) hc dX3_drop_63 (tgt := 104) rfl (fun hh => ?_) (fun hh => ?_)
    · have hf1 := (if_pos hh).symm.trans hf
      clear hf
      refine j_iload_n (pc := 104) hc dX3_drop_104 2 rfl rfl ?_
      cases hf1
      exact j_iret (pc := 105) hc hq hre rfl dX3_drop_105
    · have hf2 := (if_neg hh).symm.trans hf
      clear hf
      refine j_aload_n (pc := 66) hc dX3_drop_66 0 rfl rfl ?_
      refine j_mgA (pc := 67) hc ho fm_147 rfl dX3_drop_67 ?_
      refine j_iload_n (pc := 70) hc dX3_drop_70 3 rfl rfl ?_
      obtain ⟨v1, ev1, hf3⟩ := ob_i hf2
      clear hf2
      refine j_mldI (pc := 71) hc (k := 61) (by decide) rfl dX3_drop_71 ev1 ?_
      refine j_iload_n (pc := 72) hc dX3_drop_72 1 rfl rfl ?_
      refine j_icmp_ne (pc := 73) hc dX3_drop_73 (tgt := 98) rfl (fun hh => ?_) (fun hh => ?_)
      · have hf4 := (if_neg hh).symm.trans hf3
        clear hf3
        refine j_iinc (pc := 98) (L' := [(3, vi (x3 + (1))), (0, vr (some a0)), (1, vi x1), (2, vi x2)]) (v := (x3 + (1))) hc dX3_drop_98 3 rfl rfl hnL (by decide) rfl ?_
        refine j_goto (pc := 101) hc dX3_drop_101 (tgt := 58) rfl ?_
        refine j_loc (L' := [(0, vr (some a0)), (1, vi x1), (2, vi x2), (3, vi (x3 + (1)))]) [1, 2, 3, 0] rfl ?_
        exact hk_58 _ _ _ _ hf4
      · have hf5 := (if_pos hh).symm.trans hf3
        clear hf3
        refine j_aload_n (pc := 76) hc dX3_drop_76 0 rfl rfl ?_
        refine j_mgA (pc := 77) hc ho fm_150 rfl dX3_drop_77 ?_
        refine j_iload_n (pc := 80) hc dX3_drop_80 3 rfl rfl ?_
        obtain ⟨v2, ev2, hf6⟩ := ob_i hf5
        clear hf5
        refine j_mldI (pc := 81) hc (k := 62) (by decide) rfl dX3_drop_81 ev2 ?_
        refine j_if_ne (pc := 82) hc dX3_drop_82 (tgt := 88) rfl (fun hh => ?_) (fun hh => ?_)
        · have hf7 := (if_neg hh).symm.trans hf6
          clear hf6
          refine j_aload_n (pc := 88) hc dX3_drop_88 0 rfl rfl ?_
          refine j_mgA (pc := 89) hc ho fm_150 rfl dX3_drop_89 ?_
          refine j_iload_n (pc := 92) hc dX3_drop_92 3 rfl rfl ?_
          refine j_iconst (pc := 93) (v := (0)) hc dX3_drop_93 rfl ?_
          obtain ⟨N3, eN3, hf8⟩ := ob_i hf7
          clear hf7
          refine j_mstI (pc := 94) hc (k := 62) (by decide) rfl dX3_drop_94 eN3 ?_
          refine j_iinc (pc := 95) (L' := [(2, vi (x2 + (1))), (0, vr (some a0)), (1, vi x1), (3, vi x3)]) (v := (x2 + (1))) hc dX3_drop_95 2 rfl rfl hnL (by decide) rfl ?_
          refine j_iinc (pc := 98) (L' := [(3, vi (x3 + (1))), (2, vi (x2 + (1))), (0, vr (some a0)), (1, vi x1)]) (v := (x3 + (1))) hc dX3_drop_98 3 rfl rfl hnL (by decide) rfl ?_
          refine j_goto (pc := 101) hc dX3_drop_101 (tgt := 58) rfl ?_
          refine j_loc (L' := [(0, vr (some a0)), (1, vi x1), (2, vi (x2 + (1))), (3, vi (x3 + (1)))]) [2, 3, 1, 0] rfl ?_
          exact hk_58 _ _ _ _ hf8
        · have hf9 := (if_pos hh).symm.trans hf6
          clear hf6
          refine j_goto (pc := 85) hc dX3_drop_85 (tgt := 98) rfl ?_
          refine j_iinc (pc := 98) (L' := [(3, vi (x3 + (1))), (0, vr (some a0)), (1, vi x1), (2, vi x2)]) (v := (x3 + (1))) hc dX3_drop_98 3 rfl rfl hnL (by decide) rfl ?_
          refine j_goto (pc := 101) hc dX3_drop_101 (tgt := 58) rfl ?_
          refine j_loc (L' := [(0, vr (some a0)), (1, vi x1), (2, vi x2), (3, vi (x3 + (1)))]) [1, 2, 3, 0] rfl ?_
          exact hk_58 _ _ _ _ hf9
set_option maxRecDepth 100000 in
set_option maxHeartbeats 2000000 in
theorem w_X3_drop_n12 {f : CfT} {a0 : Nat} {r : Int32} {S : HS} {M1 : MS} (hc : cf_cc f = cX3_drop) (ho : cf_ow f = "TableCatalogModel") (hnL : cf_nL f = 4) (hrm : cf_rm f = (2, 83)) (hre : cf_re f = (some (.int))) (hct : cf_ct f = false) (hq : Qok f (some (vi r)) S (some (a0, M1))) : ∀ (n : Nat) (x1 : Int32) (x2 : Int32) (M : MS), f_X3_drop_n12 n x1 x2 M = some (r, M1) → JJ f S (some (a0, M)) 12 [(0, vr (some a0)), (1, vi x1), (2, vi x2)] [] := by
  intro n
  induction n with
  | zero =>
    intro x1 x2 M hf
    have hf : (none : Option (Int32 × MS)) = some (r, M1) := hf
    cases hf
  | succ n ih =>
    intro x1 x2 M hf
    unfold f_X3_drop_n12 at hf
    have hk_12 := ih
    refine j_iload_n (pc := 12) hc dX3_drop_12 2 rfl rfl ?_
    refine j_aload_n (pc := 13) hc dX3_drop_13 0 rfl rfl ?_
    refine j_mgI (pc := 14) hc ho fm_159 rfl dX3_drop_14 ?_
    refine j_icmp_ge (pc := 17) hc dX3_drop_17 (tgt := 47) rfl (fun hh => ?_) (fun hh => ?_)
    · have hf1 := (if_pos hh).symm.trans hf
      clear hf
      refine j_aload_n (pc := 47) hc dX3_drop_47 0 rfl rfl ?_
      refine j_mgA (pc := 48) hc ho fm_7 rfl dX3_drop_48 ?_
      refine j_iload_n (pc := 51) hc dX3_drop_51 1 rfl rfl ?_
      refine j_iconst (pc := 52) (v := (0)) hc dX3_drop_52 rfl ?_
      obtain ⟨N1, eN1, hf2⟩ := ob_i hf1
      clear hf1
      refine j_mstZ (pc := 53) hc (k := 1) (by decide) rfl dX3_drop_53 eN1 ?_
      refine j_iconst (pc := 54) (v := (0)) hc dX3_drop_54 rfl ?_
      refine j_istore_n (pc := 55) (L' := [(2, vi (0)), (0, vr (some a0)), (1, vi x1)]) hc dX3_drop_55 rfl hnL (by decide) rfl ?_
      refine j_iconst (pc := 56) (v := (0)) hc dX3_drop_56 rfl ?_
      refine j_istore_n (pc := 57) (L' := [(3, vi (0)), (2, vi (0)), (0, vr (some a0)), (1, vi x1)]) hc dX3_drop_57 rfl hnL (by decide) rfl ?_
      refine j_loc (L' := [(0, vr (some a0)), (1, vi x1), (2, vi (0)), (3, vi (0))]) [2, 3, 1, 0] rfl ?_
      exact w_X3_drop_n58 hc ho hnL hrm hre hct hq fu_ _ _ _ _ hf2
    · have hf3 := (if_neg hh).symm.trans hf
      clear hf
      refine j_aload_n (pc := 20) hc dX3_drop_20 0 rfl rfl ?_
      refine j_mgA (pc := 21) hc ho fm_7 rfl dX3_drop_21 ?_
      refine j_iload_n (pc := 24) hc dX3_drop_24 2 rfl rfl ?_
      obtain ⟨v2, ev2, hf4⟩ := ob_i hf3
      clear hf3
      refine j_mldZ (pc := 25) hc (k := 1) (by decide) rfl dX3_drop_25 ev2 ?_
      refine j_if_eq (pc := 26) hc dX3_drop_26 (tgt := 41) rfl (fun hh => ?_) (fun hh => ?_)
      · have hf5 := (if_pos hh).symm.trans hf4
        clear hf4
        refine j_iinc (pc := 41) (L' := [(2, vi (x2 + (1))), (0, vr (some a0)), (1, vi x1)]) (v := (x2 + (1))) hc dX3_drop_41 2 rfl rfl hnL (by decide) rfl ?_
        refine j_goto (pc := 44) hc dX3_drop_44 (tgt := 12) rfl ?_
        refine j_loc (L' := [(0, vr (some a0)), (1, vi x1), (2, vi (x2 + (1)))]) [1, 2, 0] rfl ?_
        exact hk_12 _ _ _ hf5
      · have hf6 := (if_neg hh).symm.trans hf4
        clear hf4
        refine j_aload_n (pc := 29) hc dX3_drop_29 0 rfl rfl ?_
        refine j_iload_n (pc := 30) hc dX3_drop_30 2 rfl rfl ?_
        refine j_iload_n (pc := 31) hc dX3_drop_31 1 rfl rfl ?_
        obtain ⟨v4, N3, ev4, hf7⟩ := ob_c hf6
        clear hf6
        refine j_callV (pc := 32) (As := [vi x2, vi x1]) (rest := []) (st2 := [vi v4]) hc ho cw_X3_360 (c_X3_hasBehind ev4) (Or.inr ⟨rfl, _, rfl⟩) hrm ⟨by decide, by decide⟩ rfl (Nat.le_of_ble_eq_true rfl) dX3_drop_32 rfl rfl ?_
        refine j_if_eq (pc := 35) hc dX3_drop_35 (tgt := 41) rfl (fun hh => ?_) (fun hh => ?_)
        · have hf8 := (if_pos hh).symm.trans hf7
          clear hf7
          refine j_iinc (pc := 41) (L' := [(2, vi (x2 + (1))), (0, vr (some a0)), (1, vi x1)]) (v := (x2 + (1))) hc dX3_drop_41 2 rfl rfl hnL (by decide) rfl ?_
          refine j_goto (pc := 44) hc dX3_drop_44 (tgt := 12) rfl ?_
          refine j_loc (L' := [(0, vr (some a0)), (1, vi x1), (2, vi (x2 + (1)))]) [1, 2, 0] rfl ?_
          exact hk_12 _ _ _ hf8
        · have hf9 := (if_neg hh).symm.trans hf7
          clear hf7
          refine j_bipush (pc := 38) (v := (-2)) hc dX3_drop_38 rfl ?_
          cases hf9
          exact j_iret (pc := 40) hc hq hre rfl dX3_drop_40
set_option maxRecDepth 100000 in
set_option maxHeartbeats 2000000 in
theorem c_X3_drop {l : Launch} {g : PG} {a0 : Nat} {x1 : Int32} {r : Int32} {S : HS} {M M1 : MS} (hf : f_X3_drop x1 M = some (r, M1)) : (h_nx S ≤ h_nx S ∧ h_sl S ≤ h_sl S) ∧ Ct l g yX3_drop (ws_ yX3_drop cX3_drop 4 (some (.int))) 2 83 S (some (a0, M)) [vr (some a0), vi x1] (some (vi r)) S (some (a0, M1)) := by
  refine met_of false (by decide) (fun h => by first | rfl | cases h) rfl (Nat.le_of_ble_eq_true rfl) (fun f hl hg hc ho hnL hrm hre hct hex hq => ?_)
  subst hl
  subst hg
  unfold f_X3_drop at hf
  refine j_aload_n (pc := 0) hc dX3_drop_0 0 rfl rfl ?_
  refine j_iload_n (pc := 1) hc dX3_drop_1 1 rfl rfl ?_
  obtain ⟨v2, N1, ev2, hf1⟩ := ob_c hf
  clear hf
  refine j_callV (pc := 2) (As := [vi x1]) (rest := []) (st2 := [vi v2]) hc ho cw_X3_162 (c_X3_isTable ev2) (Or.inr ⟨rfl, _, rfl⟩) hrm ⟨by decide, by decide⟩ rfl (Nat.le_of_ble_eq_true rfl) dX3_drop_2 rfl rfl ?_
  refine j_if_ne (pc := 5) hc dX3_drop_5 (tgt := 10) rfl (fun hh => ?_) (fun hh => ?_)
  · have hf2 := (if_neg hh).symm.trans hf1
    clear hf1
    refine j_iconst (pc := 10) (v := (0)) hc dX3_drop_10 rfl ?_
    refine j_istore_n (pc := 11) (L' := [(2, vi (0)), (0, vr (some a0)), (1, vi x1)]) hc dX3_drop_11 rfl hnL (by decide) rfl ?_
    refine j_loc (L' := [(0, vr (some a0)), (1, vi x1), (2, vi (0))]) [1, 2, 0] rfl ?_
    exact w_X3_drop_n12 hc ho hnL hrm hre hct hq fu_ _ _ _ hf2
  · have hf3 := (if_pos hh).symm.trans hf1
    clear hf1
    refine j_iconst (pc := 8) (v := (-1)) hc dX3_drop_8 rfl ?_
    cases hf3
    exact j_iret (pc := 9) hc hq hre rfl dX3_drop_9
def f_X3_freeze (x1 : Int32) (M : MS) : Option (Int32 × MS) :=
  o_bd (f_X3_isTable x1 M) fun v2 N1 =>
  if v2 = 0 then
    some ((0), N1)
  else
    (g_mA N1 3 x1).bind fun v3 =>
    if v3 = (2) then
      (p_mA N1 3 x1 (3)).bind fun N4 =>
      (p_mA N4 7 x1 (0)).bind fun N5 =>
      some ((1), N5)
    else
      some ((0), N1)
set_option maxRecDepth 100000 in
set_option maxHeartbeats 2000000 in
theorem c_X3_freeze {l : Launch} {g : PG} {a0 : Nat} {x1 : Int32} {r : Int32} {S : HS} {M M1 : MS} (hf : f_X3_freeze x1 M = some (r, M1)) : (h_nx S ≤ h_nx S ∧ h_sl S ≤ h_sl S) ∧ Ct l g yX3_freeze (ws_ yX3_freeze cX3_freeze 2 (some (.boolean))) 2 81 S (some (a0, M)) [vr (some a0), vi x1] (some (vi r)) S (some (a0, M1)) := by
  refine met_of false (by decide) (fun h => by first | rfl | cases h) rfl (Nat.le_of_ble_eq_true rfl) (fun f hl hg hc ho hnL hrm hre hct hex hq => ?_)
  subst hl
  subst hg
  unfold f_X3_freeze at hf
  refine j_aload_n (pc := 0) hc dX3_freeze_0 0 rfl rfl ?_
  refine j_iload_n (pc := 1) hc dX3_freeze_1 1 rfl rfl ?_
  obtain ⟨v2, N1, ev2, hf1⟩ := ob_c hf
  clear hf
  refine j_callV (pc := 2) (As := [vi x1]) (rest := []) (st2 := [vi v2]) hc ho cw_X3_162 (c_X3_isTable ev2) (Or.inr ⟨rfl, _, rfl⟩) hrm ⟨by decide, by decide⟩ rfl (Nat.le_of_ble_eq_true rfl) dX3_freeze_2 rfl rfl ?_
  refine j_if_eq (pc := 5) hc dX3_freeze_5 (tgt := 18) rfl (fun hh => ?_) (fun hh => ?_)
  · have hf2 := (if_pos hh).symm.trans hf1
    clear hf1
    refine j_iconst (pc := 18) (v := (0)) hc dX3_freeze_18 rfl ?_
    cases hf2
    exact j_iret (pc := 19) hc hq hre rfl dX3_freeze_19
  · have hf3 := (if_neg hh).symm.trans hf1
    clear hf1
    refine j_aload_n (pc := 8) hc dX3_freeze_8 0 rfl rfl ?_
    refine j_mgA (pc := 9) hc ho fm_17 rfl dX3_freeze_9 ?_
    refine j_iload_n (pc := 12) hc dX3_freeze_12 1 rfl rfl ?_
    obtain ⟨v3, ev3, hf4⟩ := ob_i hf3
    clear hf3
    refine j_mldI (pc := 13) hc (k := 3) (by decide) rfl dX3_freeze_13 ev3 ?_
    refine j_iconst (pc := 14) (v := (2)) hc dX3_freeze_14 rfl ?_
    refine j_icmp_eq (pc := 15) hc dX3_freeze_15 (tgt := 20) rfl (fun hh => ?_) (fun hh => ?_)
    · have hf5 := (if_pos hh).symm.trans hf4
      clear hf4
      refine j_aload_n (pc := 20) hc dX3_freeze_20 0 rfl rfl ?_
      refine j_mgA (pc := 21) hc ho fm_17 rfl dX3_freeze_21 ?_
      refine j_iload_n (pc := 24) hc dX3_freeze_24 1 rfl rfl ?_
      refine j_iconst (pc := 25) (v := (3)) hc dX3_freeze_25 rfl ?_
      obtain ⟨N4, eN4, hf6⟩ := ob_i hf5
      clear hf5
      refine j_mstI (pc := 26) hc (k := 3) (by decide) rfl dX3_freeze_26 eN4 ?_
      refine j_aload_n (pc := 27) hc dX3_freeze_27 0 rfl rfl ?_
      refine j_mgA (pc := 28) hc ho fm_30 rfl dX3_freeze_28 ?_
      refine j_iload_n (pc := 31) hc dX3_freeze_31 1 rfl rfl ?_
      refine j_iconst (pc := 32) (v := (0)) hc dX3_freeze_32 rfl ?_
      obtain ⟨N5, eN5, hf7⟩ := ob_i hf6
      clear hf6
      refine j_mstI (pc := 33) hc (k := 7) (by decide) rfl dX3_freeze_33 eN5 ?_
      refine j_iconst (pc := 34) (v := (1)) hc dX3_freeze_34 rfl ?_
      cases hf7
      exact j_iret (pc := 35) hc hq hre rfl dX3_freeze_35
    · have hf8 := (if_neg hh).symm.trans hf4
      clear hf4
      refine j_iconst (pc := 18) (v := (0)) hc dX3_freeze_18 rfl ?_
      cases hf8
      exact j_iret (pc := 19) hc hq hre rfl dX3_freeze_19
def f_X3_today (x1 : Int32) (M : MS) : Option (Int32 × MS) :=
  if x1 < (m_I M 64) then
    some ((0), M)
  else
    if x1 ≤ (30000) then
      (some (m_sI M 64 x1)).bind fun N1 =>
      some ((1), N1)
    else
      some ((0), M)
set_option maxRecDepth 100000 in
set_option maxHeartbeats 2000000 in
theorem c_X3_today {l : Launch} {g : PG} {a0 : Nat} {x1 : Int32} {r : Int32} {S : HS} {M M1 : MS} (hf : f_X3_today x1 M = some (r, M1)) : (h_nx S ≤ h_nx S ∧ h_sl S ≤ h_sl S) ∧ Ct l g yX3_today (ws_ yX3_today cX3_today 2 (some (.boolean))) 1 60 S (some (a0, M)) [vr (some a0), vi x1] (some (vi r)) S (some (a0, M1)) := by
  refine met_of false (by decide) (fun h => by first | rfl | cases h) rfl (Nat.le_of_ble_eq_true rfl) (fun f hl hg hc ho hnL hrm hre hct hex hq => ?_)
  subst hl
  subst hg
  unfold f_X3_today at hf
  refine j_iload_n (pc := 0) hc dX3_today_0 1 rfl rfl ?_
  refine j_aload_n (pc := 1) hc dX3_today_1 0 rfl rfl ?_
  refine j_mgI (pc := 2) hc ho fm_351 rfl dX3_today_2 ?_
  refine j_icmp_lt (pc := 5) hc dX3_today_5 (tgt := 15) rfl (fun hh => ?_) (fun hh => ?_)
  · have hf1 := (if_pos hh).symm.trans hf
    clear hf
    refine j_iconst (pc := 15) (v := (0)) hc dX3_today_15 rfl ?_
    cases hf1
    exact j_iret (pc := 16) hc hq hre rfl dX3_today_16
  · have hf2 := (if_neg hh).symm.trans hf
    clear hf
    refine j_iload_n (pc := 8) hc dX3_today_8 1 rfl rfl ?_
    refine j_sipush (pc := 9) (v := (30000)) hc dX3_today_9 rfl ?_
    refine j_icmp_le (pc := 12) hc dX3_today_12 (tgt := 17) rfl (fun hh => ?_) (fun hh => ?_)
    · have hf3 := (if_pos hh).symm.trans hf2
      clear hf2
      refine j_aload_n (pc := 17) hc dX3_today_17 0 rfl rfl ?_
      refine j_iload_n (pc := 18) hc dX3_today_18 1 rfl rfl ?_
      obtain ⟨N1, eN1, hf4⟩ := ob_i hf3
      clear hf3
      refine j_mpI (pc := 19) hc ho fm_351 rfl rfl rfl rfl dX3_today_19 eN1 ?_
      refine j_iconst (pc := 22) (v := (1)) hc dX3_today_22 rfl ?_
      cases hf4
      exact j_iret (pc := 23) hc hq hre rfl dX3_today_23
    · have hf5 := (if_neg hh).symm.trans hf2
      clear hf2
      refine j_iconst (pc := 15) (v := (0)) hc dX3_today_15 rfl ?_
      cases hf5
      exact j_iret (pc := 16) hc hq hre rfl dX3_today_16
def f_X3_fed (x1 : Int32) (x2 : Int32) (x3 : Int32) (M : MS) : Option (Int32 × MS) :=
  o_bd (f_X3_isTable x1 M) fun v2 N1 =>
  if v2 = 0 then
    some ((0), N1)
  else
    (g_mA N1 3 x1).bind fun v3 =>
    if v3 = 0 then
      if x2 < 0 then
        some ((0), N1)
      else
        if x3 < x2 then
          some ((0), N1)
        else
          if x3 ≤ (m_I N1 64) then
            (p_mA N1 11 x1 x2).bind fun N4 =>
            (p_mA N4 12 x1 x3).bind fun N5 =>
            some ((1), N5)
          else
            some ((0), N1)
    else
      some ((0), N1)
set_option maxRecDepth 100000 in
set_option maxHeartbeats 2000000 in
theorem c_X3_fed {l : Launch} {g : PG} {a0 : Nat} {x1 : Int32} {x2 : Int32} {x3 : Int32} {r : Int32} {S : HS} {M M1 : MS} (hf : f_X3_fed x1 x2 x3 M = some (r, M1)) : (h_nx S ≤ h_nx S ∧ h_sl S ≤ h_sl S) ∧ Ct l g yX3_fed (ws_ yX3_fed cX3_fed 4 (some (.boolean))) 2 81 S (some (a0, M)) [vr (some a0), vi x1, vi x2, vi x3] (some (vi r)) S (some (a0, M1)) := by
  refine met_of false (by decide) (fun h => by first | rfl | cases h) rfl (Nat.le_of_ble_eq_true rfl) (fun f hl hg hc ho hnL hrm hre hct hex hq => ?_)
  subst hl
  subst hg
  unfold f_X3_fed at hf
  refine j_aload_n (pc := 0) hc dX3_fed_0 0 rfl rfl ?_
  refine j_iload_n (pc := 1) hc dX3_fed_1 1 rfl rfl ?_
  obtain ⟨v2, N1, ev2, hf1⟩ := ob_c hf
  clear hf
  refine j_callV (pc := 2) (As := [vi x1]) (rest := []) (st2 := [vi v2]) hc ho cw_X3_162 (c_X3_isTable ev2) (Or.inr ⟨rfl, _, rfl⟩) hrm ⟨by decide, by decide⟩ rfl (Nat.le_of_ble_eq_true rfl) dX3_fed_2 rfl rfl ?_
  refine j_if_eq (pc := 5) hc dX3_fed_5 (tgt := 34) rfl (fun hh => ?_) (fun hh => ?_)
  · have hf2 := (if_pos hh).symm.trans hf1
    clear hf1
    refine j_iconst (pc := 34) (v := (0)) hc dX3_fed_34 rfl ?_
    cases hf2
    exact j_iret (pc := 35) hc hq hre rfl dX3_fed_35
  · have hf3 := (if_neg hh).symm.trans hf1
    clear hf1
    refine j_aload_n (pc := 8) hc dX3_fed_8 0 rfl rfl ?_
    refine j_mgA (pc := 9) hc ho fm_17 rfl dX3_fed_9 ?_
    refine j_iload_n (pc := 12) hc dX3_fed_12 1 rfl rfl ?_
    obtain ⟨v3, ev3, hf4⟩ := ob_i hf3
    clear hf3
    refine j_mldI (pc := 13) hc (k := 3) (by decide) rfl dX3_fed_13 ev3 ?_
    refine j_if_ne (pc := 14) hc dX3_fed_14 (tgt := 34) rfl (fun hh => ?_) (fun hh => ?_)
    · have hf5 := (if_neg hh).symm.trans hf4
      clear hf4
      refine j_iconst (pc := 34) (v := (0)) hc dX3_fed_34 rfl ?_
      cases hf5
      exact j_iret (pc := 35) hc hq hre rfl dX3_fed_35
    · have hf6 := (if_pos hh).symm.trans hf4
      clear hf4
      refine j_iload_n (pc := 17) hc dX3_fed_17 2 rfl rfl ?_
      refine j_if_lt (pc := 18) hc dX3_fed_18 (tgt := 34) rfl (fun hh => ?_) (fun hh => ?_)
      · have hf7 := (if_pos hh).symm.trans hf6
        clear hf6
        refine j_iconst (pc := 34) (v := (0)) hc dX3_fed_34 rfl ?_
        cases hf7
        exact j_iret (pc := 35) hc hq hre rfl dX3_fed_35
      · have hf8 := (if_neg hh).symm.trans hf6
        clear hf6
        refine j_iload_n (pc := 21) hc dX3_fed_21 2 rfl rfl ?_
        refine j_iload_n (pc := 22) hc dX3_fed_22 3 rfl rfl ?_
        refine j_icmp_gt (pc := 23) hc dX3_fed_23 (tgt := 34) rfl (fun hh => ?_) (fun hh => ?_)
        · have hf9 := (if_pos hh).symm.trans hf8
          clear hf8
          refine j_iconst (pc := 34) (v := (0)) hc dX3_fed_34 rfl ?_
          cases hf9
          exact j_iret (pc := 35) hc hq hre rfl dX3_fed_35
        · have hf10 := (if_neg hh).symm.trans hf8
          clear hf8
          refine j_iload_n (pc := 26) hc dX3_fed_26 3 rfl rfl ?_
          refine j_aload_n (pc := 27) hc dX3_fed_27 0 rfl rfl ?_
          refine j_mgI (pc := 28) hc ho fm_351 rfl dX3_fed_28 ?_
          refine j_icmp_le (pc := 31) hc dX3_fed_31 (tgt := 36) rfl (fun hh => ?_) (fun hh => ?_)
          · have hf11 := (if_pos hh).symm.trans hf10
            clear hf10
            refine j_aload_n (pc := 36) hc dX3_fed_36 0 rfl rfl ?_
            refine j_mgA (pc := 37) hc ho fm_42 rfl dX3_fed_37 ?_
            refine j_iload_n (pc := 40) hc dX3_fed_40 1 rfl rfl ?_
            refine j_iload_n (pc := 41) hc dX3_fed_41 2 rfl rfl ?_
            obtain ⟨N4, eN4, hf12⟩ := ob_i hf11
            clear hf11
            refine j_mstI (pc := 42) hc (k := 11) (by decide) rfl dX3_fed_42 eN4 ?_
            refine j_aload_n (pc := 43) hc dX3_fed_43 0 rfl rfl ?_
            refine j_mgA (pc := 44) hc ho fm_45 rfl dX3_fed_44 ?_
            refine j_iload_n (pc := 47) hc dX3_fed_47 1 rfl rfl ?_
            refine j_iload_n (pc := 48) hc dX3_fed_48 3 rfl rfl ?_
            obtain ⟨N5, eN5, hf13⟩ := ob_i hf12
            clear hf12
            refine j_mstI (pc := 49) hc (k := 12) (by decide) rfl dX3_fed_49 eN5 ?_
            refine j_iconst (pc := 50) (v := (1)) hc dX3_fed_50 rfl ?_
            cases hf13
            exact j_iret (pc := 51) hc hq hre rfl dX3_fed_51
          · have hf14 := (if_neg hh).symm.trans hf10
            clear hf10
            refine j_iconst (pc := 34) (v := (0)) hc dX3_fed_34 rfl ?_
            cases hf14
            exact j_iret (pc := 35) hc hq hre rfl dX3_fed_35
def f_X3_run (x1 : Int32) (M : MS) : Option (Int32 × MS) :=
  o_bd (f_X3_isTable x1 M) fun v2 N1 =>
  if v2 = 0 then
    some ((0), N1)
  else
    (g_mA N1 3 x1).bind fun v3 =>
    if v3 = (2) then
      (f_X3_ages N1).bind fun N4 =>
      (f_X3_agesBehind x1 N4).bind fun N5 =>
      (g_mA N5 55 x1).bind fun v6 =>
      if v6 = (-1) then
        some ((0), N5)
      else
        (g_mA N5 54 x1).bind fun v7 =>
        (p_mA N5 11 x1 v7).bind fun N8 =>
        (g_mA N8 55 x1).bind fun v9 =>
        (p_mA N8 12 x1 v9).bind fun N10 =>
        some ((1), N10)
    else
      some ((0), N1)
set_option maxRecDepth 100000 in
set_option maxHeartbeats 2000000 in
theorem c_X3_run {l : Launch} {g : PG} {a0 : Nat} {x1 : Int32} {r : Int32} {S : HS} {M M1 : MS} (hf : f_X3_run x1 M = some (r, M1)) : (h_nx S ≤ h_nx S ∧ h_sl S ≤ h_sl S) ∧ Ct l g yX3_run (ws_ yX3_run cX3_run 2 (some (.boolean))) 3 104 S (some (a0, M)) [vr (some a0), vi x1] (some (vi r)) S (some (a0, M1)) := by
  refine met_of false (by decide) (fun h => by first | rfl | cases h) rfl (Nat.le_of_ble_eq_true rfl) (fun f hl hg hc ho hnL hrm hre hct hex hq => ?_)
  subst hl
  subst hg
  unfold f_X3_run at hf
  refine j_aload_n (pc := 0) hc dX3_run_0 0 rfl rfl ?_
  refine j_iload_n (pc := 1) hc dX3_run_1 1 rfl rfl ?_
  obtain ⟨v2, N1, ev2, hf1⟩ := ob_c hf
  clear hf
  refine j_callV (pc := 2) (As := [vi x1]) (rest := []) (st2 := [vi v2]) hc ho cw_X3_162 (c_X3_isTable ev2) (Or.inr ⟨rfl, _, rfl⟩) hrm ⟨by decide, by decide⟩ rfl (Nat.le_of_ble_eq_true rfl) dX3_run_2 rfl rfl ?_
  refine j_if_eq (pc := 5) hc dX3_run_5 (tgt := 18) rfl (fun hh => ?_) (fun hh => ?_)
  · have hf2 := (if_pos hh).symm.trans hf1
    clear hf1
    refine j_iconst (pc := 18) (v := (0)) hc dX3_run_18 rfl ?_
    cases hf2
    exact j_iret (pc := 19) hc hq hre rfl dX3_run_19
  · have hf3 := (if_neg hh).symm.trans hf1
    clear hf1
    refine j_aload_n (pc := 8) hc dX3_run_8 0 rfl rfl ?_
    refine j_mgA (pc := 9) hc ho fm_17 rfl dX3_run_9 ?_
    refine j_iload_n (pc := 12) hc dX3_run_12 1 rfl rfl ?_
    obtain ⟨v3, ev3, hf4⟩ := ob_i hf3
    clear hf3
    refine j_mldI (pc := 13) hc (k := 3) (by decide) rfl dX3_run_13 ev3 ?_
    refine j_iconst (pc := 14) (v := (2)) hc dX3_run_14 rfl ?_
    refine j_icmp_eq (pc := 15) hc dX3_run_15 (tgt := 20) rfl (fun hh => ?_) (fun hh => ?_)
    · have hf5 := (if_pos hh).symm.trans hf4
      clear hf4
      refine j_aload_n (pc := 20) hc dX3_run_20 0 rfl rfl ?_
      obtain ⟨N4, eN4, hf6⟩ := ob_i hf5
      clear hf5
      refine j_callV (pc := 21) (As := []) (rest := []) (st2 := []) hc ho cw_X3_313 (c_X3_ages eN4) (Or.inr ⟨rfl, _, rfl⟩) hrm ⟨by decide, by decide⟩ rfl (Nat.le_of_ble_eq_true rfl) dX3_run_21 rfl rfl ?_
      refine j_aload_n (pc := 24) hc dX3_run_24 0 rfl rfl ?_
      refine j_iload_n (pc := 25) hc dX3_run_25 1 rfl rfl ?_
      obtain ⟨N5, eN5, hf7⟩ := ob_i hf6
      clear hf6
      refine j_callV (pc := 26) (As := [vi x1]) (rest := []) (st2 := []) hc ho cw_X3_310 (c_X3_agesBehind eN5) (Or.inr ⟨rfl, _, rfl⟩) hrm ⟨by decide, by decide⟩ rfl (Nat.le_of_ble_eq_true rfl) dX3_run_26 rfl rfl ?_
      refine j_aload_n (pc := 29) hc dX3_run_29 0 rfl rfl ?_
      refine j_mgA (pc := 30) hc ho fm_135 rfl dX3_run_30 ?_
      refine j_iload_n (pc := 33) hc dX3_run_33 1 rfl rfl ?_
      obtain ⟨v6, ev6, hf8⟩ := ob_i hf7
      clear hf7
      refine j_mldI (pc := 34) hc (k := 55) (by decide) rfl dX3_run_34 ev6 ?_
      refine j_iconst (pc := 35) (v := (-1)) hc dX3_run_35 rfl ?_
      refine j_icmp_ne (pc := 36) hc dX3_run_36 (tgt := 41) rfl (fun hh => ?_) (fun hh => ?_)
      · have hf9 := (if_neg hh).symm.trans hf8
        clear hf8
        refine j_aload_n (pc := 41) hc dX3_run_41 0 rfl rfl ?_
        refine j_mgA (pc := 42) hc ho fm_42 rfl dX3_run_42 ?_
        refine j_iload_n (pc := 45) hc dX3_run_45 1 rfl rfl ?_
        refine j_aload_n (pc := 46) hc dX3_run_46 0 rfl rfl ?_
        refine j_mgA (pc := 47) hc ho fm_132 rfl dX3_run_47 ?_
        refine j_iload_n (pc := 50) hc dX3_run_50 1 rfl rfl ?_
        obtain ⟨v7, ev7, hf10⟩ := ob_i hf9
        clear hf9
        refine j_mldI (pc := 51) hc (k := 54) (by decide) rfl dX3_run_51 ev7 ?_
        obtain ⟨N8, eN8, hf11⟩ := ob_i hf10
        clear hf10
        refine j_mstI (pc := 52) hc (k := 11) (by decide) rfl dX3_run_52 eN8 ?_
        refine j_aload_n (pc := 53) hc dX3_run_53 0 rfl rfl ?_
        refine j_mgA (pc := 54) hc ho fm_45 rfl dX3_run_54 ?_
        refine j_iload_n (pc := 57) hc dX3_run_57 1 rfl rfl ?_
        refine j_aload_n (pc := 58) hc dX3_run_58 0 rfl rfl ?_
        refine j_mgA (pc := 59) hc ho fm_135 rfl dX3_run_59 ?_
        refine j_iload_n (pc := 62) hc dX3_run_62 1 rfl rfl ?_
        obtain ⟨v9, ev9, hf12⟩ := ob_i hf11
        clear hf11
        refine j_mldI (pc := 63) hc (k := 55) (by decide) rfl dX3_run_63 ev9 ?_
        obtain ⟨N10, eN10, hf13⟩ := ob_i hf12
        clear hf12
        refine j_mstI (pc := 64) hc (k := 12) (by decide) rfl dX3_run_64 eN10 ?_
        refine j_iconst (pc := 65) (v := (1)) hc dX3_run_65 rfl ?_
        cases hf13
        exact j_iret (pc := 66) hc hq hre rfl dX3_run_66
      · have hf14 := (if_pos hh).symm.trans hf8
        clear hf8
        refine j_iconst (pc := 39) (v := (0)) hc dX3_run_39 rfl ?_
        cases hf14
        exact j_iret (pc := 40) hc hq hre rfl dX3_run_40
    · have hf15 := (if_neg hh).symm.trans hf4
      clear hf4
      refine j_iconst (pc := 18) (v := (0)) hc dX3_run_18 rfl ?_
      cases hf15
      exact j_iret (pc := 19) hc hq hre rfl dX3_run_19
def f_X3_promise (x1 : Int32) (x2 : Int32) (M : MS) : Option (Int32 × MS) :=
  o_bd (f_X3_isTable x1 M) fun v2 N1 =>
  if v2 = 0 then
    some ((0), N1)
  else
    if x2 < (-1) then
      some ((0), N1)
    else
      if x2 ≤ (1000) then
        (p_mA N1 10 x1 x2).bind fun N3 =>
        some ((1), N3)
      else
        some ((0), N1)
set_option maxRecDepth 100000 in
set_option maxHeartbeats 2000000 in
theorem c_X3_promise {l : Launch} {g : PG} {a0 : Nat} {x1 : Int32} {x2 : Int32} {r : Int32} {S : HS} {M M1 : MS} (hf : f_X3_promise x1 x2 M = some (r, M1)) : (h_nx S ≤ h_nx S ∧ h_sl S ≤ h_sl S) ∧ Ct l g yX3_promise (ws_ yX3_promise cX3_promise 3 (some (.boolean))) 2 81 S (some (a0, M)) [vr (some a0), vi x1, vi x2] (some (vi r)) S (some (a0, M1)) := by
  refine met_of false (by decide) (fun h => by first | rfl | cases h) rfl (Nat.le_of_ble_eq_true rfl) (fun f hl hg hc ho hnL hrm hre hct hex hq => ?_)
  subst hl
  subst hg
  unfold f_X3_promise at hf
  refine j_aload_n (pc := 0) hc dX3_promise_0 0 rfl rfl ?_
  refine j_iload_n (pc := 1) hc dX3_promise_1 1 rfl rfl ?_
  obtain ⟨v2, N1, ev2, hf1⟩ := ob_c hf
  clear hf
  refine j_callV (pc := 2) (As := [vi x1]) (rest := []) (st2 := [vi v2]) hc ho cw_X3_162 (c_X3_isTable ev2) (Or.inr ⟨rfl, _, rfl⟩) hrm ⟨by decide, by decide⟩ rfl (Nat.le_of_ble_eq_true rfl) dX3_promise_2 rfl rfl ?_
  refine j_if_eq (pc := 5) hc dX3_promise_5 (tgt := 20) rfl (fun hh => ?_) (fun hh => ?_)
  · have hf2 := (if_pos hh).symm.trans hf1
    clear hf1
    refine j_iconst (pc := 20) (v := (0)) hc dX3_promise_20 rfl ?_
    cases hf2
    exact j_iret (pc := 21) hc hq hre rfl dX3_promise_21
  · have hf3 := (if_neg hh).symm.trans hf1
    clear hf1
    refine j_iload_n (pc := 8) hc dX3_promise_8 2 rfl rfl ?_
    refine j_iconst (pc := 9) (v := (-1)) hc dX3_promise_9 rfl ?_
    refine j_icmp_lt (pc := 10) hc dX3_promise_10 (tgt := 20) rfl (fun hh => ?_) (fun hh => ?_)
    · have hf4 := (if_pos hh).symm.trans hf3
      clear hf3
      refine j_iconst (pc := 20) (v := (0)) hc dX3_promise_20 rfl ?_
      cases hf4
      exact j_iret (pc := 21) hc hq hre rfl dX3_promise_21
    · have hf5 := (if_neg hh).symm.trans hf3
      clear hf3
      refine j_iload_n (pc := 13) hc dX3_promise_13 2 rfl rfl ?_
      refine j_sipush (pc := 14) (v := (1000)) hc dX3_promise_14 rfl ?_
      refine j_icmp_le (pc := 17) hc dX3_promise_17 (tgt := 22) rfl (fun hh => ?_) (fun hh => ?_)
      · have hf6 := (if_pos hh).symm.trans hf5
        clear hf5
        refine j_aload_n (pc := 22) hc dX3_promise_22 0 rfl rfl ?_
        refine j_mgA (pc := 23) hc ho fm_39 rfl dX3_promise_23 ?_
        refine j_iload_n (pc := 26) hc dX3_promise_26 1 rfl rfl ?_
        refine j_iload_n (pc := 27) hc dX3_promise_27 2 rfl rfl ?_
        obtain ⟨N3, eN3, hf7⟩ := ob_i hf6
        clear hf6
        refine j_mstI (pc := 28) hc (k := 10) (by decide) rfl dX3_promise_28 eN3 ?_
        refine j_iconst (pc := 29) (v := (1)) hc dX3_promise_29 rfl ?_
        cases hf7
        exact j_iret (pc := 30) hc hq hre rfl dX3_promise_30
      · have hf8 := (if_neg hh).symm.trans hf5
        clear hf5
        refine j_iconst (pc := 20) (v := (0)) hc dX3_promise_20 rfl ?_
        cases hf8
        exact j_iret (pc := 21) hc hq hre rfl dX3_promise_21
def f_X3_isBroken (x1 : Int32) (M : MS) : Option (Int32 × MS) :=
  (g_mA M 10 x1).bind fun v1 =>
  if v1 = (-1) then
    some ((0), M)
  else
    (g_mA M 55 x1).bind fun v2 =>
    if v2 = (-1) then
      some ((1), M)
    else
      (g_mA M 55 x1).bind fun v3 =>
      (g_mA M 10 x1).bind fun v4 =>
      if ((m_I M 64) - v4) ≤ v3 then
        some ((0), M)
      else
        some ((1), M)
set_option maxRecDepth 100000 in
set_option maxHeartbeats 2000000 in
theorem c_X3_isBroken {l : Launch} {g : PG} {a0 : Nat} {x1 : Int32} {r : Int32} {S : HS} {M M1 : MS} (hf : f_X3_isBroken x1 M = some (r, M1)) : (h_nx S ≤ h_nx S ∧ h_sl S ≤ h_sl S) ∧ Ct l g yX3_isBroken (ws_ yX3_isBroken cX3_isBroken 2 (some (.boolean))) 1 60 S (some (a0, M)) [vr (some a0), vi x1] (some (vi r)) S (some (a0, M1)) := by
  refine met_of false (by decide) (fun h => by first | rfl | cases h) rfl (Nat.le_of_ble_eq_true rfl) (fun f hl hg hc ho hnL hrm hre hct hex hq => ?_)
  subst hl
  subst hg
  unfold f_X3_isBroken at hf
  refine j_aload_n (pc := 0) hc dX3_isBroken_0 0 rfl rfl ?_
  refine j_mgA (pc := 1) hc ho fm_39 rfl dX3_isBroken_1 ?_
  refine j_iload_n (pc := 4) hc dX3_isBroken_4 1 rfl rfl ?_
  obtain ⟨v1, ev1, hf1⟩ := ob_i hf
  clear hf
  refine j_mldI (pc := 5) hc (k := 10) (by decide) rfl dX3_isBroken_5 ev1 ?_
  refine j_iconst (pc := 6) (v := (-1)) hc dX3_isBroken_6 rfl ?_
  refine j_icmp_eq (pc := 7) hc dX3_isBroken_7 (tgt := 44) rfl (fun hh => ?_) (fun hh => ?_)
  · have hf2 := (if_pos hh).symm.trans hf1
    clear hf1
    refine j_iconst (pc := 44) (v := (0)) hc dX3_isBroken_44 rfl ?_
    cases hf2
    exact j_iret (pc := 45) hc hq hre rfl dX3_isBroken_45
  · have hf3 := (if_neg hh).symm.trans hf1
    clear hf1
    refine j_aload_n (pc := 10) hc dX3_isBroken_10 0 rfl rfl ?_
    refine j_mgA (pc := 11) hc ho fm_135 rfl dX3_isBroken_11 ?_
    refine j_iload_n (pc := 14) hc dX3_isBroken_14 1 rfl rfl ?_
    obtain ⟨v2, ev2, hf4⟩ := ob_i hf3
    clear hf3
    refine j_mldI (pc := 15) hc (k := 55) (by decide) rfl dX3_isBroken_15 ev2 ?_
    refine j_iconst (pc := 16) (v := (-1)) hc dX3_isBroken_16 rfl ?_
    refine j_icmp_eq (pc := 17) hc dX3_isBroken_17 (tgt := 40) rfl (fun hh => ?_) (fun hh => ?_)
    · have hf5 := (if_pos hh).symm.trans hf4
      clear hf4
      refine j_iconst (pc := 40) (v := (1)) hc dX3_isBroken_40 rfl ?_
      refine j_goto (pc := 41) hc dX3_isBroken_41 (tgt := 45) rfl ?_
      cases hf5
      exact j_iret (pc := 45) hc hq hre rfl dX3_isBroken_45
    · have hf6 := (if_neg hh).symm.trans hf4
      clear hf4
      refine j_aload_n (pc := 20) hc dX3_isBroken_20 0 rfl rfl ?_
      refine j_mgA (pc := 21) hc ho fm_135 rfl dX3_isBroken_21 ?_
      refine j_iload_n (pc := 24) hc dX3_isBroken_24 1 rfl rfl ?_
      obtain ⟨v3, ev3, hf7⟩ := ob_i hf6
      clear hf6
      refine j_mldI (pc := 25) hc (k := 55) (by decide) rfl dX3_isBroken_25 ev3 ?_
      refine j_aload_n (pc := 26) hc dX3_isBroken_26 0 rfl rfl ?_
      refine j_mgI (pc := 27) hc ho fm_351 rfl dX3_isBroken_27 ?_
      refine j_aload_n (pc := 30) hc dX3_isBroken_30 0 rfl rfl ?_
      refine j_mgA (pc := 31) hc ho fm_39 rfl dX3_isBroken_31 ?_
      refine j_iload_n (pc := 34) hc dX3_isBroken_34 1 rfl rfl ?_
      obtain ⟨v4, ev4, hf8⟩ := ob_i hf7
      clear hf7
      refine j_mldI (pc := 35) hc (k := 10) (by decide) rfl dX3_isBroken_35 ev4 ?_
      refine j_isub (pc := 36) hc dX3_isBroken_36 ?_
      refine j_icmp_ge (pc := 37) hc dX3_isBroken_37 (tgt := 44) rfl (fun hh => ?_) (fun hh => ?_)
      · have hf9 := (if_pos hh).symm.trans hf8
        clear hf8
        refine j_iconst (pc := 44) (v := (0)) hc dX3_isBroken_44 rfl ?_
        cases hf9
        exact j_iret (pc := 45) hc hq hre rfl dX3_isBroken_45
      · have hf10 := (if_neg hh).symm.trans hf8
        clear hf8
        refine j_iconst (pc := 40) (v := (1)) hc dX3_isBroken_40 rfl ?_
        refine j_goto (pc := 41) hc dX3_isBroken_41 (tgt := 45) rfl ?_
        cases hf10
        exact j_iret (pc := 45) hc hq hre rfl dX3_isBroken_45
theorem cw_X3_363 : CV "TableCatalogModel" 363 RX3 yX3_isBroken cX3_isBroken 2 (some (.boolean)) 1 := ⟨⟨q1620, q1622, qs78, q90, q1623⟩, rfl, by decide, by decide, by decide +kernel⟩
def f_X3_broken_n11 : Nat → Int32 → MS → Option (Int32 × MS)
  | 0, _, _ => none
  | n + 1, x1, M =>
    if (m_I M 0) ≤ x1 then
      some ((m_I M 57), M)
    else
      (g_mA M 1 x1).bind fun v1 =>
      if v1 = 0 then
        (fun x1 M => f_X3_broken_n11 n x1 M) (x1 + (1)) M
      else
        o_bd (f_X3_isBroken x1 M) fun v3 N2 =>
        if v3 = 0 then
          (fun x1 M => f_X3_broken_n11 n x1 M) (x1 + (1)) N2
        else
          (f_X3_finds x1 N2).bind fun N4 =>
          (fun x1 M => f_X3_broken_n11 n x1 M) (x1 + (1)) N4
def f_X3_broken (M : MS) : Option (Int32 × MS) :=
  (f_X3_ages M).bind fun N1 =>
  (some (m_sI N1 57 (0))).bind fun N2 =>
  f_X3_broken_n11 fu_ (0) N2
set_option maxRecDepth 100000 in
set_option maxHeartbeats 2000000 in
theorem w_X3_broken_n11 {f : CfT} {a0 : Nat} {r : Int32} {S : HS} {M1 : MS} (hc : cf_cc f = cX3_broken) (ho : cf_ow f = "TableCatalogModel") (hnL : cf_nL f = 2) (hrm : cf_rm f = (3, 104)) (hre : cf_re f = (some (.int))) (hct : cf_ct f = false) (hq : Qok f (some (vi r)) S (some (a0, M1))) : ∀ (n : Nat) (x1 : Int32) (M : MS), f_X3_broken_n11 n x1 M = some (r, M1) → JJ f S (some (a0, M)) 11 [(0, vr (some a0)), (1, vi x1)] [] := by
  intro n
  induction n with
  | zero =>
    intro x1 M hf
    have hf : (none : Option (Int32 × MS)) = some (r, M1) := hf
    cases hf
  | succ n ih =>
    intro x1 M hf
    unfold f_X3_broken_n11 at hf
    have hk_11 := ih
    refine j_iload_n (pc := 11) hc dX3_broken_11 1 rfl rfl ?_
    refine j_aload_n (pc := 12) hc dX3_broken_12 0 rfl rfl ?_
    refine j_mgI (pc := 13) hc ho fm_159 rfl dX3_broken_13 ?_
    refine j_icmp_ge (pc := 16) hc dX3_broken_16 (tgt := 47) rfl (fun hh => ?_) (fun hh => ?_)
    · have hf1 := (if_pos hh).symm.trans hf
      clear hf
      refine j_aload_n (pc := 47) hc dX3_broken_47 0 rfl rfl ?_
      refine j_mgI (pc := 48) hc ho fm_324 rfl dX3_broken_48 ?_
      cases hf1
      exact j_iret (pc := 51) hc hq hre rfl dX3_broken_51
    · have hf2 := (if_neg hh).symm.trans hf
      clear hf
      refine j_aload_n (pc := 19) hc dX3_broken_19 0 rfl rfl ?_
      refine j_mgA (pc := 20) hc ho fm_7 rfl dX3_broken_20 ?_
      refine j_iload_n (pc := 23) hc dX3_broken_23 1 rfl rfl ?_
      obtain ⟨v1, ev1, hf3⟩ := ob_i hf2
      clear hf2
      refine j_mldZ (pc := 24) hc (k := 1) (by decide) rfl dX3_broken_24 ev1 ?_
      refine j_if_eq (pc := 25) hc dX3_broken_25 (tgt := 41) rfl (fun hh => ?_) (fun hh => ?_)
      · have hf4 := (if_pos hh).symm.trans hf3
        clear hf3
        refine j_iinc (pc := 41) (L' := [(1, vi (x1 + (1))), (0, vr (some a0))]) (v := (x1 + (1))) hc dX3_broken_41 1 rfl rfl hnL (by decide) rfl ?_
        refine j_goto (pc := 44) hc dX3_broken_44 (tgt := 11) rfl ?_
        refine j_loc (L' := [(0, vr (some a0)), (1, vi (x1 + (1)))]) [1, 0] rfl ?_
        exact hk_11 _ _ hf4
      · have hf5 := (if_neg hh).symm.trans hf3
        clear hf3
        refine j_aload_n (pc := 28) hc dX3_broken_28 0 rfl rfl ?_
        refine j_iload_n (pc := 29) hc dX3_broken_29 1 rfl rfl ?_
        obtain ⟨v3, N2, ev3, hf6⟩ := ob_c hf5
        clear hf5
        refine j_callV (pc := 30) (As := [vi x1]) (rest := []) (st2 := [vi v3]) hc ho cw_X3_363 (c_X3_isBroken ev3) (Or.inr ⟨rfl, _, rfl⟩) hrm ⟨by decide, by decide⟩ rfl (Nat.le_of_ble_eq_true rfl) dX3_broken_30 rfl rfl ?_
        refine j_if_eq (pc := 33) hc dX3_broken_33 (tgt := 41) rfl (fun hh => ?_) (fun hh => ?_)
        · have hf7 := (if_pos hh).symm.trans hf6
          clear hf6
          refine j_iinc (pc := 41) (L' := [(1, vi (x1 + (1))), (0, vr (some a0))]) (v := (x1 + (1))) hc dX3_broken_41 1 rfl rfl hnL (by decide) rfl ?_
          refine j_goto (pc := 44) hc dX3_broken_44 (tgt := 11) rfl ?_
          refine j_loc (L' := [(0, vr (some a0)), (1, vi (x1 + (1)))]) [1, 0] rfl ?_
          exact hk_11 _ _ hf7
        · have hf8 := (if_neg hh).symm.trans hf6
          clear hf6
          refine j_aload_n (pc := 36) hc dX3_broken_36 0 rfl rfl ?_
          refine j_iload_n (pc := 37) hc dX3_broken_37 1 rfl rfl ?_
          obtain ⟨N4, eN4, hf9⟩ := ob_i hf8
          clear hf8
          refine j_callV (pc := 38) (As := [vi x1]) (rest := []) (st2 := []) hc ho cw_X3_339 (c_X3_finds eN4) (Or.inr ⟨rfl, _, rfl⟩) hrm ⟨by decide, by decide⟩ rfl (Nat.le_of_ble_eq_true rfl) dX3_broken_38 rfl rfl ?_
          refine j_iinc (pc := 41) (L' := [(1, vi (x1 + (1))), (0, vr (some a0))]) (v := (x1 + (1))) hc dX3_broken_41 1 rfl rfl hnL (by decide) rfl ?_
          refine j_goto (pc := 44) hc dX3_broken_44 (tgt := 11) rfl ?_
          refine j_loc (L' := [(0, vr (some a0)), (1, vi (x1 + (1)))]) [1, 0] rfl ?_
          exact hk_11 _ _ hf9
set_option maxRecDepth 100000 in
set_option maxHeartbeats 2000000 in
theorem c_X3_broken {l : Launch} {g : PG} {a0 : Nat} {r : Int32} {S : HS} {M M1 : MS} (hf : f_X3_broken M = some (r, M1)) : (h_nx S ≤ h_nx S ∧ h_sl S ≤ h_sl S) ∧ Ct l g yX3_broken (ws_ yX3_broken cX3_broken 2 (some (.int))) 3 104 S (some (a0, M)) [vr (some a0)] (some (vi r)) S (some (a0, M1)) := by
  refine met_of false (by decide) (fun h => by first | rfl | cases h) rfl (Nat.le_of_ble_eq_true rfl) (fun f hl hg hc ho hnL hrm hre hct hex hq => ?_)
  subst hl
  subst hg
  unfold f_X3_broken at hf
  refine j_aload_n (pc := 0) hc dX3_broken_0 0 rfl rfl ?_
  obtain ⟨N1, eN1, hf1⟩ := ob_i hf
  clear hf
  refine j_callV (pc := 1) (As := []) (rest := []) (st2 := []) hc ho cw_X3_313 (c_X3_ages eN1) (Or.inr ⟨rfl, _, rfl⟩) hrm ⟨by decide, by decide⟩ rfl (Nat.le_of_ble_eq_true rfl) dX3_broken_1 rfl rfl ?_
  refine j_aload_n (pc := 4) hc dX3_broken_4 0 rfl rfl ?_
  refine j_iconst (pc := 5) (v := (0)) hc dX3_broken_5 rfl ?_
  obtain ⟨N2, eN2, hf2⟩ := ob_i hf1
  clear hf1
  refine j_mpI (pc := 6) hc ho fm_324 rfl rfl rfl rfl dX3_broken_6 eN2 ?_
  refine j_iconst (pc := 9) (v := (0)) hc dX3_broken_9 rfl ?_
  refine j_istore_n (pc := 10) (L' := [(1, vi (0)), (0, vr (some a0))]) hc dX3_broken_10 rfl hnL (by decide) rfl ?_
  refine j_loc (L' := [(0, vr (some a0)), (1, vi (0))]) [1, 0] rfl ?_
  exact w_X3_broken_n11 hc ho hnL hrm hre hct hq fu_ _ _ hf2
def f_X3_late_n100 (k_28 : Int32 → Int32 → Int32 → MS → Option (Int32 × MS)) (k_37 : Int32 → Int32 → Int32 → Int32 → MS → Option (Int32 × MS)) (x1 : Int32) (x4 : Int32) (x5 : Int32) (M : MS) : Option (Int32 × MS) :=
  k_37 x1 x5 (1) (x4 + (1)) M
def f_X3_late_n37 (k_28 : Int32 → Int32 → Int32 → MS → Option (Int32 × MS)) : Nat → Int32 → Int32 → Int32 → Int32 → MS → Option (Int32 × MS)
  | 0, _, _, _, _, _ => none
  | n + 1, x1, x2, x3, x4, M =>
    (g_mA M 7 x2).bind fun v1 =>
    if v1 ≤ x4 then
      k_28 x1 x2 x3 M
    else
      if x3 = 0 then
        (g_mA M 8 (((3) * x2) + x4)).bind fun v2 =>
        (g_mA M 55 v2).bind fun v3 =>
        if v3 = (-1) then
          f_X3_late_n100 k_28 (fun x1 x2 x3 x4 M => f_X3_late_n37 k_28 n x1 x2 x3 x4 M) x1 x4 v2 M
        else
          (g_mA M 55 v2).bind fun v4 =>
          (g_mA M 10 x1).bind fun v5 =>
          if v4 < ((m_I M 64) - v5) then
            f_X3_late_n100 k_28 (fun x1 x2 x3 x4 M => f_X3_late_n37 k_28 n x1 x2 x3 x4 M) x1 x4 v2 M
          else
            (fun x1 x2 x3 x4 M => f_X3_late_n37 k_28 n x1 x2 x3 x4 M) x1 x2 x3 (x4 + (1)) M
      else
        k_28 x1 x2 x3 M
def f_X3_late_n28 : Nat → Int32 → Int32 → Int32 → MS → Option (Int32 × MS)
  | 0, _, _, _, _ => none
  | n + 1, x1, x2, x3, M =>
    if x3 = 0 then
      some (x2, M)
    else
      f_X3_late_n37 (fun x1 x2 x3 M => f_X3_late_n28 n x1 x2 x3 M) fu_ x1 x2 (0) (0) M
def f_X3_late (x1 : Int32) (M : MS) : Option (Int32 × MS) :=
  o_bd (f_X3_isTable x1 M) fun v2 N1 =>
  if v2 = 0 then
    some ((-1), N1)
  else
    (f_X3_ages N1).bind fun N3 =>
    o_bd (f_X3_isBroken x1 N3) fun v5 N4 =>
    if v5 = 0 then
      some ((-1), N4)
    else
      f_X3_late_n28 fu_ x1 x1 (1) N4
set_option maxRecDepth 100000 in
set_option maxHeartbeats 2000000 in
theorem w_X3_late_n100 {f : CfT} {a0 : Nat} {r : Int32} {S : HS} {M1 : MS} (hc : cf_cc f = cX3_late) (ho : cf_ow f = "TableCatalogModel") (hnL : cf_nL f = 6) (hrm : cf_rm f = (3, 104)) (hre : cf_re f = (some (.int))) (hct : cf_ct f = false) (hq : Qok f (some (vi r)) S (some (a0, M1))) {k_28 : Int32 → Int32 → Int32 → MS → Option (Int32 × MS)} (hk_28 : ∀ (x1 : Int32) (x2 : Int32) (x3 : Int32) (M : MS), k_28 x1 x2 x3 M = some (r, M1) → JJ f S (some (a0, M)) 28 [(0, vr (some a0)), (1, vi x1), (2, vi x2), (3, vi x3)] []) {k_37 : Int32 → Int32 → Int32 → Int32 → MS → Option (Int32 × MS)} (hk_37 : ∀ (x1 : Int32) (x2 : Int32) (x3 : Int32) (x4 : Int32) (M : MS), k_37 x1 x2 x3 x4 M = some (r, M1) → JJ f S (some (a0, M)) 37 [(0, vr (some a0)), (1, vi x1), (2, vi x2), (3, vi x3), (4, vi x4)] []) {x1 : Int32} {x4 : Int32} {x5 : Int32} {M : MS} (hf : f_X3_late_n100 k_28 k_37 x1 x4 x5 M = some (r, M1)) : JJ f S (some (a0, M)) 100 [(0, vr (some a0)), (1, vi x1), (4, vi x4), (5, vi x5)] [] := by
  unfold f_X3_late_n100 at hf
  refine j_iload (pc := 100) hc dX3_late_100 3 rfl ?_
  refine j_istore_n (pc := 102) (L' := [(2, vi x5), (0, vr (some a0)), (1, vi x1), (4, vi x4), (5, vi x5)]) hc dX3_late_102 rfl hnL (by decide) rfl ?_
  refine j_iconst (pc := 103) (v := (1)) hc dX3_late_103 rfl ?_
  refine j_istore_n (pc := 104) (L' := [(3, vi (1)), (2, vi x5), (0, vr (some a0)), (1, vi x1), (4, vi x4), (5, vi x5)]) hc dX3_late_104 rfl hnL (by decide) rfl ?_
  refine j_iinc (pc := 105) (L' := [(4, vi (x4 + (1))), (3, vi (1)), (2, vi x5), (0, vr (some a0)), (1, vi x1), (5, vi x5)]) (v := (x4 + (1))) hc dX3_late_105 4 rfl rfl hnL (by decide) rfl ?_
  refine j_goto (pc := 108) hc dX3_late_108 (tgt := 37) rfl ?_
  refine j_loc (L' := [(0, vr (some a0)), (1, vi x1), (2, vi x5), (3, vi (1)), (4, vi (x4 + (1)))]) [3, 4, 2, 1, 0] rfl ?_
  exact hk_37 _ _ _ _ _ hf
set_option maxRecDepth 100000 in
set_option maxHeartbeats 2000000 in
theorem w_X3_late_n37 {f : CfT} {a0 : Nat} {r : Int32} {S : HS} {M1 : MS} (hc : cf_cc f = cX3_late) (ho : cf_ow f = "TableCatalogModel") (hnL : cf_nL f = 6) (hrm : cf_rm f = (3, 104)) (hre : cf_re f = (some (.int))) (hct : cf_ct f = false) (hq : Qok f (some (vi r)) S (some (a0, M1))) {k_28 : Int32 → Int32 → Int32 → MS → Option (Int32 × MS)} (hk_28 : ∀ (x1 : Int32) (x2 : Int32) (x3 : Int32) (M : MS), k_28 x1 x2 x3 M = some (r, M1) → JJ f S (some (a0, M)) 28 [(0, vr (some a0)), (1, vi x1), (2, vi x2), (3, vi x3)] []) : ∀ (n : Nat) (x1 : Int32) (x2 : Int32) (x3 : Int32) (x4 : Int32) (M : MS), f_X3_late_n37 k_28 n x1 x2 x3 x4 M = some (r, M1) → JJ f S (some (a0, M)) 37 [(0, vr (some a0)), (1, vi x1), (2, vi x2), (3, vi x3), (4, vi x4)] [] := by
  intro n
  induction n with
  | zero =>
    intro x1 x2 x3 x4 M hf
    have hf : (none : Option (Int32 × MS)) = some (r, M1) := hf
    cases hf
  | succ n ih =>
    intro x1 x2 x3 x4 M hf
    unfold f_X3_late_n37 at hf
    have hk_37 := ih
    refine j_iload (pc := 37) hc dX3_late_37 4 rfl ?_
    refine j_aload_n (pc := 39) hc dX3_late_39 0 rfl rfl ?_
    refine j_mgA (pc := 40) hc ho fm_30 rfl dX3_late_40 ?_
    refine j_iload_n (pc := 43) hc dX3_late_43 2 rfl rfl ?_
    obtain ⟨v1, ev1, hf1⟩ := ob_i hf
    clear hf
    refine j_mldI (pc := 44) hc (k := 7) (by decide) rfl dX3_late_44 ev1 ?_
    refine j_icmp_ge (pc := 45) hc dX3_late_45 (tgt := 111) rfl (fun hh => ?_) (fun hh => ?_)
    · have hf2 := (if_pos hh).symm.trans hf1
      clear hf1
      refine j_goto (pc := 111) hc dX3_late_111 (tgt := 28) rfl ?_
      refine j_loc (L' := [(0, vr (some a0)), (1, vi x1), (2, vi x2), (3, vi x3)]) [0, 1, 2, 3] rfl ?_
      exact hk_28 _ _ _ _ hf2
    · have hf3 := (if_neg hh).symm.trans hf1
      clear hf1
      refine j_iload_n (pc := 48) hc dX3_late_48 3 rfl rfl ?_
      refine j_if_ne (pc := 49) hc dX3_late_49 (tgt := 111) rfl (fun hh => ?_) (fun hh => ?_)
      · have hf4 := (if_neg hh).symm.trans hf3
        clear hf3
        refine j_goto (pc := 111) hc dX3_late_111 (tgt := 28) rfl ?_
        refine j_loc (L' := [(0, vr (some a0)), (1, vi x1), (2, vi x2), (3, vi x3)]) [0, 1, 2, 3] rfl ?_
        exact hk_28 _ _ _ _ hf4
      · have hf5 := (if_pos hh).symm.trans hf3
        clear hf3
        refine j_aload_n (pc := 52) hc dX3_late_52 0 rfl rfl ?_
        refine j_mgA (pc := 53) hc ho fm_33 rfl dX3_late_53 ?_
        refine j_iconst (pc := 56) (v := (3)) hc dX3_late_56 rfl ?_
        refine j_iload_n (pc := 57) hc dX3_late_57 2 rfl rfl ?_
        refine j_imul (pc := 58) hc dX3_late_58 ?_
        refine j_iload (pc := 59) hc dX3_late_59 4 rfl ?_
        refine j_iadd (pc := 61) hc dX3_late_61 ?_
        obtain ⟨v2, ev2, hf6⟩ := ob_i hf5
        clear hf5
        refine j_mldI (pc := 62) hc (k := 8) (by decide) rfl dX3_late_62 ev2 ?_
        refine j_istore (pc := 63) (L' := [(5, vi v2), (0, vr (some a0)), (1, vi x1), (2, vi x2), (3, vi x3), (4, vi x4)]) hc dX3_late_63 hnL (by decide) rfl ?_
        refine j_aload_n (pc := 65) hc dX3_late_65 1 rfl rfl ?_
        refine j_mgA (pc := 66) hc ho fm_135 rfl dX3_late_66 ?_
        refine j_iload (pc := 69) hc dX3_late_69 0 rfl ?_
        obtain ⟨v3, ev3, hf7⟩ := ob_i hf6
        clear hf6
        refine j_mldI (pc := 71) hc (k := 55) (by decide) rfl dX3_late_71 ev3 ?_
        refine j_iconst (pc := 72) (v := (-1)) hc dX3_late_72 rfl ?_
        refine j_icmp_eq (pc := 73) hc dX3_late_73 (tgt := 100) rfl (fun hh => ?_) (fun hh => ?_)
        · have hf8 := (if_pos hh).symm.trans hf7
          clear hf7
          refine j_loc (L' := [(0, vr (some a0)), (1, vi x1), (4, vi x4), (5, vi v2)]) [1, 2, 5, 0] rfl ?_
          exact w_X3_late_n100 hc ho hnL hrm hre hct hq hk_28 hk_37 hf8
        · have hf9 := (if_neg hh).symm.trans hf7
          clear hf7
          refine j_aload_n (pc := 76) hc dX3_late_76 1 rfl rfl ?_
          refine j_mgA (pc := 77) hc ho fm_135 rfl dX3_late_77 ?_
          refine j_iload (pc := 80) hc dX3_late_80 0 rfl ?_
          obtain ⟨v4, ev4, hf10⟩ := ob_i hf9
          clear hf9
          refine j_mldI (pc := 82) hc (k := 55) (by decide) rfl dX3_late_82 ev4 ?_
          refine j_aload_n (pc := 83) hc dX3_late_83 1 rfl rfl ?_
          refine j_mgI (pc := 84) hc ho fm_351 rfl dX3_late_84 ?_
          refine j_aload_n (pc := 87) hc dX3_late_87 1 rfl rfl ?_
          refine j_mgA (pc := 88) hc ho fm_39 rfl dX3_late_88 ?_
          refine j_iload_n (pc := 91) hc dX3_late_91 2 rfl rfl ?_
          obtain ⟨v5, ev5, hf11⟩ := ob_i hf10
          clear hf10
          refine j_mldI (pc := 92) hc (k := 10) (by decide) rfl dX3_late_92 ev5 ?_
          refine j_isub (pc := 93) hc dX3_late_93 ?_
          refine j_icmp_lt (pc := 94) hc dX3_late_94 (tgt := 100) rfl (fun hh => ?_) (fun hh => ?_)
          · have hf12 := (if_pos hh).symm.trans hf11
            clear hf11
            refine j_loc (L' := [(0, vr (some a0)), (1, vi x1), (4, vi x4), (5, vi v2)]) [1, 2, 5, 0] rfl ?_
            exact w_X3_late_n100 hc ho hnL hrm hre hct hq hk_28 hk_37 hf12
          · have hf13 := (if_neg hh).symm.trans hf11
            clear hf11
            refine j_goto (pc := 97) hc dX3_late_97 (tgt := 105) rfl ?_
            refine j_iinc (pc := 105) (L' := [(4, vi (x4 + (1))), (5, vi v2), (0, vr (some a0)), (1, vi x1), (2, vi x2), (3, vi x3)]) (v := (x4 + (1))) hc dX3_late_105 5 rfl rfl hnL (by decide) rfl ?_
            refine j_goto (pc := 108) hc dX3_late_108 (tgt := 37) rfl ?_
            refine j_loc (L' := [(0, vr (some a0)), (1, vi x1), (2, vi x2), (3, vi x3), (4, vi (x4 + (1)))]) [2, 3, 4, 5, 0] rfl ?_
            exact hk_37 _ _ _ _ _ hf13
set_option maxRecDepth 100000 in
set_option maxHeartbeats 2000000 in
theorem w_X3_late_n28 {f : CfT} {a0 : Nat} {r : Int32} {S : HS} {M1 : MS} (hc : cf_cc f = cX3_late) (ho : cf_ow f = "TableCatalogModel") (hnL : cf_nL f = 6) (hrm : cf_rm f = (3, 104)) (hre : cf_re f = (some (.int))) (hct : cf_ct f = false) (hq : Qok f (some (vi r)) S (some (a0, M1))) : ∀ (n : Nat) (x1 : Int32) (x2 : Int32) (x3 : Int32) (M : MS), f_X3_late_n28 n x1 x2 x3 M = some (r, M1) → JJ f S (some (a0, M)) 28 [(0, vr (some a0)), (1, vi x1), (2, vi x2), (3, vi x3)] [] := by
  intro n
  induction n with
  | zero =>
    intro x1 x2 x3 M hf
    have hf : (none : Option (Int32 × MS)) = some (r, M1) := hf
    cases hf
  | succ n ih =>
    intro x1 x2 x3 M hf
    unfold f_X3_late_n28 at hf
    have hk_28 := ih
    refine j_iload_n (pc := 28) hc dX3_late_28 3 rfl rfl ?_
    refine j_if_eq (pc := 29) hc dX3_late_29 (tgt := 114) rfl (fun hh => ?_) (fun hh => ?_)
    · have hf1 := (if_pos hh).symm.trans hf
      clear hf
      refine j_iload_n (pc := 114) hc dX3_late_114 2 rfl rfl ?_
      cases hf1
      exact j_iret (pc := 115) hc hq hre rfl dX3_late_115
    · have hf2 := (if_neg hh).symm.trans hf
      clear hf
      refine j_iconst (pc := 32) (v := (0)) hc dX3_late_32 rfl ?_
      refine j_istore_n (pc := 33) (L' := [(3, vi (0)), (0, vr (some a0)), (1, vi x1), (2, vi x2)]) hc dX3_late_33 rfl hnL (by decide) rfl ?_
      refine j_iconst (pc := 34) (v := (0)) hc dX3_late_34 rfl ?_
      refine j_istore (pc := 35) (L' := [(4, vi (0)), (3, vi (0)), (0, vr (some a0)), (1, vi x1), (2, vi x2)]) hc dX3_late_35 hnL (by decide) rfl ?_
      refine j_loc (L' := [(0, vr (some a0)), (1, vi x1), (2, vi x2), (3, vi (0)), (4, vi (0))]) [2, 3, 4, 1, 0] rfl ?_
      exact w_X3_late_n37 hc ho hnL hrm hre hct hq hk_28 fu_ _ _ _ _ _ hf2
set_option maxRecDepth 100000 in
set_option maxHeartbeats 2000000 in
theorem c_X3_late {l : Launch} {g : PG} {a0 : Nat} {x1 : Int32} {r : Int32} {S : HS} {M M1 : MS} (hf : f_X3_late x1 M = some (r, M1)) : (h_nx S ≤ h_nx S ∧ h_sl S ≤ h_sl S) ∧ Ct l g yX3_late (ws_ yX3_late cX3_late 6 (some (.int))) 3 104 S (some (a0, M)) [vr (some a0), vi x1] (some (vi r)) S (some (a0, M1)) := by
  refine met_of false (by decide) (fun h => by first | rfl | cases h) rfl (Nat.le_of_ble_eq_true rfl) (fun f hl hg hc ho hnL hrm hre hct hex hq => ?_)
  subst hl
  subst hg
  unfold f_X3_late at hf
  refine j_aload_n (pc := 0) hc dX3_late_0 0 rfl rfl ?_
  refine j_iload_n (pc := 1) hc dX3_late_1 1 rfl rfl ?_
  obtain ⟨v2, N1, ev2, hf1⟩ := ob_c hf
  clear hf
  refine j_callV (pc := 2) (As := [vi x1]) (rest := []) (st2 := [vi v2]) hc ho cw_X3_162 (c_X3_isTable ev2) (Or.inr ⟨rfl, _, rfl⟩) hrm ⟨by decide, by decide⟩ rfl (Nat.le_of_ble_eq_true rfl) dX3_late_2 rfl rfl ?_
  refine j_if_ne (pc := 5) hc dX3_late_5 (tgt := 10) rfl (fun hh => ?_) (fun hh => ?_)
  · have hf2 := (if_neg hh).symm.trans hf1
    clear hf1
    refine j_aload_n (pc := 10) hc dX3_late_10 0 rfl rfl ?_
    obtain ⟨N3, eN3, hf3⟩ := ob_i hf2
    clear hf2
    refine j_callV (pc := 11) (As := []) (rest := []) (st2 := []) hc ho cw_X3_313 (c_X3_ages eN3) (Or.inr ⟨rfl, _, rfl⟩) hrm ⟨by decide, by decide⟩ rfl (Nat.le_of_ble_eq_true rfl) dX3_late_11 rfl rfl ?_
    refine j_aload_n (pc := 14) hc dX3_late_14 0 rfl rfl ?_
    refine j_iload_n (pc := 15) hc dX3_late_15 1 rfl rfl ?_
    obtain ⟨v5, N4, ev5, hf4⟩ := ob_c hf3
    clear hf3
    refine j_callV (pc := 16) (As := [vi x1]) (rest := []) (st2 := [vi v5]) hc ho cw_X3_363 (c_X3_isBroken ev5) (Or.inr ⟨rfl, _, rfl⟩) hrm ⟨by decide, by decide⟩ rfl (Nat.le_of_ble_eq_true rfl) dX3_late_16 rfl rfl ?_
    refine j_if_ne (pc := 19) hc dX3_late_19 (tgt := 24) rfl (fun hh => ?_) (fun hh => ?_)
    · have hf5 := (if_neg hh).symm.trans hf4
      clear hf4
      refine j_iload_n (pc := 24) hc dX3_late_24 1 rfl rfl ?_
      refine j_istore_n (pc := 25) (L' := [(2, vi x1), (0, vr (some a0)), (1, vi x1)]) hc dX3_late_25 rfl hnL (by decide) rfl ?_
      refine j_iconst (pc := 26) (v := (1)) hc dX3_late_26 rfl ?_
      refine j_istore_n (pc := 27) (L' := [(3, vi (1)), (2, vi x1), (0, vr (some a0)), (1, vi x1)]) hc dX3_late_27 rfl hnL (by decide) rfl ?_
      refine j_loc (L' := [(0, vr (some a0)), (1, vi x1), (2, vi x1), (3, vi (1))]) [2, 3, 1, 0] rfl ?_
      exact w_X3_late_n28 hc ho hnL hrm hre hct hq fu_ _ _ _ _ hf5
    · have hf6 := (if_pos hh).symm.trans hf4
      clear hf4
      refine j_iconst (pc := 22) (v := (-1)) hc dX3_late_22 rfl ?_
      cases hf6
      exact j_iret (pc := 23) hc hq hre rfl dX3_late_23
  · have hf7 := (if_pos hh).symm.trans hf1
    clear hf1
    refine j_iconst (pc := 8) (v := (-1)) hc dX3_late_8 rfl ?_
    cases hf7
    exact j_iret (pc := 9) hc hq hre rfl dX3_late_9
def f_X3_own (x1 : Int32) (x2 : Int32) (M : MS) : Option (Int32 × MS) :=
  o_bd (f_X3_isTable x1 M) fun v2 N1 =>
  if v2 = 0 then
    some ((0), N1)
  else
    if x2 < (-1) then
      some ((0), N1)
    else
      if x2 ≤ (9) then
        (p_mA N1 9 x1 x2).bind fun N3 =>
        some ((1), N3)
      else
        some ((0), N1)
set_option maxRecDepth 100000 in
set_option maxHeartbeats 2000000 in
theorem c_X3_own {l : Launch} {g : PG} {a0 : Nat} {x1 : Int32} {x2 : Int32} {r : Int32} {S : HS} {M M1 : MS} (hf : f_X3_own x1 x2 M = some (r, M1)) : (h_nx S ≤ h_nx S ∧ h_sl S ≤ h_sl S) ∧ Ct l g yX3_own (ws_ yX3_own cX3_own 3 (some (.boolean))) 2 81 S (some (a0, M)) [vr (some a0), vi x1, vi x2] (some (vi r)) S (some (a0, M1)) := by
  refine met_of false (by decide) (fun h => by first | rfl | cases h) rfl (Nat.le_of_ble_eq_true rfl) (fun f hl hg hc ho hnL hrm hre hct hex hq => ?_)
  subst hl
  subst hg
  unfold f_X3_own at hf
  refine j_aload_n (pc := 0) hc dX3_own_0 0 rfl rfl ?_
  refine j_iload_n (pc := 1) hc dX3_own_1 1 rfl rfl ?_
  obtain ⟨v2, N1, ev2, hf1⟩ := ob_c hf
  clear hf
  refine j_callV (pc := 2) (As := [vi x1]) (rest := []) (st2 := [vi v2]) hc ho cw_X3_162 (c_X3_isTable ev2) (Or.inr ⟨rfl, _, rfl⟩) hrm ⟨by decide, by decide⟩ rfl (Nat.le_of_ble_eq_true rfl) dX3_own_2 rfl rfl ?_
  refine j_if_eq (pc := 5) hc dX3_own_5 (tgt := 19) rfl (fun hh => ?_) (fun hh => ?_)
  · have hf2 := (if_pos hh).symm.trans hf1
    clear hf1
    refine j_iconst (pc := 19) (v := (0)) hc dX3_own_19 rfl ?_
    cases hf2
    exact j_iret (pc := 20) hc hq hre rfl dX3_own_20
  · have hf3 := (if_neg hh).symm.trans hf1
    clear hf1
    refine j_iload_n (pc := 8) hc dX3_own_8 2 rfl rfl ?_
    refine j_iconst (pc := 9) (v := (-1)) hc dX3_own_9 rfl ?_
    refine j_icmp_lt (pc := 10) hc dX3_own_10 (tgt := 19) rfl (fun hh => ?_) (fun hh => ?_)
    · have hf4 := (if_pos hh).symm.trans hf3
      clear hf3
      refine j_iconst (pc := 19) (v := (0)) hc dX3_own_19 rfl ?_
      cases hf4
      exact j_iret (pc := 20) hc hq hre rfl dX3_own_20
    · have hf5 := (if_neg hh).symm.trans hf3
      clear hf3
      refine j_iload_n (pc := 13) hc dX3_own_13 2 rfl rfl ?_
      refine j_bipush (pc := 14) (v := (9)) hc dX3_own_14 rfl ?_
      refine j_icmp_le (pc := 16) hc dX3_own_16 (tgt := 21) rfl (fun hh => ?_) (fun hh => ?_)
      · have hf6 := (if_pos hh).symm.trans hf5
        clear hf5
        refine j_aload_n (pc := 21) hc dX3_own_21 0 rfl rfl ?_
        refine j_mgA (pc := 22) hc ho fm_36 rfl dX3_own_22 ?_
        refine j_iload_n (pc := 25) hc dX3_own_25 1 rfl rfl ?_
        refine j_iload_n (pc := 26) hc dX3_own_26 2 rfl rfl ?_
        obtain ⟨N3, eN3, hf7⟩ := ob_i hf6
        clear hf6
        refine j_mstI (pc := 27) hc (k := 9) (by decide) rfl dX3_own_27 eN3 ?_
        refine j_iconst (pc := 28) (v := (1)) hc dX3_own_28 rfl ?_
        cases hf7
        exact j_iret (pc := 29) hc hq hre rfl dX3_own_29
      · have hf8 := (if_neg hh).symm.trans hf5
        clear hf5
        refine j_iconst (pc := 19) (v := (0)) hc dX3_own_19 rfl ?_
        cases hf8
        exact j_iret (pc := 20) hc hq hre rfl dX3_own_20
def f_X3_unused_n85 (k_58 : Int32 → MS → Option (Int32 × MS)) : Nat → Int32 → Int32 → MS → Option (Int32 × MS)
  | 0, _, _, _ => none
  | n + 1, x2, x3, M =>
    (g_mA M 7 x2).bind fun v1 =>
    if v1 ≤ x3 then
      k_58 (x2 + (-1)) M
    else
      (g_mA M 8 (((3) * x2) + x3)).bind fun v2 =>
      (p_mA M 56 v2 (vp_nar .boolean (1))).bind fun N3 =>
      (fun x2 x3 M => f_X3_unused_n85 k_58 n x2 x3 M) x2 (x3 + (1)) N3
def f_X3_unused_n130 : Nat → Int32 → MS → Option (Int32 × MS)
  | 0, _, _ => none
  | n + 1, x2, M =>
    if (m_I M 0) ≤ x2 then
      some ((m_I M 57), M)
    else
      (g_mA M 1 x2).bind fun v1 =>
      if v1 = 0 then
        (fun x2 M => f_X3_unused_n130 n x2 M) (x2 + (1)) M
      else
        (g_mA M 56 x2).bind fun v2 =>
        if v2 = 0 then
          (f_X3_finds x2 M).bind fun N3 =>
          (fun x2 M => f_X3_unused_n130 n x2 M) (x2 + (1)) N3
        else
          (fun x2 M => f_X3_unused_n130 n x2 M) (x2 + (1)) M
def f_X3_unused_n58 : Nat → Int32 → MS → Option (Int32 × MS)
  | 0, _, _ => none
  | n + 1, x2, M =>
    if x2 < 0 then
      (some (m_sI M 57 (0))).bind fun N1 =>
      f_X3_unused_n130 fu_ (0) N1
    else
      (g_mA M 1 x2).bind fun v2 =>
      if v2 = 0 then
        (fun x2 M => f_X3_unused_n58 n x2 M) (x2 + (-1)) M
      else
        (g_mA M 56 x2).bind fun v3 =>
        if v3 = 0 then
          (fun x2 M => f_X3_unused_n58 n x2 M) (x2 + (-1)) M
        else
          f_X3_unused_n85 (fun x2 M => f_X3_unused_n58 n x2 M) fu_ x2 (0) M
def f_X3_unused_n6 : Nat → Int32 → Int32 → MS → Option (Int32 × MS)
  | 0, _, _, _ => none
  | n + 1, x1, x2, M =>
    if (m_I M 59) ≤ x2 then
      f_X3_unused_n58 fu_ ((m_I M 0) - (1)) M
    else
      (g_mA M 62 x2).bind fun v1 =>
      if v1 ≤ 0 then
        (fun x1 x2 M => f_X3_unused_n6 n x1 x2 M) x1 (x2 + (1)) M
      else
        (g_mA M 63 x2).bind fun v2 =>
        if v2 < x1 then
          (fun x1 x2 M => f_X3_unused_n6 n x1 x2 M) x1 (x2 + (1)) M
        else
          (g_mA M 61 x2).bind fun v3 =>
          (p_mA M 56 v3 (vp_nar .boolean (1))).bind fun N4 =>
          (fun x1 x2 M => f_X3_unused_n6 n x1 x2 M) x1 (x2 + (1)) N4
def f_X3_unused (x1 : Int32) (M : MS) : Option (Int32 × MS) :=
  (f_X3_clears M).bind fun N1 =>
  f_X3_unused_n6 fu_ x1 (0) N1
set_option maxRecDepth 100000 in
set_option maxHeartbeats 2000000 in
theorem w_X3_unused_n85 {f : CfT} {a0 : Nat} {r : Int32} {S : HS} {M1 : MS} (hc : cf_cc f = cX3_unused) (ho : cf_ow f = "TableCatalogModel") (hnL : cf_nL f = 4) (hrm : cf_rm f = (2, 81)) (hre : cf_re f = (some (.int))) (hct : cf_ct f = false) (hq : Qok f (some (vi r)) S (some (a0, M1))) {k_58 : Int32 → MS → Option (Int32 × MS)} (hk_58 : ∀ (x2 : Int32) (M : MS), k_58 x2 M = some (r, M1) → JJ f S (some (a0, M)) 58 [(0, vr (some a0)), (2, vi x2)] []) : ∀ (n : Nat) (x2 : Int32) (x3 : Int32) (M : MS), f_X3_unused_n85 k_58 n x2 x3 M = some (r, M1) → JJ f S (some (a0, M)) 85 [(0, vr (some a0)), (2, vi x2), (3, vi x3)] [] := by
  intro n
  induction n with
  | zero =>
    intro x2 x3 M hf
    have hf : (none : Option (Int32 × MS)) = some (r, M1) := hf
    cases hf
  | succ n ih =>
    intro x2 x3 M hf
    unfold f_X3_unused_n85 at hf
    have hk_85 := ih
    refine j_iload_n (pc := 85) hc dX3_unused_85 2 rfl rfl ?_
    refine j_aload_n (pc := 86) hc dX3_unused_86 0 rfl rfl ?_
    refine j_mgA (pc := 87) hc ho fm_30 rfl dX3_unused_87 ?_
    refine j_iload_n (pc := 90) hc dX3_unused_90 1 rfl rfl ?_
    obtain ⟨v1, ev1, hf1⟩ := ob_i hf
    clear hf
    refine j_mldI (pc := 91) hc (k := 7) (by decide) rfl dX3_unused_91 ev1 ?_
    refine j_icmp_ge (pc := 92) hc dX3_unused_92 (tgt := 117) rfl (fun hh => ?_) (fun hh => ?_)
    · have hf2 := (if_pos hh).symm.trans hf1
      clear hf1
      refine j_iinc (pc := 117) (L' := [(2, vi (x2 + (-1))), (0, vr (some a0)), (3, vi x3)]) (v := (x2 + (-1))) hc dX3_unused_117 1 rfl rfl hnL (by decide) rfl ?_
      refine j_goto (pc := 120) hc dX3_unused_120 (tgt := 58) rfl ?_
      refine j_loc (L' := [(0, vr (some a0)), (2, vi (x2 + (-1)))]) [1, 0] rfl ?_
      exact hk_58 _ _ hf2
    · have hf3 := (if_neg hh).symm.trans hf1
      clear hf1
      refine j_aload_n (pc := 95) hc dX3_unused_95 0 rfl rfl ?_
      refine j_mgA (pc := 96) hc ho fm_138 rfl dX3_unused_96 ?_
      refine j_aload_n (pc := 99) hc dX3_unused_99 0 rfl rfl ?_
      refine j_mgA (pc := 100) hc ho fm_33 rfl dX3_unused_100 ?_
      refine j_iconst (pc := 103) (v := (3)) hc dX3_unused_103 rfl ?_
      refine j_iload_n (pc := 104) hc dX3_unused_104 1 rfl rfl ?_
      refine j_imul (pc := 105) hc dX3_unused_105 ?_
      refine j_iload_n (pc := 106) hc dX3_unused_106 2 rfl rfl ?_
      refine j_iadd (pc := 107) hc dX3_unused_107 ?_
      obtain ⟨v2, ev2, hf4⟩ := ob_i hf3
      clear hf3
      refine j_mldI (pc := 108) hc (k := 8) (by decide) rfl dX3_unused_108 ev2 ?_
      refine j_iconst (pc := 109) (v := (1)) hc dX3_unused_109 rfl ?_
      obtain ⟨N3, eN3, hf5⟩ := ob_i hf4
      clear hf4
      refine j_mstZ (pc := 110) hc (k := 56) (by decide) rfl dX3_unused_110 eN3 ?_
      refine j_iinc (pc := 111) (L' := [(3, vi (x3 + (1))), (0, vr (some a0)), (2, vi x2)]) (v := (x3 + (1))) hc dX3_unused_111 2 rfl rfl hnL (by decide) rfl ?_
      refine j_goto (pc := 114) hc dX3_unused_114 (tgt := 85) rfl ?_
      refine j_loc (L' := [(0, vr (some a0)), (2, vi x2), (3, vi (x3 + (1)))]) [1, 2, 0] rfl ?_
      exact hk_85 _ _ _ hf5
set_option maxRecDepth 100000 in
set_option maxHeartbeats 2000000 in
theorem w_X3_unused_n130 {f : CfT} {a0 : Nat} {r : Int32} {S : HS} {M1 : MS} (hc : cf_cc f = cX3_unused) (ho : cf_ow f = "TableCatalogModel") (hnL : cf_nL f = 4) (hrm : cf_rm f = (2, 81)) (hre : cf_re f = (some (.int))) (hct : cf_ct f = false) (hq : Qok f (some (vi r)) S (some (a0, M1))) : ∀ (n : Nat) (x2 : Int32) (M : MS), f_X3_unused_n130 n x2 M = some (r, M1) → JJ f S (some (a0, M)) 130 [(0, vr (some a0)), (2, vi x2)] [] := by
  intro n
  induction n with
  | zero =>
    intro x2 M hf
    have hf : (none : Option (Int32 × MS)) = some (r, M1) := hf
    cases hf
  | succ n ih =>
    intro x2 M hf
    unfold f_X3_unused_n130 at hf
    have hk_130 := ih
    refine j_iload_n (pc := 130) hc dX3_unused_130 1 rfl rfl ?_
    refine j_aload_n (pc := 131) hc dX3_unused_131 0 rfl rfl ?_
    refine j_mgI (pc := 132) hc ho fm_159 rfl dX3_unused_132 ?_
    refine j_icmp_ge (pc := 135) hc dX3_unused_135 (tgt := 167) rfl (fun hh => ?_) (fun hh => ?_)
    · have hf1 := (if_pos hh).symm.trans hf
      clear hf
      refine j_aload_n (pc := 167) hc dX3_unused_167 0 rfl rfl ?_
      refine j_mgI (pc := 168) hc ho fm_324 rfl dX3_unused_168 ?_
      cases hf1
      exact j_iret (pc := 171) hc hq hre rfl dX3_unused_171
    · have hf2 := (if_neg hh).symm.trans hf
      clear hf
      refine j_aload_n (pc := 138) hc dX3_unused_138 0 rfl rfl ?_
      refine j_mgA (pc := 139) hc ho fm_7 rfl dX3_unused_139 ?_
      refine j_iload_n (pc := 142) hc dX3_unused_142 1 rfl rfl ?_
      obtain ⟨v1, ev1, hf3⟩ := ob_i hf2
      clear hf2
      refine j_mldZ (pc := 143) hc (k := 1) (by decide) rfl dX3_unused_143 ev1 ?_
      refine j_if_eq (pc := 144) hc dX3_unused_144 (tgt := 161) rfl (fun hh => ?_) (fun hh => ?_)
      · have hf4 := (if_pos hh).symm.trans hf3
        clear hf3
        refine j_iinc (pc := 161) (L' := [(2, vi (x2 + (1))), (0, vr (some a0))]) (v := (x2 + (1))) hc dX3_unused_161 1 rfl rfl hnL (by decide) rfl ?_
        refine j_goto (pc := 164) hc dX3_unused_164 (tgt := 130) rfl ?_
        refine j_loc (L' := [(0, vr (some a0)), (2, vi (x2 + (1)))]) [1, 0] rfl ?_
        exact hk_130 _ _ hf4
      · have hf5 := (if_neg hh).symm.trans hf3
        clear hf3
        refine j_aload_n (pc := 147) hc dX3_unused_147 0 rfl rfl ?_
        refine j_mgA (pc := 148) hc ho fm_138 rfl dX3_unused_148 ?_
        refine j_iload_n (pc := 151) hc dX3_unused_151 1 rfl rfl ?_
        obtain ⟨v2, ev2, hf6⟩ := ob_i hf5
        clear hf5
        refine j_mldZ (pc := 152) hc (k := 56) (by decide) rfl dX3_unused_152 ev2 ?_
        refine j_if_ne (pc := 153) hc dX3_unused_153 (tgt := 161) rfl (fun hh => ?_) (fun hh => ?_)
        · have hf7 := (if_neg hh).symm.trans hf6
          clear hf6
          refine j_iinc (pc := 161) (L' := [(2, vi (x2 + (1))), (0, vr (some a0))]) (v := (x2 + (1))) hc dX3_unused_161 1 rfl rfl hnL (by decide) rfl ?_
          refine j_goto (pc := 164) hc dX3_unused_164 (tgt := 130) rfl ?_
          refine j_loc (L' := [(0, vr (some a0)), (2, vi (x2 + (1)))]) [1, 0] rfl ?_
          exact hk_130 _ _ hf7
        · have hf8 := (if_pos hh).symm.trans hf6
          clear hf6
          refine j_aload_n (pc := 156) hc dX3_unused_156 0 rfl rfl ?_
          refine j_iload_n (pc := 157) hc dX3_unused_157 1 rfl rfl ?_
          obtain ⟨N3, eN3, hf9⟩ := ob_i hf8
          clear hf8
          refine j_callV (pc := 158) (As := [vi x2]) (rest := []) (st2 := []) hc ho cw_X3_339 (c_X3_finds eN3) (Or.inr ⟨rfl, _, rfl⟩) hrm ⟨by decide, by decide⟩ rfl (Nat.le_of_ble_eq_true rfl) dX3_unused_158 rfl rfl ?_
          refine j_iinc (pc := 161) (L' := [(2, vi (x2 + (1))), (0, vr (some a0))]) (v := (x2 + (1))) hc dX3_unused_161 1 rfl rfl hnL (by decide) rfl ?_
          refine j_goto (pc := 164) hc dX3_unused_164 (tgt := 130) rfl ?_
          refine j_loc (L' := [(0, vr (some a0)), (2, vi (x2 + (1)))]) [1, 0] rfl ?_
          exact hk_130 _ _ hf9
set_option maxRecDepth 100000 in
set_option maxHeartbeats 2000000 in
theorem w_X3_unused_n58 {f : CfT} {a0 : Nat} {r : Int32} {S : HS} {M1 : MS} (hc : cf_cc f = cX3_unused) (ho : cf_ow f = "TableCatalogModel") (hnL : cf_nL f = 4) (hrm : cf_rm f = (2, 81)) (hre : cf_re f = (some (.int))) (hct : cf_ct f = false) (hq : Qok f (some (vi r)) S (some (a0, M1))) : ∀ (n : Nat) (x2 : Int32) (M : MS), f_X3_unused_n58 n x2 M = some (r, M1) → JJ f S (some (a0, M)) 58 [(0, vr (some a0)), (2, vi x2)] [] := by
  intro n
  induction n with
  | zero =>
    intro x2 M hf
    have hf : (none : Option (Int32 × MS)) = some (r, M1) := hf
    cases hf
  | succ n ih =>
    intro x2 M hf
    unfold f_X3_unused_n58 at hf
    have hk_58 := ih
    refine j_iload_n (pc := 58) hc dX3_unused_58 1 rfl rfl ?_
    refine j_if_lt (pc := 59) hc dX3_unused_59 (tgt := 123) rfl (fun hh => ?_) (fun hh => ?_)
    · have hf1 := (if_pos hh).symm.trans hf
      clear hf
      refine j_aload_n (pc := 123) hc dX3_unused_123 0 rfl rfl ?_
      refine j_iconst (pc := 124) (v := (0)) hc dX3_unused_124 rfl ?_
      obtain ⟨N1, eN1, hf2⟩ := ob_i hf1
      clear hf1
      refine j_mpI (pc := 125) hc ho fm_324 rfl rfl rfl rfl dX3_unused_125 eN1 ?_
      refine j_iconst (pc := 128) (v := (0)) hc dX3_unused_128 rfl ?_
      refine j_istore_n (pc := 129) (L' := [(2, vi (0)), (0, vr (some a0))]) hc dX3_unused_129 rfl hnL (by decide) rfl ?_
      refine j_loc (L' := [(0, vr (some a0)), (2, vi (0))]) [1, 0] rfl ?_
      exact w_X3_unused_n130 hc ho hnL hrm hre hct hq fu_ _ _ hf2
    · have hf3 := (if_neg hh).symm.trans hf
      clear hf
      refine j_aload_n (pc := 62) hc dX3_unused_62 0 rfl rfl ?_
      refine j_mgA (pc := 63) hc ho fm_7 rfl dX3_unused_63 ?_
      refine j_iload_n (pc := 66) hc dX3_unused_66 1 rfl rfl ?_
      obtain ⟨v2, ev2, hf4⟩ := ob_i hf3
      clear hf3
      refine j_mldZ (pc := 67) hc (k := 1) (by decide) rfl dX3_unused_67 ev2 ?_
      refine j_if_eq (pc := 68) hc dX3_unused_68 (tgt := 117) rfl (fun hh => ?_) (fun hh => ?_)
      · have hf5 := (if_pos hh).symm.trans hf4
        clear hf4
        refine j_iinc (pc := 117) (L' := [(2, vi (x2 + (-1))), (0, vr (some a0))]) (v := (x2 + (-1))) hc dX3_unused_117 1 rfl rfl hnL (by decide) rfl ?_
        refine j_goto (pc := 120) hc dX3_unused_120 (tgt := 58) rfl ?_
        refine j_loc (L' := [(0, vr (some a0)), (2, vi (x2 + (-1)))]) [1, 0] rfl ?_
        exact hk_58 _ _ hf5
      · have hf6 := (if_neg hh).symm.trans hf4
        clear hf4
        refine j_aload_n (pc := 71) hc dX3_unused_71 0 rfl rfl ?_
        refine j_mgA (pc := 72) hc ho fm_138 rfl dX3_unused_72 ?_
        refine j_iload_n (pc := 75) hc dX3_unused_75 1 rfl rfl ?_
        obtain ⟨v3, ev3, hf7⟩ := ob_i hf6
        clear hf6
        refine j_mldZ (pc := 76) hc (k := 56) (by decide) rfl dX3_unused_76 ev3 ?_
        refine j_if_ne (pc := 77) hc dX3_unused_77 (tgt := 83) rfl (fun hh => ?_) (fun hh => ?_)
        · have hf8 := (if_neg hh).symm.trans hf7
          clear hf7
          refine j_iconst (pc := 83) (v := (0)) hc dX3_unused_83 rfl ?_
          refine j_istore_n (pc := 84) (L' := [(3, vi (0)), (0, vr (some a0)), (2, vi x2)]) hc dX3_unused_84 rfl hnL (by decide) rfl ?_
          refine j_loc (L' := [(0, vr (some a0)), (2, vi x2), (3, vi (0))]) [1, 2, 0] rfl ?_
          exact w_X3_unused_n85 hc ho hnL hrm hre hct hq hk_58 fu_ _ _ _ hf8
        · have hf9 := (if_pos hh).symm.trans hf7
          clear hf7
          refine j_goto (pc := 80) hc dX3_unused_80 (tgt := 117) rfl ?_
          refine j_iinc (pc := 117) (L' := [(2, vi (x2 + (-1))), (0, vr (some a0))]) (v := (x2 + (-1))) hc dX3_unused_117 1 rfl rfl hnL (by decide) rfl ?_
          refine j_goto (pc := 120) hc dX3_unused_120 (tgt := 58) rfl ?_
          refine j_loc (L' := [(0, vr (some a0)), (2, vi (x2 + (-1)))]) [1, 0] rfl ?_
          exact hk_58 _ _ hf9
set_option maxRecDepth 100000 in
set_option maxHeartbeats 2000000 in
theorem w_X3_unused_n6 {f : CfT} {a0 : Nat} {r : Int32} {S : HS} {M1 : MS} (hc : cf_cc f = cX3_unused) (ho : cf_ow f = "TableCatalogModel") (hnL : cf_nL f = 4) (hrm : cf_rm f = (2, 81)) (hre : cf_re f = (some (.int))) (hct : cf_ct f = false) (hq : Qok f (some (vi r)) S (some (a0, M1))) : ∀ (n : Nat) (x1 : Int32) (x2 : Int32) (M : MS), f_X3_unused_n6 n x1 x2 M = some (r, M1) → JJ f S (some (a0, M)) 6 [(0, vr (some a0)), (1, vi x1), (2, vi x2)] [] := by
  intro n
  induction n with
  | zero =>
    intro x1 x2 M hf
    have hf : (none : Option (Int32 × MS)) = some (r, M1) := hf
    cases hf
  | succ n ih =>
    intro x1 x2 M hf
    unfold f_X3_unused_n6 at hf
    have hk_6 := ih
    refine j_iload_n (pc := 6) hc dX3_unused_6 2 rfl rfl ?_
    refine j_aload_n (pc := 7) hc dX3_unused_7 0 rfl rfl ?_
    refine j_mgI (pc := 8) hc ho fm_348 rfl dX3_unused_8 ?_
    refine j_icmp_ge (pc := 11) hc dX3_unused_11 (tgt := 51) rfl (fun hh => ?_) (fun hh => ?_)
    · have hf1 := (if_pos hh).symm.trans hf
      clear hf
      refine j_aload_n (pc := 51) hc dX3_unused_51 0 rfl rfl ?_
      refine j_mgI (pc := 52) hc ho fm_159 rfl dX3_unused_52 ?_
      refine j_iconst (pc := 55) (v := (1)) hc dX3_unused_55 rfl ?_
      refine j_isub (pc := 56) hc dX3_unused_56 ?_
      refine j_istore_n (pc := 57) (L' := [(2, vi ((m_I M 0) - (1))), (0, vr (some a0)), (1, vi x1)]) hc dX3_unused_57 rfl hnL (by decide) rfl ?_
      refine j_loc (L' := [(0, vr (some a0)), (2, vi ((m_I M 0) - (1)))]) [1, 0] rfl ?_
      exact w_X3_unused_n58 hc ho hnL hrm hre hct hq fu_ _ _ hf1
    · have hf2 := (if_neg hh).symm.trans hf
      clear hf
      refine j_aload_n (pc := 14) hc dX3_unused_14 0 rfl rfl ?_
      refine j_mgA (pc := 15) hc ho fm_150 rfl dX3_unused_15 ?_
      refine j_iload_n (pc := 18) hc dX3_unused_18 2 rfl rfl ?_
      obtain ⟨v1, ev1, hf3⟩ := ob_i hf2
      clear hf2
      refine j_mldI (pc := 19) hc (k := 62) (by decide) rfl dX3_unused_19 ev1 ?_
      refine j_if_le (pc := 20) hc dX3_unused_20 (tgt := 45) rfl (fun hh => ?_) (fun hh => ?_)
      · have hf4 := (if_pos hh).symm.trans hf3
        clear hf3
        refine j_iinc (pc := 45) (L' := [(2, vi (x2 + (1))), (0, vr (some a0)), (1, vi x1)]) (v := (x2 + (1))) hc dX3_unused_45 2 rfl rfl hnL (by decide) rfl ?_
        refine j_goto (pc := 48) hc dX3_unused_48 (tgt := 6) rfl ?_
        refine j_loc (L' := [(0, vr (some a0)), (1, vi x1), (2, vi (x2 + (1)))]) [1, 2, 0] rfl ?_
        exact hk_6 _ _ _ hf4
      · have hf5 := (if_neg hh).symm.trans hf3
        clear hf3
        refine j_aload_n (pc := 23) hc dX3_unused_23 0 rfl rfl ?_
        refine j_mgA (pc := 24) hc ho fm_153 rfl dX3_unused_24 ?_
        refine j_iload_n (pc := 27) hc dX3_unused_27 2 rfl rfl ?_
        obtain ⟨v2, ev2, hf6⟩ := ob_i hf5
        clear hf5
        refine j_mldI (pc := 28) hc (k := 63) (by decide) rfl dX3_unused_28 ev2 ?_
        refine j_iload_n (pc := 29) hc dX3_unused_29 1 rfl rfl ?_
        refine j_icmp_lt (pc := 30) hc dX3_unused_30 (tgt := 45) rfl (fun hh => ?_) (fun hh => ?_)
        · have hf7 := (if_pos hh).symm.trans hf6
          clear hf6
          refine j_iinc (pc := 45) (L' := [(2, vi (x2 + (1))), (0, vr (some a0)), (1, vi x1)]) (v := (x2 + (1))) hc dX3_unused_45 2 rfl rfl hnL (by decide) rfl ?_
          refine j_goto (pc := 48) hc dX3_unused_48 (tgt := 6) rfl ?_
          refine j_loc (L' := [(0, vr (some a0)), (1, vi x1), (2, vi (x2 + (1)))]) [1, 2, 0] rfl ?_
          exact hk_6 _ _ _ hf7
        · have hf8 := (if_neg hh).symm.trans hf6
          clear hf6
          refine j_aload_n (pc := 33) hc dX3_unused_33 0 rfl rfl ?_
          refine j_mgA (pc := 34) hc ho fm_138 rfl dX3_unused_34 ?_
          refine j_aload_n (pc := 37) hc dX3_unused_37 0 rfl rfl ?_
          refine j_mgA (pc := 38) hc ho fm_147 rfl dX3_unused_38 ?_
          refine j_iload_n (pc := 41) hc dX3_unused_41 2 rfl rfl ?_
          obtain ⟨v3, ev3, hf9⟩ := ob_i hf8
          clear hf8
          refine j_mldI (pc := 42) hc (k := 61) (by decide) rfl dX3_unused_42 ev3 ?_
          refine j_iconst (pc := 43) (v := (1)) hc dX3_unused_43 rfl ?_
          obtain ⟨N4, eN4, hf10⟩ := ob_i hf9
          clear hf9
          refine j_mstZ (pc := 44) hc (k := 56) (by decide) rfl dX3_unused_44 eN4 ?_
          refine j_iinc (pc := 45) (L' := [(2, vi (x2 + (1))), (0, vr (some a0)), (1, vi x1)]) (v := (x2 + (1))) hc dX3_unused_45 2 rfl rfl hnL (by decide) rfl ?_
          refine j_goto (pc := 48) hc dX3_unused_48 (tgt := 6) rfl ?_
          refine j_loc (L' := [(0, vr (some a0)), (1, vi x1), (2, vi (x2 + (1)))]) [1, 2, 0] rfl ?_
          exact hk_6 _ _ _ hf10
set_option maxRecDepth 100000 in
set_option maxHeartbeats 2000000 in
theorem c_X3_unused {l : Launch} {g : PG} {a0 : Nat} {x1 : Int32} {r : Int32} {S : HS} {M M1 : MS} (hf : f_X3_unused x1 M = some (r, M1)) : (h_nx S ≤ h_nx S ∧ h_sl S ≤ h_sl S) ∧ Ct l g yX3_unused (ws_ yX3_unused cX3_unused 4 (some (.int))) 2 81 S (some (a0, M)) [vr (some a0), vi x1] (some (vi r)) S (some (a0, M1)) := by
  refine met_of false (by decide) (fun h => by first | rfl | cases h) rfl (Nat.le_of_ble_eq_true rfl) (fun f hl hg hc ho hnL hrm hre hct hex hq => ?_)
  subst hl
  subst hg
  unfold f_X3_unused at hf
  refine j_aload_n (pc := 0) hc dX3_unused_0 0 rfl rfl ?_
  obtain ⟨N1, eN1, hf1⟩ := ob_i hf
  clear hf
  refine j_callV (pc := 1) (As := []) (rest := []) (st2 := []) hc ho cw_X3_333 (c_X3_clears eN1) (Or.inr ⟨rfl, _, rfl⟩) hrm ⟨by decide, by decide⟩ rfl (Nat.le_of_ble_eq_true rfl) dX3_unused_1 rfl rfl ?_
  refine j_iconst (pc := 4) (v := (0)) hc dX3_unused_4 rfl ?_
  refine j_istore_n (pc := 5) (L' := [(2, vi (0)), (0, vr (some a0)), (1, vi x1)]) hc dX3_unused_5 rfl hnL (by decide) rfl ?_
  refine j_loc (L' := [(0, vr (some a0)), (1, vi x1), (2, vi (0))]) [1, 2, 0] rfl ?_
  exact w_X3_unused_n6 hc ho hnL hrm hre hct hq fu_ _ _ _ hf1
def f_X3_isSelect (x1 : Int32) (M : MS) : Option (Int32 × MS) :=
  o_bd (f_X3_isTable x1 M) fun v2 N1 =>
  if v2 = 0 then
    some ((0), N1)
  else
    (g_mA N1 3 x1).bind fun v3 =>
    if v3 = (1) then
      some ((1), N1)
    else
      (g_mA N1 3 x1).bind fun v4 =>
      if v4 = (2) then
        some ((1), N1)
      else
        some ((0), N1)
set_option maxRecDepth 100000 in
set_option maxHeartbeats 2000000 in
theorem c_X3_isSelect {l : Launch} {g : PG} {a0 : Nat} {x1 : Int32} {r : Int32} {S : HS} {M M1 : MS} (hf : f_X3_isSelect x1 M = some (r, M1)) : (h_nx S ≤ h_nx S ∧ h_sl S ≤ h_sl S) ∧ Ct l g yX3_isSelect (ws_ yX3_isSelect cX3_isSelect 2 (some (.boolean))) 2 81 S (some (a0, M)) [vr (some a0), vi x1] (some (vi r)) S (some (a0, M1)) := by
  refine met_of false (by decide) (fun h => by first | rfl | cases h) rfl (Nat.le_of_ble_eq_true rfl) (fun f hl hg hc ho hnL hrm hre hct hex hq => ?_)
  subst hl
  subst hg
  unfold f_X3_isSelect at hf
  refine j_aload_n (pc := 0) hc dX3_isSelect_0 0 rfl rfl ?_
  refine j_iload_n (pc := 1) hc dX3_isSelect_1 1 rfl rfl ?_
  obtain ⟨v2, N1, ev2, hf1⟩ := ob_c hf
  clear hf
  refine j_callV (pc := 2) (As := [vi x1]) (rest := []) (st2 := [vi v2]) hc ho cw_X3_162 (c_X3_isTable ev2) (Or.inr ⟨rfl, _, rfl⟩) hrm ⟨by decide, by decide⟩ rfl (Nat.le_of_ble_eq_true rfl) dX3_isSelect_2 rfl rfl ?_
  refine j_if_eq (pc := 5) hc dX3_isSelect_5 (tgt := 32) rfl (fun hh => ?_) (fun hh => ?_)
  · have hf2 := (if_pos hh).symm.trans hf1
    clear hf1
    refine j_iconst (pc := 32) (v := (0)) hc dX3_isSelect_32 rfl ?_
    cases hf2
    exact j_iret (pc := 33) hc hq hre rfl dX3_isSelect_33
  · have hf3 := (if_neg hh).symm.trans hf1
    clear hf1
    refine j_aload_n (pc := 8) hc dX3_isSelect_8 0 rfl rfl ?_
    refine j_mgA (pc := 9) hc ho fm_17 rfl dX3_isSelect_9 ?_
    refine j_iload_n (pc := 12) hc dX3_isSelect_12 1 rfl rfl ?_
    obtain ⟨v3, ev3, hf4⟩ := ob_i hf3
    clear hf3
    refine j_mldI (pc := 13) hc (k := 3) (by decide) rfl dX3_isSelect_13 ev3 ?_
    refine j_iconst (pc := 14) (v := (1)) hc dX3_isSelect_14 rfl ?_
    refine j_icmp_eq (pc := 15) hc dX3_isSelect_15 (tgt := 28) rfl (fun hh => ?_) (fun hh => ?_)
    · have hf5 := (if_pos hh).symm.trans hf4
      clear hf4
      refine j_iconst (pc := 28) (v := (1)) hc dX3_isSelect_28 rfl ?_
      refine j_goto (pc := 29) hc dX3_isSelect_29 (tgt := 33) rfl ?_
      cases hf5
      exact j_iret (pc := 33) hc hq hre rfl dX3_isSelect_33
    · have hf6 := (if_neg hh).symm.trans hf4
      clear hf4
      refine j_aload_n (pc := 18) hc dX3_isSelect_18 0 rfl rfl ?_
      refine j_mgA (pc := 19) hc ho fm_17 rfl dX3_isSelect_19 ?_
      refine j_iload_n (pc := 22) hc dX3_isSelect_22 1 rfl rfl ?_
      obtain ⟨v4, ev4, hf7⟩ := ob_i hf6
      clear hf6
      refine j_mldI (pc := 23) hc (k := 3) (by decide) rfl dX3_isSelect_23 ev4 ?_
      refine j_iconst (pc := 24) (v := (2)) hc dX3_isSelect_24 rfl ?_
      refine j_icmp_ne (pc := 25) hc dX3_isSelect_25 (tgt := 32) rfl (fun hh => ?_) (fun hh => ?_)
      · have hf8 := (if_neg hh).symm.trans hf7
        clear hf7
        refine j_iconst (pc := 32) (v := (0)) hc dX3_isSelect_32 rfl ?_
        cases hf8
        exact j_iret (pc := 33) hc hq hre rfl dX3_isSelect_33
      · have hf9 := (if_pos hh).symm.trans hf7
        clear hf7
        refine j_iconst (pc := 28) (v := (1)) hc dX3_isSelect_28 rfl ?_
        refine j_goto (pc := 29) hc dX3_isSelect_29 (tgt := 33) rfl ?_
        cases hf9
        exact j_iret (pc := 33) hc hq hre rfl dX3_isSelect_33
theorem cw_X3_366 : CV "TableCatalogModel" 366 RX3 yX3_isSelect cX3_isSelect 2 (some (.boolean)) 1 := ⟨⟨q1640, q1642, qs79, q90, q1643⟩, rfl, by decide, by decide, by decide +kernel⟩
def f_X3_alike_n137 (k_69 : Int32 → Int32 → Int32 → Int32 → MS → Option (Int32 × MS)) : Nat → Int32 → Int32 → Int32 → Int32 → Int32 → Int32 → Int32 → MS → Option (Int32 × MS)
  | 0, _, _, _, _, _, _, _, _ => none
  | n + 1, x1, x2, x3, x4, x5, x6, x7, M =>
    (g_mA M 16 x5).bind fun v1 =>
    if v1 ≤ x7 then
      k_69 x1 x2 (x3 + (1)) (x4 + (1)) M
    else
      (g_mA M 15 x5).bind fun v2 =>
      (g_mA M 17 ((((400) * x1) + v2) + x7)).bind fun v3 =>
      (g_mA M 15 x6).bind fun v4 =>
      (g_mA M 17 ((((400) * x2) + v4) + x7)).bind fun v5 =>
      if v3 = v5 then
        (fun x1 x2 x3 x4 x5 x6 x7 M => f_X3_alike_n137 k_69 n x1 x2 x3 x4 x5 x6 x7 M) x1 x2 x3 x4 x5 x6 (x7 + (1)) M
      else
        some ((0), M)
def f_X3_alike_n69 : Nat → Int32 → Int32 → Int32 → Int32 → MS → Option (Int32 × MS)
  | 0, _, _, _, _, _ => none
  | n + 1, x1, x2, x3, x4, M =>
    (g_mA M 13 x1).bind fun v1 =>
    if v1 ≤ x3 then
      some ((1), M)
    else
      (g_mA M 14 (((400) * x1) + x3)).bind fun v2 =>
      (g_mA M 14 (((400) * x2) + x4)).bind fun v3 =>
      if v2 = v3 then
        (g_mA M 16 (((400) * x1) + x3)).bind fun v4 =>
        (g_mA M 16 (((400) * x2) + x4)).bind fun v5 =>
        if v4 = v5 then
          f_X3_alike_n137 (fun x1 x2 x3 x4 M => f_X3_alike_n69 n x1 x2 x3 x4 M) fu_ x1 x2 x3 x4 (((400) * x1) + x3) (((400) * x2) + x4) (0) M
        else
          some ((0), M)
      else
        some ((0), M)
def f_X3_alike (x1 : Int32) (x2 : Int32) (M : MS) : Option (Int32 × MS) :=
  o_bd (f_X3_isSelect x1 M) fun v2 N1 =>
  if v2 = 0 then
    some ((-1), N1)
  else
    o_bd (f_X3_isSelect x2 N1) fun v4 N3 =>
    if v4 = 0 then
      some ((-1), N3)
    else
      if x1 = x2 then
        some ((-1), N3)
      else
        (g_mA N3 13 x1).bind fun v5 =>
        (g_mA N3 20 x1).bind fun v6 =>
        (g_mA N3 13 x2).bind fun v7 =>
        (g_mA N3 20 x2).bind fun v8 =>
        if (v5 - v6) = (v7 - v8) then
          (g_mA N3 20 x1).bind fun v9 =>
          (g_mA N3 20 x2).bind fun v10 =>
          f_X3_alike_n69 fu_ x1 x2 v9 v10 N3
        else
          some ((0), N3)
set_option maxRecDepth 100000 in
set_option maxHeartbeats 2000000 in
theorem w_X3_alike_n137 {f : CfT} {a0 : Nat} {r : Int32} {S : HS} {M1 : MS} (hc : cf_cc f = cX3_alike) (ho : cf_ow f = "TableCatalogModel") (hnL : cf_nL f = 8) (hrm : cf_rm f = (3, 102)) (hre : cf_re f = (some (.int))) (hct : cf_ct f = false) (hq : Qok f (some (vi r)) S (some (a0, M1))) {k_69 : Int32 → Int32 → Int32 → Int32 → MS → Option (Int32 × MS)} (hk_69 : ∀ (x1 : Int32) (x2 : Int32) (x3 : Int32) (x4 : Int32) (M : MS), k_69 x1 x2 x3 x4 M = some (r, M1) → JJ f S (some (a0, M)) 69 [(0, vr (some a0)), (1, vi x1), (2, vi x2), (3, vi x3), (4, vi x4)] []) : ∀ (n : Nat) (x1 : Int32) (x2 : Int32) (x3 : Int32) (x4 : Int32) (x5 : Int32) (x6 : Int32) (x7 : Int32) (M : MS), f_X3_alike_n137 k_69 n x1 x2 x3 x4 x5 x6 x7 M = some (r, M1) → JJ f S (some (a0, M)) 137 [(0, vr (some a0)), (1, vi x1), (2, vi x2), (3, vi x3), (4, vi x4), (5, vi x5), (6, vi x6), (7, vi x7)] [] := by
  intro n
  induction n with
  | zero =>
    intro x1 x2 x3 x4 x5 x6 x7 M hf
    have hf : (none : Option (Int32 × MS)) = some (r, M1) := hf
    cases hf
  | succ n ih =>
    intro x1 x2 x3 x4 x5 x6 x7 M hf
    unfold f_X3_alike_n137 at hf
    have hk_137 := ih
    refine j_iload (pc := 137) hc dX3_alike_137 7 rfl ?_
    refine j_aload_n (pc := 139) hc dX3_alike_139 0 rfl rfl ?_
    refine j_mgA (pc := 140) hc ho fm_57 rfl dX3_alike_140 ?_
    refine j_iload (pc := 143) hc dX3_alike_143 5 rfl ?_
    obtain ⟨v1, ev1, hf1⟩ := ob_i hf
    clear hf
    refine j_mldI (pc := 145) hc (k := 16) (by decide) rfl dX3_alike_145 ev1 ?_
    refine j_icmp_ge (pc := 146) hc dX3_alike_146 (tgt := 202) rfl (fun hh => ?_) (fun hh => ?_)
    · have hf2 := (if_pos hh).symm.trans hf1
      clear hf1
      refine j_iinc (pc := 202) (L' := [(3, vi (x3 + (1))), (0, vr (some a0)), (1, vi x1), (2, vi x2), (4, vi x4), (5, vi x5), (6, vi x6), (7, vi x7)]) (v := (x3 + (1))) hc dX3_alike_202 3 rfl rfl hnL (by decide) rfl ?_
      refine j_iinc (pc := 205) (L' := [(4, vi (x4 + (1))), (3, vi (x3 + (1))), (0, vr (some a0)), (1, vi x1), (2, vi x2), (5, vi x5), (6, vi x6), (7, vi x7)]) (v := (x4 + (1))) hc dX3_alike_205 4 rfl rfl hnL (by decide) rfl ?_
      refine j_goto (pc := 208) hc dX3_alike_208 (tgt := 69) rfl ?_
      refine j_loc (L' := [(0, vr (some a0)), (1, vi x1), (2, vi x2), (3, vi (x3 + (1))), (4, vi (x4 + (1)))]) [2, 3, 4, 1, 0] rfl ?_
      exact hk_69 _ _ _ _ _ hf2
    · have hf3 := (if_neg hh).symm.trans hf1
      clear hf1
      refine j_aload_n (pc := 149) hc dX3_alike_149 0 rfl rfl ?_
      refine j_mgA (pc := 150) hc ho fm_60 rfl dX3_alike_150 ?_
      refine j_sipush (pc := 153) (v := (400)) hc dX3_alike_153 rfl ?_
      refine j_iload_n (pc := 156) hc dX3_alike_156 1 rfl rfl ?_
      refine j_imul (pc := 157) hc dX3_alike_157 ?_
      refine j_aload_n (pc := 158) hc dX3_alike_158 0 rfl rfl ?_
      refine j_mgA (pc := 159) hc ho fm_54 rfl dX3_alike_159 ?_
      refine j_iload (pc := 162) hc dX3_alike_162 5 rfl ?_
      obtain ⟨v2, ev2, hf4⟩ := ob_i hf3
      clear hf3
      refine j_mldI (pc := 164) hc (k := 15) (by decide) rfl dX3_alike_164 ev2 ?_
      refine j_iadd (pc := 165) hc dX3_alike_165 ?_
      refine j_iload (pc := 166) hc dX3_alike_166 7 rfl ?_
      refine j_iadd (pc := 168) hc dX3_alike_168 ?_
      obtain ⟨v3, ev3, hf5⟩ := ob_i hf4
      clear hf4
      refine j_mldI (pc := 169) hc (k := 17) (by decide) rfl dX3_alike_169 ev3 ?_
      refine j_aload_n (pc := 170) hc dX3_alike_170 0 rfl rfl ?_
      refine j_mgA (pc := 171) hc ho fm_60 rfl dX3_alike_171 ?_
      refine j_sipush (pc := 174) (v := (400)) hc dX3_alike_174 rfl ?_
      refine j_iload_n (pc := 177) hc dX3_alike_177 2 rfl rfl ?_
      refine j_imul (pc := 178) hc dX3_alike_178 ?_
      refine j_aload_n (pc := 179) hc dX3_alike_179 0 rfl rfl ?_
      refine j_mgA (pc := 180) hc ho fm_54 rfl dX3_alike_180 ?_
      refine j_iload (pc := 183) hc dX3_alike_183 6 rfl ?_
      obtain ⟨v4, ev4, hf6⟩ := ob_i hf5
      clear hf5
      refine j_mldI (pc := 185) hc (k := 15) (by decide) rfl dX3_alike_185 ev4 ?_
      refine j_iadd (pc := 186) hc dX3_alike_186 ?_
      refine j_iload (pc := 187) hc dX3_alike_187 7 rfl ?_
      refine j_iadd (pc := 189) hc dX3_alike_189 ?_
      obtain ⟨v5, ev5, hf7⟩ := ob_i hf6
      clear hf6
      refine j_mldI (pc := 190) hc (k := 17) (by decide) rfl dX3_alike_190 ev5 ?_
      refine j_icmp_eq (pc := 191) hc dX3_alike_191 (tgt := 196) rfl (fun hh => ?_) (fun hh => ?_)
      · have hf8 := (if_pos hh).symm.trans hf7
        clear hf7
        refine j_iinc (pc := 196) (L' := [(7, vi (x7 + (1))), (0, vr (some a0)), (1, vi x1), (2, vi x2), (3, vi x3), (4, vi x4), (5, vi x5), (6, vi x6)]) (v := (x7 + (1))) hc dX3_alike_196 7 rfl rfl hnL (by decide) rfl ?_
        refine j_goto (pc := 199) hc dX3_alike_199 (tgt := 137) rfl ?_
        refine j_loc (L' := [(0, vr (some a0)), (1, vi x1), (2, vi x2), (3, vi x3), (4, vi x4), (5, vi x5), (6, vi x6), (7, vi (x7 + (1)))]) [1, 2, 3, 4, 5, 6, 7, 0] rfl ?_
        exact hk_137 _ _ _ _ _ _ _ _ hf8
      · have hf9 := (if_neg hh).symm.trans hf7
        clear hf7
        refine j_iconst (pc := 194) (v := (0)) hc dX3_alike_194 rfl ?_
        cases hf9
        exact j_iret (pc := 195) hc hq hre rfl dX3_alike_195
set_option maxRecDepth 100000 in
set_option maxHeartbeats 2000000 in
theorem w_X3_alike_n69 {f : CfT} {a0 : Nat} {r : Int32} {S : HS} {M1 : MS} (hc : cf_cc f = cX3_alike) (ho : cf_ow f = "TableCatalogModel") (hnL : cf_nL f = 8) (hrm : cf_rm f = (3, 102)) (hre : cf_re f = (some (.int))) (hct : cf_ct f = false) (hq : Qok f (some (vi r)) S (some (a0, M1))) : ∀ (n : Nat) (x1 : Int32) (x2 : Int32) (x3 : Int32) (x4 : Int32) (M : MS), f_X3_alike_n69 n x1 x2 x3 x4 M = some (r, M1) → JJ f S (some (a0, M)) 69 [(0, vr (some a0)), (1, vi x1), (2, vi x2), (3, vi x3), (4, vi x4)] [] := by
  intro n
  induction n with
  | zero =>
    intro x1 x2 x3 x4 M hf
    have hf : (none : Option (Int32 × MS)) = some (r, M1) := hf
    cases hf
  | succ n ih =>
    intro x1 x2 x3 x4 M hf
    unfold f_X3_alike_n69 at hf
    have hk_69 := ih
    refine j_iload_n (pc := 69) hc dX3_alike_69 3 rfl rfl ?_
    refine j_aload_n (pc := 70) hc dX3_alike_70 0 rfl rfl ?_
    refine j_mgA (pc := 71) hc ho fm_48 rfl dX3_alike_71 ?_
    refine j_iload_n (pc := 74) hc dX3_alike_74 1 rfl rfl ?_
    obtain ⟨v1, ev1, hf1⟩ := ob_i hf
    clear hf
    refine j_mldI (pc := 75) hc (k := 13) (by decide) rfl dX3_alike_75 ev1 ?_
    refine j_icmp_ge (pc := 76) hc dX3_alike_76 (tgt := 211) rfl (fun hh => ?_) (fun hh => ?_)
    · have hf2 := (if_pos hh).symm.trans hf1
      clear hf1
      refine j_iconst (pc := 211) (v := (1)) hc dX3_alike_211 rfl ?_
      cases hf2
      exact j_iret (pc := 212) hc hq hre rfl dX3_alike_212
    · have hf3 := (if_neg hh).symm.trans hf1
      clear hf1
      refine j_sipush (pc := 79) (v := (400)) hc dX3_alike_79 rfl ?_
      refine j_iload_n (pc := 82) hc dX3_alike_82 1 rfl rfl ?_
      refine j_imul (pc := 83) hc dX3_alike_83 ?_
      refine j_iload_n (pc := 84) hc dX3_alike_84 3 rfl rfl ?_
      refine j_iadd (pc := 85) hc dX3_alike_85 ?_
      refine j_istore (pc := 86) (L' := [(5, vi (((400) * x1) + x3)), (0, vr (some a0)), (1, vi x1), (2, vi x2), (3, vi x3), (4, vi x4)]) hc dX3_alike_86 hnL (by decide) rfl ?_
      refine j_sipush (pc := 88) (v := (400)) hc dX3_alike_88 rfl ?_
      refine j_iload_n (pc := 91) hc dX3_alike_91 3 rfl rfl ?_
      refine j_imul (pc := 92) hc dX3_alike_92 ?_
      refine j_iload (pc := 93) hc dX3_alike_93 5 rfl ?_
      refine j_iadd (pc := 95) hc dX3_alike_95 ?_
      refine j_istore (pc := 96) (L' := [(6, vi (((400) * x2) + x4)), (5, vi (((400) * x1) + x3)), (0, vr (some a0)), (1, vi x1), (2, vi x2), (3, vi x3), (4, vi x4)]) hc dX3_alike_96 hnL (by decide) rfl ?_
      refine j_aload_n (pc := 98) hc dX3_alike_98 2 rfl rfl ?_
      refine j_mgA (pc := 99) hc ho fm_51 rfl dX3_alike_99 ?_
      refine j_iload (pc := 102) hc dX3_alike_102 1 rfl ?_
      obtain ⟨v2, ev2, hf4⟩ := ob_i hf3
      clear hf3
      refine j_mldI (pc := 104) hc (k := 14) (by decide) rfl dX3_alike_104 ev2 ?_
      refine j_aload_n (pc := 105) hc dX3_alike_105 2 rfl rfl ?_
      refine j_mgA (pc := 106) hc ho fm_51 rfl dX3_alike_106 ?_
      refine j_iload (pc := 109) hc dX3_alike_109 0 rfl ?_
      obtain ⟨v3, ev3, hf5⟩ := ob_i hf4
      clear hf4
      refine j_mldI (pc := 111) hc (k := 14) (by decide) rfl dX3_alike_111 ev3 ?_
      refine j_icmp_ne (pc := 112) hc dX3_alike_112 (tgt := 132) rfl (fun hh => ?_) (fun hh => ?_)
      · have hf6 := (if_neg hh).symm.trans hf5
        clear hf5
        refine j_iconst (pc := 132) (v := (0)) hc dX3_alike_132 rfl ?_
        cases hf6
        exact j_iret (pc := 133) hc hq hre rfl dX3_alike_133
      · have hf7 := (if_pos hh).symm.trans hf5
        clear hf5
        refine j_aload_n (pc := 115) hc dX3_alike_115 2 rfl rfl ?_
        refine j_mgA (pc := 116) hc ho fm_57 rfl dX3_alike_116 ?_
        refine j_iload (pc := 119) hc dX3_alike_119 1 rfl ?_
        obtain ⟨v4, ev4, hf8⟩ := ob_i hf7
        clear hf7
        refine j_mldI (pc := 121) hc (k := 16) (by decide) rfl dX3_alike_121 ev4 ?_
        refine j_aload_n (pc := 122) hc dX3_alike_122 2 rfl rfl ?_
        refine j_mgA (pc := 123) hc ho fm_57 rfl dX3_alike_123 ?_
        refine j_iload (pc := 126) hc dX3_alike_126 0 rfl ?_
        obtain ⟨v5, ev5, hf9⟩ := ob_i hf8
        clear hf8
        refine j_mldI (pc := 128) hc (k := 16) (by decide) rfl dX3_alike_128 ev5 ?_
        refine j_icmp_eq (pc := 129) hc dX3_alike_129 (tgt := 134) rfl (fun hh => ?_) (fun hh => ?_)
        · have hf10 := (if_pos hh).symm.trans hf9
          clear hf9
          refine j_iconst (pc := 134) (v := (0)) hc dX3_alike_134 rfl ?_
          refine j_istore (pc := 135) (L' := [(7, vi (0)), (6, vi (((400) * x2) + x4)), (5, vi (((400) * x1) + x3)), (0, vr (some a0)), (1, vi x1), (2, vi x2), (3, vi x3), (4, vi x4)]) hc dX3_alike_135 hnL (by decide) rfl ?_
          refine j_loc (L' := [(0, vr (some a0)), (1, vi x1), (2, vi x2), (3, vi x3), (4, vi x4), (5, vi (((400) * x1) + x3)), (6, vi (((400) * x2) + x4)), (7, vi (0))]) [3, 4, 5, 6, 7, 2, 1, 0] rfl ?_
          exact w_X3_alike_n137 hc ho hnL hrm hre hct hq hk_69 fu_ _ _ _ _ _ _ _ _ hf10
        · have hf11 := (if_neg hh).symm.trans hf9
          clear hf9
          refine j_iconst (pc := 132) (v := (0)) hc dX3_alike_132 rfl ?_
          cases hf11
          exact j_iret (pc := 133) hc hq hre rfl dX3_alike_133
set_option maxRecDepth 100000 in
set_option maxHeartbeats 2000000 in
theorem c_X3_alike {l : Launch} {g : PG} {a0 : Nat} {x1 : Int32} {x2 : Int32} {r : Int32} {S : HS} {M M1 : MS} (hf : f_X3_alike x1 x2 M = some (r, M1)) : (h_nx S ≤ h_nx S ∧ h_sl S ≤ h_sl S) ∧ Ct l g yX3_alike (ws_ yX3_alike cX3_alike 8 (some (.int))) 3 102 S (some (a0, M)) [vr (some a0), vi x1, vi x2] (some (vi r)) S (some (a0, M1)) := by
  refine met_of false (by decide) (fun h => by first | rfl | cases h) rfl (Nat.le_of_ble_eq_true rfl) (fun f hl hg hc ho hnL hrm hre hct hex hq => ?_)
  subst hl
  subst hg
  unfold f_X3_alike at hf
  refine j_aload_n (pc := 0) hc dX3_alike_0 0 rfl rfl ?_
  refine j_iload_n (pc := 1) hc dX3_alike_1 1 rfl rfl ?_
  obtain ⟨v2, N1, ev2, hf1⟩ := ob_c hf
  clear hf
  refine j_callV (pc := 2) (As := [vi x1]) (rest := []) (st2 := [vi v2]) hc ho cw_X3_366 (c_X3_isSelect ev2) (Or.inr ⟨rfl, _, rfl⟩) hrm ⟨by decide, by decide⟩ rfl (Nat.le_of_ble_eq_true rfl) dX3_alike_2 rfl rfl ?_
  refine j_if_eq (pc := 5) hc dX3_alike_5 (tgt := 21) rfl (fun hh => ?_) (fun hh => ?_)
  · have hf2 := (if_pos hh).symm.trans hf1
    clear hf1
    refine j_iconst (pc := 21) (v := (-1)) hc dX3_alike_21 rfl ?_
    cases hf2
    exact j_iret (pc := 22) hc hq hre rfl dX3_alike_22
  · have hf3 := (if_neg hh).symm.trans hf1
    clear hf1
    refine j_aload_n (pc := 8) hc dX3_alike_8 0 rfl rfl ?_
    refine j_iload_n (pc := 9) hc dX3_alike_9 2 rfl rfl ?_
    obtain ⟨v4, N3, ev4, hf4⟩ := ob_c hf3
    clear hf3
    refine j_callV (pc := 10) (As := [vi x2]) (rest := []) (st2 := [vi v4]) hc ho cw_X3_366 (c_X3_isSelect ev4) (Or.inr ⟨rfl, _, rfl⟩) hrm ⟨by decide, by decide⟩ rfl (Nat.le_of_ble_eq_true rfl) dX3_alike_10 rfl rfl ?_
    refine j_if_eq (pc := 13) hc dX3_alike_13 (tgt := 21) rfl (fun hh => ?_) (fun hh => ?_)
    · have hf5 := (if_pos hh).symm.trans hf4
      clear hf4
      refine j_iconst (pc := 21) (v := (-1)) hc dX3_alike_21 rfl ?_
      cases hf5
      exact j_iret (pc := 22) hc hq hre rfl dX3_alike_22
    · have hf6 := (if_neg hh).symm.trans hf4
      clear hf4
      refine j_iload_n (pc := 16) hc dX3_alike_16 1 rfl rfl ?_
      refine j_iload_n (pc := 17) hc dX3_alike_17 2 rfl rfl ?_
      refine j_icmp_ne (pc := 18) hc dX3_alike_18 (tgt := 23) rfl (fun hh => ?_) (fun hh => ?_)
      · have hf7 := (if_neg hh).symm.trans hf6
        clear hf6
        refine j_aload_n (pc := 23) hc dX3_alike_23 0 rfl rfl ?_
        refine j_mgA (pc := 24) hc ho fm_48 rfl dX3_alike_24 ?_
        refine j_iload_n (pc := 27) hc dX3_alike_27 1 rfl rfl ?_
        obtain ⟨v5, ev5, hf8⟩ := ob_i hf7
        clear hf7
        refine j_mldI (pc := 28) hc (k := 13) (by decide) rfl dX3_alike_28 ev5 ?_
        refine j_aload_n (pc := 29) hc dX3_alike_29 0 rfl rfl ?_
        refine j_mgA (pc := 30) hc ho fm_69 rfl dX3_alike_30 ?_
        refine j_iload_n (pc := 33) hc dX3_alike_33 1 rfl rfl ?_
        obtain ⟨v6, ev6, hf9⟩ := ob_i hf8
        clear hf8
        refine j_mldI (pc := 34) hc (k := 20) (by decide) rfl dX3_alike_34 ev6 ?_
        refine j_isub (pc := 35) hc dX3_alike_35 ?_
        refine j_aload_n (pc := 36) hc dX3_alike_36 0 rfl rfl ?_
        refine j_mgA (pc := 37) hc ho fm_48 rfl dX3_alike_37 ?_
        refine j_iload_n (pc := 40) hc dX3_alike_40 2 rfl rfl ?_
        obtain ⟨v7, ev7, hf10⟩ := ob_i hf9
        clear hf9
        refine j_mldI (pc := 41) hc (k := 13) (by decide) rfl dX3_alike_41 ev7 ?_
        refine j_aload_n (pc := 42) hc dX3_alike_42 0 rfl rfl ?_
        refine j_mgA (pc := 43) hc ho fm_69 rfl dX3_alike_43 ?_
        refine j_iload_n (pc := 46) hc dX3_alike_46 2 rfl rfl ?_
        obtain ⟨v8, ev8, hf11⟩ := ob_i hf10
        clear hf10
        refine j_mldI (pc := 47) hc (k := 20) (by decide) rfl dX3_alike_47 ev8 ?_
        refine j_isub (pc := 48) hc dX3_alike_48 ?_
        refine j_icmp_eq (pc := 49) hc dX3_alike_49 (tgt := 54) rfl (fun hh => ?_) (fun hh => ?_)
        · have hf12 := (if_pos hh).symm.trans hf11
          clear hf11
          refine j_aload_n (pc := 54) hc dX3_alike_54 0 rfl rfl ?_
          refine j_mgA (pc := 55) hc ho fm_69 rfl dX3_alike_55 ?_
          refine j_iload_n (pc := 58) hc dX3_alike_58 1 rfl rfl ?_
          obtain ⟨v9, ev9, hf13⟩ := ob_i hf12
          clear hf12
          refine j_mldI (pc := 59) hc (k := 20) (by decide) rfl dX3_alike_59 ev9 ?_
          refine j_istore_n (pc := 60) (L' := [(3, vi v9), (0, vr (some a0)), (1, vi x1), (2, vi x2)]) hc dX3_alike_60 rfl hnL (by decide) rfl ?_
          refine j_aload_n (pc := 61) hc dX3_alike_61 1 rfl rfl ?_
          refine j_mgA (pc := 62) hc ho fm_69 rfl dX3_alike_62 ?_
          refine j_iload_n (pc := 65) hc dX3_alike_65 3 rfl rfl ?_
          obtain ⟨v10, ev10, hf14⟩ := ob_i hf13
          clear hf13
          refine j_mldI (pc := 66) hc (k := 20) (by decide) rfl dX3_alike_66 ev10 ?_
          refine j_istore (pc := 67) (L' := [(4, vi v10), (3, vi v9), (0, vr (some a0)), (1, vi x1), (2, vi x2)]) hc dX3_alike_67 hnL (by decide) rfl ?_
          refine j_loc (L' := [(0, vr (some a0)), (1, vi x1), (2, vi x2), (3, vi v9), (4, vi v10)]) [2, 3, 4, 1, 0] rfl ?_
          exact w_X3_alike_n69 hc ho hnL hrm hre hct hq fu_ _ _ _ _ _ hf14
        · have hf15 := (if_neg hh).symm.trans hf11
          clear hf11
          refine j_iconst (pc := 52) (v := (0)) hc dX3_alike_52 rfl ?_
          cases hf15
          exact j_iret (pc := 53) hc hq hre rfl dX3_alike_53
      · have hf16 := (if_pos hh).symm.trans hf6
        clear hf6
        refine j_iconst (pc := 21) (v := (-1)) hc dX3_alike_21 rfl ?_
        cases hf16
        exact j_iret (pc := 22) hc hq hre rfl dX3_alike_22
