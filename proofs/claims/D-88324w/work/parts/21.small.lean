set_option linter.unusedVariables false
def f_X0_isLetter (x0 : Int32)  : Option (Int32) :=
  if x0 < (97) then
    some (0)
  else
    if (122) < x0 then
      some (0)
    else
      some (1)
set_option maxRecDepth 100000 in
set_option maxHeartbeats 2000000 in
theorem c_X0_isLetter {l : Launch} {g : PG} {mo : MO} {x0 : Int32} {r : Int32} {S : HS} (hf : f_X0_isLetter x0 = some r) : (h_nx S ≤ h_nx S ∧ h_sl S ≤ h_sl S) ∧ Ct l g yX0_isLetter (ws_ yX0_isLetter cX0_isLetter 1 (some (.boolean))) 1 60 S mo [vi x0] (some (vi r)) S mo := by
  refine met_of false (by decide) (fun h => by first | rfl | cases h) rfl (Nat.le_of_ble_eq_true rfl) (fun f hl hg hc ho hnL hrm hre hct hex hq => ?_)
  subst hl
  subst hg
  unfold f_X0_isLetter at hf
  refine j_iload_n (pc := 0) hc dX0_isLetter_0 0 rfl rfl ?_
  refine j_bipush (pc := 1) (v := (97)) hc dX0_isLetter_1 rfl ?_
  refine j_icmp_lt (pc := 3) hc dX0_isLetter_3 (tgt := 16) rfl (fun hh => ?_) (fun hh => ?_)
  · have hf1 := (if_pos hh).symm.trans hf
    clear hf
    refine j_iconst (pc := 16) (v := (0)) hc dX0_isLetter_16 rfl ?_
    cases hf1
    exact j_iret (pc := 17) hc hq hre rfl dX0_isLetter_17
  · have hf2 := (if_neg hh).symm.trans hf
    clear hf
    refine j_iload_n (pc := 6) hc dX0_isLetter_6 0 rfl rfl ?_
    refine j_bipush (pc := 7) (v := (122)) hc dX0_isLetter_7 rfl ?_
    refine j_icmp_gt (pc := 9) hc dX0_isLetter_9 (tgt := 16) rfl (fun hh => ?_) (fun hh => ?_)
    · have hf3 := (if_pos hh).symm.trans hf2
      clear hf2
      refine j_iconst (pc := 16) (v := (0)) hc dX0_isLetter_16 rfl ?_
      cases hf3
      exact j_iret (pc := 17) hc hq hre rfl dX0_isLetter_17
    · have hf4 := (if_neg hh).symm.trans hf2
      clear hf2
      refine j_iconst (pc := 12) (v := (1)) hc dX0_isLetter_12 rfl ?_
      refine j_goto (pc := 13) hc dX0_isLetter_13 (tgt := 17) rfl ?_
      cases hf4
      exact j_iret (pc := 17) hc hq hre rfl dX0_isLetter_17
def f_X0_isDigit (x0 : Int32)  : Option (Int32) :=
  if x0 < (48) then
    some (0)
  else
    if (57) < x0 then
      some (0)
    else
      some (1)
set_option maxRecDepth 100000 in
set_option maxHeartbeats 2000000 in
theorem c_X0_isDigit {l : Launch} {g : PG} {mo : MO} {x0 : Int32} {r : Int32} {S : HS} (hf : f_X0_isDigit x0 = some r) : (h_nx S ≤ h_nx S ∧ h_sl S ≤ h_sl S) ∧ Ct l g yX0_isDigit (ws_ yX0_isDigit cX0_isDigit 1 (some (.boolean))) 1 60 S mo [vi x0] (some (vi r)) S mo := by
  refine met_of false (by decide) (fun h => by first | rfl | cases h) rfl (Nat.le_of_ble_eq_true rfl) (fun f hl hg hc ho hnL hrm hre hct hex hq => ?_)
  subst hl
  subst hg
  unfold f_X0_isDigit at hf
  refine j_iload_n (pc := 0) hc dX0_isDigit_0 0 rfl rfl ?_
  refine j_bipush (pc := 1) (v := (48)) hc dX0_isDigit_1 rfl ?_
  refine j_icmp_lt (pc := 3) hc dX0_isDigit_3 (tgt := 16) rfl (fun hh => ?_) (fun hh => ?_)
  · have hf1 := (if_pos hh).symm.trans hf
    clear hf
    refine j_iconst (pc := 16) (v := (0)) hc dX0_isDigit_16 rfl ?_
    cases hf1
    exact j_iret (pc := 17) hc hq hre rfl dX0_isDigit_17
  · have hf2 := (if_neg hh).symm.trans hf
    clear hf
    refine j_iload_n (pc := 6) hc dX0_isDigit_6 0 rfl rfl ?_
    refine j_bipush (pc := 7) (v := (57)) hc dX0_isDigit_7 rfl ?_
    refine j_icmp_gt (pc := 9) hc dX0_isDigit_9 (tgt := 16) rfl (fun hh => ?_) (fun hh => ?_)
    · have hf3 := (if_pos hh).symm.trans hf2
      clear hf2
      refine j_iconst (pc := 16) (v := (0)) hc dX0_isDigit_16 rfl ?_
      cases hf3
      exact j_iret (pc := 17) hc hq hre rfl dX0_isDigit_17
    · have hf4 := (if_neg hh).symm.trans hf2
      clear hf2
      refine j_iconst (pc := 12) (v := (1)) hc dX0_isDigit_12 rfl ?_
      refine j_goto (pc := 13) hc dX0_isDigit_13 (tgt := 17) rfl ?_
      cases hf4
      exact j_iret (pc := 17) hc hq hre rfl dX0_isDigit_17
theorem cw_X0_3 : CV "TableCatalog" 3 RJ6 yJ6_hashCode cJ6_hashCode 2 (some (.int)) 0 := ⟨⟨q476, q477, q478, q91, q479⟩, rfl, by decide, by decide, by decide +kernel⟩
theorem cw_X0_11 : CV "TableCatalog" 11 RJ6 yJ6_equals cJ6_equals 3 (some (.boolean)) 1 := ⟨⟨q530, q457, q458, q91, q459⟩, rfl, by decide, by decide, by decide +kernel⟩
def f_X0_isWord_n172 (x2 : Int32) (S : HS) : Option (Int32 × HS) :=
  if x2 = (0) then
    some ((1), S)
  else
    if x2 = (1) then
      some ((1), S)
    else
      if x2 = (2) then
        some ((1), S)
      else
        if x2 = (3) then
          some ((1), S)
        else
          if x2 = (4) then
            some ((1), S)
          else
            if x2 = (5) then
              some ((1), S)
            else
              if x2 = (6) then
                some ((1), S)
              else
                some ((0), S)
def f_X0_isWord (r0 : Option Nat) (S : HS) : Option (Int32 × HS) :=
  (r0).bind fun a1 =>
  (g_cls S 13 a1).bind fun u2 =>
  o_bd (f_J6_hashCode a1 S) fun v4 T3 =>
  if v4 = (107029) then
    (g_cls T3 13 a1).bind fun u5 =>
    o_bd (f_J6_equals a1 (some (h_ks T3 5)) T3) fun v7 T6 =>
    if v7 = 0 then
      f_X0_isWord_n172 (-1) T6
    else
      f_X0_isWord_n172 (5) T6
  else
    if v4 = (114225) then
      (g_cls T3 13 a1).bind fun u8 =>
      o_bd (f_J6_equals a1 (some (h_ks T3 6)) T3) fun v10 T9 =>
      if v10 = 0 then
        f_X0_isWord_n172 (-1) T9
      else
        f_X0_isWord_n172 (6) T9
    else
      if v4 = (3059573) then
        (g_cls T3 13 a1).bind fun u11 =>
        o_bd (f_J6_equals a1 (some (h_ks T3 1)) T3) fun v13 T12 =>
        if v13 = 0 then
          f_X0_isWord_n172 (-1) T12
        else
          f_X0_isWord_n172 (1) T12
      else
        if v4 = (3151786) then
          (g_cls T3 13 a1).bind fun u14 =>
          o_bd (f_J6_equals a1 (some (h_ks T3 3)) T3) fun v16 T15 =>
          if v16 = 0 then
            f_X0_isWord_n172 (-1) T15
          else
            f_X0_isWord_n172 (3) T15
        else
          if v4 = (3619493) then
            (g_cls T3 13 a1).bind fun u17 =>
            o_bd (f_J6_equals a1 (some (h_ks T3 0)) T3) fun v19 T18 =>
            if v19 = 0 then
              f_X0_isWord_n172 (-1) T18
            else
              f_X0_isWord_n172 (0) T18
          else
            if v4 = (110115790) then
              (g_cls T3 13 a1).bind fun u20 =>
              o_bd (f_J6_equals a1 (some (h_ks T3 2)) T3) fun v22 T21 =>
              if v22 = 0 then
                f_X0_isWord_n172 (-1) T21
              else
                f_X0_isWord_n172 (2) T21
            else
              if v4 = (113097959) then
                (g_cls T3 13 a1).bind fun u23 =>
                o_bd (f_J6_equals a1 (some (h_ks T3 4)) T3) fun v25 T24 =>
                if v25 = 0 then
                  f_X0_isWord_n172 (-1) T24
                else
                  f_X0_isWord_n172 (4) T24
              else
                f_X0_isWord_n172 (-1) T3
set_option maxRecDepth 100000 in
set_option maxHeartbeats 2000000 in
theorem w_X0_isWord_n172 {f : CfT} {mo : MO} {r : Int32} {S1 : HS} (hc : cf_cc f = cX0_isWord) (ho : cf_ow f = "TableCatalog") (hnL : cf_nL f = 3) (hrm : cf_rm f = (5, 150)) (hre : cf_re f = (some (.boolean))) (hct : cf_ct f = false) (hq : Qok f (some (vi r)) S1 mo) {x2 : Int32} {S : HS} (hf : f_X0_isWord_n172 x2 S = some (r, S1)) : JJ f S mo 172 [(2, vi x2)] [] := by
  unfold f_X0_isWord_n172 at hf
  refine j_iload_n (pc := 172) hc dX0_isWord_172 0 rfl rfl ?_
  by_cases hh0 : x2 = (0)
  · have hf1 := (if_pos hh0).symm.trans hf
    clear hf
    refine j_tsw (pc := 173) (k := (0)) (tgt := 216) hc dX0_isWord_173 hh0 (by decide) (by decide) rfl rfl ?_
    refine j_iconst (pc := 216) (v := (1)) hc dX0_isWord_216 rfl ?_
    cases hf1
    exact j_iret (pc := 217) hc hq hre rfl dX0_isWord_217
  · have hf2 := (if_neg hh0).symm.trans hf
    clear hf
    by_cases hh1 : x2 = (1)
    · have hf3 := (if_pos hh1).symm.trans hf2
      clear hf2
      refine j_tsw (pc := 173) (k := (1)) (tgt := 216) hc dX0_isWord_173 hh1 (by decide) (by decide) rfl rfl ?_
      refine j_iconst (pc := 216) (v := (1)) hc dX0_isWord_216 rfl ?_
      cases hf3
      exact j_iret (pc := 217) hc hq hre rfl dX0_isWord_217
    · have hf4 := (if_neg hh1).symm.trans hf2
      clear hf2
      by_cases hh2 : x2 = (2)
      · have hf5 := (if_pos hh2).symm.trans hf4
        clear hf4
        refine j_tsw (pc := 173) (k := (2)) (tgt := 216) hc dX0_isWord_173 hh2 (by decide) (by decide) rfl rfl ?_
        refine j_iconst (pc := 216) (v := (1)) hc dX0_isWord_216 rfl ?_
        cases hf5
        exact j_iret (pc := 217) hc hq hre rfl dX0_isWord_217
      · have hf6 := (if_neg hh2).symm.trans hf4
        clear hf4
        by_cases hh3 : x2 = (3)
        · have hf7 := (if_pos hh3).symm.trans hf6
          clear hf6
          refine j_tsw (pc := 173) (k := (3)) (tgt := 216) hc dX0_isWord_173 hh3 (by decide) (by decide) rfl rfl ?_
          refine j_iconst (pc := 216) (v := (1)) hc dX0_isWord_216 rfl ?_
          cases hf7
          exact j_iret (pc := 217) hc hq hre rfl dX0_isWord_217
        · have hf8 := (if_neg hh3).symm.trans hf6
          clear hf6
          by_cases hh4 : x2 = (4)
          · have hf9 := (if_pos hh4).symm.trans hf8
            clear hf8
            refine j_tsw (pc := 173) (k := (4)) (tgt := 216) hc dX0_isWord_173 hh4 (by decide) (by decide) rfl rfl ?_
            refine j_iconst (pc := 216) (v := (1)) hc dX0_isWord_216 rfl ?_
            cases hf9
            exact j_iret (pc := 217) hc hq hre rfl dX0_isWord_217
          · have hf10 := (if_neg hh4).symm.trans hf8
            clear hf8
            by_cases hh5 : x2 = (5)
            · have hf11 := (if_pos hh5).symm.trans hf10
              clear hf10
              refine j_tsw (pc := 173) (k := (5)) (tgt := 216) hc dX0_isWord_173 hh5 (by decide) (by decide) rfl rfl ?_
              refine j_iconst (pc := 216) (v := (1)) hc dX0_isWord_216 rfl ?_
              cases hf11
              exact j_iret (pc := 217) hc hq hre rfl dX0_isWord_217
            · have hf12 := (if_neg hh5).symm.trans hf10
              clear hf10
              by_cases hh6 : x2 = (6)
              · have hf13 := (if_pos hh6).symm.trans hf12
                clear hf12
                refine j_tsw (pc := 173) (k := (6)) (tgt := 216) hc dX0_isWord_173 hh6 (by decide) (by decide) rfl rfl ?_
                refine j_iconst (pc := 216) (v := (1)) hc dX0_isWord_216 rfl ?_
                cases hf13
                exact j_iret (pc := 217) hc hq hre rfl dX0_isWord_217
              · have hf14 := (if_neg hh6).symm.trans hf12
                clear hf12
                refine j_tswD (pc := 173) (tgt := 218) hc dX0_isWord_173 (by have h0 : ¬ x2.toInt = 0 := lv_neT hh0 rfl; have h1 : ¬ x2.toInt = 1 := lv_neT hh1 rfl; have h2 : ¬ x2.toInt = 2 := lv_neT hh2 rfl; have h3 : ¬ x2.toInt = 3 := lv_neT hh3 rfl; have h4 : ¬ x2.toInt = 4 := lv_neT hh4 rfl; have h5 : ¬ x2.toInt = 5 := lv_neT hh5 rfl; have h6 : ¬ x2.toInt = 6 := lv_neT hh6 rfl; omega) rfl ?_
                refine j_iconst (pc := 218) (v := (0)) hc dX0_isWord_218 rfl ?_
                cases hf14
                exact j_iret (pc := 219) hc hq hre rfl dX0_isWord_219
set_option maxRecDepth 100000 in
set_option maxHeartbeats 2000000 in
theorem c_X0_isWord {l : Launch} {g : PG} {mo : MO} {r0 : Option Nat} {r : Int32} {S S1 : HS} (hf : f_X0_isWord r0 S = some (r, S1)) : (h_nx S ≤ h_nx S1 ∧ h_sl S ≤ h_sl S1) ∧ Ct l g yX0_isWord (ws_ yX0_isWord cX0_isWord 3 (some (.boolean))) 5 150 S mo [vr r0] (some (vi r)) S1 mo := by
  refine met_of false (by decide) (fun h => by first | rfl | cases h) rfl (Nat.le_of_ble_eq_true rfl) (fun f hl hg hc ho hnL hrm hre hct hex hq => ?_)
  subst hl
  subst hg
  unfold f_X0_isWord at hf
  refine j_aload_n (pc := 0) hc dX0_isWord_0 0 rfl rfl ?_
  refine j_astore_n (pc := 1) (L' := [(1, vr r0), (0, vr r0)]) hc dX0_isWord_1 rfl hnL (by decide) rfl ?_
  refine j_iconst (pc := 2) (v := (-1)) hc dX0_isWord_2 rfl ?_
  refine j_istore_n (pc := 3) (L' := [(2, vi (-1)), (1, vr r0), (0, vr r0)]) hc dX0_isWord_3 rfl hnL (by decide) rfl ?_
  refine j_aload_n (pc := 4) hc dX0_isWord_4 1 rfl rfl ?_
  obtain ⟨a1, ea1, hf1⟩ := ob_i hf
  clear hf
  subst ea1
  obtain ⟨u2, eu2, hf2⟩ := ob_i hf1
  clear hf1
  obtain ⟨v4, T3, ev4, hf3⟩ := ob_c hf2
  clear hf2
  refine j_callV (pc := 5) (As := []) (rest := []) (st2 := [vi v4]) hc ho cw_X0_3 (c_J6_hashCode ev4) (Rc.of (g_cls_ok eu2) (by decide) (by decide) ci_J6) hrm ⟨by decide, by decide⟩ rfl (Nat.le_of_ble_eq_true rfl) dX0_isWord_5 rfl rfl ?_
  by_cases hh0 : v4 = (107029)
  · have hf4 := (if_pos hh0).symm.trans hf3
    clear hf3
    refine j_lsw (pc := 8) (k := (107029)) (tgt := 146) hc dX0_isWord_8 hh0 (by decide) rfl rfl ?_
    refine j_aload_n (pc := 146) hc dX0_isWord_146 1 rfl rfl ?_
    refine j_ldcS (pc := 147) hc ho (tx := "len") 5 rfl dX0_isWord_147 ?_
    obtain ⟨u5, eu5, hf5⟩ := ob_i hf4
    clear hf4
    obtain ⟨v7, T6, ev7, hf6⟩ := ob_c hf5
    clear hf5
    refine j_callV (pc := 149) (As := [vr (some (h_ks T3 5))]) (rest := []) (st2 := [vi v7]) hc ho cw_X0_11 (c_J6_equals ev7) (Rc.of (g_cls_ok eu5) (by decide) (by decide) ci_J6) hrm ⟨by decide, by decide⟩ rfl (Nat.le_of_ble_eq_true rfl) dX0_isWord_149 rfl rfl ?_
    refine j_if_eq (pc := 152) hc dX0_isWord_152 (tgt := 172) rfl (fun hh => ?_) (fun hh => ?_)
    · have hf7 := (if_pos hh).symm.trans hf6
      clear hf6
      refine j_loc (L' := [(2, vi (-1))]) [0] rfl ?_
      exact w_X0_isWord_n172 hc ho hnL hrm hre hct hq hf7
    · have hf8 := (if_neg hh).symm.trans hf6
      clear hf6
      refine j_iconst (pc := 155) (v := (5)) hc dX0_isWord_155 rfl ?_
      refine j_istore_n (pc := 156) (L' := [(2, vi (5)), (1, vr (some a1)), (0, vr (some a1))]) hc dX0_isWord_156 rfl hnL (by decide) rfl ?_
      refine j_goto (pc := 157) hc dX0_isWord_157 (tgt := 172) rfl ?_
      refine j_loc (L' := [(2, vi (5))]) [0] rfl ?_
      exact w_X0_isWord_n172 hc ho hnL hrm hre hct hq hf8
  · have hf9 := (if_neg hh0).symm.trans hf3
    clear hf3
    by_cases hh1 : v4 = (114225)
    · have hf10 := (if_pos hh1).symm.trans hf9
      clear hf9
      refine j_lsw (pc := 8) (k := (114225)) (tgt := 160) hc dX0_isWord_8 hh1 (by decide) rfl rfl ?_
      refine j_aload_n (pc := 160) hc dX0_isWord_160 1 rfl rfl ?_
      refine j_ldcS (pc := 161) hc ho (tx := "str") 6 rfl dX0_isWord_161 ?_
      obtain ⟨u8, eu8, hf11⟩ := ob_i hf10
      clear hf10
      obtain ⟨v10, T9, ev10, hf12⟩ := ob_c hf11
      clear hf11
      refine j_callV (pc := 163) (As := [vr (some (h_ks T3 6))]) (rest := []) (st2 := [vi v10]) hc ho cw_X0_11 (c_J6_equals ev10) (Rc.of (g_cls_ok eu8) (by decide) (by decide) ci_J6) hrm ⟨by decide, by decide⟩ rfl (Nat.le_of_ble_eq_true rfl) dX0_isWord_163 rfl rfl ?_
      refine j_if_eq (pc := 166) hc dX0_isWord_166 (tgt := 172) rfl (fun hh => ?_) (fun hh => ?_)
      · have hf13 := (if_pos hh).symm.trans hf12
        clear hf12
        refine j_loc (L' := [(2, vi (-1))]) [0] rfl ?_
        exact w_X0_isWord_n172 hc ho hnL hrm hre hct hq hf13
      · have hf14 := (if_neg hh).symm.trans hf12
        clear hf12
        refine j_bipush (pc := 169) (v := (6)) hc dX0_isWord_169 rfl ?_
        refine j_istore_n (pc := 171) (L' := [(2, vi (6)), (1, vr (some a1)), (0, vr (some a1))]) hc dX0_isWord_171 rfl hnL (by decide) rfl ?_
        refine j_loc (L' := [(2, vi (6))]) [0] rfl ?_
        exact w_X0_isWord_n172 hc ho hnL hrm hre hct hq hf14
    · have hf15 := (if_neg hh1).symm.trans hf9
      clear hf9
      by_cases hh2 : v4 = (3059573)
      · have hf16 := (if_pos hh2).symm.trans hf15
        clear hf15
        refine j_lsw (pc := 8) (k := (3059573)) (tgt := 90) hc dX0_isWord_8 hh2 (by decide) rfl rfl ?_
        refine j_aload_n (pc := 90) hc dX0_isWord_90 1 rfl rfl ?_
        refine j_ldcS (pc := 91) hc ho (tx := "copy") 1 rfl dX0_isWord_91 ?_
        obtain ⟨u11, eu11, hf17⟩ := ob_i hf16
        clear hf16
        obtain ⟨v13, T12, ev13, hf18⟩ := ob_c hf17
        clear hf17
        refine j_callV (pc := 93) (As := [vr (some (h_ks T3 1))]) (rest := []) (st2 := [vi v13]) hc ho cw_X0_11 (c_J6_equals ev13) (Rc.of (g_cls_ok eu11) (by decide) (by decide) ci_J6) hrm ⟨by decide, by decide⟩ rfl (Nat.le_of_ble_eq_true rfl) dX0_isWord_93 rfl rfl ?_
        refine j_if_eq (pc := 96) hc dX0_isWord_96 (tgt := 172) rfl (fun hh => ?_) (fun hh => ?_)
        · have hf19 := (if_pos hh).symm.trans hf18
          clear hf18
          refine j_loc (L' := [(2, vi (-1))]) [0] rfl ?_
          exact w_X0_isWord_n172 hc ho hnL hrm hre hct hq hf19
        · have hf20 := (if_neg hh).symm.trans hf18
          clear hf18
          refine j_iconst (pc := 99) (v := (1)) hc dX0_isWord_99 rfl ?_
          refine j_istore_n (pc := 100) (L' := [(2, vi (1)), (1, vr (some a1)), (0, vr (some a1))]) hc dX0_isWord_100 rfl hnL (by decide) rfl ?_
          refine j_goto (pc := 101) hc dX0_isWord_101 (tgt := 172) rfl ?_
          refine j_loc (L' := [(2, vi (1))]) [0] rfl ?_
          exact w_X0_isWord_n172 hc ho hnL hrm hre hct hq hf20
      · have hf21 := (if_neg hh2).symm.trans hf15
        clear hf15
        by_cases hh3 : v4 = (3151786)
        · have hf22 := (if_pos hh3).symm.trans hf21
          clear hf21
          refine j_lsw (pc := 8) (k := (3151786)) (tgt := 118) hc dX0_isWord_8 hh3 (by decide) rfl rfl ?_
          refine j_aload_n (pc := 118) hc dX0_isWord_118 1 rfl rfl ?_
          refine j_ldcS (pc := 119) hc ho (tx := "from") 3 rfl dX0_isWord_119 ?_
          obtain ⟨u14, eu14, hf23⟩ := ob_i hf22
          clear hf22
          obtain ⟨v16, T15, ev16, hf24⟩ := ob_c hf23
          clear hf23
          refine j_callV (pc := 121) (As := [vr (some (h_ks T3 3))]) (rest := []) (st2 := [vi v16]) hc ho cw_X0_11 (c_J6_equals ev16) (Rc.of (g_cls_ok eu14) (by decide) (by decide) ci_J6) hrm ⟨by decide, by decide⟩ rfl (Nat.le_of_ble_eq_true rfl) dX0_isWord_121 rfl rfl ?_
          refine j_if_eq (pc := 124) hc dX0_isWord_124 (tgt := 172) rfl (fun hh => ?_) (fun hh => ?_)
          · have hf25 := (if_pos hh).symm.trans hf24
            clear hf24
            refine j_loc (L' := [(2, vi (-1))]) [0] rfl ?_
            exact w_X0_isWord_n172 hc ho hnL hrm hre hct hq hf25
          · have hf26 := (if_neg hh).symm.trans hf24
            clear hf24
            refine j_iconst (pc := 127) (v := (3)) hc dX0_isWord_127 rfl ?_
            refine j_istore_n (pc := 128) (L' := [(2, vi (3)), (1, vr (some a1)), (0, vr (some a1))]) hc dX0_isWord_128 rfl hnL (by decide) rfl ?_
            refine j_goto (pc := 129) hc dX0_isWord_129 (tgt := 172) rfl ?_
            refine j_loc (L' := [(2, vi (3))]) [0] rfl ?_
            exact w_X0_isWord_n172 hc ho hnL hrm hre hct hq hf26
        · have hf27 := (if_neg hh3).symm.trans hf21
          clear hf21
          by_cases hh4 : v4 = (3619493)
          · have hf28 := (if_pos hh4).symm.trans hf27
            clear hf27
            refine j_lsw (pc := 8) (k := (3619493)) (tgt := 76) hc dX0_isWord_8 hh4 (by decide) rfl rfl ?_
            refine j_aload_n (pc := 76) hc dX0_isWord_76 1 rfl rfl ?_
            refine j_ldcS (pc := 77) hc ho (tx := "view") 0 rfl dX0_isWord_77 ?_
            obtain ⟨u17, eu17, hf29⟩ := ob_i hf28
            clear hf28
            obtain ⟨v19, T18, ev19, hf30⟩ := ob_c hf29
            clear hf29
            refine j_callV (pc := 79) (As := [vr (some (h_ks T3 0))]) (rest := []) (st2 := [vi v19]) hc ho cw_X0_11 (c_J6_equals ev19) (Rc.of (g_cls_ok eu17) (by decide) (by decide) ci_J6) hrm ⟨by decide, by decide⟩ rfl (Nat.le_of_ble_eq_true rfl) dX0_isWord_79 rfl rfl ?_
            refine j_if_eq (pc := 82) hc dX0_isWord_82 (tgt := 172) rfl (fun hh => ?_) (fun hh => ?_)
            · have hf31 := (if_pos hh).symm.trans hf30
              clear hf30
              refine j_loc (L' := [(2, vi (-1))]) [0] rfl ?_
              exact w_X0_isWord_n172 hc ho hnL hrm hre hct hq hf31
            · have hf32 := (if_neg hh).symm.trans hf30
              clear hf30
              refine j_iconst (pc := 85) (v := (0)) hc dX0_isWord_85 rfl ?_
              refine j_istore_n (pc := 86) (L' := [(2, vi (0)), (1, vr (some a1)), (0, vr (some a1))]) hc dX0_isWord_86 rfl hnL (by decide) rfl ?_
              refine j_goto (pc := 87) hc dX0_isWord_87 (tgt := 172) rfl ?_
              refine j_loc (L' := [(2, vi (0))]) [0] rfl ?_
              exact w_X0_isWord_n172 hc ho hnL hrm hre hct hq hf32
          · have hf33 := (if_neg hh4).symm.trans hf27
            clear hf27
            by_cases hh5 : v4 = (110115790)
            · have hf34 := (if_pos hh5).symm.trans hf33
              clear hf33
              refine j_lsw (pc := 8) (k := (110115790)) (tgt := 104) hc dX0_isWord_8 hh5 (by decide) rfl rfl ?_
              refine j_aload_n (pc := 104) hc dX0_isWord_104 1 rfl rfl ?_
              refine j_ldcS (pc := 105) hc ho (tx := "table") 2 rfl dX0_isWord_105 ?_
              obtain ⟨u20, eu20, hf35⟩ := ob_i hf34
              clear hf34
              obtain ⟨v22, T21, ev22, hf36⟩ := ob_c hf35
              clear hf35
              refine j_callV (pc := 107) (As := [vr (some (h_ks T3 2))]) (rest := []) (st2 := [vi v22]) hc ho cw_X0_11 (c_J6_equals ev22) (Rc.of (g_cls_ok eu20) (by decide) (by decide) ci_J6) hrm ⟨by decide, by decide⟩ rfl (Nat.le_of_ble_eq_true rfl) dX0_isWord_107 rfl rfl ?_
              refine j_if_eq (pc := 110) hc dX0_isWord_110 (tgt := 172) rfl (fun hh => ?_) (fun hh => ?_)
              · have hf37 := (if_pos hh).symm.trans hf36
                clear hf36
                refine j_loc (L' := [(2, vi (-1))]) [0] rfl ?_
                exact w_X0_isWord_n172 hc ho hnL hrm hre hct hq hf37
              · have hf38 := (if_neg hh).symm.trans hf36
                clear hf36
                refine j_iconst (pc := 113) (v := (2)) hc dX0_isWord_113 rfl ?_
                refine j_istore_n (pc := 114) (L' := [(2, vi (2)), (1, vr (some a1)), (0, vr (some a1))]) hc dX0_isWord_114 rfl hnL (by decide) rfl ?_
                refine j_goto (pc := 115) hc dX0_isWord_115 (tgt := 172) rfl ?_
                refine j_loc (L' := [(2, vi (2))]) [0] rfl ?_
                exact w_X0_isWord_n172 hc ho hnL hrm hre hct hq hf38
            · have hf39 := (if_neg hh5).symm.trans hf33
              clear hf33
              by_cases hh6 : v4 = (113097959)
              · have hf40 := (if_pos hh6).symm.trans hf39
                clear hf39
                refine j_lsw (pc := 8) (k := (113097959)) (tgt := 132) hc dX0_isWord_8 hh6 (by decide) rfl rfl ?_
                refine j_aload_n (pc := 132) hc dX0_isWord_132 1 rfl rfl ?_
                refine j_ldcS (pc := 133) hc ho (tx := "where") 4 rfl dX0_isWord_133 ?_
                obtain ⟨u23, eu23, hf41⟩ := ob_i hf40
                clear hf40
                obtain ⟨v25, T24, ev25, hf42⟩ := ob_c hf41
                clear hf41
                refine j_callV (pc := 135) (As := [vr (some (h_ks T3 4))]) (rest := []) (st2 := [vi v25]) hc ho cw_X0_11 (c_J6_equals ev25) (Rc.of (g_cls_ok eu23) (by decide) (by decide) ci_J6) hrm ⟨by decide, by decide⟩ rfl (Nat.le_of_ble_eq_true rfl) dX0_isWord_135 rfl rfl ?_
                refine j_if_eq (pc := 138) hc dX0_isWord_138 (tgt := 172) rfl (fun hh => ?_) (fun hh => ?_)
                · have hf43 := (if_pos hh).symm.trans hf42
                  clear hf42
                  refine j_loc (L' := [(2, vi (-1))]) [0] rfl ?_
                  exact w_X0_isWord_n172 hc ho hnL hrm hre hct hq hf43
                · have hf44 := (if_neg hh).symm.trans hf42
                  clear hf42
                  refine j_iconst (pc := 141) (v := (4)) hc dX0_isWord_141 rfl ?_
                  refine j_istore_n (pc := 142) (L' := [(2, vi (4)), (1, vr (some a1)), (0, vr (some a1))]) hc dX0_isWord_142 rfl hnL (by decide) rfl ?_
                  refine j_goto (pc := 143) hc dX0_isWord_143 (tgt := 172) rfl ?_
                  refine j_loc (L' := [(2, vi (4))]) [0] rfl ?_
                  exact w_X0_isWord_n172 hc ho hnL hrm hre hct hq hf44
              · have hf45 := (if_neg hh6).symm.trans hf39
                clear hf39
                refine j_lswD (pc := 8) (tgt := 172) hc dX0_isWord_8 (by decide) (by exact (lv_osw hh0 rfl).trans ((lv_osw hh1 rfl).trans ((lv_osw hh2 rfl).trans ((lv_osw hh3 rfl).trans ((lv_osw hh4 rfl).trans ((lv_osw hh5 rfl).trans ((lv_osw hh6 rfl).trans (rfl)))))))) rfl ?_
                refine j_loc (L' := [(2, vi (-1))]) [0] rfl ?_
                exact w_X0_isWord_n172 hc ho hnL hrm hre hct hq hf45
theorem CI_X1 : CI 2 RX1 TX1 15 tyX1 := ⟨ci_X1, by decide, by decide, in_X1, tyX1_ok, nmX1⟩
theorem fa_X1_18_2 : FA "TableCatalog$Reader" 18 2 2 16 (.object "TableCatalog$Fault") 2 := ⟨RX1, TX1, 15, tyX1, 0, "TableCatalog$Reader", CI_X1, by decide, rfl, rfl, by decide +kernel, Or.inl ⟨q227, fun _ => ⟨rfl, rfl⟩⟩, fun h => (by cases h), Or.inl rfl⟩
theorem CI_X2 : CI 11 RX2 TX2 8 tyX2 := ⟨ci_X2, by decide, by decide, in_X2, tyX2_ok, nmX2⟩
theorem fa_X1_43_11 : FA "TableCatalog$Reader" 43 11 0 136 (.int) 1 := ⟨RX2, TX2, 8, tyX2, 6, "TableCatalog$Fault", CI_X2, by decide, rfl, rfl, by decide +kernel, Or.inr ⟨by decide, "TableCatalog", q178⟩, fun _ => rfl, Or.inl rfl⟩
theorem fa_X1_47_11 : FA "TableCatalog$Reader" 47 11 0 137 (.int) 1 := ⟨RX2, TX2, 8, tyX2, 7, "TableCatalog$Fault", CI_X2, by decide, rfl, rfl, by decide +kernel, Or.inr ⟨by decide, "TableCatalog", q180⟩, fun _ => rfl, Or.inl rfl⟩
def f_X1_wrong (a0 : Nat) (x1 : Int32) (x2 : Int32) (S : HS) : Option (Option Nat × HS) :=
  (g_fR S 2 16 a0).bind fun q1 =>
  (q1).bind fun a2 =>
  (p_fI S 11 136 a2 x1).bind fun T3 =>
  (g_fR T3 2 16 a0).bind fun q4 =>
  (q4).bind fun a5 =>
  (p_fI T3 11 137 a5 x2).bind fun T6 =>
  (g_fR T6 2 16 a0).bind fun q7 =>
  some (q7, T6)
set_option maxRecDepth 100000 in
set_option maxHeartbeats 2000000 in
theorem c_X1_wrong {l : Launch} {g : PG} {mo : MO} {a0 : Nat} {x1 : Int32} {x2 : Int32} {r : Option Nat} {S S1 : HS} (hf : f_X1_wrong a0 x1 x2 S = some (r, S1)) : (h_nx S ≤ h_nx S1 ∧ h_sl S ≤ h_sl S1) ∧ Ct l g yX1_wrong (ws_ yX1_wrong cX1_wrong 3 (some (.object "TableCatalog$Fault"))) 1 60 S mo [vr (some a0), vi x1, vi x2] (some (vr r)) S1 mo := by
  refine met_of false (by decide) (fun h => by first | rfl | cases h) rfl (Nat.le_of_ble_eq_true rfl) (fun f hl hg hc ho hnL hrm hre hct hex hq => ?_)
  subst hl
  subst hg
  unfold f_X1_wrong at hf
  refine j_aload_n (pc := 0) hc dX1_wrong_0 0 rfl rfl ?_
  obtain ⟨q1, eq1, hf1⟩ := ob_i hf
  clear hf
  refine j_getR (pc := 1) hc ho fa_X1_18_2 dX1_wrong_1 eq1 ?_
  refine j_iload_n (pc := 4) hc dX1_wrong_4 1 rfl rfl ?_
  obtain ⟨a2, ea2, hf2⟩ := ob_i hf1
  clear hf1
  subst ea2
  obtain ⟨T3, eT3, hf3⟩ := ob_i hf2
  clear hf2
  refine j_putI (pc := 5) hc ho fa_X1_43_11 (Or.inl rfl) dX1_wrong_5 eT3 ?_
  refine j_aload_n (pc := 8) hc dX1_wrong_8 0 rfl rfl ?_
  obtain ⟨q4, eq4, hf4⟩ := ob_i hf3
  clear hf3
  refine j_getR (pc := 9) hc ho fa_X1_18_2 dX1_wrong_9 eq4 ?_
  refine j_iload_n (pc := 12) hc dX1_wrong_12 2 rfl rfl ?_
  obtain ⟨a5, ea5, hf5⟩ := ob_i hf4
  clear hf4
  subst ea5
  obtain ⟨T6, eT6, hf6⟩ := ob_i hf5
  clear hf5
  refine j_putI (pc := 13) hc ho fa_X1_47_11 (Or.inl rfl) dX1_wrong_13 eT6 ?_
  refine j_aload_n (pc := 16) hc dX1_wrong_16 0 rfl rfl ?_
  obtain ⟨q7, eq7, hf7⟩ := ob_i hf6
  clear hf6
  refine j_getR (pc := 17) hc ho fa_X1_18_2 dX1_wrong_17 eq7 ?_
  cases hf7
  exact j_aret (pc := 20) hc hq hre (Or.inl ⟨_, rfl⟩) dX1_wrong_20
theorem fa_X1_50_2 : FA "TableCatalog$Reader" 50 2 0 19 (.int) 1 := ⟨RX1, TX1, 15, tyX1, 3, "TableCatalog$Reader", CI_X1, by decide, rfl, rfl, by decide +kernel, Or.inl ⟨q232, fun h => (by cases h)⟩, fun _ => rfl, Or.inl rfl⟩
theorem fa_X1_60_2 : FA "TableCatalog$Reader" 60 2 0 20 (.int) 1 := ⟨RX1, TX1, 15, tyX1, 4, "TableCatalog$Reader", CI_X1, by decide, rfl, rfl, by decide +kernel, Or.inl ⟨q234, fun h => (by cases h)⟩, fun _ => rfl, Or.inl rfl⟩
theorem fa_X1_53_2 : FA "TableCatalog$Reader" 53 2 0 18 (.int) 1 := ⟨RX1, TX1, 15, tyX1, 2, "TableCatalog$Reader", CI_X1, by decide, rfl, rfl, by decide +kernel, Or.inl ⟨q230, fun h => (by cases h)⟩, fun _ => rfl, Or.inl rfl⟩
theorem fa_X1_56_2 : FA "TableCatalog$Reader" 56 2 2 17 (.array .byte) 1 := ⟨RX1, TX1, 15, tyX1, 1, "TableCatalog$Reader", CI_X1, by decide, rfl, rfl, by decide +kernel, Or.inl ⟨q228, fun h => (by cases h)⟩, fun _ => rfl, Or.inl rfl⟩
def f_X1_here_n39 (k_0 : HS → Option (Int32 × HS)) (a0 : Nat) (S : HS) : Option (Int32 × HS) :=
  (g_fI S 2 19 a0).bind fun v1 =>
  (p_fI S 2 19 a0 (v1 + (1))).bind fun T2 =>
  k_0 T2
def f_X1_here_n52 (a0 : Nat) (S : HS) : Option (Int32 × HS) :=
  (g_fI S 2 19 a0).bind fun v1 =>
  (p_fI S 2 20 a0 v1).bind fun T2 =>
  (g_fI T2 2 19 a0).bind fun v3 =>
  (g_fI T2 2 18 a0).bind fun v4 =>
  if v4 ≤ v3 then
    some ((-1), T2)
  else
    (g_fR T2 2 17 a0).bind fun q5 =>
    (g_fI T2 2 19 a0).bind fun v6 =>
    (q5).bind fun a7 =>
    (g_aI T2 32 a7 v6).bind fun v8 =>
    some ((v8 &&& (255)), T2)
def f_X1_here_n0 (a0 : Nat) : Nat → HS → Option (Int32 × HS)
  | 0, _ => none
  | n + 1, S =>
    (g_fI S 2 19 a0).bind fun v1 =>
    (g_fI S 2 18 a0).bind fun v2 =>
    if v2 ≤ v1 then
      f_X1_here_n52 a0 S
    else
      (g_fR S 2 17 a0).bind fun q3 =>
      (g_fI S 2 19 a0).bind fun v4 =>
      (q3).bind fun a5 =>
      (g_aI S 32 a5 v4).bind fun v6 =>
      if v6 = (32) then
        f_X1_here_n39 (fun  S => f_X1_here_n0 a0 n  S) a0 S
      else
        (g_fR S 2 17 a0).bind fun q7 =>
        (g_fI S 2 19 a0).bind fun v8 =>
        (q7).bind fun a9 =>
        (g_aI S 32 a9 v8).bind fun v10 =>
        if v10 = (10) then
          f_X1_here_n39 (fun  S => f_X1_here_n0 a0 n  S) a0 S
        else
          f_X1_here_n52 a0 S
def f_X1_here (a0 : Nat) (S : HS) : Option (Int32 × HS) :=
  f_X1_here_n0 a0 fu_ S
set_option maxRecDepth 100000 in
set_option maxHeartbeats 2000000 in
theorem w_X1_here_n39 {f : CfT} {mo : MO} {a0 : Nat} {r : Int32} {S1 : HS} (hc : cf_cc f = cX1_here) (ho : cf_ow f = "TableCatalog$Reader") (hnL : cf_nL f = 1) (hrm : cf_rm f = (1, 60)) (hre : cf_re f = (some (.int))) (hct : cf_ct f = false) (hq : Qok f (some (vi r)) S1 mo) {k_0 : HS → Option (Int32 × HS)} (hk_0 : ∀  (S : HS), k_0 S = some (r, S1) → JJ f S mo 0 [(0, vr (some a0))] []) {S : HS} (hf : f_X1_here_n39 k_0 a0 S = some (r, S1)) : JJ f S mo 39 [(0, vr (some a0))] [] := by
  unfold f_X1_here_n39 at hf
  refine j_aload_n (pc := 39) hc dX1_here_39 0 rfl rfl ?_
  refine j_dup (pc := 40) hc dX1_here_40 rfl ?_
  obtain ⟨v1, ev1, hf1⟩ := ob_i hf
  clear hf
  refine j_getI (pc := 41) hc ho fa_X1_50_2 dX1_here_41 ev1 ?_
  refine j_iconst (pc := 44) (v := (1)) hc dX1_here_44 rfl ?_
  refine j_iadd (pc := 45) hc dX1_here_45 ?_
  obtain ⟨T2, eT2, hf2⟩ := ob_i hf1
  clear hf1
  refine j_putI (pc := 46) hc ho fa_X1_50_2 (Or.inl rfl) dX1_here_46 eT2 ?_
  refine j_goto (pc := 49) hc dX1_here_49 (tgt := 0) rfl ?_
  exact hk_0 _ hf2
set_option maxRecDepth 100000 in
set_option maxHeartbeats 2000000 in
theorem w_X1_here_n52 {f : CfT} {mo : MO} {a0 : Nat} {r : Int32} {S1 : HS} (hc : cf_cc f = cX1_here) (ho : cf_ow f = "TableCatalog$Reader") (hnL : cf_nL f = 1) (hrm : cf_rm f = (1, 60)) (hre : cf_re f = (some (.int))) (hct : cf_ct f = false) (hq : Qok f (some (vi r)) S1 mo) {S : HS} (hf : f_X1_here_n52 a0 S = some (r, S1)) : JJ f S mo 52 [(0, vr (some a0))] [] := by
  unfold f_X1_here_n52 at hf
  refine j_aload_n (pc := 52) hc dX1_here_52 0 rfl rfl ?_
  refine j_aload_n (pc := 53) hc dX1_here_53 0 rfl rfl ?_
  obtain ⟨v1, ev1, hf1⟩ := ob_i hf
  clear hf
  refine j_getI (pc := 54) hc ho fa_X1_50_2 dX1_here_54 ev1 ?_
  obtain ⟨T2, eT2, hf2⟩ := ob_i hf1
  clear hf1
  refine j_putI (pc := 57) hc ho fa_X1_60_2 (Or.inl rfl) dX1_here_57 eT2 ?_
  refine j_aload_n (pc := 60) hc dX1_here_60 0 rfl rfl ?_
  obtain ⟨v3, ev3, hf3⟩ := ob_i hf2
  clear hf2
  refine j_getI (pc := 61) hc ho fa_X1_50_2 dX1_here_61 ev3 ?_
  refine j_aload_n (pc := 64) hc dX1_here_64 0 rfl rfl ?_
  obtain ⟨v4, ev4, hf4⟩ := ob_i hf3
  clear hf3
  refine j_getI (pc := 65) hc ho fa_X1_53_2 dX1_here_65 ev4 ?_
  refine j_icmp_ge (pc := 68) hc dX1_here_68 (tgt := 87) rfl (fun hh => ?_) (fun hh => ?_)
  · have hf5 := (if_pos hh).symm.trans hf4
    clear hf4
    refine j_iconst (pc := 87) (v := (-1)) hc dX1_here_87 rfl ?_
    cases hf5
    exact j_iret (pc := 88) hc hq hre rfl dX1_here_88
  · have hf6 := (if_neg hh).symm.trans hf4
    clear hf4
    refine j_aload_n (pc := 71) hc dX1_here_71 0 rfl rfl ?_
    obtain ⟨q5, eq5, hf7⟩ := ob_i hf6
    clear hf6
    refine j_getR (pc := 72) hc ho fa_X1_56_2 dX1_here_72 eq5 ?_
    refine j_aload_n (pc := 75) hc dX1_here_75 0 rfl rfl ?_
    obtain ⟨v6, ev6, hf8⟩ := ob_i hf7
    clear hf7
    refine j_getI (pc := 76) hc ho fa_X1_50_2 dX1_here_76 ev6 ?_
    obtain ⟨a7, ea7, hf9⟩ := ob_i hf8
    clear hf8
    subst ea7
    obtain ⟨v8, ev8, hf10⟩ := ob_i hf9
    clear hf9
    refine j_bald (pc := 79) hc dX1_here_79 ev8 ?_
    refine j_sipush (pc := 80) (v := (255)) hc dX1_here_80 rfl ?_
    refine j_iand (pc := 83) hc dX1_here_83 ?_
    refine j_goto (pc := 84) hc dX1_here_84 (tgt := 88) rfl ?_
    cases hf10
    exact j_iret (pc := 88) hc hq hre rfl dX1_here_88
set_option maxRecDepth 100000 in
set_option maxHeartbeats 2000000 in
theorem w_X1_here_n0 {f : CfT} {mo : MO} {a0 : Nat} {r : Int32} {S1 : HS} (hc : cf_cc f = cX1_here) (ho : cf_ow f = "TableCatalog$Reader") (hnL : cf_nL f = 1) (hrm : cf_rm f = (1, 60)) (hre : cf_re f = (some (.int))) (hct : cf_ct f = false) (hq : Qok f (some (vi r)) S1 mo) : ∀ (n : Nat)  (S : HS), f_X1_here_n0 a0 n S = some (r, S1) → JJ f S mo 0 [(0, vr (some a0))] [] := by
  intro n
  induction n with
  | zero =>
    intro S hf
    have hf : (none : Option (Int32 × HS)) = some (r, S1) := hf
    cases hf
  | succ n ih =>
    intro S hf
    unfold f_X1_here_n0 at hf
    have hk_0 := ih
    refine j_aload_n (pc := 0) hc dX1_here_0 0 rfl rfl ?_
    obtain ⟨v1, ev1, hf1⟩ := ob_i hf
    clear hf
    refine j_getI (pc := 1) hc ho fa_X1_50_2 dX1_here_1 ev1 ?_
    refine j_aload_n (pc := 4) hc dX1_here_4 0 rfl rfl ?_
    obtain ⟨v2, ev2, hf2⟩ := ob_i hf1
    clear hf1
    refine j_getI (pc := 5) hc ho fa_X1_53_2 dX1_here_5 ev2 ?_
    refine j_icmp_ge (pc := 8) hc dX1_here_8 (tgt := 52) rfl (fun hh => ?_) (fun hh => ?_)
    · have hf3 := (if_pos hh).symm.trans hf2
      clear hf2
      exact w_X1_here_n52 hc ho hnL hrm hre hct hq hf3
    · have hf4 := (if_neg hh).symm.trans hf2
      clear hf2
      refine j_aload_n (pc := 11) hc dX1_here_11 0 rfl rfl ?_
      obtain ⟨q3, eq3, hf5⟩ := ob_i hf4
      clear hf4
      refine j_getR (pc := 12) hc ho fa_X1_56_2 dX1_here_12 eq3 ?_
      refine j_aload_n (pc := 15) hc dX1_here_15 0 rfl rfl ?_
      obtain ⟨v4, ev4, hf6⟩ := ob_i hf5
      clear hf5
      refine j_getI (pc := 16) hc ho fa_X1_50_2 dX1_here_16 ev4 ?_
      obtain ⟨a5, ea5, hf7⟩ := ob_i hf6
      clear hf6
      subst ea5
      obtain ⟨v6, ev6, hf8⟩ := ob_i hf7
      clear hf7
      refine j_bald (pc := 19) hc dX1_here_19 ev6 ?_
      refine j_bipush (pc := 20) (v := (32)) hc dX1_here_20 rfl ?_
      refine j_icmp_eq (pc := 22) hc dX1_here_22 (tgt := 39) rfl (fun hh => ?_) (fun hh => ?_)
      · have hf9 := (if_pos hh).symm.trans hf8
        clear hf8
        exact w_X1_here_n39 hc ho hnL hrm hre hct hq hk_0 hf9
      · have hf10 := (if_neg hh).symm.trans hf8
        clear hf8
        refine j_aload_n (pc := 25) hc dX1_here_25 0 rfl rfl ?_
        obtain ⟨q7, eq7, hf11⟩ := ob_i hf10
        clear hf10
        refine j_getR (pc := 26) hc ho fa_X1_56_2 dX1_here_26 eq7 ?_
        refine j_aload_n (pc := 29) hc dX1_here_29 0 rfl rfl ?_
        obtain ⟨v8, ev8, hf12⟩ := ob_i hf11
        clear hf11
        refine j_getI (pc := 30) hc ho fa_X1_50_2 dX1_here_30 ev8 ?_
        obtain ⟨a9, ea9, hf13⟩ := ob_i hf12
        clear hf12
        subst ea9
        obtain ⟨v10, ev10, hf14⟩ := ob_i hf13
        clear hf13
        refine j_bald (pc := 33) hc dX1_here_33 ev10 ?_
        refine j_bipush (pc := 34) (v := (10)) hc dX1_here_34 rfl ?_
        refine j_icmp_ne (pc := 36) hc dX1_here_36 (tgt := 52) rfl (fun hh => ?_) (fun hh => ?_)
        · have hf15 := (if_neg hh).symm.trans hf14
          clear hf14
          exact w_X1_here_n52 hc ho hnL hrm hre hct hq hf15
        · have hf16 := (if_pos hh).symm.trans hf14
          clear hf14
          exact w_X1_here_n39 hc ho hnL hrm hre hct hq hk_0 hf16
set_option maxRecDepth 100000 in
set_option maxHeartbeats 2000000 in
theorem c_X1_here {l : Launch} {g : PG} {mo : MO} {a0 : Nat} {r : Int32} {S S1 : HS} (hf : f_X1_here a0 S = some (r, S1)) : (h_nx S ≤ h_nx S1 ∧ h_sl S ≤ h_sl S1) ∧ Ct l g yX1_here (ws_ yX1_here cX1_here 1 (some (.int))) 1 60 S mo [vr (some a0)] (some (vi r)) S1 mo := by
  refine met_of false (by decide) (fun h => by first | rfl | cases h) rfl (Nat.le_of_ble_eq_true rfl) (fun f hl hg hc ho hnL hrm hre hct hex hq => ?_)
  subst hl
  subst hg
  unfold f_X1_here at hf
  exact w_X1_here_n0 hc ho hnL hrm hre hct hq fu_ _ hf
theorem cw_X1_71 : CS "TableCatalog$Reader" 71 yJ6_valueOf cJ6_valueOf 1 (some (.object "java/lang/String")) 1 := ⟨⟨q381, q382, q91, q383⟩, by decide, by decide, by decide +kernel⟩
def f_X1_cut_n9 (a0 : Nat) : Nat → Int32 → Int32 → Option Nat → Int32 → HS → Option (Option Nat × HS)
  | 0, _, _, _, _, _ => none
  | n + 1, x1, x2, r3, x4, S =>
    if x2 ≤ x4 then
      o_bd (f_J6_valueOf r3 S) fun q2 T1 =>
      some (q2, T1)
    else
      (g_fR S 2 17 a0).bind fun q3 =>
      (q3).bind fun a4 =>
      (g_aI S 32 a4 x4).bind fun v5 =>
      (r3).bind fun a6 =>
      (p_aI S 33 a6 (x4 - x1) (vp_nar .char (UInt32.toInt32 (Int32.toUInt32 v5 % 65536)))).bind fun T7 =>
      (fun x1 x2 r3 x4 S => f_X1_cut_n9 a0 n x1 x2 r3 x4 S) x1 x2 (some a6) (x4 + (1)) T7
def f_X1_cut (a0 : Nat) (x1 : Int32) (x2 : Int32) (S : HS) : Option (Option Nat × HS) :=
  (n_arr S 33 (x2 - x1)).bind fun T1 =>
  f_X1_cut_n9 a0 fu_ x1 x2 (some (h_nx S)) x1 T1
set_option maxRecDepth 100000 in
set_option maxHeartbeats 2000000 in
theorem w_X1_cut_n9 {f : CfT} {mo : MO} {a0 : Nat} {r : Option Nat} {S1 : HS} (hc : cf_cc f = cX1_cut) (ho : cf_ow f = "TableCatalog$Reader") (hnL : cf_nL f = 5) (hrm : cf_rm f = (6, 177)) (hre : cf_re f = (some (.object "java/lang/String"))) (hct : cf_ct f = false) (hq : Qok f (some (vr r)) S1 mo) : ∀ (n : Nat) (x1 : Int32) (x2 : Int32) (r3 : Option Nat) (x4 : Int32) (S : HS), f_X1_cut_n9 a0 n x1 x2 r3 x4 S = some (r, S1) → JJ f S mo 9 [(0, vr (some a0)), (1, vi x1), (2, vi x2), (3, vr r3), (4, vi x4)] [] := by
  intro n
  induction n with
  | zero =>
    intro x1 x2 r3 x4 S hf
    have hf : (none : Option (Option Nat × HS)) = some (r, S1) := hf
    cases hf
  | succ n ih =>
    intro x1 x2 r3 x4 S hf
    unfold f_X1_cut_n9 at hf
    have hk_9 := ih
    refine j_iload (pc := 9) hc dX1_cut_9 4 rfl ?_
    refine j_iload_n (pc := 11) hc dX1_cut_11 2 rfl rfl ?_
    refine j_icmp_ge (pc := 12) hc dX1_cut_12 (tgt := 35) rfl (fun hh => ?_) (fun hh => ?_)
    · have hf1 := (if_pos hh).symm.trans hf
      clear hf
      refine j_aload_n (pc := 35) hc dX1_cut_35 3 rfl rfl ?_
      obtain ⟨q2, T1, eq2, hf2⟩ := ob_c hf1
      clear hf1
      refine j_callS (pc := 36) (As := [vr r3]) (rest := []) (st2 := [vr q2]) hc ho cw_X1_71 (c_J6_valueOf eq2) hrm ⟨by decide, by decide⟩ rfl (Nat.le_of_ble_eq_true rfl) dX1_cut_36 rfl rfl ?_
      cases hf2
      exact j_aret (pc := 39) hc hq hre (Or.inl ⟨_, rfl⟩) dX1_cut_39
    · have hf3 := (if_neg hh).symm.trans hf
      clear hf
      refine j_aload_n (pc := 15) hc dX1_cut_15 3 rfl rfl ?_
      refine j_iload (pc := 16) hc dX1_cut_16 4 rfl ?_
      refine j_iload_n (pc := 18) hc dX1_cut_18 1 rfl rfl ?_
      refine j_isub (pc := 19) hc dX1_cut_19 ?_
      refine j_aload_n (pc := 20) hc dX1_cut_20 0 rfl rfl ?_
      obtain ⟨q3, eq3, hf4⟩ := ob_i hf3
      clear hf3
      refine j_getR (pc := 21) hc ho fa_X1_56_2 dX1_cut_21 eq3 ?_
      refine j_iload (pc := 24) hc dX1_cut_24 4 rfl ?_
      obtain ⟨a4, ea4, hf5⟩ := ob_i hf4
      clear hf4
      subst ea4
      obtain ⟨v5, ev5, hf6⟩ := ob_i hf5
      clear hf5
      refine j_bald (pc := 26) hc dX1_cut_26 ev5 ?_
      refine j_i2c (pc := 27) hc dX1_cut_27 ?_
      obtain ⟨a6, ea6, hf7⟩ := ob_i hf6
      clear hf6
      subst ea6
      obtain ⟨T7, eT7, hf8⟩ := ob_i hf7
      clear hf7
      refine j_cast (pc := 28) hc dX1_cut_28 eT7 ?_
      refine j_iinc (pc := 29) (L' := [(4, vi (x4 + (1))), (0, vr (some a0)), (1, vi x1), (2, vi x2), (3, vr (some a6))]) (v := (x4 + (1))) hc dX1_cut_29 4 rfl rfl hnL (by decide) rfl ?_
      refine j_goto (pc := 32) hc dX1_cut_32 (tgt := 9) rfl ?_
      refine j_loc (L' := [(0, vr (some a0)), (1, vi x1), (2, vi x2), (3, vr (some a6)), (4, vi (x4 + (1)))]) [1, 2, 3, 4, 0] rfl ?_
      exact hk_9 _ _ _ _ _ hf8
set_option maxRecDepth 100000 in
set_option maxHeartbeats 2000000 in
theorem c_X1_cut {l : Launch} {g : PG} {mo : MO} {a0 : Nat} {x1 : Int32} {x2 : Int32} {r : Option Nat} {S S1 : HS} (hf : f_X1_cut a0 x1 x2 S = some (r, S1)) : (h_nx S ≤ h_nx S1 ∧ h_sl S ≤ h_sl S1) ∧ Ct l g yX1_cut (ws_ yX1_cut cX1_cut 5 (some (.object "java/lang/String"))) 6 177 S mo [vr (some a0), vi x1, vi x2] (some (vr r)) S1 mo := by
  refine met_of false (by decide) (fun h => by first | rfl | cases h) rfl (Nat.le_of_ble_eq_true rfl) (fun f hl hg hc ho hnL hrm hre hct hex hq => ?_)
  subst hl
  subst hg
  unfold f_X1_cut at hf
  refine j_iload_n (pc := 0) hc dX1_cut_0 2 rfl rfl ?_
  refine j_iload_n (pc := 1) hc dX1_cut_1 1 rfl rfl ?_
  refine j_isub (pc := 2) hc dX1_cut_2 ?_
  obtain ⟨T1, eT1, hf1⟩ := ob_i hf
  clear hf
  refine j_na33 (pc := 3) hc dX1_cut_3 eT1 ?_
  refine j_astore_n (pc := 5) (L' := [(3, vr (some (h_nx S))), (0, vr (some a0)), (1, vi x1), (2, vi x2)]) hc dX1_cut_5 rfl hnL (by decide) rfl ?_
  refine j_iload_n (pc := 6) hc dX1_cut_6 2 rfl rfl ?_
  refine j_istore (pc := 7) (L' := [(4, vi x1), (3, vr (some (h_nx S))), (0, vr (some a0)), (1, vi x1), (2, vi x2)]) hc dX1_cut_7 hnL (by decide) rfl ?_
  refine j_loc (L' := [(0, vr (some a0)), (1, vi x1), (2, vi x2), (3, vr (some (h_nx S))), (4, vi x1)]) [2, 3, 4, 1, 0] rfl ?_
  exact w_X1_cut_n9 hc ho hnL hrm hre hct hq fu_ _ _ _ _ _ hf1
theorem cw_X1_81 : CV "TableCatalog$Reader" 81 RJ6 yJ6_length cJ6_length 1 (some (.int)) 0 := ⟨⟨q367, q368, q369, q91, q370⟩, rfl, by decide, by decide, by decide +kernel⟩
theorem cw_X1_84 : CV "TableCatalog$Reader" 84 RX1 yX1_cut cX1_cut 5 (some (.object "java/lang/String")) 2 := ⟨⟨q377, q379, qs4, q82, q380⟩, rfl, by decide, by decide, by decide +kernel⟩
theorem cw_X1_88 : CV "TableCatalog$Reader" 88 RJ6 yJ6_equals cJ6_equals 3 (some (.boolean)) 1 := ⟨⟨q456, q457, q458, q91, q459⟩, rfl, by decide, by decide, by decide +kernel⟩
theorem cn_X1_77 : CN "TableCatalog$Reader" 77 yX0_isLetter cX0_isLetter 1 (some (.boolean)) 1 := ⟨⟨"TableCatalog", q364, q81, q366⟩, by decide, by decide, by decide +kernel⟩
theorem cw_X1_63 : CV "TableCatalog$Reader" 63 RX1 yX1_here cX1_here 1 (some (.int)) 0 := ⟨⟨q360, q362, qs3, q82, q363⟩, rfl, by decide, by decide, by decide +kernel⟩
def f_X1_is_n43 (a0 : Nat) (r1 : Option Nat) (x2 : Int32) (S : HS) : Option (Int32 × HS) :=
  (g_fI S 2 19 a0).bind fun v1 =>
  (r1).bind fun a2 =>
  (g_cls S 13 a2).bind fun u3 =>
  o_bd (f_J6_length a2 S) fun v5 T4 =>
  if (x2 - v1) = v5 then
    (g_fI T4 2 19 a0).bind fun v6 =>
    (g_cls T4 2 a0).bind fun u7 =>
    o_bd (f_X1_cut a0 v6 x2 T4) fun q9 T8 =>
    (q9).bind fun a10 =>
    (g_cls T8 13 a10).bind fun u11 =>
    o_bd (f_J6_equals a10 (some a2) T8) fun v13 T12 =>
    if v13 = 0 then
      some ((0), T12)
    else
      (p_fI T12 2 19 a0 x2).bind fun T14 =>
      some ((1), T14)
  else
    some ((0), T4)
def f_X1_is_n17 (a0 : Nat) : Nat → Option Nat → Int32 → HS → Option (Int32 × HS)
  | 0, _, _, _ => none
  | n + 1, r1, x2, S =>
    (g_fI S 2 18 a0).bind fun v1 =>
    if v1 ≤ x2 then
      f_X1_is_n43 a0 r1 x2 S
    else
      (g_fR S 2 17 a0).bind fun q2 =>
      (q2).bind fun a3 =>
      (g_aI S 32 a3 x2).bind fun v4 =>
      (f_X0_isLetter v4).bind fun v5 =>
      if v5 = 0 then
        f_X1_is_n43 a0 r1 x2 S
      else
        (fun r1 x2 S => f_X1_is_n17 a0 n r1 x2 S) r1 (x2 + (1)) S
def f_X1_is (a0 : Nat) (r1 : Option Nat) (S : HS) : Option (Int32 × HS) :=
  (g_cls S 2 a0).bind fun u1 =>
  o_bd (f_X1_here a0 S) fun v3 T2 =>
  (f_X0_isLetter v3).bind fun v4 =>
  if v4 = 0 then
    some ((0), T2)
  else
    (g_fI T2 2 19 a0).bind fun v5 =>
    f_X1_is_n17 a0 fu_ r1 v5 T2
set_option maxRecDepth 100000 in
set_option maxHeartbeats 2000000 in
theorem w_X1_is_n43 {f : CfT} {mo : MO} {a0 : Nat} {r : Int32} {S1 : HS} (hc : cf_cc f = cX1_is) (ho : cf_ow f = "TableCatalog$Reader") (hnL : cf_nL f = 3) (hrm : cf_rm f = (7, 201)) (hre : cf_re f = (some (.boolean))) (hct : cf_ct f = false) (hq : Qok f (some (vi r)) S1 mo) {r1 : Option Nat} {x2 : Int32} {S : HS} (hf : f_X1_is_n43 a0 r1 x2 S = some (r, S1)) : JJ f S mo 43 [(0, vr (some a0)), (1, vr r1), (2, vi x2)] [] := by
  unfold f_X1_is_n43 at hf
  refine j_iload_n (pc := 43) hc dX1_is_43 2 rfl rfl ?_
  refine j_aload_n (pc := 44) hc dX1_is_44 0 rfl rfl ?_
  obtain ⟨v1, ev1, hf1⟩ := ob_i hf
  clear hf
  refine j_getI (pc := 45) hc ho fa_X1_50_2 dX1_is_45 ev1 ?_
  refine j_isub (pc := 48) hc dX1_is_48 ?_
  refine j_aload_n (pc := 49) hc dX1_is_49 1 rfl rfl ?_
  obtain ⟨a2, ea2, hf2⟩ := ob_i hf1
  clear hf1
  subst ea2
  obtain ⟨u3, eu3, hf3⟩ := ob_i hf2
  clear hf2
  obtain ⟨v5, T4, ev5, hf4⟩ := ob_c hf3
  clear hf3
  refine j_callV (pc := 50) (As := []) (rest := [vi (x2 - v1)]) (st2 := [vi v5, vi (x2 - v1)]) hc ho cw_X1_81 (c_J6_length ev5) (Rc.of (g_cls_ok eu3) (by decide) (by decide) ci_J6) hrm ⟨by decide, by decide⟩ rfl (Nat.le_of_ble_eq_true rfl) dX1_is_50 rfl rfl ?_
  refine j_icmp_ne (pc := 53) hc dX1_is_53 (tgt := 72) rfl (fun hh => ?_) (fun hh => ?_)
  · have hf5 := (if_neg hh).symm.trans hf4
    clear hf4
    refine j_iconst (pc := 72) (v := (0)) hc dX1_is_72 rfl ?_
    cases hf5
    exact j_iret (pc := 73) hc hq hre rfl dX1_is_73
  · have hf6 := (if_pos hh).symm.trans hf4
    clear hf4
    refine j_aload_n (pc := 56) hc dX1_is_56 0 rfl rfl ?_
    refine j_aload_n (pc := 57) hc dX1_is_57 0 rfl rfl ?_
    obtain ⟨v6, ev6, hf7⟩ := ob_i hf6
    clear hf6
    refine j_getI (pc := 58) hc ho fa_X1_50_2 dX1_is_58 ev6 ?_
    refine j_iload_n (pc := 61) hc dX1_is_61 2 rfl rfl ?_
    obtain ⟨u7, eu7, hf8⟩ := ob_i hf7
    clear hf7
    obtain ⟨q9, T8, eq9, hf9⟩ := ob_c hf8
    clear hf8
    refine j_callV (pc := 62) (As := [vi v6, vi x2]) (rest := []) (st2 := [vr q9]) hc ho cw_X1_84 (c_X1_cut eq9) (Rc.of (g_cls_ok eu7) (by decide) (by decide) ci_X1) hrm ⟨by decide, by decide⟩ rfl (Nat.le_of_ble_eq_true rfl) dX1_is_62 rfl rfl ?_
    refine j_aload_n (pc := 65) hc dX1_is_65 1 rfl rfl ?_
    obtain ⟨a10, ea10, hf10⟩ := ob_i hf9
    clear hf9
    subst ea10
    obtain ⟨u11, eu11, hf11⟩ := ob_i hf10
    clear hf10
    obtain ⟨v13, T12, ev13, hf12⟩ := ob_c hf11
    clear hf11
    refine j_callV (pc := 66) (As := [vr (some a2)]) (rest := []) (st2 := [vi v13]) hc ho cw_X1_88 (c_J6_equals ev13) (Rc.of (g_cls_ok eu11) (by decide) (by decide) ci_J6) hrm ⟨by decide, by decide⟩ rfl (Nat.le_of_ble_eq_true rfl) dX1_is_66 rfl rfl ?_
    refine j_if_ne (pc := 69) hc dX1_is_69 (tgt := 74) rfl (fun hh => ?_) (fun hh => ?_)
    · have hf13 := (if_neg hh).symm.trans hf12
      clear hf12
      refine j_aload_n (pc := 74) hc dX1_is_74 0 rfl rfl ?_
      refine j_iload_n (pc := 75) hc dX1_is_75 2 rfl rfl ?_
      obtain ⟨T14, eT14, hf14⟩ := ob_i hf13
      clear hf13
      refine j_putI (pc := 76) hc ho fa_X1_50_2 (Or.inl rfl) dX1_is_76 eT14 ?_
      refine j_iconst (pc := 79) (v := (1)) hc dX1_is_79 rfl ?_
      cases hf14
      exact j_iret (pc := 80) hc hq hre rfl dX1_is_80
    · have hf15 := (if_pos hh).symm.trans hf12
      clear hf12
      refine j_iconst (pc := 72) (v := (0)) hc dX1_is_72 rfl ?_
      cases hf15
      exact j_iret (pc := 73) hc hq hre rfl dX1_is_73
set_option maxRecDepth 100000 in
set_option maxHeartbeats 2000000 in
theorem w_X1_is_n17 {f : CfT} {mo : MO} {a0 : Nat} {r : Int32} {S1 : HS} (hc : cf_cc f = cX1_is) (ho : cf_ow f = "TableCatalog$Reader") (hnL : cf_nL f = 3) (hrm : cf_rm f = (7, 201)) (hre : cf_re f = (some (.boolean))) (hct : cf_ct f = false) (hq : Qok f (some (vi r)) S1 mo) : ∀ (n : Nat) (r1 : Option Nat) (x2 : Int32) (S : HS), f_X1_is_n17 a0 n r1 x2 S = some (r, S1) → JJ f S mo 17 [(0, vr (some a0)), (1, vr r1), (2, vi x2)] [] := by
  intro n
  induction n with
  | zero =>
    intro r1 x2 S hf
    have hf : (none : Option (Int32 × HS)) = some (r, S1) := hf
    cases hf
  | succ n ih =>
    intro r1 x2 S hf
    unfold f_X1_is_n17 at hf
    have hk_17 := ih
    refine j_iload_n (pc := 17) hc dX1_is_17 2 rfl rfl ?_
    refine j_aload_n (pc := 18) hc dX1_is_18 0 rfl rfl ?_
    obtain ⟨v1, ev1, hf1⟩ := ob_i hf
    clear hf
    refine j_getI (pc := 19) hc ho fa_X1_53_2 dX1_is_19 ev1 ?_
    refine j_icmp_ge (pc := 22) hc dX1_is_22 (tgt := 43) rfl (fun hh => ?_) (fun hh => ?_)
    · have hf2 := (if_pos hh).symm.trans hf1
      clear hf1
      exact w_X1_is_n43 hc ho hnL hrm hre hct hq hf2
    · have hf3 := (if_neg hh).symm.trans hf1
      clear hf1
      refine j_aload_n (pc := 25) hc dX1_is_25 0 rfl rfl ?_
      obtain ⟨q2, eq2, hf4⟩ := ob_i hf3
      clear hf3
      refine j_getR (pc := 26) hc ho fa_X1_56_2 dX1_is_26 eq2 ?_
      refine j_iload_n (pc := 29) hc dX1_is_29 2 rfl rfl ?_
      obtain ⟨a3, ea3, hf5⟩ := ob_i hf4
      clear hf4
      subst ea3
      obtain ⟨v4, ev4, hf6⟩ := ob_i hf5
      clear hf5
      refine j_bald (pc := 30) hc dX1_is_30 ev4 ?_
      obtain ⟨v5, ev5, hf7⟩ := ob_i hf6
      clear hf6
      refine j_callSN (pc := 31) (As := [vi v4]) (rest := []) (st2 := [vi v5]) hc ho cn_X1_77 q365 (c_X0_isLetter ev5) hrm ⟨by decide, by decide⟩ rfl (Nat.le_of_ble_eq_true rfl) dX1_is_31 rfl rfl ?_
      refine j_if_eq (pc := 34) hc dX1_is_34 (tgt := 43) rfl (fun hh => ?_) (fun hh => ?_)
      · have hf8 := (if_pos hh).symm.trans hf7
        clear hf7
        exact w_X1_is_n43 hc ho hnL hrm hre hct hq hf8
      · have hf9 := (if_neg hh).symm.trans hf7
        clear hf7
        refine j_iinc (pc := 37) (L' := [(2, vi (x2 + (1))), (0, vr (some a0)), (1, vr r1)]) (v := (x2 + (1))) hc dX1_is_37 2 rfl rfl hnL (by decide) rfl ?_
        refine j_goto (pc := 40) hc dX1_is_40 (tgt := 17) rfl ?_
        refine j_loc (L' := [(0, vr (some a0)), (1, vr r1), (2, vi (x2 + (1)))]) [1, 2, 0] rfl ?_
        exact hk_17 _ _ _ hf9
set_option maxRecDepth 100000 in
set_option maxHeartbeats 2000000 in
theorem c_X1_is {l : Launch} {g : PG} {mo : MO} {a0 : Nat} {r1 : Option Nat} {r : Int32} {S S1 : HS} (hf : f_X1_is a0 r1 S = some (r, S1)) : (h_nx S ≤ h_nx S1 ∧ h_sl S ≤ h_sl S1) ∧ Ct l g yX1_is (ws_ yX1_is cX1_is 3 (some (.boolean))) 7 201 S mo [vr (some a0), vr r1] (some (vi r)) S1 mo := by
  refine met_of false (by decide) (fun h => by first | rfl | cases h) rfl (Nat.le_of_ble_eq_true rfl) (fun f hl hg hc ho hnL hrm hre hct hex hq => ?_)
  subst hl
  subst hg
  unfold f_X1_is at hf
  refine j_aload_n (pc := 0) hc dX1_is_0 0 rfl rfl ?_
  obtain ⟨u1, eu1, hf1⟩ := ob_i hf
  clear hf
  obtain ⟨v3, T2, ev3, hf2⟩ := ob_c hf1
  clear hf1
  refine j_callV (pc := 1) (As := []) (rest := []) (st2 := [vi v3]) hc ho cw_X1_63 (c_X1_here ev3) (Rc.of (g_cls_ok eu1) (by decide) (by decide) ci_X1) hrm ⟨by decide, by decide⟩ rfl (Nat.le_of_ble_eq_true rfl) dX1_is_1 rfl rfl ?_
  obtain ⟨v4, ev4, hf3⟩ := ob_i hf2
  clear hf2
  refine j_callSN (pc := 4) (As := [vi v3]) (rest := []) (st2 := [vi v4]) hc ho cn_X1_77 q365 (c_X0_isLetter ev4) hrm ⟨by decide, by decide⟩ rfl (Nat.le_of_ble_eq_true rfl) dX1_is_4 rfl rfl ?_
  refine j_if_ne (pc := 7) hc dX1_is_7 (tgt := 12) rfl (fun hh => ?_) (fun hh => ?_)
  · have hf4 := (if_neg hh).symm.trans hf3
    clear hf3
    refine j_aload_n (pc := 12) hc dX1_is_12 0 rfl rfl ?_
    obtain ⟨v5, ev5, hf5⟩ := ob_i hf4
    clear hf4
    refine j_getI (pc := 13) hc ho fa_X1_50_2 dX1_is_13 ev5 ?_
    refine j_istore_n (pc := 16) (L' := [(2, vi v5), (0, vr (some a0)), (1, vr r1)]) hc dX1_is_16 rfl hnL (by decide) rfl ?_
    refine j_loc (L' := [(0, vr (some a0)), (1, vr r1), (2, vi v5)]) [1, 2, 0] rfl ?_
    exact w_X1_is_n17 hc ho hnL hrm hre hct hq fu_ _ _ _ hf5
  · have hf6 := (if_pos hh).symm.trans hf3
    clear hf3
    refine j_iconst (pc := 10) (v := (0)) hc dX1_is_10 rfl ?_
    cases hf6
    exact j_iret (pc := 11) hc hq hre rfl dX1_is_11
theorem fa_X1_39_2 : FA "TableCatalog$Reader" 39 2 2 28 (.array .char) 2 := ⟨RX1, TX1, 15, tyX1, 12, "TableCatalog$Reader", CI_X1, by decide, rfl, rfl, by decide +kernel, Or.inl ⟨q247, fun _ => ⟨rfl, rfl⟩⟩, fun h => (by cases h), Or.inl rfl⟩
theorem fa_X1_96_2 : FA "TableCatalog$Reader" 96 2 0 29 (.int) 1 := ⟨RX1, TX1, 15, tyX1, 13, "TableCatalog$Reader", CI_X1, by decide, rfl, rfl, by decide +kernel, Or.inl ⟨q248, fun h => (by cases h)⟩, fun _ => rfl, Or.inl rfl⟩
theorem cw_X1_99 : CV "TableCatalog$Reader" 99 RJ6 yJ6_charAt cJ6_charAt 2 (some (.char)) 1 := ⟨⟨q700, q701, q702, q91, q703⟩, rfl, by decide, by decide, by decide +kernel⟩
def f_X1_tell_n2 (a0 : Nat) : Nat → Option Nat → Int32 → HS → Option HS
  | 0, _, _, _ => none
  | n + 1, r1, x2, S =>
    (r1).bind fun a1 =>
    (g_cls S 13 a1).bind fun u2 =>
    o_bd (f_J6_length a1 S) fun v4 T3 =>
    if v4 ≤ x2 then
      (g_fR T3 2 28 a0).bind fun q5 =>
      (g_fI T3 2 29 a0).bind fun v6 =>
      (p_fI T3 2 29 a0 (v6 + (1))).bind fun T7 =>
      (q5).bind fun a8 =>
      (p_aI T7 33 a8 v6 (vp_nar .char (32))).bind fun T9 =>
      some T9
    else
      (g_fR T3 2 28 a0).bind fun q10 =>
      (g_fI T3 2 29 a0).bind fun v11 =>
      (p_fI T3 2 29 a0 (v11 + (1))).bind fun T12 =>
      (g_cls T12 13 a1).bind fun u13 =>
      o_bd (f_J6_charAt a1 x2 T12) fun v15 T14 =>
      (q10).bind fun a16 =>
      (p_aI T14 33 a16 v11 (vp_nar .char v15)).bind fun T17 =>
      (fun r1 x2 S => f_X1_tell_n2 a0 n r1 x2 S) (some a1) (x2 + (1)) T17
def f_X1_tell (a0 : Nat) (r1 : Option Nat) (S : HS) : Option HS :=
  f_X1_tell_n2 a0 fu_ r1 (0) S
set_option maxRecDepth 100000 in
set_option maxHeartbeats 2000000 in
theorem w_X1_tell_n2 {f : CfT} {mo : MO} {a0 : Nat} {S1 : HS} (hc : cf_cc f = cX1_tell) (ho : cf_ow f = "TableCatalog$Reader") (hnL : cf_nL f = 3) (hrm : cf_rm f = (5, 145)) (hre : cf_re f = none) (hct : cf_ct f = false) (hq : Qok f none S1 mo) : ∀ (n : Nat) (r1 : Option Nat) (x2 : Int32) (S : HS), f_X1_tell_n2 a0 n r1 x2 S = some S1 → JJ f S mo 2 [(0, vr (some a0)), (1, vr r1), (2, vi x2)] [] := by
  intro n
  induction n with
  | zero =>
    intro r1 x2 S hf
    have hf : (none : Option HS) = some S1 := hf
    cases hf
  | succ n ih =>
    intro r1 x2 S hf
    unfold f_X1_tell_n2 at hf
    have hk_2 := ih
    refine j_iload_n (pc := 2) hc dX1_tell_2 2 rfl rfl ?_
    refine j_aload_n (pc := 3) hc dX1_tell_3 1 rfl rfl ?_
    obtain ⟨a1, ea1, hf1⟩ := ob_i hf
    clear hf
    subst ea1
    obtain ⟨u2, eu2, hf2⟩ := ob_i hf1
    clear hf1
    obtain ⟨v4, T3, ev4, hf3⟩ := ob_c hf2
    clear hf2
    refine j_callV (pc := 4) (As := []) (rest := [vi x2]) (st2 := [vi v4, vi x2]) hc ho cw_X1_81 (c_J6_length ev4) (Rc.of (g_cls_ok eu2) (by decide) (by decide) ci_J6) hrm ⟨by decide, by decide⟩ rfl (Nat.le_of_ble_eq_true rfl) dX1_tell_4 rfl rfl ?_
    refine j_icmp_ge (pc := 7) hc dX1_tell_7 (tgt := 37) rfl (fun hh => ?_) (fun hh => ?_)
    · have hf4 := (if_pos hh).symm.trans hf3
      clear hf3
      refine j_aload_n (pc := 37) hc dX1_tell_37 0 rfl rfl ?_
      obtain ⟨q5, eq5, hf5⟩ := ob_i hf4
      clear hf4
      refine j_getR (pc := 38) hc ho fa_X1_39_2 dX1_tell_38 eq5 ?_
      refine j_aload_n (pc := 41) hc dX1_tell_41 0 rfl rfl ?_
      refine j_dup (pc := 42) hc dX1_tell_42 rfl ?_
      obtain ⟨v6, ev6, hf6⟩ := ob_i hf5
      clear hf5
      refine j_getI (pc := 43) hc ho fa_X1_96_2 dX1_tell_43 ev6 ?_
      refine j_dup_x1 (pc := 46) hc dX1_tell_46 rfl rfl ?_
      refine j_iconst (pc := 47) (v := (1)) hc dX1_tell_47 rfl ?_
      refine j_iadd (pc := 48) hc dX1_tell_48 ?_
      obtain ⟨T7, eT7, hf7⟩ := ob_i hf6
      clear hf6
      refine j_putI (pc := 49) hc ho fa_X1_96_2 (Or.inl rfl) dX1_tell_49 eT7 ?_
      refine j_bipush (pc := 52) (v := (32)) hc dX1_tell_52 rfl ?_
      obtain ⟨a8, ea8, hf8⟩ := ob_i hf7
      clear hf7
      subst ea8
      obtain ⟨T9, eT9, hf9⟩ := ob_i hf8
      clear hf8
      refine j_cast (pc := 54) hc dX1_tell_54 eT9 ?_
      cases hf9
      exact j_vret (pc := 55) hc hq hre dX1_tell_55
    · have hf10 := (if_neg hh).symm.trans hf3
      clear hf3
      refine j_aload_n (pc := 10) hc dX1_tell_10 0 rfl rfl ?_
      obtain ⟨q10, eq10, hf11⟩ := ob_i hf10
      clear hf10
      refine j_getR (pc := 11) hc ho fa_X1_39_2 dX1_tell_11 eq10 ?_
      refine j_aload_n (pc := 14) hc dX1_tell_14 0 rfl rfl ?_
      refine j_dup (pc := 15) hc dX1_tell_15 rfl ?_
      obtain ⟨v11, ev11, hf12⟩ := ob_i hf11
      clear hf11
      refine j_getI (pc := 16) hc ho fa_X1_96_2 dX1_tell_16 ev11 ?_
      refine j_dup_x1 (pc := 19) hc dX1_tell_19 rfl rfl ?_
      refine j_iconst (pc := 20) (v := (1)) hc dX1_tell_20 rfl ?_
      refine j_iadd (pc := 21) hc dX1_tell_21 ?_
      obtain ⟨T12, eT12, hf13⟩ := ob_i hf12
      clear hf12
      refine j_putI (pc := 22) hc ho fa_X1_96_2 (Or.inl rfl) dX1_tell_22 eT12 ?_
      refine j_aload_n (pc := 25) hc dX1_tell_25 1 rfl rfl ?_
      refine j_iload_n (pc := 26) hc dX1_tell_26 2 rfl rfl ?_
      obtain ⟨u13, eu13, hf14⟩ := ob_i hf13
      clear hf13
      obtain ⟨v15, T14, ev15, hf15⟩ := ob_c hf14
      clear hf14
      refine j_callV (pc := 27) (As := [vi x2]) (rest := [vi v11, vr q10]) (st2 := [vi v15, vi v11, vr q10]) hc ho cw_X1_99 (c_J6_charAt ev15) (Rc.of (g_cls_ok eu13) (by decide) (by decide) ci_J6) hrm ⟨by decide, by decide⟩ rfl (Nat.le_of_ble_eq_true rfl) dX1_tell_27 rfl rfl ?_
      obtain ⟨a16, ea16, hf16⟩ := ob_i hf15
      clear hf15
      subst ea16
      obtain ⟨T17, eT17, hf17⟩ := ob_i hf16
      clear hf16
      refine j_cast (pc := 30) hc dX1_tell_30 eT17 ?_
      refine j_iinc (pc := 31) (L' := [(2, vi (x2 + (1))), (0, vr (some a0)), (1, vr (some a1))]) (v := (x2 + (1))) hc dX1_tell_31 2 rfl rfl hnL (by decide) rfl ?_
      refine j_goto (pc := 34) hc dX1_tell_34 (tgt := 2) rfl ?_
      refine j_loc (L' := [(0, vr (some a0)), (1, vr (some a1)), (2, vi (x2 + (1)))]) [1, 2, 0] rfl ?_
      exact hk_2 _ _ _ hf17
set_option maxRecDepth 100000 in
set_option maxHeartbeats 2000000 in
theorem c_X1_tell {l : Launch} {g : PG} {mo : MO} {a0 : Nat} {r1 : Option Nat} {S S1 : HS} (hf : f_X1_tell a0 r1 S = some S1) : (h_nx S ≤ h_nx S1 ∧ h_sl S ≤ h_sl S1) ∧ Ct l g yX1_tell (ws_ yX1_tell cX1_tell 3 none) 5 145 S mo [vr (some a0), vr r1] none S1 mo := by
  refine met_of false (by decide) (fun h => by first | rfl | cases h) rfl (Nat.le_of_ble_eq_true rfl) (fun f hl hg hc ho hnL hrm hre hct hex hq => ?_)
  subst hl
  subst hg
  unfold f_X1_tell at hf
  refine j_iconst (pc := 0) (v := (0)) hc dX1_tell_0 rfl ?_
  refine j_istore_n (pc := 1) (L' := [(2, vi (0)), (0, vr (some a0)), (1, vr r1)]) hc dX1_tell_1 rfl hnL (by decide) rfl ?_
  refine j_loc (L' := [(0, vr (some a0)), (1, vr r1), (2, vi (0))]) [1, 2, 0] rfl ?_
  exact w_X1_tell_n2 hc ho hnL hrm hre hct hq fu_ _ _ _ hf
theorem fa_X1_36_2 : FA "TableCatalog$Reader" 36 2 2 26 (.array .int) 2 := ⟨RX1, TX1, 15, tyX1, 10, "TableCatalog$Reader", CI_X1, by decide, rfl, rfl, by decide +kernel, Or.inl ⟨q243, fun _ => ⟨rfl, rfl⟩⟩, fun h => (by cases h), Or.inl rfl⟩
theorem fa_X1_127_2 : FA "TableCatalog$Reader" 127 2 2 22 (.object "TableCatalog$Table") 1 := ⟨RX1, TX1, 15, tyX1, 6, "TableCatalog$Reader", CI_X1, by decide, rfl, rfl, by decide +kernel, Or.inl ⟨q236, fun h => (by cases h)⟩, fun _ => rfl, Or.inl rfl⟩
theorem CI_X4 : CI 4 RX4 TX4 15 tyX4 := ⟨ci_X4, by decide, by decide, in_X4, tyX4_ok, nmX4⟩
theorem fa_X1_147_4 : FA "TableCatalog$Reader" 147 4 2 100 (.object "java/util/ArrayList") 0 := ⟨RX4, TX4, 15, tyX4, 2, "TableCatalog$Table", CI_X4, by decide, rfl, rfl, by decide +kernel, Or.inr ⟨by decide, "TableCatalog", q557⟩, fun h => (by cases h), Or.inl rfl⟩
theorem cw_X1_150 : CV "TableCatalog$Reader" 150 RJ5 yJ5_size cJ5_size 1 (some (.int)) 0 := ⟨⟨q629, q630, q631, q89, q632⟩, rfl, by decide, by decide, by decide +kernel⟩
theorem cw_X1_152 : CV "TableCatalog$Reader" 152 RJ5 yJ5_add cJ5_add 2 (some (.boolean)) 1 := ⟨⟨q633, q634, q635, q89, q636⟩, rfl, by decide, by decide, by decide +kernel⟩
def f_X1_column (a0 : Nat) (r1 : Option Nat) (S : HS) : Option HS :=
  (g_fR S 2 26 a0).bind fun q1 =>
  (g_fR S 2 22 a0).bind fun q2 =>
  (q2).bind fun a3 =>
  (g_fR S 4 100 a3).bind fun q4 =>
  (q4).bind fun a5 =>
  (g_cls S 12 a5).bind fun u6 =>
  o_bd (f_J5_size a5 S) fun v8 T7 =>
  (g_fI T7 2 20 a0).bind fun v9 =>
  (q1).bind fun a10 =>
  (p_aI T7 31 a10 v8 v9).bind fun T11 =>
  (g_fR T11 2 22 a0).bind fun q12 =>
  (q12).bind fun a13 =>
  (g_fR T11 4 100 a13).bind fun q14 =>
  (q14).bind fun a15 =>
  (g_cls T11 12 a15).bind fun u16 =>
  o_bd (f_J5_add a15 r1 T11) fun v18 T17 =>
  some T17
set_option maxRecDepth 100000 in
set_option maxHeartbeats 2000000 in
theorem c_X1_column {l : Launch} {g : PG} {mo : MO} {a0 : Nat} {r1 : Option Nat} {S S1 : HS} (hf : f_X1_column a0 r1 S = some S1) : (h_nx S ≤ h_nx S1 ∧ h_sl S ≤ h_sl S1) ∧ Ct l g yX1_column (ws_ yX1_column cX1_column 2 none) 7 191 S mo [vr (some a0), vr r1] none S1 mo := by
  refine met_of false (by decide) (fun h => by first | rfl | cases h) rfl (Nat.le_of_ble_eq_true rfl) (fun f hl hg hc ho hnL hrm hre hct hex hq => ?_)
  subst hl
  subst hg
  unfold f_X1_column at hf
  refine j_aload_n (pc := 0) hc dX1_column_0 0 rfl rfl ?_
  obtain ⟨q1, eq1, hf1⟩ := ob_i hf
  clear hf
  refine j_getR (pc := 1) hc ho fa_X1_36_2 dX1_column_1 eq1 ?_
  refine j_aload_n (pc := 4) hc dX1_column_4 0 rfl rfl ?_
  obtain ⟨q2, eq2, hf2⟩ := ob_i hf1
  clear hf1
  refine j_getR (pc := 5) hc ho fa_X1_127_2 dX1_column_5 eq2 ?_
  obtain ⟨a3, ea3, hf3⟩ := ob_i hf2
  clear hf2
  subst ea3
  obtain ⟨q4, eq4, hf4⟩ := ob_i hf3
  clear hf3
  refine j_getR (pc := 8) hc ho fa_X1_147_4 dX1_column_8 eq4 ?_
  obtain ⟨a5, ea5, hf5⟩ := ob_i hf4
  clear hf4
  subst ea5
  obtain ⟨u6, eu6, hf6⟩ := ob_i hf5
  clear hf5
  obtain ⟨v8, T7, ev8, hf7⟩ := ob_c hf6
  clear hf6
  refine j_callV (pc := 11) (As := []) (rest := [vr q1]) (st2 := [vi v8, vr q1]) hc ho cw_X1_150 (c_J5_size ev8) (Rc.of (g_cls_ok eu6) (by decide) (by decide) ci_J5) hrm ⟨by decide, by decide⟩ rfl (Nat.le_of_ble_eq_true rfl) dX1_column_11 rfl rfl ?_
  refine j_aload_n (pc := 14) hc dX1_column_14 0 rfl rfl ?_
  obtain ⟨v9, ev9, hf8⟩ := ob_i hf7
  clear hf7
  refine j_getI (pc := 15) hc ho fa_X1_60_2 dX1_column_15 ev9 ?_
  obtain ⟨a10, ea10, hf9⟩ := ob_i hf8
  clear hf8
  subst ea10
  obtain ⟨T11, eT11, hf10⟩ := ob_i hf9
  clear hf9
  refine j_iast (pc := 18) hc dX1_column_18 eT11 ?_
  refine j_aload_n (pc := 19) hc dX1_column_19 0 rfl rfl ?_
  obtain ⟨q12, eq12, hf11⟩ := ob_i hf10
  clear hf10
  refine j_getR (pc := 20) hc ho fa_X1_127_2 dX1_column_20 eq12 ?_
  obtain ⟨a13, ea13, hf12⟩ := ob_i hf11
  clear hf11
  subst ea13
  obtain ⟨q14, eq14, hf13⟩ := ob_i hf12
  clear hf12
  refine j_getR (pc := 23) hc ho fa_X1_147_4 dX1_column_23 eq14 ?_
  refine j_aload_n (pc := 26) hc dX1_column_26 1 rfl rfl ?_
  obtain ⟨a15, ea15, hf14⟩ := ob_i hf13
  clear hf13
  subst ea15
  obtain ⟨u16, eu16, hf15⟩ := ob_i hf14
  clear hf14
  obtain ⟨v18, T17, ev18, hf16⟩ := ob_c hf15
  clear hf15
  refine j_callV (pc := 27) (As := [vr r1]) (rest := []) (st2 := [vi v18]) hc ho cw_X1_152 (c_J5_add ev18) (Rc.of (g_cls_ok eu16) (by decide) (by decide) ci_J5) hrm ⟨by decide, by decide⟩ rfl (Nat.le_of_ble_eq_true rfl) dX1_column_27 rfl rfl ?_
  refine j_pop (pc := 30) hc dX1_column_30 rfl ?_
  cases hf16
  exact j_vret (pc := 31) hc hq hre dX1_column_31
def f_X1_word_n44 (a0 : Nat) (x1 : Int32) (S : HS) : Option (Option Nat × HS) :=
  (g_fI S 2 19 a0).bind fun v1 =>
  (g_cls S 2 a0).bind fun u2 =>
  o_bd (f_X1_cut a0 x1 v1 S) fun q4 T3 =>
  some (q4, T3)
def f_X1_word_n5 (a0 : Nat) : Nat → Int32 → HS → Option (Option Nat × HS)
  | 0, _, _ => none
  | n + 1, x1, S =>
    (g_fI S 2 19 a0).bind fun v1 =>
    (g_fI S 2 18 a0).bind fun v2 =>
    if v2 ≤ v1 then
      f_X1_word_n44 a0 x1 S
    else
      (g_fR S 2 17 a0).bind fun q3 =>
      (g_fI S 2 19 a0).bind fun v4 =>
      (q3).bind fun a5 =>
      (g_aI S 32 a5 v4).bind fun v6 =>
      (f_X0_isLetter v6).bind fun v7 =>
      if v7 = 0 then
        f_X1_word_n44 a0 x1 S
      else
        (g_fI S 2 19 a0).bind fun v8 =>
        (p_fI S 2 19 a0 (v8 + (1))).bind fun T9 =>
        (fun x1 S => f_X1_word_n5 a0 n x1 S) x1 T9
def f_X1_word (a0 : Nat) (S : HS) : Option (Option Nat × HS) :=
  (g_fI S 2 19 a0).bind fun v1 =>
  f_X1_word_n5 a0 fu_ v1 S
set_option maxRecDepth 100000 in
set_option maxHeartbeats 2000000 in
theorem w_X1_word_n44 {f : CfT} {mo : MO} {a0 : Nat} {r : Option Nat} {S1 : HS} (hc : cf_cc f = cX1_word) (ho : cf_ow f = "TableCatalog$Reader") (hnL : cf_nL f = 2) (hrm : cf_rm f = (7, 201)) (hre : cf_re f = (some (.object "java/lang/String"))) (hct : cf_ct f = false) (hq : Qok f (some (vr r)) S1 mo) {x1 : Int32} {S : HS} (hf : f_X1_word_n44 a0 x1 S = some (r, S1)) : JJ f S mo 44 [(0, vr (some a0)), (1, vi x1)] [] := by
  unfold f_X1_word_n44 at hf
  refine j_aload_n (pc := 44) hc dX1_word_44 0 rfl rfl ?_
  refine j_iload_n (pc := 45) hc dX1_word_45 1 rfl rfl ?_
  refine j_aload_n (pc := 46) hc dX1_word_46 0 rfl rfl ?_
  obtain ⟨v1, ev1, hf1⟩ := ob_i hf
  clear hf
  refine j_getI (pc := 47) hc ho fa_X1_50_2 dX1_word_47 ev1 ?_
  obtain ⟨u2, eu2, hf2⟩ := ob_i hf1
  clear hf1
  obtain ⟨q4, T3, eq4, hf3⟩ := ob_c hf2
  clear hf2
  refine j_callV (pc := 50) (As := [vi x1, vi v1]) (rest := []) (st2 := [vr q4]) hc ho cw_X1_84 (c_X1_cut eq4) (Rc.of (g_cls_ok eu2) (by decide) (by decide) ci_X1) hrm ⟨by decide, by decide⟩ rfl (Nat.le_of_ble_eq_true rfl) dX1_word_50 rfl rfl ?_
  cases hf3
  exact j_aret (pc := 53) hc hq hre (Or.inl ⟨_, rfl⟩) dX1_word_53
set_option maxRecDepth 100000 in
set_option maxHeartbeats 2000000 in
theorem w_X1_word_n5 {f : CfT} {mo : MO} {a0 : Nat} {r : Option Nat} {S1 : HS} (hc : cf_cc f = cX1_word) (ho : cf_ow f = "TableCatalog$Reader") (hnL : cf_nL f = 2) (hrm : cf_rm f = (7, 201)) (hre : cf_re f = (some (.object "java/lang/String"))) (hct : cf_ct f = false) (hq : Qok f (some (vr r)) S1 mo) : ∀ (n : Nat) (x1 : Int32) (S : HS), f_X1_word_n5 a0 n x1 S = some (r, S1) → JJ f S mo 5 [(0, vr (some a0)), (1, vi x1)] [] := by
  intro n
  induction n with
  | zero =>
    intro x1 S hf
    have hf : (none : Option (Option Nat × HS)) = some (r, S1) := hf
    cases hf
  | succ n ih =>
    intro x1 S hf
    unfold f_X1_word_n5 at hf
    have hk_5 := ih
    refine j_aload_n (pc := 5) hc dX1_word_5 0 rfl rfl ?_
    obtain ⟨v1, ev1, hf1⟩ := ob_i hf
    clear hf
    refine j_getI (pc := 6) hc ho fa_X1_50_2 dX1_word_6 ev1 ?_
    refine j_aload_n (pc := 9) hc dX1_word_9 0 rfl rfl ?_
    obtain ⟨v2, ev2, hf2⟩ := ob_i hf1
    clear hf1
    refine j_getI (pc := 10) hc ho fa_X1_53_2 dX1_word_10 ev2 ?_
    refine j_icmp_ge (pc := 13) hc dX1_word_13 (tgt := 44) rfl (fun hh => ?_) (fun hh => ?_)
    · have hf3 := (if_pos hh).symm.trans hf2
      clear hf2
      exact w_X1_word_n44 hc ho hnL hrm hre hct hq hf3
    · have hf4 := (if_neg hh).symm.trans hf2
      clear hf2
      refine j_aload_n (pc := 16) hc dX1_word_16 0 rfl rfl ?_
      obtain ⟨q3, eq3, hf5⟩ := ob_i hf4
      clear hf4
      refine j_getR (pc := 17) hc ho fa_X1_56_2 dX1_word_17 eq3 ?_
      refine j_aload_n (pc := 20) hc dX1_word_20 0 rfl rfl ?_
      obtain ⟨v4, ev4, hf6⟩ := ob_i hf5
      clear hf5
      refine j_getI (pc := 21) hc ho fa_X1_50_2 dX1_word_21 ev4 ?_
      obtain ⟨a5, ea5, hf7⟩ := ob_i hf6
      clear hf6
      subst ea5
      obtain ⟨v6, ev6, hf8⟩ := ob_i hf7
      clear hf7
      refine j_bald (pc := 24) hc dX1_word_24 ev6 ?_
      obtain ⟨v7, ev7, hf9⟩ := ob_i hf8
      clear hf8
      refine j_callSN (pc := 25) (As := [vi v6]) (rest := []) (st2 := [vi v7]) hc ho cn_X1_77 q365 (c_X0_isLetter ev7) hrm ⟨by decide, by decide⟩ rfl (Nat.le_of_ble_eq_true rfl) dX1_word_25 rfl rfl ?_
      refine j_if_eq (pc := 28) hc dX1_word_28 (tgt := 44) rfl (fun hh => ?_) (fun hh => ?_)
      · have hf10 := (if_pos hh).symm.trans hf9
        clear hf9
        exact w_X1_word_n44 hc ho hnL hrm hre hct hq hf10
      · have hf11 := (if_neg hh).symm.trans hf9
        clear hf9
        refine j_aload_n (pc := 31) hc dX1_word_31 0 rfl rfl ?_
        refine j_dup (pc := 32) hc dX1_word_32 rfl ?_
        obtain ⟨v8, ev8, hf12⟩ := ob_i hf11
        clear hf11
        refine j_getI (pc := 33) hc ho fa_X1_50_2 dX1_word_33 ev8 ?_
        refine j_iconst (pc := 36) (v := (1)) hc dX1_word_36 rfl ?_
        refine j_iadd (pc := 37) hc dX1_word_37 ?_
        obtain ⟨T9, eT9, hf13⟩ := ob_i hf12
        clear hf12
        refine j_putI (pc := 38) hc ho fa_X1_50_2 (Or.inl rfl) dX1_word_38 eT9 ?_
        refine j_goto (pc := 41) hc dX1_word_41 (tgt := 5) rfl ?_
        exact hk_5 _ _ hf13
set_option maxRecDepth 100000 in
set_option maxHeartbeats 2000000 in
theorem c_X1_word {l : Launch} {g : PG} {mo : MO} {a0 : Nat} {r : Option Nat} {S S1 : HS} (hf : f_X1_word a0 S = some (r, S1)) : (h_nx S ≤ h_nx S1 ∧ h_sl S ≤ h_sl S1) ∧ Ct l g yX1_word (ws_ yX1_word cX1_word 2 (some (.object "java/lang/String"))) 7 201 S mo [vr (some a0)] (some (vr r)) S1 mo := by
  refine met_of false (by decide) (fun h => by first | rfl | cases h) rfl (Nat.le_of_ble_eq_true rfl) (fun f hl hg hc ho hnL hrm hre hct hex hq => ?_)
  subst hl
  subst hg
  unfold f_X1_word at hf
  refine j_aload_n (pc := 0) hc dX1_word_0 0 rfl rfl ?_
  obtain ⟨v1, ev1, hf1⟩ := ob_i hf
  clear hf
  refine j_getI (pc := 1) hc ho fa_X1_50_2 dX1_word_1 ev1 ?_
  refine j_istore_n (pc := 4) (L' := [(1, vi v1), (0, vr (some a0))]) hc dX1_word_4 rfl hnL (by decide) rfl ?_
  refine j_loc (L' := [(0, vr (some a0)), (1, vi v1)]) [1, 0] rfl ?_
  exact w_X1_word_n5 hc ho hnL hrm hre hct hq fu_ _ _ hf1
theorem fn_X4_9 : FN "TableCatalog$Table" 9 12 3 := ⟨RJ5, TJ5, tyJ5, CI_J5, q543, q202, q89, by decide +kernel⟩
theorem cw_X4_11 : CT "TableCatalog$Table" 11 yJ5_init_2 cJ5_init_2 2 1 := ⟨⟨q544, rfl, q545, q89, q546⟩, by decide, by decide, by decide +kernel⟩
theorem fa_X4_14_4 : FA "TableCatalog$Table" 14 4 2 100 (.object "java/util/ArrayList") 2 := ⟨RX4, TX4, 15, tyX4, 2, "TableCatalog$Table", CI_X4, by decide, rfl, rfl, by decide +kernel, Or.inl ⟨q556, fun _ => ⟨rfl, rfl⟩⟩, fun h => (by cases h), Or.inl rfl⟩
theorem fa_X4_20_4 : FA "TableCatalog$Table" 20 4 2 101 (.object "java/util/ArrayList") 2 := ⟨RX4, TX4, 15, tyX4, 3, "TableCatalog$Table", CI_X4, by decide, rfl, rfl, by decide +kernel, Or.inl ⟨q559, fun _ => ⟨rfl, rfl⟩⟩, fun h => (by cases h), Or.inl rfl⟩
theorem fa_X4_23_4 : FA "TableCatalog$Table" 23 4 2 102 (.array .char) 2 := ⟨RX4, TX4, 15, tyX4, 4, "TableCatalog$Table", CI_X4, by decide, rfl, rfl, by decide +kernel, Or.inl ⟨q562, fun _ => ⟨rfl, rfl⟩⟩, fun h => (by cases h), Or.inl rfl⟩
theorem fa_X4_27_4 : FA "TableCatalog$Table" 27 4 2 103 (.array .int) 2 := ⟨RX4, TX4, 15, tyX4, 5, "TableCatalog$Table", CI_X4, by decide, rfl, rfl, by decide +kernel, Or.inl ⟨q566, fun _ => ⟨rfl, rfl⟩⟩, fun h => (by cases h), Or.inl rfl⟩
theorem fa_X4_33_4 : FA "TableCatalog$Table" 33 4 2 108 (.object "java/lang/String") 1 := ⟨RX4, TX4, 15, tyX4, 10, "TableCatalog$Table", CI_X4, by decide, rfl, rfl, by decide +kernel, Or.inl ⟨q575, fun h => (by cases h)⟩, fun _ => rfl, Or.inl rfl⟩
theorem fa_X4_37_4 : FA "TableCatalog$Table" 37 4 0 109 (.int) 1 := ⟨RX4, TX4, 15, tyX4, 11, "TableCatalog$Table", CI_X4, by decide, rfl, rfl, by decide +kernel, Or.inl ⟨q578, fun h => (by cases h)⟩, fun _ => rfl, Or.inl rfl⟩
theorem fa_X4_41_4 : FA "TableCatalog$Table" 41 4 0 110 (.int) 1 := ⟨RX4, TX4, 15, tyX4, 12, "TableCatalog$Table", CI_X4, by decide, rfl, rfl, by decide +kernel, Or.inl ⟨q580, fun h => (by cases h)⟩, fun _ => rfl, Or.inl rfl⟩
theorem fa_X4_44_4 : FA "TableCatalog$Table" 44 4 0 111 (.int) 1 := ⟨RX4, TX4, 15, tyX4, 13, "TableCatalog$Table", CI_X4, by decide, rfl, rfl, by decide +kernel, Or.inl ⟨q582, fun h => (by cases h)⟩, fun _ => rfl, Or.inl rfl⟩
theorem fa_X4_47_4 : FA "TableCatalog$Table" 47 4 0 112 (.int) 1 := ⟨RX4, TX4, 15, tyX4, 14, "TableCatalog$Table", CI_X4, by decide, rfl, rfl, by decide +kernel, Or.inl ⟨q584, fun h => (by cases h)⟩, fun _ => rfl, Or.inl rfl⟩
theorem fa_X4_50_4 : FA "TableCatalog$Table" 50 4 2 98 (.object "java/lang/String") 2 := ⟨RX4, TX4, 15, tyX4, 0, "TableCatalog$Table", CI_X4, by decide, rfl, rfl, by decide +kernel, Or.inl ⟨q552, fun _ => ⟨rfl, rfl⟩⟩, fun h => (by cases h), Or.inl rfl⟩
theorem fa_X4_53_4 : FA "TableCatalog$Table" 53 4 0 99 (.int) 1 := ⟨RX4, TX4, 15, tyX4, 1, "TableCatalog$Table", CI_X4, by decide, rfl, rfl, by decide +kernel, Or.inl ⟨q554, fun h => (by cases h)⟩, fun _ => rfl, Or.inl rfl⟩
def f_X4_init (a0 : Nat) (r1 : Option Nat) (x2 : Int32) (S : HS) : Option HS :=
  (n_obj S 12 3).bind fun T1 =>
  (f_J5_init_2 (h_nx S) (1) T1).bind fun T2 =>
  (p_fR T2 4 100 a0 (some (h_nx S))).bind fun T3 =>
  (n_obj T3 12 3).bind fun T4 =>
  (f_J5_init_2 (h_nx T3) (0) T4).bind fun T5 =>
  (p_fR T5 4 101 a0 (some (h_nx T3))).bind fun T6 =>
  (n_arr T6 33 (6)).bind fun T7 =>
  (p_fR T7 4 102 a0 (some (h_nx T6))).bind fun T8 =>
  (n_arr T8 31 (3)).bind fun T9 =>
  (p_fR T9 4 103 a0 (some (h_nx T8))).bind fun T10 =>
  (p_fR T10 4 108 a0 (some (h_ks T10 25))).bind fun T11 =>
  (p_fI T11 4 109 a0 (-1)).bind fun T12 =>
  (p_fI T12 4 110 a0 (-1)).bind fun T13 =>
  (p_fI T13 4 111 a0 (-1)).bind fun T14 =>
  (p_fI T14 4 112 a0 (-1)).bind fun T15 =>
  (p_fR T15 4 98 a0 r1).bind fun T16 =>
  (p_fI T16 4 99 a0 x2).bind fun T17 =>
  some T17
set_option maxRecDepth 100000 in
set_option maxHeartbeats 2000000 in
theorem c_X4_init {l : Launch} {g : PG} {mo : MO} {a0 : Nat} {r1 : Option Nat} {x2 : Int32} {S S1 : HS} (hf : f_X4_init a0 r1 x2 S = some S1) : (h_nx S ≤ h_nx S1 ∧ h_sl S ≤ h_sl S1) ∧ Ct l g yX4_init (ws_ yX4_init cX4_init 3 none) 4 121 S mo [vr (some a0), vr r1, vi x2] none S1 mo := by
  refine met_of true (by decide) (fun h => by first | rfl | cases h) rfl (Nat.le_of_ble_eq_true rfl) (fun f hl hg hc ho hnL hrm hre hct hex hq => ?_)
  subst hl
  subst hg
  unfold f_X4_init at hf
  refine j_aload_n (pc := 0) hc dX4_init_0 0 rfl rfl ?_
  refine j_oini (pc := 1) hc ho q542 q_oi1 q_oi2 hrm ⟨by decide, Nat.le_of_ble_eq_true rfl⟩ dX4_init_1 ?_
  refine j_aload_n (pc := 4) hc dX4_init_4 0 rfl rfl ?_
  obtain ⟨T1, eT1, hf1⟩ := ob_i hf
  clear hf
  refine j_new (pc := 5) hc ho fn_X4_9 dX4_init_5 eT1 ?_
  refine j_dup (pc := 8) hc dX4_init_8 rfl ?_
  refine j_iconst (pc := 9) (v := (1)) hc dX4_init_9 rfl ?_
  obtain ⟨T2, eT2, hf2⟩ := ob_i hf1
  clear hf1
  refine j_callI (pc := 10) (As := [vi (1)]) (rest := [vr (some (h_nx S)), vr (some a0)]) (st2 := [vr (some (h_nx S)), vr (some a0)]) hc ho cw_X4_11 (c_J5_init_2 eT2) hrm ⟨by decide, by decide⟩ rfl (Nat.le_of_ble_eq_true rfl) dX4_init_10 rfl rfl ?_
  obtain ⟨T3, eT3, hf3⟩ := ob_i hf2
  clear hf2
  refine j_putR (pc := 13) hc ho fa_X4_14_4 rfl (Or.inr ⟨rfl, hct⟩) dX4_init_13 eT3 ?_
  refine j_aload_n (pc := 16) hc dX4_init_16 0 rfl rfl ?_
  obtain ⟨T4, eT4, hf4⟩ := ob_i hf3
  clear hf3
  refine j_new (pc := 17) hc ho fn_X4_9 dX4_init_17 eT4 ?_
  refine j_dup (pc := 20) hc dX4_init_20 rfl ?_
  refine j_iconst (pc := 21) (v := (0)) hc dX4_init_21 rfl ?_
  obtain ⟨T5, eT5, hf5⟩ := ob_i hf4
  clear hf4
  refine j_callI (pc := 22) (As := [vi (0)]) (rest := [vr (some (h_nx T3)), vr (some a0)]) (st2 := [vr (some (h_nx T3)), vr (some a0)]) hc ho cw_X4_11 (c_J5_init_2 eT5) hrm ⟨by decide, by decide⟩ rfl (Nat.le_of_ble_eq_true rfl) dX4_init_22 rfl rfl ?_
  obtain ⟨T6, eT6, hf6⟩ := ob_i hf5
  clear hf5
  refine j_putR (pc := 25) hc ho fa_X4_20_4 rfl (Or.inr ⟨rfl, hct⟩) dX4_init_25 eT6 ?_
  refine j_aload_n (pc := 28) hc dX4_init_28 0 rfl rfl ?_
  refine j_bipush (pc := 29) (v := (6)) hc dX4_init_29 rfl ?_
  obtain ⟨T7, eT7, hf7⟩ := ob_i hf6
  clear hf6
  refine j_na33 (pc := 31) hc dX4_init_31 eT7 ?_
  obtain ⟨T8, eT8, hf8⟩ := ob_i hf7
  clear hf7
  refine j_putR (pc := 33) hc ho fa_X4_23_4 rfl (Or.inr ⟨rfl, hct⟩) dX4_init_33 eT8 ?_
  refine j_aload_n (pc := 36) hc dX4_init_36 0 rfl rfl ?_
  refine j_iconst (pc := 37) (v := (3)) hc dX4_init_37 rfl ?_
  obtain ⟨T9, eT9, hf9⟩ := ob_i hf8
  clear hf8
  refine j_na31 (pc := 38) hc dX4_init_38 eT9 ?_
  obtain ⟨T10, eT10, hf10⟩ := ob_i hf9
  clear hf9
  refine j_putR (pc := 40) hc ho fa_X4_27_4 rfl (Or.inr ⟨rfl, hct⟩) dX4_init_40 eT10 ?_
  refine j_aload_n (pc := 43) hc dX4_init_43 0 rfl rfl ?_
  refine j_ldcS (pc := 44) hc ho (tx := "") 25 rfl dX4_init_44 ?_
  obtain ⟨T11, eT11, hf11⟩ := ob_i hf10
  clear hf10
  refine j_putR (pc := 46) hc ho fa_X4_33_4 rfl (Or.inl rfl) dX4_init_46 eT11 ?_
  refine j_aload_n (pc := 49) hc dX4_init_49 0 rfl rfl ?_
  refine j_iconst (pc := 50) (v := (-1)) hc dX4_init_50 rfl ?_
  obtain ⟨T12, eT12, hf12⟩ := ob_i hf11
  clear hf11
  refine j_putI (pc := 51) hc ho fa_X4_37_4 (Or.inl rfl) dX4_init_51 eT12 ?_
  refine j_aload_n (pc := 54) hc dX4_init_54 0 rfl rfl ?_
  refine j_iconst (pc := 55) (v := (-1)) hc dX4_init_55 rfl ?_
  obtain ⟨T13, eT13, hf13⟩ := ob_i hf12
  clear hf12
  refine j_putI (pc := 56) hc ho fa_X4_41_4 (Or.inl rfl) dX4_init_56 eT13 ?_
  refine j_aload_n (pc := 59) hc dX4_init_59 0 rfl rfl ?_
  refine j_iconst (pc := 60) (v := (-1)) hc dX4_init_60 rfl ?_
  obtain ⟨T14, eT14, hf14⟩ := ob_i hf13
  clear hf13
  refine j_putI (pc := 61) hc ho fa_X4_44_4 (Or.inl rfl) dX4_init_61 eT14 ?_
  refine j_aload_n (pc := 64) hc dX4_init_64 0 rfl rfl ?_
  refine j_iconst (pc := 65) (v := (-1)) hc dX4_init_65 rfl ?_
  obtain ⟨T15, eT15, hf15⟩ := ob_i hf14
  clear hf14
  refine j_putI (pc := 66) hc ho fa_X4_47_4 (Or.inl rfl) dX4_init_66 eT15 ?_
  refine j_aload_n (pc := 69) hc dX4_init_69 0 rfl rfl ?_
  refine j_aload_n (pc := 70) hc dX4_init_70 1 rfl rfl ?_
  obtain ⟨T16, eT16, hf16⟩ := ob_i hf15
  clear hf15
  refine j_putR (pc := 71) hc ho fa_X4_50_4 rfl (Or.inr ⟨rfl, hct⟩) dX4_init_71 eT16 ?_
  refine j_aload_n (pc := 74) hc dX4_init_74 0 rfl rfl ?_
  refine j_iload_n (pc := 75) hc dX4_init_75 2 rfl rfl ?_
  obtain ⟨T17, eT17, hf17⟩ := ob_i hf16
  clear hf16
  refine j_putI (pc := 76) hc ho fa_X4_53_4 (Or.inl rfl) dX4_init_76 eT17 ?_
  cases hf17
  exact j_vret (pc := 79) hc hq hre dX4_init_79
def f_X4_isMade (a0 : Nat) (S : HS) : Option (Int32 × HS) :=
  (g_fI S 4 99 a0).bind fun v1 =>
  if v1 = (1) then
    some ((1), S)
  else
    (g_fI S 4 99 a0).bind fun v2 =>
    if v2 = (2) then
      some ((1), S)
    else
      some ((0), S)
set_option maxRecDepth 100000 in
set_option maxHeartbeats 2000000 in
theorem c_X4_isMade {l : Launch} {g : PG} {mo : MO} {a0 : Nat} {r : Int32} {S S1 : HS} (hf : f_X4_isMade a0 S = some (r, S1)) : (h_nx S ≤ h_nx S1 ∧ h_sl S ≤ h_sl S1) ∧ Ct l g yX4_isMade (ws_ yX4_isMade cX4_isMade 1 (some (.boolean))) 1 60 S mo [vr (some a0)] (some (vi r)) S1 mo := by
  refine met_of false (by decide) (fun h => by first | rfl | cases h) rfl (Nat.le_of_ble_eq_true rfl) (fun f hl hg hc ho hnL hrm hre hct hex hq => ?_)
  subst hl
  subst hg
  unfold f_X4_isMade at hf
  refine j_aload_n (pc := 0) hc dX4_isMade_0 0 rfl rfl ?_
  obtain ⟨v1, ev1, hf1⟩ := ob_i hf
  clear hf
  refine j_getI (pc := 1) hc ho fa_X4_53_4 dX4_isMade_1 ev1 ?_
  refine j_iconst (pc := 4) (v := (1)) hc dX4_isMade_4 rfl ?_
  refine j_icmp_eq (pc := 5) hc dX4_isMade_5 (tgt := 16) rfl (fun hh => ?_) (fun hh => ?_)
  · have hf2 := (if_pos hh).symm.trans hf1
    clear hf1
    refine j_iconst (pc := 16) (v := (1)) hc dX4_isMade_16 rfl ?_
    refine j_goto (pc := 17) hc dX4_isMade_17 (tgt := 21) rfl ?_
    cases hf2
    exact j_iret (pc := 21) hc hq hre rfl dX4_isMade_21
  · have hf3 := (if_neg hh).symm.trans hf1
    clear hf1
    refine j_aload_n (pc := 8) hc dX4_isMade_8 0 rfl rfl ?_
    obtain ⟨v2, ev2, hf4⟩ := ob_i hf3
    clear hf3
    refine j_getI (pc := 9) hc ho fa_X4_53_4 dX4_isMade_9 ev2 ?_
    refine j_iconst (pc := 12) (v := (2)) hc dX4_isMade_12 rfl ?_
    refine j_icmp_ne (pc := 13) hc dX4_isMade_13 (tgt := 20) rfl (fun hh => ?_) (fun hh => ?_)
    · have hf5 := (if_neg hh).symm.trans hf4
      clear hf4
      refine j_iconst (pc := 20) (v := (0)) hc dX4_isMade_20 rfl ?_
      cases hf5
      exact j_iret (pc := 21) hc hq hre rfl dX4_isMade_21
    · have hf6 := (if_pos hh).symm.trans hf4
      clear hf4
      refine j_iconst (pc := 16) (v := (1)) hc dX4_isMade_16 rfl ?_
      refine j_goto (pc := 17) hc dX4_isMade_17 (tgt := 21) rfl ?_
      cases hf6
      exact j_iret (pc := 21) hc hq hre rfl dX4_isMade_21
theorem fn_X5_9 : FN "TableCatalog$Formula" 9 12 3 := ⟨RJ5, TJ5, tyJ5, CI_J5, q742, q202, q89, by decide +kernel⟩
theorem cw_X5_11 : CT "TableCatalog$Formula" 11 yJ5_init_2 cJ5_init_2 2 1 := ⟨⟨q743, rfl, q545, q89, q546⟩, by decide, by decide, by decide +kernel⟩
theorem CI_X5 : CI 5 RX5 TX5 3 tyX5 := ⟨ci_X5, by decide, by decide, in_X5, tyX5_ok, nmX5⟩
theorem fa_X5_14_5 : FA "TableCatalog$Formula" 14 5 2 113 (.object "java/util/ArrayList") 2 := ⟨RX5, TX5, 3, tyX5, 0, "TableCatalog$Formula", CI_X5, by decide, rfl, rfl, by decide +kernel, Or.inl ⟨q744, fun _ => ⟨rfl, rfl⟩⟩, fun h => (by cases h), Or.inl rfl⟩
theorem fa_X5_20_5 : FA "TableCatalog$Formula" 20 5 2 114 (.array .int) 2 := ⟨RX5, TX5, 3, tyX5, 1, "TableCatalog$Formula", CI_X5, by decide, rfl, rfl, by decide +kernel, Or.inl ⟨q746, fun _ => ⟨rfl, rfl⟩⟩, fun h => (by cases h), Or.inl rfl⟩
theorem fa_X5_24_5 : FA "TableCatalog$Formula" 24 5 2 115 (.array .int) 2 := ⟨RX5, TX5, 3, tyX5, 2, "TableCatalog$Formula", CI_X5, by decide, rfl, rfl, by decide +kernel, Or.inl ⟨q748, fun _ => ⟨rfl, rfl⟩⟩, fun h => (by cases h), Or.inl rfl⟩
def f_X5_init (a0 : Nat) (S : HS) : Option HS :=
  (n_obj S 12 3).bind fun T1 =>
  (f_J5_init_2 (h_nx S) (1) T1).bind fun T2 =>
  (p_fR T2 5 113 a0 (some (h_nx S))).bind fun T3 =>
  (n_arr T3 31 (6)).bind fun T4 =>
  (p_fR T4 5 114 a0 (some (h_nx T3))).bind fun T5 =>
  (n_arr T5 31 (6)).bind fun T6 =>
  (p_fR T6 5 115 a0 (some (h_nx T5))).bind fun T7 =>
  some T7
set_option maxRecDepth 100000 in
set_option maxHeartbeats 2000000 in
theorem c_X5_init {l : Launch} {g : PG} {mo : MO} {a0 : Nat} {S S1 : HS} (hf : f_X5_init a0 S = some S1) : (h_nx S ≤ h_nx S1 ∧ h_sl S ≤ h_sl S1) ∧ Ct l g yX5_init (ws_ yX5_init cX5_init 1 none) 4 121 S mo [vr (some a0)] none S1 mo := by
  refine met_of true (by decide) (fun h => by first | rfl | cases h) rfl (Nat.le_of_ble_eq_true rfl) (fun f hl hg hc ho hnL hrm hre hct hex hq => ?_)
  subst hl
  subst hg
  unfold f_X5_init at hf
  refine j_aload_n (pc := 0) hc dX5_init_0 0 rfl rfl ?_
  refine j_oini (pc := 1) hc ho q741 q_oi1 q_oi2 hrm ⟨by decide, Nat.le_of_ble_eq_true rfl⟩ dX5_init_1 ?_
  refine j_aload_n (pc := 4) hc dX5_init_4 0 rfl rfl ?_
  obtain ⟨T1, eT1, hf1⟩ := ob_i hf
  clear hf
  refine j_new (pc := 5) hc ho fn_X5_9 dX5_init_5 eT1 ?_
  refine j_dup (pc := 8) hc dX5_init_8 rfl ?_
  refine j_iconst (pc := 9) (v := (1)) hc dX5_init_9 rfl ?_
  obtain ⟨T2, eT2, hf2⟩ := ob_i hf1
  clear hf1
  refine j_callI (pc := 10) (As := [vi (1)]) (rest := [vr (some (h_nx S)), vr (some a0)]) (st2 := [vr (some (h_nx S)), vr (some a0)]) hc ho cw_X5_11 (c_J5_init_2 eT2) hrm ⟨by decide, by decide⟩ rfl (Nat.le_of_ble_eq_true rfl) dX5_init_10 rfl rfl ?_
  obtain ⟨T3, eT3, hf3⟩ := ob_i hf2
  clear hf2
  refine j_putR (pc := 13) hc ho fa_X5_14_5 rfl (Or.inr ⟨rfl, hct⟩) dX5_init_13 eT3 ?_
  refine j_aload_n (pc := 16) hc dX5_init_16 0 rfl rfl ?_
  refine j_bipush (pc := 17) (v := (6)) hc dX5_init_17 rfl ?_
  obtain ⟨T4, eT4, hf4⟩ := ob_i hf3
  clear hf3
  refine j_na31 (pc := 19) hc dX5_init_19 eT4 ?_
  obtain ⟨T5, eT5, hf5⟩ := ob_i hf4
  clear hf4
  refine j_putR (pc := 21) hc ho fa_X5_20_5 rfl (Or.inr ⟨rfl, hct⟩) dX5_init_21 eT5 ?_
  refine j_aload_n (pc := 24) hc dX5_init_24 0 rfl rfl ?_
  refine j_bipush (pc := 25) (v := (6)) hc dX5_init_25 rfl ?_
  obtain ⟨T6, eT6, hf6⟩ := ob_i hf5
  clear hf5
  refine j_na31 (pc := 27) hc dX5_init_27 eT6 ?_
  obtain ⟨T7, eT7, hf7⟩ := ob_i hf6
  clear hf6
  refine j_putR (pc := 29) hc ho fa_X5_24_5 rfl (Or.inr ⟨rfl, hct⟩) dX5_init_29 eT7 ?_
  cases hf7
  exact j_vret (pc := 32) hc hq hre dX5_init_32
def f_X6_uses (a0 : Nat) (r1 : Option Nat) (S : HS) : Option HS :=
  some S
set_option maxRecDepth 100000 in
set_option maxHeartbeats 2000000 in
theorem c_X6_uses {l : Launch} {g : PG} {mo : MO} {a0 : Nat} {r1 : Option Nat} {S S1 : HS} (hf : f_X6_uses a0 r1 S = some S1) : (h_nx S ≤ h_nx S1 ∧ h_sl S ≤ h_sl S1) ∧ Ct l g yX6_uses (ws_ yX6_uses cX6_uses 2 none) 1 60 S mo [vr (some a0), vr r1] none S1 mo := by
  refine met_of false (by decide) (fun h => by first | rfl | cases h) rfl (Nat.le_of_ble_eq_true rfl) (fun f hl hg hc ho hnL hrm hre hct hex hq => ?_)
  subst hl
  subst hg
  unfold f_X6_uses at hf
  cases hf
  exact j_vret (pc := 0) hc hq hre dX6_uses_0
theorem CI_X9 : CI 8 RX9 TX9 5 tyX9 := ⟨ci_X9, by decide, by decide, in_X9, tyX9_ok, nmX9⟩
theorem fa_X9_9_8 : FA "TableCatalog$Part" 9 8 0 124 (.int) 1 := ⟨RX9, TX9, 5, tyX9, 4, "TableCatalog$Part", CI_X9, by decide, rfl, rfl, by decide +kernel, Or.inl ⟨q828, fun h => (by cases h)⟩, fun _ => rfl, Or.inl rfl⟩
def f_X9_uses (a0 : Nat) (r1 : Option Nat) (S : HS) : Option HS :=
  (g_fI S 8 124 a0).bind fun v1 =>
  (r1).bind fun a2 =>
  (p_aI S 34 a2 v1 (vp_nar .boolean (1))).bind fun T3 =>
  some T3
set_option maxRecDepth 100000 in
set_option maxHeartbeats 2000000 in
theorem c_X9_uses {l : Launch} {g : PG} {mo : MO} {a0 : Nat} {r1 : Option Nat} {S S1 : HS} (hf : f_X9_uses a0 r1 S = some S1) : (h_nx S ≤ h_nx S1 ∧ h_sl S ≤ h_sl S1) ∧ Ct l g yX9_uses (ws_ yX9_uses cX9_uses 2 none) 1 60 S mo [vr (some a0), vr r1] none S1 mo := by
  refine met_of false (by decide) (fun h => by first | rfl | cases h) rfl (Nat.le_of_ble_eq_true rfl) (fun f hl hg hc ho hnL hrm hre hct hex hq => ?_)
  subst hl
  subst hg
  unfold f_X9_uses at hf
  refine j_aload_n (pc := 0) hc dX9_uses_0 1 rfl rfl ?_
  refine j_aload_n (pc := 1) hc dX9_uses_1 0 rfl rfl ?_
  obtain ⟨v1, ev1, hf1⟩ := ob_i hf
  clear hf
  refine j_getI (pc := 2) hc ho fa_X9_9_8 dX9_uses_2 ev1 ?_
  refine j_iconst (pc := 5) (v := (1)) hc dX9_uses_5 rfl ?_
  obtain ⟨a2, ea2, hf2⟩ := ob_i hf1
  clear hf1
  subst ea2
  obtain ⟨T3, eT3, hf3⟩ := ob_i hf2
  clear hf2
  refine j_zast (pc := 6) hc dX9_uses_6 eT3 ?_
  cases hf3
  exact j_vret (pc := 7) hc hq hre dX9_uses_7
theorem CI_X8 : CI 7 RX8 TX8 4 tyX8 := ⟨ci_X8, by decide, by decide, in_X8, tyX8_ok, nmX8⟩
theorem fa_X8_18_7 : FA "TableCatalog$Call" 18 7 2 120 (.object "TableCatalog$Formula") 2 := ⟨RX8, TX8, 4, tyX8, 3, "TableCatalog$Call", CI_X8, by decide, rfl, rfl, by decide +kernel, Or.inl ⟨q806, fun _ => ⟨rfl, rfl⟩⟩, fun h => (by cases h), Or.inl rfl⟩
theorem cw_X8_37 : CV "TableCatalog$Call" 37 RX5 yX5_uses cX5_uses 3 none 1 := ⟨⟨q1064, q1055, q1056, q100, q1057⟩, rfl, by decide, by decide, by decide +kernel⟩
def f_X8_uses (kf : Nat → Option Nat → HS → Option HS) (a0 : Nat) (r1 : Option Nat) (S : HS) : Option HS :=
  (g_fR S 7 120 a0).bind fun q1 =>
  (q1).bind fun a2 =>
  (g_cls S 5 a2).bind fun u3 =>
  (kf a2 r1 S).bind fun T4 =>
  some T4
set_option maxRecDepth 100000 in
set_option maxHeartbeats 2000000 in
theorem c_X8_uses {l : Launch} {g : PG} {mo : MO} {a0 : Nat} {r1 : Option Nat} {S S1 : HS} {frK loK : Nat} {kf : Nat → Option Nat → HS → Option HS} (hkf : ∀ {l : Launch} {g : PG} {mo : MO} {a : Nat} {p0 : Option Nat} {S : HS} {S1 : HS} , kf a p0 S = some S1 → (h_nx S ≤ h_nx S1 ∧ h_sl S ≤ h_sl S1) ∧ Ct l g yX5_uses (ws_ yX5_uses cX5_uses 3 none) frK loK S mo [vr (some a), vr p0] none S1 mo) (hf : f_X8_uses kf a0 r1 S = some S1) : (h_nx S ≤ h_nx S1 ∧ h_sl S ≤ h_sl S1) ∧ Ct l g yX8_uses (ws_ yX8_uses cX8_uses 2 none) (frK + 1) (loK + 60) S mo [vr (some a0), vr r1] none S1 mo := by
  refine met_of false (by decide) (fun h => by first | rfl | cases h) rfl (Nat.le_of_ble_eq_true rfl) (fun f hl hg hc ho hnL hrm hre hct hex hq => ?_)
  subst hl
  subst hg
  unfold f_X8_uses at hf
  refine j_aload_n (pc := 0) hc dX8_uses_0 0 rfl rfl ?_
  obtain ⟨q1, eq1, hf1⟩ := ob_i hf
  clear hf
  refine j_getR (pc := 1) hc ho fa_X8_18_7 dX8_uses_1 eq1 ?_
  refine j_aload_n (pc := 4) hc dX8_uses_4 1 rfl rfl ?_
  obtain ⟨a2, ea2, hf2⟩ := ob_i hf1
  clear hf1
  subst ea2
  obtain ⟨u3, eu3, hf3⟩ := ob_i hf2
  clear hf2
  obtain ⟨T4, eT4, hf4⟩ := ob_i hf3
  clear hf3
  refine j_callV (pc := 5) (As := [vr r1]) (rest := []) (st2 := []) hc ho cw_X8_37 (hkf eT4) (Rc.of (g_cls_ok eu3) (by decide) (by decide) ci_X5) hrm ⟨by omega, by omega⟩ rfl (Nat.le_of_ble_eq_true rfl) dX8_uses_5 rfl rfl ?_
  cases hf4
  exact j_vret (pc := 8) hc hq hre dX8_uses_8
theorem cw_X5_37 : CV "TableCatalog$Formula" 37 RJ5 yJ5_size cJ5_size 1 (some (.int)) 0 := ⟨⟨q991, q630, q631, q89, q632⟩, rfl, by decide, by decide, by decide +kernel⟩
theorem cw_X5_27 : CV "TableCatalog$Formula" 27 RJ5 yJ5_get cJ5_get 2 (some (.object "java/lang/Object")) 1 := ⟨⟨q964, q890, q891, q89, q892⟩, rfl, by decide, by decide, by decide +kernel⟩
theorem fc_X5_31_6_8_7 : FC "TableCatalog$Formula" 31 [6, 8, 7] := ⟨"TableCatalog$Term", q965, fun c h => by
  simp only [List.mem_cons, List.not_mem_nil, or_false] at h
  rcases h with rfl | rfl | rfl
  · exact ⟨by decide, by decide, _, ci_X7, Or.inr q1647⟩
  · exact ⟨by decide, by decide, _, ci_X9, Or.inr q1648⟩
  · exact ⟨by decide, by decide, _, ci_X8, Or.inr q1646⟩⟩
theorem cu_X5_50_X7 : CU "TableCatalog$Formula" 50 "TableCatalog$Given" ⟨"TableCatalog$Term", "uses", "([Z)V"⟩ yX6_uses cX6_uses 2 none 1 := ⟨⟨q1058, q1060, q1065, q1059, q101, q1069⟩, Or.inl ⟨q1059, _, _, _, q1069⟩, by decide, by decide, by decide +kernel⟩
theorem cu_X5_50_X9 : CU "TableCatalog$Formula" 50 "TableCatalog$Part" ⟨"TableCatalog$Term", "uses", "([Z)V"⟩ yX9_uses cX9_uses 2 none 1 := ⟨⟨q1058, q1060, q1066, q1067, q104, q1068⟩, Or.inl ⟨q1059, _, _, _, q1069⟩, by decide, by decide, by decide +kernel⟩
theorem cu_X5_50_X8 : CU "TableCatalog$Formula" 50 "TableCatalog$Call" ⟨"TableCatalog$Term", "uses", "([Z)V"⟩ yX8_uses cX8_uses 2 none 1 := ⟨⟨q1058, q1060, q1061, q1062, q103, q1063⟩, Or.inl ⟨q1059, _, _, _, q1069⟩, by decide, by decide, by decide +kernel⟩
def f_X5_uses_n2 (kf : Nat → Option Nat → HS → Option HS) (a0 : Nat) : Nat → Option Nat → Int32 → HS → Option HS
  | 0, _, _, _ => none
  | n + 1, r1, x2, S =>
    (g_fR S 5 113 a0).bind fun q1 =>
    (q1).bind fun a2 =>
    (g_cls S 12 a2).bind fun u3 =>
    o_bd (f_J5_size a2 S) fun v5 T4 =>
    if v5 ≤ x2 then
      some T4
    else
      (g_fR T4 5 113 a0).bind fun q6 =>
      (q6).bind fun a7 =>
      (g_cls T4 12 a7).bind fun u8 =>
      o_bd (f_J5_get a7 x2 T4) fun q10 T9 =>
      (g_cast T9 [6, 8, 7] q10).bind fun u11 =>
      (q10).bind fun a12 =>
      if h_cl T9 a12 = 6 then
        (f_X6_uses a12 r1 T9).bind fun T13 =>
        (fun r1 x2 S => f_X5_uses_n2 kf a0 n r1 x2 S) r1 (x2 + (1)) T13
      else
        if h_cl T9 a12 = 8 then
          (f_X9_uses a12 r1 T9).bind fun T14 =>
          (fun r1 x2 S => f_X5_uses_n2 kf a0 n r1 x2 S) r1 (x2 + (1)) T14
        else
          if h_cl T9 a12 = 7 then
            (f_X8_uses kf a12 r1 T9).bind fun T15 =>
            (fun r1 x2 S => f_X5_uses_n2 kf a0 n r1 x2 S) r1 (x2 + (1)) T15
          else
            none
def f_X5_uses_b (kf : Nat → Option Nat → HS → Option HS) (a0 : Nat) (r1 : Option Nat) (S : HS) : Option HS :=
  f_X5_uses_n2 kf a0 fu_ r1 (0) S
def f_X5_uses : Nat → Nat → Option Nat → HS → Option HS
  | 0, _, _, _ => none
  | d + 1, a0, r1, S => f_X5_uses_b (f_X5_uses d) a0 r1 S
set_option maxRecDepth 100000 in
set_option maxHeartbeats 2000000 in
theorem w_X5_uses_n2 {f : CfT} {mo : MO} {a0 : Nat} {S1 : HS} {frK loK : Nat} {kf : Nat → Option Nat → HS → Option HS} (hc : cf_cc f = cX5_uses) (ho : cf_ow f = "TableCatalog$Formula") (hnL : cf_nL f = 3) (hrm : cf_rm f = ((frK + 4), (loK + 124))) (hre : cf_re f = none) (hct : cf_ct f = false) (hq : Qok f none S1 mo) (hkf : ∀ {l : Launch} {g : PG} {mo : MO} {a : Nat} {p0 : Option Nat} {S : HS} {S1 : HS} , kf a p0 S = some S1 → (h_nx S ≤ h_nx S1 ∧ h_sl S ≤ h_sl S1) ∧ Ct l g yX5_uses (ws_ yX5_uses cX5_uses 3 none) frK loK S mo [vr (some a), vr p0] none S1 mo) : ∀ (n : Nat) (r1 : Option Nat) (x2 : Int32) (S : HS), f_X5_uses_n2 kf a0 n r1 x2 S = some S1 → JJ f S mo 2 [(0, vr (some a0)), (1, vr r1), (2, vi x2)] [] := by
  intro n
  induction n with
  | zero =>
    intro r1 x2 S hf
    have hf : (none : Option HS) = some S1 := hf
    cases hf
  | succ n ih =>
    intro r1 x2 S hf
    unfold f_X5_uses_n2 at hf
    have hk_2 := ih
    refine j_iload_n (pc := 2) hc dX5_uses_2 2 rfl rfl ?_
    refine j_aload_n (pc := 3) hc dX5_uses_3 0 rfl rfl ?_
    obtain ⟨q1, eq1, hf1⟩ := ob_i hf
    clear hf
    refine j_getR (pc := 4) hc ho fa_X5_14_5 dX5_uses_4 eq1 ?_
    obtain ⟨a2, ea2, hf2⟩ := ob_i hf1
    clear hf1
    subst ea2
    obtain ⟨u3, eu3, hf3⟩ := ob_i hf2
    clear hf2
    obtain ⟨v5, T4, ev5, hf4⟩ := ob_c hf3
    clear hf3
    refine j_callV (pc := 7) (As := []) (rest := [vi x2]) (st2 := [vi v5, vi x2]) hc ho cw_X5_37 (c_J5_size ev5) (Rc.of (g_cls_ok eu3) (by decide) (by decide) ci_J5) hrm ⟨by omega, by omega⟩ rfl (Nat.le_of_ble_eq_true rfl) dX5_uses_7 rfl rfl ?_
    refine j_icmp_ge (pc := 10) hc dX5_uses_10 (tgt := 34) rfl (fun hh => ?_) (fun hh => ?_)
    · have hf5 := (if_pos hh).symm.trans hf4
      clear hf4
      cases hf5
      exact j_vret (pc := 34) hc hq hre dX5_uses_34
    · have hf6 := (if_neg hh).symm.trans hf4
      clear hf4
      refine j_aload_n (pc := 13) hc dX5_uses_13 0 rfl rfl ?_
      obtain ⟨q6, eq6, hf7⟩ := ob_i hf6
      clear hf6
      refine j_getR (pc := 14) hc ho fa_X5_14_5 dX5_uses_14 eq6 ?_
      refine j_iload_n (pc := 17) hc dX5_uses_17 2 rfl rfl ?_
      obtain ⟨a7, ea7, hf8⟩ := ob_i hf7
      clear hf7
      subst ea7
      obtain ⟨u8, eu8, hf9⟩ := ob_i hf8
      clear hf8
      obtain ⟨q10, T9, eq10, hf10⟩ := ob_c hf9
      clear hf9
      refine j_callV (pc := 18) (As := [vi x2]) (rest := []) (st2 := [vr q10]) hc ho cw_X5_27 (c_J5_get eq10) (Rc.of (g_cls_ok eu8) (by decide) (by decide) ci_J5) hrm ⟨by omega, by omega⟩ rfl (Nat.le_of_ble_eq_true rfl) dX5_uses_18 rfl rfl ?_
      obtain ⟨u11, eu11, hf11⟩ := ob_i hf10
      clear hf10
      refine j_ccast (pc := 21) hc ho fc_X5_31_6_8_7 dX5_uses_21 eu11 ?_
      refine j_aload_n (pc := 24) hc dX5_uses_24 1 rfl rfl ?_
      obtain ⟨a12, ea12, hf12⟩ := ob_i hf11
      clear hf11
      subst ea12
      by_cases hk : h_cl T9 a12 = 6
      · have hf13 := (if_pos hk).symm.trans hf12
        clear hf12
        obtain ⟨T13, eT13, hf14⟩ := ob_i hf13
        clear hf13
        refine j_callU (pc := 25) (As := [vr r1]) (rest := []) (st2 := []) hc ho cu_X5_50_X7 (c_X6_uses eT13) (Rc.of hk (by decide) (by decide) ci_X7) hrm ⟨by omega, by omega⟩ rfl (Nat.le_of_ble_eq_true rfl) dX5_uses_25 rfl rfl ?_
        refine j_iinc (pc := 28) (L' := [(2, vi (x2 + (1))), (0, vr (some a0)), (1, vr r1)]) (v := (x2 + (1))) hc dX5_uses_28 2 rfl rfl hnL (by decide) rfl ?_
        refine j_goto (pc := 31) hc dX5_uses_31 (tgt := 2) rfl ?_
        refine j_loc (L' := [(0, vr (some a0)), (1, vr r1), (2, vi (x2 + (1)))]) [1, 2, 0] rfl ?_
        exact hk_2 _ _ _ hf14
      · have hf15 := (if_neg hk).symm.trans hf12
        clear hf12
        by_cases hk : h_cl T9 a12 = 8
        · have hf16 := (if_pos hk).symm.trans hf15
          clear hf15
          obtain ⟨T14, eT14, hf17⟩ := ob_i hf16
          clear hf16
          refine j_callU (pc := 25) (As := [vr r1]) (rest := []) (st2 := []) hc ho cu_X5_50_X9 (c_X9_uses eT14) (Rc.of hk (by decide) (by decide) ci_X9) hrm ⟨by omega, by omega⟩ rfl (Nat.le_of_ble_eq_true rfl) dX5_uses_25 rfl rfl ?_
          refine j_iinc (pc := 28) (L' := [(2, vi (x2 + (1))), (0, vr (some a0)), (1, vr r1)]) (v := (x2 + (1))) hc dX5_uses_28 2 rfl rfl hnL (by decide) rfl ?_
          refine j_goto (pc := 31) hc dX5_uses_31 (tgt := 2) rfl ?_
          refine j_loc (L' := [(0, vr (some a0)), (1, vr r1), (2, vi (x2 + (1)))]) [1, 2, 0] rfl ?_
          exact hk_2 _ _ _ hf17
        · have hf18 := (if_neg hk).symm.trans hf15
          clear hf15
          by_cases hk : h_cl T9 a12 = 7
          · have hf19 := (if_pos hk).symm.trans hf18
            clear hf18
            obtain ⟨T15, eT15, hf20⟩ := ob_i hf19
            clear hf19
            refine j_callU (pc := 25) (As := [vr r1]) (rest := []) (st2 := []) hc ho cu_X5_50_X8 (c_X8_uses hkf eT15) (Rc.of hk (by decide) (by decide) ci_X8) hrm ⟨by omega, by omega⟩ rfl (Nat.le_of_ble_eq_true rfl) dX5_uses_25 rfl rfl ?_
            refine j_iinc (pc := 28) (L' := [(2, vi (x2 + (1))), (0, vr (some a0)), (1, vr r1)]) (v := (x2 + (1))) hc dX5_uses_28 2 rfl rfl hnL (by decide) rfl ?_
            refine j_goto (pc := 31) hc dX5_uses_31 (tgt := 2) rfl ?_
            refine j_loc (L' := [(0, vr (some a0)), (1, vr r1), (2, vi (x2 + (1)))]) [1, 2, 0] rfl ?_
            exact hk_2 _ _ _ hf20
          · have hf21 := (if_neg hk).symm.trans hf18
            clear hf18
            cases hf21
set_option maxRecDepth 100000 in
set_option maxHeartbeats 2000000 in
theorem c_X5_uses_b {l : Launch} {g : PG} {mo : MO} {a0 : Nat} {r1 : Option Nat} {S S1 : HS} {frK loK : Nat} {kf : Nat → Option Nat → HS → Option HS} (hkf : ∀ {l : Launch} {g : PG} {mo : MO} {a : Nat} {p0 : Option Nat} {S : HS} {S1 : HS} , kf a p0 S = some S1 → (h_nx S ≤ h_nx S1 ∧ h_sl S ≤ h_sl S1) ∧ Ct l g yX5_uses (ws_ yX5_uses cX5_uses 3 none) frK loK S mo [vr (some a), vr p0] none S1 mo) (hf : f_X5_uses_b kf a0 r1 S = some S1) : (h_nx S ≤ h_nx S1 ∧ h_sl S ≤ h_sl S1) ∧ Ct l g yX5_uses (ws_ yX5_uses cX5_uses 3 none) (frK + 4) (loK + 124) S mo [vr (some a0), vr r1] none S1 mo := by
  refine met_of false (by decide) (fun h => by first | rfl | cases h) rfl (Nat.le_of_ble_eq_true rfl) (fun f hl hg hc ho hnL hrm hre hct hex hq => ?_)
  subst hl
  subst hg
  unfold f_X5_uses_b at hf
  refine j_iconst (pc := 0) (v := (0)) hc dX5_uses_0 rfl ?_
  refine j_istore_n (pc := 1) (L' := [(2, vi (0)), (0, vr (some a0)), (1, vr r1)]) hc dX5_uses_1 rfl hnL (by decide) rfl ?_
  refine j_loc (L' := [(0, vr (some a0)), (1, vr r1), (2, vi (0))]) [1, 2, 0] rfl ?_
  exact w_X5_uses_n2 hc ho hnL hrm hre hct hq hkf fu_ _ _ _ hf
theorem cd_X5_uses : ∀ (d : Nat) {l : Launch} {g : PG} {mo : MO} {a0 : Nat} {r1 : Option Nat} {S S1 : HS} , f_X5_uses d a0 r1 S = some S1 → (h_nx S ≤ h_nx S1 ∧ h_sl S ≤ h_sl S1) ∧ Ct l g yX5_uses (ws_ yX5_uses cX5_uses 3 none) (4 * d) (124 * d) S mo [vr (some a0), vr r1] none S1 mo := by
  intro d
  induction d with
  | zero =>
    intro l g mo a0 r1 S S1 hf
    have hf : (none : Option HS) = some S1 := hf
    cases hf
  | succ d ih =>
    intro l g mo a0 r1 S S1 hf
    have h9 := c_X5_uses_b (l := l) (g := g) (mo := mo) (frK := 4 * d) (loK := 124 * d) (kf := f_X5_uses d) (fun {l g mo a p0 S S1} h => ih h) hf
    exact h9
theorem c_X5_uses (d : Nat) {l : Launch} {g : PG} {mo : MO} {a0 : Nat} {r1 : Option Nat} {S S1 : HS} (hf : f_X5_uses d a0 r1 S = some S1) : (h_nx S ≤ h_nx S1 ∧ h_sl S ≤ h_sl S1) ∧ Ct l g yX5_uses (ws_ yX5_uses cX5_uses 3 none) (4 * d) (124 * d) S mo [vr (some a0), vr r1] none S1 mo := cd_X5_uses d hf
theorem CI_X7 : CI 6 RX7 TX7 2 tyX7 := ⟨ci_X7, by decide, by decide, in_X7, tyX7_ok, nmX7⟩
theorem fa_X7_7_6 : FA "TableCatalog$Given" 7 6 0 117 (.char) 2 := ⟨RX7, TX7, 2, tyX7, 1, "TableCatalog$Given", CI_X7, by decide, rfl, rfl, by decide +kernel, Or.inl ⟨q777, fun _ => ⟨rfl, rfl⟩⟩, fun h => (by cases h), Or.inl rfl⟩
def f_X7_type (a0 : Nat) (r1 : Option Nat) (S : HS) : Option (Int32 × HS) :=
  (g_fI S 6 117 a0).bind fun v1 =>
  if vp_nar .char v1 = v1 then
    some (v1, S)
  else
    none
set_option maxRecDepth 100000 in
set_option maxHeartbeats 2000000 in
theorem c_X7_type {l : Launch} {g : PG} {mo : MO} {a0 : Nat} {r1 : Option Nat} {r : Int32} {S S1 : HS} (hf : f_X7_type a0 r1 S = some (r, S1)) : (h_nx S ≤ h_nx S1 ∧ h_sl S ≤ h_sl S1) ∧ Ct l g yX7_type (ws_ yX7_type cX7_type 2 (some (.char))) 1 60 S mo [vr (some a0), vr r1] (some (vi r)) S1 mo := by
  refine met_of false (by decide) (fun h => by first | rfl | cases h) rfl (Nat.le_of_ble_eq_true rfl) (fun f hl hg hc ho hnL hrm hre hct hex hq => ?_)
  subst hl
  subst hg
  unfold f_X7_type at hf
  refine j_aload_n (pc := 0) hc dX7_type_0 0 rfl rfl ?_
  obtain ⟨v1, ev1, hf1⟩ := ob_i hf
  clear hf
  refine j_getI (pc := 1) hc ho fa_X7_7_6 dX7_type_1 ev1 ?_
  by_cases hh : vp_nar .char v1 = v1
  · have hf2 := (if_pos hh).symm.trans hf1
    clear hf1
    cases hf2
    exact j_iret (pc := 4) hc hq hre (nar_c hh) dX7_type_4
  · have hf3 := (if_neg hh).symm.trans hf1
    clear hf1
    cases hf3
def f_X5_joined_n70 (x0 : Int32) (x1 : Int32) (x2 : Int32)  : Option (Int32) :=
  if x0 = (100) then
    if x2 = (100) then
      if x1 = (45) then
        if vp_nar .char (110) = (110) then
          some (110)
        else
          none
      else
        if vp_nar .char (0) = (0) then
          some (0)
        else
          none
    else
      if vp_nar .char (0) = (0) then
        some (0)
      else
        none
  else
    if vp_nar .char (0) = (0) then
      some (0)
    else
      none
def f_X5_joined_n55 (x0 : Int32) (x1 : Int32) (x2 : Int32)  : Option (Int32) :=
  if x0 = (100) then
    if x2 = (110) then
      if vp_nar .char (100) = (100) then
        some (100)
      else
        none
    else
      f_X5_joined_n70 x0 x1 x2
  else
    f_X5_joined_n70 x0 x1 x2
def f_X5_joined (x0 : Int32) (x1 : Int32) (x2 : Int32)  : Option (Int32) :=
  if x0 = (63) then
    if vp_nar .char (63) = (63) then
      some (63)
    else
      none
  else
    if x2 = (63) then
      if vp_nar .char (63) = (63) then
        some (63)
      else
        none
    else
      if x1 = (38) then
        if x0 = (116) then
          if x2 = (116) then
            if vp_nar .char (116) = (116) then
              some (116)
            else
              none
          else
            if vp_nar .char (0) = (0) then
              some (0)
            else
              none
        else
          if vp_nar .char (0) = (0) then
            some (0)
          else
            none
      else
        if x0 = (110) then
          if x2 = (110) then
            if vp_nar .char (110) = (110) then
              some (110)
            else
              none
          else
            f_X5_joined_n55 x0 x1 x2
        else
          f_X5_joined_n55 x0 x1 x2
set_option maxRecDepth 100000 in
set_option maxHeartbeats 2000000 in
theorem w_X5_joined_n70 {f : CfT} {mo : MO} {r : Int32} {S : HS} (hc : cf_cc f = cX5_joined) (ho : cf_ow f = "TableCatalog$Formula") (hnL : cf_nL f = 3) (hrm : cf_rm f = (1, 60)) (hre : cf_re f = (some (.char))) (hct : cf_ct f = false) (hq : Qok f (some (vi r)) S mo) {x0 : Int32} {x1 : Int32} {x2 : Int32} (hf : f_X5_joined_n70 x0 x1 x2 = some r) : JJ f S mo 70 [(0, vi x0), (1, vi x1), (2, vi x2)] [] := by
  unfold f_X5_joined_n70 at hf
  refine j_iload_n (pc := 70) hc dX5_joined_70 0 rfl rfl ?_
  refine j_bipush (pc := 71) (v := (100)) hc dX5_joined_71 rfl ?_
  refine j_icmp_ne (pc := 73) hc dX5_joined_73 (tgt := 93) rfl (fun hh => ?_) (fun hh => ?_)
  · have hf1 := (if_neg hh).symm.trans hf
    clear hf
    refine j_iconst (pc := 93) (v := (0)) hc dX5_joined_93 rfl ?_
    by_cases hh : vp_nar .char (0) = (0)
    · have hf2 := (if_pos hh).symm.trans hf1
      clear hf1
      cases hf2
      exact j_iret (pc := 94) hc hq hre (nar_c hh) dX5_joined_94
    · have hf3 := (if_neg hh).symm.trans hf1
      clear hf1
      cases hf3
  · have hf4 := (if_pos hh).symm.trans hf
    clear hf
    refine j_iload_n (pc := 76) hc dX5_joined_76 2 rfl rfl ?_
    refine j_bipush (pc := 77) (v := (100)) hc dX5_joined_77 rfl ?_
    refine j_icmp_ne (pc := 79) hc dX5_joined_79 (tgt := 93) rfl (fun hh => ?_) (fun hh => ?_)
    · have hf5 := (if_neg hh).symm.trans hf4
      clear hf4
      refine j_iconst (pc := 93) (v := (0)) hc dX5_joined_93 rfl ?_
      by_cases hh : vp_nar .char (0) = (0)
      · have hf6 := (if_pos hh).symm.trans hf5
        clear hf5
        cases hf6
        exact j_iret (pc := 94) hc hq hre (nar_c hh) dX5_joined_94
      · have hf7 := (if_neg hh).symm.trans hf5
        clear hf5
        cases hf7
    · have hf8 := (if_pos hh).symm.trans hf4
      clear hf4
      refine j_iload_n (pc := 82) hc dX5_joined_82 1 rfl rfl ?_
      refine j_bipush (pc := 83) (v := (45)) hc dX5_joined_83 rfl ?_
      refine j_icmp_ne (pc := 85) hc dX5_joined_85 (tgt := 93) rfl (fun hh => ?_) (fun hh => ?_)
      · have hf9 := (if_neg hh).symm.trans hf8
        clear hf8
        refine j_iconst (pc := 93) (v := (0)) hc dX5_joined_93 rfl ?_
        by_cases hh : vp_nar .char (0) = (0)
        · have hf10 := (if_pos hh).symm.trans hf9
          clear hf9
          cases hf10
          exact j_iret (pc := 94) hc hq hre (nar_c hh) dX5_joined_94
        · have hf11 := (if_neg hh).symm.trans hf9
          clear hf9
          cases hf11
      · have hf12 := (if_pos hh).symm.trans hf8
        clear hf8
        refine j_bipush (pc := 88) (v := (110)) hc dX5_joined_88 rfl ?_
        refine j_goto (pc := 90) hc dX5_joined_90 (tgt := 94) rfl ?_
        by_cases hh : vp_nar .char (110) = (110)
        · have hf13 := (if_pos hh).symm.trans hf12
          clear hf12
          cases hf13
          exact j_iret (pc := 94) hc hq hre (nar_c hh) dX5_joined_94
        · have hf14 := (if_neg hh).symm.trans hf12
          clear hf12
          cases hf14
set_option maxRecDepth 100000 in
set_option maxHeartbeats 2000000 in
theorem w_X5_joined_n55 {f : CfT} {mo : MO} {r : Int32} {S : HS} (hc : cf_cc f = cX5_joined) (ho : cf_ow f = "TableCatalog$Formula") (hnL : cf_nL f = 3) (hrm : cf_rm f = (1, 60)) (hre : cf_re f = (some (.char))) (hct : cf_ct f = false) (hq : Qok f (some (vi r)) S mo) {x0 : Int32} {x1 : Int32} {x2 : Int32} (hf : f_X5_joined_n55 x0 x1 x2 = some r) : JJ f S mo 55 [(0, vi x0), (1, vi x1), (2, vi x2)] [] := by
  unfold f_X5_joined_n55 at hf
  refine j_iload_n (pc := 55) hc dX5_joined_55 0 rfl rfl ?_
  refine j_bipush (pc := 56) (v := (100)) hc dX5_joined_56 rfl ?_
  refine j_icmp_ne (pc := 58) hc dX5_joined_58 (tgt := 70) rfl (fun hh => ?_) (fun hh => ?_)
  · have hf1 := (if_neg hh).symm.trans hf
    clear hf
    exact w_X5_joined_n70 hc ho hnL hrm hre hct hq hf1
  · have hf2 := (if_pos hh).symm.trans hf
    clear hf
    refine j_iload_n (pc := 61) hc dX5_joined_61 2 rfl rfl ?_
    refine j_bipush (pc := 62) (v := (110)) hc dX5_joined_62 rfl ?_
    refine j_icmp_ne (pc := 64) hc dX5_joined_64 (tgt := 70) rfl (fun hh => ?_) (fun hh => ?_)
    · have hf3 := (if_neg hh).symm.trans hf2
      clear hf2
      exact w_X5_joined_n70 hc ho hnL hrm hre hct hq hf3
    · have hf4 := (if_pos hh).symm.trans hf2
      clear hf2
      refine j_bipush (pc := 67) (v := (100)) hc dX5_joined_67 rfl ?_
      by_cases hh : vp_nar .char (100) = (100)
      · have hf5 := (if_pos hh).symm.trans hf4
        clear hf4
        cases hf5
        exact j_iret (pc := 69) hc hq hre (nar_c hh) dX5_joined_69
      · have hf6 := (if_neg hh).symm.trans hf4
        clear hf4
        cases hf6
set_option maxRecDepth 100000 in
set_option maxHeartbeats 2000000 in
theorem c_X5_joined {l : Launch} {g : PG} {mo : MO} {x0 : Int32} {x1 : Int32} {x2 : Int32} {r : Int32} {S : HS} (hf : f_X5_joined x0 x1 x2 = some r) : (h_nx S ≤ h_nx S ∧ h_sl S ≤ h_sl S) ∧ Ct l g yX5_joined (ws_ yX5_joined cX5_joined 3 (some (.char))) 1 60 S mo [vi x0, vi x1, vi x2] (some (vi r)) S mo := by
  refine met_of false (by decide) (fun h => by first | rfl | cases h) rfl (Nat.le_of_ble_eq_true rfl) (fun f hl hg hc ho hnL hrm hre hct hex hq => ?_)
  subst hl
  subst hg
  unfold f_X5_joined at hf
  refine j_iload_n (pc := 0) hc dX5_joined_0 0 rfl rfl ?_
  refine j_bipush (pc := 1) (v := (63)) hc dX5_joined_1 rfl ?_
  refine j_icmp_eq (pc := 3) hc dX5_joined_3 (tgt := 12) rfl (fun hh => ?_) (fun hh => ?_)
  · have hf1 := (if_pos hh).symm.trans hf
    clear hf
    refine j_bipush (pc := 12) (v := (63)) hc dX5_joined_12 rfl ?_
    by_cases hh : vp_nar .char (63) = (63)
    · have hf2 := (if_pos hh).symm.trans hf1
      clear hf1
      cases hf2
      exact j_iret (pc := 14) hc hq hre (nar_c hh) dX5_joined_14
    · have hf3 := (if_neg hh).symm.trans hf1
      clear hf1
      cases hf3
  · have hf4 := (if_neg hh).symm.trans hf
    clear hf
    refine j_iload_n (pc := 6) hc dX5_joined_6 2 rfl rfl ?_
    refine j_bipush (pc := 7) (v := (63)) hc dX5_joined_7 rfl ?_
    refine j_icmp_ne (pc := 9) hc dX5_joined_9 (tgt := 15) rfl (fun hh => ?_) (fun hh => ?_)
    · have hf5 := (if_neg hh).symm.trans hf4
      clear hf4
      refine j_iload_n (pc := 15) hc dX5_joined_15 1 rfl rfl ?_
      refine j_bipush (pc := 16) (v := (38)) hc dX5_joined_16 rfl ?_
      refine j_icmp_ne (pc := 18) hc dX5_joined_18 (tgt := 40) rfl (fun hh => ?_) (fun hh => ?_)
      · have hf6 := (if_neg hh).symm.trans hf5
        clear hf5
        refine j_iload_n (pc := 40) hc dX5_joined_40 0 rfl rfl ?_
        refine j_bipush (pc := 41) (v := (110)) hc dX5_joined_41 rfl ?_
        refine j_icmp_ne (pc := 43) hc dX5_joined_43 (tgt := 55) rfl (fun hh => ?_) (fun hh => ?_)
        · have hf7 := (if_neg hh).symm.trans hf6
          clear hf6
          exact w_X5_joined_n55 hc ho hnL hrm hre hct hq hf7
        · have hf8 := (if_pos hh).symm.trans hf6
          clear hf6
          refine j_iload_n (pc := 46) hc dX5_joined_46 2 rfl rfl ?_
          refine j_bipush (pc := 47) (v := (110)) hc dX5_joined_47 rfl ?_
          refine j_icmp_ne (pc := 49) hc dX5_joined_49 (tgt := 55) rfl (fun hh => ?_) (fun hh => ?_)
          · have hf9 := (if_neg hh).symm.trans hf8
            clear hf8
            exact w_X5_joined_n55 hc ho hnL hrm hre hct hq hf9
          · have hf10 := (if_pos hh).symm.trans hf8
            clear hf8
            refine j_bipush (pc := 52) (v := (110)) hc dX5_joined_52 rfl ?_
            by_cases hh : vp_nar .char (110) = (110)
            · have hf11 := (if_pos hh).symm.trans hf10
              clear hf10
              cases hf11
              exact j_iret (pc := 54) hc hq hre (nar_c hh) dX5_joined_54
            · have hf12 := (if_neg hh).symm.trans hf10
              clear hf10
              cases hf12
      · have hf13 := (if_pos hh).symm.trans hf5
        clear hf5
        refine j_iload_n (pc := 21) hc dX5_joined_21 0 rfl rfl ?_
        refine j_bipush (pc := 22) (v := (116)) hc dX5_joined_22 rfl ?_
        refine j_icmp_ne (pc := 24) hc dX5_joined_24 (tgt := 38) rfl (fun hh => ?_) (fun hh => ?_)
        · have hf14 := (if_neg hh).symm.trans hf13
          clear hf13
          refine j_iconst (pc := 38) (v := (0)) hc dX5_joined_38 rfl ?_
          by_cases hh : vp_nar .char (0) = (0)
          · have hf15 := (if_pos hh).symm.trans hf14
            clear hf14
            cases hf15
            exact j_iret (pc := 39) hc hq hre (nar_c hh) dX5_joined_39
          · have hf16 := (if_neg hh).symm.trans hf14
            clear hf14
            cases hf16
        · have hf17 := (if_pos hh).symm.trans hf13
          clear hf13
          refine j_iload_n (pc := 27) hc dX5_joined_27 2 rfl rfl ?_
          refine j_bipush (pc := 28) (v := (116)) hc dX5_joined_28 rfl ?_
          refine j_icmp_ne (pc := 30) hc dX5_joined_30 (tgt := 38) rfl (fun hh => ?_) (fun hh => ?_)
          · have hf18 := (if_neg hh).symm.trans hf17
            clear hf17
            refine j_iconst (pc := 38) (v := (0)) hc dX5_joined_38 rfl ?_
            by_cases hh : vp_nar .char (0) = (0)
            · have hf19 := (if_pos hh).symm.trans hf18
              clear hf18
              cases hf19
              exact j_iret (pc := 39) hc hq hre (nar_c hh) dX5_joined_39
            · have hf20 := (if_neg hh).symm.trans hf18
              clear hf18
              cases hf20
          · have hf21 := (if_pos hh).symm.trans hf17
            clear hf17
            refine j_bipush (pc := 33) (v := (116)) hc dX5_joined_33 rfl ?_
            refine j_goto (pc := 35) hc dX5_joined_35 (tgt := 39) rfl ?_
            by_cases hh : vp_nar .char (116) = (116)
            · have hf22 := (if_pos hh).symm.trans hf21
              clear hf21
              cases hf22
              exact j_iret (pc := 39) hc hq hre (nar_c hh) dX5_joined_39
            · have hf23 := (if_neg hh).symm.trans hf21
              clear hf21
              cases hf23
    · have hf24 := (if_pos hh).symm.trans hf4
      clear hf4
      refine j_bipush (pc := 12) (v := (63)) hc dX5_joined_12 rfl ?_
      by_cases hh : vp_nar .char (63) = (63)
      · have hf25 := (if_pos hh).symm.trans hf24
        clear hf24
        cases hf25
        exact j_iret (pc := 14) hc hq hre (nar_c hh) dX5_joined_14
      · have hf26 := (if_neg hh).symm.trans hf24
        clear hf24
        cases hf26
theorem CI_X12 : CI 10 RX12 TX12 2 tyX12 := ⟨ci_X12, by decide, by decide, in_X12, tyX12_ok, nmX12⟩
theorem fa_X11_10_10 : FA "TableCatalog$Checker" 10 10 0 128 (.int) 1 := ⟨RX12, TX12, 2, tyX12, 0, "TableCatalog$Checker", CI_X12, by decide, rfl, rfl, by decide +kernel, Or.inl ⟨q953, fun h => (by cases h)⟩, fun _ => rfl, Or.inl rfl⟩
def f_X11_wrong (a0 : Nat) (x1 : Int32) (S : HS) : Option HS :=
  (g_fI S 10 128 a0).bind fun v1 =>
  (p_fI S 10 128 a0 (i_min v1 x1)).bind fun T2 =>
  some T2
set_option maxRecDepth 100000 in
set_option maxHeartbeats 2000000 in
theorem c_X11_wrong {l : Launch} {g : PG} {mo : MO} {a0 : Nat} {x1 : Int32} {S S1 : HS} (hf : f_X11_wrong a0 x1 S = some S1) : (h_nx S ≤ h_nx S1 ∧ h_sl S ≤ h_sl S1) ∧ Ct l g yX11_wrong (ws_ yX11_wrong cX11_wrong 2 none) 1 60 S mo [vr (some a0), vi x1] none S1 mo := by
  refine met_of false (by decide) (fun h => by first | rfl | cases h) rfl (Nat.le_of_ble_eq_true rfl) (fun f hl hg hc ho hnL hrm hre hct hex hq => ?_)
  subst hl
  subst hg
  unfold f_X11_wrong at hf
  refine j_aload_n (pc := 0) hc dX11_wrong_0 0 rfl rfl ?_
  refine j_aload_n (pc := 1) hc dX11_wrong_1 0 rfl rfl ?_
  obtain ⟨v1, ev1, hf1⟩ := ob_i hf
  clear hf
  refine j_getI (pc := 2) hc ho fa_X11_10_10 dX11_wrong_2 ev1 ?_
  refine j_iload_n (pc := 5) hc dX11_wrong_5 1 rfl rfl ?_
  refine j_mmin (pc := 6) hc ho q978 hrm ⟨by decide, Nat.le_of_ble_eq_true rfl⟩ dX11_wrong_6 ?_
  obtain ⟨T2, eT2, hf2⟩ := ob_i hf1
  clear hf1
  refine j_putI (pc := 9) hc ho fa_X11_10_10 (Or.inl rfl) dX11_wrong_9 eT2 ?_
  cases hf2
  exact j_vret (pc := 12) hc hq hre dX11_wrong_12
theorem fa_X12_1_10 : FA "TableCatalog$Known" 1 10 2 129 (.object "TableCatalog") 2 := ⟨RX12, TX12, 2, tyX12, 1, "TableCatalog$Known", CI_X12, by decide, rfl, rfl, by decide +kernel, Or.inl ⟨q952, fun _ => ⟨rfl, rfl⟩⟩, fun h => (by cases h), Or.inl rfl⟩
theorem CI_X0 : CI 1 RX0 TX0 15 tyX0 := ⟨ci_X0, by decide, by decide, in_X0, tyX0_ok, nmX0⟩
theorem fa_X12_13_1 : FA "TableCatalog$Known" 13 1 2 1 (.array (.object "TableCatalog$Table")) 0 := ⟨RX0, TX0, 15, tyX0, 0, "TableCatalog", CI_X0, by decide, rfl, rfl, by decide +kernel, Or.inr ⟨by decide, "TableCatalog", q282⟩, fun h => (by cases h), Or.inl rfl⟩
theorem fa_X12_19_4 : FA "TableCatalog$Known" 19 4 2 102 (.array .char) 0 := ⟨RX4, TX4, 15, tyX4, 4, "TableCatalog$Table", CI_X4, by decide, rfl, rfl, by decide +kernel, Or.inr ⟨by decide, "TableCatalog", q563⟩, fun h => (by cases h), Or.inl rfl⟩
def f_X12_typeOf (a0 : Nat) (x1 : Int32) (S : HS) : Option (Int32 × HS) :=
  (g_fR S 10 129 a0).bind fun q1 =>
  (q1).bind fun a2 =>
  (g_fR S 1 1 a2).bind fun q3 =>
  (q3).bind fun a4 =>
  (g_aR S 36 a4 (x1 >>> ((3) &&& 31))).bind fun q5 =>
  (q5).bind fun a6 =>
  (g_fR S 4 102 a6).bind fun q7 =>
  (q7).bind fun a8 =>
  (g_aI S 33 a8 (x1 &&& (7))).bind fun v9 =>
  if vp_nar .char v9 = v9 then
    some (v9, S)
  else
    none
set_option maxRecDepth 100000 in
set_option maxHeartbeats 2000000 in
theorem c_X12_typeOf {l : Launch} {g : PG} {mo : MO} {a0 : Nat} {x1 : Int32} {r : Int32} {S S1 : HS} (hf : f_X12_typeOf a0 x1 S = some (r, S1)) : (h_nx S ≤ h_nx S1 ∧ h_sl S ≤ h_sl S1) ∧ Ct l g yX12_typeOf (ws_ yX12_typeOf cX12_typeOf 2 (some (.char))) 1 60 S mo [vr (some a0), vi x1] (some (vi r)) S1 mo := by
  refine met_of false (by decide) (fun h => by first | rfl | cases h) rfl (Nat.le_of_ble_eq_true rfl) (fun f hl hg hc ho hnL hrm hre hct hex hq => ?_)
  subst hl
  subst hg
  unfold f_X12_typeOf at hf
  refine j_aload_n (pc := 0) hc dX12_typeOf_0 0 rfl rfl ?_
  obtain ⟨q1, eq1, hf1⟩ := ob_i hf
  clear hf
  refine j_getR (pc := 1) hc ho fa_X12_1_10 dX12_typeOf_1 eq1 ?_
  obtain ⟨a2, ea2, hf2⟩ := ob_i hf1
  clear hf1
  subst ea2
  obtain ⟨q3, eq3, hf3⟩ := ob_i hf2
  clear hf2
  refine j_getR (pc := 4) hc ho fa_X12_13_1 dX12_typeOf_4 eq3 ?_
  refine j_iload_n (pc := 7) hc dX12_typeOf_7 1 rfl rfl ?_
  refine j_iconst (pc := 8) (v := (3)) hc dX12_typeOf_8 rfl ?_
  refine j_ishr (pc := 9) hc dX12_typeOf_9 ?_
  obtain ⟨a4, ea4, hf4⟩ := ob_i hf3
  clear hf3
  subst ea4
  obtain ⟨q5, eq5, hf5⟩ := ob_i hf4
  clear hf4
  refine j_aald (pc := 10) hc dX12_typeOf_10 (by decide) eq5 ?_
  obtain ⟨a6, ea6, hf6⟩ := ob_i hf5
  clear hf5
  subst ea6
  obtain ⟨q7, eq7, hf7⟩ := ob_i hf6
  clear hf6
  refine j_getR (pc := 11) hc ho fa_X12_19_4 dX12_typeOf_11 eq7 ?_
  refine j_iload_n (pc := 14) hc dX12_typeOf_14 1 rfl rfl ?_
  refine j_bipush (pc := 15) (v := (7)) hc dX12_typeOf_15 rfl ?_
  refine j_iand (pc := 17) hc dX12_typeOf_17 ?_
  obtain ⟨a8, ea8, hf8⟩ := ob_i hf7
  clear hf7
  subst ea8
  obtain ⟨v9, ev9, hf9⟩ := ob_i hf8
  clear hf8
  refine j_cald (pc := 18) hc dX12_typeOf_18 ev9 ?_
  by_cases hh : vp_nar .char v9 = v9
  · have hf10 := (if_pos hh).symm.trans hf9
    clear hf9
    cases hf10
    exact j_iret (pc := 19) hc hq hre (nar_c hh) dX12_typeOf_19
  · have hf11 := (if_neg hh).symm.trans hf9
    clear hf9
    cases hf11
theorem cu_X9_25_X12 : CU "TableCatalog$Part" 25 "TableCatalog$Known" ⟨"TableCatalog$Checker", "typeOf", "(I)C"⟩ yX12_typeOf cX12_typeOf 2 (some (.char)) 1 := ⟨⟨q985, q987, q988, q989, q108, q990⟩, Or.inr q986, by decide, by decide, by decide +kernel⟩
def f_X9_type (a0 : Nat) (r1 : Option Nat) (S : HS) : Option (Int32 × HS) :=
  (g_fI S 8 124 a0).bind fun v1 =>
  if v1 = (-1) then
    if vp_nar .char (63) = (63) then
      some ((63), S)
    else
      none
  else
    (g_fI S 8 124 a0).bind fun v2 =>
    (r1).bind fun a3 =>
    if h_cl S a3 = 10 then
      o_bd (f_X12_typeOf a3 v2 S) fun v5 T4 =>
      if vp_nar .char v5 = v5 then
        some (v5, T4)
      else
        none
    else
      none
set_option maxRecDepth 100000 in
set_option maxHeartbeats 2000000 in
theorem c_X9_type {l : Launch} {g : PG} {mo : MO} {a0 : Nat} {r1 : Option Nat} {r : Int32} {S S1 : HS} (hf : f_X9_type a0 r1 S = some (r, S1)) : (h_nx S ≤ h_nx S1 ∧ h_sl S ≤ h_sl S1) ∧ Ct l g yX9_type (ws_ yX9_type cX9_type 2 (some (.char))) 2 81 S mo [vr (some a0), vr r1] (some (vi r)) S1 mo := by
  refine met_of false (by decide) (fun h => by first | rfl | cases h) rfl (Nat.le_of_ble_eq_true rfl) (fun f hl hg hc ho hnL hrm hre hct hex hq => ?_)
  subst hl
  subst hg
  unfold f_X9_type at hf
  refine j_aload_n (pc := 0) hc dX9_type_0 0 rfl rfl ?_
  obtain ⟨v1, ev1, hf1⟩ := ob_i hf
  clear hf
  refine j_getI (pc := 1) hc ho fa_X9_9_8 dX9_type_1 ev1 ?_
  refine j_iconst (pc := 4) (v := (-1)) hc dX9_type_4 rfl ?_
  refine j_icmp_ne (pc := 5) hc dX9_type_5 (tgt := 13) rfl (fun hh => ?_) (fun hh => ?_)
  · have hf2 := (if_neg hh).symm.trans hf1
    clear hf1
    refine j_aload_n (pc := 13) hc dX9_type_13 1 rfl rfl ?_
    refine j_aload_n (pc := 14) hc dX9_type_14 0 rfl rfl ?_
    obtain ⟨v2, ev2, hf3⟩ := ob_i hf2
    clear hf2
    refine j_getI (pc := 15) hc ho fa_X9_9_8 dX9_type_15 ev2 ?_
    obtain ⟨a3, ea3, hf4⟩ := ob_i hf3
    clear hf3
    subst ea3
    by_cases hk : h_cl S a3 = 10
    · have hf5 := (if_pos hk).symm.trans hf4
      clear hf4
      obtain ⟨v5, T4, ev5, hf6⟩ := ob_c hf5
      clear hf5
      refine j_callU (pc := 18) (As := [vi v2]) (rest := []) (st2 := [vi v5]) hc ho cu_X9_25_X12 (c_X12_typeOf ev5) (Rc.of hk (by decide) (by decide) ci_X12) hrm ⟨by decide, by decide⟩ rfl (Nat.le_of_ble_eq_true rfl) dX9_type_18 rfl rfl ?_
      by_cases hh : vp_nar .char v5 = v5
      · have hf7 := (if_pos hh).symm.trans hf6
        clear hf6
        cases hf7
        exact j_iret (pc := 21) hc hq hre (nar_c hh) dX9_type_21
      · have hf8 := (if_neg hh).symm.trans hf6
        clear hf6
        cases hf8
    · have hf9 := (if_neg hk).symm.trans hf4
      clear hf4
      cases hf9
  · have hf10 := (if_pos hh).symm.trans hf1
    clear hf1
    refine j_bipush (pc := 8) (v := (63)) hc dX9_type_8 rfl ?_
    refine j_goto (pc := 10) hc dX9_type_10 (tgt := 21) rfl ?_
    by_cases hh : vp_nar .char (63) = (63)
    · have hf11 := (if_pos hh).symm.trans hf10
      clear hf10
      cases hf11
      exact j_iret (pc := 21) hc hq hre (nar_c hh) dX9_type_21
    · have hf12 := (if_neg hh).symm.trans hf10
      clear hf10
      cases hf12
theorem cw_X8_22 : CV "TableCatalog$Call" 22 RX5 yX5_type cX5_type 5 (some (.char)) 1 := ⟨⟨q972, q961, q962, q100, q963⟩, rfl, by decide, by decide, by decide +kernel⟩
theorem fa_X8_9_7 : FA "TableCatalog$Call" 9 7 0 118 (.char) 2 := ⟨RX8, TX8, 4, tyX8, 1, "TableCatalog$Call", CI_X8, by decide, rfl, rfl, by decide +kernel, Or.inl ⟨q804, fun _ => ⟨rfl, rfl⟩⟩, fun h => (by cases h), Or.inl rfl⟩
theorem fa_X8_15_7 : FA "TableCatalog$Call" 15 7 0 119 (.char) 2 := ⟨RX8, TX8, 4, tyX8, 2, "TableCatalog$Call", CI_X8, by decide, rfl, rfl, by decide +kernel, Or.inl ⟨q805, fun _ => ⟨rfl, rfl⟩⟩, fun h => (by cases h), Or.inl rfl⟩
theorem fa_X8_28_7 : FA "TableCatalog$Call" 28 7 0 116 (.int) 0 := ⟨RX8, TX8, 4, tyX8, 0, "TableCatalog$Call", CI_X8, by decide, rfl, rfl, by decide +kernel, Or.inl ⟨q779, fun h => (by cases h)⟩, fun h => (by cases h), Or.inr q780⟩
theorem cu_X8_32_X12 : CU "TableCatalog$Call" 32 "TableCatalog$Known" ⟨"TableCatalog$Checker", "wrong", "(I)V"⟩ yX11_wrong cX11_wrong 2 none 1 := ⟨⟨q973, q975, q976, q974, q107, q977⟩, Or.inl ⟨q974, _, _, _, q977⟩, by decide, by decide, by decide +kernel⟩
def f_X8_type (kf : Nat → Option Nat → HS → Option (Int32 × HS)) (a0 : Nat) (r1 : Option Nat) (S : HS) : Option (Int32 × HS) :=
  (g_fR S 7 120 a0).bind fun q1 =>
  (q1).bind fun a2 =>
  (g_cls S 5 a2).bind fun u3 =>
  o_bd (kf a2 r1 S) fun v5 T4 =>
  (g_fI T4 7 118 a0).bind fun v6 =>
  if v5 = v6 then
    (g_fI T4 7 119 a0).bind fun v7 =>
    if vp_nar .char v7 = v7 then
      some (v7, T4)
    else
      none
  else
    if v5 = (63) then
      (g_fI T4 7 119 a0).bind fun v8 =>
      if vp_nar .char v8 = v8 then
        some (v8, T4)
      else
        none
    else
      (g_fI T4 7 116 a0).bind fun v9 =>
      (r1).bind fun a10 =>
      if h_cl T4 a10 = 10 then
        (f_X11_wrong a10 v9 T4).bind fun T11 =>
        (g_fI T11 7 119 a0).bind fun v12 =>
        if vp_nar .char v12 = v12 then
          some (v12, T11)
        else
          none
      else
        none
set_option maxRecDepth 100000 in
set_option maxHeartbeats 2000000 in
theorem c_X8_type {l : Launch} {g : PG} {mo : MO} {a0 : Nat} {r1 : Option Nat} {r : Int32} {S S1 : HS} {frK loK : Nat} {kf : Nat → Option Nat → HS → Option (Int32 × HS)} (hkf : ∀ {l : Launch} {g : PG} {mo : MO} {a : Nat} {p0 : Option Nat} {S : HS} {S1 : HS} {r : Int32}, kf a p0 S = some (r, S1) → (h_nx S ≤ h_nx S1 ∧ h_sl S ≤ h_sl S1) ∧ Ct l g yX5_type (ws_ yX5_type cX5_type 5 (some (.char))) frK loK S mo [vr (some a), vr p0] (some (vi r)) S1 mo) (hf : f_X8_type kf a0 r1 S = some (r, S1)) : (h_nx S ≤ h_nx S1 ∧ h_sl S ≤ h_sl S1) ∧ Ct l g yX8_type (ws_ yX8_type cX8_type 3 (some (.char))) (frK + 2) (loK + 81) S mo [vr (some a0), vr r1] (some (vi r)) S1 mo := by
  refine met_of false (by decide) (fun h => by first | rfl | cases h) rfl (Nat.le_of_ble_eq_true rfl) (fun f hl hg hc ho hnL hrm hre hct hex hq => ?_)
  subst hl
  subst hg
  unfold f_X8_type at hf
  refine j_aload_n (pc := 0) hc dX8_type_0 0 rfl rfl ?_
  obtain ⟨q1, eq1, hf1⟩ := ob_i hf
  clear hf
  refine j_getR (pc := 1) hc ho fa_X8_18_7 dX8_type_1 eq1 ?_
  refine j_aload_n (pc := 4) hc dX8_type_4 1 rfl rfl ?_
  obtain ⟨a2, ea2, hf2⟩ := ob_i hf1
  clear hf1
  subst ea2
  obtain ⟨u3, eu3, hf3⟩ := ob_i hf2
  clear hf2
  obtain ⟨v5, T4, ev5, hf4⟩ := ob_c hf3
  clear hf3
  refine j_callV (pc := 5) (As := [vr r1]) (rest := []) (st2 := [vi v5]) hc ho cw_X8_22 (hkf ev5) (Rc.of (g_cls_ok eu3) (by decide) (by decide) ci_X5) hrm ⟨by omega, by omega⟩ rfl (Nat.le_of_ble_eq_true rfl) dX8_type_5 rfl rfl ?_
  refine j_istore_n (pc := 8) (L' := [(2, vi v5), (0, vr (some a0)), (1, vr r1)]) hc dX8_type_8 rfl hnL (by decide) rfl ?_
  refine j_iload_n (pc := 9) hc dX8_type_9 0 rfl rfl ?_
  refine j_aload_n (pc := 10) hc dX8_type_10 1 rfl rfl ?_
  obtain ⟨v6, ev6, hf5⟩ := ob_i hf4
  clear hf4
  refine j_getI (pc := 11) hc ho fa_X8_9_7 dX8_type_11 ev6 ?_
  refine j_icmp_eq (pc := 14) hc dX8_type_14 (tgt := 31) rfl (fun hh => ?_) (fun hh => ?_)
  · have hf6 := (if_pos hh).symm.trans hf5
    clear hf5
    refine j_aload_n (pc := 31) hc dX8_type_31 1 rfl rfl ?_
    obtain ⟨v7, ev7, hf7⟩ := ob_i hf6
    clear hf6
    refine j_getI (pc := 32) hc ho fa_X8_15_7 dX8_type_32 ev7 ?_
    by_cases hh : vp_nar .char v7 = v7
    · have hf8 := (if_pos hh).symm.trans hf7
      clear hf7
      cases hf8
      exact j_iret (pc := 35) hc hq hre (nar_c hh) dX8_type_35
    · have hf9 := (if_neg hh).symm.trans hf7
      clear hf7
      cases hf9
  · have hf10 := (if_neg hh).symm.trans hf5
    clear hf5
    refine j_iload_n (pc := 17) hc dX8_type_17 0 rfl rfl ?_
    refine j_bipush (pc := 18) (v := (63)) hc dX8_type_18 rfl ?_
    refine j_icmp_eq (pc := 20) hc dX8_type_20 (tgt := 31) rfl (fun hh => ?_) (fun hh => ?_)
    · have hf11 := (if_pos hh).symm.trans hf10
      clear hf10
      refine j_aload_n (pc := 31) hc dX8_type_31 1 rfl rfl ?_
      obtain ⟨v8, ev8, hf12⟩ := ob_i hf11
      clear hf11
      refine j_getI (pc := 32) hc ho fa_X8_15_7 dX8_type_32 ev8 ?_
      by_cases hh : vp_nar .char v8 = v8
      · have hf13 := (if_pos hh).symm.trans hf12
        clear hf12
        cases hf13
        exact j_iret (pc := 35) hc hq hre (nar_c hh) dX8_type_35
      · have hf14 := (if_neg hh).symm.trans hf12
        clear hf12
        cases hf14
    · have hf15 := (if_neg hh).symm.trans hf10
      clear hf10
      refine j_aload_n (pc := 23) hc dX8_type_23 2 rfl rfl ?_
      refine j_aload_n (pc := 24) hc dX8_type_24 1 rfl rfl ?_
      obtain ⟨v9, ev9, hf16⟩ := ob_i hf15
      clear hf15
      refine j_getI (pc := 25) hc ho fa_X8_28_7 dX8_type_25 ev9 ?_
      obtain ⟨a10, ea10, hf17⟩ := ob_i hf16
      clear hf16
      subst ea10
      by_cases hk : h_cl T4 a10 = 10
      · have hf18 := (if_pos hk).symm.trans hf17
        clear hf17
        obtain ⟨T11, eT11, hf19⟩ := ob_i hf18
        clear hf18
        refine j_callU (pc := 28) (As := [vi v9]) (rest := []) (st2 := []) hc ho cu_X8_32_X12 (c_X11_wrong eT11) (Rc.of hk (by decide) (by decide) ci_X12) hrm ⟨by omega, by omega⟩ rfl (Nat.le_of_ble_eq_true rfl) dX8_type_28 rfl rfl ?_
        refine j_aload_n (pc := 31) hc dX8_type_31 1 rfl rfl ?_
        obtain ⟨v12, ev12, hf20⟩ := ob_i hf19
        clear hf19
        refine j_getI (pc := 32) hc ho fa_X8_15_7 dX8_type_32 ev12 ?_
        by_cases hh : vp_nar .char v12 = v12
        · have hf21 := (if_pos hh).symm.trans hf20
          clear hf20
          cases hf21
          exact j_iret (pc := 35) hc hq hre (nar_c hh) dX8_type_35
        · have hf22 := (if_neg hh).symm.trans hf20
          clear hf20
          cases hf22
      · have hf23 := (if_neg hk).symm.trans hf17
        clear hf17
        cases hf23
theorem cu_X5_33_X7 : CU "TableCatalog$Formula" 33 "TableCatalog$Given" ⟨"TableCatalog$Term", "type", "(LTableCatalog$Checker;)C"⟩ yX7_type cX7_type 2 (some (.char)) 1 := ⟨⟨q966, q968, q979, q980, q102, q981⟩, Or.inr q967, by decide, by decide, by decide +kernel⟩
theorem cw_X5_41 : CS "TableCatalog$Formula" 41 yX5_joined cX5_joined 3 (some (.char)) 3 := ⟨⟨q992, q993, q100, q994⟩, by decide, by decide, by decide +kernel⟩
theorem cu_X5_45_X12 : CU "TableCatalog$Formula" 45 "TableCatalog$Known" ⟨"TableCatalog$Checker", "wrong", "(I)V"⟩ yX11_wrong cX11_wrong 2 none 1 := ⟨⟨q995, q975, q976, q974, q107, q977⟩, Or.inl ⟨q974, _, _, _, q977⟩, by decide, by decide, by decide +kernel⟩
theorem cu_X5_33_X9 : CU "TableCatalog$Formula" 33 "TableCatalog$Part" ⟨"TableCatalog$Term", "type", "(LTableCatalog$Checker;)C"⟩ yX9_type cX9_type 2 (some (.char)) 1 := ⟨⟨q966, q968, q982, q983, q104, q984⟩, Or.inr q967, by decide, by decide, by decide +kernel⟩
theorem cu_X5_33_X8 : CU "TableCatalog$Formula" 33 "TableCatalog$Call" ⟨"TableCatalog$Term", "type", "(LTableCatalog$Checker;)C"⟩ yX8_type cX8_type 3 (some (.char)) 1 := ⟨⟨q966, q968, q969, q970, q103, q971⟩, Or.inr q967, by decide, by decide, by decide +kernel⟩
def f_X5_type_n18 (kf : Nat → Option Nat → HS → Option (Int32 × HS)) (a0 : Nat) : Nat → Option Nat → Int32 → Int32 → HS → Option (Int32 × HS)
  | 0, _, _, _, _ => none
  | n + 1, r1, x2, x3, S =>
    (g_fR S 5 113 a0).bind fun q1 =>
    (q1).bind fun a2 =>
    (g_cls S 12 a2).bind fun u3 =>
    o_bd (f_J5_size a2 S) fun v5 T4 =>
    if v5 ≤ x3 then
      if vp_nar .char x2 = x2 then
        some (x2, T4)
      else
        none
    else
      (g_fR T4 5 113 a0).bind fun q6 =>
      (q6).bind fun a7 =>
      (g_cls T4 12 a7).bind fun u8 =>
      o_bd (f_J5_get a7 x3 T4) fun q10 T9 =>
      (g_cast T9 [6, 8, 7] q10).bind fun u11 =>
      (q10).bind fun a12 =>
      if h_cl T9 a12 = 6 then
        o_bd (f_X7_type a12 r1 T9) fun v14 T13 =>
        (g_fR T13 5 114 a0).bind fun q15 =>
        (q15).bind fun a16 =>
        (g_aI T13 31 a16 x3).bind fun v17 =>
        (f_X5_joined x2 v17 v14).bind fun v18 =>
        if v18 = 0 then
          (g_fR T13 5 115 a0).bind fun q19 =>
          (q19).bind fun a20 =>
          (g_aI T13 31 a20 x3).bind fun v21 =>
          (r1).bind fun a22 =>
          if h_cl T13 a22 = 10 then
            (f_X11_wrong a22 v21 T13).bind fun T23 =>
            (fun r1 x2 x3 S => f_X5_type_n18 kf a0 n r1 x2 x3 S) (some a22) (63) (x3 + (1)) T23
          else
            none
        else
          (fun r1 x2 x3 S => f_X5_type_n18 kf a0 n r1 x2 x3 S) r1 v18 (x3 + (1)) T13
      else
        if h_cl T9 a12 = 8 then
          o_bd (f_X9_type a12 r1 T9) fun v25 T24 =>
          (g_fR T24 5 114 a0).bind fun q26 =>
          (q26).bind fun a27 =>
          (g_aI T24 31 a27 x3).bind fun v28 =>
          (f_X5_joined x2 v28 v25).bind fun v29 =>
          if v29 = 0 then
            (g_fR T24 5 115 a0).bind fun q30 =>
            (q30).bind fun a31 =>
            (g_aI T24 31 a31 x3).bind fun v32 =>
            (r1).bind fun a33 =>
            if h_cl T24 a33 = 10 then
              (f_X11_wrong a33 v32 T24).bind fun T34 =>
              (fun r1 x2 x3 S => f_X5_type_n18 kf a0 n r1 x2 x3 S) (some a33) (63) (x3 + (1)) T34
            else
              none
          else
            (fun r1 x2 x3 S => f_X5_type_n18 kf a0 n r1 x2 x3 S) r1 v29 (x3 + (1)) T24
        else
          if h_cl T9 a12 = 7 then
            o_bd (f_X8_type kf a12 r1 T9) fun v36 T35 =>
            (g_fR T35 5 114 a0).bind fun q37 =>
            (q37).bind fun a38 =>
            (g_aI T35 31 a38 x3).bind fun v39 =>
            (f_X5_joined x2 v39 v36).bind fun v40 =>
            if v40 = 0 then
              (g_fR T35 5 115 a0).bind fun q41 =>
              (q41).bind fun a42 =>
              (g_aI T35 31 a42 x3).bind fun v43 =>
              (r1).bind fun a44 =>
              if h_cl T35 a44 = 10 then
                (f_X11_wrong a44 v43 T35).bind fun T45 =>
                (fun r1 x2 x3 S => f_X5_type_n18 kf a0 n r1 x2 x3 S) (some a44) (63) (x3 + (1)) T45
              else
                none
            else
              (fun r1 x2 x3 S => f_X5_type_n18 kf a0 n r1 x2 x3 S) r1 v40 (x3 + (1)) T35
          else
            none
def f_X5_type_b (kf : Nat → Option Nat → HS → Option (Int32 × HS)) (a0 : Nat) (r1 : Option Nat) (S : HS) : Option (Int32 × HS) :=
  (g_fR S 5 113 a0).bind fun q1 =>
  (q1).bind fun a2 =>
  (g_cls S 12 a2).bind fun u3 =>
  o_bd (f_J5_get a2 (0) S) fun q5 T4 =>
  (g_cast T4 [6, 8, 7] q5).bind fun u6 =>
  (q5).bind fun a7 =>
  if h_cl T4 a7 = 6 then
    o_bd (f_X7_type a7 r1 T4) fun v9 T8 =>
    f_X5_type_n18 kf a0 fu_ r1 v9 (1) T8
  else
    if h_cl T4 a7 = 8 then
      o_bd (f_X9_type a7 r1 T4) fun v11 T10 =>
      f_X5_type_n18 kf a0 fu_ r1 v11 (1) T10
    else
      if h_cl T4 a7 = 7 then
        o_bd (f_X8_type kf a7 r1 T4) fun v13 T12 =>
        f_X5_type_n18 kf a0 fu_ r1 v13 (1) T12
      else
        none
def f_X5_type : Nat → Nat → Option Nat → HS → Option (Int32 × HS)
  | 0, _, _, _ => none
  | d + 1, a0, r1, S => f_X5_type_b (f_X5_type d) a0 r1 S
set_option maxRecDepth 100000 in
set_option maxHeartbeats 2000000 in
theorem w_X5_type_n18 {f : CfT} {mo : MO} {a0 : Nat} {r : Int32} {S1 : HS} {frK loK : Nat} {kf : Nat → Option Nat → HS → Option (Int32 × HS)} (hc : cf_cc f = cX5_type) (ho : cf_ow f = "TableCatalog$Formula") (hnL : cf_nL f = 5) (hrm : cf_rm f = ((frK + 4), (loK + 124))) (hre : cf_re f = (some (.char))) (hct : cf_ct f = false) (hq : Qok f (some (vi r)) S1 mo) (hkf : ∀ {l : Launch} {g : PG} {mo : MO} {a : Nat} {p0 : Option Nat} {S : HS} {S1 : HS} {r : Int32}, kf a p0 S = some (r, S1) → (h_nx S ≤ h_nx S1 ∧ h_sl S ≤ h_sl S1) ∧ Ct l g yX5_type (ws_ yX5_type cX5_type 5 (some (.char))) frK loK S mo [vr (some a), vr p0] (some (vi r)) S1 mo) : ∀ (n : Nat) (r1 : Option Nat) (x2 : Int32) (x3 : Int32) (S : HS), f_X5_type_n18 kf a0 n r1 x2 x3 S = some (r, S1) → JJ f S mo 18 [(0, vr (some a0)), (1, vr r1), (2, vi x2), (3, vi x3)] [] := by
  intro n
  induction n with
  | zero =>
    intro r1 x2 x3 S hf
    have hf : (none : Option (Int32 × HS)) = some (r, S1) := hf
    cases hf
  | succ n ih =>
    intro r1 x2 x3 S hf
    unfold f_X5_type_n18 at hf
    have hk_18 := ih
    refine j_iload_n (pc := 18) hc dX5_type_18 3 rfl rfl ?_
    refine j_aload_n (pc := 19) hc dX5_type_19 0 rfl rfl ?_
    obtain ⟨q1, eq1, hf1⟩ := ob_i hf
    clear hf
    refine j_getR (pc := 20) hc ho fa_X5_14_5 dX5_type_20 eq1 ?_
    obtain ⟨a2, ea2, hf2⟩ := ob_i hf1
    clear hf1
    subst ea2
    obtain ⟨u3, eu3, hf3⟩ := ob_i hf2
    clear hf2
    obtain ⟨v5, T4, ev5, hf4⟩ := ob_c hf3
    clear hf3
    refine j_callV (pc := 23) (As := []) (rest := [vi x3]) (st2 := [vi v5, vi x3]) hc ho cw_X5_37 (c_J5_size ev5) (Rc.of (g_cls_ok eu3) (by decide) (by decide) ci_J5) hrm ⟨by omega, by omega⟩ rfl (Nat.le_of_ble_eq_true rfl) dX5_type_23 rfl rfl ?_
    refine j_icmp_ge (pc := 26) hc dX5_type_26 (tgt := 85) rfl (fun hh => ?_) (fun hh => ?_)
    · have hf5 := (if_pos hh).symm.trans hf4
      clear hf4
      refine j_iload_n (pc := 85) hc dX5_type_85 2 rfl rfl ?_
      by_cases hh : vp_nar .char x2 = x2
      · have hf6 := (if_pos hh).symm.trans hf5
        clear hf5
        cases hf6
        exact j_iret (pc := 86) hc hq hre (nar_c hh) dX5_type_86
      · have hf7 := (if_neg hh).symm.trans hf5
        clear hf5
        cases hf7
    · have hf8 := (if_neg hh).symm.trans hf4
      clear hf4
      refine j_aload_n (pc := 29) hc dX5_type_29 0 rfl rfl ?_
      obtain ⟨q6, eq6, hf9⟩ := ob_i hf8
      clear hf8
      refine j_getR (pc := 30) hc ho fa_X5_14_5 dX5_type_30 eq6 ?_
      refine j_iload_n (pc := 33) hc dX5_type_33 3 rfl rfl ?_
      obtain ⟨a7, ea7, hf10⟩ := ob_i hf9
      clear hf9
      subst ea7
      obtain ⟨u8, eu8, hf11⟩ := ob_i hf10
      clear hf10
      obtain ⟨q10, T9, eq10, hf12⟩ := ob_c hf11
      clear hf11
      refine j_callV (pc := 34) (As := [vi x3]) (rest := []) (st2 := [vr q10]) hc ho cw_X5_27 (c_J5_get eq10) (Rc.of (g_cls_ok eu8) (by decide) (by decide) ci_J5) hrm ⟨by omega, by omega⟩ rfl (Nat.le_of_ble_eq_true rfl) dX5_type_34 rfl rfl ?_
      obtain ⟨u11, eu11, hf13⟩ := ob_i hf12
      clear hf12
      refine j_ccast (pc := 37) hc ho fc_X5_31_6_8_7 dX5_type_37 eu11 ?_
      refine j_aload_n (pc := 40) hc dX5_type_40 1 rfl rfl ?_
      obtain ⟨a12, ea12, hf14⟩ := ob_i hf13
      clear hf13
      subst ea12
      by_cases hk : h_cl T9 a12 = 6
      · have hf15 := (if_pos hk).symm.trans hf14
        clear hf14
        obtain ⟨v14, T13, ev14, hf16⟩ := ob_c hf15
        clear hf15
        refine j_callU (pc := 41) (As := [vr r1]) (rest := []) (st2 := [vi v14]) hc ho cu_X5_33_X7 (c_X7_type ev14) (Rc.of hk (by decide) (by decide) ci_X7) hrm ⟨by omega, by omega⟩ rfl (Nat.le_of_ble_eq_true rfl) dX5_type_41 rfl rfl ?_
        refine j_istore (pc := 44) (L' := [(4, vi v14), (0, vr (some a0)), (1, vr r1), (2, vi x2), (3, vi x3)]) hc dX5_type_44 hnL (by decide) rfl ?_
        refine j_iload_n (pc := 46) hc dX5_type_46 3 rfl rfl ?_
        refine j_aload_n (pc := 47) hc dX5_type_47 1 rfl rfl ?_
        obtain ⟨q15, eq15, hf17⟩ := ob_i hf16
        clear hf16
        refine j_getR (pc := 48) hc ho fa_X5_20_5 dX5_type_48 eq15 ?_
        refine j_iload_n (pc := 51) hc dX5_type_51 4 rfl rfl ?_
        obtain ⟨a16, ea16, hf18⟩ := ob_i hf17
        clear hf17
        subst ea16
        obtain ⟨v17, ev17, hf19⟩ := ob_i hf18
        clear hf18
        refine j_iald (pc := 52) hc dX5_type_52 ev17 ?_
        refine j_iload (pc := 53) hc dX5_type_53 0 rfl ?_
        obtain ⟨v18, ev18, hf20⟩ := ob_i hf19
        clear hf19
        refine j_callS (pc := 55) (As := [vi x2, vi v17, vi v14]) (rest := []) (st2 := [vi v18]) hc ho cw_X5_41 (c_X5_joined ev18) hrm ⟨by omega, by omega⟩ rfl (Nat.le_of_ble_eq_true rfl) dX5_type_55 rfl rfl ?_
        refine j_istore_n (pc := 58) (L' := [(2, vi v18), (4, vi v14), (0, vr (some a0)), (1, vr r1), (3, vi x3)]) hc dX5_type_58 rfl hnL (by decide) rfl ?_
        refine j_iload_n (pc := 59) hc dX5_type_59 0 rfl rfl ?_
        refine j_if_eq (pc := 60) hc dX5_type_60 (tgt := 66) rfl (fun hh => ?_) (fun hh => ?_)
        · have hf21 := (if_pos hh).symm.trans hf20
          clear hf20
          refine j_aload_n (pc := 66) hc dX5_type_66 3 rfl rfl ?_
          refine j_aload_n (pc := 67) hc dX5_type_67 2 rfl rfl ?_
          obtain ⟨q19, eq19, hf22⟩ := ob_i hf21
          clear hf21
          refine j_getR (pc := 68) hc ho fa_X5_24_5 dX5_type_68 eq19 ?_
          refine j_iload_n (pc := 71) hc dX5_type_71 4 rfl rfl ?_
          obtain ⟨a20, ea20, hf23⟩ := ob_i hf22
          clear hf22
          subst ea20
          obtain ⟨v21, ev21, hf24⟩ := ob_i hf23
          clear hf23
          refine j_iald (pc := 72) hc dX5_type_72 ev21 ?_
          obtain ⟨a22, ea22, hf25⟩ := ob_i hf24
          clear hf24
          subst ea22
          by_cases hk : h_cl T13 a22 = 10
          · have hf26 := (if_pos hk).symm.trans hf25
            clear hf25
            obtain ⟨T23, eT23, hf27⟩ := ob_i hf26
            clear hf26
            refine j_callU (pc := 73) (As := [vi v21]) (rest := []) (st2 := []) hc ho cu_X5_45_X12 (c_X11_wrong eT23) (Rc.of hk (by decide) (by decide) ci_X12) hrm ⟨by omega, by omega⟩ rfl (Nat.le_of_ble_eq_true rfl) dX5_type_73 rfl rfl ?_
            refine j_bipush (pc := 76) (v := (63)) hc dX5_type_76 rfl ?_
            refine j_istore_n (pc := 78) (L' := [(2, vi (63)), (4, vi v14), (0, vr (some a0)), (1, vr (some a22)), (3, vi x3)]) hc dX5_type_78 rfl hnL (by decide) rfl ?_
            refine j_iinc (pc := 79) (L' := [(3, vi (x3 + (1))), (2, vi (63)), (4, vi v14), (0, vr (some a0)), (1, vr (some a22))]) (v := (x3 + (1))) hc dX5_type_79 4 rfl rfl hnL (by decide) rfl ?_
            refine j_goto (pc := 82) hc dX5_type_82 (tgt := 18) rfl ?_
            refine j_loc (L' := [(0, vr (some a0)), (1, vr (some a22)), (2, vi (63)), (3, vi (x3 + (1)))]) [3, 4, 1, 0] rfl ?_
            exact hk_18 _ _ _ _ hf27
          · have hf28 := (if_neg hk).symm.trans hf25
            clear hf25
            cases hf28
        · have hf29 := (if_neg hh).symm.trans hf20
          clear hf20
          refine j_goto (pc := 63) hc dX5_type_63 (tgt := 79) rfl ?_
          refine j_iinc (pc := 79) (L' := [(3, vi (x3 + (1))), (2, vi v18), (4, vi v14), (0, vr (some a0)), (1, vr r1)]) (v := (x3 + (1))) hc dX5_type_79 4 rfl rfl hnL (by decide) rfl ?_
          refine j_goto (pc := 82) hc dX5_type_82 (tgt := 18) rfl ?_
          refine j_loc (L' := [(0, vr (some a0)), (1, vr r1), (2, vi v18), (3, vi (x3 + (1)))]) [3, 4, 1, 0] rfl ?_
          exact hk_18 _ _ _ _ hf29
      · have hf30 := (if_neg hk).symm.trans hf14
        clear hf14
        by_cases hk : h_cl T9 a12 = 8
        · have hf31 := (if_pos hk).symm.trans hf30
          clear hf30
          obtain ⟨v25, T24, ev25, hf32⟩ := ob_c hf31
          clear hf31
          refine j_callU (pc := 41) (As := [vr r1]) (rest := []) (st2 := [vi v25]) hc ho cu_X5_33_X9 (c_X9_type ev25) (Rc.of hk (by decide) (by decide) ci_X9) hrm ⟨by omega, by omega⟩ rfl (Nat.le_of_ble_eq_true rfl) dX5_type_41 rfl rfl ?_
          refine j_istore (pc := 44) (L' := [(4, vi v25), (0, vr (some a0)), (1, vr r1), (2, vi x2), (3, vi x3)]) hc dX5_type_44 hnL (by decide) rfl ?_
          refine j_iload_n (pc := 46) hc dX5_type_46 3 rfl rfl ?_
          refine j_aload_n (pc := 47) hc dX5_type_47 1 rfl rfl ?_
          obtain ⟨q26, eq26, hf33⟩ := ob_i hf32
          clear hf32
          refine j_getR (pc := 48) hc ho fa_X5_20_5 dX5_type_48 eq26 ?_
          refine j_iload_n (pc := 51) hc dX5_type_51 4 rfl rfl ?_
          obtain ⟨a27, ea27, hf34⟩ := ob_i hf33
          clear hf33
          subst ea27
          obtain ⟨v28, ev28, hf35⟩ := ob_i hf34
          clear hf34
          refine j_iald (pc := 52) hc dX5_type_52 ev28 ?_
          refine j_iload (pc := 53) hc dX5_type_53 0 rfl ?_
          obtain ⟨v29, ev29, hf36⟩ := ob_i hf35
          clear hf35
          refine j_callS (pc := 55) (As := [vi x2, vi v28, vi v25]) (rest := []) (st2 := [vi v29]) hc ho cw_X5_41 (c_X5_joined ev29) hrm ⟨by omega, by omega⟩ rfl (Nat.le_of_ble_eq_true rfl) dX5_type_55 rfl rfl ?_
          refine j_istore_n (pc := 58) (L' := [(2, vi v29), (4, vi v25), (0, vr (some a0)), (1, vr r1), (3, vi x3)]) hc dX5_type_58 rfl hnL (by decide) rfl ?_
          refine j_iload_n (pc := 59) hc dX5_type_59 0 rfl rfl ?_
          refine j_if_eq (pc := 60) hc dX5_type_60 (tgt := 66) rfl (fun hh => ?_) (fun hh => ?_)
          · have hf37 := (if_pos hh).symm.trans hf36
            clear hf36
            refine j_aload_n (pc := 66) hc dX5_type_66 3 rfl rfl ?_
            refine j_aload_n (pc := 67) hc dX5_type_67 2 rfl rfl ?_
            obtain ⟨q30, eq30, hf38⟩ := ob_i hf37
            clear hf37
            refine j_getR (pc := 68) hc ho fa_X5_24_5 dX5_type_68 eq30 ?_
            refine j_iload_n (pc := 71) hc dX5_type_71 4 rfl rfl ?_
            obtain ⟨a31, ea31, hf39⟩ := ob_i hf38
            clear hf38
            subst ea31
            obtain ⟨v32, ev32, hf40⟩ := ob_i hf39
            clear hf39
            refine j_iald (pc := 72) hc dX5_type_72 ev32 ?_
            obtain ⟨a33, ea33, hf41⟩ := ob_i hf40
            clear hf40
            subst ea33
            by_cases hk : h_cl T24 a33 = 10
            · have hf42 := (if_pos hk).symm.trans hf41
              clear hf41
              obtain ⟨T34, eT34, hf43⟩ := ob_i hf42
              clear hf42
              refine j_callU (pc := 73) (As := [vi v32]) (rest := []) (st2 := []) hc ho cu_X5_45_X12 (c_X11_wrong eT34) (Rc.of hk (by decide) (by decide) ci_X12) hrm ⟨by omega, by omega⟩ rfl (Nat.le_of_ble_eq_true rfl) dX5_type_73 rfl rfl ?_
              refine j_bipush (pc := 76) (v := (63)) hc dX5_type_76 rfl ?_
              refine j_istore_n (pc := 78) (L' := [(2, vi (63)), (4, vi v25), (0, vr (some a0)), (1, vr (some a33)), (3, vi x3)]) hc dX5_type_78 rfl hnL (by decide) rfl ?_
              refine j_iinc (pc := 79) (L' := [(3, vi (x3 + (1))), (2, vi (63)), (4, vi v25), (0, vr (some a0)), (1, vr (some a33))]) (v := (x3 + (1))) hc dX5_type_79 4 rfl rfl hnL (by decide) rfl ?_
              refine j_goto (pc := 82) hc dX5_type_82 (tgt := 18) rfl ?_
              refine j_loc (L' := [(0, vr (some a0)), (1, vr (some a33)), (2, vi (63)), (3, vi (x3 + (1)))]) [3, 4, 1, 0] rfl ?_
              exact hk_18 _ _ _ _ hf43
            · have hf44 := (if_neg hk).symm.trans hf41
              clear hf41
              cases hf44
          · have hf45 := (if_neg hh).symm.trans hf36
            clear hf36
            refine j_goto (pc := 63) hc dX5_type_63 (tgt := 79) rfl ?_
            refine j_iinc (pc := 79) (L' := [(3, vi (x3 + (1))), (2, vi v29), (4, vi v25), (0, vr (some a0)), (1, vr r1)]) (v := (x3 + (1))) hc dX5_type_79 4 rfl rfl hnL (by decide) rfl ?_
            refine j_goto (pc := 82) hc dX5_type_82 (tgt := 18) rfl ?_
            refine j_loc (L' := [(0, vr (some a0)), (1, vr r1), (2, vi v29), (3, vi (x3 + (1)))]) [3, 4, 1, 0] rfl ?_
            exact hk_18 _ _ _ _ hf45
        · have hf46 := (if_neg hk).symm.trans hf30
          clear hf30
          by_cases hk : h_cl T9 a12 = 7
          · have hf47 := (if_pos hk).symm.trans hf46
            clear hf46
            obtain ⟨v36, T35, ev36, hf48⟩ := ob_c hf47
            clear hf47
            refine j_callU (pc := 41) (As := [vr r1]) (rest := []) (st2 := [vi v36]) hc ho cu_X5_33_X8 (c_X8_type hkf ev36) (Rc.of hk (by decide) (by decide) ci_X8) hrm ⟨by omega, by omega⟩ rfl (Nat.le_of_ble_eq_true rfl) dX5_type_41 rfl rfl ?_
            refine j_istore (pc := 44) (L' := [(4, vi v36), (0, vr (some a0)), (1, vr r1), (2, vi x2), (3, vi x3)]) hc dX5_type_44 hnL (by decide) rfl ?_
            refine j_iload_n (pc := 46) hc dX5_type_46 3 rfl rfl ?_
            refine j_aload_n (pc := 47) hc dX5_type_47 1 rfl rfl ?_
            obtain ⟨q37, eq37, hf49⟩ := ob_i hf48
            clear hf48
            refine j_getR (pc := 48) hc ho fa_X5_20_5 dX5_type_48 eq37 ?_
            refine j_iload_n (pc := 51) hc dX5_type_51 4 rfl rfl ?_
            obtain ⟨a38, ea38, hf50⟩ := ob_i hf49
            clear hf49
            subst ea38
            obtain ⟨v39, ev39, hf51⟩ := ob_i hf50
            clear hf50
            refine j_iald (pc := 52) hc dX5_type_52 ev39 ?_
            refine j_iload (pc := 53) hc dX5_type_53 0 rfl ?_
            obtain ⟨v40, ev40, hf52⟩ := ob_i hf51
            clear hf51
            refine j_callS (pc := 55) (As := [vi x2, vi v39, vi v36]) (rest := []) (st2 := [vi v40]) hc ho cw_X5_41 (c_X5_joined ev40) hrm ⟨by omega, by omega⟩ rfl (Nat.le_of_ble_eq_true rfl) dX5_type_55 rfl rfl ?_
            refine j_istore_n (pc := 58) (L' := [(2, vi v40), (4, vi v36), (0, vr (some a0)), (1, vr r1), (3, vi x3)]) hc dX5_type_58 rfl hnL (by decide) rfl ?_
            refine j_iload_n (pc := 59) hc dX5_type_59 0 rfl rfl ?_
            refine j_if_eq (pc := 60) hc dX5_type_60 (tgt := 66) rfl (fun hh => ?_) (fun hh => ?_)
            · have hf53 := (if_pos hh).symm.trans hf52
              clear hf52
              refine j_aload_n (pc := 66) hc dX5_type_66 3 rfl rfl ?_
              refine j_aload_n (pc := 67) hc dX5_type_67 2 rfl rfl ?_
              obtain ⟨q41, eq41, hf54⟩ := ob_i hf53
              clear hf53
              refine j_getR (pc := 68) hc ho fa_X5_24_5 dX5_type_68 eq41 ?_
              refine j_iload_n (pc := 71) hc dX5_type_71 4 rfl rfl ?_
              obtain ⟨a42, ea42, hf55⟩ := ob_i hf54
              clear hf54
              subst ea42
              obtain ⟨v43, ev43, hf56⟩ := ob_i hf55
              clear hf55
              refine j_iald (pc := 72) hc dX5_type_72 ev43 ?_
              obtain ⟨a44, ea44, hf57⟩ := ob_i hf56
              clear hf56
              subst ea44
              by_cases hk : h_cl T35 a44 = 10
              · have hf58 := (if_pos hk).symm.trans hf57
                clear hf57
                obtain ⟨T45, eT45, hf59⟩ := ob_i hf58
                clear hf58
                refine j_callU (pc := 73) (As := [vi v43]) (rest := []) (st2 := []) hc ho cu_X5_45_X12 (c_X11_wrong eT45) (Rc.of hk (by decide) (by decide) ci_X12) hrm ⟨by omega, by omega⟩ rfl (Nat.le_of_ble_eq_true rfl) dX5_type_73 rfl rfl ?_
                refine j_bipush (pc := 76) (v := (63)) hc dX5_type_76 rfl ?_
                refine j_istore_n (pc := 78) (L' := [(2, vi (63)), (4, vi v36), (0, vr (some a0)), (1, vr (some a44)), (3, vi x3)]) hc dX5_type_78 rfl hnL (by decide) rfl ?_
                refine j_iinc (pc := 79) (L' := [(3, vi (x3 + (1))), (2, vi (63)), (4, vi v36), (0, vr (some a0)), (1, vr (some a44))]) (v := (x3 + (1))) hc dX5_type_79 4 rfl rfl hnL (by decide) rfl ?_
                refine j_goto (pc := 82) hc dX5_type_82 (tgt := 18) rfl ?_
                refine j_loc (L' := [(0, vr (some a0)), (1, vr (some a44)), (2, vi (63)), (3, vi (x3 + (1)))]) [3, 4, 1, 0] rfl ?_
                exact hk_18 _ _ _ _ hf59
              · have hf60 := (if_neg hk).symm.trans hf57
                clear hf57
                cases hf60
            · have hf61 := (if_neg hh).symm.trans hf52
              clear hf52
              refine j_goto (pc := 63) hc dX5_type_63 (tgt := 79) rfl ?_
              refine j_iinc (pc := 79) (L' := [(3, vi (x3 + (1))), (2, vi v40), (4, vi v36), (0, vr (some a0)), (1, vr r1)]) (v := (x3 + (1))) hc dX5_type_79 4 rfl rfl hnL (by decide) rfl ?_
              refine j_goto (pc := 82) hc dX5_type_82 (tgt := 18) rfl ?_
              refine j_loc (L' := [(0, vr (some a0)), (1, vr r1), (2, vi v40), (3, vi (x3 + (1)))]) [3, 4, 1, 0] rfl ?_
              exact hk_18 _ _ _ _ hf61
          · have hf62 := (if_neg hk).symm.trans hf46
            clear hf46
            cases hf62
set_option maxRecDepth 100000 in
set_option maxHeartbeats 2000000 in
theorem c_X5_type_b {l : Launch} {g : PG} {mo : MO} {a0 : Nat} {r1 : Option Nat} {r : Int32} {S S1 : HS} {frK loK : Nat} {kf : Nat → Option Nat → HS → Option (Int32 × HS)} (hkf : ∀ {l : Launch} {g : PG} {mo : MO} {a : Nat} {p0 : Option Nat} {S : HS} {S1 : HS} {r : Int32}, kf a p0 S = some (r, S1) → (h_nx S ≤ h_nx S1 ∧ h_sl S ≤ h_sl S1) ∧ Ct l g yX5_type (ws_ yX5_type cX5_type 5 (some (.char))) frK loK S mo [vr (some a), vr p0] (some (vi r)) S1 mo) (hf : f_X5_type_b kf a0 r1 S = some (r, S1)) : (h_nx S ≤ h_nx S1 ∧ h_sl S ≤ h_sl S1) ∧ Ct l g yX5_type (ws_ yX5_type cX5_type 5 (some (.char))) (frK + 4) (loK + 124) S mo [vr (some a0), vr r1] (some (vi r)) S1 mo := by
  refine met_of false (by decide) (fun h => by first | rfl | cases h) rfl (Nat.le_of_ble_eq_true rfl) (fun f hl hg hc ho hnL hrm hre hct hex hq => ?_)
  subst hl
  subst hg
  unfold f_X5_type_b at hf
  refine j_aload_n (pc := 0) hc dX5_type_0 0 rfl rfl ?_
  obtain ⟨q1, eq1, hf1⟩ := ob_i hf
  clear hf
  refine j_getR (pc := 1) hc ho fa_X5_14_5 dX5_type_1 eq1 ?_
  refine j_iconst (pc := 4) (v := (0)) hc dX5_type_4 rfl ?_
  obtain ⟨a2, ea2, hf2⟩ := ob_i hf1
  clear hf1
  subst ea2
  obtain ⟨u3, eu3, hf3⟩ := ob_i hf2
  clear hf2
  obtain ⟨q5, T4, eq5, hf4⟩ := ob_c hf3
  clear hf3
  refine j_callV (pc := 5) (As := [vi (0)]) (rest := []) (st2 := [vr q5]) hc ho cw_X5_27 (c_J5_get eq5) (Rc.of (g_cls_ok eu3) (by decide) (by decide) ci_J5) hrm ⟨by omega, by omega⟩ rfl (Nat.le_of_ble_eq_true rfl) dX5_type_5 rfl rfl ?_
  obtain ⟨u6, eu6, hf5⟩ := ob_i hf4
  clear hf4
  refine j_ccast (pc := 8) hc ho fc_X5_31_6_8_7 dX5_type_8 eu6 ?_
  refine j_aload_n (pc := 11) hc dX5_type_11 1 rfl rfl ?_
  obtain ⟨a7, ea7, hf6⟩ := ob_i hf5
  clear hf5
  subst ea7
  by_cases hk : h_cl T4 a7 = 6
  · have hf7 := (if_pos hk).symm.trans hf6
    clear hf6
    obtain ⟨v9, T8, ev9, hf8⟩ := ob_c hf7
    clear hf7
    refine j_callU (pc := 12) (As := [vr r1]) (rest := []) (st2 := [vi v9]) hc ho cu_X5_33_X7 (c_X7_type ev9) (Rc.of hk (by decide) (by decide) ci_X7) hrm ⟨by omega, by omega⟩ rfl (Nat.le_of_ble_eq_true rfl) dX5_type_12 rfl rfl ?_
    refine j_istore_n (pc := 15) (L' := [(2, vi v9), (0, vr (some a0)), (1, vr r1)]) hc dX5_type_15 rfl hnL (by decide) rfl ?_
    refine j_iconst (pc := 16) (v := (1)) hc dX5_type_16 rfl ?_
    refine j_istore_n (pc := 17) (L' := [(3, vi (1)), (2, vi v9), (0, vr (some a0)), (1, vr r1)]) hc dX5_type_17 rfl hnL (by decide) rfl ?_
    refine j_loc (L' := [(0, vr (some a0)), (1, vr r1), (2, vi v9), (3, vi (1))]) [2, 3, 1, 0] rfl ?_
    exact w_X5_type_n18 hc ho hnL hrm hre hct hq hkf fu_ _ _ _ _ hf8
  · have hf9 := (if_neg hk).symm.trans hf6
    clear hf6
    by_cases hk : h_cl T4 a7 = 8
    · have hf10 := (if_pos hk).symm.trans hf9
      clear hf9
      obtain ⟨v11, T10, ev11, hf11⟩ := ob_c hf10
      clear hf10
      refine j_callU (pc := 12) (As := [vr r1]) (rest := []) (st2 := [vi v11]) hc ho cu_X5_33_X9 (c_X9_type ev11) (Rc.of hk (by decide) (by decide) ci_X9) hrm ⟨by omega, by omega⟩ rfl (Nat.le_of_ble_eq_true rfl) dX5_type_12 rfl rfl ?_
      refine j_istore_n (pc := 15) (L' := [(2, vi v11), (0, vr (some a0)), (1, vr r1)]) hc dX5_type_15 rfl hnL (by decide) rfl ?_
      refine j_iconst (pc := 16) (v := (1)) hc dX5_type_16 rfl ?_
      refine j_istore_n (pc := 17) (L' := [(3, vi (1)), (2, vi v11), (0, vr (some a0)), (1, vr r1)]) hc dX5_type_17 rfl hnL (by decide) rfl ?_
      refine j_loc (L' := [(0, vr (some a0)), (1, vr r1), (2, vi v11), (3, vi (1))]) [2, 3, 1, 0] rfl ?_
      exact w_X5_type_n18 hc ho hnL hrm hre hct hq hkf fu_ _ _ _ _ hf11
    · have hf12 := (if_neg hk).symm.trans hf9
      clear hf9
      by_cases hk : h_cl T4 a7 = 7
      · have hf13 := (if_pos hk).symm.trans hf12
        clear hf12
        obtain ⟨v13, T12, ev13, hf14⟩ := ob_c hf13
        clear hf13
        refine j_callU (pc := 12) (As := [vr r1]) (rest := []) (st2 := [vi v13]) hc ho cu_X5_33_X8 (c_X8_type hkf ev13) (Rc.of hk (by decide) (by decide) ci_X8) hrm ⟨by omega, by omega⟩ rfl (Nat.le_of_ble_eq_true rfl) dX5_type_12 rfl rfl ?_
        refine j_istore_n (pc := 15) (L' := [(2, vi v13), (0, vr (some a0)), (1, vr r1)]) hc dX5_type_15 rfl hnL (by decide) rfl ?_
        refine j_iconst (pc := 16) (v := (1)) hc dX5_type_16 rfl ?_
        refine j_istore_n (pc := 17) (L' := [(3, vi (1)), (2, vi v13), (0, vr (some a0)), (1, vr r1)]) hc dX5_type_17 rfl hnL (by decide) rfl ?_
        refine j_loc (L' := [(0, vr (some a0)), (1, vr r1), (2, vi v13), (3, vi (1))]) [2, 3, 1, 0] rfl ?_
        exact w_X5_type_n18 hc ho hnL hrm hre hct hq hkf fu_ _ _ _ _ hf14
      · have hf15 := (if_neg hk).symm.trans hf12
        clear hf12
        cases hf15
theorem cd_X5_type : ∀ (d : Nat) {l : Launch} {g : PG} {mo : MO} {a0 : Nat} {r1 : Option Nat} {r : Int32} {S S1 : HS} , f_X5_type d a0 r1 S = some (r, S1) → (h_nx S ≤ h_nx S1 ∧ h_sl S ≤ h_sl S1) ∧ Ct l g yX5_type (ws_ yX5_type cX5_type 5 (some (.char))) (4 * d) (124 * d) S mo [vr (some a0), vr r1] (some (vi r)) S1 mo := by
  intro d
  induction d with
  | zero =>
    intro l g mo a0 r1 r S S1 hf
    have hf : (none : Option (Int32 × HS)) = some (r, S1) := hf
    cases hf
  | succ d ih =>
    intro l g mo a0 r1 r S S1 hf
    have h9 := c_X5_type_b (l := l) (g := g) (mo := mo) (frK := 4 * d) (loK := 124 * d) (kf := f_X5_type d) (fun {l g mo a p0 S S1 r} h => ih h) hf
    exact h9
theorem c_X5_type (d : Nat) {l : Launch} {g : PG} {mo : MO} {a0 : Nat} {r1 : Option Nat} {r : Int32} {S S1 : HS} (hf : f_X5_type d a0 r1 S = some (r, S1)) : (h_nx S ≤ h_nx S1 ∧ h_sl S ≤ h_sl S1) ∧ Ct l g yX5_type (ws_ yX5_type cX5_type 5 (some (.char))) (4 * d) (124 * d) S mo [vr (some a0), vr r1] (some (vi r)) S1 mo := cd_X5_type d hf
theorem CI_X10 : CI 9 RX10 TX10 3 tyX10 := ⟨ci_X10, by decide, by decide, in_X10, tyX10_ok, nmX10⟩
theorem fa_X10_1_9 : FA "TableCatalog$Wrongs" 1 9 2 127 (.object "TableCatalog") 2 := ⟨RX10, TX10, 3, tyX10, 2, "TableCatalog$Wrongs", CI_X10, by decide, rfl, rfl, by decide +kernel, Or.inl ⟨q868, fun _ => ⟨rfl, rfl⟩⟩, fun h => (by cases h), Or.inl rfl⟩
theorem fa_X10_16_9 : FA "TableCatalog$Wrongs" 16 9 0 126 (.int) 1 := ⟨RX10, TX10, 3, tyX10, 1, "TableCatalog$Wrongs", CI_X10, by decide, rfl, rfl, by decide +kernel, Or.inl ⟨q866, fun h => (by cases h)⟩, fun _ => rfl, Or.inl rfl⟩
def f_X10_init (a0 : Nat) (r1 : Option Nat) (S : HS) : Option HS :=
  (p_fR S 9 127 a0 r1).bind fun T1 =>
  (p_fI T1 9 126 a0 (2147483647)).bind fun T2 =>
  some T2
set_option maxRecDepth 100000 in
set_option maxHeartbeats 2000000 in
theorem c_X10_init {l : Launch} {g : PG} {mo : MO} {a0 : Nat} {r1 : Option Nat} {S S1 : HS} (hf : f_X10_init a0 r1 S = some S1) : (h_nx S ≤ h_nx S1 ∧ h_sl S ≤ h_sl S1) ∧ Ct l g yX10_init (ws_ yX10_init cX10_init 2 none) 1 60 S mo [vr (some a0), vr r1] none S1 mo := by
  refine met_of true (by decide) (fun h => by first | rfl | cases h) rfl (Nat.le_of_ble_eq_true rfl) (fun f hl hg hc ho hnL hrm hre hct hex hq => ?_)
  subst hl
  subst hg
  unfold f_X10_init at hf
  refine j_aload_n (pc := 0) hc dX10_init_0 0 rfl rfl ?_
  refine j_aload_n (pc := 1) hc dX10_init_1 1 rfl rfl ?_
  obtain ⟨T1, eT1, hf1⟩ := ob_i hf
  clear hf
  refine j_putR (pc := 2) hc ho fa_X10_1_9 rfl (Or.inr ⟨rfl, hct⟩) dX10_init_2 eT1 ?_
  refine j_aload_n (pc := 5) hc dX10_init_5 0 rfl rfl ?_
  refine j_oini (pc := 6) hc ho q862 q_oi1 q_oi2 hrm ⟨by decide, Nat.le_of_ble_eq_true rfl⟩ dX10_init_6 ?_
  refine j_aload_n (pc := 9) hc dX10_init_9 0 rfl rfl ?_
  refine j_ldc (pc := 10) hc ho q863 dX10_init_10 ?_
  obtain ⟨T2, eT2, hf2⟩ := ob_i hf1
  clear hf1
  refine j_putI (pc := 12) hc ho fa_X10_16_9 (Or.inl rfl) dX10_init_12 eT2 ?_
  cases hf2
  exact j_vret (pc := 15) hc hq hre dX10_init_15
theorem fa_X10_20_9 : FA "TableCatalog$Wrongs" 20 9 0 125 (.int) 1 := ⟨RX10, TX10, 3, tyX10, 0, "TableCatalog$Wrongs", CI_X10, by decide, rfl, rfl, by decide +kernel, Or.inl ⟨q864, fun h => (by cases h)⟩, fun _ => rfl, Or.inl rfl⟩
def f_X10_is (a0 : Nat) (x1 : Int32) (x2 : Int32) (S : HS) : Option HS :=
  (g_fI S 9 126 a0).bind fun v1 =>
  if x2 < v1 then
    (p_fI S 9 125 a0 x1).bind fun T2 =>
    (p_fI T2 9 126 a0 x2).bind fun T3 =>
    some T3
  else
    some S
set_option maxRecDepth 100000 in
set_option maxHeartbeats 2000000 in
theorem c_X10_is {l : Launch} {g : PG} {mo : MO} {a0 : Nat} {x1 : Int32} {x2 : Int32} {S S1 : HS} (hf : f_X10_is a0 x1 x2 S = some S1) : (h_nx S ≤ h_nx S1 ∧ h_sl S ≤ h_sl S1) ∧ Ct l g yX10_is (ws_ yX10_is cX10_is 3 none) 1 60 S mo [vr (some a0), vi x1, vi x2] none S1 mo := by
  refine met_of false (by decide) (fun h => by first | rfl | cases h) rfl (Nat.le_of_ble_eq_true rfl) (fun f hl hg hc ho hnL hrm hre hct hex hq => ?_)
  subst hl
  subst hg
  unfold f_X10_is at hf
  refine j_iload_n (pc := 0) hc dX10_is_0 2 rfl rfl ?_
  refine j_aload_n (pc := 1) hc dX10_is_1 0 rfl rfl ?_
  obtain ⟨v1, ev1, hf1⟩ := ob_i hf
  clear hf
  refine j_getI (pc := 2) hc ho fa_X10_16_9 dX10_is_2 ev1 ?_
  refine j_icmp_lt (pc := 5) hc dX10_is_5 (tgt := 9) rfl (fun hh => ?_) (fun hh => ?_)
  · have hf2 := (if_pos hh).symm.trans hf1
    clear hf1
    refine j_aload_n (pc := 9) hc dX10_is_9 0 rfl rfl ?_
    refine j_iload_n (pc := 10) hc dX10_is_10 1 rfl rfl ?_
    obtain ⟨T2, eT2, hf3⟩ := ob_i hf2
    clear hf2
    refine j_putI (pc := 11) hc ho fa_X10_20_9 (Or.inl rfl) dX10_is_11 eT2 ?_
    refine j_aload_n (pc := 14) hc dX10_is_14 0 rfl rfl ?_
    refine j_iload_n (pc := 15) hc dX10_is_15 2 rfl rfl ?_
    obtain ⟨T3, eT3, hf4⟩ := ob_i hf3
    clear hf3
    refine j_putI (pc := 16) hc ho fa_X10_16_9 (Or.inl rfl) dX10_is_16 eT3 ?_
    cases hf4
    exact j_vret (pc := 19) hc hq hre dX10_is_19
  · have hf5 := (if_neg hh).symm.trans hf1
    clear hf1
    cases hf5
    exact j_vret (pc := 8) hc hq hre dX10_is_8
def f_X11_init (a0 : Nat) (S : HS) : Option HS :=
  (p_fI S 10 128 a0 (2147483647)).bind fun T1 =>
  some T1
set_option maxRecDepth 100000 in
set_option maxHeartbeats 2000000 in
theorem c_X11_init {l : Launch} {g : PG} {mo : MO} {a0 : Nat} {S S1 : HS} (hf : f_X11_init a0 S = some S1) : (h_nx S ≤ h_nx S1 ∧ h_sl S ≤ h_sl S1) ∧ Ct l g yX11_init (ws_ yX11_init cX11_init 1 none) 1 60 S mo [vr (some a0)] none S1 mo := by
  refine met_of true (by decide) (fun h => by first | rfl | cases h) rfl (Nat.le_of_ble_eq_true rfl) (fun f hl hg hc ho hnL hrm hre hct hex hq => ?_)
  subst hl
  subst hg
  unfold f_X11_init at hf
  refine j_aload_n (pc := 0) hc dX11_init_0 0 rfl rfl ?_
  refine j_oini (pc := 1) hc ho q950 q_oi1 q_oi2 hrm ⟨by decide, Nat.le_of_ble_eq_true rfl⟩ dX11_init_1 ?_
  refine j_aload_n (pc := 4) hc dX11_init_4 0 rfl rfl ?_
  refine j_ldc (pc := 5) hc ho q951 dX11_init_5 ?_
  obtain ⟨T1, eT1, hf1⟩ := ob_i hf
  clear hf
  refine j_putI (pc := 7) hc ho fa_X11_10_10 (Or.inl rfl) dX11_init_7 eT1 ?_
  cases hf1
  exact j_vret (pc := 10) hc hq hre dX11_init_10
theorem cn_X12_7 : CN "TableCatalog$Known" 7 yX11_init cX11_init 1 none 0 := ⟨⟨"TableCatalog", q947, q107, q949⟩, by decide, by decide, by decide +kernel⟩
def f_X12_init (a0 : Nat) (r1 : Option Nat) (S : HS) : Option HS :=
  (p_fR S 10 129 a0 r1).bind fun T1 =>
  (f_X11_init a0 T1).bind fun T2 =>
  some T2
set_option maxRecDepth 100000 in
set_option maxHeartbeats 2000000 in
theorem c_X12_init {l : Launch} {g : PG} {mo : MO} {a0 : Nat} {r1 : Option Nat} {S S1 : HS} (hf : f_X12_init a0 r1 S = some S1) : (h_nx S ≤ h_nx S1 ∧ h_sl S ≤ h_sl S1) ∧ Ct l g yX12_init (ws_ yX12_init cX12_init 2 none) 2 80 S mo [vr (some a0), vr r1] none S1 mo := by
  refine met_of true (by decide) (fun h => by first | rfl | cases h) rfl (Nat.le_of_ble_eq_true rfl) (fun f hl hg hc ho hnL hrm hre hct hex hq => ?_)
  subst hl
  subst hg
  unfold f_X12_init at hf
  refine j_aload_n (pc := 0) hc dX12_init_0 0 rfl rfl ?_
  refine j_aload_n (pc := 1) hc dX12_init_1 1 rfl rfl ?_
  obtain ⟨T1, eT1, hf1⟩ := ob_i hf
  clear hf
  refine j_putR (pc := 2) hc ho fa_X12_1_10 rfl (Or.inr ⟨rfl, hct⟩) dX12_init_2 eT1 ?_
  refine j_aload_n (pc := 5) hc dX12_init_5 0 rfl rfl ?_
  obtain ⟨T2, eT2, hf2⟩ := ob_i hf1
  clear hf1
  refine j_callIN (pc := 6) (As := []) (rest := []) (st2 := []) hc ho cn_X12_7 rfl q948 (c_X11_init eT2) hrm ⟨by decide, by decide⟩ rfl (Nat.le_of_ble_eq_true rfl) dX12_init_6 rfl rfl ?_
  cases hf2
  exact j_vret (pc := 9) hc hq hre dX12_init_9
def f_X11_isWrong (a0 : Nat) (S : HS) : Option (Int32 × HS) :=
  (g_fI S 10 128 a0).bind fun v1 =>
  if v1 = (2147483647) then
    some ((0), S)
  else
    some ((1), S)
set_option maxRecDepth 100000 in
set_option maxHeartbeats 2000000 in
theorem c_X11_isWrong {l : Launch} {g : PG} {mo : MO} {a0 : Nat} {r : Int32} {S S1 : HS} (hf : f_X11_isWrong a0 S = some (r, S1)) : (h_nx S ≤ h_nx S1 ∧ h_sl S ≤ h_sl S1) ∧ Ct l g yX11_isWrong (ws_ yX11_isWrong cX11_isWrong 1 (some (.boolean))) 1 60 S mo [vr (some a0)] (some (vi r)) S1 mo := by
  refine met_of false (by decide) (fun h => by first | rfl | cases h) rfl (Nat.le_of_ble_eq_true rfl) (fun f hl hg hc ho hnL hrm hre hct hex hq => ?_)
  subst hl
  subst hg
  unfold f_X11_isWrong at hf
  refine j_aload_n (pc := 0) hc dX11_isWrong_0 0 rfl rfl ?_
  obtain ⟨v1, ev1, hf1⟩ := ob_i hf
  clear hf
  refine j_getI (pc := 1) hc ho fa_X11_10_10 dX11_isWrong_1 ev1 ?_
  refine j_ldc (pc := 4) hc ho q951 dX11_isWrong_4 ?_
  refine j_icmp_eq (pc := 6) hc dX11_isWrong_6 (tgt := 13) rfl (fun hh => ?_) (fun hh => ?_)
  · have hf2 := (if_pos hh).symm.trans hf1
    clear hf1
    refine j_iconst (pc := 13) (v := (0)) hc dX11_isWrong_13 rfl ?_
    cases hf2
    exact j_iret (pc := 14) hc hq hre rfl dX11_isWrong_14
  · have hf3 := (if_neg hh).symm.trans hf1
    clear hf1
    refine j_iconst (pc := 9) (v := (1)) hc dX11_isWrong_9 rfl ?_
    refine j_goto (pc := 10) hc dX11_isWrong_10 (tgt := 14) rfl ?_
    cases hf3
    exact j_iret (pc := 14) hc hq hre rfl dX11_isWrong_14
