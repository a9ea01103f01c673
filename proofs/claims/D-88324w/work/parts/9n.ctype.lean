/-! a formula's type *-/
theorem uc_cons_fl (y : Nat × Nat × Nat × List Tk) (r : List (Nat × Nat × Nat × List Tk)) : uc (fl (y :: r)) = uc y.2.2.2 ++ uc (fl r) := uc_fl_cons y r
theorem c3_ne_app {l k : Ev2} (h : ¬ c3 l = 0) : ¬ c3 (l ++ k) = 0 := by
  rw [c3_app]
  omega
theorem c3_ne_app' {l k : Ev2} (h : ¬ c3 k = 0) : ¬ c3 (l ++ k) = 0 := by
  rw [c3_app]
  omega
theorem Lst.ty {U : HS} {a x ch f : Nat} {l : List Nat} (h : Lst U a x l) : Lst (tyX U ch f) a x l := by
  obtain ⟨h1, h2, h3, h4, d, h5, h6, h7, h8, h9⟩ := h
  refine ⟨h1, h2, ?_, h4, d, h5, h6, h7, h8, h9⟩
  unfold tyX
  rw [R_fI_fI, h_st_ne _ _ (by omega)]
  exact h3
/-- what stands behind a term's type in the loop -/
def ty_tail (kf : Nat → Option Nat → HS → Option (Int32 × HS)) (a0 n : Nat) (r1 : Option Nat) (x2 x3 : Int32) (v14 : Int32) (T13 : HS) : Option (Int32 × HS) :=
  (g_fR T13 5 114 a0).bind fun q15 =>
  (q15).bind fun a16 =>
  (g_aI T13 31 a16 x3).bind fun v17 =>
  (f_X5_joined x2 v17 v14).bind fun v18 =>
  if v18 = 0 then
    (g_fR T13 5 115 a0).bind fun q19 =>
    (q19).bind fun a20 =>
    (g_aI T13 31 a20 x3).bind fun v21 =>
    (r1).bind fun a22 =>
    if h_cl T13 a22 = 10 then
      (f_X11_wrong a22 v21 T13).bind fun T23 =>
      (fun r1 x2 x3 S => f_X5_type_n18 kf a0 n r1 x2 x3 S) (some a22) (63) (x3 + (1)) T23
    else
      none
  else
    (fun r1 x2 x3 S => f_X5_type_n18 kf a0 n r1 x2 x3 S) r1 v18 (x3 + (1)) T13
theorem ty_n18 (kf : Nat → Option Nat → HS → Option (Int32 × HS)) (a0 n : Nat) (r1 : Option Nat) (x2 x3 : Int32) (S : HS) : f_X5_type_n18 kf a0 (n + 1) r1 x2 x3 S =
    (g_fR S 5 113 a0).bind fun q1 =>
    (q1).bind fun a2 =>
    (g_cls S 12 a2).bind fun u3 =>
    o_bd (f_J5_size a2 S) fun v5 T4 =>
    if v5 ≤ x3 then
      if vp_nar .char x2 = x2 then
        some (x2, T4)
      else
        none
    else
      (g_fR T4 5 113 a0).bind fun q6 =>
      (q6).bind fun a7 =>
      (g_cls T4 12 a7).bind fun u8 =>
      o_bd (f_J5_get a7 x3 T4) fun q10 T9 =>
      (g_cast T9 [6, 8, 7] q10).bind fun u11 =>
      (q10).bind fun a12 =>
      if h_cl T9 a12 = 6 then
        o_bd (f_X7_type a12 r1 T9) fun v14 T13 => ty_tail kf a0 n r1 x2 x3 v14 T13
      else
        if h_cl T9 a12 = 8 then
          o_bd (f_X9_type a12 r1 T9) fun v14 T13 => ty_tail kf a0 n r1 x2 x3 v14 T13
        else
          if h_cl T9 a12 = 7 then
            o_bd (f_X8_type kf a12 r1 T9) fun v14 T13 => ty_tail kf a0 n r1 x2 x3 v14 T13
          else
            none := rfl
set_option maxHeartbeats 4000000 in
theorem C_type_l {U : HS} {a ch : Nat} {T : Nat → Nat} (hF : FX U a) (hc : h_cl U ch = 10) (hw : h_wr U ch = true) (h129 : h_fR U 129 ch = some a) {F : Nat → List Tk → Prop} {kf : Nat → Option Nat → HS → Option (Int32 × HS)} (hk : ∀ x m, F x m → (∀ v ∈ uc m, TyA U a T v) → h_cl U x = 5 ∧ ∃ v es, FmR U ch x T m kf v es)
    {x xl sg pl y0 : Nat} {ts : List (Nat × Nat × Nat × List Tk)} (hx : h_cl U x = 5) (h113 : h_fR U 113 x = some xl) (hL : Lst U a xl (y0 :: ts.map (fun z => z.1))) (hsg : h_fR U 114 x = some sg ∧ h_cl U sg = 31 ∧ h_ln U sg = 6) (hpl : h_fR U 115 x = some pl ∧ h_cl U pl = 31 ∧ h_ln U pl = 6) (h5 : ts.length ≤ 5)
    (hT : ∀ i, i < ts.length → h_aI U sg (i + 1) = i_ (ts.getD i (0, 0, 0, [])).2.1 ∧ h_aI U pl (i + 1) = i_ (ts.getD i (0, 0, 0, [])).2.2.1 ∧ ((ts.getD i (0, 0, 0, [])).2.1 < 128 ∧ (ts.getD i (0, 0, 0, [])).2.2.1 < 400) ∧ Tm F U a (ts.getD i (0, 0, 0, [])).1 (ts.getD i (0, 0, 0, [])).2.2.2) (hsn : ∀ y ∈ ts, y.2.1 = 43 ∨ y.2.1 = 45 ∨ y.2.1 = 38) (hu : ∀ v ∈ uc (fl ts), TyA U a T v) :
    ∀ (r k n w : Nat), k + r = ts.length → r < n → w < 128 → ¬ w = 63 → ∃ w' es, (w' < 128 ∧ ¬ w' = 63) ∧ (∀ p c q st e0, ∃ p', evl ((fl (ts.drop k)).map (tt T)) ((w, 0, p, c, q) :: st, e0) = ((w', 0, p', c, q) :: st, e0 ++ es)) ∧ (w' = 0 → w = 0 ∨ ¬ c3 es = 0 ∨ has6 (fl (ts.drop k))) ∧ (∀ e ∈ es, e.2 < 400 ∨ ¬ e.1 = 3) ∧
      ∀ f, f < 2147483648 → mf f es < 2147483648 ∧ f_X5_type_n18 kf x n (some ch) (i_ (an w)) (i_ (k + 1)) (tyX U ch f) = some (i_ (an w'), tyX U ch (mf f es)) := by
  have hlen : (y0 :: ts.map (fun z => z.1)).length = ts.length + 1 := by simp
  intro r
  induction r with
  | zero =>
    intro k n w hk' hn hw1 hw2
    obtain ⟨n, rfl⟩ : ∃ m, n = m + 1 := ⟨n - 1, by omega⟩
    have hdr : ts.drop k = [] := List.drop_of_length_le (by omega)
    rw [hdr]
    refine ⟨w, [], ⟨hw1, hw2⟩, fun p c q st e0 => ⟨p, ?_⟩, fun h => Or.inl h, (fun e he => by cases he), fun f hf => ⟨hf, ?_⟩⟩
    · rw [List.append_nil]
      rfl
    · have hsz := C_size (hL.ty (ch := ch) (f := f))
      rw [hlen] at hsz
      have x5 : h_cl (tyX U ch f) x = 5 := hx
      have x113 : h_fR (tyX U ch f) 113 x = some xl := h113
      have x12 : h_cl (tyX U ch f) xl = 12 := hL.2.1
      have haw : an w < 65536 := by unfold an; split <;> omega
      show f_X5_type_n18 kf x (n + 1) (some ch) (i_ (an w)) (i_ (k + 1)) (tyX U ch f) = some (i_ (an w), tyX U ch f)
      unfold f_X5_type_n18
      simp (disch := first | (simp (disch := omega) only [R_fI_fI, R_fI_fR, R_fI_aI, R_fI_aR, R_fI_new, R_fR_fI, R_fR_fR, R_fR_aI, R_fR_aR, R_fR_new, R_aI_fI, R_aI_fR, R_aI_aI, R_aI_aR, R_aI_new, R_aR_fI, R_aR_fR, R_aR_aI, R_aR_aR, R_aR_new, R_cl_fI, R_cl_fR, R_cl_aI, R_cl_aR, R_cl_new, R_ln_fI, R_ln_fR, R_ln_aI, R_ln_aR, R_ln_new, R_wr_fI, R_wr_fR, R_wr_aI, R_wr_aR, R_wr_new, R_nx_fI, R_nx_fR, R_nx_aI, R_nx_aR, R_nx_new, R_sl_fI, R_sl_fR, R_sl_aI, R_sl_aR, R_sl_new, R_ks_fI, R_ks_fR, R_ks_aI, R_ks_aR, R_ks_new, R_kr_fI, R_kr_fR, R_kr_aI, R_kr_aR, R_kr_new, R_fJ_fI, R_fJ_fR, R_fJ_aI, R_fJ_aR, R_fJ_new, R_aJ_fI, R_aJ_fR, R_aJ_aI, R_aJ_aR, R_aJ_new, r_fI_row, r_fR_row, r_aR_row, r_cl_row, r_ln_row, r_wr_row, r_nx_row, r_sl_row, r_ks_row, r_kr_row, r_fJ_row, r_aJ_row, h_st_eq, st_ne, up_on, up_off, sr_on, sr_off, x5, x113, x12]; first | done | omega | decide) | omega) only [l_m1, l_m2, l_0, l_1, l_2, l_3, l_4, l_5, l_6, l_7, l_8, l_9, l_10, l_11, l_12, l_13, l_14, l_15, l_16, l_17, l_18, l_19, l_20, l_21, l_22, l_23, l_24, l_25, l_26, l_27, l_28, l_29, l_30, l_31, l_32, l_33, l_34, l_35, l_36, l_37, l_38, l_39, l_40, l_41, l_42, l_43, l_44, l_45, l_46, l_47, l_48, l_49, l_50, l_51, l_52, l_53, l_54, l_55, l_56, l_57, l_58, l_59, l_60, l_61, l_62, l_63, l_64, l_97, l_100, l_110, l_115, l_116, l_120, l_122, l_127, l_128, l_136, l_140, l_200, l_255, l_256, l_400, l_1000, l_30000, l_1200, l_65536, l_2147483639, l_2147483647, ob_some, obd_some, q_lt_t, q_lt_f, q_le_t, q_le_f, q_eq_t, q_eq_f, im_ne, im_ne', im_lt, im_le, im_lt', im_le', i_add, i_mul, i_dec, i_dec0, i_sub, i_and, i_shr, i_div, nar_b0, nar_b1, b2i_t, b2i_f, ↓reduceIte, if_true, if_false, ↓ob_some, ↓obd_some, ↓oc_n, ↓oc_s, ↓otr_l, ↓otr_r, ↓bcls, ↓bfI, ↓bfR, ↓bpfI, ↓bpfR, ↓baI, ↓baR, ↓bpaI, ↓blen, ↓bnobj, ↓bnarr, ↓bcast, gcls, gfI, gfR, pfI, pfR, gaI, gaR, paI, paR, paS_n, paS_s, glen, gown, gthr, narr, nobj, oc_n, oc_s, otr_l, otr_r, gcast, nar_bb, nar_ch, R_fI_fI, R_fI_fR, R_fI_aI, R_fI_aR, R_fI_new, R_fR_fI, R_fR_fR, R_fR_aI, R_fR_aR, R_fR_new, R_aI_fI, R_aI_fR, R_aI_aI, R_aI_aR, R_aI_new, R_aR_fI, R_aR_fR, R_aR_aI, R_aR_aR, R_aR_new, R_cl_fI, R_cl_fR, R_cl_aI, R_cl_aR, R_cl_new, R_ln_fI, R_ln_fR, R_ln_aI, R_ln_aR, R_ln_new, R_wr_fI, R_wr_fR, R_wr_aI, R_wr_aR, R_wr_new, R_nx_fI, R_nx_fR, R_nx_aI, R_nx_aR, R_nx_new, R_sl_fI, R_sl_fR, R_sl_aI, R_sl_aR, R_sl_new, R_ks_fI, R_ks_fR, R_ks_aI, R_ks_aR, R_ks_new, R_kr_fI, R_kr_fR, R_kr_aI, R_kr_aR, R_kr_new, R_fJ_fI, R_fJ_fR, R_fJ_aI, R_fJ_aR, R_fJ_new, R_aJ_fI, R_aJ_fR, R_aJ_aI, R_aJ_aR, R_aJ_new, r_fI_row, r_fR_row, r_aR_row, r_cl_row, r_ln_row, r_wr_row, r_nx_row, r_sl_row, r_ks_row, r_kr_row, r_fJ_row, r_aJ_row, h_st_eq, st_ne, up_on, up_off, sr_on, sr_off, x5, x113, x12, ↓obE (hsz)]
  | succ r ih =>
    intro k n w hk' hn hw1 hw2
    obtain ⟨n, rfl⟩ : ∃ m, n = m + 1 := ⟨n - 1, by omega⟩
    have hTk := hT k (by omega)
    have hmem : ts.getD k (0, 0, 0, []) ∈ ts := by
      rw [List.getD_eq_getElem?_getD, List.getElem?_eq_getElem (show k < ts.length by omega)]
      exact List.getElem_mem _
    have hsk := hsn _ hmem
    have hdr : ts.drop k = ts.getD k (0, 0, 0, []) :: ts.drop (k + 1) := dropD (by omega) _
    have hgetz : (y0 :: ts.map (fun z => z.1)).getD (k + 1) 0 = (ts.getD k (0, 0, 0, [])).1 := by
      show (ts.map (fun z => z.1)).getD k 0 = _
      rw [List.getD_eq_getElem?_getD, List.getD_eq_getElem?_getD, List.getElem?_map, List.getElem?_eq_getElem (show k < ts.length by omega)]
      rfl
    have huk : ∀ v ∈ uc (ts.getD k (0, 0, 0, [])).2.2.2, TyA U a T v := by
      intro v hv
      refine hu v ?_
      have : ∀ (l : List (Nat × Nat × Nat × List Tk)) (y : Nat × Nat × Nat × List Tk), y ∈ l → v ∈ uc y.2.2.2 → v ∈ uc (fl l) := by
        intro l
        induction l with
        | nil => intro y hy; cases hy
        | cons z l ihl =>
          intro y hy hvy
          rw [uc_fl_cons]
          rcases List.mem_cons.mp hy with rfl | hy
          · exact List.mem_append_left _ hvy
          · exact List.mem_append_right _ (ihl y hy hvy)
      exact this ts _ hmem hv
    rw [hdr]
    generalize ts.getD k (0, 0, 0, []) = z at hTk hsk hgetz huk
    obtain ⟨hsg1, hpl1, ⟨hs128, hp400⟩, hTm⟩ := hTk
    obtain ⟨u, eu, ⟨u1, u2⟩, hmu, hu0, hpu, hcu⟩ := Tm_R hF hc hw h129 hk hTm huk
    have hw'1 := jn_lt (s := z.2.1) (v := u) hw1
    have hw'2 : ¬ jn w z.2.1 u = 63 := by
      unfold jn
      repeat' split
      all_goals omega
    obtain ⟨w', es, ⟨o1, o2⟩, om, o0, op, oc⟩ := ih (k + 1) n (jn w z.2.1 u) (by omega) (by omega) hw'1 hw'2
    have hs0 : ¬ z.2.1 = 0 := by rcases hsk with h | h | h <;> omega
    refine ⟨w', eu ++ (if ¬ w = 0 ∧ ¬ u = 0 ∧ jn w z.2.1 u = 0 then [(3, z.2.2.1)] else []) ++ es, ⟨o1, o2⟩, fun p c q st e0 => ?_, fun h => ?_, fun e he => ?_, fun f hf => ?_⟩
    · obtain ⟨p', hp'⟩ := om z.2.2.1 c q st (e0 ++ (eu ++ (if ¬ w = 0 ∧ ¬ u = 0 ∧ jn w z.2.1 u = 0 then [(3, z.2.2.1)] else [])))
      refine ⟨p', ?_⟩
      rw [← List.append_assoc] at hp'
      have e1 : fl (z :: ts.drop (k + 1)) = (5, z.2.1, z.2.2.1) :: (z.2.2.2 ++ fl (ts.drop (k + 1))) := rfl
      rw [e1, List.map_cons, evl_cons, List.map_append, evl_app]
      have e2 : ev1 (tt T (5, z.2.1, z.2.2.1)) ((w, 0, p, c, q) :: st, e0) = ((w, z.2.1, z.2.2.1, c, q) :: st, e0) := rfl
      rw [e2, hmu]
      have e3 : cm u ((w, z.2.1, z.2.2.1, c, q) :: st, e0 ++ eu) = ((jn w z.2.1 u, 0, z.2.2.1, c, q) :: st, e0 ++ eu ++ (if ¬ w = 0 ∧ ¬ u = 0 ∧ jn w z.2.1 u = 0 then [(3, z.2.2.1)] else [])) := by
        unfold cm
        show (cmL u (w, z.2.1, z.2.2.1, c, q) :: st, e0 ++ eu ++ cmE u (w, z.2.1, z.2.2.1, c, q)) = _
        unfold cmL cmE
        rw [if_neg hs0]
        simp only [hs0, not_false_eq_true, true_and]
      rw [e3]
      rw [hp']
      simp only [List.append_assoc]
    · have h6fl : ∀ l, has6 l → (∀ x ∈ l, x ∈ fl (z :: ts.drop (k + 1))) → has6 (fl (z :: ts.drop (k + 1))) := fun l ⟨x, hx, h6⟩ hs => ⟨x, hs x hx, h6⟩
      rcases o0 h with h1 | h1 | h1
      · by_cases hw0 : w = 0
        · exact Or.inl hw0
        · by_cases hu00 : u = 0
          · rcases hu0 hu00 with h2 | h2
            · exact Or.inr (Or.inl (c3_ne_app (c3_ne_app h2)))
            · exact Or.inr (Or.inr (h6fl _ h2 (fun x hx => List.mem_cons_of_mem _ (List.mem_append_left _ hx))))
          · refine Or.inr (Or.inl (c3_ne_app (c3_ne_app' ?_)))
            rw [if_pos ⟨hw0, hu00, h1⟩]
            exact c3_pos (3, z.2.2.1) rfl List.mem_cons_self
      · exact Or.inr (Or.inl (c3_ne_app' h1))
      · exact Or.inr (Or.inr (h6fl _ h1 (fun x hx => List.mem_cons_of_mem _ (List.mem_append_right _ hx))))
    · rcases List.mem_append.mp he with he | he
      · rcases List.mem_append.mp he with he | he
        · exact hpu e he
        · split at he
          · rw [List.mem_singleton] at he
            subst he
            exact Or.inl hp400
          · cases he
      · exact op e he
    · obtain ⟨m1, m2⟩ := hcu f hf
      rw [mf_app, mf_app]
      have hjo := joined_eq hw1 hw2 hs128 u1 u2
      -- the rest of the loop
      have hrest : ∃ f2, mf (mf f eu) (if ¬ w = 0 ∧ ¬ u = 0 ∧ jn w z.2.1 u = 0 then [(3, z.2.2.1)] else []) = f2 ∧ f2 < 2147483648 := ⟨_, rfl, by split <;> (show _ < _) <;> first | exact m1 | (show min (mf f eu) z.2.2.1 < _; omega)⟩
      obtain ⟨f2, hf2, hf2b⟩ := hrest
      rw [hf2]
      obtain ⟨c1, c2⟩ := oc f2 hf2b
      refine ⟨c1, ?_⟩
      rw [← c2]
      have hsz := C_size (hL.ty (ch := ch) (f := f))
      rw [hlen] at hsz
      have hgt := C_get (hL.ty (ch := ch) (f := f)) (k := k + 1) (by rw [hlen]; omega)
      rw [hgetz] at hgt
      have x5 : ∀ g, h_cl (tyX U ch g) x = 5 := fun g => hx
      have x113 : h_fR (tyX U ch f) 113 x = some xl := h113
      have x12 : h_cl (tyX U ch f) xl = 12 := hL.2.1
      have x114 : ∀ g, h_fR (tyX U ch g) 114 x = some sg := fun g => hsg.1
      have x115 : ∀ g, h_fR (tyX U ch g) 115 x = some pl := fun g => hpl.1
      have y1 : ∀ g, h_cl (tyX U ch g) sg = 31 := fun g => hsg.2.1
      have y2 : ∀ g, h_ln (tyX U ch g) sg = 6 := fun g => hsg.2.2
      have y3 : ∀ g, h_cl (tyX U ch g) pl = 31 := fun g => hpl.2.1
      have y4 : ∀ g, h_ln (tyX U ch g) pl = 6 := fun g => hpl.2.2
      have y5 : ∀ g, h_aI (tyX U ch g) sg (k + 1) = i_ z.2.1 := fun g => hsg1
      have y6 : ∀ g, h_aI (tyX U ch g) pl (k + 1) = i_ z.2.2.1 := fun g => hpl1
      have y7 : ∀ g, h_cl (tyX U ch g) ch = 10 := fun g => hc
      have y8 : ∀ g, h_cl (tyX U ch g) z.1 = h_cl U z.1 := fun g => rfl
      have hwr := C_wrong hc hw m1 (show z.2.2.1 < 2147483648 by omega)
      have hpre : f_X5_type_n18 kf x (n + 1) (some ch) (i_ (an w)) (i_ (k + 1)) (tyX U ch f) = ty_tail kf x n (some ch) (i_ (an w)) (i_ (k + 1)) (i_ (an u)) (tyX U ch (mf f eu)) := by
        rw [ty_n18]
        rcases m2 with ⟨mc, m2⟩ | ⟨mc, m2⟩ | ⟨mc, m2⟩
        · have ec : h_cl (tyX U ch f) z.1 = 6 := mc
          simp (disch := first | (simp (disch := omega) only [R_fI_fI, R_fI_fR, R_fI_aI, R_fI_aR, R_fI_new, R_fR_fI, R_fR_fR, R_fR_aI, R_fR_aR, R_fR_new, R_aI_fI, R_aI_fR, R_aI_aI, R_aI_aR, R_aI_new, R_aR_fI, R_aR_fR, R_aR_aI, R_aR_aR, R_aR_new, R_cl_fI, R_cl_fR, R_cl_aI, R_cl_aR, R_cl_new, R_ln_fI, R_ln_fR, R_ln_aI, R_ln_aR, R_ln_new, R_wr_fI, R_wr_fR, R_wr_aI, R_wr_aR, R_wr_new, R_nx_fI, R_nx_fR, R_nx_aI, R_nx_aR, R_nx_new, R_sl_fI, R_sl_fR, R_sl_aI, R_sl_aR, R_sl_new, R_ks_fI, R_ks_fR, R_ks_aI, R_ks_aR, R_ks_new, R_kr_fI, R_kr_fR, R_kr_aI, R_kr_aR, R_kr_new, R_fJ_fI, R_fJ_fR, R_fJ_aI, R_fJ_aR, R_fJ_new, R_aJ_fI, R_aJ_fR, R_aJ_aI, R_aJ_aR, R_aJ_new, r_fI_row, r_fR_row, r_aR_row, r_cl_row, r_ln_row, r_wr_row, r_nx_row, r_sl_row, r_ks_row, r_kr_row, r_fJ_row, r_aJ_row, h_st_eq, st_ne, up_on, up_off, sr_on, sr_off, x5 f, x113, x12, ec]; first | done | omega | decide) | omega) only [l_m1, l_m2, l_0, l_1, l_2, l_3, l_4, l_5, l_6, l_7, l_8, l_9, l_10, l_11, l_12, l_13, l_14, l_15, l_16, l_17, l_18, l_19, l_20, l_21, l_22, l_23, l_24, l_25, l_26, l_27, l_28, l_29, l_30, l_31, l_32, l_33, l_34, l_35, l_36, l_37, l_38, l_39, l_40, l_41, l_42, l_43, l_44, l_45, l_46, l_47, l_48, l_49, l_50, l_51, l_52, l_53, l_54, l_55, l_56, l_57, l_58, l_59, l_60, l_61, l_62, l_63, l_64, l_97, l_100, l_110, l_115, l_116, l_120, l_122, l_127, l_128, l_136, l_140, l_200, l_255, l_256, l_400, l_1000, l_30000, l_1200, l_65536, l_2147483639, l_2147483647, ob_some, obd_some, q_lt_t, q_lt_f, q_le_t, q_le_f, q_eq_t, q_eq_f, im_ne, im_ne', im_lt, im_le, im_lt', im_le', i_add, i_mul, i_dec, i_dec0, i_sub, i_and, i_shr, i_div, nar_b0, nar_b1, b2i_t, b2i_f, ↓reduceIte, if_true, if_false, ↓ob_some, ↓obd_some, ↓oc_n, ↓oc_s, ↓otr_l, ↓otr_r, ↓bcls, ↓bfI, ↓bfR, ↓bpfI, ↓bpfR, ↓baI, ↓baR, ↓bpaI, ↓blen, ↓bnobj, ↓bnarr, ↓bcast, gcls, gfI, gfR, pfI, pfR, gaI, gaR, paI, paR, paS_n, paS_s, glen, gown, gthr, narr, nobj, oc_n, oc_s, otr_l, otr_r, gcast, nar_bb, nar_ch, R_fI_fI, R_fI_fR, R_fI_aI, R_fI_aR, R_fI_new, R_fR_fI, R_fR_fR, R_fR_aI, R_fR_aR, R_fR_new, R_aI_fI, R_aI_fR, R_aI_aI, R_aI_aR, R_aI_new, R_aR_fI, R_aR_fR, R_aR_aI, R_aR_aR, R_aR_new, R_cl_fI, R_cl_fR, R_cl_aI, R_cl_aR, R_cl_new, R_ln_fI, R_ln_fR, R_ln_aI, R_ln_aR, R_ln_new, R_wr_fI, R_wr_fR, R_wr_aI, R_wr_aR, R_wr_new, R_nx_fI, R_nx_fR, R_nx_aI, R_nx_aR, R_nx_new, R_sl_fI, R_sl_fR, R_sl_aI, R_sl_aR, R_sl_new, R_ks_fI, R_ks_fR, R_ks_aI, R_ks_aR, R_ks_new, R_kr_fI, R_kr_fR, R_kr_aI, R_kr_aR, R_kr_new, R_fJ_fI, R_fJ_fR, R_fJ_aI, R_fJ_aR, R_fJ_new, R_aJ_fI, R_aJ_fR, R_aJ_aI, R_aJ_aR, R_aJ_new, r_fI_row, r_fR_row, r_aR_row, r_cl_row, r_ln_row, r_wr_row, r_nx_row, r_sl_row, r_ks_row, r_kr_row, r_fJ_row, r_aJ_row, h_st_eq, st_ne, up_on, up_off, sr_on, sr_off, x5 f, x113, x12, ec, ↓obE (hsz), ↓obE (hgt), ↓obE (m2)]
        · have ec : h_cl (tyX U ch f) z.1 = 8 := mc
          simp (disch := first | (simp (disch := omega) only [R_fI_fI, R_fI_fR, R_fI_aI, R_fI_aR, R_fI_new, R_fR_fI, R_fR_fR, R_fR_aI, R_fR_aR, R_fR_new, R_aI_fI, R_aI_fR, R_aI_aI, R_aI_aR, R_aI_new, R_aR_fI, R_aR_fR, R_aR_aI, R_aR_aR, R_aR_new, R_cl_fI, R_cl_fR, R_cl_aI, R_cl_aR, R_cl_new, R_ln_fI, R_ln_fR, R_ln_aI, R_ln_aR, R_ln_new, R_wr_fI, R_wr_fR, R_wr_aI, R_wr_aR, R_wr_new, R_nx_fI, R_nx_fR, R_nx_aI, R_nx_aR, R_nx_new, R_sl_fI, R_sl_fR, R_sl_aI, R_sl_aR, R_sl_new, R_ks_fI, R_ks_fR, R_ks_aI, R_ks_aR, R_ks_new, R_kr_fI, R_kr_fR, R_kr_aI, R_kr_aR, R_kr_new, R_fJ_fI, R_fJ_fR, R_fJ_aI, R_fJ_aR, R_fJ_new, R_aJ_fI, R_aJ_fR, R_aJ_aI, R_aJ_aR, R_aJ_new, r_fI_row, r_fR_row, r_aR_row, r_cl_row, r_ln_row, r_wr_row, r_nx_row, r_sl_row, r_ks_row, r_kr_row, r_fJ_row, r_aJ_row, h_st_eq, st_ne, up_on, up_off, sr_on, sr_off, x5 f, x113, x12, ec]; first | done | omega | decide) | omega) only [l_m1, l_m2, l_0, l_1, l_2, l_3, l_4, l_5, l_6, l_7, l_8, l_9, l_10, l_11, l_12, l_13, l_14, l_15, l_16, l_17, l_18, l_19, l_20, l_21, l_22, l_23, l_24, l_25, l_26, l_27, l_28, l_29, l_30, l_31, l_32, l_33, l_34, l_35, l_36, l_37, l_38, l_39, l_40, l_41, l_42, l_43, l_44, l_45, l_46, l_47, l_48, l_49, l_50, l_51, l_52, l_53, l_54, l_55, l_56, l_57, l_58, l_59, l_60, l_61, l_62, l_63, l_64, l_97, l_100, l_110, l_115, l_116, l_120, l_122, l_127, l_128, l_136, l_140, l_200, l_255, l_256, l_400, l_1000, l_30000, l_1200, l_65536, l_2147483639, l_2147483647, ob_some, obd_some, q_lt_t, q_lt_f, q_le_t, q_le_f, q_eq_t, q_eq_f, im_ne, im_ne', im_lt, im_le, im_lt', im_le', i_add, i_mul, i_dec, i_dec0, i_sub, i_and, i_shr, i_div, nar_b0, nar_b1, b2i_t, b2i_f, ↓reduceIte, if_true, if_false, ↓ob_some, ↓obd_some, ↓oc_n, ↓oc_s, ↓otr_l, ↓otr_r, ↓bcls, ↓bfI, ↓bfR, ↓bpfI, ↓bpfR, ↓baI, ↓baR, ↓bpaI, ↓blen, ↓bnobj, ↓bnarr, ↓bcast, gcls, gfI, gfR, pfI, pfR, gaI, gaR, paI, paR, paS_n, paS_s, glen, gown, gthr, narr, nobj, oc_n, oc_s, otr_l, otr_r, gcast, nar_bb, nar_ch, R_fI_fI, R_fI_fR, R_fI_aI, R_fI_aR, R_fI_new, R_fR_fI, R_fR_fR, R_fR_aI, R_fR_aR, R_fR_new, R_aI_fI, R_aI_fR, R_aI_aI, R_aI_aR, R_aI_new, R_aR_fI, R_aR_fR, R_aR_aI, R_aR_aR, R_aR_new, R_cl_fI, R_cl_fR, R_cl_aI, R_cl_aR, R_cl_new, R_ln_fI, R_ln_fR, R_ln_aI, R_ln_aR, R_ln_new, R_wr_fI, R_wr_fR, R_wr_aI, R_wr_aR, R_wr_new, R_nx_fI, R_nx_fR, R_nx_aI, R_nx_aR, R_nx_new, R_sl_fI, R_sl_fR, R_sl_aI, R_sl_aR, R_sl_new, R_ks_fI, R_ks_fR, R_ks_aI, R_ks_aR, R_ks_new, R_kr_fI, R_kr_fR, R_kr_aI, R_kr_aR, R_kr_new, R_fJ_fI, R_fJ_fR, R_fJ_aI, R_fJ_aR, R_fJ_new, R_aJ_fI, R_aJ_fR, R_aJ_aI, R_aJ_aR, R_aJ_new, r_fI_row, r_fR_row, r_aR_row, r_cl_row, r_ln_row, r_wr_row, r_nx_row, r_sl_row, r_ks_row, r_kr_row, r_fJ_row, r_aJ_row, h_st_eq, st_ne, up_on, up_off, sr_on, sr_off, x5 f, x113, x12, ec, ↓obE (hsz), ↓obE (hgt), ↓obE (m2)]
          rw [if_neg (by decide)]
        · have ec : h_cl (tyX U ch f) z.1 = 7 := mc
          simp (disch := first | (simp (disch := omega) only [R_fI_fI, R_fI_fR, R_fI_aI, R_fI_aR, R_fI_new, R_fR_fI, R_fR_fR, R_fR_aI, R_fR_aR, R_fR_new, R_aI_fI, R_aI_fR, R_aI_aI, R_aI_aR, R_aI_new, R_aR_fI, R_aR_fR, R_aR_aI, R_aR_aR, R_aR_new, R_cl_fI, R_cl_fR, R_cl_aI, R_cl_aR, R_cl_new, R_ln_fI, R_ln_fR, R_ln_aI, R_ln_aR, R_ln_new, R_wr_fI, R_wr_fR, R_wr_aI, R_wr_aR, R_wr_new, R_nx_fI, R_nx_fR, R_nx_aI, R_nx_aR, R_nx_new, R_sl_fI, R_sl_fR, R_sl_aI, R_sl_aR, R_sl_new, R_ks_fI, R_ks_fR, R_ks_aI, R_ks_aR, R_ks_new, R_kr_fI, R_kr_fR, R_kr_aI, R_kr_aR, R_kr_new, R_fJ_fI, R_fJ_fR, R_fJ_aI, R_fJ_aR, R_fJ_new, R_aJ_fI, R_aJ_fR, R_aJ_aI, R_aJ_aR, R_aJ_new, r_fI_row, r_fR_row, r_aR_row, r_cl_row, r_ln_row, r_wr_row, r_nx_row, r_sl_row, r_ks_row, r_kr_row, r_fJ_row, r_aJ_row, h_st_eq, st_ne, up_on, up_off, sr_on, sr_off, x5 f, x113, x12, ec]; first | done | omega | decide) | omega) only [l_m1, l_m2, l_0, l_1, l_2, l_3, l_4, l_5, l_6, l_7, l_8, l_9, l_10, l_11, l_12, l_13, l_14, l_15, l_16, l_17, l_18, l_19, l_20, l_21, l_22, l_23, l_24, l_25, l_26, l_27, l_28, l_29, l_30, l_31, l_32, l_33, l_34, l_35, l_36, l_37, l_38, l_39, l_40, l_41, l_42, l_43, l_44, l_45, l_46, l_47, l_48, l_49, l_50, l_51, l_52, l_53, l_54, l_55, l_56, l_57, l_58, l_59, l_60, l_61, l_62, l_63, l_64, l_97, l_100, l_110, l_115, l_116, l_120, l_122, l_127, l_128, l_136, l_140, l_200, l_255, l_256, l_400, l_1000, l_30000, l_1200, l_65536, l_2147483639, l_2147483647, ob_some, obd_some, q_lt_t, q_lt_f, q_le_t, q_le_f, q_eq_t, q_eq_f, im_ne, im_ne', im_lt, im_le, im_lt', im_le', i_add, i_mul, i_dec, i_dec0, i_sub, i_and, i_shr, i_div, nar_b0, nar_b1, b2i_t, b2i_f, ↓reduceIte, if_true, if_false, ↓ob_some, ↓obd_some, ↓oc_n, ↓oc_s, ↓otr_l, ↓otr_r, ↓bcls, ↓bfI, ↓bfR, ↓bpfI, ↓bpfR, ↓baI, ↓baR, ↓bpaI, ↓blen, ↓bnobj, ↓bnarr, ↓bcast, gcls, gfI, gfR, pfI, pfR, gaI, gaR, paI, paR, paS_n, paS_s, glen, gown, gthr, narr, nobj, oc_n, oc_s, otr_l, otr_r, gcast, nar_bb, nar_ch, R_fI_fI, R_fI_fR, R_fI_aI, R_fI_aR, R_fI_new, R_fR_fI, R_fR_fR, R_fR_aI, R_fR_aR, R_fR_new, R_aI_fI, R_aI_fR, R_aI_aI, R_aI_aR, R_aI_new, R_aR_fI, R_aR_fR, R_aR_aI, R_aR_aR, R_aR_new, R_cl_fI, R_cl_fR, R_cl_aI, R_cl_aR, R_cl_new, R_ln_fI, R_ln_fR, R_ln_aI, R_ln_aR, R_ln_new, R_wr_fI, R_wr_fR, R_wr_aI, R_wr_aR, R_wr_new, R_nx_fI, R_nx_fR, R_nx_aI, R_nx_aR, R_nx_new, R_sl_fI, R_sl_fR, R_sl_aI, R_sl_aR, R_sl_new, R_ks_fI, R_ks_fR, R_ks_aI, R_ks_aR, R_ks_new, R_kr_fI, R_kr_fR, R_kr_aI, R_kr_aR, R_kr_new, R_fJ_fI, R_fJ_fR, R_fJ_aI, R_fJ_aR, R_fJ_new, R_aJ_fI, R_aJ_fR, R_aJ_aI, R_aJ_aR, R_aJ_new, r_fI_row, r_fR_row, r_aR_row, r_cl_row, r_ln_row, r_wr_row, r_nx_row, r_sl_row, r_ks_row, r_kr_row, r_fJ_row, r_aJ_row, h_st_eq, st_ne, up_on, up_off, sr_on, sr_off, x5 f, x113, x12, ec, ↓obE (hsz), ↓obE (hgt), ↓obE (m2)]
          rw [if_neg (by decide), if_neg (by decide)]
      rw [hpre]
      unfold ty_tail
      rw [bfR (x5 (mf f eu)), x114, ob_some, baI (y1 (mf f eu)) (by omega) (by rw [y2]; omega), y5]
      by_cases hwu : w = 0 ∨ u = 0
      · rw [if_pos hwu] at hjo
        have hj0 : jn w z.2.1 u = 0 := by
          unfold jn
          rcases hwu with h | h
          · subst h
            repeat' split
            all_goals omega
          · subst h
            repeat' split
            all_goals omega
        have ef : f2 = mf f eu := by rw [← hf2, if_neg (by rcases hwu with h | h <;> simp [h])]; rfl
        rw [hjo, ob_some, if_neg (show ¬ i_ 63 = 0 by decide), hj0, show an 0 = 63 from rfl, l_1, i_add, ef]
      · rw [if_neg hwu] at hjo
        by_cases hj0 : jn w z.2.1 u = 0
        · have ef : f2 = min (mf f eu) z.2.2.1 := by rw [← hf2, if_pos ⟨fun h => hwu (Or.inl h), fun h => hwu (Or.inr h), hj0⟩]; rfl
          rw [hj0] at hjo
          rw [hjo, ob_some, if_pos (show i_ 0 = 0 from rfl), bfR (x5 (mf f eu)), x115, ob_some, baI (y3 (mf f eu)) (by omega) (by rw [y4]; omega), y6, ob_some, if_pos (y7 (mf f eu)), ob1 hwr, hj0, show an 0 = 63 from rfl, l_1, i_add, ef]
          rfl
        · have ef : f2 = mf f eu := by rw [← hf2, if_neg (fun h => hj0 h.2.2)]; rfl
          have ea : an (jn w z.2.1 u) = jn w z.2.1 u := if_neg hj0
          rw [hjo, ob_some, if_neg (by
            rw [l_0, i_inj (by omega) (by decide)]
            exact hj0), ea, l_1, i_add, ef]
