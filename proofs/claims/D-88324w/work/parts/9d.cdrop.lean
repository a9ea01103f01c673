/-- rows of asks are written -/
def AS (a : Nat) (S U : HS) : Prop := (h_fI U = h_fI S ∧ h_aR U = h_aR S ∧ h_nx U = h_nx S ∧ h_sl U = h_sl S) ∧ (∀ y, (y < a + 5 ∨ a + 45 ≤ y) → h_aI U y = h_aI S y) ∧ Kp S U a ∧ (Z S → Z U)
theorem AS.rf (a : Nat) (S : HS) : AS a S S := ⟨⟨rfl, rfl, rfl, rfl⟩, fun _ _ => rfl, Kp.rf S a, id⟩
theorem AS.st {a : Nat} {S U : HS} (h : AS a S U) (k i : Nat) (v : Int32) (hk : k < 40) (h3 : a + 55 ≤ h_nx S) : AS a S (s_aI U (a + 5 + k) i v) := by
  obtain ⟨⟨e1, e2, e3, e4⟩, e5, e6, e7⟩ := h
  refine ⟨⟨by rw [R_fI_aI, e1], by rw [R_aR_aI, e2], by rw [R_nx_aI, e3], by rw [R_sl_aI, e4]⟩, fun y hy => ?_, e6.tr (Kp.aI (Or.inl ⟨by omega, by omega⟩)), fun z => (e7 z).aI v (by rw [e3]; omega)⟩
  rw [← e5 y hy]
  funext j
  exact h_st_ne _ _ (fun e => by omega)
def rowN (S : HS) (a t j : Nat) : Int32 := if h_aI S (a + 5 + j) 1 = i_ t then i_m else h_aI S (a + 5 + j) 1
theorem C_drop_a {S : HS} {a : Nat} {s : SP} (hF0 : FX S a) (hk : RCk S a s) (hb : SB s) {t : Nat} (htn : t < 16) : ∀ (r k n c : Nat) (U : HS), AS a S U → (∀ j, j < 40 → (∀ i, i ≠ 1 → h_aI U (a + 5 + j) i = h_aI S (a + 5 + j) i) ∧ h_aI U (a + 5 + j) 1 = if j < k then rowN S a t j else h_aI S (a + 5 + j) 1) → k + r = z_na s → r < n → c + r ≤ 40 →
    ∃ U', f_X0_drop_n85 a n (i_ t) (i_ c) (i_ k) U = some (i_ (c + dp_c s t (List.range' k r)), U') ∧ AS a S U' ∧ (∀ j, j < z_na s → (∀ i, i ≠ 1 → h_aI U' (a + 5 + j) i = h_aI S (a + 5 + j) i) ∧ h_aI U' (a + 5 + j) 1 = rowN S a t j) := by
  have hna := hb.2.1
  intro r
  induction r with
  | zero =>
    intro k n c U hA hU hk' hn _
    obtain ⟨n, rfl⟩ : ∃ m, n = m + 1 := ⟨n - 1, by omega⟩
    have hF := hA.2.2.1.fx hF0
    have h4 : h_fI U 4 a = i_ (z_na s) := by rw [hA.1.1]; exact hk.1
    unfold f_X0_drop_n85
    simp (disch := first | (simp (disch := omega) only [R_fI_fI, R_fI_fR, R_fI_aI, R_fI_aR, R_fI_new, R_fR_fI, R_fR_fR, R_fR_aI, R_fR_aR, R_fR_new, R_aI_fI, R_aI_fR, R_aI_aI, R_aI_aR, R_aI_new, R_aR_fI, R_aR_fR, R_aR_aI, R_aR_aR, R_aR_new, R_cl_fI, R_cl_fR, R_cl_aI, R_cl_aR, R_cl_new, R_ln_fI, R_ln_fR, R_ln_aI, R_ln_aR, R_ln_new, R_wr_fI, R_wr_fR, R_wr_aI, R_wr_aR, R_wr_new, R_nx_fI, R_nx_fR, R_nx_aI, R_nx_aR, R_nx_new, R_sl_fI, R_sl_fR, R_sl_aI, R_sl_aR, R_sl_new, R_ks_fI, R_ks_fR, R_ks_aI, R_ks_aR, R_ks_new, R_kr_fI, R_kr_fR, R_kr_aI, R_kr_aR, R_kr_new, R_fJ_fI, R_fJ_fR, R_fJ_aI, R_fJ_aR, R_fJ_new, R_aJ_fI, R_aJ_fR, R_aJ_aI, R_aJ_aR, R_aJ_new, r_fI_row, r_fR_row, r_aR_row, r_cl_row, r_ln_row, r_wr_row, r_nx_row, r_sl_row, r_ks_row, r_kr_row, r_fJ_row, r_aJ_row, h_st_eq, st_ne, up_on, up_off, sr_on, sr_off, fx_cl0 hF, fx_ln0 hF, fx_wr0 hF, fx_cl1 hF, fx_ln1 hF, fx_wr1 hF, fx_cl2 hF, fx_ln2 hF, fx_wr2 hF, fx_cl3 hF, fx_ln3 hF, fx_wr3 hF, fx_cl4 hF, fx_ln4 hF, fx_wr4 hF, fx_cl45 hF, fx_ln45 hF, fx_wr45 hF, fx_cl46 hF, fx_ln46 hF, fx_wr46 hF, fx_cl47 hF, fx_ln47 hF, fx_wr47 hF, fx_cl48 hF, fx_ln48 hF, fx_wr48 hF, fx_cl49 hF, fx_ln49 hF, fx_wr49 hF, fx_cl50 hF, fx_ln50 hF, fx_wr50 hF, fx_cl51 hF, fx_ln51 hF, fx_wr51 hF, fx_cl52 hF, fx_ln52 hF, fx_wr52 hF, fx_cl53 hF, fx_ln53 hF, fx_wr53 hF, fx_cl54 hF, fx_ln54 hF, fx_wr54 hF, fx_r1 hF, fx_r9 hF, fx_r10 hF, fx_r11 hF, fx_r12 hF, fx_r13 hF, fx_r14 hF, fx_r15 hF, fx_r16 hF, fx_r23 hF, fx_r24 hF, fx_r25 hF, fx_r26 hF, fx_r28 hF, fx_kc hF, fx_kl hF, fx_kw hF, fx_kr hF, h4]; first | done | omega | decide) | omega) only [l_m1, l_m2, l_0, l_1, l_2, l_3, l_4, l_5, l_6, l_7, l_8, l_9, l_10, l_11, l_12, l_13, l_14, l_15, l_16, l_17, l_18, l_19, l_20, l_21, l_22, l_23, l_24, l_25, l_26, l_27, l_28, l_29, l_30, l_31, l_32, l_33, l_34, l_35, l_36, l_37, l_38, l_39, l_40, l_41, l_42, l_43, l_44, l_45, l_46, l_47, l_48, l_49, l_50, l_51, l_52, l_53, l_54, l_55, l_56, l_57, l_58, l_59, l_60, l_61, l_62, l_63, l_64, l_97, l_100, l_110, l_115, l_116, l_120, l_122, l_127, l_128, l_136, l_140, l_200, l_255, l_256, l_400, l_1000, l_30000, l_1200, l_65536, l_2147483639, l_2147483647, ob_some, obd_some, q_lt_t, q_lt_f, q_le_t, q_le_f, q_eq_t, q_eq_f, im_ne, im_ne', im_lt, im_le, im_lt', im_le', i_add, i_mul, i_dec, i_dec0, i_sub, i_and, i_shr, i_div, nar_b0, nar_b1, b2i_t, b2i_f, ↓reduceIte, if_true, if_false, ↓ob_some, ↓obd_some, ↓oc_n, ↓oc_s, ↓otr_l, ↓otr_r, ↓bcls, ↓bfI, ↓bfR, ↓bpfI, ↓bpfR, ↓baI, ↓baR, ↓bpaI, ↓blen, ↓bnobj, ↓bnarr, ↓bcast, gcls, gfI, gfR, pfI, pfR, gaI, gaR, paI, paR, paS_n, paS_s, glen, gown, gthr, narr, nobj, oc_n, oc_s, otr_l, otr_r, gcast, nar_bb, nar_ch, R_fI_fI, R_fI_fR, R_fI_aI, R_fI_aR, R_fI_new, R_fR_fI, R_fR_fR, R_fR_aI, R_fR_aR, R_fR_new, R_aI_fI, R_aI_fR, R_aI_aI, R_aI_aR, R_aI_new, R_aR_fI, R_aR_fR, R_aR_aI, R_aR_aR, R_aR_new, R_cl_fI, R_cl_fR, R_cl_aI, R_cl_aR, R_cl_new, R_ln_fI, R_ln_fR, R_ln_aI, R_ln_aR, R_ln_new, R_wr_fI, R_wr_fR, R_wr_aI, R_wr_aR, R_wr_new, R_nx_fI, R_nx_fR, R_nx_aI, R_nx_aR, R_nx_new, R_sl_fI, R_sl_fR, R_sl_aI, R_sl_aR, R_sl_new, R_ks_fI, R_ks_fR, R_ks_aI, R_ks_aR, R_ks_new, R_kr_fI, R_kr_fR, R_kr_aI, R_kr_aR, R_kr_new, R_fJ_fI, R_fJ_fR, R_fJ_aI, R_fJ_aR, R_fJ_new, R_aJ_fI, R_aJ_fR, R_aJ_aI, R_aJ_aR, R_aJ_new, r_fI_row, r_fR_row, r_aR_row, r_cl_row, r_ln_row, r_wr_row, r_nx_row, r_sl_row, r_ks_row, r_kr_row, r_fJ_row, r_aJ_row, h_st_eq, st_ne, up_on, up_off, sr_on, sr_off, fx_cl0 hF, fx_ln0 hF, fx_wr0 hF, fx_cl1 hF, fx_ln1 hF, fx_wr1 hF, fx_cl2 hF, fx_ln2 hF, fx_wr2 hF, fx_cl3 hF, fx_ln3 hF, fx_wr3 hF, fx_cl4 hF, fx_ln4 hF, fx_wr4 hF, fx_cl45 hF, fx_ln45 hF, fx_wr45 hF, fx_cl46 hF, fx_ln46 hF, fx_wr46 hF, fx_cl47 hF, fx_ln47 hF, fx_wr47 hF, fx_cl48 hF, fx_ln48 hF, fx_wr48 hF, fx_cl49 hF, fx_ln49 hF, fx_wr49 hF, fx_cl50 hF, fx_ln50 hF, fx_wr50 hF, fx_cl51 hF, fx_ln51 hF, fx_wr51 hF, fx_cl52 hF, fx_ln52 hF, fx_wr52 hF, fx_cl53 hF, fx_ln53 hF, fx_wr53 hF, fx_cl54 hF, fx_ln54 hF, fx_wr54 hF, fx_r1 hF, fx_r9 hF, fx_r10 hF, fx_r11 hF, fx_r12 hF, fx_r13 hF, fx_r14 hF, fx_r15 hF, fx_r16 hF, fx_r23 hF, fx_r24 hF, fx_r25 hF, fx_r26 hF, fx_r28 hF, fx_kc hF, fx_kl hF, fx_kw hF, fx_kr hF, h4]
    refine ⟨U, rfl, hA, fun j hj => ?_⟩
    have := hU j (by omega)
    rw [if_pos (by omega)] at this
    exact this
  | succ r ih =>
    intro k n c U hA hU hk' hn hc
    obtain ⟨n, rfl⟩ : ∃ m, n = m + 1 := ⟨n - 1, by omega⟩
    have hF := hA.2.2.1.fx hF0
    have h4 : h_fI U 4 a = i_ (z_na s) := by rw [hA.1.1]; exact hk.1
    have hU1 := (hU k (by omega)).2
    rw [if_neg (by omega)] at hU1
    have hkk := (hk.2 k (by omega)).2
    have hat := (hb.2.2.2.2.1 k (by omega)).1
    have hn16 := hb.1
    have hd : dp_c s t (List.range' k (r + 1)) = (if z_at s k = t ∧ z_ab s k ≠ 0 then 1 else 0) + dp_c s t (List.range' (k + 1) r) := by
      unfold dp_c
      rw [filt_succ]
      by_cases e : z_at s k = t ∧ z_ab s k ≠ 0
      · rw [if_pos e, if_pos (decide_eq_true e)]
        simp
        omega
      · rw [if_neg e, if_neg (by rw [decide_eq_true_eq]; exact e)]
        simp
    rw [hd]
    unfold f_X0_drop_n85
    by_cases e : z_at s k = t ∧ z_ab s k ≠ 0
    · rw [if_neg e.2] at hkk
      have hrow : h_aI U (a + 5 + k) 1 = i_ t := by rw [hU1, hkk.1, e.1]
      have hrn : rowN S a t k = i_m := by unfold rowN; rw [if_pos (by rw [hkk.1, e.1])]
      obtain ⟨U', g1, g2, g3⟩ := ih (k + 1) n (c + 1) (s_aI U (a + 5 + k) 1 i_m) (hA.st k 1 i_m (by omega) hF0.1) (fun j hj => by
        by_cases ej : j = k
        · subst ej
          refine ⟨fun i hi => by rw [aI_off hi]; exact (hU j hj).1 i hi, ?_⟩
          rw [aI_on, if_pos (by omega), hrn]
        · have e9 : h_aI (s_aI U (a + 5 + k) 1 i_m) (a + 5 + j) = h_aI U (a + 5 + j) := by
            funext i
            exact h_st_ne _ _ (fun e => by omega)
          rw [e9]
          obtain ⟨q1, q2⟩ := hU j hj
          refine ⟨q1, ?_⟩
          rw [q2]
          by_cases e8 : j < k
          · rw [if_pos e8, if_pos (by omega)]
          · rw [if_neg e8, if_neg (by omega)]) (by omega) (by omega) (by omega)
      rw [if_pos e]
      refine ⟨U', ?_, g2, g3⟩
      simp (disch := first | (simp (disch := omega) only [R_fI_fI, R_fI_fR, R_fI_aI, R_fI_aR, R_fI_new, R_fR_fI, R_fR_fR, R_fR_aI, R_fR_aR, R_fR_new, R_aI_fI, R_aI_fR, R_aI_aI, R_aI_aR, R_aI_new, R_aR_fI, R_aR_fR, R_aR_aI, R_aR_aR, R_aR_new, R_cl_fI, R_cl_fR, R_cl_aI, R_cl_aR, R_cl_new, R_ln_fI, R_ln_fR, R_ln_aI, R_ln_aR, R_ln_new, R_wr_fI, R_wr_fR, R_wr_aI, R_wr_aR, R_wr_new, R_nx_fI, R_nx_fR, R_nx_aI, R_nx_aR, R_nx_new, R_sl_fI, R_sl_fR, R_sl_aI, R_sl_aR, R_sl_new, R_ks_fI, R_ks_fR, R_ks_aI, R_ks_aR, R_ks_new, R_kr_fI, R_kr_fR, R_kr_aI, R_kr_aR, R_kr_new, R_fJ_fI, R_fJ_fR, R_fJ_aI, R_fJ_aR, R_fJ_new, R_aJ_fI, R_aJ_fR, R_aJ_aI, R_aJ_aR, R_aJ_new, r_fI_row, r_fR_row, r_aR_row, r_cl_row, r_ln_row, r_wr_row, r_nx_row, r_sl_row, r_ks_row, r_kr_row, r_fJ_row, r_aJ_row, h_st_eq, st_ne, up_on, up_off, sr_on, sr_off, fx_cl0 hF, fx_ln0 hF, fx_wr0 hF, fx_cl1 hF, fx_ln1 hF, fx_wr1 hF, fx_cl2 hF, fx_ln2 hF, fx_wr2 hF, fx_cl3 hF, fx_ln3 hF, fx_wr3 hF, fx_cl4 hF, fx_ln4 hF, fx_wr4 hF, fx_cl45 hF, fx_ln45 hF, fx_wr45 hF, fx_cl46 hF, fx_ln46 hF, fx_wr46 hF, fx_cl47 hF, fx_ln47 hF, fx_wr47 hF, fx_cl48 hF, fx_ln48 hF, fx_wr48 hF, fx_cl49 hF, fx_ln49 hF, fx_wr49 hF, fx_cl50 hF, fx_ln50 hF, fx_wr50 hF, fx_cl51 hF, fx_ln51 hF, fx_wr51 hF, fx_cl52 hF, fx_ln52 hF, fx_wr52 hF, fx_cl53 hF, fx_ln53 hF, fx_wr53 hF, fx_cl54 hF, fx_ln54 hF, fx_wr54 hF, fx_r1 hF, fx_r9 hF, fx_r10 hF, fx_r11 hF, fx_r12 hF, fx_r13 hF, fx_r14 hF, fx_r15 hF, fx_r16 hF, fx_r23 hF, fx_r24 hF, fx_r25 hF, fx_r26 hF, fx_r28 hF, fx_kc hF, fx_kl hF, fx_kw hF, fx_kr hF, h4, hrow]; first | done | omega | decide) | omega) only [l_m1, l_m2, l_0, l_1, l_2, l_3, l_4, l_5, l_6, l_7, l_8, l_9, l_10, l_11, l_12, l_13, l_14, l_15, l_16, l_17, l_18, l_19, l_20, l_21, l_22, l_23, l_24, l_25, l_26, l_27, l_28, l_29, l_30, l_31, l_32, l_33, l_34, l_35, l_36, l_37, l_38, l_39, l_40, l_41, l_42, l_43, l_44, l_45, l_46, l_47, l_48, l_49, l_50, l_51, l_52, l_53, l_54, l_55, l_56, l_57, l_58, l_59, l_60, l_61, l_62, l_63, l_64, l_97, l_100, l_110, l_115, l_116, l_120, l_122, l_127, l_128, l_136, l_140, l_200, l_255, l_256, l_400, l_1000, l_30000, l_1200, l_65536, l_2147483639, l_2147483647, ob_some, obd_some, q_lt_t, q_lt_f, q_le_t, q_le_f, q_eq_t, q_eq_f, im_ne, im_ne', im_lt, im_le, im_lt', im_le', i_add, i_mul, i_dec, i_dec0, i_sub, i_and, i_shr, i_div, nar_b0, nar_b1, b2i_t, b2i_f, ↓reduceIte, if_true, if_false, ↓ob_some, ↓obd_some, ↓oc_n, ↓oc_s, ↓otr_l, ↓otr_r, ↓bcls, ↓bfI, ↓bfR, ↓bpfI, ↓bpfR, ↓baI, ↓baR, ↓bpaI, ↓blen, ↓bnobj, ↓bnarr, ↓bcast, gcls, gfI, gfR, pfI, pfR, gaI, gaR, paI, paR, paS_n, paS_s, glen, gown, gthr, narr, nobj, oc_n, oc_s, otr_l, otr_r, gcast, nar_bb, nar_ch, R_fI_fI, R_fI_fR, R_fI_aI, R_fI_aR, R_fI_new, R_fR_fI, R_fR_fR, R_fR_aI, R_fR_aR, R_fR_new, R_aI_fI, R_aI_fR, R_aI_aI, R_aI_aR, R_aI_new, R_aR_fI, R_aR_fR, R_aR_aI, R_aR_aR, R_aR_new, R_cl_fI, R_cl_fR, R_cl_aI, R_cl_aR, R_cl_new, R_ln_fI, R_ln_fR, R_ln_aI, R_ln_aR, R_ln_new, R_wr_fI, R_wr_fR, R_wr_aI, R_wr_aR, R_wr_new, R_nx_fI, R_nx_fR, R_nx_aI, R_nx_aR, R_nx_new, R_sl_fI, R_sl_fR, R_sl_aI, R_sl_aR, R_sl_new, R_ks_fI, R_ks_fR, R_ks_aI, R_ks_aR, R_ks_new, R_kr_fI, R_kr_fR, R_kr_aI, R_kr_aR, R_kr_new, R_fJ_fI, R_fJ_fR, R_fJ_aI, R_fJ_aR, R_fJ_new, R_aJ_fI, R_aJ_fR, R_aJ_aI, R_aJ_aR, R_aJ_new, r_fI_row, r_fR_row, r_aR_row, r_cl_row, r_ln_row, r_wr_row, r_nx_row, r_sl_row, r_ks_row, r_kr_row, r_fJ_row, r_aJ_row, h_st_eq, st_ne, up_on, up_off, sr_on, sr_off, fx_cl0 hF, fx_ln0 hF, fx_wr0 hF, fx_cl1 hF, fx_ln1 hF, fx_wr1 hF, fx_cl2 hF, fx_ln2 hF, fx_wr2 hF, fx_cl3 hF, fx_ln3 hF, fx_wr3 hF, fx_cl4 hF, fx_ln4 hF, fx_wr4 hF, fx_cl45 hF, fx_ln45 hF, fx_wr45 hF, fx_cl46 hF, fx_ln46 hF, fx_wr46 hF, fx_cl47 hF, fx_ln47 hF, fx_wr47 hF, fx_cl48 hF, fx_ln48 hF, fx_wr48 hF, fx_cl49 hF, fx_ln49 hF, fx_wr49 hF, fx_cl50 hF, fx_ln50 hF, fx_wr50 hF, fx_cl51 hF, fx_ln51 hF, fx_wr51 hF, fx_cl52 hF, fx_ln52 hF, fx_wr52 hF, fx_cl53 hF, fx_ln53 hF, fx_wr53 hF, fx_cl54 hF, fx_ln54 hF, fx_wr54 hF, fx_r1 hF, fx_r9 hF, fx_r10 hF, fx_r11 hF, fx_r12 hF, fx_r13 hF, fx_r14 hF, fx_r15 hF, fx_r16 hF, fx_r23 hF, fx_r24 hF, fx_r25 hF, fx_r26 hF, fx_r28 hF, fx_kc hF, fx_kl hF, fx_kw hF, fx_kr hF, h4, hrow]
      rw [g1, Nat.add_assoc]
    · have hne : ¬ h_aI S (a + 5 + k) 1 = i_ t := by
        by_cases e0 : z_ab s k = 0
        · rw [if_pos e0] at hkk
          rw [hkk]
          intro h
          exact i_neg1 (show t < 2147483648 by omega) h.symm
        · rw [if_neg e0] at hkk
          rw [hkk.1, i_inj (by omega) (by omega)]
          exact fun h => e ⟨h, e0⟩
      have hrow : ¬ h_aI U (a + 5 + k) 1 = i_ t := by rw [hU1]; exact hne
      have hrn : rowN S a t k = h_aI S (a + 5 + k) 1 := by unfold rowN; rw [if_neg hne]
      obtain ⟨U', g1, g2, g3⟩ := ih (k + 1) n c U hA (fun j hj => by
        obtain ⟨q1, q2⟩ := hU j hj
        refine ⟨q1, ?_⟩
        rw [q2]
        by_cases e8 : j < k
        · rw [if_pos e8, if_pos (by omega)]
        · by_cases ej : j = k
          · rw [if_neg e8, if_pos (by omega), ej, hrn]
          · rw [if_neg e8, if_neg (by omega)]) (by omega) (by omega) (by omega)
      rw [if_neg e, Nat.zero_add]
      refine ⟨U', ?_, g2, g3⟩
      simp (disch := first | (simp (disch := omega) only [R_fI_fI, R_fI_fR, R_fI_aI, R_fI_aR, R_fI_new, R_fR_fI, R_fR_fR, R_fR_aI, R_fR_aR, R_fR_new, R_aI_fI, R_aI_fR, R_aI_aI, R_aI_aR, R_aI_new, R_aR_fI, R_aR_fR, R_aR_aI, R_aR_aR, R_aR_new, R_cl_fI, R_cl_fR, R_cl_aI, R_cl_aR, R_cl_new, R_ln_fI, R_ln_fR, R_ln_aI, R_ln_aR, R_ln_new, R_wr_fI, R_wr_fR, R_wr_aI, R_wr_aR, R_wr_new, R_nx_fI, R_nx_fR, R_nx_aI, R_nx_aR, R_nx_new, R_sl_fI, R_sl_fR, R_sl_aI, R_sl_aR, R_sl_new, R_ks_fI, R_ks_fR, R_ks_aI, R_ks_aR, R_ks_new, R_kr_fI, R_kr_fR, R_kr_aI, R_kr_aR, R_kr_new, R_fJ_fI, R_fJ_fR, R_fJ_aI, R_fJ_aR, R_fJ_new, R_aJ_fI, R_aJ_fR, R_aJ_aI, R_aJ_aR, R_aJ_new, r_fI_row, r_fR_row, r_aR_row, r_cl_row, r_ln_row, r_wr_row, r_nx_row, r_sl_row, r_ks_row, r_kr_row, r_fJ_row, r_aJ_row, h_st_eq, st_ne, up_on, up_off, sr_on, sr_off, fx_cl0 hF, fx_ln0 hF, fx_wr0 hF, fx_cl1 hF, fx_ln1 hF, fx_wr1 hF, fx_cl2 hF, fx_ln2 hF, fx_wr2 hF, fx_cl3 hF, fx_ln3 hF, fx_wr3 hF, fx_cl4 hF, fx_ln4 hF, fx_wr4 hF, fx_cl45 hF, fx_ln45 hF, fx_wr45 hF, fx_cl46 hF, fx_ln46 hF, fx_wr46 hF, fx_cl47 hF, fx_ln47 hF, fx_wr47 hF, fx_cl48 hF, fx_ln48 hF, fx_wr48 hF, fx_cl49 hF, fx_ln49 hF, fx_wr49 hF, fx_cl50 hF, fx_ln50 hF, fx_wr50 hF, fx_cl51 hF, fx_ln51 hF, fx_wr51 hF, fx_cl52 hF, fx_ln52 hF, fx_wr52 hF, fx_cl53 hF, fx_ln53 hF, fx_wr53 hF, fx_cl54 hF, fx_ln54 hF, fx_wr54 hF, fx_r1 hF, fx_r9 hF, fx_r10 hF, fx_r11 hF, fx_r12 hF, fx_r13 hF, fx_r14 hF, fx_r15 hF, fx_r16 hF, fx_r23 hF, fx_r24 hF, fx_r25 hF, fx_r26 hF, fx_r28 hF, fx_kc hF, fx_kl hF, fx_kw hF, fx_kr hF, h4, hrow]; first | done | omega | decide) | omega) only [l_m1, l_m2, l_0, l_1, l_2, l_3, l_4, l_5, l_6, l_7, l_8, l_9, l_10, l_11, l_12, l_13, l_14, l_15, l_16, l_17, l_18, l_19, l_20, l_21, l_22, l_23, l_24, l_25, l_26, l_27, l_28, l_29, l_30, l_31, l_32, l_33, l_34, l_35, l_36, l_37, l_38, l_39, l_40, l_41, l_42, l_43, l_44, l_45, l_46, l_47, l_48, l_49, l_50, l_51, l_52, l_53, l_54, l_55, l_56, l_57, l_58, l_59, l_60, l_61, l_62, l_63, l_64, l_97, l_100, l_110, l_115, l_116, l_120, l_122, l_127, l_128, l_136, l_140, l_200, l_255, l_256, l_400, l_1000, l_30000, l_1200, l_65536, l_2147483639, l_2147483647, ob_some, obd_some, q_lt_t, q_lt_f, q_le_t, q_le_f, q_eq_t, q_eq_f, im_ne, im_ne', im_lt, im_le, im_lt', im_le', i_add, i_mul, i_dec, i_dec0, i_sub, i_and, i_shr, i_div, nar_b0, nar_b1, b2i_t, b2i_f, ↓reduceIte, if_true, if_false, ↓ob_some, ↓obd_some, ↓oc_n, ↓oc_s, ↓otr_l, ↓otr_r, ↓bcls, ↓bfI, ↓bfR, ↓bpfI, ↓bpfR, ↓baI, ↓baR, ↓bpaI, ↓blen, ↓bnobj, ↓bnarr, ↓bcast, gcls, gfI, gfR, pfI, pfR, gaI, gaR, paI, paR, paS_n, paS_s, glen, gown, gthr, narr, nobj, oc_n, oc_s, otr_l, otr_r, gcast, nar_bb, nar_ch, R_fI_fI, R_fI_fR, R_fI_aI, R_fI_aR, R_fI_new, R_fR_fI, R_fR_fR, R_fR_aI, R_fR_aR, R_fR_new, R_aI_fI, R_aI_fR, R_aI_aI, R_aI_aR, R_aI_new, R_aR_fI, R_aR_fR, R_aR_aI, R_aR_aR, R_aR_new, R_cl_fI, R_cl_fR, R_cl_aI, R_cl_aR, R_cl_new, R_ln_fI, R_ln_fR, R_ln_aI, R_ln_aR, R_ln_new, R_wr_fI, R_wr_fR, R_wr_aI, R_wr_aR, R_wr_new, R_nx_fI, R_nx_fR, R_nx_aI, R_nx_aR, R_nx_new, R_sl_fI, R_sl_fR, R_sl_aI, R_sl_aR, R_sl_new, R_ks_fI, R_ks_fR, R_ks_aI, R_ks_aR, R_ks_new, R_kr_fI, R_kr_fR, R_kr_aI, R_kr_aR, R_kr_new, R_fJ_fI, R_fJ_fR, R_fJ_aI, R_fJ_aR, R_fJ_new, R_aJ_fI, R_aJ_fR, R_aJ_aI, R_aJ_aR, R_aJ_new, r_fI_row, r_fR_row, r_aR_row, r_cl_row, r_ln_row, r_wr_row, r_nx_row, r_sl_row, r_ks_row, r_kr_row, r_fJ_row, r_aJ_row, h_st_eq, st_ne, up_on, up_off, sr_on, sr_off, fx_cl0 hF, fx_ln0 hF, fx_wr0 hF, fx_cl1 hF, fx_ln1 hF, fx_wr1 hF, fx_cl2 hF, fx_ln2 hF, fx_wr2 hF, fx_cl3 hF, fx_ln3 hF, fx_wr3 hF, fx_cl4 hF, fx_ln4 hF, fx_wr4 hF, fx_cl45 hF, fx_ln45 hF, fx_wr45 hF, fx_cl46 hF, fx_ln46 hF, fx_wr46 hF, fx_cl47 hF, fx_ln47 hF, fx_wr47 hF, fx_cl48 hF, fx_ln48 hF, fx_wr48 hF, fx_cl49 hF, fx_ln49 hF, fx_wr49 hF, fx_cl50 hF, fx_ln50 hF, fx_wr50 hF, fx_cl51 hF, fx_ln51 hF, fx_wr51 hF, fx_cl52 hF, fx_ln52 hF, fx_wr52 hF, fx_cl53 hF, fx_ln53 hF, fx_wr53 hF, fx_cl54 hF, fx_ln54 hF, fx_wr54 hF, fx_r1 hF, fx_r9 hF, fx_r10 hF, fx_r11 hF, fx_r12 hF, fx_r13 hF, fx_r14 hF, fx_r15 hF, fx_r16 hF, fx_r23 hF, fx_r24 hF, fx_r25 hF, fx_r26 hF, fx_r28 hF, fx_kc hF, fx_kl hF, fx_kw hF, fx_kr hF, h4, hrow]
      exact g1
theorem C_drop_g {S : HS} {a : Nat} {s : SP} {tb ty : Nat → Nat} (hF : FX S a) (hs : RCs S a s) (ht : RCt S a s tb ty) (hb : SB s) (hs5 : SI s) {t : Nat} (htt : t < 2147483648) : ∀ (r u n : Nat), u + r = z_n s → r < n →
    f_X0_drop_n12 a n (i_ t) (i_ u) S = if ((List.range' u r).any fun u => z_th s u && (List.range' 0 (z_nb s u)).any fun j => decide (z_fr s u j = t)) = true then some (i_m2, S) else (p_aS S 36 (a + 1) (i_ t) none).bind fun T4 => f_X0_drop_n85 a fu_ (i_ t) (i_ 0) (i_ 0) T4 := by
  have hn16 := hb.1
  have h1 := hs.1
  intro r
  induction r with
  | zero =>
    intro u n hu hn
    obtain ⟨n, rfl⟩ : ∃ m, n = m + 1 := ⟨n - 1, by omega⟩
    unfold f_X0_drop_n12
    rw [l_0]
    rw [gfI (fx_cl0 hF), h1]
    simp only [ob_some]
    rw [if_pos (by rw [i_le (by omega) (by omega)]; omega), gfR (fx_cl0 hF), fx_r1 hF]
    simp only [ob_some]
    simp
  | succ r ih =>
    intro u n hu hn
    obtain ⟨n, rfl⟩ : ∃ m, n = m + 1 := ⟨n - 1, by omega⟩
    have ih' := ih (u + 1) n (by omega) (by omega)
    have h2 := ht u (by omega)
    rw [List.range'_succ, List.any_cons]
    unfold f_X0_drop_n12
    cases hth : z_th s u with
    | false =>
      rw [hth, if_neg (by decide)] at h2
      have hfu : f_X0_drop_n22 (fun x1 x2 S => f_X0_drop_n12 a n x1 x2 S) a fu_ (i_ t) (i_ u) (i_ 0) S = f_X0_drop_n12 a n (i_ t) (i_ (u + 1)) S := by
        rw [fu_eq]
        unfold f_X0_drop_n22
        simp (disch := first | (simp (disch := omega) only [R_fI_fI, R_fI_fR, R_fI_aI, R_fI_aR, R_fI_new, R_fR_fI, R_fR_fR, R_fR_aI, R_fR_aR, R_fR_new, R_aI_fI, R_aI_fR, R_aI_aI, R_aI_aR, R_aI_new, R_aR_fI, R_aR_fR, R_aR_aI, R_aR_aR, R_aR_new, R_cl_fI, R_cl_fR, R_cl_aI, R_cl_aR, R_cl_new, R_ln_fI, R_ln_fR, R_ln_aI, R_ln_aR, R_ln_new, R_wr_fI, R_wr_fR, R_wr_aI, R_wr_aR, R_wr_new, R_nx_fI, R_nx_fR, R_nx_aI, R_nx_aR, R_nx_new, R_sl_fI, R_sl_fR, R_sl_aI, R_sl_aR, R_sl_new, R_ks_fI, R_ks_fR, R_ks_aI, R_ks_aR, R_ks_new, R_kr_fI, R_kr_fR, R_kr_aI, R_kr_aR, R_kr_new, R_fJ_fI, R_fJ_fR, R_fJ_aI, R_fJ_aR, R_fJ_new, R_aJ_fI, R_aJ_fR, R_aJ_aI, R_aJ_aR, R_aJ_new, r_fI_row, r_fR_row, r_aR_row, r_cl_row, r_ln_row, r_wr_row, r_nx_row, r_sl_row, r_ks_row, r_kr_row, r_fJ_row, r_aJ_row, h_st_eq, st_ne, up_on, up_off, sr_on, sr_off, fx_cl0 hF, fx_ln0 hF, fx_wr0 hF, fx_cl1 hF, fx_ln1 hF, fx_wr1 hF, fx_cl2 hF, fx_ln2 hF, fx_wr2 hF, fx_cl3 hF, fx_ln3 hF, fx_wr3 hF, fx_cl4 hF, fx_ln4 hF, fx_wr4 hF, fx_cl45 hF, fx_ln45 hF, fx_wr45 hF, fx_cl46 hF, fx_ln46 hF, fx_wr46 hF, fx_cl47 hF, fx_ln47 hF, fx_wr47 hF, fx_cl48 hF, fx_ln48 hF, fx_wr48 hF, fx_cl49 hF, fx_ln49 hF, fx_wr49 hF, fx_cl50 hF, fx_ln50 hF, fx_wr50 hF, fx_cl51 hF, fx_ln51 hF, fx_wr51 hF, fx_cl52 hF, fx_ln52 hF, fx_wr52 hF, fx_cl53 hF, fx_ln53 hF, fx_wr53 hF, fx_cl54 hF, fx_ln54 hF, fx_wr54 hF, fx_r1 hF, fx_r9 hF, fx_r10 hF, fx_r11 hF, fx_r12 hF, fx_r13 hF, fx_r14 hF, fx_r15 hF, fx_r16 hF, fx_r23 hF, fx_r24 hF, fx_r25 hF, fx_r26 hF, fx_r28 hF, fx_kc hF, fx_kl hF, fx_kw hF, fx_kr hF, h2]; first | done | omega | decide) | omega) only [l_m1, l_m2, l_0, l_1, l_2, l_3, l_4, l_5, l_6, l_7, l_8, l_9, l_10, l_11, l_12, l_13, l_14, l_15, l_16, l_17, l_18, l_19, l_20, l_21, l_22, l_23, l_24, l_25, l_26, l_27, l_28, l_29, l_30, l_31, l_32, l_33, l_34, l_35, l_36, l_37, l_38, l_39, l_40, l_41, l_42, l_43, l_44, l_45, l_46, l_47, l_48, l_49, l_50, l_51, l_52, l_53, l_54, l_55, l_56, l_57, l_58, l_59, l_60, l_61, l_62, l_63, l_64, l_97, l_100, l_110, l_115, l_116, l_120, l_122, l_127, l_128, l_136, l_140, l_200, l_255, l_256, l_400, l_1000, l_30000, l_1200, l_65536, l_2147483639, l_2147483647, ob_some, obd_some, q_lt_t, q_lt_f, q_le_t, q_le_f, q_eq_t, q_eq_f, im_ne, im_ne', im_lt, im_le, im_lt', im_le', i_add, i_mul, i_dec, i_dec0, i_sub, i_and, i_shr, i_div, nar_b0, nar_b1, b2i_t, b2i_f, ↓reduceIte, if_true, if_false, ↓ob_some, ↓obd_some, ↓oc_n, ↓oc_s, ↓otr_l, ↓otr_r, ↓bcls, ↓bfI, ↓bfR, ↓bpfI, ↓bpfR, ↓baI, ↓baR, ↓bpaI, ↓blen, ↓bnobj, ↓bnarr, ↓bcast, gcls, gfI, gfR, pfI, pfR, gaI, gaR, paI, paR, paS_n, paS_s, glen, gown, gthr, narr, nobj, oc_n, oc_s, otr_l, otr_r, gcast, nar_bb, nar_ch, R_fI_fI, R_fI_fR, R_fI_aI, R_fI_aR, R_fI_new, R_fR_fI, R_fR_fR, R_fR_aI, R_fR_aR, R_fR_new, R_aI_fI, R_aI_fR, R_aI_aI, R_aI_aR, R_aI_new, R_aR_fI, R_aR_fR, R_aR_aI, R_aR_aR, R_aR_new, R_cl_fI, R_cl_fR, R_cl_aI, R_cl_aR, R_cl_new, R_ln_fI, R_ln_fR, R_ln_aI, R_ln_aR, R_ln_new, R_wr_fI, R_wr_fR, R_wr_aI, R_wr_aR, R_wr_new, R_nx_fI, R_nx_fR, R_nx_aI, R_nx_aR, R_nx_new, R_sl_fI, R_sl_fR, R_sl_aI, R_sl_aR, R_sl_new, R_ks_fI, R_ks_fR, R_ks_aI, R_ks_aR, R_ks_new, R_kr_fI, R_kr_fR, R_kr_aI, R_kr_aR, R_kr_new, R_fJ_fI, R_fJ_fR, R_fJ_aI, R_fJ_aR, R_fJ_new, R_aJ_fI, R_aJ_fR, R_aJ_aI, R_aJ_aR, R_aJ_new, r_fI_row, r_fR_row, r_aR_row, r_cl_row, r_ln_row, r_wr_row, r_nx_row, r_sl_row, r_ks_row, r_kr_row, r_fJ_row, r_aJ_row, h_st_eq, st_ne, up_on, up_off, sr_on, sr_off, fx_cl0 hF, fx_ln0 hF, fx_wr0 hF, fx_cl1 hF, fx_ln1 hF, fx_wr1 hF, fx_cl2 hF, fx_ln2 hF, fx_wr2 hF, fx_cl3 hF, fx_ln3 hF, fx_wr3 hF, fx_cl4 hF, fx_ln4 hF, fx_wr4 hF, fx_cl45 hF, fx_ln45 hF, fx_wr45 hF, fx_cl46 hF, fx_ln46 hF, fx_wr46 hF, fx_cl47 hF, fx_ln47 hF, fx_wr47 hF, fx_cl48 hF, fx_ln48 hF, fx_wr48 hF, fx_cl49 hF, fx_ln49 hF, fx_wr49 hF, fx_cl50 hF, fx_ln50 hF, fx_wr50 hF, fx_cl51 hF, fx_ln51 hF, fx_wr51 hF, fx_cl52 hF, fx_ln52 hF, fx_wr52 hF, fx_cl53 hF, fx_ln53 hF, fx_wr53 hF, fx_cl54 hF, fx_ln54 hF, fx_wr54 hF, fx_r1 hF, fx_r9 hF, fx_r10 hF, fx_r11 hF, fx_r12 hF, fx_r13 hF, fx_r14 hF, fx_r15 hF, fx_r16 hF, fx_r23 hF, fx_r24 hF, fx_r25 hF, fx_r26 hF, fx_r28 hF, fx_kc hF, fx_kl hF, fx_kw hF, fx_kr hF, h2]
      rw [l_0, gfI (fx_cl0 hF), h1]
      simp only [ob_some]
      rw [if_neg (by rw [i_le (by omega) (by omega)]; omega), hfu, ih', Bool.false_and, Bool.false_or]
    | true =>
      have hfr := C_drop_f hF ht hb (show u < z_n s by omega) hth htt (fun k hk => by have := (hs5.2.2.2.2.1 u (by omega)).2.2.2 k hk; omega) (fun x1 x2 S => f_X0_drop_n12 a n x1 x2 S) (z_nb s u) 0 fu_ (by omega) (by have := (hb.2.2.2.2.2.2 u (by omega)).2.2.1; rw [fu_eq]; omega)
      rw [l_0, gfI (fx_cl0 hF), h1]
      simp only [ob_some]
      rw [if_neg (by rw [i_le (by omega) (by omega)]; omega), hfr, ih', Bool.true_and]
      by_cases e : ((List.range' 0 (z_nb s u)).any fun j => decide (z_fr s u j = t)) = true
      · rw [if_pos e, if_pos (by rw [e]; rfl)]
      · rw [if_neg e]
        have e' : ((List.range' 0 (z_nb s u)).any fun j => decide (z_fr s u j = t)) = false := by simpa using e
        rw [e', Bool.false_or]
theorem C_drop {S : HS} {a : Nat} {s : SP} (h : RC S a s) (hb : SB s) (hs5 : SI s) (x : Int32) : ∃ T, f_X0_drop a x S = some ((sp_drop s x).1, T) ∧ CE S T a (sp_drop s x).2 0 := by
  have hR := h
  obtain ⟨hF, hs, ho, hk, hz, tb, ty, ht⟩ := h
  have hn := hb.1
  have h2 := C_table2 hF hs ht hb x
  unfold tbo at h2
  unfold f_X0_drop
  cases hT : isT s x with
  | false =>
    rw [show sp_drop s x = (-1, s) from if_neg (by simp [hT])]
    rw [hT, if_neg (by decide)] at h2
    refine ⟨S, ?_, CE.rf hR 0⟩
    simp (disch := first | (simp (disch := omega) only [R_fI_fI, R_fI_fR, R_fI_aI, R_fI_aR, R_fI_new, R_fR_fI, R_fR_fR, R_fR_aI, R_fR_aR, R_fR_new, R_aI_fI, R_aI_fR, R_aI_aI, R_aI_aR, R_aI_new, R_aR_fI, R_aR_fR, R_aR_aI, R_aR_aR, R_aR_new, R_cl_fI, R_cl_fR, R_cl_aI, R_cl_aR, R_cl_new, R_ln_fI, R_ln_fR, R_ln_aI, R_ln_aR, R_ln_new, R_wr_fI, R_wr_fR, R_wr_aI, R_wr_aR, R_wr_new, R_nx_fI, R_nx_fR, R_nx_aI, R_nx_aR, R_nx_new, R_sl_fI, R_sl_fR, R_sl_aI, R_sl_aR, R_sl_new, R_ks_fI, R_ks_fR, R_ks_aI, R_ks_aR, R_ks_new, R_kr_fI, R_kr_fR, R_kr_aI, R_kr_aR, R_kr_new, R_fJ_fI, R_fJ_fR, R_fJ_aI, R_fJ_aR, R_fJ_new, R_aJ_fI, R_aJ_fR, R_aJ_aI, R_aJ_aR, R_aJ_new, r_fI_row, r_fR_row, r_aR_row, r_cl_row, r_ln_row, r_wr_row, r_nx_row, r_sl_row, r_ks_row, r_kr_row, r_fJ_row, r_aJ_row, h_st_eq, st_ne, up_on, up_off, sr_on, sr_off, fx_cl0 hF, fx_ln0 hF, fx_wr0 hF, fx_cl1 hF, fx_ln1 hF, fx_wr1 hF, fx_cl2 hF, fx_ln2 hF, fx_wr2 hF, fx_cl3 hF, fx_ln3 hF, fx_wr3 hF, fx_cl4 hF, fx_ln4 hF, fx_wr4 hF, fx_cl45 hF, fx_ln45 hF, fx_wr45 hF, fx_cl46 hF, fx_ln46 hF, fx_wr46 hF, fx_cl47 hF, fx_ln47 hF, fx_wr47 hF, fx_cl48 hF, fx_ln48 hF, fx_wr48 hF, fx_cl49 hF, fx_ln49 hF, fx_wr49 hF, fx_cl50 hF, fx_ln50 hF, fx_wr50 hF, fx_cl51 hF, fx_ln51 hF, fx_wr51 hF, fx_cl52 hF, fx_ln52 hF, fx_wr52 hF, fx_cl53 hF, fx_ln53 hF, fx_wr53 hF, fx_cl54 hF, fx_ln54 hF, fx_wr54 hF, fx_r1 hF, fx_r9 hF, fx_r10 hF, fx_r11 hF, fx_r12 hF, fx_r13 hF, fx_r14 hF, fx_r15 hF, fx_r16 hF, fx_r23 hF, fx_r24 hF, fx_r25 hF, fx_r26 hF, fx_r28 hF, fx_kc hF, fx_kl hF, fx_kw hF, fx_kr hF, h2]; first | done | omega | decide) | omega) only [l_m1, l_m2, l_0, l_1, l_2, l_3, l_4, l_5, l_6, l_7, l_8, l_9, l_10, l_11, l_12, l_13, l_14, l_15, l_16, l_17, l_18, l_19, l_20, l_21, l_22, l_23, l_24, l_25, l_26, l_27, l_28, l_29, l_30, l_31, l_32, l_33, l_34, l_35, l_36, l_37, l_38, l_39, l_40, l_41, l_42, l_43, l_44, l_45, l_46, l_47, l_48, l_49, l_50, l_51, l_52, l_53, l_54, l_55, l_56, l_57, l_58, l_59, l_60, l_61, l_62, l_63, l_64, l_97, l_100, l_110, l_115, l_116, l_120, l_122, l_127, l_128, l_136, l_140, l_200, l_255, l_256, l_400, l_1000, l_30000, l_1200, l_65536, l_2147483639, l_2147483647, ob_some, obd_some, q_lt_t, q_lt_f, q_le_t, q_le_f, q_eq_t, q_eq_f, im_ne, im_ne', im_lt, im_le, im_lt', im_le', i_add, i_mul, i_dec, i_dec0, i_sub, i_and, i_shr, i_div, nar_b0, nar_b1, b2i_t, b2i_f, ↓reduceIte, if_true, if_false, ↓ob_some, ↓obd_some, ↓oc_n, ↓oc_s, ↓otr_l, ↓otr_r, ↓bcls, ↓bfI, ↓bfR, ↓bpfI, ↓bpfR, ↓baI, ↓baR, ↓bpaI, ↓blen, ↓bnobj, ↓bnarr, ↓bcast, gcls, gfI, gfR, pfI, pfR, gaI, gaR, paI, paR, paS_n, paS_s, glen, gown, gthr, narr, nobj, oc_n, oc_s, otr_l, otr_r, gcast, nar_bb, nar_ch, R_fI_fI, R_fI_fR, R_fI_aI, R_fI_aR, R_fI_new, R_fR_fI, R_fR_fR, R_fR_aI, R_fR_aR, R_fR_new, R_aI_fI, R_aI_fR, R_aI_aI, R_aI_aR, R_aI_new, R_aR_fI, R_aR_fR, R_aR_aI, R_aR_aR, R_aR_new, R_cl_fI, R_cl_fR, R_cl_aI, R_cl_aR, R_cl_new, R_ln_fI, R_ln_fR, R_ln_aI, R_ln_aR, R_ln_new, R_wr_fI, R_wr_fR, R_wr_aI, R_wr_aR, R_wr_new, R_nx_fI, R_nx_fR, R_nx_aI, R_nx_aR, R_nx_new, R_sl_fI, R_sl_fR, R_sl_aI, R_sl_aR, R_sl_new, R_ks_fI, R_ks_fR, R_ks_aI, R_ks_aR, R_ks_new, R_kr_fI, R_kr_fR, R_kr_aI, R_kr_aR, R_kr_new, R_fJ_fI, R_fJ_fR, R_fJ_aI, R_fJ_aR, R_fJ_new, R_aJ_fI, R_aJ_fR, R_aJ_aI, R_aJ_aR, R_aJ_new, r_fI_row, r_fR_row, r_aR_row, r_cl_row, r_ln_row, r_wr_row, r_nx_row, r_sl_row, r_ks_row, r_kr_row, r_fJ_row, r_aJ_row, h_st_eq, st_ne, up_on, up_off, sr_on, sr_off, fx_cl0 hF, fx_ln0 hF, fx_wr0 hF, fx_cl1 hF, fx_ln1 hF, fx_wr1 hF, fx_cl2 hF, fx_ln2 hF, fx_wr2 hF, fx_cl3 hF, fx_ln3 hF, fx_wr3 hF, fx_cl4 hF, fx_ln4 hF, fx_wr4 hF, fx_cl45 hF, fx_ln45 hF, fx_wr45 hF, fx_cl46 hF, fx_ln46 hF, fx_wr46 hF, fx_cl47 hF, fx_ln47 hF, fx_wr47 hF, fx_cl48 hF, fx_ln48 hF, fx_wr48 hF, fx_cl49 hF, fx_ln49 hF, fx_wr49 hF, fx_cl50 hF, fx_ln50 hF, fx_wr50 hF, fx_cl51 hF, fx_ln51 hF, fx_wr51 hF, fx_cl52 hF, fx_ln52 hF, fx_wr52 hF, fx_cl53 hF, fx_ln53 hF, fx_wr53 hF, fx_cl54 hF, fx_ln54 hF, fx_wr54 hF, fx_r1 hF, fx_r9 hF, fx_r10 hF, fx_r11 hF, fx_r12 hF, fx_r13 hF, fx_r14 hF, fx_r15 hF, fx_r16 hF, fx_r23 hF, fx_r24 hF, fx_r25 hF, fx_r26 hF, fx_r28 hF, fx_kc hF, fx_kl hF, fx_kw hF, fx_kr hF, h2]
  | true =>
    rw [hT, if_pos rfl] at h2
    obtain ⟨t, rfl, htn, hth⟩ := isT_of hT
    rw [i_cl (show t < 2147483648 by omega)] at h2
    have hg := C_drop_g hF hs ht hb hs5 (show t < 2147483648 by omega) (z_n s) 0 fu_ (by omega) (by rw [fu_eq]; omega)
    have hsp : sp_drop s (i_ t) = if dp_u s t = true then (-2, s) else (i_ (dp_c s t (List.range' 0 (z_na s))), dp_s s t) := by
      unfold sp_drop
      rw [if_pos hT, i_cl (show t < 2147483648 by omega)]
    have hdu : ((List.range' 0 (z_n s)).any fun u => z_th s u && (List.range' 0 (z_nb s u)).any fun j => decide (z_fr s u j = t)) = dp_u s t := rfl
    rw [hdu] at hg
    rw [hsp]
    by_cases hd : dp_u s t = true
    · rw [if_pos hd] at hg ⊢
      refine ⟨S, ?_, CE.rf hR 0⟩
      simp (disch := first | (simp (disch := omega) only [R_fI_fI, R_fI_fR, R_fI_aI, R_fI_aR, R_fI_new, R_fR_fI, R_fR_fR, R_fR_aI, R_fR_aR, R_fR_new, R_aI_fI, R_aI_fR, R_aI_aI, R_aI_aR, R_aI_new, R_aR_fI, R_aR_fR, R_aR_aI, R_aR_aR, R_aR_new, R_cl_fI, R_cl_fR, R_cl_aI, R_cl_aR, R_cl_new, R_ln_fI, R_ln_fR, R_ln_aI, R_ln_aR, R_ln_new, R_wr_fI, R_wr_fR, R_wr_aI, R_wr_aR, R_wr_new, R_nx_fI, R_nx_fR, R_nx_aI, R_nx_aR, R_nx_new, R_sl_fI, R_sl_fR, R_sl_aI, R_sl_aR, R_sl_new, R_ks_fI, R_ks_fR, R_ks_aI, R_ks_aR, R_ks_new, R_kr_fI, R_kr_fR, R_kr_aI, R_kr_aR, R_kr_new, R_fJ_fI, R_fJ_fR, R_fJ_aI, R_fJ_aR, R_fJ_new, R_aJ_fI, R_aJ_fR, R_aJ_aI, R_aJ_aR, R_aJ_new, r_fI_row, r_fR_row, r_aR_row, r_cl_row, r_ln_row, r_wr_row, r_nx_row, r_sl_row, r_ks_row, r_kr_row, r_fJ_row, r_aJ_row, h_st_eq, st_ne, up_on, up_off, sr_on, sr_off, fx_cl0 hF, fx_ln0 hF, fx_wr0 hF, fx_cl1 hF, fx_ln1 hF, fx_wr1 hF, fx_cl2 hF, fx_ln2 hF, fx_wr2 hF, fx_cl3 hF, fx_ln3 hF, fx_wr3 hF, fx_cl4 hF, fx_ln4 hF, fx_wr4 hF, fx_cl45 hF, fx_ln45 hF, fx_wr45 hF, fx_cl46 hF, fx_ln46 hF, fx_wr46 hF, fx_cl47 hF, fx_ln47 hF, fx_wr47 hF, fx_cl48 hF, fx_ln48 hF, fx_wr48 hF, fx_cl49 hF, fx_ln49 hF, fx_wr49 hF, fx_cl50 hF, fx_ln50 hF, fx_wr50 hF, fx_cl51 hF, fx_ln51 hF, fx_wr51 hF, fx_cl52 hF, fx_ln52 hF, fx_wr52 hF, fx_cl53 hF, fx_ln53 hF, fx_wr53 hF, fx_cl54 hF, fx_ln54 hF, fx_wr54 hF, fx_r1 hF, fx_r9 hF, fx_r10 hF, fx_r11 hF, fx_r12 hF, fx_r13 hF, fx_r14 hF, fx_r15 hF, fx_r16 hF, fx_r23 hF, fx_r24 hF, fx_r25 hF, fx_r26 hF, fx_r28 hF, fx_kc hF, fx_kl hF, fx_kw hF, fx_kr hF, h2, hg]; first | done | omega | decide) | omega) only [l_m1, l_m2, l_0, l_1, l_2, l_3, l_4, l_5, l_6, l_7, l_8, l_9, l_10, l_11, l_12, l_13, l_14, l_15, l_16, l_17, l_18, l_19, l_20, l_21, l_22, l_23, l_24, l_25, l_26, l_27, l_28, l_29, l_30, l_31, l_32, l_33, l_34, l_35, l_36, l_37, l_38, l_39, l_40, l_41, l_42, l_43, l_44, l_45, l_46, l_47, l_48, l_49, l_50, l_51, l_52, l_53, l_54, l_55, l_56, l_57, l_58, l_59, l_60, l_61, l_62, l_63, l_64, l_97, l_100, l_110, l_115, l_116, l_120, l_122, l_127, l_128, l_136, l_140, l_200, l_255, l_256, l_400, l_1000, l_30000, l_1200, l_65536, l_2147483639, l_2147483647, ob_some, obd_some, q_lt_t, q_lt_f, q_le_t, q_le_f, q_eq_t, q_eq_f, im_ne, im_ne', im_lt, im_le, im_lt', im_le', i_add, i_mul, i_dec, i_dec0, i_sub, i_and, i_shr, i_div, nar_b0, nar_b1, b2i_t, b2i_f, ↓reduceIte, if_true, if_false, ↓ob_some, ↓obd_some, ↓oc_n, ↓oc_s, ↓otr_l, ↓otr_r, ↓bcls, ↓bfI, ↓bfR, ↓bpfI, ↓bpfR, ↓baI, ↓baR, ↓bpaI, ↓blen, ↓bnobj, ↓bnarr, ↓bcast, gcls, gfI, gfR, pfI, pfR, gaI, gaR, paI, paR, paS_n, paS_s, glen, gown, gthr, narr, nobj, oc_n, oc_s, otr_l, otr_r, gcast, nar_bb, nar_ch, R_fI_fI, R_fI_fR, R_fI_aI, R_fI_aR, R_fI_new, R_fR_fI, R_fR_fR, R_fR_aI, R_fR_aR, R_fR_new, R_aI_fI, R_aI_fR, R_aI_aI, R_aI_aR, R_aI_new, R_aR_fI, R_aR_fR, R_aR_aI, R_aR_aR, R_aR_new, R_cl_fI, R_cl_fR, R_cl_aI, R_cl_aR, R_cl_new, R_ln_fI, R_ln_fR, R_ln_aI, R_ln_aR, R_ln_new, R_wr_fI, R_wr_fR, R_wr_aI, R_wr_aR, R_wr_new, R_nx_fI, R_nx_fR, R_nx_aI, R_nx_aR, R_nx_new, R_sl_fI, R_sl_fR, R_sl_aI, R_sl_aR, R_sl_new, R_ks_fI, R_ks_fR, R_ks_aI, R_ks_aR, R_ks_new, R_kr_fI, R_kr_fR, R_kr_aI, R_kr_aR, R_kr_new, R_fJ_fI, R_fJ_fR, R_fJ_aI, R_fJ_aR, R_fJ_new, R_aJ_fI, R_aJ_fR, R_aJ_aI, R_aJ_aR, R_aJ_new, r_fI_row, r_fR_row, r_aR_row, r_cl_row, r_ln_row, r_wr_row, r_nx_row, r_sl_row, r_ks_row, r_kr_row, r_fJ_row, r_aJ_row, h_st_eq, st_ne, up_on, up_off, sr_on, sr_off, fx_cl0 hF, fx_ln0 hF, fx_wr0 hF, fx_cl1 hF, fx_ln1 hF, fx_wr1 hF, fx_cl2 hF, fx_ln2 hF, fx_wr2 hF, fx_cl3 hF, fx_ln3 hF, fx_wr3 hF, fx_cl4 hF, fx_ln4 hF, fx_wr4 hF, fx_cl45 hF, fx_ln45 hF, fx_wr45 hF, fx_cl46 hF, fx_ln46 hF, fx_wr46 hF, fx_cl47 hF, fx_ln47 hF, fx_wr47 hF, fx_cl48 hF, fx_ln48 hF, fx_wr48 hF, fx_cl49 hF, fx_ln49 hF, fx_wr49 hF, fx_cl50 hF, fx_ln50 hF, fx_wr50 hF, fx_cl51 hF, fx_ln51 hF, fx_wr51 hF, fx_cl52 hF, fx_ln52 hF, fx_wr52 hF, fx_cl53 hF, fx_ln53 hF, fx_wr53 hF, fx_cl54 hF, fx_ln54 hF, fx_wr54 hF, fx_r1 hF, fx_r9 hF, fx_r10 hF, fx_r11 hF, fx_r12 hF, fx_r13 hF, fx_r14 hF, fx_r15 hF, fx_r16 hF, fx_r23 hF, fx_r24 hF, fx_r25 hF, fx_r26 hF, fx_r28 hF, fx_kc hF, fx_kl hF, fx_kw hF, fx_kr hF, h2, hg]
    · rw [if_neg hd] at hg ⊢
      have kp1 : Kp S (s_aR S (a + 1) t none) a := Kp.aR
      have hx := hF.1
      have hF1 := kp1.fx hF
      have hk1 : RCk (s_aR S (a + 1) t none) a s := hk
      obtain ⟨U, g1, g2, g3⟩ := C_drop_a hF1 hk1 hb (show t < 16 by omega) (z_na s) 0 fu_ 0 (s_aR S (a + 1) t none) (AS.rf _ _) (fun j hj => ⟨fun _ _ => rfl, by rw [if_neg (Nat.not_lt_zero j)]⟩) (by omega) (by have := hb.2.1; rw [fu_eq]; omega) (by have := hb.2.1; omega)
      have hp : p_aS S 36 (a + 1) (i_ t) none = some (s_aR S (a + 1) t none) := by
        rw [paS_n]
        exact paR (fx_cl1 hF) (fx_wr1 hF) (by omega) (by rw [fx_ln1 hF]; omega)
      rw [hp, ob_some, g1, Nat.zero_add] at hg
      obtain ⟨⟨u1, u2, u3, u4⟩, u5, u6, u7⟩ := g2
      have kp := kp1.tr u6
      refine ⟨U, ?_, ⟨u6.fx hF1, ?_, ?_, ?_, u7 (hz.aR _ (by omega)), tb, ty, ?_⟩, kp, by rw [u3, R_nx_aR]; omega, by rw [u4, R_sl_aR]; omega⟩
      · simp (disch := first | (simp (disch := omega) only [R_fI_fI, R_fI_fR, R_fI_aI, R_fI_aR, R_fI_new, R_fR_fI, R_fR_fR, R_fR_aI, R_fR_aR, R_fR_new, R_aI_fI, R_aI_fR, R_aI_aI, R_aI_aR, R_aI_new, R_aR_fI, R_aR_fR, R_aR_aI, R_aR_aR, R_aR_new, R_cl_fI, R_cl_fR, R_cl_aI, R_cl_aR, R_cl_new, R_ln_fI, R_ln_fR, R_ln_aI, R_ln_aR, R_ln_new, R_wr_fI, R_wr_fR, R_wr_aI, R_wr_aR, R_wr_new, R_nx_fI, R_nx_fR, R_nx_aI, R_nx_aR, R_nx_new, R_sl_fI, R_sl_fR, R_sl_aI, R_sl_aR, R_sl_new, R_ks_fI, R_ks_fR, R_ks_aI, R_ks_aR, R_ks_new, R_kr_fI, R_kr_fR, R_kr_aI, R_kr_aR, R_kr_new, R_fJ_fI, R_fJ_fR, R_fJ_aI, R_fJ_aR, R_fJ_new, R_aJ_fI, R_aJ_fR, R_aJ_aI, R_aJ_aR, R_aJ_new, r_fI_row, r_fR_row, r_aR_row, r_cl_row, r_ln_row, r_wr_row, r_nx_row, r_sl_row, r_ks_row, r_kr_row, r_fJ_row, r_aJ_row, h_st_eq, st_ne, up_on, up_off, sr_on, sr_off, fx_cl0 hF, fx_ln0 hF, fx_wr0 hF, fx_cl1 hF, fx_ln1 hF, fx_wr1 hF, fx_cl2 hF, fx_ln2 hF, fx_wr2 hF, fx_cl3 hF, fx_ln3 hF, fx_wr3 hF, fx_cl4 hF, fx_ln4 hF, fx_wr4 hF, fx_cl45 hF, fx_ln45 hF, fx_wr45 hF, fx_cl46 hF, fx_ln46 hF, fx_wr46 hF, fx_cl47 hF, fx_ln47 hF, fx_wr47 hF, fx_cl48 hF, fx_ln48 hF, fx_wr48 hF, fx_cl49 hF, fx_ln49 hF, fx_wr49 hF, fx_cl50 hF, fx_ln50 hF, fx_wr50 hF, fx_cl51 hF, fx_ln51 hF, fx_wr51 hF, fx_cl52 hF, fx_ln52 hF, fx_wr52 hF, fx_cl53 hF, fx_ln53 hF, fx_wr53 hF, fx_cl54 hF, fx_ln54 hF, fx_wr54 hF, fx_r1 hF, fx_r9 hF, fx_r10 hF, fx_r11 hF, fx_r12 hF, fx_r13 hF, fx_r14 hF, fx_r15 hF, fx_r16 hF, fx_r23 hF, fx_r24 hF, fx_r25 hF, fx_r26 hF, fx_r28 hF, fx_kc hF, fx_kl hF, fx_kw hF, fx_kr hF, h2, hg]; first | done | omega | decide) | omega) only [l_m1, l_m2, l_0, l_1, l_2, l_3, l_4, l_5, l_6, l_7, l_8, l_9, l_10, l_11, l_12, l_13, l_14, l_15, l_16, l_17, l_18, l_19, l_20, l_21, l_22, l_23, l_24, l_25, l_26, l_27, l_28, l_29, l_30, l_31, l_32, l_33, l_34, l_35, l_36, l_37, l_38, l_39, l_40, l_41, l_42, l_43, l_44, l_45, l_46, l_47, l_48, l_49, l_50, l_51, l_52, l_53, l_54, l_55, l_56, l_57, l_58, l_59, l_60, l_61, l_62, l_63, l_64, l_97, l_100, l_110, l_115, l_116, l_120, l_122, l_127, l_128, l_136, l_140, l_200, l_255, l_256, l_400, l_1000, l_30000, l_1200, l_65536, l_2147483639, l_2147483647, ob_some, obd_some, q_lt_t, q_lt_f, q_le_t, q_le_f, q_eq_t, q_eq_f, im_ne, im_ne', im_lt, im_le, im_lt', im_le', i_add, i_mul, i_dec, i_dec0, i_sub, i_and, i_shr, i_div, nar_b0, nar_b1, b2i_t, b2i_f, ↓reduceIte, if_true, if_false, ↓ob_some, ↓obd_some, ↓oc_n, ↓oc_s, ↓otr_l, ↓otr_r, ↓bcls, ↓bfI, ↓bfR, ↓bpfI, ↓bpfR, ↓baI, ↓baR, ↓bpaI, ↓blen, ↓bnobj, ↓bnarr, ↓bcast, gcls, gfI, gfR, pfI, pfR, gaI, gaR, paI, paR, paS_n, paS_s, glen, gown, gthr, narr, nobj, oc_n, oc_s, otr_l, otr_r, gcast, nar_bb, nar_ch, R_fI_fI, R_fI_fR, R_fI_aI, R_fI_aR, R_fI_new, R_fR_fI, R_fR_fR, R_fR_aI, R_fR_aR, R_fR_new, R_aI_fI, R_aI_fR, R_aI_aI, R_aI_aR, R_aI_new, R_aR_fI, R_aR_fR, R_aR_aI, R_aR_aR, R_aR_new, R_cl_fI, R_cl_fR, R_cl_aI, R_cl_aR, R_cl_new, R_ln_fI, R_ln_fR, R_ln_aI, R_ln_aR, R_ln_new, R_wr_fI, R_wr_fR, R_wr_aI, R_wr_aR, R_wr_new, R_nx_fI, R_nx_fR, R_nx_aI, R_nx_aR, R_nx_new, R_sl_fI, R_sl_fR, R_sl_aI, R_sl_aR, R_sl_new, R_ks_fI, R_ks_fR, R_ks_aI, R_ks_aR, R_ks_new, R_kr_fI, R_kr_fR, R_kr_aI, R_kr_aR, R_kr_new, R_fJ_fI, R_fJ_fR, R_fJ_aI, R_fJ_aR, R_fJ_new, R_aJ_fI, R_aJ_fR, R_aJ_aI, R_aJ_aR, R_aJ_new, r_fI_row, r_fR_row, r_aR_row, r_cl_row, r_ln_row, r_wr_row, r_nx_row, r_sl_row, r_ks_row, r_kr_row, r_fJ_row, r_aJ_row, h_st_eq, st_ne, up_on, up_off, sr_on, sr_off, fx_cl0 hF, fx_ln0 hF, fx_wr0 hF, fx_cl1 hF, fx_ln1 hF, fx_wr1 hF, fx_cl2 hF, fx_ln2 hF, fx_wr2 hF, fx_cl3 hF, fx_ln3 hF, fx_wr3 hF, fx_cl4 hF, fx_ln4 hF, fx_wr4 hF, fx_cl45 hF, fx_ln45 hF, fx_wr45 hF, fx_cl46 hF, fx_ln46 hF, fx_wr46 hF, fx_cl47 hF, fx_ln47 hF, fx_wr47 hF, fx_cl48 hF, fx_ln48 hF, fx_wr48 hF, fx_cl49 hF, fx_ln49 hF, fx_wr49 hF, fx_cl50 hF, fx_ln50 hF, fx_wr50 hF, fx_cl51 hF, fx_ln51 hF, fx_wr51 hF, fx_cl52 hF, fx_ln52 hF, fx_wr52 hF, fx_cl53 hF, fx_ln53 hF, fx_wr53 hF, fx_cl54 hF, fx_ln54 hF, fx_wr54 hF, fx_r1 hF, fx_r9 hF, fx_r10 hF, fx_r11 hF, fx_r12 hF, fx_r13 hF, fx_r14 hF, fx_r15 hF, fx_r16 hF, fx_r23 hF, fx_r24 hF, fx_r25 hF, fx_r26 hF, fx_r28 hF, fx_kc hF, fx_kl hF, fx_kw hF, fx_kr hF, h2, hg]
      · obtain ⟨s1, s2, s3, s4, s5, s6⟩ := hs
        refine ⟨by rw [u1]; exact s1, by rw [u1]; exact s2, by rw [u1]; exact s3, by rw [u1]; exact s4, by rw [u1]; exact s5, fun k hk => ?_⟩
        rw [u5 _ (by omega)]
        exact s6 k hk
      · refine ⟨by rw [u1]; exact ho.1, fun k hk => ?_⟩
        rw [u5 _ (by omega)]
        exact ho.2 k hk
      · refine ⟨by rw [u1]; exact hk.1, fun k hk' => ?_⟩
        have hk'' : k < z_na s := hk'
        obtain ⟨r1, r2⟩ := g3 k hk''
        obtain ⟨d1, d2⟩ := hk.2 k hk''
        have hat := (hb.2.2.2.2.1 k hk'').1
        refine ⟨by rw [r1 3 (by decide)]; exact d1, ?_⟩
        show if (if z_at s k = t then 0 else z_ab s k) = 0 then _ else _ = i_ (z_at s k) ∧ _ = i_ (if z_at s k = t then 0 else z_ab s k)
        rw [r2, r1 2 (by decide)]
        unfold rowN
        rw [R_aI_aR]
        by_cases e : z_at s k = t
        · rw [if_pos e, if_pos rfl]
          by_cases e0 : z_ab s k = 0
          · rw [if_pos e0] at d2
            rw [d2]
            split <;> rfl
          · rw [if_neg e0] at d2
            rw [if_pos (by rw [d2.1, e])]
        · rw [if_neg e]
          by_cases e0 : z_ab s k = 0
          · rw [if_pos e0] at d2 ⊢
            rw [d2]
            split <;> rfl
          · rw [if_neg e0] at d2 ⊢
            rw [if_neg (by rw [d2.1, i_inj (by omega) (by omega)]; exact e)]
            exact d2
      · intro u hu
        have hu' : u < z_n s := hu
        have h' := ht u hu'
        have e1 : h_aR U (a + 1) u = if u = t then none else h_aR S (a + 1) u := by
          rw [u2, R_aR_aR]
          by_cases e : u = t
          · rw [if_pos e, e, h_st_eq]
          · rw [if_neg e, h_st_ne _ _ (fun q => e q.2)]
        rw [e1]
        show if h_up (z_th s) t false u = true then _ else _
        by_cases e : u = t
        · rw [if_pos e, e, up_on, if_neg (by decide)]
        · rw [if_neg e, up_off e]
          by_cases eh : z_th s u = true
          · rw [if_pos eh] at h' ⊢
            obtain ⟨h1, h2, h3, h4⟩ := h'
            refine ⟨h1, TO.of kp h2 ?_ ?_, ?_, fun v hv hthv ne => ?_⟩
            · rw [u1]
              exact h2.2.2.2.1
            · rw [u5 _ (by have := h2.2.1.2.2.2.1; omega)]
              exact h2.2.2.2.2
            · exact h3.ag (kp.ag hF) (kp.2.2.2 _ h2.1.2.2.2).2.2.2.1
            · have hthv' : h_up (z_th s) t false v = true := hthv
              by_cases ev : v = t
              · rw [ev, up_on] at hthv'
                cases hthv'
              · rw [up_off ev] at hthv'
                exact h4 v hv hthv' ne
          · rw [if_neg eh] at h' ⊢
            exact h'
