/-! a formula's type, whole -/
def S5 (l : List Tk) : Prop := ∀ x ∈ l, x.1 = 5 → x.2.1 = 43 ∨ x.2.1 = 45 ∨ x.2.1 = 38
theorem OKt.s5 : ∀ {l : List Tk} {d : Nat}, OKt d l → S5 l
  | [], _, _ => fun x hx => by cases hx
  | y :: l, d, h => by
    unfold OKt at h
    intro x hx h5
    have ht : ∃ d', OKt d' l := by
      split at h
      · exact ⟨_, h.2.2.2⟩
      · split at h
        · exact ⟨_, h.2⟩
        · split at h
          · exact ⟨_, h.2.2⟩
          · exact ⟨_, h⟩
    obtain ⟨d', ht⟩ := ht
    rcases List.mem_cons.mp hx with rfl | hx
    · rw [if_neg (by omega), if_neg (by omega), if_pos h5] at h
      exact h.1
    · exact OKt.s5 ht x hx h5
theorem Tm.s5 {F : Nat → List Tk → Prop} {U : HS} {a y : Nat} {l : List Tk} (h : Tm F U a y l) (h5 : S5 l) : Tm (fun x m => F x m ∧ S5 m) U a y l := by
  obtain ⟨h0, h⟩ := h
  refine ⟨h0, ?_⟩
  rcases h with h | h | ⟨e, x, q, p, m, e1, e2, e3, e4, e5, e6, e7, e8⟩
  · exact Or.inl h
  · exact Or.inr (Or.inl h)
  · exact Or.inr (Or.inr ⟨e, x, q, p, m, e1, ⟨e2, fun z hz => h5 z (by rw [e8]; exact List.mem_cons_of_mem _ (List.mem_append_left _ hz))⟩, e3, e4, e5, e6, e7, e8⟩)
theorem mem_fl : ∀ {ts : List (Nat × Nat × Nat × List Tk)} {y : Nat × Nat × Nat × List Tk}, y ∈ ts → ((5, y.2.1, y.2.2.1) : Tk) ∈ fl ts ∧ ∀ z ∈ y.2.2.2, z ∈ fl ts
  | [], _, h => by cases h
  | t :: ts, y, h => by
    rcases List.mem_cons.mp h with rfl | h
    · exact ⟨List.mem_cons_self, fun z hz => List.mem_cons_of_mem _ (List.mem_append_left _ hz)⟩
    · obtain ⟨h1, h2⟩ := mem_fl h
      exact ⟨List.mem_cons_of_mem _ (List.mem_append_right _ h1), fun z hz => List.mem_cons_of_mem _ (List.mem_append_right _ (h2 z hz))⟩
theorem getD_memT {ts : List (Nat × Nat × Nat × List Tk)} {i : Nat} (h : i < ts.length) : ts.getD i (0, 0, 0, []) ∈ ts := by
  rw [List.getD_eq_getElem?_getD, List.getElem?_eq_getElem h]
  exact List.getElem_mem _
theorem Fm_R {U : HS} {a ch : Nat} {T : Nat → Nat} (hF : FX U a) (hc : h_cl U ch = 10) (hw : h_wr U ch = true) (h129 : h_fR U 129 ch = some a) : ∀ (d x : Nat) (l : List Tk) (d' : Nat), d ≤ d' → Fm U a d x l → S5 l → (∀ v ∈ uc l, TyA U a T v) → h_cl U x = 5 ∧ ∃ v es, FmR U ch x T l (f_X5_type d') v es := by
  intro d
  induction d with
  | zero => intro x l d' _ h; exact h.elim
  | succ d ih =>
    intro x l d' hd h h5 hu
    obtain ⟨d', rfl⟩ : ∃ m, d' = m + 1 := ⟨d' - 1, by omega⟩
    obtain ⟨h0, h1, xl, sg, pl, y, l0, ts, h2, h3, ⟨h4, _, h6, h7⟩, ⟨h8, _, h10, h11⟩, h12, h13, h14, h15⟩ := h
    have hk : ∀ x m, (Fm U a d x m ∧ S5 m) → (∀ v ∈ uc m, TyA U a T v) → h_cl U x = 5 ∧ ∃ v es, FmR U ch x T m (f_X5_type d') v es := fun x m hm hv => ih x m d' (by omega) hm.1 hm.2 hv
    have hl0 : ∀ z ∈ l0, z ∈ l := fun z hz => by rw [h13]; exact List.mem_append_left _ hz
    have hlt : ∀ z ∈ fl ts, z ∈ l := fun z hz => by rw [h13]; exact List.mem_append_right _ hz
    have hucl : uc l = uc l0 ++ uc (fl ts) := by rw [h13, uc_app]
    obtain ⟨v0, e0s, ⟨v1, v2⟩, hm0, hv0, hp0, hc0⟩ := Tm_R hF hc hw h129 hk (h14.s5 (fun z hz => h5 z (hl0 z hz))) (fun v hv => hu v (by rw [hucl]; exact List.mem_append_left _ hv))
    obtain ⟨w', es, ⟨o1, o2⟩, om, o0, op, oc⟩ := C_type_l hF hc hw h129 hk h1 h2 h3 ⟨h4, h6, h7⟩ ⟨h8, h10, h11⟩ h12 (fun i hi => by
      obtain ⟨q1, q2, q3, q4⟩ := h15 i hi
      exact ⟨q1, q2, q3, q4.s5 (fun z hz => h5 z (hlt z ((mem_fl (getD_memT hi)).2 z hz)))⟩) (fun z hz => h5 (5, z.2.1, z.2.2.1) (hlt _ (mem_fl hz).1) rfl) (fun v hv => hu v (by rw [hucl]; exact List.mem_append_right _ hv)) ts.length 0 fu_ v0 (by omega) (by rw [fu_eq]; omega) v1 v2
    rw [List.drop_zero] at om o0
    refine ⟨h1, w', e0s ++ es, ⟨o1, o2⟩, fun c q st e0 => ?_, fun hw0 => ?_, fun e he => ?_, fun f hf => ?_⟩
    · obtain ⟨p', hp'⟩ := om 0 c q st (e0 ++ e0s)
      refine ⟨p', ?_⟩
      rw [h13, List.map_append, evl_app, hm0]
      have e3 : cm v0 ((0, 0, 0, c, q) :: st, e0 ++ e0s) = ((v0, 0, 0, c, q) :: st, e0 ++ e0s) := by
        unfold cm
        show (cmL v0 (0, 0, 0, c, q) :: st, e0 ++ e0s ++ cmE v0 (0, 0, 0, c, q)) = _
        unfold cmL cmE
        simp
      rw [e3, hp', List.append_assoc]
    · rcases o0 hw0 with h | h | ⟨z, hz, h6'⟩
      · rcases hv0 h with h' | ⟨z, hz, h6'⟩
        · exact Or.inl (c3_ne_app h')
        · exact Or.inr ⟨z, hl0 z hz, h6'⟩
      · exact Or.inl (c3_ne_app' h)
      · exact Or.inr ⟨z, hlt z hz, h6'⟩
    · rcases List.mem_append.mp he with he | he
      · exact hp0 e he
      · exact op e he
    · obtain ⟨m1, m2⟩ := hc0 f hf
      obtain ⟨c1, c2⟩ := oc (mf f e0s) m1
      rw [mf_app]
      refine ⟨c1, ?_⟩
      have x5 : h_cl (tyX U ch f) x = 5 := h1
      have x113 : h_fR (tyX U ch f) 113 x = some xl := h2
      have x12 : h_cl (tyX U ch f) xl = 12 := h3.2.1
      have hgt := C_get (h3.ty (ch := ch) (f := f)) (k := 0) (by simp)
      have hg0 : (y :: ts.map (fun z => z.1)).getD 0 0 = y := rfl
      rw [hg0] at hgt
      have c2' : f_X5_type_n18 (f_X5_type d') x fu_ (some ch) (i_ (an v0)) (i_ 1) (tyX U ch (mf f e0s)) = some (i_ (an w'), tyX U ch (mf (mf f e0s) es)) := c2
      unfold f_X5_type f_X5_type_b
      rcases m2 with ⟨mc, m2⟩ | ⟨mc, m2⟩ | ⟨mc, m2⟩
      · have ec : h_cl (tyX U ch f) y = 6 := mc
        simp (disch := first | (simp (disch := omega) only [R_fI_fI, R_fI_fR, R_fI_aI, R_fI_aR, R_fI_new, R_fR_fI, R_fR_fR, R_fR_aI, R_fR_aR, R_fR_new, R_aI_fI, R_aI_fR, R_aI_aI, R_aI_aR, R_aI_new, R_aR_fI, R_aR_fR, R_aR_aI, R_aR_aR, R_aR_new, R_cl_fI, R_cl_fR, R_cl_aI, R_cl_aR, R_cl_new, R_ln_fI, R_ln_fR, R_ln_aI, R_ln_aR, R_ln_new, R_wr_fI, R_wr_fR, R_wr_aI, R_wr_aR, R_wr_new, R_nx_fI, R_nx_fR, R_nx_aI, R_nx_aR, R_nx_new, R_sl_fI, R_sl_fR, R_sl_aI, R_sl_aR, R_sl_new, R_ks_fI, R_ks_fR, R_ks_aI, R_ks_aR, R_ks_new, R_kr_fI, R_kr_fR, R_kr_aI, R_kr_aR, R_kr_new, R_fJ_fI, R_fJ_fR, R_fJ_aI, R_fJ_aR, R_fJ_new, R_aJ_fI, R_aJ_fR, R_aJ_aI, R_aJ_aR, R_aJ_new, r_fI_row, r_fR_row, r_aR_row, r_cl_row, r_ln_row, r_wr_row, r_nx_row, r_sl_row, r_ks_row, r_kr_row, r_fJ_row, r_aJ_row, h_st_eq, st_ne, up_on, up_off, sr_on, sr_off, x5, x113, x12, ec, c2']; first | done | omega | decide) | omega) only [l_m1, l_m2, l_0, l_1, l_2, l_3, l_4, l_5, l_6, l_7, l_8, l_9, l_10, l_11, l_12, l_13, l_14, l_15, l_16, l_17, l_18, l_19, l_20, l_21, l_22, l_23, l_24, l_25, l_26, l_27, l_28, l_29, l_30, l_31, l_32, l_33, l_34, l_35, l_36, l_37, l_38, l_39, l_40, l_41, l_42, l_43, l_44, l_45, l_46, l_47, l_48, l_49, l_50, l_51, l_52, l_53, l_54, l_55, l_56, l_57, l_58, l_59, l_60, l_61, l_62, l_63, l_64, l_97, l_100, l_110, l_115, l_116, l_120, l_122, l_127, l_128, l_136, l_140, l_200, l_255, l_256, l_400, l_1000, l_30000, l_1200, l_65536, l_2147483639, l_2147483647, ob_some, obd_some, q_lt_t, q_lt_f, q_le_t, q_le_f, q_eq_t, q_eq_f, im_ne, im_ne', im_lt, im_le, im_lt', im_le', i_add, i_mul, i_dec, i_dec0, i_sub, i_and, i_shr, i_div, nar_b0, nar_b1, b2i_t, b2i_f, ↓reduceIte, if_true, if_false, ↓ob_some, ↓obd_some, ↓oc_n, ↓oc_s, ↓otr_l, ↓otr_r, ↓bcls, ↓bfI, ↓bfR, ↓bpfI, ↓bpfR, ↓baI, ↓baR, ↓bpaI, ↓blen, ↓bnobj, ↓bnarr, ↓bcast, gcls, gfI, gfR, pfI, pfR, gaI, gaR, paI, paR, paS_n, paS_s, glen, gown, gthr, narr, nobj, oc_n, oc_s, otr_l, otr_r, gcast, nar_bb, nar_ch, R_fI_fI, R_fI_fR, R_fI_aI, R_fI_aR, R_fI_new, R_fR_fI, R_fR_fR, R_fR_aI, R_fR_aR, R_fR_new, R_aI_fI, R_aI_fR, R_aI_aI, R_aI_aR, R_aI_new, R_aR_fI, R_aR_fR, R_aR_aI, R_aR_aR, R_aR_new, R_cl_fI, R_cl_fR, R_cl_aI, R_cl_aR, R_cl_new, R_ln_fI, R_ln_fR, R_ln_aI, R_ln_aR, R_ln_new, R_wr_fI, R_wr_fR, R_wr_aI, R_wr_aR, R_wr_new, R_nx_fI, R_nx_fR, R_nx_aI, R_nx_aR, R_nx_new, R_sl_fI, R_sl_fR, R_sl_aI, R_sl_aR, R_sl_new, R_ks_fI, R_ks_fR, R_ks_aI, R_ks_aR, R_ks_new, R_kr_fI, R_kr_fR, R_kr_aI, R_kr_aR, R_kr_new, R_fJ_fI, R_fJ_fR, R_fJ_aI, R_fJ_aR, R_fJ_new, R_aJ_fI, R_aJ_fR, R_aJ_aI, R_aJ_aR, R_aJ_new, r_fI_row, r_fR_row, r_aR_row, r_cl_row, r_ln_row, r_wr_row, r_nx_row, r_sl_row, r_ks_row, r_kr_row, r_fJ_row, r_aJ_row, h_st_eq, st_ne, up_on, up_off, sr_on, sr_off, x5, x113, x12, ec, c2', ↓obE (hgt), ↓obE (m2)]
      · have ec : h_cl (tyX U ch f) y = 8 := mc
        simp (disch := first | (simp (disch := omega) only [R_fI_fI, R_fI_fR, R_fI_aI, R_fI_aR, R_fI_new, R_fR_fI, R_fR_fR, R_fR_aI, R_fR_aR, R_fR_new, R_aI_fI, R_aI_fR, R_aI_aI, R_aI_aR, R_aI_new, R_aR_fI, R_aR_fR, R_aR_aI, R_aR_aR, R_aR_new, R_cl_fI, R_cl_fR, R_cl_aI, R_cl_aR, R_cl_new, R_ln_fI, R_ln_fR, R_ln_aI, R_ln_aR, R_ln_new, R_wr_fI, R_wr_fR, R_wr_aI, R_wr_aR, R_wr_new, R_nx_fI, R_nx_fR, R_nx_aI, R_nx_aR, R_nx_new, R_sl_fI, R_sl_fR, R_sl_aI, R_sl_aR, R_sl_new, R_ks_fI, R_ks_fR, R_ks_aI, R_ks_aR, R_ks_new, R_kr_fI, R_kr_fR, R_kr_aI, R_kr_aR, R_kr_new, R_fJ_fI, R_fJ_fR, R_fJ_aI, R_fJ_aR, R_fJ_new, R_aJ_fI, R_aJ_fR, R_aJ_aI, R_aJ_aR, R_aJ_new, r_fI_row, r_fR_row, r_aR_row, r_cl_row, r_ln_row, r_wr_row, r_nx_row, r_sl_row, r_ks_row, r_kr_row, r_fJ_row, r_aJ_row, h_st_eq, st_ne, up_on, up_off, sr_on, sr_off, x5, x113, x12, ec, c2']; first | done | omega | decide) | omega) only [l_m1, l_m2, l_0, l_1, l_2, l_3, l_4, l_5, l_6, l_7, l_8, l_9, l_10, l_11, l_12, l_13, l_14, l_15, l_16, l_17, l_18, l_19, l_20, l_21, l_22, l_23, l_24, l_25, l_26, l_27, l_28, l_29, l_30, l_31, l_32, l_33, l_34, l_35, l_36, l_37, l_38, l_39, l_40, l_41, l_42, l_43, l_44, l_45, l_46, l_47, l_48, l_49, l_50, l_51, l_52, l_53, l_54, l_55, l_56, l_57, l_58, l_59, l_60, l_61, l_62, l_63, l_64, l_97, l_100, l_110, l_115, l_116, l_120, l_122, l_127, l_128, l_136, l_140, l_200, l_255, l_256, l_400, l_1000, l_30000, l_1200, l_65536, l_2147483639, l_2147483647, ob_some, obd_some, q_lt_t, q_lt_f, q_le_t, q_le_f, q_eq_t, q_eq_f, im_ne, im_ne', im_lt, im_le, im_lt', im_le', i_add, i_mul, i_dec, i_dec0, i_sub, i_and, i_shr, i_div, nar_b0, nar_b1, b2i_t, b2i_f, ↓reduceIte, if_true, if_false, ↓ob_some, ↓obd_some, ↓oc_n, ↓oc_s, ↓otr_l, ↓otr_r, ↓bcls, ↓bfI, ↓bfR, ↓bpfI, ↓bpfR, ↓baI, ↓baR, ↓bpaI, ↓blen, ↓bnobj, ↓bnarr, ↓bcast, gcls, gfI, gfR, pfI, pfR, gaI, gaR, paI, paR, paS_n, paS_s, glen, gown, gthr, narr, nobj, oc_n, oc_s, otr_l, otr_r, gcast, nar_bb, nar_ch, R_fI_fI, R_fI_fR, R_fI_aI, R_fI_aR, R_fI_new, R_fR_fI, R_fR_fR, R_fR_aI, R_fR_aR, R_fR_new, R_aI_fI, R_aI_fR, R_aI_aI, R_aI_aR, R_aI_new, R_aR_fI, R_aR_fR, R_aR_aI, R_aR_aR, R_aR_new, R_cl_fI, R_cl_fR, R_cl_aI, R_cl_aR, R_cl_new, R_ln_fI, R_ln_fR, R_ln_aI, R_ln_aR, R_ln_new, R_wr_fI, R_wr_fR, R_wr_aI, R_wr_aR, R_wr_new, R_nx_fI, R_nx_fR, R_nx_aI, R_nx_aR, R_nx_new, R_sl_fI, R_sl_fR, R_sl_aI, R_sl_aR, R_sl_new, R_ks_fI, R_ks_fR, R_ks_aI, R_ks_aR, R_ks_new, R_kr_fI, R_kr_fR, R_kr_aI, R_kr_aR, R_kr_new, R_fJ_fI, R_fJ_fR, R_fJ_aI, R_fJ_aR, R_fJ_new, R_aJ_fI, R_aJ_fR, R_aJ_aI, R_aJ_aR, R_aJ_new, r_fI_row, r_fR_row, r_aR_row, r_cl_row, r_ln_row, r_wr_row, r_nx_row, r_sl_row, r_ks_row, r_kr_row, r_fJ_row, r_aJ_row, h_st_eq, st_ne, up_on, up_off, sr_on, sr_off, x5, x113, x12, ec, c2', ↓obE (hgt), ↓obE (m2)]
        rw [if_neg (by decide)]
      · have ec : h_cl (tyX U ch f) y = 7 := mc
        simp (disch := first | (simp (disch := omega) only [R_fI_fI, R_fI_fR, R_fI_aI, R_fI_aR, R_fI_new, R_fR_fI, R_fR_fR, R_fR_aI, R_fR_aR, R_fR_new, R_aI_fI, R_aI_fR, R_aI_aI, R_aI_aR, R_aI_new, R_aR_fI, R_aR_fR, R_aR_aI, R_aR_aR, R_aR_new, R_cl_fI, R_cl_fR, R_cl_aI, R_cl_aR, R_cl_new, R_ln_fI, R_ln_fR, R_ln_aI, R_ln_aR, R_ln_new, R_wr_fI, R_wr_fR, R_wr_aI, R_wr_aR, R_wr_new, R_nx_fI, R_nx_fR, R_nx_aI, R_nx_aR, R_nx_new, R_sl_fI, R_sl_fR, R_sl_aI, R_sl_aR, R_sl_new, R_ks_fI, R_ks_fR, R_ks_aI, R_ks_aR, R_ks_new, R_kr_fI, R_kr_fR, R_kr_aI, R_kr_aR, R_kr_new, R_fJ_fI, R_fJ_fR, R_fJ_aI, R_fJ_aR, R_fJ_new, R_aJ_fI, R_aJ_fR, R_aJ_aI, R_aJ_aR, R_aJ_new, r_fI_row, r_fR_row, r_aR_row, r_cl_row, r_ln_row, r_wr_row, r_nx_row, r_sl_row, r_ks_row, r_kr_row, r_fJ_row, r_aJ_row, h_st_eq, st_ne, up_on, up_off, sr_on, sr_off, x5, x113, x12, ec, c2']; first | done | omega | decide) | omega) only [l_m1, l_m2, l_0, l_1, l_2, l_3, l_4, l_5, l_6, l_7, l_8, l_9, l_10, l_11, l_12, l_13, l_14, l_15, l_16, l_17, l_18, l_19, l_20, l_21, l_22, l_23, l_24, l_25, l_26, l_27, l_28, l_29, l_30, l_31, l_32, l_33, l_34, l_35, l_36, l_37, l_38, l_39, l_40, l_41, l_42, l_43, l_44, l_45, l_46, l_47, l_48, l_49, l_50, l_51, l_52, l_53, l_54, l_55, l_56, l_57, l_58, l_59, l_60, l_61, l_62, l_63, l_64, l_97, l_100, l_110, l_115, l_116, l_120, l_122, l_127, l_128, l_136, l_140, l_200, l_255, l_256, l_400, l_1000, l_30000, l_1200, l_65536, l_2147483639, l_2147483647, ob_some, obd_some, q_lt_t, q_lt_f, q_le_t, q_le_f, q_eq_t, q_eq_f, im_ne, im_ne', im_lt, im_le, im_lt', im_le', i_add, i_mul, i_dec, i_dec0, i_sub, i_and, i_shr, i_div, nar_b0, nar_b1, b2i_t, b2i_f, ↓reduceIte, if_true, if_false, ↓ob_some, ↓obd_some, ↓oc_n, ↓oc_s, ↓otr_l, ↓otr_r, ↓bcls, ↓bfI, ↓bfR, ↓bpfI, ↓bpfR, ↓baI, ↓baR, ↓bpaI, ↓blen, ↓bnobj, ↓bnarr, ↓bcast, gcls, gfI, gfR, pfI, pfR, gaI, gaR, paI, paR, paS_n, paS_s, glen, gown, gthr, narr, nobj, oc_n, oc_s, otr_l, otr_r, gcast, nar_bb, nar_ch, R_fI_fI, R_fI_fR, R_fI_aI, R_fI_aR, R_fI_new, R_fR_fI, R_fR_fR, R_fR_aI, R_fR_aR, R_fR_new, R_aI_fI, R_aI_fR, R_aI_aI, R_aI_aR, R_aI_new, R_aR_fI, R_aR_fR, R_aR_aI, R_aR_aR, R_aR_new, R_cl_fI, R_cl_fR, R_cl_aI, R_cl_aR, R_cl_new, R_ln_fI, R_ln_fR, R_ln_aI, R_ln_aR, R_ln_new, R_wr_fI, R_wr_fR, R_wr_aI, R_wr_aR, R_wr_new, R_nx_fI, R_nx_fR, R_nx_aI, R_nx_aR, R_nx_new, R_sl_fI, R_sl_fR, R_sl_aI, R_sl_aR, R_sl_new, R_ks_fI, R_ks_fR, R_ks_aI, R_ks_aR, R_ks_new, R_kr_fI, R_kr_fR, R_kr_aI, R_kr_aR, R_kr_new, R_fJ_fI, R_fJ_fR, R_fJ_aI, R_fJ_aR, R_fJ_new, R_aJ_fI, R_aJ_fR, R_aJ_aI, R_aJ_aR, R_aJ_new, r_fI_row, r_fR_row, r_aR_row, r_cl_row, r_ln_row, r_wr_row, r_nx_row, r_sl_row, r_ks_row, r_kr_row, r_fJ_row, r_aJ_row, h_st_eq, st_ne, up_on, up_off, sr_on, sr_off, x5, x113, x12, ec, c2', ↓obE (hgt), ↓obE (m2)]
        rw [if_neg (by decide), if_neg (by decide)]
