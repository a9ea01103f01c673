/-! the component's marks; what formulas use -/
def c_mk (S : HS) (y : Nat) (mk : Nat → Bool) : HS := s_row S y (fun i => if i < 128 then b2i (mk i) else h_aI S y i)
theorem m_fI (S : HS) (y : Nat) (mk : Nat → Bool) : h_fI (c_mk S y mk) = h_fI S := id rfl
theorem m_fR (S : HS) (y : Nat) (mk : Nat → Bool) : h_fR (c_mk S y mk) = h_fR S := id rfl
theorem m_aR (S : HS) (y : Nat) (mk : Nat → Bool) : h_aR (c_mk S y mk) = h_aR S := id rfl
theorem m_cl (S : HS) (y : Nat) (mk : Nat → Bool) : h_cl (c_mk S y mk) = h_cl S := id rfl
theorem m_ln (S : HS) (y : Nat) (mk : Nat → Bool) : h_ln (c_mk S y mk) = h_ln S := id rfl
theorem m_wr (S : HS) (y : Nat) (mk : Nat → Bool) : h_wr (c_mk S y mk) = h_wr S := id rfl
theorem m_nx (S : HS) (y : Nat) (mk : Nat → Bool) : h_nx (c_mk S y mk) = h_nx S := id rfl
theorem m_sl (S : HS) (y : Nat) (mk : Nat → Bool) : h_sl (c_mk S y mk) = h_sl S := id rfl
theorem m_ks (S : HS) (y : Nat) (mk : Nat → Bool) : h_ks (c_mk S y mk) = h_ks S := id rfl
theorem m_kr (S : HS) (y : Nat) (mk : Nat → Bool) : h_kr (c_mk S y mk) = h_kr S := id rfl
theorem cmk_get {S : HS} {y v : Nat} {mk : Nat → Bool} (h : v < 128) : h_aI (c_mk S y mk) y v = b2i (mk v) := by
  unfold c_mk
  rw [sr_on, if_pos h]
theorem cmk_set {S : HS} {y v : Nat} {mk : Nat → Bool} (h : v < 128) : s_aI (c_mk S y mk) y v (i_ 1) = c_mk S y (mk_up mk v) := by
  unfold c_mk
  rw [sr_set]
  refine congrArg (s_row S y) (funext fun i => ?_)
  show (if i = v then i_ 1 else if i < 128 then b2i (mk i) else h_aI S y i) = if i < 128 then b2i (decide (i = v) || mk i) else h_aI S y i
  by_cases e : i = v
  · subst e
    rw [if_pos rfl, if_pos h]
    simp
    rfl
  · rw [if_neg e, show decide (i = v) = false from decide_eq_false e, Bool.false_or]
theorem cmk_put {S : HS} {y v : Nat} {mk : Nat → Bool} (h : v < 128) (b : Bool) : s_aI (c_mk S y mk) y v (b2i b) = c_mk S y (fun i => if i = v then b else mk i) := by
  unfold c_mk
  rw [sr_set]
  refine congrArg (s_row S y) (funext fun i => ?_)
  show (if i = v then b2i b else if i < 128 then b2i (mk i) else h_aI S y i) = if i < 128 then b2i (if i = v then b else mk i) else h_aI S y i
  by_cases e : i = v
  · subst e
    rw [if_pos rfl, if_pos h, if_pos rfl]
  · rw [if_neg e, if_neg e]
theorem cmk_cmk (S : HS) (y : Nat) (m k : Nat → Bool) : c_mk (c_mk S y m) y k = c_mk S y k := by
  unfold c_mk
  rw [sr_sr]
  refine congrArg (s_row S y) (funext fun i => ?_)
  by_cases e : i < 128
  · rw [if_pos e, if_pos e]
  · rw [if_neg e, if_neg e, sr_on, if_neg e]
theorem cmk_aI {S : HS} {x y : Nat} {mk : Nat → Bool} (h : x ≠ y) : h_aI (c_mk S y mk) x = h_aI S x := sr_off h
theorem cmk_kp {S : HS} {a y : Nat} {mk : Nat → Bool} (hy : a ≤ y ∧ y < a + 55) : Kp S (c_mk S y mk) a := Kp.row (Or.inl hy)
theorem FX.mk {S : HS} {a : Nat} (h : FX S a) (y : Nat) (mk : Nat → Bool) : FX (c_mk S y mk) a := h
theorem C_get {S : HS} {a x k : Nat} {l : List Nat} (h : Lst S a x l) (hk : k < l.length) : f_J5_get x (i_ k) S = some (some (l.getD k 0), S) := by
  obtain ⟨-, h2, h3, h4, d, h5, -, h7, h8, h9⟩ := h
  have h10 := h9 k hk
  have hk2 : k < h_ln S d := by omega
  unfold f_J5_get f_J13_checkIndex f_J8_checkIndex f_J5_elementData
  simp (disch := first | (simp (disch := omega) only [R_fI_fI, R_fI_fR, R_fI_aI, R_fI_aR, R_fI_new, R_fR_fI, R_fR_fR, R_fR_aI, R_fR_aR, R_fR_new, R_aI_fI, R_aI_fR, R_aI_aI, R_aI_aR, R_aI_new, R_aR_fI, R_aR_fR, R_aR_aI, R_aR_aR, R_aR_new, R_cl_fI, R_cl_fR, R_cl_aI, R_cl_aR, R_cl_new, R_ln_fI, R_ln_fR, R_ln_aI, R_ln_aR, R_ln_new, R_wr_fI, R_wr_fR, R_wr_aI, R_wr_aR, R_wr_new, R_nx_fI, R_nx_fR, R_nx_aI, R_nx_aR, R_nx_new, R_sl_fI, R_sl_fR, R_sl_aI, R_sl_aR, R_sl_new, R_ks_fI, R_ks_fR, R_ks_aI, R_ks_aR, R_ks_new, R_kr_fI, R_kr_fR, R_kr_aI, R_kr_aR, R_kr_new, R_fJ_fI, R_fJ_fR, R_fJ_aI, R_fJ_aR, R_fJ_new, R_aJ_fI, R_aJ_fR, R_aJ_aI, R_aJ_aR, R_aJ_new, r_fI_row, r_fR_row, r_aR_row, r_cl_row, r_ln_row, r_wr_row, r_nx_row, r_sl_row, r_ks_row, r_kr_row, r_fJ_row, r_aJ_row, h_st_eq, st_ne, up_on, up_off, sr_on, sr_off, h2, h3, h5, h7, h10, hk2]; first | done | omega | decide) | omega) only [l_m1, l_m2, l_0, l_1, l_2, l_3, l_4, l_5, l_6, l_7, l_8, l_9, l_10, l_11, l_12, l_13, l_14, l_15, l_16, l_17, l_18, l_19, l_20, l_21, l_22, l_23, l_24, l_25, l_26, l_27, l_28, l_29, l_30, l_31, l_32, l_33, l_34, l_35, l_36, l_37, l_38, l_39, l_40, l_41, l_42, l_43, l_44, l_45, l_46, l_47, l_48, l_49, l_50, l_51, l_52, l_53, l_54, l_55, l_56, l_57, l_58, l_59, l_60, l_61, l_62, l_63, l_64, l_97, l_100, l_110, l_115, l_116, l_120, l_122, l_127, l_128, l_136, l_140, l_200, l_255, l_256, l_400, l_1000, l_30000, l_1200, l_65536, l_2147483639, l_2147483647, ob_some, obd_some, q_lt_t, q_lt_f, q_le_t, q_le_f, q_eq_t, q_eq_f, im_ne, im_ne', im_lt, im_le, im_lt', im_le', i_add, i_mul, i_dec, i_dec0, i_sub, i_and, i_shr, i_div, nar_b0, nar_b1, b2i_t, b2i_f, ↓reduceIte, if_true, if_false, ↓ob_some, ↓obd_some, ↓oc_n, ↓oc_s, ↓otr_l, ↓otr_r, ↓bcls, ↓bfI, ↓bfR, ↓bpfI, ↓bpfR, ↓baI, ↓baR, ↓bpaI, ↓blen, ↓bnobj, ↓bnarr, ↓bcast, gcls, gfI, gfR, pfI, pfR, gaI, gaR, paI, paR, paS_n, paS_s, glen, gown, gthr, narr, nobj, oc_n, oc_s, otr_l, otr_r, gcast, nar_bb, nar_ch, R_fI_fI, R_fI_fR, R_fI_aI, R_fI_aR, R_fI_new, R_fR_fI, R_fR_fR, R_fR_aI, R_fR_aR, R_fR_new, R_aI_fI, R_aI_fR, R_aI_aI, R_aI_aR, R_aI_new, R_aR_fI, R_aR_fR, R_aR_aI, R_aR_aR, R_aR_new, R_cl_fI, R_cl_fR, R_cl_aI, R_cl_aR, R_cl_new, R_ln_fI, R_ln_fR, R_ln_aI, R_ln_aR, R_ln_new, R_wr_fI, R_wr_fR, R_wr_aI, R_wr_aR, R_wr_new, R_nx_fI, R_nx_fR, R_nx_aI, R_nx_aR, R_nx_new, R_sl_fI, R_sl_fR, R_sl_aI, R_sl_aR, R_sl_new, R_ks_fI, R_ks_fR, R_ks_aI, R_ks_aR, R_ks_new, R_kr_fI, R_kr_fR, R_kr_aI, R_kr_aR, R_kr_new, R_fJ_fI, R_fJ_fR, R_fJ_aI, R_fJ_aR, R_fJ_new, R_aJ_fI, R_aJ_fR, R_aJ_aI, R_aJ_aR, R_aJ_new, r_fI_row, r_fR_row, r_aR_row, r_cl_row, r_ln_row, r_wr_row, r_nx_row, r_sl_row, r_ks_row, r_kr_row, r_fJ_row, r_aJ_row, h_st_eq, st_ne, up_on, up_off, sr_on, sr_off, h2, h3, h5, h7, h10, hk2]
theorem mk_l_app (mk : Nat → Bool) (l k : List Nat) : mk_l (mk_l mk l) k = mk_l mk (l ++ k) := by
  funext i
  simp only [mk_l, List.contains_append]
  cases l.contains i <;> cases k.contains i <;> simp
theorem uc_app (l k : List Tk) : uc (l ++ k) = uc l ++ uc k := by
  unfold uc
  rw [List.filter_append, List.map_append]
theorem uc_fl_cons (y : Nat × Nat × Nat × List Tk) (r : List (Nat × Nat × Nat × List Tk)) : uc (fl (y :: r)) = uc y.2.2.2 ++ uc (fl r) := by
  show uc ((5, y.2.1, y.2.2.1) :: (y.2.2.2 ++ fl r)) = _
  rw [uc_cons, if_neg (show ¬ (5 : Nat) = 2 by decide), uc_app]
def no6 (l : List Tk) : Prop := ∀ x ∈ l, ¬ x.1 = 6
theorem no6_fl {ts : List (Nat × Nat × Nat × List Tk)} (h : no6 (fl ts)) : ∀ y ∈ ts, no6 y.2.2.2 := by
  induction ts with
  | nil => intro y hy; cases hy
  | cons t r ih =>
    intro y hy
    have h' : no6 ((5, t.2.1, t.2.2.1) :: (t.2.2.2 ++ fl r)) := h
    rcases List.mem_cons.mp hy with rfl | hy
    · exact fun x hx => h' x (List.mem_cons_of_mem _ (List.mem_append_left _ hx))
    · exact ih (fun x hx => h' x (List.mem_cons_of_mem _ (List.mem_append_right _ hx))) y hy
theorem C_uses_l {U : HS} {a y : Nat} (hF : FX U a) (hy : y = a + 52 ∨ y = a + 53) {F : Nat → List Tk → Prop} {kf : Nat → Option Nat → HS → Option HS} (hk : ∀ x m mk, F x m → no6 m → kf x (some y) (c_mk U y mk) = some (c_mk U y (mk_l mk (uc m)))) (hFc : ∀ x m, F x m → h_cl U x = 5) {x xl : Nat} {tl : List (Nat × Nat × Nat × List Tk)} (hx : h_cl U x = 5) (h113 : h_fR U 113 x = some xl) (hL : Lst U a xl (tl.map (fun z => z.1))) (hT : ∀ i, i < tl.length → Tm F U a (tl.getD i (0, 0, 0, [])).1 (tl.getD i (0, 0, 0, [])).2.2.2) (h6 : no6 (fl tl)) (h7 : tl.length ≤ 6) :
    ∀ (r k n : Nat) (mk : Nat → Bool), k + r = tl.length → r < n → f_X5_uses_n2 kf x n (some y) (i_ k) (c_mk U y mk) = some (c_mk U y (mk_l mk (uc (fl (tl.drop k))))) := by
  have hyc : h_cl U y = 34 ∧ h_ln U y = 128 ∧ h_wr U y = true := by
    rcases hy with rfl | rfl
    · exact ⟨fx_cl52 hF, fx_ln52 hF, fx_wr52 hF⟩
    · exact ⟨fx_cl53 hF, fx_ln53 hF, fx_wr53 hF⟩
  have hyr : a ≤ y ∧ y < a + 55 := by omega
  obtain ⟨y1, y2, y3⟩ := hyc
  have hlen : (tl.map (fun z => z.1)).length = tl.length := List.length_map _
  intro r
  induction r with
  | zero =>
    intro k n mk hk' hn
    obtain ⟨n, rfl⟩ : ∃ m, n = m + 1 := ⟨n - 1, by omega⟩
    have kp : Kp U (c_mk U y mk) a := cmk_kp hyr
    have hL' := hL.ag (kp.ag hF)
    have hsz := C_size hL'
    have hc12 : h_cl (c_mk U y mk) xl = 12 := hL'.2.1
    have hc5 : h_cl (c_mk U y mk) x = 5 := hx
    have h113' : h_fR (c_mk U y mk) 113 x = some xl := h113
    rw [hlen] at hsz
    unfold f_X5_uses_n2
    rw [List.drop_of_length_le (show tl.length ≤ k by omega)]
    simp (disch := first | (simp (disch := omega) only [R_fI_fI, R_fI_fR, R_fI_aI, R_fI_aR, R_fI_new, R_fR_fI, R_fR_fR, R_fR_aI, R_fR_aR, R_fR_new, R_aI_fI, R_aI_fR, R_aI_aI, R_aI_aR, R_aI_new, R_aR_fI, R_aR_fR, R_aR_aI, R_aR_aR, R_aR_new, R_cl_fI, R_cl_fR, R_cl_aI, R_cl_aR, R_cl_new, R_ln_fI, R_ln_fR, R_ln_aI, R_ln_aR, R_ln_new, R_wr_fI, R_wr_fR, R_wr_aI, R_wr_aR, R_wr_new, R_nx_fI, R_nx_fR, R_nx_aI, R_nx_aR, R_nx_new, R_sl_fI, R_sl_fR, R_sl_aI, R_sl_aR, R_sl_new, R_ks_fI, R_ks_fR, R_ks_aI, R_ks_aR, R_ks_new, R_kr_fI, R_kr_fR, R_kr_aI, R_kr_aR, R_kr_new, R_fJ_fI, R_fJ_fR, R_fJ_aI, R_fJ_aR, R_fJ_new, R_aJ_fI, R_aJ_fR, R_aJ_aI, R_aJ_aR, R_aJ_new, r_fI_row, r_fR_row, r_aR_row, r_cl_row, r_ln_row, r_wr_row, r_nx_row, r_sl_row, r_ks_row, r_kr_row, r_fJ_row, r_aJ_row, h_st_eq, st_ne, up_on, up_off, sr_on, sr_off, hc5, h113', hc12]; first | done | omega | decide) | omega) only [l_m1, l_m2, l_0, l_1, l_2, l_3, l_4, l_5, l_6, l_7, l_8, l_9, l_10, l_11, l_12, l_13, l_14, l_15, l_16, l_17, l_18, l_19, l_20, l_21, l_22, l_23, l_24, l_25, l_26, l_27, l_28, l_29, l_30, l_31, l_32, l_33, l_34, l_35, l_36, l_37, l_38, l_39, l_40, l_41, l_42, l_43, l_44, l_45, l_46, l_47, l_48, l_49, l_50, l_51, l_52, l_53, l_54, l_55, l_56, l_57, l_58, l_59, l_60, l_61, l_62, l_63, l_64, l_97, l_100, l_110, l_115, l_116, l_120, l_122, l_127, l_128, l_136, l_140, l_200, l_255, l_256, l_400, l_1000, l_30000, l_1200, l_65536, l_2147483639, l_2147483647, ob_some, obd_some, q_lt_t, q_lt_f, q_le_t, q_le_f, q_eq_t, q_eq_f, im_ne, im_ne', im_lt, im_le, im_lt', im_le', i_add, i_mul, i_dec, i_dec0, i_sub, i_and, i_shr, i_div, nar_b0, nar_b1, b2i_t, b2i_f, ↓reduceIte, if_true, if_false, ↓ob_some, ↓obd_some, ↓oc_n, ↓oc_s, ↓otr_l, ↓otr_r, ↓bcls, ↓bfI, ↓bfR, ↓bpfI, ↓bpfR, ↓baI, ↓baR, ↓bpaI, ↓blen, ↓bnobj, ↓bnarr, ↓bcast, gcls, gfI, gfR, pfI, pfR, gaI, gaR, paI, paR, paS_n, paS_s, glen, gown, gthr, narr, nobj, oc_n, oc_s, otr_l, otr_r, gcast, nar_bb, nar_ch, R_fI_fI, R_fI_fR, R_fI_aI, R_fI_aR, R_fI_new, R_fR_fI, R_fR_fR, R_fR_aI, R_fR_aR, R_fR_new, R_aI_fI, R_aI_fR, R_aI_aI, R_aI_aR, R_aI_new, R_aR_fI, R_aR_fR, R_aR_aI, R_aR_aR, R_aR_new, R_cl_fI, R_cl_fR, R_cl_aI, R_cl_aR, R_cl_new, R_ln_fI, R_ln_fR, R_ln_aI, R_ln_aR, R_ln_new, R_wr_fI, R_wr_fR, R_wr_aI, R_wr_aR, R_wr_new, R_nx_fI, R_nx_fR, R_nx_aI, R_nx_aR, R_nx_new, R_sl_fI, R_sl_fR, R_sl_aI, R_sl_aR, R_sl_new, R_ks_fI, R_ks_fR, R_ks_aI, R_ks_aR, R_ks_new, R_kr_fI, R_kr_fR, R_kr_aI, R_kr_aR, R_kr_new, R_fJ_fI, R_fJ_fR, R_fJ_aI, R_fJ_aR, R_fJ_new, R_aJ_fI, R_aJ_fR, R_aJ_aI, R_aJ_aR, R_aJ_new, r_fI_row, r_fR_row, r_aR_row, r_cl_row, r_ln_row, r_wr_row, r_nx_row, r_sl_row, r_ks_row, r_kr_row, r_fJ_row, r_aJ_row, h_st_eq, st_ne, up_on, up_off, sr_on, sr_off, hc5, h113', hc12, ↓obE (hsz)]
    rw [show uc (fl []) = [] from rfl, mk_l_nil]
  | succ r ih =>
    intro k n mk hk' hn
    obtain ⟨n, rfl⟩ : ∃ m, n = m + 1 := ⟨n - 1, by omega⟩
    have kp : Kp U (c_mk U y mk) a := cmk_kp hyr
    have hL' := hL.ag (kp.ag hF)
    have hsz := C_size hL'
    have hgt := C_get hL' (k := k) (by rw [hlen]; omega)
    have hc12 : h_cl (c_mk U y mk) xl = 12 := hL'.2.1
    have hc5 : h_cl (c_mk U y mk) x = 5 := hx
    have h113' : h_fR (c_mk U y mk) 113 x = some xl := h113
    rw [hlen] at hsz
    have hz : (tl.map (fun z => z.1)).getD k 0 = (tl.getD k (0, 0, 0, [])).1 := by
      rw [List.getD_eq_getElem?_getD, List.getD_eq_getElem?_getD, List.getElem?_map, List.getElem?_eq_getElem (show k < tl.length by omega)]
      rfl
    rw [hz] at hgt
    have hTk := hT k (by omega)
    have hdr : tl.drop k = tl.getD k (0, 0, 0, []) :: tl.drop (k + 1) := dropD (by omega) _
    have h6k : no6 (tl.getD k (0, 0, 0, [])).2.2.2 := no6_fl h6 _ (by
      rw [List.getD_eq_getElem?_getD, List.getElem?_eq_getElem (show k < tl.length by omega)]
      exact List.getElem_mem _)
    rw [hdr, uc_fl_cons, ← mk_l_app]
    generalize tl.getD k (0, 0, 0, []) = z at hgt hTk h6k
    obtain ⟨hok, hTk⟩ := hTk
    unfold f_X5_uses_n2
    rcases hTk with ⟨e, p, hl⟩ | ⟨e, v, p, hl⟩ | ⟨e, x2, q, p, m, e1, e2, -, -, -, -, -, hl⟩
    · have ec : h_cl (c_mk U y mk) z.1 = 6 := e
      have hu : uc z.2.2.2 = [] := by
        rcases hl with ⟨-, h⟩ | ⟨-, h⟩ <;> rw [h] <;> rfl
      rw [hu, mk_l_nil]
      have ih' := ih (k + 1) n mk (by omega) (by omega)
      simp (disch := first | (simp (disch := omega) only [R_fI_fI, R_fI_fR, R_fI_aI, R_fI_aR, R_fI_new, R_fR_fI, R_fR_fR, R_fR_aI, R_fR_aR, R_fR_new, R_aI_fI, R_aI_fR, R_aI_aI, R_aI_aR, R_aI_new, R_aR_fI, R_aR_fR, R_aR_aI, R_aR_aR, R_aR_new, R_cl_fI, R_cl_fR, R_cl_aI, R_cl_aR, R_cl_new, R_ln_fI, R_ln_fR, R_ln_aI, R_ln_aR, R_ln_new, R_wr_fI, R_wr_fR, R_wr_aI, R_wr_aR, R_wr_new, R_nx_fI, R_nx_fR, R_nx_aI, R_nx_aR, R_nx_new, R_sl_fI, R_sl_fR, R_sl_aI, R_sl_aR, R_sl_new, R_ks_fI, R_ks_fR, R_ks_aI, R_ks_aR, R_ks_new, R_kr_fI, R_kr_fR, R_kr_aI, R_kr_aR, R_kr_new, R_fJ_fI, R_fJ_fR, R_fJ_aI, R_fJ_aR, R_fJ_new, R_aJ_fI, R_aJ_fR, R_aJ_aI, R_aJ_aR, R_aJ_new, r_fI_row, r_fR_row, r_aR_row, r_cl_row, r_ln_row, r_wr_row, r_nx_row, r_sl_row, r_ks_row, r_kr_row, r_fJ_row, r_aJ_row, h_st_eq, st_ne, up_on, up_off, sr_on, sr_off, hc5, h113', hc12, ec, f_X6_uses]; first | done | omega | decide) | omega) only [l_m1, l_m2, l_0, l_1, l_2, l_3, l_4, l_5, l_6, l_7, l_8, l_9, l_10, l_11, l_12, l_13, l_14, l_15, l_16, l_17, l_18, l_19, l_20, l_21, l_22, l_23, l_24, l_25, l_26, l_27, l_28, l_29, l_30, l_31, l_32, l_33, l_34, l_35, l_36, l_37, l_38, l_39, l_40, l_41, l_42, l_43, l_44, l_45, l_46, l_47, l_48, l_49, l_50, l_51, l_52, l_53, l_54, l_55, l_56, l_57, l_58, l_59, l_60, l_61, l_62, l_63, l_64, l_97, l_100, l_110, l_115, l_116, l_120, l_122, l_127, l_128, l_136, l_140, l_200, l_255, l_256, l_400, l_1000, l_30000, l_1200, l_65536, l_2147483639, l_2147483647, ob_some, obd_some, q_lt_t, q_lt_f, q_le_t, q_le_f, q_eq_t, q_eq_f, im_ne, im_ne', im_lt, im_le, im_lt', im_le', i_add, i_mul, i_dec, i_dec0, i_sub, i_and, i_shr, i_div, nar_b0, nar_b1, b2i_t, b2i_f, ↓reduceIte, if_true, if_false, ↓ob_some, ↓obd_some, ↓oc_n, ↓oc_s, ↓otr_l, ↓otr_r, ↓bcls, ↓bfI, ↓bfR, ↓bpfI, ↓bpfR, ↓baI, ↓baR, ↓bpaI, ↓blen, ↓bnobj, ↓bnarr, ↓bcast, gcls, gfI, gfR, pfI, pfR, gaI, gaR, paI, paR, paS_n, paS_s, glen, gown, gthr, narr, nobj, oc_n, oc_s, otr_l, otr_r, gcast, nar_bb, nar_ch, R_fI_fI, R_fI_fR, R_fI_aI, R_fI_aR, R_fI_new, R_fR_fI, R_fR_fR, R_fR_aI, R_fR_aR, R_fR_new, R_aI_fI, R_aI_fR, R_aI_aI, R_aI_aR, R_aI_new, R_aR_fI, R_aR_fR, R_aR_aI, R_aR_aR, R_aR_new, R_cl_fI, R_cl_fR, R_cl_aI, R_cl_aR, R_cl_new, R_ln_fI, R_ln_fR, R_ln_aI, R_ln_aR, R_ln_new, R_wr_fI, R_wr_fR, R_wr_aI, R_wr_aR, R_wr_new, R_nx_fI, R_nx_fR, R_nx_aI, R_nx_aR, R_nx_new, R_sl_fI, R_sl_fR, R_sl_aI, R_sl_aR, R_sl_new, R_ks_fI, R_ks_fR, R_ks_aI, R_ks_aR, R_ks_new, R_kr_fI, R_kr_fR, R_kr_aI, R_kr_aR, R_kr_new, R_fJ_fI, R_fJ_fR, R_fJ_aI, R_fJ_aR, R_fJ_new, R_aJ_fI, R_aJ_fR, R_aJ_aI, R_aJ_aR, R_aJ_new, r_fI_row, r_fR_row, r_aR_row, r_cl_row, r_ln_row, r_wr_row, r_nx_row, r_sl_row, r_ks_row, r_kr_row, r_fJ_row, r_aJ_row, h_st_eq, st_ne, up_on, up_off, sr_on, sr_off, hc5, h113', hc12, ec, f_X6_uses, ↓obE (hsz), ↓obE (hgt)]
      exact ih'
    · rcases hl with ⟨h124, hv, hl⟩ | ⟨-, hl⟩
      · have ec : h_cl (c_mk U y mk) z.1 = 8 := e
        have e124 : h_fI (c_mk U y mk) 124 z.1 = i_ v := h124
        have hu : uc z.2.2.2 = [v] := by rw [hl]; rfl
        have hmm : mk_l mk [v] = mk_up mk v := by rw [← mk_l_cons, mk_l_nil]
        rw [hu, hmm]
        have ih' := ih (k + 1) n (mk_up mk v) (by omega) (by omega)
        have hX9 : f_X9_uses z.1 (some y) (c_mk U y mk) = some (c_mk U y (mk_up mk v)) := by
          have z1 : h_cl (c_mk U y mk) y = 34 := y1
          have z2 : h_ln (c_mk U y mk) y = 128 := y2
          have z3 : h_wr (c_mk U y mk) y = true := y3
          unfold f_X9_uses
          simp (disch := first | (simp (disch := omega) only [R_fI_fI, R_fI_fR, R_fI_aI, R_fI_aR, R_fI_new, R_fR_fI, R_fR_fR, R_fR_aI, R_fR_aR, R_fR_new, R_aI_fI, R_aI_fR, R_aI_aI, R_aI_aR, R_aI_new, R_aR_fI, R_aR_fR, R_aR_aI, R_aR_aR, R_aR_new, R_cl_fI, R_cl_fR, R_cl_aI, R_cl_aR, R_cl_new, R_ln_fI, R_ln_fR, R_ln_aI, R_ln_aR, R_ln_new, R_wr_fI, R_wr_fR, R_wr_aI, R_wr_aR, R_wr_new, R_nx_fI, R_nx_fR, R_nx_aI, R_nx_aR, R_nx_new, R_sl_fI, R_sl_fR, R_sl_aI, R_sl_aR, R_sl_new, R_ks_fI, R_ks_fR, R_ks_aI, R_ks_aR, R_ks_new, R_kr_fI, R_kr_fR, R_kr_aI, R_kr_aR, R_kr_new, R_fJ_fI, R_fJ_fR, R_fJ_aI, R_fJ_aR, R_fJ_new, R_aJ_fI, R_aJ_fR, R_aJ_aI, R_aJ_aR, R_aJ_new, r_fI_row, r_fR_row, r_aR_row, r_cl_row, r_ln_row, r_wr_row, r_nx_row, r_sl_row, r_ks_row, r_kr_row, r_fJ_row, r_aJ_row, h_st_eq, st_ne, up_on, up_off, sr_on, sr_off, ec, e124, z1, z2, z3, cmk_set hv]; first | done | omega | decide) | omega) only [l_m1, l_m2, l_0, l_1, l_2, l_3, l_4, l_5, l_6, l_7, l_8, l_9, l_10, l_11, l_12, l_13, l_14, l_15, l_16, l_17, l_18, l_19, l_20, l_21, l_22, l_23, l_24, l_25, l_26, l_27, l_28, l_29, l_30, l_31, l_32, l_33, l_34, l_35, l_36, l_37, l_38, l_39, l_40, l_41, l_42, l_43, l_44, l_45, l_46, l_47, l_48, l_49, l_50, l_51, l_52, l_53, l_54, l_55, l_56, l_57, l_58, l_59, l_60, l_61, l_62, l_63, l_64, l_97, l_100, l_110, l_115, l_116, l_120, l_122, l_127, l_128, l_136, l_140, l_200, l_255, l_256, l_400, l_1000, l_30000, l_1200, l_65536, l_2147483639, l_2147483647, ob_some, obd_some, q_lt_t, q_lt_f, q_le_t, q_le_f, q_eq_t, q_eq_f, im_ne, im_ne', im_lt, im_le, im_lt', im_le', i_add, i_mul, i_dec, i_dec0, i_sub, i_and, i_shr, i_div, nar_b0, nar_b1, b2i_t, b2i_f, ↓reduceIte, if_true, if_false, ↓ob_some, ↓obd_some, ↓oc_n, ↓oc_s, ↓otr_l, ↓otr_r, ↓bcls, ↓bfI, ↓bfR, ↓bpfI, ↓bpfR, ↓baI, ↓baR, ↓bpaI, ↓blen, ↓bnobj, ↓bnarr, ↓bcast, gcls, gfI, gfR, pfI, pfR, gaI, gaR, paI, paR, paS_n, paS_s, glen, gown, gthr, narr, nobj, oc_n, oc_s, otr_l, otr_r, gcast, nar_bb, nar_ch, R_fI_fI, R_fI_fR, R_fI_aI, R_fI_aR, R_fI_new, R_fR_fI, R_fR_fR, R_fR_aI, R_fR_aR, R_fR_new, R_aI_fI, R_aI_fR, R_aI_aI, R_aI_aR, R_aI_new, R_aR_fI, R_aR_fR, R_aR_aI, R_aR_aR, R_aR_new, R_cl_fI, R_cl_fR, R_cl_aI, R_cl_aR, R_cl_new, R_ln_fI, R_ln_fR, R_ln_aI, R_ln_aR, R_ln_new, R_wr_fI, R_wr_fR, R_wr_aI, R_wr_aR, R_wr_new, R_nx_fI, R_nx_fR, R_nx_aI, R_nx_aR, R_nx_new, R_sl_fI, R_sl_fR, R_sl_aI, R_sl_aR, R_sl_new, R_ks_fI, R_ks_fR, R_ks_aI, R_ks_aR, R_ks_new, R_kr_fI, R_kr_fR, R_kr_aI, R_kr_aR, R_kr_new, R_fJ_fI, R_fJ_fR, R_fJ_aI, R_fJ_aR, R_fJ_new, R_aJ_fI, R_aJ_fR, R_aJ_aI, R_aJ_aR, R_aJ_new, r_fI_row, r_fR_row, r_aR_row, r_cl_row, r_ln_row, r_wr_row, r_nx_row, r_sl_row, r_ks_row, r_kr_row, r_fJ_row, r_aJ_row, h_st_eq, st_ne, up_on, up_off, sr_on, sr_off, ec, e124, z1, z2, z3, cmk_set hv]
        simp (disch := first | (simp (disch := omega) only [R_fI_fI, R_fI_fR, R_fI_aI, R_fI_aR, R_fI_new, R_fR_fI, R_fR_fR, R_fR_aI, R_fR_aR, R_fR_new, R_aI_fI, R_aI_fR, R_aI_aI, R_aI_aR, R_aI_new, R_aR_fI, R_aR_fR, R_aR_aI, R_aR_aR, R_aR_new, R_cl_fI, R_cl_fR, R_cl_aI, R_cl_aR, R_cl_new, R_ln_fI, R_ln_fR, R_ln_aI, R_ln_aR, R_ln_new, R_wr_fI, R_wr_fR, R_wr_aI, R_wr_aR, R_wr_new, R_nx_fI, R_nx_fR, R_nx_aI, R_nx_aR, R_nx_new, R_sl_fI, R_sl_fR, R_sl_aI, R_sl_aR, R_sl_new, R_ks_fI, R_ks_fR, R_ks_aI, R_ks_aR, R_ks_new, R_kr_fI, R_kr_fR, R_kr_aI, R_kr_aR, R_kr_new, R_fJ_fI, R_fJ_fR, R_fJ_aI, R_fJ_aR, R_fJ_new, R_aJ_fI, R_aJ_fR, R_aJ_aI, R_aJ_aR, R_aJ_new, r_fI_row, r_fR_row, r_aR_row, r_cl_row, r_ln_row, r_wr_row, r_nx_row, r_sl_row, r_ks_row, r_kr_row, r_fJ_row, r_aJ_row, h_st_eq, st_ne, up_on, up_off, sr_on, sr_off, hc5, h113', hc12, ec]; first | done | omega | decide) | omega) only [l_m1, l_m2, l_0, l_1, l_2, l_3, l_4, l_5, l_6, l_7, l_8, l_9, l_10, l_11, l_12, l_13, l_14, l_15, l_16, l_17, l_18, l_19, l_20, l_21, l_22, l_23, l_24, l_25, l_26, l_27, l_28, l_29, l_30, l_31, l_32, l_33, l_34, l_35, l_36, l_37, l_38, l_39, l_40, l_41, l_42, l_43, l_44, l_45, l_46, l_47, l_48, l_49, l_50, l_51, l_52, l_53, l_54, l_55, l_56, l_57, l_58, l_59, l_60, l_61, l_62, l_63, l_64, l_97, l_100, l_110, l_115, l_116, l_120, l_122, l_127, l_128, l_136, l_140, l_200, l_255, l_256, l_400, l_1000, l_30000, l_1200, l_65536, l_2147483639, l_2147483647, ob_some, obd_some, q_lt_t, q_lt_f, q_le_t, q_le_f, q_eq_t, q_eq_f, im_ne, im_ne', im_lt, im_le, im_lt', im_le', i_add, i_mul, i_dec, i_dec0, i_sub, i_and, i_shr, i_div, nar_b0, nar_b1, b2i_t, b2i_f, ↓reduceIte, if_true, if_false, ↓ob_some, ↓obd_some, ↓oc_n, ↓oc_s, ↓otr_l, ↓otr_r, ↓bcls, ↓bfI, ↓bfR, ↓bpfI, ↓bpfR, ↓baI, ↓baR, ↓bpaI, ↓blen, ↓bnobj, ↓bnarr, ↓bcast, gcls, gfI, gfR, pfI, pfR, gaI, gaR, paI, paR, paS_n, paS_s, glen, gown, gthr, narr, nobj, oc_n, oc_s, otr_l, otr_r, gcast, nar_bb, nar_ch, R_fI_fI, R_fI_fR, R_fI_aI, R_fI_aR, R_fI_new, R_fR_fI, R_fR_fR, R_fR_aI, R_fR_aR, R_fR_new, R_aI_fI, R_aI_fR, R_aI_aI, R_aI_aR, R_aI_new, R_aR_fI, R_aR_fR, R_aR_aI, R_aR_aR, R_aR_new, R_cl_fI, R_cl_fR, R_cl_aI, R_cl_aR, R_cl_new, R_ln_fI, R_ln_fR, R_ln_aI, R_ln_aR, R_ln_new, R_wr_fI, R_wr_fR, R_wr_aI, R_wr_aR, R_wr_new, R_nx_fI, R_nx_fR, R_nx_aI, R_nx_aR, R_nx_new, R_sl_fI, R_sl_fR, R_sl_aI, R_sl_aR, R_sl_new, R_ks_fI, R_ks_fR, R_ks_aI, R_ks_aR, R_ks_new, R_kr_fI, R_kr_fR, R_kr_aI, R_kr_aR, R_kr_new, R_fJ_fI, R_fJ_fR, R_fJ_aI, R_fJ_aR, R_fJ_new, R_aJ_fI, R_aJ_fR, R_aJ_aI, R_aJ_aR, R_aJ_new, r_fI_row, r_fR_row, r_aR_row, r_cl_row, r_ln_row, r_wr_row, r_nx_row, r_sl_row, r_ks_row, r_kr_row, r_fJ_row, r_aJ_row, h_st_eq, st_ne, up_on, up_off, sr_on, sr_off, hc5, h113', hc12, ec, ↓obE (hsz), ↓obE (hgt), ↓ob1 (hX9)]
        exact ih'
      · exact absurd rfl (h6k (6, v, p) (by rw [hl]; exact List.mem_singleton.mpr rfl))
    · have ec : h_cl (c_mk U y mk) z.1 = 7 := e
      have e120 : h_fR (c_mk U y mk) 120 z.1 = some x2 := e1
      have ec5 : h_cl (c_mk U y mk) x2 = 5 := hFc x2 m e2
      have hkk := hk x2 m mk e2 (fun w hw => h6k w (by rw [hl]; exact List.mem_cons_of_mem _ (List.mem_append_left _ hw)))
      have hu : uc z.2.2.2 = uc m := by
        rw [hl]
        show uc ((3, q, p) :: (m ++ [(4, 0, 0)])) = _
        rw [uc_cons, if_neg (show ¬ (3 : Nat) = 2 by decide), uc_app]
        show uc m ++ [] = uc m
        rw [List.append_nil]
      rw [hu]
      have ih' := ih (k + 1) n (mk_l mk (uc m)) (by omega) (by omega)
      have hX8 : f_X8_uses kf z.1 (some y) (c_mk U y mk) = some (c_mk U y (mk_l mk (uc m))) := by
        unfold f_X8_uses
        simp (disch := first | (simp (disch := omega) only [R_fI_fI, R_fI_fR, R_fI_aI, R_fI_aR, R_fI_new, R_fR_fI, R_fR_fR, R_fR_aI, R_fR_aR, R_fR_new, R_aI_fI, R_aI_fR, R_aI_aI, R_aI_aR, R_aI_new, R_aR_fI, R_aR_fR, R_aR_aI, R_aR_aR, R_aR_new, R_cl_fI, R_cl_fR, R_cl_aI, R_cl_aR, R_cl_new, R_ln_fI, R_ln_fR, R_ln_aI, R_ln_aR, R_ln_new, R_wr_fI, R_wr_fR, R_wr_aI, R_wr_aR, R_wr_new, R_nx_fI, R_nx_fR, R_nx_aI, R_nx_aR, R_nx_new, R_sl_fI, R_sl_fR, R_sl_aI, R_sl_aR, R_sl_new, R_ks_fI, R_ks_fR, R_ks_aI, R_ks_aR, R_ks_new, R_kr_fI, R_kr_fR, R_kr_aI, R_kr_aR, R_kr_new, R_fJ_fI, R_fJ_fR, R_fJ_aI, R_fJ_aR, R_fJ_new, R_aJ_fI, R_aJ_fR, R_aJ_aI, R_aJ_aR, R_aJ_new, r_fI_row, r_fR_row, r_aR_row, r_cl_row, r_ln_row, r_wr_row, r_nx_row, r_sl_row, r_ks_row, r_kr_row, r_fJ_row, r_aJ_row, h_st_eq, st_ne, up_on, up_off, sr_on, sr_off, ec, e120, ec5, hkk]; first | done | omega | decide) | omega) only [l_m1, l_m2, l_0, l_1, l_2, l_3, l_4, l_5, l_6, l_7, l_8, l_9, l_10, l_11, l_12, l_13, l_14, l_15, l_16, l_17, l_18, l_19, l_20, l_21, l_22, l_23, l_24, l_25, l_26, l_27, l_28, l_29, l_30, l_31, l_32, l_33, l_34, l_35, l_36, l_37, l_38, l_39, l_40, l_41, l_42, l_43, l_44, l_45, l_46, l_47, l_48, l_49, l_50, l_51, l_52, l_53, l_54, l_55, l_56, l_57, l_58, l_59, l_60, l_61, l_62, l_63, l_64, l_97, l_100, l_110, l_115, l_116, l_120, l_122, l_127, l_128, l_136, l_140, l_200, l_255, l_256, l_400, l_1000, l_30000, l_1200, l_65536, l_2147483639, l_2147483647, ob_some, obd_some, q_lt_t, q_lt_f, q_le_t, q_le_f, q_eq_t, q_eq_f, im_ne, im_ne', im_lt, im_le, im_lt', im_le', i_add, i_mul, i_dec, i_dec0, i_sub, i_and, i_shr, i_div, nar_b0, nar_b1, b2i_t, b2i_f, ↓reduceIte, if_true, if_false, ↓ob_some, ↓obd_some, ↓oc_n, ↓oc_s, ↓otr_l, ↓otr_r, ↓bcls, ↓bfI, ↓bfR, ↓bpfI, ↓bpfR, ↓baI, ↓baR, ↓bpaI, ↓blen, ↓bnobj, ↓bnarr, ↓bcast, gcls, gfI, gfR, pfI, pfR, gaI, gaR, paI, paR, paS_n, paS_s, glen, gown, gthr, narr, nobj, oc_n, oc_s, otr_l, otr_r, gcast, nar_bb, nar_ch, R_fI_fI, R_fI_fR, R_fI_aI, R_fI_aR, R_fI_new, R_fR_fI, R_fR_fR, R_fR_aI, R_fR_aR, R_fR_new, R_aI_fI, R_aI_fR, R_aI_aI, R_aI_aR, R_aI_new, R_aR_fI, R_aR_fR, R_aR_aI, R_aR_aR, R_aR_new, R_cl_fI, R_cl_fR, R_cl_aI, R_cl_aR, R_cl_new, R_ln_fI, R_ln_fR, R_ln_aI, R_ln_aR, R_ln_new, R_wr_fI, R_wr_fR, R_wr_aI, R_wr_aR, R_wr_new, R_nx_fI, R_nx_fR, R_nx_aI, R_nx_aR, R_nx_new, R_sl_fI, R_sl_fR, R_sl_aI, R_sl_aR, R_sl_new, R_ks_fI, R_ks_fR, R_ks_aI, R_ks_aR, R_ks_new, R_kr_fI, R_kr_fR, R_kr_aI, R_kr_aR, R_kr_new, R_fJ_fI, R_fJ_fR, R_fJ_aI, R_fJ_aR, R_fJ_new, R_aJ_fI, R_aJ_fR, R_aJ_aI, R_aJ_aR, R_aJ_new, r_fI_row, r_fR_row, r_aR_row, r_cl_row, r_ln_row, r_wr_row, r_nx_row, r_sl_row, r_ks_row, r_kr_row, r_fJ_row, r_aJ_row, h_st_eq, st_ne, up_on, up_off, sr_on, sr_off, ec, e120, ec5, hkk]
      simp (disch := first | (simp (disch := omega) only [R_fI_fI, R_fI_fR, R_fI_aI, R_fI_aR, R_fI_new, R_fR_fI, R_fR_fR, R_fR_aI, R_fR_aR, R_fR_new, R_aI_fI, R_aI_fR, R_aI_aI, R_aI_aR, R_aI_new, R_aR_fI, R_aR_fR, R_aR_aI, R_aR_aR, R_aR_new, R_cl_fI, R_cl_fR, R_cl_aI, R_cl_aR, R_cl_new, R_ln_fI, R_ln_fR, R_ln_aI, R_ln_aR, R_ln_new, R_wr_fI, R_wr_fR, R_wr_aI, R_wr_aR, R_wr_new, R_nx_fI, R_nx_fR, R_nx_aI, R_nx_aR, R_nx_new, R_sl_fI, R_sl_fR, R_sl_aI, R_sl_aR, R_sl_new, R_ks_fI, R_ks_fR, R_ks_aI, R_ks_aR, R_ks_new, R_kr_fI, R_kr_fR, R_kr_aI, R_kr_aR, R_kr_new, R_fJ_fI, R_fJ_fR, R_fJ_aI, R_fJ_aR, R_fJ_new, R_aJ_fI, R_aJ_fR, R_aJ_aI, R_aJ_aR, R_aJ_new, r_fI_row, r_fR_row, r_aR_row, r_cl_row, r_ln_row, r_wr_row, r_nx_row, r_sl_row, r_ks_row, r_kr_row, r_fJ_row, r_aJ_row, h_st_eq, st_ne, up_on, up_off, sr_on, sr_off, hc5, h113', hc12, ec]; first | done | omega | decide) | omega) only [l_m1, l_m2, l_0, l_1, l_2, l_3, l_4, l_5, l_6, l_7, l_8, l_9, l_10, l_11, l_12, l_13, l_14, l_15, l_16, l_17, l_18, l_19, l_20, l_21, l_22, l_23, l_24, l_25, l_26, l_27, l_28, l_29, l_30, l_31, l_32, l_33, l_34, l_35, l_36, l_37, l_38, l_39, l_40, l_41, l_42, l_43, l_44, l_45, l_46, l_47, l_48, l_49, l_50, l_51, l_52, l_53, l_54, l_55, l_56, l_57, l_58, l_59, l_60, l_61, l_62, l_63, l_64, l_97, l_100, l_110, l_115, l_116, l_120, l_122, l_127, l_128, l_136, l_140, l_200, l_255, l_256, l_400, l_1000, l_30000, l_1200, l_65536, l_2147483639, l_2147483647, ob_some, obd_some, q_lt_t, q_lt_f, q_le_t, q_le_f, q_eq_t, q_eq_f, im_ne, im_ne', im_lt, im_le, im_lt', im_le', i_add, i_mul, i_dec, i_dec0, i_sub, i_and, i_shr, i_div, nar_b0, nar_b1, b2i_t, b2i_f, ↓reduceIte, if_true, if_false, ↓ob_some, ↓obd_some, ↓oc_n, ↓oc_s, ↓otr_l, ↓otr_r, ↓bcls, ↓bfI, ↓bfR, ↓bpfI, ↓bpfR, ↓baI, ↓baR, ↓bpaI, ↓blen, ↓bnobj, ↓bnarr, ↓bcast, gcls, gfI, gfR, pfI, pfR, gaI, gaR, paI, paR, paS_n, paS_s, glen, gown, gthr, narr, nobj, oc_n, oc_s, otr_l, otr_r, gcast, nar_bb, nar_ch, R_fI_fI, R_fI_fR, R_fI_aI, R_fI_aR, R_fI_new, R_fR_fI, R_fR_fR, R_fR_aI, R_fR_aR, R_fR_new, R_aI_fI, R_aI_fR, R_aI_aI, R_aI_aR, R_aI_new, R_aR_fI, R_aR_fR, R_aR_aI, R_aR_aR, R_aR_new, R_cl_fI, R_cl_fR, R_cl_aI, R_cl_aR, R_cl_new, R_ln_fI, R_ln_fR, R_ln_aI, R_ln_aR, R_ln_new, R_wr_fI, R_wr_fR, R_wr_aI, R_wr_aR, R_wr_new, R_nx_fI, R_nx_fR, R_nx_aI, R_nx_aR, R_nx_new, R_sl_fI, R_sl_fR, R_sl_aI, R_sl_aR, R_sl_new, R_ks_fI, R_ks_fR, R_ks_aI, R_ks_aR, R_ks_new, R_kr_fI, R_kr_fR, R_kr_aI, R_kr_aR, R_kr_new, R_fJ_fI, R_fJ_fR, R_fJ_aI, R_fJ_aR, R_fJ_new, R_aJ_fI, R_aJ_fR, R_aJ_aI, R_aJ_aR, R_aJ_new, r_fI_row, r_fR_row, r_aR_row, r_cl_row, r_ln_row, r_wr_row, r_nx_row, r_sl_row, r_ks_row, r_kr_row, r_fJ_row, r_aJ_row, h_st_eq, st_ne, up_on, up_off, sr_on, sr_off, hc5, h113', hc12, ec, ↓obE (hsz), ↓obE (hgt), ↓ob1 (hX8)]
      exact ih'
theorem C_uses {U : HS} {a y : Nat} (hF : FX U a) (hy : y = a + 52 ∨ y = a + 53) : ∀ (d x : Nat) (l : List Tk) (mk : Nat → Bool) (d' : Nat), d ≤ d' → Fm U a d x l → no6 l → f_X5_uses d' x (some y) (c_mk U y mk) = some (c_mk U y (mk_l mk (uc l))) := by
  intro d
  induction d with
  | zero => intro x l mk d' _ h; exact h.elim
  | succ d ih =>
    intro x l mk d' hd h h6
    obtain ⟨d', rfl⟩ : ∃ m, d' = m + 1 := ⟨d' - 1, by omega⟩
    obtain ⟨h0, h1, xl, sg, pl, z, l0, ts, h2, h3, -, -, h12, h13, h14, h15⟩ := h
    have hfl : uc (fl ((z, 0, 0, l0) :: ts)) = uc l := by
      rw [uc_fl_cons, h13, uc_app]
    have h6' : no6 (fl ((z, 0, 0, l0) :: ts)) := by
      intro w hw
      have hw' : w ∈ (5, 0, 0) :: (l0 ++ fl ts) := hw
      rcases List.mem_cons.mp hw' with rfl | hw'
      · decide
      · exact h6 w (by rw [h13]; exact hw')
    have hl := C_uses_l hF hy (F := Fm U a d) (kf := f_X5_uses d') (fun x m mk hxm h6m => ih x m mk d' (by omega) hxm h6m) (fun x m hxm => by
      cases d with
      | zero => exact hxm.elim
      | succ d => exact hxm.2.1) (tl := (z, 0, 0, l0) :: ts) h1 h2 h3 (fun i hi => by
        cases i with
        | zero => exact h14
        | succ i =>
          have hi' : i < ts.length := by simpa using hi
          exact (h15 i hi').2.2.2) h6' (by simp; omega) (ts.length + 1) 0 fu_ mk (by simp) (by rw [fu_eq]; omega)
    rw [List.drop_zero, hfl] at hl
    unfold f_X5_uses f_X5_uses_b
    rw [l_0]
    exact hl
