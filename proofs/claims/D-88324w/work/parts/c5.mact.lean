/-! the reference's act leaves the spec's *-/
theorem act_332b {M : MS} {k p : Nat} {v : Int32} (h25 : m_I M 25 = i_ k) (hk : 1 ≤ k ∧ k < 10) (h26 : m_I M 26 = v) (x : Int32) : f_X3_act_n332 x M = some (i_m, m_sI (m_sI M 27 (i_ k)) 28 v) := by
  unfold f_X3_act_n332
  simp (disch := omega) only [l_m1, l_m2, l_0, l_1, l_2, l_3, l_4, l_5, l_6, l_7, l_8, l_9, l_10, l_11, l_12, l_13, l_14, l_15, l_16, l_17, l_18, l_19, l_20, l_21, l_22, l_23, l_24, l_25, l_26, l_27, l_28, l_29, l_30, l_31, l_32, l_33, l_34, l_35, l_36, l_37, l_38, l_39, l_40, l_41, l_42, l_43, l_44, l_45, l_46, l_47, l_48, l_49, l_50, l_51, l_52, l_53, l_54, l_55, l_56, l_57, l_58, l_59, l_60, l_61, l_62, l_63, l_64, l_97, l_100, l_110, l_115, l_116, l_120, l_122, l_127, l_128, l_136, l_140, l_200, l_255, l_256, l_400, l_1000, l_30000, l_1200, l_65536, l_2147483639, l_2147483647, ob_some, obd_some, q_lt_t, q_lt_f, q_le_t, q_le_f, q_eq_t, q_eq_f, im_ne, im_ne', im_lt, im_le, im_lt', im_le', i_add, i_mul, i_dec, i_dec0, i_sub, i_and, i_shr, i_div, nar_b0, nar_b1, b2i_t, b2i_f, gA1, pA1, gB2, pB2, gA3, pA3, gA4, pA4, gB5, pB5, gA6, pA6, gA7, pA7, gA8, pA8, gA9, pA9, gA10, pA10, gA11, pA11, gA12, pA12, gA13, pA13, gA14, pA14, gA15, pA15, gA16, pA16, gA17, pA17, gA18, pA18, gA19, pA19, gA20, pA20, gA21, pA21, gA40, pA40, gB43, pB43, gA44, pA44, gA45, pA45, gA46, pA46, gA47, pA47, gA48, pA48, gA49, pA49, gA53, pA53, gA54, pA54, gA55, pA55, gA56, pA56, gA58, pA58, gA60, pA60, gA61, pA61, gA62, pA62, gA63, pA63, gA66, pA66, ↓reduceIte, if_true, if_false, R_mI_sJ, R_mI_sA, R_mI_sB, R_mJ_sI, R_mJ_sA, R_mJ_sB, R_mA_sI, R_mA_sJ, R_mA_sB, R_mB_sI, R_mB_sJ, R_mB_sA, mI_on, mI_off, mJ_on, mJ_off, mA_on, mA_same, mA_off, mB_on, mB_same, mB_off, up_on, up_off, h25, h26]
theorem act_bad {M : MS} {e : Nat} (hb : BD M e) (x : Int32) : f_X3_act_n299 x M = some (i_m, m_sI (m_sI M 27 (i_ 1)) 28 (i_ e)) := by
  have z : m_I M 25 = i_ 1 := hb.1
  have := act_332b (p := 0) hb.1 (by decide) hb.2 x
  unfold f_X3_act_n299 f_X3_act_n310
  simp (disch := omega) only [l_m1, l_m2, l_0, l_1, l_2, l_3, l_4, l_5, l_6, l_7, l_8, l_9, l_10, l_11, l_12, l_13, l_14, l_15, l_16, l_17, l_18, l_19, l_20, l_21, l_22, l_23, l_24, l_25, l_26, l_27, l_28, l_29, l_30, l_31, l_32, l_33, l_34, l_35, l_36, l_37, l_38, l_39, l_40, l_41, l_42, l_43, l_44, l_45, l_46, l_47, l_48, l_49, l_50, l_51, l_52, l_53, l_54, l_55, l_56, l_57, l_58, l_59, l_60, l_61, l_62, l_63, l_64, l_97, l_100, l_110, l_115, l_116, l_120, l_122, l_127, l_128, l_136, l_140, l_200, l_255, l_256, l_400, l_1000, l_30000, l_1200, l_65536, l_2147483639, l_2147483647, ob_some, obd_some, q_lt_t, q_lt_f, q_le_t, q_le_f, q_eq_t, q_eq_f, im_ne, im_ne', im_lt, im_le, im_lt', im_le', i_add, i_mul, i_dec, i_dec0, i_sub, i_and, i_shr, i_div, nar_b0, nar_b1, b2i_t, b2i_f, gA1, pA1, gB2, pB2, gA3, pA3, gA4, pA4, gB5, pB5, gA6, pA6, gA7, pA7, gA8, pA8, gA9, pA9, gA10, pA10, gA11, pA11, gA12, pA12, gA13, pA13, gA14, pA14, gA15, pA15, gA16, pA16, gA17, pA17, gA18, pA18, gA19, pA19, gA20, pA20, gA21, pA21, gA40, pA40, gB43, pB43, gA44, pA44, gA45, pA45, gA46, pA46, gA47, pA47, gA48, pA48, gA49, pA49, gA53, pA53, gA54, pA54, gA55, pA55, gA56, pA56, gA58, pA58, gA60, pA60, gA61, pA61, gA62, pA62, gA63, pA63, gA66, pA66, ↓reduceIte, if_true, if_false, R_mI_sJ, R_mI_sA, R_mI_sB, R_mJ_sI, R_mJ_sA, R_mJ_sB, R_mA_sI, R_mA_sJ, R_mA_sB, R_mB_sI, R_mB_sJ, R_mB_sA, mI_on, mI_off, mJ_on, mJ_off, mA_on, mA_same, mA_off, mB_on, mB_same, mB_off, up_on, up_off, z, this]
def act_m (M : MS) (t : Nat) : MS := m_sA (m_sA (m_sA (m_sA (m_sA (m_sI (m_sI M 27 (i_ 0)) 28 i_m) 1 t (i_ 1)) 9 t i_m) 10 t i_m) 11 t i_m) 12 t i_m
theorem act_332g {M : MS} {t : Nat} (h0 : m_I M 0 = i_ t) (ht : t ≤ 16) (h25 : m_I M 25 = i_ 0) (h26 : m_I M 26 = i_m) : f_X3_act_n332 (i_ t) M = some (i_ t, m_sI (act_m M t) 0 (i_ (t + 1))) := by
  unfold f_X3_act_n332
  simp (disch := omega) only [l_m1, l_m2, l_0, l_1, l_2, l_3, l_4, l_5, l_6, l_7, l_8, l_9, l_10, l_11, l_12, l_13, l_14, l_15, l_16, l_17, l_18, l_19, l_20, l_21, l_22, l_23, l_24, l_25, l_26, l_27, l_28, l_29, l_30, l_31, l_32, l_33, l_34, l_35, l_36, l_37, l_38, l_39, l_40, l_41, l_42, l_43, l_44, l_45, l_46, l_47, l_48, l_49, l_50, l_51, l_52, l_53, l_54, l_55, l_56, l_57, l_58, l_59, l_60, l_61, l_62, l_63, l_64, l_97, l_100, l_110, l_115, l_116, l_120, l_122, l_127, l_128, l_136, l_140, l_200, l_255, l_256, l_400, l_1000, l_30000, l_1200, l_65536, l_2147483639, l_2147483647, ob_some, obd_some, q_lt_t, q_lt_f, q_le_t, q_le_f, q_eq_t, q_eq_f, im_ne, im_ne', im_lt, im_le, im_lt', im_le', i_add, i_mul, i_dec, i_dec0, i_sub, i_and, i_shr, i_div, nar_b0, nar_b1, b2i_t, b2i_f, gA1, pA1, gB2, pB2, gA3, pA3, gA4, pA4, gB5, pB5, gA6, pA6, gA7, pA7, gA8, pA8, gA9, pA9, gA10, pA10, gA11, pA11, gA12, pA12, gA13, pA13, gA14, pA14, gA15, pA15, gA16, pA16, gA17, pA17, gA18, pA18, gA19, pA19, gA20, pA20, gA21, pA21, gA40, pA40, gB43, pB43, gA44, pA44, gA45, pA45, gA46, pA46, gA47, pA47, gA48, pA48, gA49, pA49, gA53, pA53, gA54, pA54, gA55, pA55, gA56, pA56, gA58, pA58, gA60, pA60, gA61, pA61, gA62, pA62, gA63, pA63, gA66, pA66, ↓reduceIte, if_true, if_false, R_mI_sJ, R_mI_sA, R_mI_sB, R_mJ_sI, R_mJ_sA, R_mJ_sB, R_mA_sI, R_mA_sJ, R_mA_sB, R_mB_sI, R_mB_sJ, R_mB_sA, mI_on, mI_off, mJ_on, mJ_off, mA_on, mA_same, mA_off, mB_on, mB_same, mB_off, up_on, up_off, h25, h26, h0]
  rfl
theorem act_m_gr (M : MS) (t : Nat) : Gr [1, 9, 10, 11, 12] [] [27, 28] t M (act_m M t) := ((((((Gr.sI (by decide)).tr (Gr.sI (by decide))).tr (Gr.sA (by decide) (Nat.le_refl t))).tr (Gr.sA (by decide) (Nat.le_refl t))).tr (Gr.sA (by decide) (Nat.le_refl t))).tr (Gr.sA (by decide) (Nat.le_refl t))).tr (Gr.sA (by decide) (Nat.le_refl t))
theorem act_m_r (M : MS) (t : Nat) : (m_A (act_m M t) 1 t = i_ 1 ∧ m_A (act_m M t) 9 t = i_m ∧ m_A (act_m M t) 10 t = i_m ∧ m_A (act_m M t) 11 t = i_m ∧ m_A (act_m M t) 12 t = i_m) ∧ m_I (act_m M t) 27 = i_ 0 ∧ m_I (act_m M t) 28 = i_m := by
  unfold act_m
  refine ⟨⟨?_, ?_, ?_, ?_, ?_⟩, ?_, ?_⟩
  · rw [mA_same (by decide), mA_same (by decide), mA_same (by decide), mA_same (by decide), mA_on]
  · rw [mA_same (by decide), mA_same (by decide), mA_same (by decide), mA_on]
  · rw [mA_same (by decide), mA_same (by decide), mA_on]
  · rw [mA_same (by decide), mA_on]
  · rw [mA_on]
  · rw [R_mI_sA, R_mI_sA, R_mI_sA, R_mI_sA, R_mI_sA, mI_off (by decide), mI_on]
  · rw [R_mI_sA, R_mI_sA, R_mI_sA, R_mI_sA, R_mI_sA, mI_on]
theorem act_z {s : SP} {st : St} {u : Nat} (hu : u ≠ z_n s) : z_th (act_s s st) u = z_th s u ∧ z_nm (act_s s st) u = z_nm s u ∧ z_so (act_s s st) u = z_so s u ∧ z_nc (act_s s st) u = z_nc s u ∧ z_cn (act_s s st) u = z_cn s u ∧ z_ty (act_s s st) u = z_ty s u ∧ z_nb (act_s s st) u = z_nb s u ∧ z_fr (act_s s st) u = z_fr s u ∧ z_ow (act_s s st) u = z_ow s u ∧ z_lg (act_s s st) u = z_lg s u ∧ z_ol (act_s s st) u = z_ol s u ∧ z_nw (act_s s st) u = z_nw s u ∧ z_fo (act_s s st) u = z_fo s u ∧ z_hw (act_s s st) u = z_hw s u ∧ z_tx (act_s s st) u = z_tx s u :=
  ⟨up_off hu, up_off hu, up_off hu, up_off hu, up_off hu, up_off hu, up_off hu, up_off hu, up_off hu, up_off hu, up_off hu, up_off hu, up_off hu, up_off hu, up_off hu⟩
theorem act_y (s : SP) (st : St) : z_th (act_s s st) (z_n s) = true ∧ z_nm (act_s s st) (z_n s) = st.1.2.1 ∧ z_so (act_s s st) (z_n s) = st.1.1 ∧ z_nc (act_s s st) (z_n s) = (cns st).length ∧ z_cn (act_s s st) (z_n s) = fnm (cns st) ∧ z_ty (act_s s st) (z_n s) = ty_of s st ∧ z_nb (act_s s st) (z_n s) = (frs st).length ∧ z_fr (act_s s st) (z_n s) = (fun k => (tnf s (fnm (frs st) k)).getD 0) ∧ z_ow (act_s s st) (z_n s) = i_m ∧ z_lg (act_s s st) (z_n s) = i_m ∧ z_ol (act_s s st) (z_n s) = i_m ∧ z_nw (act_s s st) (z_n s) = i_m ∧ z_fo (act_s s st) (z_n s) = fo_of s st ∧ z_hw (act_s s st) (z_n s) = (whr st).isSome ∧ z_tx (act_s s st) (z_n s) = tks st.2.2 :=
  ⟨up_on, up_on, up_on, up_on, up_on, up_on, up_on, up_on, up_on, up_on, up_on, up_on, up_on, up_on, up_on⟩
theorem act_fo {s : SP} {st : St} {c : Nat} (hc : c < (cns st).length) (h6 : (cns st).length ≤ 6) : fo_of s st c = ((fms st).getD c []).map (rsv s st) := by
  unfold fo_of
  cases whr st with
  | none => rfl
  | some w =>
    show (if c = 6 then w.1.2 else if c = 7 then w.2.2.2 else (fms st).getD c []).map (rsv s st) = _
    rw [if_neg (by omega), if_neg (by omega)]
theorem act_fo6 {s : SP} {st : St} {w : Wh} (hw : whr st = some w) : fo_of s st 6 = w.1.2.map (rsv s st) ∧ fo_of s st 7 = w.2.2.2.map (rsv s st) := by
  unfold fo_of
  rw [hw]
  exact ⟨rfl, rfl⟩
theorem RM.act {M N K L : MS} {s : SP} {st : St} (h : RM M s) (g : Gr kaA kbA kiA (z_n s) M N) (h52 : m_I N 52 = 0) (hp : pstat (z_tp s) (z_tl s) = .inr st) (hev : evA s st = []) (ht16 : z_n s < 16) (hPR : ∃ N0, PRD (z_n s) (z_tl s) (z_tp s) st N0 ∧ Gr [6, 8, 45, 46, 47, 48, 49] [] [25, 26, 50, 51, 52] (z_n s) N0 N) (hn4 : z_tl s ≤ 400)
    (h8 : ∀ j, j < (frs st).length → m_A N 8 (3 * z_n s + j) = oi (tnf s (fnm (frs st) j))) (h6 : ∀ c, c < (cns st).length → m_A N 6 (8 * z_n s + c) = i_ (ty_of s st c) ∧ ty_of s st c < 128)
    (gm : Gr [1, 9, 10, 11, 12] [] [27, 28] (z_n s) N K) (k1 : m_A K 1 (z_n s) = i_ 1) (k9 : m_A K 9 (z_n s) = i_m) (k10 : m_A K 10 (z_n s) = i_m) (k11 : m_A K 11 (z_n s) = i_m) (k12 : m_A K 12 (z_n s) = i_m) (k27 : m_I K 27 = i_ 0) (k28 : m_I K 28 = i_m) (lA : m_A L = m_A K) (lB : m_B L = m_B K) (lJ : m_J L = m_J K) (l0 : m_I L 0 = i_ (z_n s + 1)) (lI : ∀ k, k ≠ 0 → m_I L k = m_I K k) : RM L (act_s s st) := by
  obtain ⟨h1, h2, h3, h4, h5, h6', h7, h8'⟩ := h
  have hD := pstat_D hp
  obtain ⟨hS, hS2, hS3⟩ := pstat_S hp
  obtain ⟨e1, e2, e3, e4, e5⟩ := evA_0 hD hev
  obtain ⟨fp1, fp2, fp3⟩ := hD.fp hn4
  obtain ⟨⟨l1, l2⟩, l3, l5, l4⟩ := hD.2.2.2.2.2.2.2
  obtain ⟨N0, ⟨p1, p2, p3, ⟨p4, p5⟩, p6, p7, p8⟩, g0⟩ := hPR
  have gA : Gr kaA kbA kiA (z_n s) M K := g.tr (gm.mono (by decide) (by decide) (by decide))
  have hK : TK K (z_n s) (hdr (z_tp s) (z_tl s) st ++ st.2.2) := (p3.gr g0 (by decide)).gr gm (by decide)
  have hX : TXT K (z_n s) (z_tl s) (z_tp s) := by
    unfold TXT
    rw [gm.1 17 (by decide), g0.1 17 (by decide)]
    exact p6
  have hBK : ∀ y ∈ hdr (z_tp s) (z_tl s) st ++ st.2.2, BT (z_tp s) (z_tl s) y ∧ y.2.1 < z_tl s := fun y hy => ⟨(hS.2.2 y hy).1, (hS.2.2 y hy).2.2⟩
  obtain ⟨y1, y2, y3, y4, y5, y6, y7, y8, y9, y10, y11, y12, y13, y14, y15⟩ := act_y s st
  have ha := h1.gr gA (by decide)
  have hm := h6'.gr h1 gA
  have hf := h7.gr h1 gA
  have hx := h8'.gr gA
  have cnR : m_A N0 4 (z_n s) = i_ (cns st).length ∧ m_A N0 7 (z_n s) = i_ (frs st).length ∧ ∀ c, c < (cns st).length → m_B N0 5 (8 * z_n s + c) = enc (fnm (cns st) c) := by
    cases hy : st.2.1 with
    | inl cs =>
      rw [hy] at p8
      obtain ⟨r1, r2, r3, r4⟩ := p8
      have hcns : cns st = cs.map (fun c => (c.1, c.2.1)) := by unfold cns; rw [hy]
      have hfr : frs st = [] := by unfold frs; rw [hy]
      rw [hfr]
      refine ⟨by rw [hcns, List.length_map]; exact r1, r2, fun c hc => ?_⟩
      rw [hcns, List.length_map] at hc
      obtain ⟨q1, -, -⟩ := r4.at c hc
      rw [Nat.zero_add] at q1
      rw [q1]
      unfold fnm
      rw [hcns, getD_map' (d := ([], 0, 0)) hc]
    | inr y =>
      rw [hy] at p8
      obtain ⟨⟨r1, r2, r3, r4, r5⟩, r6⟩ := p8
      have hcns : cns st = y.1.map (fun c => (c.1, c.2.1)) := by unfold cns; rw [hy]
      have hfr : frs st = y.2.1 := by unfold frs; rw [hy]
      rw [hfr]
      refine ⟨by rw [hcns, List.length_map]; exact r1, r3, fun c hc => ?_⟩
      rw [hcns, List.length_map] at hc
      obtain ⟨b, q1, -⟩ := r2.at c hc
      rw [Nat.zero_add] at q1
      rw [q1]
      unfold fnm
      rw [hcns, getD_map' (d := ([], 0, [], [])) hc]
  have hnq : ∀ q, q < z_n s → z_nc (act_s s st) q = z_nc s q ∧ z_nc s q ≤ 6 ∧ z_nm (act_s s st) q = z_nm s q ∧ z_cn (act_s s st) q = z_cn s q := fun q hq => by
    obtain ⟨a1, a2, a3, a4, a5, -⟩ := act_z (s := s) (st := st) (u := q) (by omega)
    exact ⟨a4, (h1.2.2 q hq).2.2.1.2.2, a2, a5⟩
  have hfrq : ∀ k q, k < (frs st).length → tnf s (fnm (frs st) k) = some q → ∃ j, j < z_nb (act_s s st) (z_n s) ∧ z_fr (act_s s st) (z_n s) j = q := fun k q hk hq => by
    refine ⟨k, by rw [y7]; exact hk, ?_⟩
    rw [y8]
    show (tnf s (fnm (frs st) k)).getD 0 = q
    rw [hq]
    rfl
  refine ⟨⟨l0, show z_n s + 1 ≤ 16 by omega, fun u hu => ?_⟩, ⟨?_, h2.2.1, fun k hk => ?_⟩, ?_, ⟨⟨?_, ?_, ?_⟩, ⟨?_, Nat.zero_le _⟩, fun k hk => absurd hk (Nat.not_lt_zero k)⟩, ⟨?_, ?_, ?_⟩, fun u hu => ?_, fun u hu hth hmd => ?_, fun u hu hth hmd => ?_⟩
  · -- rows
    have hu' : u < z_n s + 1 := hu
    by_cases e : u = z_n s
    · subst e
      unfold RMt
      rw [y1, y3, y4, y6, y7, y8, y9, y10, y11, y12]
      rw [lA]
      refine ⟨?_, ⟨?_, ?_⟩, ⟨?_, l1, l2⟩, ⟨?_, l3⟩, fun k hk => ?_, ⟨?_, ?_, ?_, ?_⟩, fun c hc => ?_⟩
      · exact k1
      · show m_A _ 3 _ = _
        rw [gm.1 3 (by decide), g0.1 3 (by decide)]
        exact p5
      · have := hD.1.2.2.2
        omega
      · show m_A _ 4 _ = _
        rw [gm.1 4 (by decide), g0.1 4 (by decide)]
        exact cnR.1
      · show m_A _ 7 _ = _
        rw [gm.1 7 (by decide), g0.1 7 (by decide)]
        exact cnR.2.1
      · obtain ⟨-, q, hq⟩ := e3 k hk
        show m_A _ 8 _ = i_ ((tnf s (fnm (frs st) k)).getD 0) ∧ (tnf s (fnm (frs st) k)).getD 0 < z_n s
        rw [gm.1 8 (by decide), h8 k hk, hq]
        exact ⟨rfl, (tnf_some hq).1⟩
      · exact k9
      · exact k10
      · exact k11
      · exact k12
      · show m_A _ 6 _ = _ ∧ _
        rw [gm.1 6 (by decide)]
        exact h6 c hc
    · obtain ⟨a1, a2, a3, a4, a5, a6, a7, a8, a9, a10, a11, a12, a13, a14, a15⟩ := act_z (s := s) (st := st) (u := u) e
      have hr := ha.2.2 u (by omega)
      unfold RMt at hr ⊢
      rw [lA]
      rw [a1, a3, a4, a6, a7, a8, a9, a10, a11, a12]
      exact hr
  · rw [lI 59 (by decide), gA.2.2.2.2.1 59 (by decide)]
    exact h2.1
  · rw [lA, gA.1 61 (by decide), gA.1 62 (by decide), gA.1 63 (by decide)]
    obtain ⟨⟨b1, b2⟩, b3, b4⟩ := h2.2.2 k hk
    exact ⟨⟨b1, Nat.lt_succ_of_lt b2⟩, b3, b4⟩
  · unfold RMo
    rw [lA, lI 57 (by decide), gA.2.2.2.2.1 57 (by decide), gA.1 58 (by decide)]
    exact h3
  · rw [lI 64 (by decide), gA.2.2.2.2.1 64 (by decide)]
    exact h4.1.1
  · rw [lI 27 (by decide)]
    exact k27
  · rw [lI 28 (by decide)]
    exact k28
  · rw [lI 22 (by decide), gm.2.2.2.2.1 22 (by decide), g0.2.2.2.2.1 22 (by decide)]
    exact p2.2.2
  · rw [lI 65 (by decide), gA.2.2.2.2.1 65 (by decide)]
    exact h5.1
  · rw [lI 52 (by decide), gm.2.2.2.2.1 52 (by decide)]
    exact h52
  · rw [lJ]
    rw [gA.2.2.2.2.2 33 (by decide), gA.2.2.2.2.2 34 (by decide), gA.2.2.2.2.2 35 (by decide), gA.2.2.2.2.2 36 (by decide), gA.2.2.2.2.2 37 (by decide), gA.2.2.2.2.2 38 (by decide), gA.2.2.2.2.2 39 (by decide)]
    exact h5.2.2
  · -- names
    have hu' : u < z_n s + 1 := hu
    by_cases e : u = z_n s
    · subst e
      rw [y2, y4, y5]
      refine ⟨⟨?_, hD.1.2.1⟩, fun c hc => ⟨?_, (fp1 c hc).1⟩⟩
      · rw [lB, gm.2.2.1 2 List.not_mem_nil, g0.2.2.1 2 List.not_mem_nil]
        exact p4
      · rw [lB, gm.2.2.1 5 List.not_mem_nil, g0.2.2.1 5 List.not_mem_nil]
        exact cnR.2.2 c hc
    · obtain ⟨a1, a2, a3, a4, a5, -⟩ := act_z (s := s) (st := st) (u := u) e
      rw [a2, a4, a5, lB]
      exact hm u (by omega)
  · -- formulas
    have hu' : u < z_n s + 1 := hu
    by_cases e : u = z_n s
    · subst e
      have hso : 1 ≤ st.1.1 := by
        unfold made at hmd
        rw [decide_eq_true_eq, y3] at hmd
        omega
      cases hy : st.2.1 with
      | inl cs =>
        have := hS3 cs hy
        omega
      | inr y =>
        rw [hy] at p8
        obtain ⟨⟨r1, r2, r3, r4, r5⟩, r6⟩ := p8
        obtain ⟨-, hpf, hwf⟩ := hS2 y hy
        have hcns : cns st = y.1.map (fun c => (c.1, c.2.1)) := by unfold cns; rw [hy]
        have hfm : fms st = y.1.map (fun c => c.2.2.2) := by unfold fms; rw [hy]
        have hwh : whr st = y.2.2 := by unfold whr; rw [hy]
        have hlen : (cns st).length = y.1.length := by rw [hcns, List.length_map]
        have hflen : (fms st).length = y.1.length := by rw [hfm, List.length_map]
        have hfg : ∀ j, j < y.1.length → (fms st).getD j [] = (y.1.getD j ([], 0, [], [])).2.2.2 := fun j hj => by
          rw [hfm, getD_map' (d := ([], 0, [], [])) hj]
        have hkl : (hdr (z_tp s) (z_tl s) st ++ st.2.2).length ≤ 400 := by omega
        have mk : ∀ (c b : Nat) (k : List Rk) (l : List Nk), (∃ p p', pform (z_tp s) (z_tl s) 3 p = .inr (k, l, p')) → l ∈ allf st → m_A N0 18 (8 * z_n s + c) = i_ b → m_A N0 19 (8 * z_n s + c) = i_ (b + k.length) → Sg (hdr (z_tp s) (z_tl s) st ++ st.2.2) b k → z_fo (act_s s st) (z_n s) c = l.map (rsv s st) → FF L (act_s s st) (z_n s) c := by
          intro c b k l ⟨p, p', hpl⟩ hal q1 q2 q3 q4
          obtain ⟨z1, z2, ⟨z3, z3'⟩, z4⟩ := pform_KS _ _ _ _ _ hpl
          refine ⟨b, b + k.length, ?_, ?_, by omega, ?_, ?_⟩
          · rw [lA, gm.1 18 (by decide), g0.1 18 (by decide)]
            exact q1
          · rw [lA, gm.1 19 (by decide), g0.1 19 (by decide)]
            exact q2
          · obtain ⟨v, w, ev, rfl⟩ := q3
            rw [ev, List.length_append, List.length_append] at hkl
            omega
          · rw [q4]
            refine FT.of (M := K) (fun k _ _ => by rw [lA]) ?_
            exact M_ft (M := K) hK hX hn4 hBK rfl hnq hfrq z4 (e4 l hal).2 q3 (pform_Sp _ _ _ _ _ hpl)
        refine ⟨fun c hc => ?_, ?_⟩
        · rw [y4] at hc
          obtain ⟨b, -, b2, b3, o, b4⟩ := r2.at c (by omega)
          rw [Nat.zero_add] at b2 b3
          refine mk c (b + 2) _ _ (hpf c (by omega)) ?_ b2 b3 (Sg.left (k1 := [(1, (y.1.getD c ([], 0, [], [])).2.1, (y.1.getD c ([], 0, [], [])).1), (58, o, [58])]) b4).2 ?_
          · unfold allf
            refine List.mem_append_left _ ?_
            rw [← hfg c (by omega)]
            exact getD_mem' (by omega)
          · rw [y13, act_fo hc l2, hfg c (by omega)]
        · rw [y14]
          cases hw : whr st with
          | none =>
            rw [if_neg (show ¬ (none : Option Wh).isSome = true by decide)]
            rw [lA, gm.1 19 (by decide), g0.1 19 (by decide)]
            rw [hwh] at hw
            rw [hw] at r5
            exact r5
          | some w =>
            rw [if_pos (show (some w).isSome = true from rfl)]
            have hal : w.1.2 ∈ allf st ∧ w.2.2.2 ∈ allf st := by
              unfold allf
              rw [hw]
              exact ⟨List.mem_append_right _ List.mem_cons_self, List.mem_append_right _ (List.mem_cons_of_mem _ List.mem_cons_self)⟩
            have hfo := act_fo6 (s := s) hw
            rw [hwh] at hw
            rw [hw] at r5
            obtain ⟨-, ⟨a6, w1, w2, w3⟩, a7, w4, w5, w6⟩ := r5
            obtain ⟨f6, f7, -⟩ := hwf w hw
            exact ⟨mk 6 a6 _ _ f6 hal.1 w1 w2 w3 (by rw [y13]; exact hfo.1), mk 7 a7 _ _ f7 hal.2 w4 w5 w6 (by rw [y13]; exact hfo.2)⟩
    · obtain ⟨a1, a2, a3, a4, a5, a6, a7, a8, a9, a10, a11, a12, a13, a14, a15⟩ := act_z (s := s) (st := st) (u := u) e
      have hm' : made s u = true := by
        unfold made at hmd ⊢
        rw [a3] at hmd
        exact hmd
      rw [a1] at hth
      obtain ⟨b1, b2⟩ := hf u (by omega) hth hm'
      have hF : ∀ c, FF K s u c → FF L (act_s s st) u c := fun c hc => by
        obtain ⟨k, k', c1, c2, c3, c4, c5⟩ := hc
        refine ⟨k, k', by rw [lA]; exact c1, by rw [lA]; exact c2, c3, c4, ?_⟩
        rw [a13]
        refine FT.of (M := K) (fun k _ _ => by rw [lA]) ?_
        refine FT.sp (M := K) (fun k x k' q => ?_) c5
        rcases q with q | q | ⟨q1, q2, q3, q4, q, c, q5, q6, q7, q8, ⟨j, q9, q9'⟩, q10, q11⟩ | q
        · exact Or.inl q
        · exact Or.inr (Or.inl q)
        · obtain ⟨x1, x2, x3, x4, x5, -⟩ := act_z (s := s) (st := st) (u := q) (by omega)
          exact Or.inr (Or.inr (Or.inl ⟨q1, q2, q3, q4, q, c, q5, q6, by rw [x4]; exact q7, by rw [x4]; exact q8, ⟨j, by rw [a7]; exact q9, by rw [a8]; exact q9'⟩, by rw [x2]; exact q10, by rw [x5]; exact q11⟩))
        · exact Or.inr (Or.inr (Or.inr q))
      refine ⟨fun c hc => hF c (b1 c (by rw [← a4]; exact hc)), ?_⟩
      rw [a14]
      by_cases q : z_hw s u = true
      · rw [if_pos q] at b2 ⊢
        exact ⟨hF 6 b2.1, hF 7 b2.2⟩
      · rw [if_neg q] at b2 ⊢
        rw [lA]
        exact b2
  · -- texts
    have hu' : u < z_n s + 1 := hu
    by_cases e : u = z_n s
    · subst e
      have hso : 1 ≤ st.1.1 := by
        unfold made at hmd
        rw [decide_eq_true_eq, y3] at hmd
        omega
      cases hy : st.2.1 with
      | inl cs =>
        have := hS3 cs hy
        omega
      | inr y =>
        rw [hy] at p8
        have hlen : (tks st.2.2).length = st.2.2.length := List.length_map ..
        have hll : (hdr (z_tp s) (z_tl s) st ++ st.2.2).length = 2 + st.2.2.length := by
          rw [List.length_append]
          rfl
        refine ⟨2, ?_, ?_, ?_, fun i hi => ?_⟩
        · rw [lA, gm.1 20 (by decide), g0.1 20 (by decide)]
          exact p8.2
        · rw [y15, hlen, ← hll, lA]
          exact hK.1
        · rw [y15, hlen]
          omega
        · rw [y15] at hi ⊢
          rw [hlen] at hi
          have hsg : Sg (hdr (z_tp s) (z_tl s) st ++ st.2.2) 2 st.2.2 := Sg.end (hdr (z_tp s) (z_tl s) st) st.2.2
          obtain ⟨r1, r2⟩ := hK.row hsg hi
          obtain ⟨b1, b2⟩ := hBK _ (hsg.mem (getD_mem' (d := (0, 0, [])) hi))
          have hg : (tks st.2.2).getD i (0, []) = tk (st.2.2.getD i (0, 0, [])) := getD_map' (d := (0, 0, [])) hi
          rw [hg]
          unfold TXr
          rw [lA]
          obtain ⟨t1, t2, t3⟩ := r1
          refine ⟨t1, b1.2.1, t3, _, t2, by have := b1.1; show _ + (st.2.2.getD i (0, 0, [])).2.2.length ≤ 400; omega, fun j hj => ?_⟩
          have hj' : j < (st.2.2.getD i (0, 0, [])).2.2.length := hj
          have hjb := b1.2.2 j hj'
          have hj1 := b1.1
          have htp := (h4.2.2 ((st.2.2.getD i (0, 0, [])).2.1 + j) (by omega)).2
          refine ⟨?_, ?_⟩
          · show m_A _ 17 _ = i_ ((st.2.2.getD i (0, 0, [])).2.2.getD j 0)
            rw [hjb, Nat.add_assoc]
            exact hX _ (by omega)
          · show (st.2.2.getD i (0, 0, [])).2.2.getD j 0 < 256
            rw [hjb]
            exact htp
    · obtain ⟨a1, a2, a3, a4, a5, a6, a7, a8, a9, a10, a11, a12, a13, a14, a15⟩ := act_z (s := s) (st := st) (u := u) e
      have hm' : made s u = true := by
        unfold made at hmd ⊢
        rw [a3] at hmd
        exact hmd
      rw [a1] at hth
      rw [a15, lA]
      unfold TXr
      rw [lA]
      exact hx u (by omega) hth hm'
