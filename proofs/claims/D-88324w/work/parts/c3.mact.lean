/-! the reference's act *-/
theorem StD.fp {T : Nat → Nat} {n : Nat} {st : St} (h : StD T n st) (hn : n ≤ 400) : (∀ c, c < (cns st).length → nmok (fnm (cns st) c) ∧ fpl (cns st) c < 1000) ∧ (∀ c, c < (frs st).length → nmok (fnm (frs st) c) ∧ fpl (frs st) c < 1000) ∧ st.1.2.2 < 1000 := by
  refine ⟨fun c hc => ?_, fun c hc => ?_, ?_⟩
  · obtain ⟨h1, h2, h3⟩ := h.2.1 _ (fs_mem hc)
    have h1' : fpl (cns st) c < n := h1.1
    exact ⟨h3, by omega⟩
  · obtain ⟨h1, h2, h3⟩ := h.2.2.1 _ (fs_mem hc)
    have h1' : fpl (frs st) c < n := h1.1
    exact ⟨h3, by omega⟩
  · have := h.1.1.1
    omega
theorem M_mA {t n : Nat} {T : Nat → Nat} {s : SP} {st : St} {M : MS} (ha : RMa M s) (hm : RMn M s) (hts : t = z_n s) (hn : n ≤ 400) (h : PRD t n T st M) (hp : pstat T n = .inr st) :
    ∃ N, f_X3_meant M = A_types (i_ t) N ∧ Gr [8] [] [25, 26] t M N ∧ EO N (mwl none (evN s st.1.2.1 st.1.2.2 ++ (evC2 (cns st) (List.range' 0 (cns st).length) ++ evF1 s (frs st) (List.range' 0 (frs st).length)))) ∧ ∀ j, j < (frs st).length → m_A N 8 (3 * t + j) = oi (tnf s (fnm (frs st) j)) := by
  have hD := pstat_D hp
  obtain ⟨hS, hS2, hS3⟩ := pstat_S hp
  obtain ⟨hP, ⟨h25, h26, -⟩, hK, ⟨hB2, hA3⟩, hX, hks, hr⟩ := h
  have hn0 := hP.1.1
  have ht := hP.1.2.1
  obtain ⟨fp1, fp2, fp3⟩ := hD.fp hn
  obtain ⟨⟨l1, l2⟩, l3, -, l4⟩ := hD.2.2.2.2.2.2.2
  have hE : EO M none := ⟨h25, h26⟩
  -- the name
  have hT := M_tableNamed ha hm hD.1.2.1
  have hrow1 : m_A M 15 (400 * t + 1) = i_ st.1.2.2 := by
    have := hK.2 1 (by rw [List.length_append]; exact Nat.lt_of_lt_of_le (show 1 < 2 by decide) (Nat.le_add_right _ _))
    exact this.2.1
  have sA : ∃ N, f_X3_meant M = f_X3_meant_n40 fu_ (i_ t) (i_ 3) (i_ 0) N ∧ Gr [] [] [25, 26] t M N ∧ EO N (mwl none (evN s st.1.2.1 st.1.2.2)) := by
    unfold evN
    cases hq : tnf s st.1.2.1 with
    | none =>
      rw [hq] at hT
      have hT' : f_X3_tableNamed (enc st.1.2.1) M = some (i_m, M) := hT
      refine ⟨M, ?_, Gr.rf _ _ _ _ _, by rw [if_pos rfl]; exact hE⟩
      unfold f_X3_meant f_X3_meant_n36
      simp (disch := omega) only [l_m1, l_m2, l_0, l_1, l_2, l_3, l_4, l_5, l_6, l_7, l_8, l_9, l_10, l_11, l_12, l_13, l_14, l_15, l_16, l_17, l_18, l_19, l_20, l_21, l_22, l_23, l_24, l_25, l_26, l_27, l_28, l_29, l_30, l_31, l_32, l_33, l_34, l_35, l_36, l_37, l_38, l_39, l_40, l_41, l_42, l_43, l_44, l_45, l_46, l_47, l_48, l_49, l_50, l_51, l_52, l_53, l_54, l_55, l_56, l_57, l_58, l_59, l_60, l_61, l_62, l_63, l_64, l_97, l_100, l_110, l_115, l_116, l_120, l_122, l_127, l_128, l_136, l_140, l_200, l_255, l_256, l_400, l_1000, l_30000, l_1200, l_65536, l_2147483639, l_2147483647, ob_some, obd_some, q_lt_t, q_lt_f, q_le_t, q_le_f, q_eq_t, q_eq_f, im_ne, im_ne', im_lt, im_le, im_lt', im_le', i_add, i_mul, i_dec, i_dec0, i_sub, i_and, i_shr, i_div, nar_b0, nar_b1, b2i_t, b2i_f, gA1, pA1, gB2, pB2, gA3, pA3, gA4, pA4, gB5, pB5, gA6, pA6, gA7, pA7, gA8, pA8, gA9, pA9, gA10, pA10, gA11, pA11, gA12, pA12, gA13, pA13, gA14, pA14, gA15, pA15, gA16, pA16, gA17, pA17, gA18, pA18, gA19, pA19, gA20, pA20, gA21, pA21, gA40, pA40, gB43, pB43, gA44, pA44, gA45, pA45, gA46, pA46, gA47, pA47, gA48, pA48, gA49, pA49, gA53, pA53, gA54, pA54, gA55, pA55, gA56, pA56, gA58, pA58, gA60, pA60, gA61, pA61, gA62, pA62, gA63, pA63, gA66, pA66, ↓reduceIte, if_true, if_false, R_mI_sJ, R_mI_sA, R_mI_sB, R_mJ_sI, R_mJ_sA, R_mJ_sB, R_mA_sI, R_mA_sJ, R_mA_sB, R_mB_sI, R_mB_sJ, R_mB_sA, mI_on, mI_off, mJ_on, mJ_off, mA_on, mA_same, mA_off, mB_on, mB_same, mB_off, up_on, up_off, hn0, hB2, hT']
    | some q =>
      rw [hq] at hT
      have hT' : f_X3_tableNamed (enc st.1.2.1) M = some (i_ q, M) := hT
      have hqn := (tnf_some hq).1
      obtain ⟨N, a1, a2, a3⟩ := M_means' hE (k := 4) (by decide) fp3 t
      refine ⟨N, ?_, a2, by rw [if_neg (fun e => by cases e)]; exact a3⟩
      unfold f_X3_meant f_X3_meant_n36
      simp (disch := omega) only [l_m1, l_m2, l_0, l_1, l_2, l_3, l_4, l_5, l_6, l_7, l_8, l_9, l_10, l_11, l_12, l_13, l_14, l_15, l_16, l_17, l_18, l_19, l_20, l_21, l_22, l_23, l_24, l_25, l_26, l_27, l_28, l_29, l_30, l_31, l_32, l_33, l_34, l_35, l_36, l_37, l_38, l_39, l_40, l_41, l_42, l_43, l_44, l_45, l_46, l_47, l_48, l_49, l_50, l_51, l_52, l_53, l_54, l_55, l_56, l_57, l_58, l_59, l_60, l_61, l_62, l_63, l_64, l_97, l_100, l_110, l_115, l_116, l_120, l_122, l_127, l_128, l_136, l_140, l_200, l_255, l_256, l_400, l_1000, l_30000, l_1200, l_65536, l_2147483639, l_2147483647, ob_some, obd_some, q_lt_t, q_lt_f, q_le_t, q_le_f, q_eq_t, q_eq_f, im_ne, im_ne', im_lt, im_le, im_lt', im_le', i_add, i_mul, i_dec, i_dec0, i_sub, i_and, i_shr, i_div, nar_b0, nar_b1, b2i_t, b2i_f, gA1, pA1, gB2, pB2, gA3, pA3, gA4, pA4, gB5, pB5, gA6, pA6, gA7, pA7, gA8, pA8, gA9, pA9, gA10, pA10, gA11, pA11, gA12, pA12, gA13, pA13, gA14, pA14, gA15, pA15, gA16, pA16, gA17, pA17, gA18, pA18, gA19, pA19, gA20, pA20, gA21, pA21, gA40, pA40, gB43, pB43, gA44, pA44, gA45, pA45, gA46, pA46, gA47, pA47, gA48, pA48, gA49, pA49, gA53, pA53, gA54, pA54, gA55, pA55, gA56, pA56, gA58, pA58, gA60, pA60, gA61, pA61, gA62, pA62, gA63, pA63, gA66, pA66, ↓reduceIte, if_true, if_false, R_mI_sJ, R_mI_sA, R_mI_sB, R_mJ_sI, R_mJ_sA, R_mJ_sB, R_mA_sI, R_mA_sJ, R_mA_sB, R_mB_sI, R_mB_sJ, R_mB_sA, mI_on, mI_off, mJ_on, mJ_off, mA_on, mA_same, mA_off, mB_on, mB_same, mB_off, up_on, up_off, hn0, hB2, hT', hrow1, a1]
  obtain ⟨N1, a1, a2, a3⟩ := sA
  -- columns
  have sB : ∃ N, f_X3_meant_n40 fu_ (i_ t) (i_ 3) (i_ 0) N1 = f_X3_meant_n146 fu_ (i_ t) (i_ 0) N ∧ Gr [] [] [25, 26] t N1 N ∧ EO N (mwl (mwl none (evN s st.1.2.1 st.1.2.2)) (evC2 (cns st) (List.range' 0 (cns st).length))) := by
    have e0 : m_I N1 0 = i_ t := by rw [a2.2.2.2.2.1 0 (by decide)]; exact hn0
    have e3 : m_A N1 3 t = i_ st.1.1 := by rw [a2.1 3 List.not_mem_nil]; exact hA3
    have hso : st.1.1 ≤ 3 := by have := hD.1.2.2.2; omega
    have hkl : ∀ i y, Sg (hdr T n st ++ st.2.2) i [y] → i < 400 ∧ m_A M 15 (400 * t + i) = i_ y.2.1 := fun i y hs => by
      obtain ⟨r1, r2⟩ := hK.row hs (i := 0) (Nat.succ_pos _)
      exact ⟨by have : i + 0 < _ := r2; omega, r1.2.1⟩
    cases hy : st.2.1 with
    | inl cs =>
      rw [hy] at hr
      obtain ⟨r1, r2, r3, r4⟩ := hr
      have hcns : cns st = cs.map (fun c => (c.1, c.2.1)) := by unfold cns; rw [hy]
      have hlen : (cns st).length = cs.length := by rw [hcns, List.length_map]
      have hs0 := hS3 cs hy
      have hg : ∀ j, j < cs.length → fnm (cns st) j = (cs.getD j ([], 0, 0)).1 ∧ fpl (cns st) j = (cs.getD j ([], 0, 0)).2.1 := fun j hj => by
        unfold fnm fpl
        rw [hcns, getD_map' (d := ([], 0, 0)) hj]
        exact ⟨rfl, rfl⟩
      have := M_mc2 (tk := fun c => 3 + 3 * c) ht hso l2 (fun k hk => (fp1 k hk).1) (fun c hc => ⟨(fp1 c hc).2, show 3 + 3 * c < 400 by omega⟩) (cns st).length 0 fu_ N1 _ (by omega) (by rw [fu_eq]; omega) e0 (by rw [a2.1 4 List.not_mem_nil, hlen]; exact r1) e3 (fun j hj => by
        rw [hlen] at hj
        obtain ⟨q1, q2, q3⟩ := r4.at j hj
        rw [Nat.zero_add] at q1
        obtain ⟨g1, g2⟩ := hg j hj
        refine ⟨?_, ?_, ?_⟩
        · rw [a2.2.2.1 5 List.not_mem_nil, g1]
          exact q1
        · rw [a2.1 15 List.not_mem_nil, g2]
          exact (hkl _ _ q3).2
        · rw [if_pos hs0]
          show 3 + 3 * (j + 1) = 3 + 3 * j + 3
          omega) a3
      exact this
    | inr y =>
      rw [hy] at hr
      obtain ⟨⟨r1, r2, r3, r4, r5⟩, r6⟩ := hr
      have hcns : cns st = y.1.map (fun c => (c.1, c.2.1)) := by unfold cns; rw [hy]
      have hlen : (cns st).length = y.1.length := by rw [hcns, List.length_map]
      have hs0 := (hS2 y hy).1
      have hg : ∀ j, j < y.1.length → fnm (cns st) j = (y.1.getD j ([], 0, [], [])).1 ∧ fpl (cns st) j = (y.1.getD j ([], 0, [], [])).2.1 := fun j hj => by
        unfold fnm fpl
        rw [hcns, getD_map' (d := ([], 0, [], [])) hj]
        exact ⟨rfl, rfl⟩
      have htk : ∀ j, j < y.1.length → ctk 3 y.1 j < 400 ∧ m_A M 15 (400 * t + ctk 3 y.1 j) = i_ (y.1.getD j ([], 0, [], [])).2.1 := fun j hj => by
        obtain ⟨⟨o, q1⟩, -⟩ := r2.tk j hj
        exact hkl _ _ (Sg.left (k1 := [(1, (y.1.getD j ([], 0, [], [])).2.1, (y.1.getD j ([], 0, [], [])).1)]) q1).1
      have := M_mc2 (tk := ctk 3 y.1) ht hso l2 (fun k hk => (fp1 k hk).1) (fun c hc => ⟨(fp1 c hc).2, (htk c (by omega)).1⟩) (cns st).length 0 fu_ N1 _ (by omega) (by rw [fu_eq]; omega) e0 (by rw [a2.1 4 List.not_mem_nil, hlen]; exact r1) e3 (fun j hj => by
        rw [hlen] at hj
        obtain ⟨b, q1, -⟩ := r2.at j hj
        obtain ⟨-, v, q2, q3⟩ := r2.tk j hj
        rw [Nat.zero_add] at q1 q2
        obtain ⟨g1, g2⟩ := hg j hj
        refine ⟨?_, ?_, ?_⟩
        · rw [a2.2.2.1 5 List.not_mem_nil, g1]
          exact q1
        · rw [a2.1 15 List.not_mem_nil, g2]
          exact (htk j hj).2
        · rw [if_neg (by omega), a2.1 19 List.not_mem_nil]
          exact ⟨v, q2, q3⟩) a3
      have e3' : ctk 3 y.1 0 = 3 := by cases y.1 <;> rfl
      rw [e3'] at this
      exact this
  obtain ⟨N2, b1, b2, b3⟩ := sB
  -- names behind from
  have g2 : Gr [] [] [25, 26] t M N2 := a2.tr b2
  have hfr : m_A N2 7 t = i_ (frs st).length ∧ ∀ j, j < (frs st).length → m_B N2 43 j = enc (fnm (frs st) j) ∧ m_A N2 44 j = i_ (fpl (frs st) j) := by
    rw [g2.1 7 List.not_mem_nil, g2.2.2.1 43 List.not_mem_nil, g2.1 44 List.not_mem_nil]
    cases hy : st.2.1 with
    | inl cs =>
      rw [hy] at hr
      have hf : frs st = [] := by unfold frs; rw [hy]
      rw [hf]
      exact ⟨hr.2.1, fun j hj => absurd hj (Nat.not_lt_zero j)⟩
    | inr y =>
      rw [hy] at hr
      obtain ⟨⟨r1, r2, r3, r4, r5⟩, r6⟩ := hr
      have hf : frs st = y.2.1 := by unfold frs; rw [hy]
      rw [hf]
      refine ⟨r3, fun j hj => ?_⟩
      have := r4 j hj
      rw [Nat.zero_add] at this
      exact this
  have g2' := g2
  rw [hts] at g2'
  obtain ⟨N3, c1, c2, c3, c4⟩ := M_mf2 hts l3 (fun k hk => (fp2 k hk).1) (fun c hc => (fp2 c hc).2) (frs st).length 0 fu_ N2 _ (by omega) (by rw [fu_eq]; omega) (ha.gr g2' (by decide)) (hm.gr ha g2') hfr.1 hfr.2 b3 (fun j hj => absurd hj (Nat.not_lt_zero j))
  refine ⟨N3, by rw [a1, b1, c1], (g2.bad (by decide)).tr c2, ?_, c4⟩
  rw [mwl_app, mwl_app]
  exact c3
theorem M_m299 {t n : Nat} {T : Nat → Nat} {s : SP} {st : St} {ks : List Rk} {M : MS} {o : Option (Nat × Nat)} (hD : StD T n st) (hn : n ≤ 400) (hM : MT t n T s (frs st) ks M) (hB : ∀ y ∈ ks, BT T n y ∧ y.2.1 < n) (hks : ks.length ≤ 400) (hW : WR M t ks (whr st)) (hE : EO M o)
    (hwf : ∀ w, whr st = some w → (∃ p p', pform T n 3 p = .inr (w.1.1, w.1.2, p')) ∧ (∃ p p', pform T n 3 p = .inr (w.2.2.1, w.2.2.2, p')) ∧ w.2.1.2 < n) :
    ∃ N, f_X3_meant_n299 (i_ t) M = some N ∧ Gr [45, 46, 47, 48, 49] [] [25, 26, 50, 51, 52] t M N ∧ m_I N 52 = 0 ∧ EO N (mwl o ((whl (whr st)).flatMap (evF s st) ++ evW s st)) := by
  have ht := hM.1.2.1
  have fin : ∀ (N : MS) (o : Option (Nat × Nat)), EO N o → EO (m_sI N 52 (i_ 0)) o := fun N o h => by
    cases o with
    | none => exact ⟨by rw [mI_off (by decide)]; exact h.1, by rw [mI_off (by decide)]; exact h.2⟩
    | some b => exact ⟨by rw [mI_off (by decide)]; exact h.1, by rw [mI_off (by decide)]; exact h.2.1, h.2.2⟩
  unfold evW
  cases hw : whr st with
  | none =>
    rw [hw] at hW
    have hW' : m_A M 19 (8 * t + 7) = i_ 0 := hW
    refine ⟨m_sI M 52 (i_ 0), ?_, Gr.sI (by decide), mI_on, fin M o hE⟩
    unfold f_X3_meant_n299 f_X3_hasWhere
    simp (disch := omega) only [l_m1, l_m2, l_0, l_1, l_2, l_3, l_4, l_5, l_6, l_7, l_8, l_9, l_10, l_11, l_12, l_13, l_14, l_15, l_16, l_17, l_18, l_19, l_20, l_21, l_22, l_23, l_24, l_25, l_26, l_27, l_28, l_29, l_30, l_31, l_32, l_33, l_34, l_35, l_36, l_37, l_38, l_39, l_40, l_41, l_42, l_43, l_44, l_45, l_46, l_47, l_48, l_49, l_50, l_51, l_52, l_53, l_54, l_55, l_56, l_57, l_58, l_59, l_60, l_61, l_62, l_63, l_64, l_97, l_100, l_110, l_115, l_116, l_120, l_122, l_127, l_128, l_136, l_140, l_200, l_255, l_256, l_400, l_1000, l_30000, l_1200, l_65536, l_2147483639, l_2147483647, ob_some, obd_some, q_lt_t, q_lt_f, q_le_t, q_le_f, q_eq_t, q_eq_f, im_ne, im_ne', im_lt, im_le, im_lt', im_le', i_add, i_mul, i_dec, i_dec0, i_sub, i_and, i_shr, i_div, nar_b0, nar_b1, b2i_t, b2i_f, gA1, pA1, gB2, pB2, gA3, pA3, gA4, pA4, gB5, pB5, gA6, pA6, gA7, pA7, gA8, pA8, gA9, pA9, gA10, pA10, gA11, pA11, gA12, pA12, gA13, pA13, gA14, pA14, gA15, pA15, gA16, pA16, gA17, pA17, gA18, pA18, gA19, pA19, gA20, pA20, gA21, pA21, gA40, pA40, gB43, pB43, gA44, pA44, gA45, pA45, gA46, pA46, gA47, pA47, gA48, pA48, gA49, pA49, gA53, pA53, gA54, pA54, gA55, pA55, gA56, pA56, gA58, pA58, gA60, pA60, gA61, pA61, gA62, pA62, gA63, pA63, gA66, pA66, ↓reduceIte, if_true, if_false, R_mI_sJ, R_mI_sA, R_mI_sB, R_mJ_sI, R_mJ_sA, R_mJ_sB, R_mA_sI, R_mA_sJ, R_mA_sB, R_mB_sI, R_mB_sJ, R_mB_sA, mI_on, mI_off, mJ_on, mJ_off, mA_on, mA_same, mA_off, mB_on, mB_same, mB_off, up_on, up_off, hW']
  | some w =>
    rw [hw] at hW
    obtain ⟨w42, ⟨a6, w1, w2, w3⟩, a7, w4, w5, w6⟩ := hW
    obtain ⟨⟨p6, p6', f6⟩, ⟨p7, p7', f7⟩, hwp⟩ := hwf w hw
    have hal : w.1.2 ∈ allf st ∧ w.2.2.2 ∈ allf st := by
      unfold allf
      rw [hw]
      exact ⟨List.mem_append_right _ List.mem_cons_self, List.mem_append_right _ (List.mem_cons_of_mem _ List.mem_cons_self)⟩
    obtain ⟨N1, a1, a2, a3, a4⟩ := M_ftype hM hB hks (show 6 < 8 by decide) w1 w2 w3 f6
    have hM1 := hM.ty a2
    obtain ⟨N2, b1, b2, b3, b4⟩ := M_ftype hM1 hB hks (show 7 < 8 by decide) (by rw [a2.1 18 (by decide)]; exact w4) (by rw [a2.1 19 (by decide)]; exact w5) w6 f7
    have hE1 := a3.eo hM.2.2.2.2.2.2.2 hE (evF_b hD hn hal.1 (pform_KS _ _ _ _ _ f6).2.2.2)
    have hE2 := b3.eo hM1.2.2.2.2.2.2.2 hE1 (evF_b hD hn hal.2 (pform_KS _ _ _ _ _ f7).2.2.2)
    have g2 : Gr [45, 46, 47, 48, 49] [] [25, 26, 50, 51, 52] t M N2 := ((a2.gr t).tr (b2.gr t)).mono (fun _ h => h) (fun _ h => h) (by decide)
    have hk7 : a7 + w.2.2.1.length ≠ 0 := by
      have := (pform_KS _ _ _ _ _ f7).2.2.1
      omega
    have hw7 : m_A M 19 (8 * t + 7) = i_ (a7 + w.2.2.1.length) := w5
    have hlen7 : a7 + w.2.2.1.length ≤ 400 := by
      obtain ⟨u, v, e, rfl⟩ := w6
      rw [e, List.length_append, List.length_append] at hks
      omega
    have hty6 : tyv (tys s) (w.1.2.map (res s (frs st))) = tyF s st w.1.2 := rfl
    have hty7 : tyv (tys s) (w.2.2.2.map (res s (frs st))) = tyF s st w.2.2.2 := rfl
    rw [hty6] at a1 a4
    rw [hty7] at b1 b4
    have x42 : m_I N2 42 = i_ w.2.1.2 := by
      rw [g2.2.2.2.2.1 42 (by decide)]
      exact w42
    have hhw : f_X3_hasWhere (i_ t) M = some (i_ 1, M) := by
      unfold f_X3_hasWhere
      simp (disch := omega) only [l_m1, l_m2, l_0, l_1, l_2, l_3, l_4, l_5, l_6, l_7, l_8, l_9, l_10, l_11, l_12, l_13, l_14, l_15, l_16, l_17, l_18, l_19, l_20, l_21, l_22, l_23, l_24, l_25, l_26, l_27, l_28, l_29, l_30, l_31, l_32, l_33, l_34, l_35, l_36, l_37, l_38, l_39, l_40, l_41, l_42, l_43, l_44, l_45, l_46, l_47, l_48, l_49, l_50, l_51, l_52, l_53, l_54, l_55, l_56, l_57, l_58, l_59, l_60, l_61, l_62, l_63, l_64, l_97, l_100, l_110, l_115, l_116, l_120, l_122, l_127, l_128, l_136, l_140, l_200, l_255, l_256, l_400, l_1000, l_30000, l_1200, l_65536, l_2147483639, l_2147483647, ob_some, obd_some, q_lt_t, q_lt_f, q_le_t, q_le_f, q_eq_t, q_eq_f, im_ne, im_ne', im_lt, im_le, im_lt', im_le', i_add, i_mul, i_dec, i_dec0, i_sub, i_and, i_shr, i_div, nar_b0, nar_b1, b2i_t, b2i_f, gA1, pA1, gB2, pB2, gA3, pA3, gA4, pA4, gB5, pB5, gA6, pA6, gA7, pA7, gA8, pA8, gA9, pA9, gA10, pA10, gA11, pA11, gA12, pA12, gA13, pA13, gA14, pA14, gA15, pA15, gA16, pA16, gA17, pA17, gA18, pA18, gA19, pA19, gA20, pA20, gA21, pA21, gA40, pA40, gB43, pB43, gA44, pA44, gA45, pA45, gA46, pA46, gA47, pA47, gA48, pA48, gA49, pA49, gA53, pA53, gA54, pA54, gA55, pA55, gA56, pA56, gA58, pA58, gA60, pA60, gA61, pA61, gA62, pA62, gA63, pA63, gA66, pA66, ↓reduceIte, if_true, if_false, R_mI_sJ, R_mI_sA, R_mI_sB, R_mJ_sI, R_mJ_sA, R_mJ_sB, R_mA_sI, R_mA_sJ, R_mA_sB, R_mB_sI, R_mB_sJ, R_mB_sA, mI_on, mI_off, mJ_on, mJ_off, mA_on, mA_same, mA_off, mB_on, mB_same, mB_off, up_on, up_off, hw7]
    have hev : ((whl (some w)).flatMap (evF s st)) = evF s st w.1.2 ++ evF s st w.2.2.2 := by
      show [w.1.2, w.2.2.2].flatMap (evF s st) = _
      rw [List.flatMap_cons, List.flatMap_cons, List.flatMap_nil, List.append_nil]
    rw [hev, mwl_app, mwl_app]
    show ∃ N, f_X3_meant_n299 (i_ t) M = some N ∧ _ ∧ _ ∧ EO N (mwl _ (if ¬ tyF s st w.1.2 = 0 ∧ ¬ tyF s st w.2.2.2 = 0 ∧ ¬ tyF s st w.1.2 = tyF s st w.2.2.2 then [(3, w.2.1.2)] else []))
    generalize tyF s st w.1.2 = x at a1 a4 ⊢
    generalize tyF s st w.2.2.2 = y at b1 b4 ⊢
    unfold f_X3_meant_n299
    by_cases e1 : x = 0
    · rw [if_neg (fun k => k.1 e1)]
      refine ⟨m_sI N2 52 (i_ 0), ?_, g2.tr (Gr.sI (by decide)), mI_on, fin N2 _ hE2⟩
      subst e1
      simp (disch := omega) only [l_m1, l_m2, l_0, l_1, l_2, l_3, l_4, l_5, l_6, l_7, l_8, l_9, l_10, l_11, l_12, l_13, l_14, l_15, l_16, l_17, l_18, l_19, l_20, l_21, l_22, l_23, l_24, l_25, l_26, l_27, l_28, l_29, l_30, l_31, l_32, l_33, l_34, l_35, l_36, l_37, l_38, l_39, l_40, l_41, l_42, l_43, l_44, l_45, l_46, l_47, l_48, l_49, l_50, l_51, l_52, l_53, l_54, l_55, l_56, l_57, l_58, l_59, l_60, l_61, l_62, l_63, l_64, l_97, l_100, l_110, l_115, l_116, l_120, l_122, l_127, l_128, l_136, l_140, l_200, l_255, l_256, l_400, l_1000, l_30000, l_1200, l_65536, l_2147483639, l_2147483647, ob_some, obd_some, q_lt_t, q_lt_f, q_le_t, q_le_f, q_eq_t, q_eq_f, im_ne, im_ne', im_lt, im_le, im_lt', im_le', i_add, i_mul, i_dec, i_dec0, i_sub, i_and, i_shr, i_div, nar_b0, nar_b1, b2i_t, b2i_f, gA1, pA1, gB2, pB2, gA3, pA3, gA4, pA4, gB5, pB5, gA6, pA6, gA7, pA7, gA8, pA8, gA9, pA9, gA10, pA10, gA11, pA11, gA12, pA12, gA13, pA13, gA14, pA14, gA15, pA15, gA16, pA16, gA17, pA17, gA18, pA18, gA19, pA19, gA20, pA20, gA21, pA21, gA40, pA40, gB43, pB43, gA44, pA44, gA45, pA45, gA46, pA46, gA47, pA47, gA48, pA48, gA49, pA49, gA53, pA53, gA54, pA54, gA55, pA55, gA56, pA56, gA58, pA58, gA60, pA60, gA61, pA61, gA62, pA62, gA63, pA63, gA66, pA66, ↓reduceIte, if_true, if_false, R_mI_sJ, R_mI_sA, R_mI_sB, R_mJ_sI, R_mJ_sA, R_mJ_sB, R_mA_sI, R_mA_sJ, R_mA_sB, R_mB_sI, R_mB_sJ, R_mB_sA, mI_on, mI_off, mJ_on, mJ_off, mA_on, mA_same, mA_off, mB_on, mB_same, mB_off, up_on, up_off, hhw, a1, b1]
    · by_cases e2 : y = 0
      · rw [if_neg (fun k => k.2.1 e2)]
        refine ⟨m_sI N2 52 (i_ 0), ?_, g2.tr (Gr.sI (by decide)), mI_on, fin N2 _ hE2⟩
        subst e2
        simp (disch := omega) only [l_m1, l_m2, l_0, l_1, l_2, l_3, l_4, l_5, l_6, l_7, l_8, l_9, l_10, l_11, l_12, l_13, l_14, l_15, l_16, l_17, l_18, l_19, l_20, l_21, l_22, l_23, l_24, l_25, l_26, l_27, l_28, l_29, l_30, l_31, l_32, l_33, l_34, l_35, l_36, l_37, l_38, l_39, l_40, l_41, l_42, l_43, l_44, l_45, l_46, l_47, l_48, l_49, l_50, l_51, l_52, l_53, l_54, l_55, l_56, l_57, l_58, l_59, l_60, l_61, l_62, l_63, l_64, l_97, l_100, l_110, l_115, l_116, l_120, l_122, l_127, l_128, l_136, l_140, l_200, l_255, l_256, l_400, l_1000, l_30000, l_1200, l_65536, l_2147483639, l_2147483647, ob_some, obd_some, q_lt_t, q_lt_f, q_le_t, q_le_f, q_eq_t, q_eq_f, im_ne, im_ne', im_lt, im_le, im_lt', im_le', i_add, i_mul, i_dec, i_dec0, i_sub, i_and, i_shr, i_div, nar_b0, nar_b1, b2i_t, b2i_f, gA1, pA1, gB2, pB2, gA3, pA3, gA4, pA4, gB5, pB5, gA6, pA6, gA7, pA7, gA8, pA8, gA9, pA9, gA10, pA10, gA11, pA11, gA12, pA12, gA13, pA13, gA14, pA14, gA15, pA15, gA16, pA16, gA17, pA17, gA18, pA18, gA19, pA19, gA20, pA20, gA21, pA21, gA40, pA40, gB43, pB43, gA44, pA44, gA45, pA45, gA46, pA46, gA47, pA47, gA48, pA48, gA49, pA49, gA53, pA53, gA54, pA54, gA55, pA55, gA56, pA56, gA58, pA58, gA60, pA60, gA61, pA61, gA62, pA62, gA63, pA63, gA66, pA66, ↓reduceIte, if_true, if_false, R_mI_sJ, R_mI_sA, R_mI_sB, R_mJ_sI, R_mJ_sA, R_mJ_sB, R_mA_sI, R_mA_sJ, R_mA_sB, R_mB_sI, R_mB_sJ, R_mB_sA, mI_on, mI_off, mJ_on, mJ_off, mA_on, mA_same, mA_off, mB_on, mB_same, mB_off, up_on, up_off, hhw, a1, b1]
      · by_cases e3 : x = y
        · rw [if_neg (fun k => k.2.2 e3)]
          refine ⟨m_sI N2 52 (i_ 0), ?_, g2.tr (Gr.sI (by decide)), mI_on, fin N2 _ hE2⟩
          subst e3
          simp (disch := omega) only [l_m1, l_m2, l_0, l_1, l_2, l_3, l_4, l_5, l_6, l_7, l_8, l_9, l_10, l_11, l_12, l_13, l_14, l_15, l_16, l_17, l_18, l_19, l_20, l_21, l_22, l_23, l_24, l_25, l_26, l_27, l_28, l_29, l_30, l_31, l_32, l_33, l_34, l_35, l_36, l_37, l_38, l_39, l_40, l_41, l_42, l_43, l_44, l_45, l_46, l_47, l_48, l_49, l_50, l_51, l_52, l_53, l_54, l_55, l_56, l_57, l_58, l_59, l_60, l_61, l_62, l_63, l_64, l_97, l_100, l_110, l_115, l_116, l_120, l_122, l_127, l_128, l_136, l_140, l_200, l_255, l_256, l_400, l_1000, l_30000, l_1200, l_65536, l_2147483639, l_2147483647, ob_some, obd_some, q_lt_t, q_lt_f, q_le_t, q_le_f, q_eq_t, q_eq_f, im_ne, im_ne', im_lt, im_le, im_lt', im_le', i_add, i_mul, i_dec, i_dec0, i_sub, i_and, i_shr, i_div, nar_b0, nar_b1, b2i_t, b2i_f, gA1, pA1, gB2, pB2, gA3, pA3, gA4, pA4, gB5, pB5, gA6, pA6, gA7, pA7, gA8, pA8, gA9, pA9, gA10, pA10, gA11, pA11, gA12, pA12, gA13, pA13, gA14, pA14, gA15, pA15, gA16, pA16, gA17, pA17, gA18, pA18, gA19, pA19, gA20, pA20, gA21, pA21, gA40, pA40, gB43, pB43, gA44, pA44, gA45, pA45, gA46, pA46, gA47, pA47, gA48, pA48, gA49, pA49, gA53, pA53, gA54, pA54, gA55, pA55, gA56, pA56, gA58, pA58, gA60, pA60, gA61, pA61, gA62, pA62, gA63, pA63, gA66, pA66, ↓reduceIte, if_true, if_false, R_mI_sJ, R_mI_sA, R_mI_sB, R_mJ_sI, R_mJ_sA, R_mJ_sB, R_mA_sI, R_mA_sJ, R_mA_sB, R_mB_sI, R_mB_sJ, R_mB_sA, mI_on, mI_off, mJ_on, mJ_off, mA_on, mA_same, mA_off, mB_on, mB_same, mB_off, up_on, up_off, hhw, a1, b1]
        · rw [if_pos ⟨e1, e2, e3⟩]
          obtain ⟨N3, c1, c2, c3⟩ := M_means' hE2 (k := 3) (by decide) (show w.2.1.2 < 1000 by omega) t
          refine ⟨m_sI N3 52 (i_ 0), ?_, (g2.tr (c2.bad (by decide))).tr (Gr.sI (by decide)), mI_on, fin N3 _ c3⟩
          simp (disch := omega) only [l_m1, l_m2, l_0, l_1, l_2, l_3, l_4, l_5, l_6, l_7, l_8, l_9, l_10, l_11, l_12, l_13, l_14, l_15, l_16, l_17, l_18, l_19, l_20, l_21, l_22, l_23, l_24, l_25, l_26, l_27, l_28, l_29, l_30, l_31, l_32, l_33, l_34, l_35, l_36, l_37, l_38, l_39, l_40, l_41, l_42, l_43, l_44, l_45, l_46, l_47, l_48, l_49, l_50, l_51, l_52, l_53, l_54, l_55, l_56, l_57, l_58, l_59, l_60, l_61, l_62, l_63, l_64, l_97, l_100, l_110, l_115, l_116, l_120, l_122, l_127, l_128, l_136, l_140, l_200, l_255, l_256, l_400, l_1000, l_30000, l_1200, l_65536, l_2147483639, l_2147483647, ob_some, obd_some, q_lt_t, q_lt_f, q_le_t, q_le_f, q_eq_t, q_eq_f, im_ne, im_ne', im_lt, im_le, im_lt', im_le', i_add, i_mul, i_dec, i_dec0, i_sub, i_and, i_shr, i_div, nar_b0, nar_b1, b2i_t, b2i_f, gA1, pA1, gB2, pB2, gA3, pA3, gA4, pA4, gB5, pB5, gA6, pA6, gA7, pA7, gA8, pA8, gA9, pA9, gA10, pA10, gA11, pA11, gA12, pA12, gA13, pA13, gA14, pA14, gA15, pA15, gA16, pA16, gA17, pA17, gA18, pA18, gA19, pA19, gA20, pA20, gA21, pA21, gA40, pA40, gB43, pB43, gA44, pA44, gA45, pA45, gA46, pA46, gA47, pA47, gA48, pA48, gA49, pA49, gA53, pA53, gA54, pA54, gA55, pA55, gA56, pA56, gA58, pA58, gA60, pA60, gA61, pA61, gA62, pA62, gA63, pA63, gA66, pA66, ↓reduceIte, if_true, if_false, R_mI_sJ, R_mI_sA, R_mI_sB, R_mJ_sI, R_mJ_sA, R_mJ_sB, R_mA_sI, R_mA_sJ, R_mA_sB, R_mB_sI, R_mB_sJ, R_mB_sA, mI_on, mI_off, mJ_on, mJ_off, mA_on, mA_same, mA_off, mB_on, mB_same, mB_off, up_on, up_off, hhw, a1, b1, x42, c1]
theorem M_meant {t n : Nat} {T : Nat → Nat} {s : SP} {st : St} {M : MS} (ha : RMa M s) (hm : RMn M s) (hts : t = z_n s) (hn : n ≤ 400) (h : PRD t n T st M) (hp : pstat T n = .inr st) :
    ∃ N, f_X3_meant M = some N ∧ Gr [6, 8, 45, 46, 47, 48, 49] [] [25, 26, 50, 51, 52] t M N ∧ m_I N 52 = 0 ∧ EO N (mwl none (evA s st)) ∧ (∀ j, j < (frs st).length → m_A N 8 (3 * t + j) = oi (tnf s (fnm (frs st) j))) ∧ ∀ c, c < (cns st).length → m_A N 6 (8 * t + c) = i_ (ty_of s st c) ∧ ty_of s st c < 128 := by
  have hD := pstat_D hp
  obtain ⟨hS, hS2, hS3⟩ := pstat_S hp
  obtain ⟨N1, a1, a2, a3, a4⟩ := M_mA ha hm hts hn h hp
  obtain ⟨hP, ⟨h25, h26, -⟩, hK, ⟨hB2, hA3⟩, hX, hks, hr⟩ := h
  have ht := hP.1.2.1
  obtain ⟨fp1, fp2, fp3⟩ := hD.fp hn
  obtain ⟨⟨l1, l2⟩, l3, l5, l4⟩ := hD.2.2.2.2.2.2.2
  have hBK : ∀ y ∈ hdr T n st ++ st.2.2, BT T n y ∧ y.2.1 < n := fun y hy => ⟨(hS.2.2 y hy).1, (hS.2.2 y hy).2.2⟩
  have hkl : (hdr T n st ++ st.2.2).length ≤ 400 := by omega
  have a2' := a2
  rw [hts] at a2'
  -- the state in which types are looked at
  have g52 : Gr [8] [] [25, 26, 52] t M (m_sI N1 52 (i_ 1)) := (a2.mono (fun _ q => q) (fun _ q => q) (by decide)).tr (Gr.sI (by decide))
  have g52' := g52
  rw [hts] at g52'
  have hfr : m_A M 7 t = i_ (frs st).length ∧ ∀ j, j < (frs st).length → m_B M 43 j = enc (fnm (frs st) j) := by
    cases hy : st.2.1 with
    | inl cs =>
      rw [hy] at hr
      have hf : frs st = [] := by unfold frs; rw [hy]
      rw [hf]
      exact ⟨hr.2.1, fun j hj => absurd hj (Nat.not_lt_zero j)⟩
    | inr y =>
      rw [hy] at hr
      obtain ⟨⟨r1, r2, r3, r4, r5⟩, r6⟩ := hr
      have hf : frs st = y.2.1 := by unfold frs; rw [hy]
      rw [hf]
      refine ⟨r3, fun j hj => ?_⟩
      have := (r4 j hj).1
      rw [Nat.zero_add] at this
      exact this
  have hMT : MT t n T s (frs st) (hdr T n st ++ st.2.2) (m_sI N1 52 (i_ 1)) := by
    refine ⟨⟨?_, ht, hts, hn⟩, ha.gr g52' (by decide), hm.gr ha g52', hK.gr g52 (by decide), ?_, ⟨?_, l3, fun k hk => ⟨a4 k hk, ?_, (fp2 k hk).1⟩⟩, ?_, mI_on⟩
    · rw [g52.2.2.2.2.1 0 (by decide)]
      exact hP.1.1
    · unfold TXT
      rw [g52.1 17 (by decide)]
      exact hX
    · rw [g52.1 7 (by decide)]
      exact hfr.1
    · rw [g52.2.2.1 43 List.not_mem_nil]
      exact hfr.2 k hk
    · rw [g52.2.2.2.2.2 38 (by decide)]
      exact hP.2.2.2.2.2.2.2.2.2.1
  have hE1 : EO (m_sI N1 52 (i_ 1)) (mwl none (evN s st.1.2.1 st.1.2.2 ++ (evC2 (cns st) (List.range' 0 (cns st).length) ++ evF1 s (frs st) (List.range' 0 (frs st).length)))) := by
    generalize mwl none (evN s st.1.2.1 st.1.2.2 ++ (evC2 (cns st) (List.range' 0 (cns st).length) ++ evF1 s (frs st) (List.range' 0 (frs st).length))) = o at a3
    cases o with
    | none => exact ⟨by rw [mI_off (by decide)]; exact a3.1, by rw [mI_off (by decide)]; exact a3.2⟩
    | some b => exact ⟨by rw [mI_off (by decide)]; exact a3.1, by rw [mI_off (by decide)]; exact a3.2.1, a3.2.2⟩
  have hA3' : m_A (m_sI N1 52 (i_ 1)) 3 t = i_ st.1.1 := by
    rw [g52.1 3 (by decide)]
    exact hA3
  have hev := evA_mw hD (l := evM s st) (fun e => evM_m)
  cases hy : st.2.1 with
  | inl cs =>
    have hs0 := hS3 cs hy
    obtain ⟨-, lw, lf⟩ := l4 hs0
    rw [hy] at hr
    obtain ⟨r1, r2, r3, r4⟩ := hr
    obtain ⟨N, c1, c2, c3, c4⟩ := M_m299 hD hn hMT hBK hkl (by
      rw [lw]
      show m_A (m_sI N1 52 (i_ 1)) 19 (8 * t + 7) = i_ 0
      rw [g52.1 19 (by decide)]
      exact r3) hE1 (fun w hw => by rw [lw] at hw; cases hw)
    have hcns : cns st = cs.map (fun c => (c.1, c.2.1)) := by unfold cns; rw [hy]
    refine ⟨N, ?_, (g52.mono (by decide) (fun _ q => q) (by decide)).tr (c2.mono (by decide) (fun _ q => q) (by decide)), c3, ?_, fun j hj => ?_, fun c hc => ?_⟩
    · rw [a1]
      unfold A_types
      rw [hs0] at hA3'
      simp (disch := omega) only [l_m1, l_m2, l_0, l_1, l_2, l_3, l_4, l_5, l_6, l_7, l_8, l_9, l_10, l_11, l_12, l_13, l_14, l_15, l_16, l_17, l_18, l_19, l_20, l_21, l_22, l_23, l_24, l_25, l_26, l_27, l_28, l_29, l_30, l_31, l_32, l_33, l_34, l_35, l_36, l_37, l_38, l_39, l_40, l_41, l_42, l_43, l_44, l_45, l_46, l_47, l_48, l_49, l_50, l_51, l_52, l_53, l_54, l_55, l_56, l_57, l_58, l_59, l_60, l_61, l_62, l_63, l_64, l_97, l_100, l_110, l_115, l_116, l_120, l_122, l_127, l_128, l_136, l_140, l_200, l_255, l_256, l_400, l_1000, l_30000, l_1200, l_65536, l_2147483639, l_2147483647, ob_some, obd_some, q_lt_t, q_lt_f, q_le_t, q_le_f, q_eq_t, q_eq_f, im_ne, im_ne', im_lt, im_le, im_lt', im_le', i_add, i_mul, i_dec, i_dec0, i_sub, i_and, i_shr, i_div, nar_b0, nar_b1, b2i_t, b2i_f, gA1, pA1, gB2, pB2, gA3, pA3, gA4, pA4, gB5, pB5, gA6, pA6, gA7, pA7, gA8, pA8, gA9, pA9, gA10, pA10, gA11, pA11, gA12, pA12, gA13, pA13, gA14, pA14, gA15, pA15, gA16, pA16, gA17, pA17, gA18, pA18, gA19, pA19, gA20, pA20, gA21, pA21, gA40, pA40, gB43, pB43, gA44, pA44, gA45, pA45, gA46, pA46, gA47, pA47, gA48, pA48, gA49, pA49, gA53, pA53, gA54, pA54, gA55, pA55, gA56, pA56, gA58, pA58, gA60, pA60, gA61, pA61, gA62, pA62, gA63, pA63, gA66, pA66, ↓reduceIte, if_true, if_false, R_mI_sJ, R_mI_sA, R_mI_sB, R_mJ_sI, R_mJ_sA, R_mJ_sB, R_mA_sI, R_mA_sJ, R_mA_sB, R_mB_sI, R_mB_sJ, R_mB_sA, mI_on, mI_off, mJ_on, mJ_off, mA_on, mA_same, mA_off, mB_on, mB_same, mB_off, up_on, up_off, hA3']
      exact c1
    · rw [← hev]
      unfold evM
      rw [lf]
      rw [← mwl_app] at c4
      simp only [List.append_assoc] at c4 ⊢
      exact c4
    · rw [c2.1 8 (by decide)]
      exact a4 j hj
    · rw [hcns, List.length_map] at hc
      obtain ⟨-, q2, -⟩ := r4.at c hc
      rw [Nat.zero_add] at q2
      have hty : ty_of s st c = (cs.getD c ([], 0, 0)).2.2 := by unfold ty_of; rw [hy]
      rw [hty, c2.1 6 (by decide), g52.1 6 (by decide)]
      refine ⟨q2, ?_⟩
      obtain ⟨k, a, e, h1, h2, h3, h⟩ := pstat_r hp
      rcases h with ⟨-, b, c', h4, h5, rfl⟩ | ⟨hk, b, c', h4, h5, rfl⟩
      · obtain ⟨k1, c1', p1, g1, g2, g3, rfl⟩ := psrc_r h4
        obtain ⟨-, -, -, i6⟩ := psr_D _ _ _ _ _ g2
        cases hy
        have hq : ∀ x : Nat, (x = 110 ∨ x = 116 ∨ x = 100) → x < 128 := fun x hx => by omega
        exact hq _ (i6 _ (getD_mem' (d := ([], 0, 0)) hc)).2.2
      · cases hy
  | inr y =>
    obtain ⟨hs0, hpf, hwf⟩ := hS2 y hy
    rw [hy] at hr
    obtain ⟨⟨r1, r2, r3, r4, r5⟩, r6⟩ := hr
    have hcns : cns st = y.1.map (fun c => (c.1, c.2.1)) := by unfold cns; rw [hy]
    have hfm : fms st = y.1.map (fun c => c.2.2.2) := by unfold fms; rw [hy]
    have hwh : whr st = y.2.2 := by unfold whr; rw [hy]
    have hlen : (cns st).length = y.1.length := by rw [hcns, List.length_map]
    have hflen : (fms st).length = y.1.length := by rw [hfm, List.length_map]
    have hfg : ∀ j, j < y.1.length → (fms st).getD j [] = (y.1.getD j ([], 0, [], [])).2.2.2 := fun j hj => by
      rw [hfm, getD_map' (d := ([], 0, [], [])) hj]
    have hcl := r2.of (N := m_sI N1 52 (i_ 1)) [] (fun j _ _ => by rw [g52.2.2.1 5 List.not_mem_nil, g52.1 18 (by decide), g52.1 19 (by decide)]; exact ⟨rfl, rfl, rfl⟩)
    rw [List.append_nil] at hcl
    obtain ⟨N2, b1, b2, b3, b4⟩ := M_mt hD hn hBK hkl (by omega) hpf (fun j hj => by
      unfold allf
      refine List.mem_append_left _ ?_
      rw [← hfg j hj]
      exact getD_mem' (by omega)) y.1.length 0 fu_ (m_sI N1 52 (i_ 1)) _ (by omega) (by rw [fu_eq]; omega) hMT (by rw [g52.1 4 (by decide)]; exact r1) hcl hE1 (fun j hj => absurd hj (Nat.not_lt_zero j))
    have hMT2 := hMT.gr b2 (by decide) (by decide) (by decide) (by decide)
    obtain ⟨N, c1, c2, c3, c4⟩ := M_m299 hD hn hMT2 hBK hkl (by
      rw [hwh]
      unfold WR at r5 ⊢
      rw [b2.1 18 (by decide), b2.1 19 (by decide), b2.2.2.2.2.1 42 (by decide), g52.1 18 (by decide), g52.1 19 (by decide), g52.2.2.2.2.1 42 (by decide)]
      exact r5) b3 (fun w hw => hwf w (by rw [← hwh]; exact hw))
    refine ⟨N, ?_, ((g52.mono (by decide) (fun _ q => q) (by decide)).tr (b2.mono (by decide) (fun _ q => q) (by decide))).tr (c2.mono (by decide) (fun _ q => q) (by decide)), c3, ?_, fun j hj => ?_, fun c hc => ?_⟩
    · rw [a1]
      unfold A_types
      have : ¬ st.1.1 ≤ 0 := by omega
      have hso := hD.1.2.2.2
      simp (disch := omega) only [l_m1, l_m2, l_0, l_1, l_2, l_3, l_4, l_5, l_6, l_7, l_8, l_9, l_10, l_11, l_12, l_13, l_14, l_15, l_16, l_17, l_18, l_19, l_20, l_21, l_22, l_23, l_24, l_25, l_26, l_27, l_28, l_29, l_30, l_31, l_32, l_33, l_34, l_35, l_36, l_37, l_38, l_39, l_40, l_41, l_42, l_43, l_44, l_45, l_46, l_47, l_48, l_49, l_50, l_51, l_52, l_53, l_54, l_55, l_56, l_57, l_58, l_59, l_60, l_61, l_62, l_63, l_64, l_97, l_100, l_110, l_115, l_116, l_120, l_122, l_127, l_128, l_136, l_140, l_200, l_255, l_256, l_400, l_1000, l_30000, l_1200, l_65536, l_2147483639, l_2147483647, ob_some, obd_some, q_lt_t, q_lt_f, q_le_t, q_le_f, q_eq_t, q_eq_f, im_ne, im_ne', im_lt, im_le, im_lt', im_le', i_add, i_mul, i_dec, i_dec0, i_sub, i_and, i_shr, i_div, nar_b0, nar_b1, b2i_t, b2i_f, gA1, pA1, gB2, pB2, gA3, pA3, gA4, pA4, gB5, pB5, gA6, pA6, gA7, pA7, gA8, pA8, gA9, pA9, gA10, pA10, gA11, pA11, gA12, pA12, gA13, pA13, gA14, pA14, gA15, pA15, gA16, pA16, gA17, pA17, gA18, pA18, gA19, pA19, gA20, pA20, gA21, pA21, gA40, pA40, gB43, pB43, gA44, pA44, gA45, pA45, gA46, pA46, gA47, pA47, gA48, pA48, gA49, pA49, gA53, pA53, gA54, pA54, gA55, pA55, gA56, pA56, gA58, pA58, gA60, pA60, gA61, pA61, gA62, pA62, gA63, pA63, gA66, pA66, ↓reduceIte, if_true, if_false, R_mI_sJ, R_mI_sA, R_mI_sB, R_mJ_sI, R_mJ_sA, R_mJ_sB, R_mA_sI, R_mA_sJ, R_mA_sB, R_mB_sI, R_mB_sJ, R_mB_sA, mI_on, mI_off, mJ_on, mJ_off, mA_on, mA_same, mA_off, mB_on, mB_same, mB_off, up_on, up_off, hA3']
      rw [show (fu_ : Nat) = fu_ from rfl, b1]
      exact c1
    · rw [← hev]
      unfold evM
      rw [← mwl_app, ← mwl_app] at c4
      have hfl : (List.range' 0 (fms st).length).flatMap (fun j => evF s st ((fms st).getD j [])) = (List.range' 0 y.1.length).flatMap (fun j => evF s st (y.1.getD j ([], 0, [], [])).2.2.2) := by
        rw [hflen, List.flatMap_def, List.flatMap_def]
        refine congrArg _ (List.map_congr_left fun j hj => ?_)
        rw [List.mem_range'_1] at hj
        rw [hfg j (by omega)]
      rw [hfl]
      simp only [List.append_assoc] at c4 ⊢
      exact c4
    · rw [c2.1 8 (by decide), b2.1 8 (by decide)]
      exact a4 j hj
    · have hc' : c < y.1.length := by omega
      have hty : ty_of s st c = tyF s st (y.1.getD c ([], 0, [], [])).2.2.2 := by
        unfold ty_of
        rw [hy]
        show tyF s st ((fms st).getD c []) = _
        rw [hfg c hc']
      rw [hty, c2.1 6 (by decide)]
      exact b4 c hc'
