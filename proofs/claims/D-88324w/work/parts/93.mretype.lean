/-! retype -/
def tt (T : Nat → Nat) (x : Tk) : Tt := if x.1 = 0 then (2, 110, 0, []) else if x.1 = 1 then (2, 116, 0, []) else if x.1 = 2 then (2, T x.2.1, 0, []) else if x.1 = 6 then (2, 0, 0, if x.2.1 = 1 then [(2, x.2.2)] else []) else (x.1, x.2.1, x.2.2, [])
def evt (T : Nat → Nat) (l : List Tk) : List Lv × Ev2 := evl (l.map (tt T)) ([Lv0], [])
def tyv (T : Nat → Nat) (l : List Tk) : Nat := match (evt T l).1 with
  | [] => 0
  | x :: _ => x.1
theorem OKt.d {T : Nat → Nat} (hT : ∀ v, T v < 128) : ∀ {l : List Tk} {d : Nat}, OKt d l → (∀ x ∈ l, x.1 ≤ 6) → OKd d (l.map (tt T))
  | [], d, h, _ => h
  | x :: l, d, h, h6 => by
    have h6' : ∀ x ∈ l, x.1 ≤ 6 := fun y hy => h6 y (List.mem_cons_of_mem _ hy)
    have hx := h6 x List.mem_cons_self
    unfold OKt at h
    rw [List.map_cons]
    unfold OKd tt
    by_cases e3 : x.1 = 3
    · rw [if_pos e3] at h
      simp only [e3]
      exact ⟨h.1, h.2.1, h.2.2.1, h.2.2.2.d hT h6'⟩
    rw [if_neg e3] at h
    by_cases e4 : x.1 = 4
    · rw [if_pos e4] at h
      simp only [e4]
      exact ⟨h.1, h.2.d hT h6'⟩
    rw [if_neg e4] at h
    by_cases e5 : x.1 = 5
    · rw [if_pos e5] at h
      simp only [e5]
      exact ⟨⟨rfl, h.1, h.2.1⟩, h.2.2.d hT h6'⟩
    rw [if_neg e5] at h
    have hr := h.d hT h6'
    have hc : x.1 = 0 ∨ x.1 = 1 ∨ x.1 = 2 ∨ x.1 = 6 := by omega
    rcases hc with e | e | e | e
    · simp only [e]
      exact ⟨by simp, hr⟩
    · simp only [e]
      exact ⟨by simp, hr⟩
    · simp only [e]
      exact ⟨by simpa using hT _, hr⟩
    · simp only [e]
      exact ⟨by simp, hr⟩
theorem RMa.ty {M N : MS} {s : SP} (h : RMa M s) (m : MTy M N) : RMa N s := h.of (m.2.2.2 0 (by decide)) fun j hj => m.1 j (by
  intro h
  have h9 : ∀ j, j ∈ [1, 3, 4, 6, 7, 8, 9, 10, 11, 12] → j ∉ [45, 46, 47, 48, 49] := by decide
  exact h9 j hj h)
theorem RMn.ty {M N : MS} {s : SP} (h : RMn M s) (m : MTy M N) : RMn N s := fun t ht => by
  rw [m.2.1]
  exact h t ht
theorem M_typeOfName0 {M : MS} {s : SP} (h : RMa M s) (hn : RMn M s) (hs : SI s) (h52 : m_I M 52 = i_ 0) {T : Nat → Nat} {t k q c : Nat} (ht : t < z_n s) (hth : z_th s t = true) (hk : k + 2 < 400) (hq : q < t) (hc : c < z_nc s q) (hj : ∃ j, j < z_nb s t ∧ z_fr s t j = q) (w1 : Wd_ M t k (z_nm s q)) (w2 : Wd_ M t (k + 2) (z_cn s q c)) (h53 : m_A M 53 (8 * q + c) = i_ (T (8 * q + c))) :
    f_X3_typeOfName (i_ t) (i_ k) M = some (i_ (T (8 * q + c)), M) := by
  have h2 := h.2.1
  obtain ⟨-, -, -, ⟨r4, r4'⟩, r5, -⟩ := h.2.2 t ht
  obtain ⟨-, -, ⟨c1, c2, c3⟩, -⟩ := h.2.2 q (by omega)
  have n1 := hn q (by omega)
  unfold f_X3_typeOfName
  have b1 : f_X3_behindNamed (i_ t) (enc (z_nm s q)) M = some (i_ q, M) := by
    rw [M_behindNamed (fx := fun k => some (z_fr s t k)) (nm := z_nm s) (show t < 17 by omega) r4 r4' (fun k hk => (r5 k hk).1) (fun k q hk e => by
      cases e
      have := (r5 k hk).2
      exact ⟨by omega, (hn _ (by omega)).1⟩) n1.1.2]
    rw [bnf_fr hj (fun j hj' e => hs.1 _ _ (by have := (r5 j hj').2; omega) (by omega) (hs.2.2.1 t ht hth j hj') (by
      obtain ⟨j0, g1, g2⟩ := hj
      rw [← g2]
      exact hs.2.2.1 t ht hth j0 g1) e) _ 0 (by omega) (by
        obtain ⟨j0, g1, g2⟩ := hj
        exact ⟨j0, Nat.zero_le _, g1, g2⟩)]
    rfl
  have b2 : f_X3_columnNamed (i_ q) (enc (z_cn s q c)) M = some (i_ c, M) := by
    rw [M_columnNamed (show q < 17 by omega) c1 c3 n1.2 (n1.2 c hc).2]
    rw [cnf_of hc (fun d hd e => hs.2.1 q (by omega) d c hd hc e) _ 0 (by omega) (by omega)]
    rfl
  simp (disch := omega) only [l_m1, l_m2, l_0, l_1, l_2, l_3, l_4, l_5, l_6, l_7, l_8, l_9, l_10, l_11, l_12, l_13, l_14, l_15, l_16, l_17, l_18, l_19, l_20, l_21, l_22, l_23, l_24, l_25, l_26, l_27, l_28, l_29, l_30, l_31, l_32, l_33, l_34, l_35, l_36, l_37, l_38, l_39, l_40, l_41, l_42, l_43, l_44, l_45, l_46, l_47, l_48, l_49, l_50, l_51, l_52, l_53, l_54, l_55, l_56, l_57, l_58, l_59, l_60, l_61, l_62, l_63, l_64, l_97, l_100, l_110, l_115, l_116, l_120, l_122, l_127, l_128, l_136, l_140, l_200, l_255, l_256, l_400, l_1000, l_30000, l_1200, l_65536, l_2147483639, l_2147483647, ob_some, obd_some, q_lt_t, q_lt_f, q_le_t, q_le_f, q_eq_t, q_eq_f, im_ne, im_ne', im_lt, im_le, im_lt', im_le', i_add, i_mul, i_dec, i_dec0, i_sub, i_and, i_shr, i_div, nar_b0, nar_b1, b2i_t, b2i_f, gA1, pA1, gB2, pB2, gA3, pA3, gA4, pA4, gB5, pB5, gA6, pA6, gA7, pA7, gA8, pA8, gA9, pA9, gA10, pA10, gA11, pA11, gA12, pA12, gA13, pA13, gA14, pA14, gA15, pA15, gA16, pA16, gA17, pA17, gA18, pA18, gA19, pA19, gA20, pA20, gA21, pA21, gA40, pA40, gB43, pB43, gA44, pA44, gA45, pA45, gA46, pA46, gA47, pA47, gA48, pA48, gA49, pA49, gA53, pA53, gA54, pA54, gA55, pA55, gA56, pA56, gA58, pA58, gA60, pA60, gA61, pA61, gA62, pA62, gA63, pA63, gA66, pA66, ↓reduceIte, if_true, if_false, M_wordOf (show t < 17 by omega) (show k < 400 by omega) w1, b1, M_wordOf (show t < 17 by omega) (show k + 2 < 400 by omega) w2, b2, h52, h53]
theorem FT.tp {M : MS} {s : SP} (h : RMa M s) (hn : RMn M s) (hs : SI s) (h52 : m_I M 52 = i_ 0) {T : Nat → Nat} {t : Nat} (ht : t < z_n s) (hth : z_th s t = true) (h53 : ∀ q c, q < z_n s → c < z_nc s q → m_A M 53 (8 * q + c) = i_ (T (8 * q + c))) {k' : Nat} (hk' : k' ≤ 400) :
    ∀ {l : List Tk} {k : Nat}, FT M s t k l k' → TPl M t k (l.map (tt T)) k' ∧ ∀ x ∈ l, x.1 ≤ 6
  | [], k, hF => ⟨hF, fun x hx => by cases hx⟩
  | x :: l, k, ⟨k1, h1, h2, h3⟩ => by
    have hle := FT_le _ _ _ h3
    obtain ⟨r1, r2⟩ := FT.tp h hn hs h52 ht hth h53 hk' h3
    rcases h1 with ⟨e, a, ek⟩ | ⟨e, a, ek⟩ | ⟨e, a, b, ek, q, c, g1, g2, g3, g4, g5, g6, g7⟩ | ⟨e, a, b, ek, g⟩ | ⟨e, a, ek⟩ | ⟨e, a, b, c, ek⟩
    · refine ⟨⟨k1, Or.inl ?_, r1⟩, fun y hy => ?_⟩
      · unfold tt
        rw [if_pos e]
        exact ⟨rfl, rfl, Or.inl ⟨a, rfl⟩, ek⟩
      · rcases List.mem_cons.mp hy with rfl | hy
        · omega
        · exact r2 y hy
    · refine ⟨⟨k1, Or.inl ?_, r1⟩, fun y hy => ?_⟩
      · unfold tt
        rw [if_neg (by omega), if_pos e]
        exact ⟨rfl, rfl, Or.inr ⟨a, rfl⟩, ek⟩
      · rcases List.mem_cons.mp hy with rfl | hy
        · omega
        · exact r2 y hy
    · refine ⟨⟨k1, Or.inr (Or.inl ?_), r1⟩, fun y hy => ?_⟩
      · unfold tt
        rw [if_neg (by omega), if_neg (by omega), if_pos e]
        refine ⟨rfl, a, b, ek, fun N hN => ⟨N, ?_, MTy.rf N, rfl, rfl, ErR.rf N⟩⟩
        rw [g1]
        exact M_typeOfName0 (h.ty hN) (hn.ty hN) hs (by rw [hN.I52]; exact h52) ht hth (by omega) g2 g3 g5 (g6.ty hN) (g7.ty hN) (by rw [hN.1 53 (by decide)]; exact h53 q c (by omega) g3)
      · rcases List.mem_cons.mp hy with rfl | hy
        · omega
        · exact r2 y hy
    · refine ⟨⟨k1, Or.inr (Or.inr (Or.inl ?_)), r1⟩, fun y hy => ?_⟩
      · unfold tt
        rw [if_neg (by omega), if_neg (by omega), if_neg (by omega), if_neg (by omega)]
        exact ⟨e, a, b, ek, g⟩
      · rcases List.mem_cons.mp hy with rfl | hy
        · omega
        · exact r2 y hy
    · refine ⟨⟨k1, Or.inr (Or.inr (Or.inr (Or.inl ?_))), r1⟩, fun y hy => ?_⟩
      · unfold tt
        rw [if_neg (by omega), if_neg (by omega), if_neg (by omega), if_neg (by omega)]
        exact ⟨e, a, ek⟩
      · rcases List.mem_cons.mp hy with rfl | hy
        · omega
        · exact r2 y hy
    · refine ⟨⟨k1, Or.inr (Or.inr (Or.inr (Or.inr ?_))), r1⟩, fun y hy => ?_⟩
      · unfold tt
        rw [if_neg (by omega), if_neg (by omega), if_neg (by omega), if_neg (by omega)]
        exact ⟨e, a, c, ek⟩
      · rcases List.mem_cons.mp hy with rfl | hy
        · omega
        · exact r2 y hy
theorem FT.of {M N : MS} {s : SP} {t : Nat} (m : ∀ k, 14 ≤ k → k ≤ 19 → m_A N k = m_A M k) : ∀ {l : List Tk} {k k' : Nat}, FT M s t k l k' → FT N s t k l k'
  | [], _, _, h => h
  | x :: l, k, k', ⟨k1, h1, h2, h3⟩ => by
    refine ⟨k1, ?_, h2, h3.of m⟩
    unfold FT1 Wd_ at h1 ⊢
    rw [m 14 (by decide) (by decide), m 15 (by decide) (by decide), m 16 (by decide) (by decide), m 17 (by decide) (by decide)]
    exact h1
theorem FF.of {M N : MS} {s : SP} {t c : Nat} (m : ∀ k, 14 ≤ k → k ≤ 19 → m_A N k = m_A M k) (h : FF M s t c) : FF N s t c := by
  obtain ⟨k, k', a, b, h0, h1, h2⟩ := h
  exact ⟨k, k', by rw [m 18 (by decide) (by decide)]; exact a, by rw [m 19 (by decide) (by decide)]; exact b, h0, h1, h2.of m⟩
theorem RMf.of {M N : MS} {s : SP} (h : RMf M s) (m : ∀ k, 14 ≤ k → k ≤ 19 → m_A N k = m_A M k) : RMf N s := fun t ht hth hm => by
  obtain ⟨a, b⟩ := h t ht hth hm
  refine ⟨fun c hc => (a c hc).of m, ?_⟩
  by_cases e : z_hw s t = true
  · rw [if_pos e] at b ⊢
    exact ⟨b.1.of m, b.2.of m⟩
  · rw [if_neg e] at b ⊢
    rw [m 19 (by decide) (by decide)]
    exact b
def MKp (ka ki : List Nat) (M N : MS) : Prop := (∀ k, k ∉ ka → m_A N k = m_A M k) ∧ m_B N = m_B M ∧ m_J N = m_J M ∧ ∀ k, k ∉ ki → m_I N k = m_I M k
theorem MKp.rf (ka ki : List Nat) (M : MS) : MKp ka ki M M := ⟨fun _ _ => rfl, rfl, rfl, fun _ _ => rfl⟩
theorem MKp.tr {ka ki : List Nat} {M N K : MS} (a : MKp ka ki M N) (b : MKp ka ki N K) : MKp ka ki M K := ⟨fun k h => (b.1 k h).trans (a.1 k h), b.2.1.trans a.2.1, b.2.2.1.trans a.2.2.1, fun k h => (b.2.2.2 k h).trans (a.2.2.2 k h)⟩
theorem MKp.sA {ka ki : List Nat} {M : MS} {k i : Nat} {x : Int32} (h : k ∈ ka) : MKp ka ki M (m_sA M k i x) := ⟨fun j hj => mA_same (fun e => hj (e ▸ h)), rfl, rfl, fun _ _ => rfl⟩
theorem MKp.sI {ka ki : List Nat} {M : MS} {k : Nat} {x : Int32} (h : k ∈ ki) : MKp ka ki M (m_sI M k x) := ⟨fun _ _ => rfl, rfl, rfl, fun j hj => mI_off (fun e => hj (e ▸ h))⟩
theorem MKp.mono {ka ki ka' ki' : List Nat} {M N : MS} (h : MKp ka ki M N) (a : ∀ k ∈ ka, k ∈ ka') (b : ∀ k ∈ ki, k ∈ ki') : MKp ka' ki' M N := ⟨fun k hk => h.1 k (fun q => hk (a k q)), h.2.1, h.2.2.1, fun k hk => h.2.2.2 k (fun q => hk (b k q))⟩
/-- the type of a formula, types being new -/
theorem M_type0 {M : MS} {s : SP} (h : RMa M s) (hn : RMn M s) (hf : RMf M s) (hs : SI s) (hlen : m_J M 38 = enc [108, 101, 110]) (h52 : m_I M 52 = i_ 0) {T : Nat → Nat} (hT : ∀ v, T v < 128) {t c : Nat} (ht : t < z_n s) (hth : z_th s t = true) (hm : made s t = true) (hc : hasF s t c) (hF : FF M s t c) (h53 : ∀ q c, q < z_n s → c < z_nc s q → m_A M 53 (8 * q + c) = i_ (T (8 * q + c))) :
    ∃ N', f_X3_typeOf (i_ t) (i_ c) M = some (i_ (tyv T (z_fo s t c)), N') ∧ MTy M N' ∧ ErR M N' (evt T (z_fo s t c)).2 ∧ tyv T (z_fo s t c) < 128 := by
  obtain ⟨k, k', a, b, h0, h1, h3⟩ := hF
  have h2 := h.2.1
  have hc8 : c < 8 := by
    have := (hs.2.2.2.2.1 t ht).1.2
    rcases hc with hc | ⟨-, hc⟩ <;> omega
  obtain ⟨r1, r2⟩ := FT.tp h hn hs h52 ht hth h53 h1 h3
  obtain ⟨N', x, g1, g2, g3, g4, g5⟩ := M_typeOf (show t < 17 by omega) hc8 a b h1 hlen r1 ((hs.2.2.2.2.2 t ht hth hm c hc).d hT r2)
  have e : tyv T (z_fo s t c) = x.1 := by
    unfold tyv
    have g1' : (evt T (z_fo s t c)).1 = [x] := g1
    rw [g1']
  exact ⟨N', by rw [e]; exact g3, g4, g5, by rw [e]; exact g2⟩
abbrev RtS : Type := (Nat → Nat) × Nat × List Nat
def rt_n (s : SP) (q k : Nat) (T : Nat → Nat) : Nat := if T (8 * q + k) = z_ty s q k then 0 else 1
def rt_c (s : SP) (q k : Nat) (σ : RtS) : RtS :=
  if c3 (evt σ.1 (z_fo s q k)).2 = 0 then (h_up σ.1 (8 * q + k) (tyv σ.1 (z_fo s q k)), σ.2.1 + rt_n s q k (h_up σ.1 (8 * q + k) (tyv σ.1 (z_fo s q k))), σ.2.2)
  else (σ.1, σ.2.1 + rt_n s q k σ.1, σ.2.2 ++ [8 * q + k])
def rt_cs (s : SP) (q : Nat) : Nat → Nat → RtS → RtS
  | 0, _, σ => σ
  | r + 1, k, σ => rt_cs s q r (k + 1) (rt_c s q k σ)
def rt_w (s : SP) (q : Nat) (σ : RtS) : RtS :=
  if z_hw s q = true then (if c3 (evt σ.1 (z_fo s q 6)).2 = 0 ∧ c3 (evt σ.1 (z_fo s q 7)).2 = 0 ∧ tyv σ.1 (z_fo s q 6) = tyv σ.1 (z_fo s q 7) then σ else (σ.1, σ.2.1, σ.2.2 ++ [8 * q + 6])) else σ
def rt_q (s : SP) (q : Nat) (σ : RtS) : RtS := if (z_th s q && made s q) = true then rt_w s q (rt_cs s q (z_nc s q) 0 σ) else σ
def rt_go (s : SP) : Nat → Nat → RtS → RtS
  | 0, _, σ => σ
  | r + 1, q, σ => rt_go s r (q + 1) (rt_q s q σ)
abbrev kaR : List Nat := [45, 46, 47, 48, 49, 53, 66]
abbrev kiR : List Nat := [25, 26, 50, 51, 57, 65]
theorem MTy.kp {M N : MS} (h : MTy M N) : MKp kaR kiR M N := MKp.mono (ka := [45, 46, 47, 48, 49]) (ki := [25, 26, 50, 51]) h (by decide) (by decide)
/-- the reference in the midst of retype -/
def RTs (M0 M : MS) (s : SP) (σ : RtS) : Prop := MKp kaR kiR M0 M ∧ (∀ v, σ.1 v < 128) ∧ (∀ q c, q < z_n s → c < z_nc s q → m_A M 53 (8 * q + c) = i_ (σ.1 (8 * q + c))) ∧ m_I M 65 = i_ σ.2.2.length ∧ ∀ i, i < σ.2.2.length → m_A M 66 i = i_ (σ.2.2.getD i 0)
theorem MKp.rma {M N : MS} {s : SP} (m : MKp kaR kiR M N) (h : RMa M s) : RMa N s := h.of (m.2.2.2 0 (by decide)) fun j hj => m.1 j (by
  have h9 : ∀ j, j ∈ [1, 3, 4, 6, 7, 8, 9, 10, 11, 12] → j ∉ kaR := by decide
  exact h9 j hj)
theorem MKp.rmf {M N : MS} {s : SP} (m : MKp kaR kiR M N) (h : RMf M s) : RMf N s := h.of fun k a b => m.1 k (by
  simp
  omega)
theorem MKp.rmn {M N : MS} {s : SP} (m : MKp kaR kiR M N) (h : RMn M s) : RMn N s := fun t ht => by
  rw [m.2.1]
  exact h t ht
theorem M_looks {M0 M : MS} {s : SP} {T : Nat → Nat} {o : Nat} {ws : List Nat} (h : RTs M0 M s (T, o, ws)) (hl : ws.length < 136) (v : Nat) : ∃ M', f_X3_looks (i_ v) M = some M' ∧ RTs M0 M' s (T, o, ws ++ [v]) ∧ m_A M' 53 = m_A M 53 ∧ m_A M' 6 = m_A M 6 := by
  obtain ⟨h1, h2, h3, h4, h5⟩ := h
  have h4' : m_I M 65 = i_ ws.length := h4
  unfold f_X3_looks
  simp (disch := omega) only [l_m1, l_m2, l_0, l_1, l_2, l_3, l_4, l_5, l_6, l_7, l_8, l_9, l_10, l_11, l_12, l_13, l_14, l_15, l_16, l_17, l_18, l_19, l_20, l_21, l_22, l_23, l_24, l_25, l_26, l_27, l_28, l_29, l_30, l_31, l_32, l_33, l_34, l_35, l_36, l_37, l_38, l_39, l_40, l_41, l_42, l_43, l_44, l_45, l_46, l_47, l_48, l_49, l_50, l_51, l_52, l_53, l_54, l_55, l_56, l_57, l_58, l_59, l_60, l_61, l_62, l_63, l_64, l_97, l_100, l_110, l_115, l_116, l_120, l_122, l_127, l_128, l_136, l_140, l_200, l_255, l_256, l_400, l_1000, l_30000, l_1200, l_65536, l_2147483639, l_2147483647, ob_some, obd_some, q_lt_t, q_lt_f, q_le_t, q_le_f, q_eq_t, q_eq_f, im_ne, im_ne', im_lt, im_le, im_lt', im_le', i_add, i_mul, i_dec, i_dec0, i_sub, i_and, i_shr, i_div, nar_b0, nar_b1, b2i_t, b2i_f, gA1, pA1, gB2, pB2, gA3, pA3, gA4, pA4, gB5, pB5, gA6, pA6, gA7, pA7, gA8, pA8, gA9, pA9, gA10, pA10, gA11, pA11, gA12, pA12, gA13, pA13, gA14, pA14, gA15, pA15, gA16, pA16, gA17, pA17, gA18, pA18, gA19, pA19, gA20, pA20, gA21, pA21, gA40, pA40, gB43, pB43, gA44, pA44, gA45, pA45, gA46, pA46, gA47, pA47, gA48, pA48, gA49, pA49, gA53, pA53, gA54, pA54, gA55, pA55, gA56, pA56, gA58, pA58, gA60, pA60, gA61, pA61, gA62, pA62, gA63, pA63, gA66, pA66, ↓reduceIte, if_true, if_false, h4', r_mI_sA]
  refine ⟨_, rfl, ⟨h1.tr ((MKp.sA (by decide)).tr (MKp.sI (by decide))), h2, fun q c hq hc => ?_, ?_, fun i hi => ?_⟩, ?_, ?_⟩
  · rw [r_mA_sI, mA_same (by decide)]
    exact h3 q c hq hc
  · rw [mI_on]
    simp
  · rw [r_mA_sI]
    show m_A (m_sA M 66 ws.length (i_ v)) 66 i = i_ ((ws ++ [v]).getD i 0)
    rw [getD_snoc]
    by_cases e : i < ws.length
    · rw [mA_off (by omega), if_pos e]
      exact h5 i e
    · have hi' : i < (ws ++ [v]).length := hi
      rw [List.length_append, List.length_singleton] at hi'
      have e2 : i = ws.length := by omega
      rw [if_neg e, if_pos e2, e2, mA_on]
  · rw [r_mA_sI, mA_same (by decide)]
  · rw [r_mA_sI, mA_same (by decide)]
theorem M_rt_n {M0 M : MS} {s : SP} {σ : RtS} (h : RTs M0 M s σ) (ha : RMa M0 s) {q k : Nat} (hq : q < z_n s) (hk : k < z_nc s q) (K : Int32 → Int32 → Int32 → MS → Option (Int32 × MS)) (L : Int32 → Int32 → Int32 → Int32 → MS → Option (Int32 × MS)) (x4 : Int32) (o : Nat) : f_X3_retype_n208 K L x4 (i_ o) (i_ q) (i_ k) M = L x4 (i_ (o + rt_n s q k σ.1)) (i_ q) (i_ (k + 1)) M := by
  obtain ⟨h1, h2, h3, h4, h5⟩ := h
  have a2 := ha.2.1
  have hM := h1.rma ha
  obtain ⟨-, -, ⟨c1, c2, c3⟩, -, -, -, r10⟩ := hM.2.2 q hq
  obtain ⟨t1, t2⟩ := r10 k hk
  have e53 := h3 q k hq hk
  have hT := h2 (8 * q + k)
  unfold f_X3_retype_n208 rt_n
  by_cases e : σ.1 (8 * q + k) = z_ty s q k
  · simp (disch := omega) only [l_m1, l_m2, l_0, l_1, l_2, l_3, l_4, l_5, l_6, l_7, l_8, l_9, l_10, l_11, l_12, l_13, l_14, l_15, l_16, l_17, l_18, l_19, l_20, l_21, l_22, l_23, l_24, l_25, l_26, l_27, l_28, l_29, l_30, l_31, l_32, l_33, l_34, l_35, l_36, l_37, l_38, l_39, l_40, l_41, l_42, l_43, l_44, l_45, l_46, l_47, l_48, l_49, l_50, l_51, l_52, l_53, l_54, l_55, l_56, l_57, l_58, l_59, l_60, l_61, l_62, l_63, l_64, l_97, l_100, l_110, l_115, l_116, l_120, l_122, l_127, l_128, l_136, l_140, l_200, l_255, l_256, l_400, l_1000, l_30000, l_1200, l_65536, l_2147483639, l_2147483647, ob_some, obd_some, q_lt_t, q_lt_f, q_le_t, q_le_f, q_eq_t, q_eq_f, im_ne, im_ne', im_lt, im_le, im_lt', im_le', i_add, i_mul, i_dec, i_dec0, i_sub, i_and, i_shr, i_div, nar_b0, nar_b1, b2i_t, b2i_f, gA1, pA1, gB2, pB2, gA3, pA3, gA4, pA4, gB5, pB5, gA6, pA6, gA7, pA7, gA8, pA8, gA9, pA9, gA10, pA10, gA11, pA11, gA12, pA12, gA13, pA13, gA14, pA14, gA15, pA15, gA16, pA16, gA17, pA17, gA18, pA18, gA19, pA19, gA20, pA20, gA21, pA21, gA40, pA40, gB43, pB43, gA44, pA44, gA45, pA45, gA46, pA46, gA47, pA47, gA48, pA48, gA49, pA49, gA53, pA53, gA54, pA54, gA55, pA55, gA56, pA56, gA58, pA58, gA60, pA60, gA61, pA61, gA62, pA62, gA63, pA63, gA66, pA66, ↓reduceIte, if_true, if_false, e53, t1, e]
    rfl
  · simp (disch := omega) only [l_m1, l_m2, l_0, l_1, l_2, l_3, l_4, l_5, l_6, l_7, l_8, l_9, l_10, l_11, l_12, l_13, l_14, l_15, l_16, l_17, l_18, l_19, l_20, l_21, l_22, l_23, l_24, l_25, l_26, l_27, l_28, l_29, l_30, l_31, l_32, l_33, l_34, l_35, l_36, l_37, l_38, l_39, l_40, l_41, l_42, l_43, l_44, l_45, l_46, l_47, l_48, l_49, l_50, l_51, l_52, l_53, l_54, l_55, l_56, l_57, l_58, l_59, l_60, l_61, l_62, l_63, l_64, l_97, l_100, l_110, l_115, l_116, l_120, l_122, l_127, l_128, l_136, l_140, l_200, l_255, l_256, l_400, l_1000, l_30000, l_1200, l_65536, l_2147483639, l_2147483647, ob_some, obd_some, q_lt_t, q_lt_f, q_le_t, q_le_f, q_eq_t, q_eq_f, im_ne, im_ne', im_lt, im_le, im_lt', im_le', i_add, i_mul, i_dec, i_dec0, i_sub, i_and, i_shr, i_div, nar_b0, nar_b1, b2i_t, b2i_f, gA1, pA1, gB2, pB2, gA3, pA3, gA4, pA4, gB5, pB5, gA6, pA6, gA7, pA7, gA8, pA8, gA9, pA9, gA10, pA10, gA11, pA11, gA12, pA12, gA13, pA13, gA14, pA14, gA15, pA15, gA16, pA16, gA17, pA17, gA18, pA18, gA19, pA19, gA20, pA20, gA21, pA21, gA40, pA40, gB43, pB43, gA44, pA44, gA45, pA45, gA46, pA46, gA47, pA47, gA48, pA48, gA49, pA49, gA53, pA53, gA54, pA54, gA55, pA55, gA56, pA56, gA58, pA58, gA60, pA60, gA61, pA61, gA62, pA62, gA63, pA63, gA66, pA66, ↓reduceIte, if_true, if_false, e53, t1, e]
theorem cm_len (v : Nat) (σ : List Lv × Ev2) : (cm v σ).2.length ≤ σ.2.length + 1 := by
  unfold cm
  split
  · omega
  · unfold cmE
    split <;> simp
theorem ev1_len (y : Tt) (σ : List Lv × Ev2) : (ev1 y σ).2.length ≤ σ.2.length + 2 + y.2.2.2.length := by
  unfold ev1
  split
  · have := cm_len y.2.1 (σ.1, σ.2 ++ y.2.2.2)
    simp at this
    omega
  split
  · simp
    omega
  split
  · split
    · omega
    · rename_i x st _
      have := cm_len (if x.2.2.2.1 = 116 then 110 else 116) (st, σ.2 ++ (if ¬ x.1 = 0 ∧ ¬ x.1 = x.2.2.2.1 then [(3, x.2.2.2.2)] else []))
      have h2 : (if ¬ x.1 = 0 ∧ ¬ x.1 = x.2.2.2.1 then [(3, x.2.2.2.2)] else [] : Ev2).length ≤ 1 := by split <;> simp
      simp only [List.length_append] at this
      omega
  · split
    · omega
    · simp
      omega
theorem evl_len : ∀ (l : List Tt) (σ : List Lv × Ev2), (∀ y ∈ l, y.2.2.2.length ≤ 1) → (evl l σ).2.length ≤ σ.2.length + 3 * l.length
  | [], σ, _ => by simp [evl]
  | y :: l, σ, h => by
    rw [evl_cons]
    have h1 := evl_len l (ev1 y σ) (fun z hz => h z (List.mem_cons_of_mem _ hz))
    have h2 := ev1_len y σ
    have h3 := h y List.mem_cons_self
    simp only [List.length_cons]
    omega
theorem tt_len (T : Nat → Nat) (x : Tk) : (tt T x).2.2.2.length ≤ 1 := by
  unfold tt
  repeat' split
  all_goals simp
theorem c3_le (l : Ev2) : c3 l ≤ l.length := List.length_filter_le _ _
theorem evt_c3 {M : MS} {s : SP} (hf : RMf M s) {q c : Nat} (hq : q < z_n s) (hth : z_th s q = true) (hm : made s q = true) (T : Nat → Nat) (hc : hasF s q c) : c3 (evt T (z_fo s q c)).2 ≤ 1200 := by
  have hF : FF M s q c := by
    obtain ⟨a, b⟩ := hf q hq hth hm
    rcases hc with hc | ⟨e, hc⟩
    · exact a c hc
    · rw [if_pos e] at b
      rcases hc with rfl | rfl
      · exact b.1
      · exact b.2
  obtain ⟨k, k', -, -, h0, h1, h3⟩ := hF
  have hle := FT_le _ _ _ h3
  have h4 := evl_len ((z_fo s q c).map (tt T)) ([Lv0], []) (fun y hy => by
    obtain ⟨x, -, rfl⟩ := List.mem_map.mp hy
    exact tt_len T x)
  have h5 := c3_le (evt T (z_fo s q c)).2
  rw [List.length_map] at h4
  have h6 : (evt T (z_fo s q c)).2.length ≤ ([] : Ev2).length + 3 * (z_fo s q c).length := h4
  simp at h6
  omega
theorem M_retype_c {M0 : MS} {s : SP} (ha : RMa M0 s) (hn : RMn M0 s) (hf : RMf M0 s) (hs : SI s) (hlen : m_J M0 38 = enc [108, 101, 110]) (h52 : m_I M0 52 = i_ 0) {q : Nat} (hq : q < z_n s) (hth : z_th s q = true) (hm : made s q = true) (K : Int32 → Int32 → Int32 → MS → Option (Int32 × MS)) (x4 : Int32) :
    ∀ (r k n : Nat) (M : MS) (T : Nat → Nat) (o : Nat) (ws : List Nat), RTs M0 M s (T, o, ws) → ws.length ≤ 7 * q + k → k + r = z_nc s q → r < n →
      ∃ M', RTs M0 M' s (rt_w s q (rt_cs s q r k (T, o, ws))) ∧ (rt_w s q (rt_cs s q r k (T, o, ws))).2.2.length ≤ 7 * (q + 1) ∧ f_X3_retype_n144 K n x4 (i_ o) (i_ q) (i_ k) M = K x4 (i_ (rt_w s q (rt_cs s q r k (T, o, ws))).2.1) (i_ (q + 1)) M' := by
  have a2 := ha.2.1
  intro r
  induction r with
  | zero =>
    intro k n M T o ws h hw hk hn'
    obtain ⟨n, rfl⟩ : ∃ m, n = m + 1 := ⟨n - 1, by omega⟩
    obtain ⟨h1, h2, h3, h4, h5⟩ := h
    have hM := h1.rma ha
    have hMf := h1.rmf hf
    obtain ⟨-, -, ⟨c1, c2, c6⟩, -⟩ := hM.2.2 q hq
    have hwh0 : f_X3_hasWhere (i_ q) M = some (b2i (z_hw s q), M) := by
      have hw := (hMf q hq hth hm).2
      unfold f_X3_hasWhere
      cases e : z_hw s q with
      | true =>
        rw [e, if_pos rfl] at hw
        obtain ⟨k, k', -, a, b, c, -⟩ := hw.2
        simp (disch := omega) only [l_m1, l_m2, l_0, l_1, l_2, l_3, l_4, l_5, l_6, l_7, l_8, l_9, l_10, l_11, l_12, l_13, l_14, l_15, l_16, l_17, l_18, l_19, l_20, l_21, l_22, l_23, l_24, l_25, l_26, l_27, l_28, l_29, l_30, l_31, l_32, l_33, l_34, l_35, l_36, l_37, l_38, l_39, l_40, l_41, l_42, l_43, l_44, l_45, l_46, l_47, l_48, l_49, l_50, l_51, l_52, l_53, l_54, l_55, l_56, l_57, l_58, l_59, l_60, l_61, l_62, l_63, l_64, l_97, l_100, l_110, l_115, l_116, l_120, l_122, l_127, l_128, l_136, l_140, l_200, l_255, l_256, l_400, l_1000, l_30000, l_1200, l_65536, l_2147483639, l_2147483647, ob_some, obd_some, q_lt_t, q_lt_f, q_le_t, q_le_f, q_eq_t, q_eq_f, im_ne, im_ne', im_lt, im_le, im_lt', im_le', i_add, i_mul, i_dec, i_dec0, i_sub, i_and, i_shr, i_div, nar_b0, nar_b1, b2i_t, b2i_f, gA1, pA1, gB2, pB2, gA3, pA3, gA4, pA4, gB5, pB5, gA6, pA6, gA7, pA7, gA8, pA8, gA9, pA9, gA10, pA10, gA11, pA11, gA12, pA12, gA13, pA13, gA14, pA14, gA15, pA15, gA16, pA16, gA17, pA17, gA18, pA18, gA19, pA19, gA20, pA20, gA21, pA21, gA40, pA40, gB43, pB43, gA44, pA44, gA45, pA45, gA46, pA46, gA47, pA47, gA48, pA48, gA49, pA49, gA53, pA53, gA54, pA54, gA55, pA55, gA56, pA56, gA58, pA58, gA60, pA60, gA61, pA61, gA62, pA62, gA63, pA63, gA66, pA66, ↓reduceIte, if_true, if_false, a]
      | false =>
        rw [e, if_neg (by decide)] at hw
        simp (disch := omega) only [l_m1, l_m2, l_0, l_1, l_2, l_3, l_4, l_5, l_6, l_7, l_8, l_9, l_10, l_11, l_12, l_13, l_14, l_15, l_16, l_17, l_18, l_19, l_20, l_21, l_22, l_23, l_24, l_25, l_26, l_27, l_28, l_29, l_30, l_31, l_32, l_33, l_34, l_35, l_36, l_37, l_38, l_39, l_40, l_41, l_42, l_43, l_44, l_45, l_46, l_47, l_48, l_49, l_50, l_51, l_52, l_53, l_54, l_55, l_56, l_57, l_58, l_59, l_60, l_61, l_62, l_63, l_64, l_97, l_100, l_110, l_115, l_116, l_120, l_122, l_127, l_128, l_136, l_140, l_200, l_255, l_256, l_400, l_1000, l_30000, l_1200, l_65536, l_2147483639, l_2147483647, ob_some, obd_some, q_lt_t, q_lt_f, q_le_t, q_le_f, q_eq_t, q_eq_f, im_ne, im_ne', im_lt, im_le, im_lt', im_le', i_add, i_mul, i_dec, i_dec0, i_sub, i_and, i_shr, i_div, nar_b0, nar_b1, b2i_t, b2i_f, gA1, pA1, gB2, pB2, gA3, pA3, gA4, pA4, gB5, pB5, gA6, pA6, gA7, pA7, gA8, pA8, gA9, pA9, gA10, pA10, gA11, pA11, gA12, pA12, gA13, pA13, gA14, pA14, gA15, pA15, gA16, pA16, gA17, pA17, gA18, pA18, gA19, pA19, gA20, pA20, gA21, pA21, gA40, pA40, gB43, pB43, gA44, pA44, gA45, pA45, gA46, pA46, gA47, pA47, gA48, pA48, gA49, pA49, gA53, pA53, gA54, pA54, gA55, pA55, gA56, pA56, gA58, pA58, gA60, pA60, gA61, pA61, gA62, pA62, gA63, pA63, gA66, pA66, ↓reduceIte, if_true, if_false, hw]
    unfold f_X3_retype_n144
    show ∃ M', RTs M0 M' s (rt_w s q (T, o, ws)) ∧ (rt_w s q (T, o, ws)).2.2.length ≤ 7 * (q + 1) ∧ _ = K x4 (i_ (rt_w s q (T, o, ws)).2.1) (i_ (q + 1)) M'
    cases e : z_hw s q with
    | false =>
      rw [e] at hwh0
      have hrw : rt_w s q (T, o, ws) = (T, o, ws) := by unfold rt_w; rw [e]; rfl
      rw [hrw]
      simp (disch := omega) only [l_m1, l_m2, l_0, l_1, l_2, l_3, l_4, l_5, l_6, l_7, l_8, l_9, l_10, l_11, l_12, l_13, l_14, l_15, l_16, l_17, l_18, l_19, l_20, l_21, l_22, l_23, l_24, l_25, l_26, l_27, l_28, l_29, l_30, l_31, l_32, l_33, l_34, l_35, l_36, l_37, l_38, l_39, l_40, l_41, l_42, l_43, l_44, l_45, l_46, l_47, l_48, l_49, l_50, l_51, l_52, l_53, l_54, l_55, l_56, l_57, l_58, l_59, l_60, l_61, l_62, l_63, l_64, l_97, l_100, l_110, l_115, l_116, l_120, l_122, l_127, l_128, l_136, l_140, l_200, l_255, l_256, l_400, l_1000, l_30000, l_1200, l_65536, l_2147483639, l_2147483647, ob_some, obd_some, q_lt_t, q_lt_f, q_le_t, q_le_f, q_eq_t, q_eq_f, im_ne, im_ne', im_lt, im_le, im_lt', im_le', i_add, i_mul, i_dec, i_dec0, i_sub, i_and, i_shr, i_div, nar_b0, nar_b1, b2i_t, b2i_f, gA1, pA1, gB2, pB2, gA3, pA3, gA4, pA4, gB5, pB5, gA6, pA6, gA7, pA7, gA8, pA8, gA9, pA9, gA10, pA10, gA11, pA11, gA12, pA12, gA13, pA13, gA14, pA14, gA15, pA15, gA16, pA16, gA17, pA17, gA18, pA18, gA19, pA19, gA20, pA20, gA21, pA21, gA40, pA40, gB43, pB43, gA44, pA44, gA45, pA45, gA46, pA46, gA47, pA47, gA48, pA48, gA49, pA49, gA53, pA53, gA54, pA54, gA55, pA55, gA56, pA56, gA58, pA58, gA60, pA60, gA61, pA61, gA62, pA62, gA63, pA63, gA66, pA66, ↓reduceIte, if_true, if_false, c1, hwh0]
      exact ⟨M, ⟨h1, h2, h3, h4, h5⟩, by show ws.length ≤ _; omega, rfl⟩
    | true =>
      rw [e] at hwh0
      have hw67 := (hMf q hq hth hm).2
      rw [if_pos e] at hw67
      have m1 : MKp kaR kiR M0 (m_sI M 50 (i_ 0)) := h1.tr (MKp.sI (by decide))
      obtain ⟨N1, g1, g2, g3, g4⟩ := M_type0 (m1.rma ha) (m1.rmn hn) (m1.rmf hf) hs (by rw [m1.2.2.1]; exact hlen) (by rw [m1.2.2.2 52 (by decide)]; exact h52) h2 hq hth hm (Or.inr ⟨e, Or.inl rfl⟩) (((m1.rmf hf) q hq hth hm).2 |> fun z => (if_pos e ▸ z : FF _ s q 6 ∧ FF _ s q 7).1) h3
      have m2 : MKp kaR kiR M0 N1 := m1.tr g2.kp
      obtain ⟨N2, f1, f2, f3, f4⟩ := M_type0 (m2.rma ha) (m2.rmn hn) (m2.rmf hf) hs (by rw [m2.2.2.1]; exact hlen) (by rw [m2.2.2.2 52 (by decide)]; exact h52) h2 hq hth hm (Or.inr ⟨e, Or.inr rfl⟩) (((m2.rmf hf) q hq hth hm).2 |> fun z => (if_pos e ▸ z : FF _ s q 6 ∧ FF _ s q 7).2) (fun q c hq hc => by rw [g2.1 53 (by decide)]; exact h3 q c hq hc)
      have m3 : MKp kaR kiR M0 N2 := m2.tr f2.kp
      have e50 : m_I N2 50 = i_ (c3 (evt T (z_fo s q 6)).2 + c3 (evt T (z_fo s q 7)).2) := by
        rw [f3.1, g3.1, mI_on, i_add, Nat.zero_add, i_add]
      have hRT : RTs M0 N2 s (T, o, ws) := ⟨m3, h2, fun q c hq hc => by rw [f2.1 53 (by decide), g2.1 53 (by decide)]; exact h3 q c hq hc, by rw [f2.2.2.2 65 (by decide), g2.2.2.2 65 (by decide), mI_off (by decide)]; exact h4, fun i hi => by rw [f2.1 66 (by decide), g2.1 66 (by decide)]; exact h5 i hi⟩
      have hws : ws.length < 136 := by omega
      have hb6 := evt_c3 hMf hq hth hm T (c := 6) (Or.inr ⟨e, Or.inl rfl⟩)
      have hb7 := evt_c3 hMf hq hth hm T (c := 7) (Or.inr ⟨e, Or.inr rfl⟩)
      have g4' : tyv T (z_fo s q 6) < 128 := g4
      have f4' : tyv T (z_fo s q 7) < 128 := f4
      unfold f_X3_retype_n297
      by_cases hc : c3 (evt T (z_fo s q 6)).2 = 0 ∧ c3 (evt T (z_fo s q 7)).2 = 0 ∧ tyv T (z_fo s q 6) = tyv T (z_fo s q 7)
      · have hrw : rt_w s q (T, o, ws) = (T, o, ws) := by unfold rt_w; rw [if_pos e, if_pos hc]
        obtain ⟨p1, p2, p3⟩ := hc
        rw [hrw]
        simp (disch := omega) only [l_m1, l_m2, l_0, l_1, l_2, l_3, l_4, l_5, l_6, l_7, l_8, l_9, l_10, l_11, l_12, l_13, l_14, l_15, l_16, l_17, l_18, l_19, l_20, l_21, l_22, l_23, l_24, l_25, l_26, l_27, l_28, l_29, l_30, l_31, l_32, l_33, l_34, l_35, l_36, l_37, l_38, l_39, l_40, l_41, l_42, l_43, l_44, l_45, l_46, l_47, l_48, l_49, l_50, l_51, l_52, l_53, l_54, l_55, l_56, l_57, l_58, l_59, l_60, l_61, l_62, l_63, l_64, l_97, l_100, l_110, l_115, l_116, l_120, l_122, l_127, l_128, l_136, l_140, l_200, l_255, l_256, l_400, l_1000, l_30000, l_1200, l_65536, l_2147483639, l_2147483647, ob_some, obd_some, q_lt_t, q_lt_f, q_le_t, q_le_f, q_eq_t, q_eq_f, im_ne, im_ne', im_lt, im_le, im_lt', im_le', i_add, i_mul, i_dec, i_dec0, i_sub, i_and, i_shr, i_div, nar_b0, nar_b1, b2i_t, b2i_f, gA1, pA1, gB2, pB2, gA3, pA3, gA4, pA4, gB5, pB5, gA6, pA6, gA7, pA7, gA8, pA8, gA9, pA9, gA10, pA10, gA11, pA11, gA12, pA12, gA13, pA13, gA14, pA14, gA15, pA15, gA16, pA16, gA17, pA17, gA18, pA18, gA19, pA19, gA20, pA20, gA21, pA21, gA40, pA40, gB43, pB43, gA44, pA44, gA45, pA45, gA46, pA46, gA47, pA47, gA48, pA48, gA49, pA49, gA53, pA53, gA54, pA54, gA55, pA55, gA56, pA56, gA58, pA58, gA60, pA60, gA61, pA61, gA62, pA62, gA63, pA63, gA66, pA66, ↓reduceIte, if_true, if_false, c1, hwh0, g1, f1, e50, p1, p2, p3]
        exact ⟨N2, hRT, by show ws.length ≤ _; omega, rfl⟩
      · have hrw : rt_w s q (T, o, ws) = (T, o, ws ++ [8 * q + 6]) := by unfold rt_w; rw [if_pos e, if_neg hc]
        obtain ⟨N3, l1, l2, -⟩ := M_looks hRT hws (8 * q + 6)
        rw [hrw]
        have hlen' : (ws ++ [8 * q + 6]).length ≤ 7 * (q + 1) := by rw [List.length_append, List.length_singleton]; omega
        by_cases p0 : c3 (evt T (z_fo s q 6)).2 + c3 (evt T (z_fo s q 7)).2 = 0
        · have p3 : ¬ tyv T (z_fo s q 6) = tyv T (z_fo s q 7) := fun h => hc ⟨by omega, by omega, h⟩
          simp (disch := omega) only [l_m1, l_m2, l_0, l_1, l_2, l_3, l_4, l_5, l_6, l_7, l_8, l_9, l_10, l_11, l_12, l_13, l_14, l_15, l_16, l_17, l_18, l_19, l_20, l_21, l_22, l_23, l_24, l_25, l_26, l_27, l_28, l_29, l_30, l_31, l_32, l_33, l_34, l_35, l_36, l_37, l_38, l_39, l_40, l_41, l_42, l_43, l_44, l_45, l_46, l_47, l_48, l_49, l_50, l_51, l_52, l_53, l_54, l_55, l_56, l_57, l_58, l_59, l_60, l_61, l_62, l_63, l_64, l_97, l_100, l_110, l_115, l_116, l_120, l_122, l_127, l_128, l_136, l_140, l_200, l_255, l_256, l_400, l_1000, l_30000, l_1200, l_65536, l_2147483639, l_2147483647, ob_some, obd_some, q_lt_t, q_lt_f, q_le_t, q_le_f, q_eq_t, q_eq_f, im_ne, im_ne', im_lt, im_le, im_lt', im_le', i_add, i_mul, i_dec, i_dec0, i_sub, i_and, i_shr, i_div, nar_b0, nar_b1, b2i_t, b2i_f, gA1, pA1, gB2, pB2, gA3, pA3, gA4, pA4, gB5, pB5, gA6, pA6, gA7, pA7, gA8, pA8, gA9, pA9, gA10, pA10, gA11, pA11, gA12, pA12, gA13, pA13, gA14, pA14, gA15, pA15, gA16, pA16, gA17, pA17, gA18, pA18, gA19, pA19, gA20, pA20, gA21, pA21, gA40, pA40, gB43, pB43, gA44, pA44, gA45, pA45, gA46, pA46, gA47, pA47, gA48, pA48, gA49, pA49, gA53, pA53, gA54, pA54, gA55, pA55, gA56, pA56, gA58, pA58, gA60, pA60, gA61, pA61, gA62, pA62, gA63, pA63, gA66, pA66, ↓reduceIte, if_true, if_false, c1, hwh0, g1, f1, e50, p0, p3, l1]
          exact ⟨N3, l2, hlen', rfl⟩
        · simp (disch := omega) only [l_m1, l_m2, l_0, l_1, l_2, l_3, l_4, l_5, l_6, l_7, l_8, l_9, l_10, l_11, l_12, l_13, l_14, l_15, l_16, l_17, l_18, l_19, l_20, l_21, l_22, l_23, l_24, l_25, l_26, l_27, l_28, l_29, l_30, l_31, l_32, l_33, l_34, l_35, l_36, l_37, l_38, l_39, l_40, l_41, l_42, l_43, l_44, l_45, l_46, l_47, l_48, l_49, l_50, l_51, l_52, l_53, l_54, l_55, l_56, l_57, l_58, l_59, l_60, l_61, l_62, l_63, l_64, l_97, l_100, l_110, l_115, l_116, l_120, l_122, l_127, l_128, l_136, l_140, l_200, l_255, l_256, l_400, l_1000, l_30000, l_1200, l_65536, l_2147483639, l_2147483647, ob_some, obd_some, q_lt_t, q_lt_f, q_le_t, q_le_f, q_eq_t, q_eq_f, im_ne, im_ne', im_lt, im_le, im_lt', im_le', i_add, i_mul, i_dec, i_dec0, i_sub, i_and, i_shr, i_div, nar_b0, nar_b1, b2i_t, b2i_f, gA1, pA1, gB2, pB2, gA3, pA3, gA4, pA4, gB5, pB5, gA6, pA6, gA7, pA7, gA8, pA8, gA9, pA9, gA10, pA10, gA11, pA11, gA12, pA12, gA13, pA13, gA14, pA14, gA15, pA15, gA16, pA16, gA17, pA17, gA18, pA18, gA19, pA19, gA20, pA20, gA21, pA21, gA40, pA40, gB43, pB43, gA44, pA44, gA45, pA45, gA46, pA46, gA47, pA47, gA48, pA48, gA49, pA49, gA53, pA53, gA54, pA54, gA55, pA55, gA56, pA56, gA58, pA58, gA60, pA60, gA61, pA61, gA62, pA62, gA63, pA63, gA66, pA66, ↓reduceIte, if_true, if_false, c1, hwh0, g1, f1, e50, l1]
          exact ⟨N3, l2, hlen', rfl⟩
  | succ r ih =>
    intro k n M T o ws h hw hk hn'
    obtain ⟨n, rfl⟩ : ∃ m, n = m + 1 := ⟨n - 1, by omega⟩
    have h' := h
    obtain ⟨h1, h2, h3, h4, h5⟩ := h'
    have hM := h1.rma ha
    have hMf := h1.rmf hf
    obtain ⟨-, -, ⟨c1, c2, c3'⟩, -⟩ := hM.2.2 q hq
    have m1 : MKp kaR kiR M0 (m_sI M 50 (i_ 0)) := h1.tr (MKp.sI (by decide))
    obtain ⟨N1, g1, g2, g3, g4⟩ := M_type0 (m1.rma ha) (m1.rmn hn) (m1.rmf hf) hs (by rw [m1.2.2.1]; exact hlen) (by rw [m1.2.2.2 52 (by decide)]; exact h52) h2 hq hth hm (Or.inl (show k < z_nc s q by omega)) (((m1.rmf hf) q hq hth hm).1 k (by omega)) h3
    have m2 : MKp kaR kiR M0 N1 := m1.tr g2.kp
    have e50 : m_I N1 50 = i_ (c3 (evt T (z_fo s q k)).2) := by
      rw [g3.1, mI_on, i_add, Nat.zero_add]
    have hRT : RTs M0 N1 s (T, o, ws) := ⟨m2, h2, fun q c hq hc => by rw [g2.1 53 (by decide)]; exact h3 q c hq hc, by rw [g2.2.2.2 65 (by decide), mI_off (by decide)]; exact h4, fun i hi => by rw [g2.1 66 (by decide)]; exact h5 i hi⟩
    have hws : ws.length < 136 := by omega
    have hb := evt_c3 hMf hq hth hm T (c := k) (Or.inl (by omega))
    unfold f_X3_retype_n144
    have hcs : rt_cs s q (r + 1) k (T, o, ws) = rt_cs s q r (k + 1) (rt_c s q k (T, o, ws)) := rfl
    rw [hcs]
    by_cases p0 : c3 (evt T (z_fo s q k)).2 = 0
    · have hrc : rt_c s q k (T, o, ws) = (h_up T (8 * q + k) (tyv T (z_fo s q k)), o + rt_n s q k (h_up T (8 * q + k) (tyv T (z_fo s q k))), ws) := by
        unfold rt_c
        rw [if_pos p0]
      rw [hrc]
      have hRT2 : RTs M0 (m_sA N1 53 (8 * q + k) (i_ (tyv T (z_fo s q k)))) s (h_up T (8 * q + k) (tyv T (z_fo s q k)), o, ws) := by
        obtain ⟨j1, j2, j3, j4, j5⟩ := hRT
        refine ⟨j1.tr (MKp.sA (by decide)), fun v => ?_, fun q' c' hq' hc' => ?_, j4, fun i hi => by rw [mA_same (by decide)]; exact j5 i hi⟩
        · show h_up T (8 * q + k) _ v < 128
          by_cases ev : v = 8 * q + k
          · rw [ev, up_on]
            exact g4
          · rw [up_off ev]
            exact j2 v
        · show m_A (m_sA N1 53 (8 * q + k) _) 53 (8 * q' + c') = i_ (h_up T (8 * q + k) _ (8 * q' + c'))
          by_cases ev : 8 * q' + c' = 8 * q + k
          · rw [ev, up_on, mA_on]
          · rw [up_off ev, mA_off ev]
            exact j3 q' c' hq' hc'
      have hnn := M_rt_n hRT2 ha hq (show k < z_nc s q by omega) K (fun x4 x5 x6 x7 M => f_X3_retype_n144 K n x4 x5 x6 x7 M) x4 o
      obtain ⟨M', r1, r2, r3⟩ := ih (k + 1) n _ _ (o + rt_n s q k (h_up T (8 * q + k) (tyv T (z_fo s q k)))) ws ⟨hRT2.1, hRT2.2.1, hRT2.2.2.1, hRT2.2.2.2.1, hRT2.2.2.2.2⟩ (by omega) (by omega) (by omega)
      refine ⟨M', r1, r2, ?_⟩
      simp (disch := omega) only [l_m1, l_m2, l_0, l_1, l_2, l_3, l_4, l_5, l_6, l_7, l_8, l_9, l_10, l_11, l_12, l_13, l_14, l_15, l_16, l_17, l_18, l_19, l_20, l_21, l_22, l_23, l_24, l_25, l_26, l_27, l_28, l_29, l_30, l_31, l_32, l_33, l_34, l_35, l_36, l_37, l_38, l_39, l_40, l_41, l_42, l_43, l_44, l_45, l_46, l_47, l_48, l_49, l_50, l_51, l_52, l_53, l_54, l_55, l_56, l_57, l_58, l_59, l_60, l_61, l_62, l_63, l_64, l_97, l_100, l_110, l_115, l_116, l_120, l_122, l_127, l_128, l_136, l_140, l_200, l_255, l_256, l_400, l_1000, l_30000, l_1200, l_65536, l_2147483639, l_2147483647, ob_some, obd_some, q_lt_t, q_lt_f, q_le_t, q_le_f, q_eq_t, q_eq_f, im_ne, im_ne', im_lt, im_le, im_lt', im_le', i_add, i_mul, i_dec, i_dec0, i_sub, i_and, i_shr, i_div, nar_b0, nar_b1, b2i_t, b2i_f, gA1, pA1, gB2, pB2, gA3, pA3, gA4, pA4, gB5, pB5, gA6, pA6, gA7, pA7, gA8, pA8, gA9, pA9, gA10, pA10, gA11, pA11, gA12, pA12, gA13, pA13, gA14, pA14, gA15, pA15, gA16, pA16, gA17, pA17, gA18, pA18, gA19, pA19, gA20, pA20, gA21, pA21, gA40, pA40, gB43, pB43, gA44, pA44, gA45, pA45, gA46, pA46, gA47, pA47, gA48, pA48, gA49, pA49, gA53, pA53, gA54, pA54, gA55, pA55, gA56, pA56, gA58, pA58, gA60, pA60, gA61, pA61, gA62, pA62, gA63, pA63, gA66, pA66, ↓reduceIte, if_true, if_false, c1, g1, e50, p0, hnn]
      exact r3
    · have hrc : rt_c s q k (T, o, ws) = (T, o + rt_n s q k T, ws ++ [8 * q + k]) := by
        unfold rt_c
        rw [if_neg p0]
      rw [hrc]
      obtain ⟨N3, l1, l2, -⟩ := M_looks hRT hws (8 * q + k)
      have hnn := M_rt_n l2 ha hq (show k < z_nc s q by omega) K (fun x4 x5 x6 x7 M => f_X3_retype_n144 K n x4 x5 x6 x7 M) x4 o
      obtain ⟨M', r1, r2, r3⟩ := ih (k + 1) n _ _ (o + rt_n s q k T) (ws ++ [8 * q + k]) ⟨l2.1, l2.2.1, l2.2.2.1, l2.2.2.2.1, l2.2.2.2.2⟩ (by rw [List.length_append, List.length_singleton]; omega) (by omega) (by omega)
      refine ⟨M', r1, r2, ?_⟩
      simp (disch := omega) only [l_m1, l_m2, l_0, l_1, l_2, l_3, l_4, l_5, l_6, l_7, l_8, l_9, l_10, l_11, l_12, l_13, l_14, l_15, l_16, l_17, l_18, l_19, l_20, l_21, l_22, l_23, l_24, l_25, l_26, l_27, l_28, l_29, l_30, l_31, l_32, l_33, l_34, l_35, l_36, l_37, l_38, l_39, l_40, l_41, l_42, l_43, l_44, l_45, l_46, l_47, l_48, l_49, l_50, l_51, l_52, l_53, l_54, l_55, l_56, l_57, l_58, l_59, l_60, l_61, l_62, l_63, l_64, l_97, l_100, l_110, l_115, l_116, l_120, l_122, l_127, l_128, l_136, l_140, l_200, l_255, l_256, l_400, l_1000, l_30000, l_1200, l_65536, l_2147483639, l_2147483647, ob_some, obd_some, q_lt_t, q_lt_f, q_le_t, q_le_f, q_eq_t, q_eq_f, im_ne, im_ne', im_lt, im_le, im_lt', im_le', i_add, i_mul, i_dec, i_dec0, i_sub, i_and, i_shr, i_div, nar_b0, nar_b1, b2i_t, b2i_f, gA1, pA1, gB2, pB2, gA3, pA3, gA4, pA4, gB5, pB5, gA6, pA6, gA7, pA7, gA8, pA8, gA9, pA9, gA10, pA10, gA11, pA11, gA12, pA12, gA13, pA13, gA14, pA14, gA15, pA15, gA16, pA16, gA17, pA17, gA18, pA18, gA19, pA19, gA20, pA20, gA21, pA21, gA40, pA40, gB43, pB43, gA44, pA44, gA45, pA45, gA46, pA46, gA47, pA47, gA48, pA48, gA49, pA49, gA53, pA53, gA54, pA54, gA55, pA55, gA56, pA56, gA58, pA58, gA60, pA60, gA61, pA61, gA62, pA62, gA63, pA63, gA66, pA66, ↓reduceIte, if_true, if_false, c1, g1, e50, p0, l1, hnn]
      exact r3
