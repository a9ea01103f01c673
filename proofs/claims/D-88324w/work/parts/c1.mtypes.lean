/-! what a statement means, the reference's way: types, the whole *-/
theorem Sg.get {ks : List Rk} {a : Nat} {k : List Rk} (h : Sg ks a k) {i : Nat} (hi : i < k.length) (d : Rk) : ks.getD (a + i) d = k.getD i d ∧ a + i < ks.length := by
  obtain ⟨u, v, rfl, rfl⟩ := h
  rw [List.length_append, List.length_append]
  refine ⟨?_, by omega⟩
  rw [List.getD_eq_getElem?_getD, List.getD_eq_getElem?_getD, List.getElem?_append_right (by omega), Nat.add_sub_cancel_left, List.getElem?_append_left hi]
theorem Sg.left {ks : List Rk} {a : Nat} {k1 k2 : List Rk} (h : Sg ks a (k1 ++ k2)) : Sg ks a k1 ∧ Sg ks (a + k1.length) k2 := by
  obtain ⟨u, v, rfl, rfl⟩ := h
  exact ⟨⟨u, k2 ++ v, by simp, rfl⟩, ⟨u ++ k1, v, by simp, by simp⟩⟩
theorem Sg.mem {ks : List Rk} {a : Nat} {k : List Rk} (h : Sg ks a k) {y : Rk} (hy : y ∈ k) : y ∈ ks := by
  obtain ⟨u, v, rfl, rfl⟩ := h
  exact List.mem_append_right _ (List.mem_append_left _ hy)
theorem TK.row {M : MS} {t a : Nat} {ks k : List Rk} (h : TK M t ks) (hs : Sg ks a k) {i : Nat} (hi : i < k.length) : TR M t (a + i) (k.getD i (0, 0, [])) ∧ a + i < ks.length := by
  obtain ⟨h1, h2⟩ := hs.get hi (0, 0, [])
  have := h.2 _ h2
  rw [h1] at this
  exact ⟨this, h2⟩
theorem Wd_.tk {M : MS} {t n i p : Nat} {T : Nat → Nat} {w : List Nat} (hX : TXT M t n T) (h : TR M t i (1, p, w)) (hB : BT T n (1, p, w)) (hn : n ≤ 400) (hw : nmok w) : Wd_ M t i w := by
  obtain ⟨h1, h2, h3⟩ := h
  obtain ⟨b1, -, b3⟩ := hB
  have b1' : p + w.length ≤ n := b1
  refine ⟨h3, hw, p, h2, by omega, fun j hj => ?_⟩
  rw [Nat.add_assoc, hX (p + j) (by omega), ← b3 j hj]
theorem M_tp1 {t a : Nat} {s : SP} {n : Nat} {T : Nat → Nat} {fs : List (List Nat × Nat)} {ks : List Rk} {M : MS} (hM : MT t n T s fs ks M) (hB : ∀ y ∈ ks, BT T n y ∧ y.2.1 < n) (hks : ks.length ≤ 400) {x : Nk} {k1 : List Rk} (hs : Sg ks a k1) (h : Sp1 x k1) : TP M t a (tt (tys s) (res s fs x)) (a + k1.length) := by
  have hK := hM.2.2.2.1
  have hX := hM.2.2.2.2.1
  have hn := hM.1.2.2.2
  have hr : ∀ i, x.1 = i → i ≠ 2 → res s fs x = (x.1, x.2.1, x.2.2.1) := fun i h1 h2 => (res_ok s fs x).2 (by omega)
  rcases h with ⟨h1, b, rfl⟩ | ⟨h1, b, rfl⟩ | ⟨h1, o, ⟨hw1, hw2⟩, rfl⟩ | ⟨h1, o, w, hw, rfl⟩ | ⟨h1, o, rfl⟩ | ⟨h1, h2, rfl⟩
  · obtain ⟨⟨r1, r2, r3⟩, -⟩ := hK.row hs (i := 0) (Nat.succ_pos _)
    rw [hr 0 h1 (by decide), h1]
    exact Or.inl ⟨rfl, rfl, Or.inl ⟨r1, rfl⟩, rfl⟩
  · obtain ⟨⟨r1, r2, r3⟩, -⟩ := hK.row hs (i := 0) (Nat.succ_pos _)
    rw [hr 1 h1 (by decide), h1]
    exact Or.inl ⟨rfl, rfl, Or.inr ⟨r1, rfl⟩, rfl⟩
  · obtain ⟨r0, -⟩ := hK.row hs (i := 0) (Nat.succ_pos _)
    obtain ⟨r1, -⟩ := hK.row hs (i := 1) (show 1 < 3 by decide)
    obtain ⟨r2, l2⟩ := hK.row hs (i := 2) (show 2 < 3 by decide)
    have r0' : TR M t a (1, x.2.2.1, x.2.2.2.1) := r0
    have r2' : TR M t (a + 2) (1, x.2.1, x.2.2.2.2) := r2
    obtain ⟨b1, p1⟩ := hB _ (hs.mem (show (1, x.2.2.1, x.2.2.2.1) ∈ _ from List.mem_cons_self))
    obtain ⟨b2, p2⟩ := hB _ (hs.mem (show (1, x.2.1, x.2.2.2.2) ∈ _ from List.mem_cons_of_mem _ (List.mem_cons_of_mem _ List.mem_cons_self)))
    have p1' : x.2.2.1 < n := p1
    have p2' : x.2.1 < n := p2
    refine Or.inr (Or.inl ⟨?_, r0'.1, r1.1, rfl, fun N hN => ?_⟩)
    · refine (tt_1 _ _).2 ?_
      rcases (res_ok s fs x).1 h1 with k | k
      · exact Or.inr (Or.inr (Or.inl k))
      · exact Or.inr (Or.inr (Or.inr k))
    · have hM' := hM.ty hN
      have q0 : TR N t a (1, x.2.2.1, x.2.2.2.1) := by
        unfold TR at r0' ⊢
        rw [hN.1 14 (by decide), hN.1 15 (by decide), hN.1 16 (by decide)]
        exact r0'
      have q2 : TR N t (a + 2) (1, x.2.1, x.2.2.2.2) := by
        unfold TR at r2' ⊢
        rw [hN.1 14 (by decide), hN.1 15 (by decide), hN.1 16 (by decide)]
        exact r2'
      exact M_typeOfName1 hM' (by omega) h1 (Wd_.tk hM'.2.2.2.2.1 q0 b1 hn hw1) (Wd_.tk hM'.2.2.2.2.1 q2 b2 hn hw2) q0.2.1 q2.2.1 (by omega) (by omega)
  · obtain ⟨r0, -⟩ := hK.row hs (i := 0) (Nat.succ_pos _)
    obtain ⟨r1, -⟩ := hK.row hs (i := 1) (show 1 < 2 by decide)
    have r0' : TR M t a (1, x.2.2.1, w) := r0
    obtain ⟨b1, p1⟩ := hB _ (hs.mem (show (1, x.2.2.1, w) ∈ _ from List.mem_cons_self))
    have hw' : nmok w := by
      rcases hw with ⟨-, rfl⟩ | ⟨-, rfl⟩
      · exact ⟨by decide, by unfold isL; decide⟩
      · exact ⟨by decide, by unfold isL; decide⟩
    have hW := Wd_.tk hX r0' b1 hn hw'
    rw [hr 3 h1 (by decide), (tt_1 _ _).1 (Or.inl h1)]
    refine Or.inr (Or.inr (Or.inl ⟨h1, r0'.1, r1.1, rfl, r0'.2.1, ?_⟩))
    rcases hw with ⟨e, rfl⟩ | ⟨e, rfl⟩
    · exact Or.inl ⟨e, hW⟩
    · exact Or.inr ⟨e, hW⟩
  · obtain ⟨⟨r1, r2, r3⟩, -⟩ := hK.row hs (i := 0) (Nat.succ_pos _)
    rw [hr 4 h1 (by decide), (tt_1 _ _).1 (Or.inr (Or.inl h1))]
    exact Or.inr (Or.inr (Or.inr (Or.inl ⟨h1, r1, rfl⟩)))
  · obtain ⟨⟨r1, r2, r3⟩, -⟩ := hK.row hs (i := 0) (Nat.succ_pos _)
    rw [hr 5 h1 (by decide), (tt_1 _ _).1 (Or.inr (Or.inr h1))]
    exact Or.inr (Or.inr (Or.inr (Or.inr ⟨h1, r1, r2, rfl⟩)))
theorem M_tpl {t : Nat} {s : SP} {n : Nat} {T : Nat → Nat} {fs : List (List Nat × Nat)} {ks : List Rk} {M : MS} (hM : MT t n T s fs ks M) (hB : ∀ y ∈ ks, BT T n y ∧ y.2.1 < n) (hks : ks.length ≤ 400) : ∀ {l : List Nk} {a : Nat} {k : List Rk}, Sg ks a k → SpR l k → TPl M t a ((l.map (res s fs)).map (tt (tys s))) (a + k.length)
  | [], a, k, hs, h => by
    have e : k = [] := h
    subst e
    exact rfl
  | x :: l, a, k, hs, ⟨k1, k2, hk, h1, h2⟩ => by
    subst hk
    obtain ⟨s1, s2⟩ := hs.left
    refine ⟨a + k1.length, M_tp1 hM hB hks s1 h1, ?_⟩
    rw [List.length_append, ← Nat.add_assoc]
    exact M_tpl hM hB hks s2 h2
theorem uc_res {s : SP} {fs : List (List Nat × Nat)} {l : List Nk} {v : Nat} (h : v ∈ uc (l.map (res s fs))) : ∃ q c, v = 8 * q + c ∧ q < z_n s ∧ z_th s q = true ∧ c < z_nc s q ∧ ∃ k, k < fs.length ∧ tnf s (fnm fs k) = some q := by
  unfold uc at h
  obtain ⟨y, hy, rfl⟩ := List.mem_map.mp h
  obtain ⟨hy1, hy2⟩ := List.mem_filter.mp hy
  rw [decide_eq_true_eq] at hy2
  obtain ⟨x, hx, rfl⟩ := List.mem_map.mp hy1
  by_cases h2 : x.1 = 2
  · rcases res_cases (s := s) (fs := fs) h2 with e | e | e | ⟨k, q, c, e1, e2, e3, e⟩
    · rw [e] at hy2
      cases hy2
    · rw [e] at hy2
      cases hy2
    · rw [e] at hy2
      cases hy2
    · rw [e]
      have hq := tnf_some e2
      have hk := cnf_some _ _ _ e1
      exact ⟨q, c, rfl, hq.1, hq.2.1, by have := (cnf_some _ _ _ e3).2.1; omega, k, by omega, e2⟩
  · rw [(res_ok s fs x).2 h2] at hy2
    exact absurd hy2 h2
/-- a formula's type, the reference's way *-/
theorem M_ftype {t c a p p' : Nat} {s : SP} {n : Nat} {T : Nat → Nat} {fs : List (List Nat × Nat)} {ks k : List Rk} {l : List Nk} {M : MS} (hM : MT t n T s fs ks M) (hB : ∀ y ∈ ks, BT T n y ∧ y.2.1 < n) (hks : ks.length ≤ 400) (hc : c < 8) (h18 : m_A M 18 (8 * t + c) = i_ a) (h19 : m_A M 19 (8 * t + c) = i_ (a + k.length)) (hs : Sg ks a k) (hp : pform T n 3 p = .inr (k, l, p')) :
    ∃ N', f_X3_typeOf (i_ t) (i_ c) M = some (i_ (tyv (tys s) (l.map (res s fs))), N') ∧ MTy M N' ∧ ErR M N' (evt (tys s) (l.map (res s fs))).2 ∧ tyv (tys s) (l.map (res s fs)) < 128 := by
  have hT := M_tpl hM hB hks hs (pform_Sp _ _ _ _ _ hp)
  have hO : OKt 0 (l.map (res s fs) ++ []) := pform_OK hM.1.2.2.2 (res_ok s fs) _ _ _ _ _ hp 0 [] rfl rfl
  rw [List.append_nil] at hO
  have h6 : ∀ x ∈ l.map (res s fs), x.1 ≤ 6 := fun x hx => by
    obtain ⟨y, hy, rfl⟩ := List.mem_map.mp hx
    have := ((pform_At _ _ _ _ _ hp).2 y hy).1
    by_cases e : y.1 = 2
    · rcases (res_ok s fs y).1 e with e | e <;> omega
    · rw [(res_ok s fs y).2 e]
      show y.1 ≤ 6
      omega
  have hcong : (l.map (res s fs)).map (tt (tys s)) = (l.map (res s fs)).map (tt (fun v => if tys s v < 128 then tys s v else 0)) := tt_congr (fun v hv => by
    obtain ⟨q, c, rfl, hq, -, hc, -⟩ := uc_res hv
    have hr := hM.2.1.2.2 q hq
    have h7 := (hr.2.2.2.2.2.2 c hc).2
    have hn6 := hr.2.2.1.2.2
    have : tys s (8 * q + c) < 128 := by
      unfold tys
      rw [show (8 * q + c) / 8 = q by omega, show (8 * q + c) % 8 = c by omega]
      exact h7
    rw [if_pos this])
  have hD : OKd 0 ((l.map (res s fs)).map (tt (tys s))) := by
    rw [hcong]
    refine hO.d (fun v => ?_) h6
    show (if tys s v < 128 then tys s v else 0) < 128
    split <;> omega
  have hlen : a + k.length ≤ 400 := by
    obtain ⟨u, v, e, rfl⟩ := hs
    rw [e, List.length_append, List.length_append] at hks
    omega
  obtain ⟨N', x, e1, e2, e3, e4, e5⟩ := M_typeOf (show t < 17 by have := hM.1.2.1; omega) hc h18 h19 hlen hM.2.2.2.2.2.2.1 hT hD
  have ev : tyv (tys s) (l.map (res s fs)) = x.1 := by
    unfold tyv
    rw [show (evt (tys s) (l.map (res s fs))).1 = [x] from e1]
  rw [ev]
  exact ⟨N', e3, e4, e5, e2⟩
theorem ErR.eo {M N : MS} {l : Ev2} {o : Option (Nat × Nat)} (h : ErR M N l) (h52 : m_I M 52 = i_ 1) (hE : EO M o) (hl : ∀ e ∈ l, (1 ≤ e.1 ∧ e.1 < 10) ∧ e.2 < 1000) : EO N (mwl o l) := by
  refine hE.ml hl ?_
  have := h.2
  rw [if_neg (by rw [h52]; decide)] at this
  exact this
theorem evF_b {T : Nat → Nat} {n : Nat} {s : SP} {st : St} (hD : StD T n st) (hn : n ≤ 400) {l : List Nk} (hl : l ∈ allf st) (hp : ∀ x ∈ l, x.2.2.1 < n) : ∀ e ∈ evF s st l, (1 ≤ e.1 ∧ e.1 < 10) ∧ e.2 < 1000 := by
  have hx := hD.2.2.2.2.2.1 l hl
  intro e he
  obtain ⟨h1, -, -⟩ := evl_at (Q := fun q => q < 1000) ((l.map (rsv s st)).map (tt (tys s))) ([Lv0], []) (fun y hy y2 y4 => by
    obtain ⟨z, hz, rfl⟩ := List.mem_map.mp hy
    obtain ⟨x, hxl, rfl⟩ := List.mem_map.mp hz
    have hx6 := (hx x hxl).1.1
    have hpx := hp x hxl
    by_cases e : x.1 = 2
    · exact absurd ((tt_1 _ _).2 (by rcases ((res_ok s (frs st)) x).1 e with k | k; exact Or.inr (Or.inr (Or.inl k)); exact Or.inr (Or.inr (Or.inr k)))) y2
    · have e' : rsv s st x = (x.1, x.2.1, x.2.2.1) := ((res_ok s (frs st)) x).2 e
      rw [e'] at y2 y4 ⊢
      by_cases h35 : x.1 = 3 ∨ x.1 = 4 ∨ x.1 = 5
      · rw [(tt_1 _ _).1 h35]
        show x.2.2.1 < 1000
        omega
      · exact absurd ((tt_1 _ _).2 (show x.1 = 0 ∨ x.1 = 1 ∨ x.1 = 2 ∨ x.1 = 6 by omega)) y2) (fun x hx => by
    rw [List.mem_singleton] at hx
    subst hx
    exact ⟨fun k => absurd rfl k, show 0 < 1000 by decide⟩)
  rcases h1 e he with k | k | ⟨y, hy, k1, k2⟩
  · cases k
  · exact ⟨by omega, k.2⟩
  · obtain ⟨z, hz, rfl⟩ := List.mem_map.mp hy
    obtain ⟨x, hxl, rfl⟩ := List.mem_map.mp hz
    rw [tt_ev] at k2
    obtain ⟨p1, p2⟩ := pev_res k2
    have h5 := (hx x hxl).1.1
    refine ⟨by omega, ?_⟩
    rcases p2 with ⟨p2, p3⟩ | p2
    · obtain ⟨⟨-, -, q1⟩, -, -, q2⟩ := (hx x hxl).1.2.1 p2
      omega
    · omega
