/-! events at the least place are of one kind *-/
theorem pev_res {s : SP} {fs : List (List Nat × Nat)} {x : Nk} {e : Nat × Nat} (h : e ∈ pev (res s fs x)) : e.1 = 2 ∧ ((x.1 = 2 ∧ (e.2 = x.2.2.1 ∨ e.2 = x.2.1)) ∨ x.1 = 6) := by
  unfold pev at h
  split at h
  · rename_i hc
    rw [List.mem_singleton] at h
    subst h
    refine ⟨rfl, ?_⟩
    by_cases h2 : x.1 = 2
    · refine Or.inl ⟨h2, ?_⟩
      rcases res_cases (s := s) (fs := fs) h2 with e | e | e | ⟨k, q, c, -, -, -, e⟩
      · exact Or.inl (by rw [e])
      · exact Or.inl (by rw [e])
      · exact Or.inr (by rw [e])
      · exact Or.inl (by rw [e])
    · refine Or.inr ?_
      have := hc.1
      rw [((res_ok s fs) x).2 h2] at this
      exact this
  · cases h
theorem evF_c {T : Nat → Nat} {n : Nat} {s : SP} {st : St} (hD : StD T n st) {l : List Nk} (hl : l ∈ allf st) : (∀ e ∈ evF s st l, (e.1 = 2 ∧ ∃ x ∈ l, x.1 = 2 ∧ e ∈ pev (rsv s st x)) ∨ (e.1 = 3 ∧ ¬ NameAt T n e.2)) ∧ ∀ x ∈ l, ∀ e ∈ pev (rsv s st x), e ∈ evF s st l := by
  have hx := hD.2.2.2.2.2.1 l hl
  have hk : ∀ x ∈ l, x.1 = 2 ∨ x.1 ≠ 2 ∧ (rsv s st x) = (x.1, x.2.1, x.2.2.1) := fun x _ => by
    by_cases e : x.1 = 2
    · exact Or.inl e
    · exact Or.inr ⟨e, ((res_ok s (frs st)) x).2 e⟩
  obtain ⟨h1, h2, h3⟩ := evl_at (Q := fun q => ¬ NameAt T n q) ((l.map (rsv s st)).map (tt (tys s))) ([Lv0], []) (fun y hy y2 y4 => by
    obtain ⟨z, hz, rfl⟩ := List.mem_map.mp hy
    obtain ⟨x, hxl, rfl⟩ := List.mem_map.mp hz
    obtain ⟨g1, -, g3⟩ := (hx x hxl).1
    rcases hk x hxl with e | ⟨e, e'⟩
    · exact absurd ((tt_1 _ _).2 (by rcases ((res_ok s (frs st)) x).1 e with k | k; exact Or.inr (Or.inr (Or.inl k)); exact Or.inr (Or.inr (Or.inr k)))) y2
    · rw [e'] at y2 y4 ⊢
      by_cases h35 : x.1 = 3 ∨ x.1 = 5
      · rw [(tt_1 _ _).1 (by rcases h35 with h | h; exact Or.inl h; exact Or.inr (Or.inr h))]
        exact g3 h35
      · by_cases h4 : x.1 = 4
        · exact absurd (by rw [(tt_1 _ _).1 (Or.inr (Or.inl h4))]; exact h4) y4
        · exact absurd ((tt_1 _ _).2 (show x.1 = 0 ∨ x.1 = 1 ∨ x.1 = 2 ∨ x.1 = 6 by omega)) y2) (fun x hx => by
    rw [List.mem_singleton] at hx
    subst hx
    exact ⟨fun k => absurd rfl k, hD.1.2.2.1⟩)
  refine ⟨fun e he => ?_, fun x hxl e he => ?_⟩
  · rcases h1 e he with k | k | ⟨y, hy, k1, k2⟩
    · cases k
    · exact Or.inr k
    · obtain ⟨z, hz, rfl⟩ := List.mem_map.mp hy
      obtain ⟨x, hxl, rfl⟩ := List.mem_map.mp hz
      rw [tt_ev] at k2
      obtain ⟨p1, p2⟩ := pev_res k2
      have := (hx x hxl).1.1
      exact Or.inl ⟨p1, x, hxl, by omega, k2⟩
  · have hy : tt (tys s) (rsv s st x) ∈ (l.map (rsv s st)).map (tt (tys s)) := List.mem_map_of_mem (List.mem_map_of_mem hxl)
    have h2' : (tt (tys s) (rsv s st x)).1 = 2 := by
      obtain ⟨p1, p2⟩ := pev_res he
      have := (hx x hxl).1.1
      have hx2 : x.1 = 2 := by omega
      exact (tt_1 _ _).2 (by rcases ((res_ok s (frs st)) x).1 hx2 with k | k; exact Or.inr (Or.inr (Or.inl k)); exact Or.inr (Or.inr (Or.inr k)))
    exact h3 _ hy h2' e (by rw [tt_ev]; exact he)
theorem evD_m {ns : List (List Nat × Nat)} {e : Nat × Nat} : e ∈ evD ns ↔ ∃ i, i < ns.length ∧ dupk ns i = true ∧ e = (4, fpl ns i) := by
  unfold evD
  rw [List.mem_flatMap]
  refine ⟨fun ⟨i, h1, h2⟩ => ?_, fun ⟨i, h1, h2, h3⟩ => ⟨i, List.mem_range.mpr h1, by rw [if_pos h2]; exact List.mem_singleton.mpr h3⟩⟩
  rw [List.mem_range] at h1
  split at h2
  · rename_i hc
    exact ⟨i, h1, hc, List.mem_singleton.mp h2⟩
  · cases h2
theorem evX_m {s : SP} {fs : List (List Nat × Nat)} {e : Nat × Nat} : e ∈ evX s fs ↔ ∃ i, i < fs.length ∧ tnf s (fnm fs i) = none ∧ e = (2, fpl fs i) := by
  unfold evX
  rw [List.mem_flatMap]
  refine ⟨fun ⟨i, h1, h2⟩ => ?_, fun ⟨i, h1, h2, h3⟩ => ⟨i, List.mem_range.mpr h1, by rw [if_pos h2]; exact List.mem_singleton.mpr h3⟩⟩
  rw [List.mem_range] at h1
  split at h2
  · rename_i hc
    exact ⟨i, h1, hc, List.mem_singleton.mp h2⟩
  · cases h2
theorem evW_m {s : SP} {st : St} {e : Nat × Nat} (h : e ∈ evW s st) : ∃ w, whr st = some w ∧ e = (3, w.2.1.2) := by
  unfold evW at h
  cases hw : whr st with
  | none =>
    rw [hw] at h
    cases h
  | some w =>
    rw [hw] at h
    have h' : e ∈ (if ¬ tyF s st w.1.2 = 0 ∧ ¬ tyF s st w.2.2.2 = 0 ∧ ¬ tyF s st w.1.2 = tyF s st w.2.2.2 then [(3, w.2.1.2)] else []) := h
    split at h'
    · exact ⟨w, rfl, List.mem_singleton.mp h'⟩
    · cases h'
theorem evA_c {T : Nat → Nat} {n : Nat} {s : SP} {st : St} (hD : StD T n st) {e : Nat × Nat} (h : e ∈ evA s st) :
    (e.1 = 4 ∧ NameAt T n e.2 ∧ (e.2 = st.1.2.2 ∨ (∃ c ∈ cns st, e.2 = c.2) ∨ ∃ i, i < (frs st).length ∧ dupk (frs st) i = true ∧ e.2 = fpl (frs st) i)) ∨
    (e.1 = 2 ∧ NameAt T n e.2 ∧ ((∃ j, j < (frs st).length ∧ tnf s (fnm (frs st) j) = none ∧ e.2 = fpl (frs st) j) ∨ ∃ l ∈ allf st, ∃ x ∈ l, x.1 = 2 ∧ (e.2 = x.2.2.1 ∨ e.2 = x.2.1))) ∨ (e.1 = 3 ∧ ¬ NameAt T n e.2) := by
  unfold evA at h
  rcases List.mem_append.mp h with h | h
  · unfold evN at h
    split at h
    · cases h
    · rw [List.mem_singleton] at h
      subst h
      exact Or.inl ⟨rfl, hD.1.1, Or.inl rfl⟩
  · rcases List.mem_append.mp h with h | h
    · obtain ⟨i, h1, h2, rfl⟩ := evD_m.mp h
      have hm := fs_mem h1
      exact Or.inl ⟨rfl, (hD.2.1 _ hm).1, Or.inr (Or.inl ⟨_, hm, rfl⟩)⟩
    · rcases List.mem_append.mp h with h | h
      · obtain ⟨i, h1, h2, rfl⟩ := evD_m.mp h
        have hm := fs_mem h1
        exact Or.inl ⟨rfl, (hD.2.2.1 _ hm).1, Or.inr (Or.inr ⟨i, h1, h2, rfl⟩)⟩
      · rcases List.mem_append.mp h with h | h
        · obtain ⟨i, h1, h2, rfl⟩ := evX_m.mp h
          have hm := fs_mem h1
          exact Or.inr (Or.inl ⟨rfl, (hD.2.2.1 _ hm).1, Or.inl ⟨i, h1, h2, rfl⟩⟩)
        · rcases List.mem_append.mp h with h | h
          · obtain ⟨l, hl, he⟩ := List.mem_flatMap.mp h
            rcases (evF_c hD hl).1 e he with ⟨k1, x, hx, h2, k2⟩ | k
            · obtain ⟨-, p2⟩ := pev_res k2
              have p3 : e.2 = x.2.2.1 ∨ e.2 = x.2.1 := by
                rcases p2 with p2 | p2
                · exact p2.2
                · omega
              obtain ⟨⟨n1, -⟩, n2, -⟩ := (hD.2.2.2.2.2.1 l hl x hx).1.2.1 h2
              exact Or.inr (Or.inl ⟨k1, by rcases p3 with p | p <;> rw [p] <;> assumption, Or.inr ⟨l, hl, x, hx, h2, p3⟩⟩)
            · exact Or.inr (Or.inr k)
          · obtain ⟨w, hw, rfl⟩ := evW_m h
            exact Or.inr (Or.inr ⟨rfl, hD.2.2.2.2.2.2.1 w hw⟩)
theorem evA_u {T : Nat → Nat} {n : Nat} {s : SP} {st : St} (hD : StD T n st) : ∀ e ∈ evA s st, ∀ e' ∈ evA s st, e.2 = e'.2 → (∀ x ∈ evA s st, e.2 ≤ x.2) → e = e' := by
  have key : ∀ e ∈ evA s st, ∀ e' ∈ evA s st, e.1 = 4 → e'.1 = 2 → e.2 = e'.2 → (∀ x ∈ evA s st, e.2 ≤ x.2) → False := by
    intro e he e' he' h4 h2 heq hmin
    have hc : e.2 = st.1.2.2 ∨ (∃ c ∈ cns st, e.2 = c.2) ∨ ∃ i, i < (frs st).length ∧ dupk (frs st) i = true ∧ e.2 = fpl (frs st) i := by
      rcases evA_c hD he with k | k | k
      · exact k.2.2
      · omega
      · omega
    have hc' : (∃ j, j < (frs st).length ∧ tnf s (fnm (frs st) j) = none ∧ e'.2 = fpl (frs st) j) ∨ ∃ l ∈ allf st, ∃ x ∈ l, x.1 = 2 ∧ (e'.2 = x.2.2.1 ∨ e'.2 = x.2.1) := by
      rcases evA_c hD he' with k | k | k
      · omega
      · exact k.2.2
      · omega
    obtain ⟨d1, d2, d3, d4, d5, d6, d7, d8⟩ := hD
    rcases hc with hc | ⟨c, hc, hcp⟩ | ⟨i, hi, hdup, hip⟩
    · rcases hc' with ⟨j, hj, -, hjp⟩ | ⟨l, hl, x, hx, hx2, hxp⟩
      · have h9 : st.1.2.2 < fpl (frs st) j := (d3 _ (fs_mem hj)).2.1
        omega
      · obtain ⟨⟨-, q1, -⟩, -, q2, -⟩ := (d6 l hl x hx).1.2.1 hx2
        omega
    · rcases hc' with ⟨j, hj, -, hjp⟩ | ⟨l, hl, x, hx, hx2, hxp⟩
      · have h9 : c.2 < fpl (frs st) j := d5 c hc _ (fs_mem hj)
        omega
      · obtain ⟨q1, q2⟩ := ((d6 l hl x hx).2 hx2).1 c hc
        omega
    · rcases hc' with ⟨j, hj, hnone, hjp⟩ | ⟨l, hl, x, hx, hx2, hxp⟩
      · have hij : i = j := by
          rcases Nat.lt_trichotomy i j with h | h | h
          · have := d4 i j h hj
            omega
          · exact h
          · have := d4 j i h hi
            omega
        subst hij
        unfold dupk at hdup
        rw [List.any_eq_true] at hdup
        obtain ⟨k, hk, hkn⟩ := hdup
        rw [List.mem_range] at hk
        rw [decide_eq_true_eq] at hkn
        have hev : (2, fpl (frs st) k) ∈ evA s st := by
          unfold evA
          refine List.mem_append_right _ (List.mem_append_right _ (List.mem_append_right _ (List.mem_append_left _ (evX_m.mpr ⟨k, by omega, by rw [hkn]; exact hnone, rfl⟩))))
        have h8 : e.2 ≤ fpl (frs st) k := hmin _ hev
        have h9 := d4 k i hk hi
        omega
      · obtain ⟨q1, q2⟩ : fpl (frs st) i ≠ x.2.2.1 ∧ fpl (frs st) i ≠ x.2.1 := ((d6 l hl x hx).2 hx2).2 _ (fs_mem hi)
        omega
  intro e he e' he' heq hmin
  refine Prod.ext ?_ heq
  have hmin' : ∀ x ∈ evA s st, e'.2 ≤ x.2 := fun x hx => by
    have := hmin x hx
    omega
  rcases evA_c hD he with ⟨k1, k2, -⟩ | ⟨k1, k2, -⟩ | ⟨k1, k2⟩
  · rcases evA_c hD he' with ⟨k3, k4, -⟩ | ⟨k3, k4, -⟩ | ⟨k3, k4⟩
    · omega
    · exact (key e he e' he' k1 k3 heq hmin).elim
    · rw [heq] at k2
      exact absurd k2 k4
  · rcases evA_c hD he' with ⟨k3, k4, -⟩ | ⟨k3, k4, -⟩ | ⟨k3, k4⟩
    · exact (key e' he' e he k3 k1 heq.symm hmin').elim
    · omega
    · rw [heq] at k2
      exact absurd k2 k4
  · rcases evA_c hD he' with ⟨k3, k4, -⟩ | ⟨k3, k4, -⟩ | ⟨k3, k4⟩
    · rw [heq] at k2
      exact absurd k4 k2
    · rw [heq] at k2
      exact absurd k4 k2
    · omega
/-- any list of the same events tells the same -/
theorem evA_mw {T : Nat → Nat} {n : Nat} {s : SP} {st : St} (hD : StD T n st) {l : Ev2} (h : ∀ e, e ∈ evA s st ↔ e ∈ l) : mwl none l = mwl none (evA s st) := (mwl_eq h (evA_u hD)).symm
theorem evA_nil {s : SP} {st : St} (h : mwl none (evA s st) = none) : evA s st = [] := by
  by_cases e : evA s st = []
  · exact e
  · obtain ⟨c, c1, -⟩ := mwl_none e
    rw [c1] at h
    cases h
