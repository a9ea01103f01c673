/-! the reference's act, whole *-/
def RM (M : MS) (s : SP) : Prop := RMa M s ∧ RMk M s ∧ RMo M s ∧ RMd M s ∧ RMw M ∧ RMn M s ∧ RMf M s ∧ RMx M s
theorem FT.sp {M : MS} {s s' : SP} {t : Nat} (h : ∀ k x k', FT1 M s t k x k' → FT1 M s' t k x k') : ∀ {l : List Tk} {k k' : Nat}, FT M s t k l k' → FT M s' t k l k'
  | [], _, _, h' => h'
  | x :: l, k, k', ⟨k1, h1, h2, h3⟩ => ⟨k1, h _ _ _ h1, h2, FT.sp h h3⟩
theorem RMf.sp {M : MS} {s s' : SP} (h : RMf M s) (e : z_n s' = z_n s ∧ z_th s' = z_th s ∧ z_so s' = z_so s ∧ z_nc s' = z_nc s ∧ z_hw s' = z_hw s ∧ z_fo s' = z_fo s) (e2 : ∀ t k x k', t < z_n s → z_th s t = true → made s t = true → FT1 M s t k x k' → FT1 M s' t k x k') : RMf M s' := by
  obtain ⟨a1, a2, a3, a4, a5, a6⟩ := e
  intro t ht hth hm
  have hm' : made s t = true := by
    unfold made at hm ⊢
    rw [a3] at hm
    exact hm
  rw [a1] at ht
  rw [a2] at hth
  obtain ⟨h1, h2⟩ := h t ht hth hm'
  have hF : ∀ c, FF M s t c → FF M s' t c := fun c hc => by
    obtain ⟨k, k', b1, b2, b3, b4, b5⟩ := hc
    exact ⟨k, k', b1, b2, b3, b4, by rw [a6]; exact b5.sp (fun k x k' q => e2 t k x k' ht hth hm' q)⟩
  refine ⟨fun c hc => hF c (h1 c (by rw [← a4]; exact hc)), ?_⟩
  rw [a5]
  by_cases q : z_hw s t = true
  · rw [if_pos q] at h2 ⊢
    exact ⟨hF 6 h2.1, hF 7 h2.2⟩
  · rw [if_neg q] at h2 ⊢
    exact h2
theorem RM.flt {M N : MS} {s : SP} {k p : Nat} {v : Int32} (h : RM M s) (g : Gr kaA kbA kiA (z_n s) M N) (h22 : m_I N 22 = i_ 0) (h27 : m_I N 27 = i_ k) (h28 : m_I N 28 = v) (h52 : m_I N 52 = 0) (hv : v = i_ p) : RM N (flt_s s k p) := by
  obtain ⟨h1, h2, h3, h4, h5, h6, h7, h8⟩ := h
  subst hv
  refine ⟨h1.gr g (by decide), ?_, ?_, ⟨⟨?_, h27, h28⟩, ⟨h22, Nat.zero_le _⟩, fun k hk => absurd hk (Nat.not_lt_zero k)⟩, ⟨?_, h52, ?_⟩, h6.gr h1 g, (h7.gr h1 g).sp ⟨rfl, rfl, rfl, rfl, rfl, rfl⟩ (fun _ _ _ _ _ _ _ q => q), h8.gr g⟩
  · unfold RMk
    rw [g.2.2.2.2.1 59 (by decide), g.1 61 (by decide), g.1 62 (by decide), g.1 63 (by decide)]
    exact h2
  · unfold RMo
    rw [g.2.2.2.2.1 57 (by decide), g.1 58 (by decide)]
    exact h3
  · rw [g.2.2.2.2.1 64 (by decide)]
    exact h4.1.1
  · rw [g.2.2.2.2.1 65 (by decide)]
    exact h5.1
  · rw [g.2.2.2.2.2 33 (by decide), g.2.2.2.2.2 34 (by decide), g.2.2.2.2.2 35 (by decide), g.2.2.2.2.2 36 (by decide), g.2.2.2.2.2 37 (by decide), g.2.2.2.2.2 38 (by decide), g.2.2.2.2.2 39 (by decide)]
    exact h5.2.2
/-- nothing is wrong: what a statement's names come to *-/
theorem evA_0 {s : SP} {st : St} {T : Nat → Nat} {n : Nat} (hD : StD T n st) (h : evA s st = []) : tnf s st.1.2.1 = none ∧ (∀ i, i < (cns st).length → dupk (cns st) i = false) ∧ (∀ i, i < (frs st).length → dupk (frs st) i = false ∧ ∃ q, tnf s (fnm (frs st) i) = some q) ∧ (∀ l ∈ allf st, evF s st l = [] ∧ ∀ x ∈ l, x.1 = 2 → ∃ k q c, cnf (fnm (frs st)) x.2.2.2.1 0 (frs st).length = some k ∧ tnf s (fnm (frs st) k) = some q ∧ cnf (z_cn s q) x.2.2.2.2 0 (z_nc s q) = some c ∧ rsv s st x = (2, 8 * q + c, x.2.2.1)) ∧ evW s st = [] := by
  have hno : ∀ e, e ∉ evA s st := fun e he => by rw [h] at he; cases he
  unfold evA at hno
  have e1 : tnf s st.1.2.1 = none := by
    cases hq : tnf s st.1.2.1 with
    | none => rfl
    | some q =>
      refine absurd (List.mem_append_left _ ?_) (hno (4, st.1.2.2))
      unfold evN
      rw [hq, if_neg (fun k => by cases k)]
      exact List.mem_singleton.mpr rfl
  have e3 : ∀ i, i < (frs st).length → ∃ q, tnf s (fnm (frs st) i) = some q := fun i hi => by
    cases hq : tnf s (fnm (frs st) i) with
    | some q => exact ⟨q, rfl⟩
    | none => exact absurd (List.mem_append_right _ (List.mem_append_right _ (List.mem_append_right _ (List.mem_append_left _ (evX_m.mpr ⟨i, hi, hq, rfl⟩))))) (hno (2, fpl (frs st) i))
  refine ⟨e1, fun i hi => ?_, fun i hi => ⟨?_, e3 i hi⟩, fun l hl => ⟨?_, fun x hx h2 => ?_⟩, ?_⟩
  · cases hd : dupk (cns st) i with
    | false => rfl
    | true => exact absurd (List.mem_append_right _ (List.mem_append_left _ (evD_m.mpr ⟨i, hi, hd, rfl⟩))) (hno (4, fpl (cns st) i))
  · cases hd : dupk (frs st) i with
    | false => rfl
    | true => exact absurd (List.mem_append_right _ (List.mem_append_right _ (List.mem_append_left _ (evD_m.mpr ⟨i, hi, hd, rfl⟩)))) (hno (4, fpl (frs st) i))
  · refine List.eq_nil_iff_forall_not_mem.mpr fun e he => ?_
    exact hno e (List.mem_append_right _ (List.mem_append_right _ (List.mem_append_right _ (List.mem_append_right _ (List.mem_append_left _ (List.mem_flatMap.mpr ⟨l, hl, he⟩))))))
  · have hpe : ∀ e, e ∉ pev (rsv s st x) := fun e he => hno e (List.mem_append_right _ (List.mem_append_right _ (List.mem_append_right _ (List.mem_append_right _ (List.mem_append_left _ (List.mem_flatMap.mpr ⟨l, hl, (evF_c hD hl).2 x hx e he⟩))))))
    rcases res_cases (s := s) (fs := frs st) h2 with e | e | e | ⟨k, q, c, q1, q2, q3, q4⟩
    · exact absurd (by unfold pev rsv; rw [e, if_pos ⟨rfl, rfl⟩]; exact List.mem_singleton.mpr rfl) (hpe (2, x.2.2.1))
    · cases hk : cnf (fnm (frs st)) x.2.2.2.1 0 (frs st).length with
      | none =>
        unfold res at e
        rw [if_pos h2, hk] at e
        cases e
      | some k =>
        obtain ⟨q, hq⟩ := e3 k (by have := (cnf_some _ _ _ hk).2.1; omega)
        unfold res at e
        rw [if_pos h2, hk] at e
        simp only [hq] at e
        split at e <;> cases e
    · exact absurd (by unfold pev rsv; rw [e, if_pos ⟨rfl, rfl⟩]; exact List.mem_singleton.mpr rfl) (hpe (2, x.2.1))
    · exact ⟨k, q, c, q1, q2, q3, q4⟩
  · refine List.eq_nil_iff_forall_not_mem.mpr fun e he => ?_
    exact hno e (List.mem_append_right _ (List.mem_append_right _ (List.mem_append_right _ (List.mem_append_right _ (List.mem_append_right _ he)))))
/-- a formula of the new table lies where it was read *-/
theorem M_ft {t n : Nat} {T : Nat → Nat} {s s' : SP} {st : St} {ks : List Rk} {M : MS} (hK : TK M t ks) (hX : TXT M t n T) (hn : n ≤ 400) (hB : ∀ y ∈ ks, BT T n y ∧ y.2.1 < n) (hts : t = z_n s) (hnc : ∀ q, q < t → z_nc s' q = z_nc s q ∧ z_nc s q ≤ 6 ∧ z_nm s' q = z_nm s q ∧ z_cn s' q = z_cn s q) (hfr : ∀ k q, k < (frs st).length → tnf s (fnm (frs st) k) = some q → ∃ j, j < z_nb s' t ∧ z_fr s' t j = q) :
    ∀ {l : List Nk} {a : Nat} {k : List Rk}, (∀ x ∈ l, x.2.2.1 < n) → (∀ x ∈ l, x.1 = 2 → ∃ k q c, cnf (fnm (frs st)) x.2.2.2.1 0 (frs st).length = some k ∧ tnf s (fnm (frs st) k) = some q ∧ cnf (z_cn s q) x.2.2.2.2 0 (z_nc s q) = some c ∧ rsv s st x = (2, 8 * q + c, x.2.2.1)) → Sg ks a k → SpR l k → FT M s' t a (l.map (rsv s st)) (a + k.length)
  | [], a, k, _, _, hs, h => by
    have e : k = [] := h
    subst e
    exact rfl
  | x :: l, a, k, hpl, hr, hs, ⟨k1, k2, hk, h1, h2⟩ => by
    subst hk
    obtain ⟨s1, s2⟩ := hs.left
    have hx0 : x.1 ≠ 2 → rsv s st x = (x.1, x.2.1, x.2.2.1) := fun q => (res_ok s (frs st) x).2 q
    have hpx := hpl x List.mem_cons_self
    refine ⟨a + k1.length, ?_, ?_, ?_⟩
    · rcases h1 with ⟨h1, b, rfl⟩ | ⟨h1, b, rfl⟩ | ⟨h1, o, ⟨hw1, hw2⟩, rfl⟩ | ⟨h1, o, w, hw, rfl⟩ | ⟨h1, o, rfl⟩ | ⟨h1, h2, rfl⟩
      · obtain ⟨⟨r1, r2, r3⟩, -⟩ := hK.row s1 (i := 0) (Nat.succ_pos _)
        rw [hx0 (by omega)]
        exact Or.inl ⟨h1, r1, rfl⟩
      · obtain ⟨⟨r1, r2, r3⟩, -⟩ := hK.row s1 (i := 0) (Nat.succ_pos _)
        rw [hx0 (by omega)]
        exact Or.inr (Or.inl ⟨h1, r1, rfl⟩)
      · obtain ⟨r0, -⟩ := hK.row s1 (i := 0) (Nat.succ_pos _)
        obtain ⟨r1, -⟩ := hK.row s1 (i := 1) (show 1 < 3 by decide)
        obtain ⟨r2, l2⟩ := hK.row s1 (i := 2) (show 2 < 3 by decide)
        have r0' : TR M t a (1, x.2.2.1, x.2.2.2.1) := r0
        have r2' : TR M t (a + 2) (1, x.2.1, x.2.2.2.2) := r2
        obtain ⟨b1, -⟩ := hB _ (s1.mem (show (1, x.2.2.1, x.2.2.2.1) ∈ _ from List.mem_cons_self))
        obtain ⟨b2, -⟩ := hB _ (s1.mem (show (1, x.2.1, x.2.2.2.2) ∈ _ from List.mem_cons_of_mem _ (List.mem_cons_of_mem _ List.mem_cons_self)))
        obtain ⟨j, q, c, e1, e2, e3, e4⟩ := hr x List.mem_cons_self h1
        have hq := tnf_some e2
        have hj := cnf_some _ _ _ e1
        have hc := cnf_some _ _ _ e3
        obtain ⟨n1, n2, n3, n4⟩ := hnc q (by omega)
        rw [e4]
        refine Or.inr (Or.inr (Or.inl ⟨rfl, r0'.1, r1.1, rfl, q, c, rfl, by omega, by omega, by omega, hfr j q (by omega) e2, ?_, ?_⟩))
        · rw [n3, hq.2.2, hj.2.2]
          exact Wd_.tk hX r0' b1 hn hw1
        · rw [n4, hc.2.2]
          exact Wd_.tk hX r2' b2 hn hw2
      · obtain ⟨r0, -⟩ := hK.row s1 (i := 0) (Nat.succ_pos _)
        obtain ⟨r1, -⟩ := hK.row s1 (i := 1) (show 1 < 2 by decide)
        have r0' : TR M t a (1, x.2.2.1, w) := r0
        obtain ⟨b1, -⟩ := hB _ (s1.mem (show (1, x.2.2.1, w) ∈ _ from List.mem_cons_self))
        have hw' : nmok w := by
          rcases hw with ⟨-, rfl⟩ | ⟨-, rfl⟩
          · exact ⟨by decide, by unfold isL; decide⟩
          · exact ⟨by decide, by unfold isL; decide⟩
        have hW := Wd_.tk hX r0' b1 hn hw'
        rw [hx0 (by omega)]
        refine Or.inr (Or.inr (Or.inr (Or.inl ⟨h1, r0'.1, r1.1, rfl, r0'.2.1, ?_⟩)))
        rcases hw with ⟨e, rfl⟩ | ⟨e, rfl⟩
        · exact Or.inl ⟨e, hW⟩
        · exact Or.inr ⟨e, hW⟩
      · obtain ⟨⟨r1, r2, r3⟩, -⟩ := hK.row s1 (i := 0) (Nat.succ_pos _)
        rw [hx0 (by omega)]
        exact Or.inr (Or.inr (Or.inr (Or.inr (Or.inl ⟨h1, r1, rfl⟩))))
      · obtain ⟨⟨r1, r2, r3⟩, -⟩ := hK.row s1 (i := 0) (Nat.succ_pos _)
        rw [hx0 (by omega)]
        exact Or.inr (Or.inr (Or.inr (Or.inr (Or.inr ⟨h1, r1, h2, r2, rfl⟩))))
    · by_cases e : x.1 = 2
      · obtain ⟨j, q, c, e1, e2, e3, e4⟩ := hr x List.mem_cons_self e
        rw [e4]
        show x.2.2.1 < 400
        omega
      · rw [hx0 e]
        show x.2.2.1 < 400
        omega
    · rw [List.length_append, ← Nat.add_assoc]
      exact M_ft hK hX hn hB hts hnc hfr (fun y hy => hpl y (List.mem_cons_of_mem _ hy)) (fun y hy => hr y (List.mem_cons_of_mem _ hy)) s2 h2
