/-! events of a statement: the least place counts *-/
def mw1 (o : Option (Nat × Nat)) (e : Nat × Nat) : Option (Nat × Nat) := match o with
  | none => some e
  | some b => if e.2 < b.2 then some e else some b
def mwl (o : Option (Nat × Nat)) (l : Ev2) : Option (Nat × Nat) := l.foldl mw1 o
theorem mwl_app (o : Option (Nat × Nat)) (l k : Ev2) : mwl o (l ++ k) = mwl (mwl o l) k := List.foldl_append ..
theorem mwl_some : ∀ (l : Ev2) (b : Nat × Nat), ∃ c, mwl (some b) l = some c ∧ (c = b ∨ c ∈ l) ∧ c.2 ≤ b.2 ∧ ∀ e ∈ l, c.2 ≤ e.2
  | [], b => ⟨b, rfl, Or.inl rfl, Nat.le_refl _, fun e h => by cases h⟩
  | x :: l, b => by
    show ∃ c, mwl (if x.2 < b.2 then some x else some b) l = some c ∧ _
    by_cases h : x.2 < b.2
    · rw [if_pos h]
      obtain ⟨c, c1, c2, c3, c4⟩ := mwl_some l x
      refine ⟨c, c1, Or.inr ?_, by omega, fun e he => ?_⟩
      · rcases c2 with rfl | c2
        · exact List.mem_cons_self
        · exact List.mem_cons_of_mem _ c2
      · rcases List.mem_cons.mp he with rfl | he
        · exact c3
        · exact c4 e he
    · rw [if_neg h]
      obtain ⟨c, c1, c2, c3, c4⟩ := mwl_some l b
      refine ⟨c, c1, ?_, c3, fun e he => ?_⟩
      · rcases c2 with c2 | c2
        · exact Or.inl c2
        · exact Or.inr (List.mem_cons_of_mem _ c2)
      · rcases List.mem_cons.mp he with rfl | he
        · omega
        · exact c4 e he
theorem mwl_none {l : Ev2} (h : l ≠ []) : ∃ c, mwl none l = some c ∧ c ∈ l ∧ ∀ e ∈ l, c.2 ≤ e.2 := by
  cases l with
  | nil => exact absurd rfl h
  | cons x l =>
    obtain ⟨c, c1, c2, c3, c4⟩ := mwl_some l x
    refine ⟨c, c1, ?_, fun e he => ?_⟩
    · rcases c2 with rfl | c2
      · exact List.mem_cons_self
      · exact List.mem_cons_of_mem _ c2
    · rcases List.mem_cons.mp he with rfl | he
      · exact c3
      · exact c4 e he
theorem mwl_eq {l l' : Ev2} (hm : ∀ e, e ∈ l ↔ e ∈ l') (hu : ∀ e ∈ l, ∀ e' ∈ l, e.2 = e'.2 → (∀ x ∈ l, e.2 ≤ x.2) → e = e') : mwl none l = mwl none l' := by
  by_cases h : l = []
  · subst h
    have : l' = [] := List.eq_nil_iff_forall_not_mem.mpr fun e he => by
      have := (hm e).mpr he
      cases this
    rw [this]
  · have h' : l' ≠ [] := by
      obtain ⟨x, hx⟩ := List.exists_mem_of_ne_nil l h
      exact List.ne_nil_of_mem ((hm x).mp hx)
    obtain ⟨c, c1, c2, c3⟩ := mwl_none h
    obtain ⟨d, d1, d2, d3⟩ := mwl_none h'
    rw [c1, d1]
    have d2' := (hm d).mpr d2
    have e1 := c3 d d2'
    have e2 := d3 c ((hm c).mp c2)
    rw [hu c c2 d d2' (by omega) c3]
/-- events of a run of the machine -/
def LvQ (Q : Nat → Prop) (x : Lv) : Prop := (x.2.1 ≠ 0 → Q x.2.2.1) ∧ Q x.2.2.2.2
theorem cm_at {Q : Nat → Prop} {v : Nat} {σ : List Lv × Ev2} (h : ∀ x ∈ σ.1, LvQ Q x) : (∀ x ∈ (cm v σ).1, LvQ Q x) ∧ (∀ e ∈ (cm v σ).2, e ∈ σ.2 ∨ (e.1 = 3 ∧ Q e.2)) ∧ ∀ e ∈ σ.2, e ∈ (cm v σ).2 := by
  obtain ⟨st, es⟩ := σ
  cases st with
  | nil => exact ⟨h, fun e he => Or.inl he, fun e he => he⟩
  | cons x st =>
    have hx := h x List.mem_cons_self
    refine ⟨fun y hy => ?_, fun e he => ?_, fun e he => List.mem_append_left _ he⟩
    · have hy' : y ∈ cmL v x :: st := hy
      rcases List.mem_cons.mp hy' with rfl | hy'
      · unfold cmL
        by_cases e : x.2.1 = 0
        · rw [if_pos e]
          exact ⟨fun k => absurd rfl k, hx.2⟩
        · rw [if_neg e]
          exact ⟨fun k => absurd rfl k, hx.2⟩
      · exact h y (List.mem_cons_of_mem _ hy')
    · have he' : e ∈ es ++ cmE v x := he
      rcases List.mem_append.mp he' with he' | he'
      · exact Or.inl he'
      · unfold cmE at he'
        split at he'
        · rename_i hc
          rw [List.mem_singleton] at he'
          subst he'
          exact Or.inr ⟨rfl, hx.1 hc.1⟩
        · cases he'
theorem ev1_at {Q : Nat → Prop} {y : Tt} {σ : List Lv × Ev2} (hy : ¬ y.1 = 2 → ¬ y.1 = 4 → Q y.2.2.1) (h : ∀ x ∈ σ.1, LvQ Q x) : (∀ x ∈ (ev1 y σ).1, LvQ Q x) ∧ (∀ e ∈ (ev1 y σ).2, e ∈ σ.2 ∨ (e.1 = 3 ∧ Q e.2) ∨ (y.1 = 2 ∧ e ∈ y.2.2.2)) ∧ (∀ e ∈ σ.2, e ∈ (ev1 y σ).2) ∧ (y.1 = 2 → ∀ e ∈ y.2.2.2, e ∈ (ev1 y σ).2) := by
  unfold ev1
  by_cases h2 : y.1 = 2
  · rw [if_pos h2]
    obtain ⟨c1, c2, c3⟩ := cm_at (v := y.2.1) (σ := (σ.1, σ.2 ++ y.2.2.2)) h
    refine ⟨c1, fun e he => ?_, fun e he => c3 e (List.mem_append_left _ he), fun _ e he => c3 e (List.mem_append_right _ he)⟩
    rcases c2 e he with k | k
    · rcases List.mem_append.mp k with k | k
      · exact Or.inl k
      · exact Or.inr (Or.inr ⟨h2, k⟩)
    · exact Or.inr (Or.inl k)
  · rw [if_neg h2]
    by_cases h3 : y.1 = 3
    · rw [if_pos h3]
      refine ⟨fun x hx => ?_, fun e he => Or.inl he, fun e he => he, fun k => absurd k h2⟩
      rcases List.mem_cons.mp hx with rfl | hx
      · exact ⟨fun k => absurd rfl k, hy h2 (by omega)⟩
      · exact h x hx
    · rw [if_neg h3]
      by_cases h4 : y.1 = 4
      · rw [if_pos h4]
        obtain ⟨st, es⟩ := σ
        cases st with
        | nil => exact ⟨h, fun e he => Or.inl he, fun e he => he, fun k => absurd k h2⟩
        | cons x st =>
          have hx := h x List.mem_cons_self
          obtain ⟨c1, c2, c3⟩ := cm_at (Q := Q) (v := if x.2.2.2.1 = 116 then 110 else 116) (σ := (st, es ++ (if ¬ x.1 = 0 ∧ ¬ x.1 = x.2.2.2.1 then [(3, x.2.2.2.2)] else []))) (fun z hz => h z (List.mem_cons_of_mem _ hz))
          refine ⟨c1, fun e he => ?_, fun e he => c3 e (List.mem_append_left _ he), fun k => absurd k h2⟩
          rcases c2 e he with k | k
          · rcases List.mem_append.mp k with k | k
            · exact Or.inl k
            · split at k
              · rw [List.mem_singleton] at k
                subst k
                exact Or.inr (Or.inl ⟨rfl, hx.2⟩)
              · cases k
          · exact Or.inr (Or.inl k)
      · rw [if_neg h4]
        obtain ⟨st, es⟩ := σ
        cases st with
        | nil => exact ⟨h, fun e he => Or.inl he, fun e he => he, fun k => absurd k h2⟩
        | cons x st =>
          have hx := h x List.mem_cons_self
          refine ⟨fun z hz => ?_, fun e he => Or.inl he, fun e he => he, fun k => absurd k h2⟩
          rcases List.mem_cons.mp hz with rfl | hz
          · exact ⟨fun _ => hy h2 h4, hx.2⟩
          · exact h z (List.mem_cons_of_mem _ hz)
theorem evl_at {Q : Nat → Prop} : ∀ (l : List Tt) (σ : List Lv × Ev2), (∀ y ∈ l, ¬ y.1 = 2 → ¬ y.1 = 4 → Q y.2.2.1) → (∀ x ∈ σ.1, LvQ Q x) → (∀ e ∈ (evl l σ).2, e ∈ σ.2 ∨ (e.1 = 3 ∧ Q e.2) ∨ ∃ y ∈ l, y.1 = 2 ∧ e ∈ y.2.2.2) ∧ (∀ e ∈ σ.2, e ∈ (evl l σ).2) ∧ ∀ y ∈ l, y.1 = 2 → ∀ e ∈ y.2.2.2, e ∈ (evl l σ).2
  | [], σ, _, _ => ⟨fun e he => Or.inl he, fun e he => he, fun y hy => by cases hy⟩
  | y :: l, σ, hy, h => by
    rw [evl_cons]
    obtain ⟨c1, c2, c3, c4⟩ := ev1_at (hy y List.mem_cons_self) h
    obtain ⟨d1, d2, d3⟩ := evl_at l (ev1 y σ) (fun z hz => hy z (List.mem_cons_of_mem _ hz)) c1
    refine ⟨fun e he => ?_, fun e he => d2 e (c3 e he), fun z hz h2 e he => ?_⟩
    · rcases d1 e he with k | k | ⟨z, k1, k2⟩
      · rcases c2 e k with k | k | k
        · exact Or.inl k
        · exact Or.inr (Or.inl k)
        · exact Or.inr (Or.inr ⟨y, List.mem_cons_self, k⟩)
      · exact Or.inr (Or.inl k)
      · exact Or.inr (Or.inr ⟨z, List.mem_cons_of_mem _ k1, k2⟩)
    · rcases List.mem_cons.mp hz with rfl | hz
      · exact d2 e (c4 h2 e he)
      · exact d3 z hz h2 e he
/-- a name that is no word of the language stands at a place -/
def NameAt (T : Nat → Nat) (n q : Nat) : Prop := q < n ∧ isLb (T q) = true ∧ sl T q (lw T n q) ∉ kwl
theorem pname_At {T : Nat → Nat} {n p q e : Nat} {w : List Nat} (h : pname T n p = .inr (w, q, e)) : NameAt T n q ∧ p ≤ q ∧ q < e ∧ e ≤ n := by
  obtain ⟨-, h2, h3, h4, h5, h6, -⟩ := pname_r h
  exact ⟨⟨by omega, h4, by rw [← h2, ← h3]; exact h6⟩, h5.1, h5.2.1, h5.2.2.1⟩
theorem kw_At {T : Nat → Nat} {n q : Nat} {w : List Nat} (h : sl T q (lw T n q) = w) (hw : w ∈ kwl) : ¬ NameAt T n q := fun k => k.2.2 (by rw [h]; exact hw)
theorem sg_At {T : Nat → Nat} {n q c : Nat} (h : chp T n q = c) (hc : isLb c = false) (h2 : c ≠ 256) : ¬ NameAt T n q := fun k => by
  have := k.2.1
  rw [(chp_c h h2).2, hc] at this
  cases this
/-- where names of a formula stand -/
def NkAt (T : Nat → Nat) (n p p' : Nat) (x : Nk) : Prop := x.1 ≤ 5 ∧ (x.1 = 2 → (NameAt T n x.2.2.1 ∧ p ≤ x.2.2.1 ∧ x.2.2.1 < p') ∧ NameAt T n x.2.1 ∧ p ≤ x.2.1 ∧ x.2.1 < p') ∧ (x.1 = 3 ∨ x.1 = 5 → ¬ NameAt T n x.2.2.1)
theorem NkAt.mono {T : Nat → Nat} {n p p' q q' : Nat} {x : Nk} (h : NkAt T n p p' x) (h1 : q ≤ p) (h2 : p' ≤ q') : NkAt T n q q' x :=
  ⟨h.1, fun k => by obtain ⟨⟨a, b, c⟩, d, e, f⟩ := h.2.1 k; exact ⟨⟨a, by omega, by omega⟩, d, by omega, by omega⟩, h.2.2⟩
theorem pform_At {T : Nat → Nat} {n : Nat} : ∀ d p ks l p', pform T n d p = .inr (ks, l, p') → (p < p' ∧ p' ≤ n) ∧ ∀ x ∈ l, NkAt T n p p' x := by
  refine pform_ind (Pt := fun _ p _ l p' => (p < p' ∧ p' ≤ n) ∧ ∀ x ∈ l, NkAt T n p p' x) (Pl := fun _ _ p _ l p' => p ≤ n → (p ≤ p' ∧ p' ≤ n) ∧ ∀ x ∈ l, NkAt T n p p' x) ?_ ?_ ?_ ?_ ?_ ?_ ?_
  · intro d p h1 h2
    obtain ⟨k1, k2, k3, k4⟩ := isDb_lt h1
    have := sk_ge T n p
    refine ⟨⟨by omega, k4⟩, fun x hx => ?_⟩
    rw [List.mem_singleton] at hx
    subst hx
    exact ⟨show 0 ≤ 5 by omega, fun k => absurd k (show ¬ 0 = 2 by omega), fun k => absurd k (show ¬ (0 = 3 ∨ 0 = 5) by omega)⟩
  · intro d p h1 h2
    obtain ⟨k1, k2⟩ := chp_c h1 (by decide)
    obtain ⟨k3, k4⟩ := chp_c h2 (by decide)
    have := sk_ge T n p
    have k5 : sk T n p + 1 ≤ lq T n (sk T n p + 1) := rn_1 _ _ _ _
    refine ⟨⟨by omega, by omega⟩, fun x hx => ?_⟩
    rw [List.mem_singleton] at hx
    subst hx
    exact ⟨show 1 ≤ 5 by omega, fun k => absurd k (show ¬ 1 = 2 by omega), fun k => absurd k (show ¬ (1 = 3 ∨ 1 = 5) by omega)⟩
  · intro d p w1 q1 e1 w2 q2 e2 h1 h2 h3
    obtain ⟨a1, a2, a3, a4⟩ := pname_At h1
    obtain ⟨b1, b2, b3, b4⟩ := pname_At h3
    have k1 := sk_ge T n e1
    refine ⟨⟨by omega, b4⟩, fun x hx => ?_⟩
    rw [List.mem_singleton] at hx
    subst hx
    exact ⟨show 2 ≤ 5 by omega, fun _ => ⟨⟨a1, a2, show q1 < e2 by omega⟩, b1, show p ≤ q2 by omega, b3⟩, fun k => absurd k (show ¬ (2 = 3 ∨ 2 = 5) by omega)⟩
  · intro d p kx w ks l p1 h0 h1 h2 h3 h4 h5
    obtain ⟨⟨g2, g3⟩, g6⟩ := h4
    obtain ⟨a1, a2, a3, a4⟩ := isLb_lt h1
    have k0 := sk_ge T n p
    have k1 := sk_ge T n (lw T n (sk T n p))
    have k2 := sk_ge T n p1
    obtain ⟨c1, c2⟩ := chp_c h5 (by decide)
    refine ⟨⟨by omega, by omega⟩, fun x hx => ?_⟩
    rcases List.mem_cons.mp hx with rfl | hx
    · exact ⟨show 3 ≤ 5 by omega, fun k => absurd k (show ¬ 3 = 2 by omega), fun _ => kw_At h2 (by rcases h0 with ⟨-, rfl⟩ | ⟨-, rfl⟩ <;> decide)⟩
    · rcases List.mem_append.mp hx with hx | hx
      · exact (g6 x hx).mono (by omega) (by omega)
      · rw [List.mem_singleton] at hx
        subst hx
        exact ⟨show 4 ≤ 5 by omega, fun k => absurd k (show ¬ 4 = 2 by omega), fun k => absurd k (show ¬ (4 = 3 ∨ 4 = 5) by omega)⟩
  · intro d r p h hp
    exact ⟨⟨sk_ge _ _ _, sk_le hp⟩, fun x hx => by cases hx⟩
  · intro d r p ks l p1 ks2 l2 p2 h1 h2 h3 hp
    obtain ⟨⟨g2, g3⟩, g6⟩ := h2
    obtain ⟨⟨f2, f3⟩, f6⟩ := h3 g3
    obtain ⟨c1, c2, c3⟩ := isSg_lt h1
    have k0 := sk_ge T n p
    refine ⟨⟨by omega, f3⟩, fun x hx => ?_⟩
    rcases List.mem_cons.mp hx with rfl | hx
    · exact ⟨show 5 ≤ 5 by omega, fun k => absurd k (show ¬ 5 = 2 by omega), fun _ => sg_At (c := chp T n (sk T n p)) rfl (by rcases c3 with e | e | e <;> rw [e] <;> rfl) (by omega)⟩
    · rcases List.mem_append.mp hx with hx | hx
      · exact (g6 x hx).mono (by omega) (by omega)
      · exact (f6 x hx).mono (by omega) (by omega)
  · intro d p ks l p1 ks2 l2 p2 h2 h3
    obtain ⟨⟨g2, g3⟩, g6⟩ := h2
    obtain ⟨⟨f2, f3⟩, f6⟩ := h3 g3
    refine ⟨⟨by omega, f3⟩, fun x hx => ?_⟩
    rcases List.mem_append.mp hx with hx | hx
    · exact (g6 x hx).mono (by omega) (by omega)
    · exact (f6 x hx).mono (by omega) (by omega)
theorem pcol_D {T : Nat → Nat} {n : Nat} : ∀ (r p : Nat) (ks : List Rk) (cs : List Cs) (p' : Nat), pcol T n r p = .inr (ks, cs, p') → (∀ c ∈ cs, NameAt T n c.2.1 ∧ p ≤ c.2.1 ∧ c.2.1 < p') ∧ (∀ c ∈ cs, ∀ x ∈ c.2.2.2, NkAt T n p p' x) ∧ (∀ c ∈ cs, ∀ c' ∈ cs, ∀ x ∈ c'.2.2.2, x.1 = 2 → c.2.1 ≠ x.2.2.1 ∧ c.2.1 ≠ x.2.1) ∧ ∀ c ∈ cs, nmok c.1 := by
  intro r
  induction r with
  | zero => intro p ks cs p' h; cases h
  | succ r ih =>
    intro p ks cs p' h
    obtain ⟨w, q, e, k1, l1, p1, h1, h4, h3, h⟩ := pcol_r h
    obtain ⟨a1, a2, a3, a4⟩ := pname_At h1
    have a5 := (pname_r h1).2.2.2.2.2.2.1
    obtain ⟨⟨b2, b3⟩, b4⟩ := pform_At _ _ _ _ _ h3
    have k0 := sk_ge T n e
    have k2 := sk_ge T n p1
    rcases h with ⟨e44, rfl, rfl, rfl⟩ | ⟨e44, k2', c2, h5, rfl, rfl⟩
    · refine ⟨fun c hc => ?_, fun c hc x hx => ?_, fun c hc c' hc' x hx hx2 => ?_, fun c hc => ?_⟩
      · rw [List.mem_singleton] at hc
        subst hc
        exact ⟨a1, a2, show q < _ by omega⟩
      · rw [List.mem_singleton] at hc
        subst hc
        exact (b4 x hx).mono (by omega) k2
      · rw [List.mem_singleton] at hc hc'
        subst hc
        subst hc'
        obtain ⟨⟨-, d1, -⟩, -, d2, -⟩ := (b4 x hx).2.1 hx2
        exact ⟨show q ≠ _ by omega, show q ≠ _ by omega⟩
      · rw [List.mem_singleton] at hc
        subst hc
        exact a5
    · obtain ⟨c1, ⟨c2', c3⟩, -, -⟩ := pcol_KG _ _ _ _ _ h5
      obtain ⟨i1, i2, i3, i4⟩ := ih _ _ _ _ h5
      refine ⟨fun c hc => ?_, fun c hc x hx => ?_, fun c hc c' hc' x hx hx2 => ?_, fun c hc => ?_⟩
      · rcases List.mem_cons.mp hc with rfl | hc
        · exact ⟨a1, a2, show q < p' by omega⟩
        · obtain ⟨j1, j2, j3⟩ := i1 c hc
          exact ⟨j1, by omega, j3⟩
      · rcases List.mem_cons.mp hc with rfl | hc
        · exact (b4 x hx).mono (by omega) (by omega)
        · exact (i2 c hc x hx).mono (by omega) (by omega)
      · rcases List.mem_cons.mp hc' with rfl | hc'
        · obtain ⟨⟨-, d1, d3⟩, -, d2, d4⟩ := (b4 x hx).2.1 hx2
          rcases List.mem_cons.mp hc with rfl | hc
          · exact ⟨show q ≠ _ by omega, show q ≠ _ by omega⟩
          · obtain ⟨j1, j2, j3⟩ := i1 c hc
            exact ⟨by omega, by omega⟩
        · obtain ⟨⟨-, d1, d3⟩, -, d2, d4⟩ := (i2 c' hc' x hx).2.1 hx2
          rcases List.mem_cons.mp hc with rfl | hc
          · exact ⟨show q ≠ _ by omega, show q ≠ _ by omega⟩
          · exact i3 c hc c' hc' x hx hx2
      · rcases List.mem_cons.mp hc with rfl | hc
        · exact a5
        · exact i4 c hc
def fnm (fs : List (List Nat × Nat)) (k : Nat) : List Nat := (fs.getD k ([], 0)).1
def fpl (fs : List (List Nat × Nat)) (k : Nat) : Nat := (fs.getD k ([], 0)).2
theorem fs_mem {fs : List (List Nat × Nat)} {k : Nat} (h : k < fs.length) : (fnm fs k, fpl fs k) ∈ fs := by
  unfold fnm fpl
  rw [List.getD_eq_getElem?_getD, List.getElem?_eq_getElem h]
  exact List.getElem_mem _
theorem pfrm_D {T : Nat → Nat} {n : Nat} : ∀ (r p : Nat) (ks : List Rk) (cs : List (List Nat × Nat)) (p' : Nat), pfrm T n r p = .inr (ks, cs, p') → (∀ c ∈ cs, NameAt T n c.2 ∧ p ≤ c.2 ∧ c.2 < p') ∧ (∀ i j, i < j → j < cs.length → fpl cs i < fpl cs j) ∧ ∀ c ∈ cs, nmok c.1 := by
  intro r
  induction r with
  | zero => intro p ks cs p' h; cases h
  | succ r ih =>
    intro p ks cs p' h
    obtain ⟨w, q, e, h1, h⟩ := pfrm_r h
    obtain ⟨a1, a2, a3, a4⟩ := pname_At h1
    have a5 := (pname_r h1).2.2.2.2.2.2.1
    have k2 := sk_ge T n e
    rcases h with ⟨e44, rfl, rfl, rfl⟩ | ⟨e44, k2', c2, h5, rfl, rfl⟩
    · refine ⟨fun c hc => ?_, fun i j h1 h2 => ?_, fun c hc => ?_⟩
      · rw [List.mem_singleton] at hc
        subst hc
        exact ⟨a1, a2, show q < _ by omega⟩
      · have h2' : j < 1 := h2
        omega
      · rw [List.mem_singleton] at hc
        subst hc
        exact a5
    · obtain ⟨c1, ⟨c2', c3⟩, -, -⟩ := pfrm_KG _ _ _ _ _ h5
      obtain ⟨i1, i2, i4⟩ := ih _ _ _ _ h5
      refine ⟨fun c hc => ?_, fun i j h1 h2 => ?_, fun c hc => ?_⟩
      · rcases List.mem_cons.mp hc with rfl | hc
        · exact ⟨a1, a2, show q < p' by omega⟩
        · obtain ⟨j1, j2, j3⟩ := i1 c hc
          exact ⟨j1, by omega, j3⟩
      · obtain ⟨j, rfl⟩ : ∃ m, j = m + 1 := ⟨j - 1, by omega⟩
        have h2' : j + 1 < c2.length + 1 := h2
        have ej : fpl ((w, q) :: c2) (j + 1) = fpl c2 j := rfl
        rw [ej]
        by_cases ei : i = 0
        · subst ei
          have := (i1 _ (fs_mem (show j < c2.length by omega))).2.1
          show q < _
          have h9 : sk T n e + 1 ≤ fpl c2 j := this
          omega
        · obtain ⟨i, rfl⟩ : ∃ m, i = m + 1 := ⟨i - 1, by omega⟩
          exact i2 i j (by omega) (by omega)
      · rcases List.mem_cons.mp hc with rfl | hc
        · exact a5
        · exact i4 c hc
