/-! tokens of a statement: their bytes, their number *-/
def GdP (y : Rk) : Prop := punct y.1 = true ∨ Gd (tk y)
theorem GdP.word {q : Nat} {w : List Nat} (h : w ≠ []) (k : ∀ b ∈ w, isLb b = true) : GdP (1, q, w) := Or.inr (Or.inl ⟨rfl, h, k⟩)
theorem L_isLb {x : Nat} (h : isL x) : isLb x = true := decide_eq_true h
theorem GdP.name {T : Nat → Nat} {n p q e : Nat} {w : List Nat} (h : pname T n p = .inr (w, q, e)) : GdP (1, q, w) := by
  obtain ⟨-, -, h3, h4, h5, -, h6, h7⟩ := pname_r h
  refine GdP.word (fun k => ?_) fun b hb => L_isLb (h6.2 b hb)
  rw [k] at h7
  have : 0 = e - q := h7
  omega
theorem sl_lb {T : Nat → Nat} {n q : Nat} (h : isLb (chp T n q) = true) : sl T q (lw T n q) ≠ [] := fun k => by
  have := sl_len T q (lw T n q)
  rw [k] at this
  have h9 : 0 = lw T n q - q := this
  have := (isLb_lt h).2.2.1
  omega
theorem GdP.sg {c q : Nat} (h : c = 43 ∨ c = 45 ∨ c = 38 ∨ c = 41 ∨ c = 60 ∨ c = 61) : GdP (c, q, [c]) := Or.inr (Or.inr (Or.inr (Or.inr ⟨rfl, h⟩)))
theorem pform_Gd {T : Nat → Nat} {n : Nat} : ∀ d p ks l p', pform T n d p = .inr (ks, l, p') → ∀ y ∈ ks, GdP y := by
  refine pform_ind (Pt := fun _ _ ks _ _ => ∀ y ∈ ks, GdP y) (Pl := fun _ _ _ ks _ _ => ∀ y ∈ ks, GdP y) ?_ ?_ ?_ ?_ ?_ ?_ ?_
  · intro d p h1 h2 y hy
    rw [List.mem_singleton] at hy
    subst hy
    obtain ⟨k1, k2, k3, k4⟩ := isDb_lt h1
    refine Or.inr (Or.inr (Or.inl ⟨rfl, fun k => ?_, fun b hb => ?_⟩))
    · have := sl_len T (sk T n p) (dg T n (sk T n p))
      rw [show sl T (sk T n p) (dg T n (sk T n p)) = [] from k] at this
      have h9 : 0 = dg T n (sk T n p) - sk T n p := this
      omega
    · obtain ⟨i, i1, i2, rfl⟩ := sl_mem hb
      exact rn_3 i1 i2
  · intro d p h1 h2 y hy
    rw [List.mem_singleton] at hy
    subst hy
    obtain ⟨k1, k2⟩ := chp_c h1 (by decide)
    obtain ⟨k3, k4⟩ := chp_c h2 (by decide)
    have k5 : sk T n p + 1 ≤ lq T n (sk T n p + 1) := rn_1 _ _ _ _
    refine Or.inr (Or.inr (Or.inr (Or.inl ⟨rfl, sl T (sk T n p + 1) (lq T n (sk T n p + 1)), ?_, fun b hb => ?_⟩)))
    · show sl T (sk T n p) (lq T n (sk T n p + 1) + 1) = _
      rw [sl_cons (by omega), sl_snoc (by omega), k2, k4]
    · obtain ⟨i, i1, i2, rfl⟩ := sl_mem hb
      exact rn_3 i1 i2
  · intro d p w1 q1 e1 w2 q2 e2 h1 h2 h3 y hy
    rcases List.mem_cons.mp hy with rfl | hy
    · exact GdP.name h1
    · rcases List.mem_cons.mp hy with rfl | hy
      · exact Or.inl rfl
      · rw [List.mem_singleton] at hy
        subst hy
        exact GdP.name h3
  · intro d p kx w ks l p1 h0 h1 h2 h3 h4 h5 y hy
    rcases List.mem_cons.mp hy with rfl | hy
    · rw [← h2]
      exact GdP.word (sl_lb h1) fun b hb => L_isLb (sl_lw b hb)
    · rcases List.mem_cons.mp hy with rfl | hy
      · exact Or.inl rfl
      · rcases List.mem_append.mp hy with hy | hy
        · exact h4 y hy
        · rw [List.mem_singleton] at hy
          subst hy
          exact GdP.sg (by omega)
  · intro d r p h y hy
    cases hy
  · intro d r p ks l p1 ks2 l2 p2 h1 h2 h3 y hy
    obtain ⟨c1, c2, c3⟩ := isSg_lt h1
    rcases List.mem_cons.mp hy with rfl | hy
    · exact GdP.sg (by omega)
    · rcases List.mem_append.mp hy with hy | hy
      · exact h2 y hy
      · exact h3 y hy
  · intro d p ks l p1 ks2 l2 p2 h2 h3 y hy
    rcases List.mem_append.mp hy with hy | hy
    · exact h2 y hy
    · exact h3 y hy
/-- tokens between two places, told ones good -/
def KG (T : Nat → Nat) (n p p' : Nat) (ks : List Rk) : Prop := KS T n p p' ks ∧ ∀ y ∈ ks, GdP y
theorem KG.app {T : Nat → Nat} {n p q r : Nat} {a b : List Rk} (h : KG T n p q a) (k : KG T n q r b) (h1 : p ≤ q) (h2 : q ≤ r) : KG T n p r (a ++ b) :=
  ⟨h.1.app k.1 h1 h2, fun y hy => by rcases List.mem_append.mp hy with hy | hy; exact h.2 y hy; exact k.2 y hy⟩
theorem KG.cons {T : Nat → Nat} {n p q r : Nat} {a : Rk} {b : List Rk} (h : KG T n p q [a]) (k : KG T n q r b) (h1 : p ≤ q) (h2 : q ≤ r) : KG T n p r (a :: b) := h.app k h1 h2
theorem KG.p {T : Nat → Nat} {n p c : Nat} (h : chp T n (sk T n p) = c) (hc : punct c = true) (hc' : c < 256) : KG T n p (sk T n p + 1) [(c, sk T n p, [c])] :=
  ⟨KS.sign h hc', fun y hy => by rw [List.mem_singleton] at hy; subst hy; exact Or.inl hc⟩
theorem KG.s {T : Nat → Nat} {n p c : Nat} (h : chp T n (sk T n p) = c) (hc : c = 60 ∨ c = 61 ∨ c = 41) : KG T n p (sk T n p + 1) [(c, sk T n p, [c])] :=
  ⟨KS.sign h (by omega), fun y hy => by rw [List.mem_singleton] at hy; subst hy; exact GdP.sg (by omega)⟩
theorem KG.name {T : Nat → Nat} {n p q e : Nat} {w : List Nat} (h : pname T n p = .inr (w, q, e)) : KG T n p e [(1, q, w)] ∧ p < e ∧ e ≤ n :=
  ⟨⟨(KS.name h).1, fun y hy => by rw [List.mem_singleton] at hy; subst hy; exact GdP.name h⟩, (KS.name h).2⟩
theorem KG.form {T : Nat → Nat} {n d p p' : Nat} {ks : List Rk} {l : List Nk} (h : pform T n d p = .inr (ks, l, p')) : KG T n p p' ks ∧ p < p' ∧ p' ≤ n :=
  ⟨⟨(pform_KS _ _ _ _ _ h).1, pform_Gd _ _ _ _ _ h⟩, (pform_KS _ _ _ _ _ h).2.1⟩
theorem KG.nil (T : Nat → Nat) (n p p' : Nat) : KG T n p p' [] := ⟨KS.nil _ _ _ _, fun y h => by cases h⟩
theorem KG.word {T : Nat → Nat} {n p : Nat} {w : List Nat} (h : pwd w T n p = true) : KG T n p (lw T n (sk T n p)) [(1, sk T n p, w)] ∧ p < lw T n (sk T n p) ∧ lw T n (sk T n p) ≤ n := by
  obtain ⟨h1, rfl⟩ := pwd_t h
  obtain ⟨k1, k2, k3, k4⟩ := isLb_lt h1
  have k0 := sk_ge T n p
  exact ⟨⟨KS.one (by decide) k0 k3 k4, fun y hy => by rw [List.mem_singleton] at hy; subst hy; exact GdP.word (sl_lb h1) fun b hb => L_isLb (sl_lw b hb)⟩, by omega, k4⟩
theorem pcol_r {T : Nat → Nat} {n r p : Nat} {ks : List Rk} {cs : List Cs} {p' : Nat} (h : pcol T n (r + 1) p = .inr (ks, cs, p')) : ∃ w q e k1 l1 p1, pname T n p = .inr (w, q, e) ∧ chp T n (sk T n e) = 58 ∧ pform T n 3 (sk T n e + 1) = .inr (k1, l1, p1) ∧
    ((chp T n (sk T n p1) ≠ 44 ∧ ks = (1, q, w) :: (58, sk T n e, [58]) :: k1 ∧ cs = [(w, q, k1, l1)] ∧ p' = sk T n p1) ∨
     (chp T n (sk T n p1) = 44 ∧ ∃ k2 c2, pcol T n r (sk T n p1 + 1) = .inr (k2, c2, p') ∧ ks = (1, q, w) :: (58, sk T n e, [58]) :: (k1 ++ (44, sk T n p1, [44]) :: k2) ∧ cs = (w, q, k1, l1) :: c2)) := by
  unfold pcol at h
  obtain ⟨⟨w, q, e⟩, h1, h⟩ := pb_r h
  obtain ⟨b, h2, h⟩ := pb_r h
  obtain ⟨h4, rfl⟩ := psg_r h2
  obtain ⟨⟨k1, l1, p1⟩, h3, h⟩ := pb_r h
  refine ⟨w, q, e, k1, l1, p1, h1, h4, h3, ?_⟩
  by_cases e44 : chp T n (sk T n p1) = 44
  · rw [if_pos e44] at h
    obtain ⟨⟨k2, c2, p2⟩, h5, h⟩ := pb_r h
    cases h
    exact Or.inr ⟨e44, k2, c2, h5, rfl, rfl⟩
  · rw [if_neg e44] at h
    cases h
    exact Or.inl ⟨e44, rfl, rfl, rfl⟩
theorem pfrm_r {T : Nat → Nat} {n r p : Nat} {ks : List Rk} {cs : List (List Nat × Nat)} {p' : Nat} (h : pfrm T n (r + 1) p = .inr (ks, cs, p')) : ∃ w q e, pname T n p = .inr (w, q, e) ∧
    ((chp T n (sk T n e) ≠ 44 ∧ ks = [(1, q, w)] ∧ cs = [(w, q)] ∧ p' = sk T n e) ∨
     (chp T n (sk T n e) = 44 ∧ ∃ k2 c2, pfrm T n r (sk T n e + 1) = .inr (k2, c2, p') ∧ ks = (1, q, w) :: (44, sk T n e, [44]) :: k2 ∧ cs = (w, q) :: c2)) := by
  unfold pfrm at h
  obtain ⟨⟨w, q, e⟩, h1, h⟩ := pb_r h
  refine ⟨w, q, e, h1, ?_⟩
  have h' : (if chp T n (sk T n e) = 44 then pb (pfrm T n r (sk T n e + 1)) fun d => .inr ((1, q, w) :: (44, sk T n e, [44]) :: d.1, (w, q) :: d.2.1, d.2.2) else .inr ([(1, q, w)], [(w, q)], sk T n e)) = Sum.inr (ks, cs, p') := h
  by_cases e44 : chp T n (sk T n e) = 44
  · rw [if_pos e44] at h'
    obtain ⟨⟨k2, c2, p2⟩, h4, h⟩ := pb_r h'
    cases h
    exact Or.inr ⟨e44, k2, c2, h4, rfl, rfl⟩
  · rw [if_neg e44] at h'
    cases h'
    exact Or.inl ⟨e44, rfl, rfl, rfl⟩
theorem pwh_r {T : Nat → Nat} {n p : Nat} {ks : List Rk} {w : Option Wh} {p' : Nat} (h : pwh T n p = .inr (ks, w, p')) :
    (pwd [119, 104, 101, 114, 101] T n p = false ∧ ks = [] ∧ w = none ∧ p' = sk T n p) ∨
    (pwd [119, 104, 101, 114, 101] T n p = true ∧ ∃ k1 l1 p1 c k2 l2, pform T n 3 (lw T n (sk T n p)) = .inr (k1, l1, p1) ∧ c = chp T n (sk T n p1) ∧ (c = 60 ∨ c = 61) ∧ pform T n 3 (sk T n p1 + 1) = .inr (k2, l2, p') ∧ ks = (1, sk T n p, [119, 104, 101, 114, 101]) :: (k1 ++ (c, sk T n p1, [c]) :: k2) ∧ w = some ((k1, l1), (c, sk T n p1), k2, l2)) := by
  unfold pwh at h
  by_cases e : pwd [119, 104, 101, 114, 101] T n p = true
  · rw [if_pos e] at h
    obtain ⟨⟨k1, l1, p1⟩, h1, h⟩ := pb_r h
    have h' : (if chp T n (sk T n p1) = 60 ∨ chp T n (sk T n p1) = 61 then pb (pform T n 3 (sk T n p1 + 1)) fun b => .inr ((1, sk T n p, [119, 104, 101, 114, 101]) :: (k1 ++ (chp T n (sk T n p1), sk T n p1, [chp T n (sk T n p1)]) :: b.1), some ((k1, l1), (chp T n (sk T n p1), sk T n p1), b.1, b.2.1), b.2.2) else .inl (sk T n p1)) = Sum.inr (ks, w, p') := h
    by_cases e6 : chp T n (sk T n p1) = 60 ∨ chp T n (sk T n p1) = 61
    · rw [if_pos e6] at h'
      obtain ⟨⟨k2, l2, p2⟩, h2, h⟩ := pb_r h'
      cases h
      exact Or.inr ⟨e, k1, l1, p1, _, k2, l2, h1, rfl, e6, h2, rfl, rfl⟩
    · rw [if_neg e6] at h'
      cases h'
  · rw [if_neg e] at h
    cases h
    exact Or.inl ⟨by simpa using e, rfl, rfl, rfl⟩
theorem pcol_KG {T : Nat → Nat} {n : Nat} : ∀ (r p : Nat) (ks : List Rk) (cs : List Cs) (p' : Nat), pcol T n r p = .inr (ks, cs, p') → KG T n p p' ks ∧ (p < p' ∧ p' ≤ n) ∧ 1 ≤ cs.length ∧ cs.length ≤ r := by
  intro r
  induction r with
  | zero => intro p ks cs p' h; cases h
  | succ r ih =>
    intro p ks cs p' h
    obtain ⟨w, q, e, k1, l1, p1, h1, h4, h3, h⟩ := pcol_r h
    obtain ⟨a1, a2, a3⟩ := KG.name h1
    obtain ⟨b1, b2, b3⟩ := KG.form h3
    have k0 := sk_ge T n e
    have k2 := sk_ge T n p1
    have k3 := sk_le (T := T) b3
    rcases h with ⟨e44, rfl, rfl, rfl⟩ | ⟨e44, k2', c2, h5, rfl, rfl⟩
    · have := (KG.p h4 rfl (by decide)).cons (b1.app (KG.nil T n p1 (sk T n p1)) (by omega) (by omega)) (by omega) (by omega)
      rw [List.append_nil] at this
      exact ⟨a1.cons this (by omega) (by omega), ⟨by omega, k3⟩, Nat.le_refl _, Nat.succ_le_succ (Nat.zero_le r)⟩
    · obtain ⟨c1, ⟨c2', c3⟩, c4, c5⟩ := ih _ _ _ _ h5
      exact ⟨a1.cons ((KG.p h4 rfl (by decide)).cons (b1.app ((KG.p e44 rfl (by decide)).cons c1 (by omega) (by omega)) (by omega) (by omega)) (by omega) (by omega)) (by omega) (by omega), ⟨by omega, c3⟩, by rw [List.length_cons]; omega, by rw [List.length_cons]; omega⟩
theorem pfrm_KG {T : Nat → Nat} {n : Nat} : ∀ (r p : Nat) (ks : List Rk) (cs : List (List Nat × Nat)) (p' : Nat), pfrm T n r p = .inr (ks, cs, p') → KG T n p p' ks ∧ (p < p' ∧ p' ≤ n) ∧ 1 ≤ cs.length ∧ cs.length ≤ r := by
  intro r
  induction r with
  | zero => intro p ks cs p' h; cases h
  | succ r ih =>
    intro p ks cs p' h
    obtain ⟨w, q, e, h1, h⟩ := pfrm_r h
    obtain ⟨a1, a2, a3⟩ := KG.name h1
    have k2 := sk_ge T n e
    have k3 := sk_le (T := T) a3
    rcases h with ⟨e44, rfl, rfl, rfl⟩ | ⟨e44, k2', c2, h5, rfl, rfl⟩
    · have := a1.app (KG.nil T n e (sk T n e)) (by omega) (by omega)
      rw [List.append_nil] at this
      exact ⟨this, ⟨by omega, k3⟩, Nat.le_refl _, Nat.succ_le_succ (Nat.zero_le r)⟩
    · obtain ⟨c1, ⟨c2', c3⟩, c4, c5⟩ := ih _ _ _ _ h5
      exact ⟨a1.cons ((KG.p e44 rfl (by decide)).cons c1 (by omega) (by omega)) (by omega) (by omega), ⟨by omega, c3⟩, by rw [List.length_cons]; omega, by rw [List.length_cons]; omega⟩
theorem pwh_KG {T : Nat → Nat} {n p : Nat} {ks : List Rk} {w : Option Wh} {p' : Nat} (hp : p ≤ n) (h : pwh T n p = .inr (ks, w, p')) : KG T n p p' ks ∧ (p ≤ p' ∧ p' ≤ n) := by
  rcases pwh_r h with ⟨-, rfl, rfl, rfl⟩ | ⟨e, k1, l1, p1, c, k2, l2, h1, hc, e6, h2, rfl, rfl⟩
  · exact ⟨KG.nil _ _ _ _, sk_ge _ _ _, sk_le hp⟩
  · obtain ⟨a1, a2, a3⟩ := KG.word e
    obtain ⟨b1, b2, b3⟩ := KG.form h1
    obtain ⟨c1, c2, c3⟩ := KG.form h2
    have k2 := sk_ge T n p1
    exact ⟨a1.cons (b1.app ((KG.s hc.symm (by omega)).cons c1 (by omega) (by omega)) (by omega) (by omega)) (by omega) (by omega), ⟨by omega, c3⟩⟩
theorem pend_r {T : Nat → Nat} {n p : Nat} {c : Rk × Nat} (h : pend T n p = .inr c) : chp T n (sk T n p) = 59 ∧ chp T n (sk T n (sk T n p + 1)) = 256 ∧ c = ((59, sk T n p, [59]), sk T n (sk T n p + 1)) := by
  unfold pend at h
  obtain ⟨b0, g1, h⟩ := pb_r h
  obtain ⟨g2, rfl⟩ := psg_r g1
  have h' : (if chp T n (sk T n (sk T n p + 1)) = 256 then Sum.inr ((59, sk T n p, [59]), sk T n (sk T n p + 1)) else .inl (sk T n (sk T n p + 1))) = Sum.inr c := h
  by_cases e5 : chp T n (sk T n (sk T n p + 1)) = 256
  · rw [if_pos e5] at h'
    exact ⟨g2, e5, (Sum.inr.inj h').symm⟩
  · rw [if_neg e5] at h'
    cases h'
/-- what a select that parses is made of -/
theorem psel_r {T : Nat → Nat} {n p : Nat} {b : Sl} (h : psel T n p = .inr b) : ∃ k1 c1 p1 k2 c2 p2 k3 w p3, chp T n (sk T n p) = 61 ∧ pcol T n 6 (sk T n p + 1) = .inr (k1, c1, p1) ∧ pwd [102, 114, 111, 109] T n p1 = true ∧ pfrm T n 3 (lw T n (sk T n p1)) = .inr (k2, c2, p2) ∧ pwh T n p2 = .inr (k3, w, p3) ∧
    b = ((61, sk T n p, [61]) :: (k1 ++ (1, sk T n p1, [102, 114, 111, 109]) :: (k2 ++ k3)), c1, c2, w, p3) := by
  unfold psel at h
  obtain ⟨b0, h0, h⟩ := pb_r h
  obtain ⟨h1, rfl⟩ := psg_r h0
  obtain ⟨⟨k1, c1, p1⟩, h2, h⟩ := pb_r h
  have h' : (if pwd [102, 114, 111, 109] T n p1 = true then
      pb (pfrm T n 3 (lw T n (sk T n p1))) fun c => pb (pwh T n c.2.2) fun d => .inr ((61, sk T n p, [61]) :: (k1 ++ (1, sk T n p1, [102, 114, 111, 109]) :: (c.1 ++ d.1)), c1, c.2.1, d.2.1, d.2.2)
    else .inl (sk T n p1)) = Sum.inr b := h
  by_cases e : pwd [102, 114, 111, 109] T n p1 = true
  · rw [if_pos e] at h'
    obtain ⟨⟨k2, c2, p2⟩, h3, h⟩ := pb_r h'
    obtain ⟨⟨k3, w, p3⟩, h4, h⟩ := pb_r h
    cases h
    exact ⟨k1, c1, p1, k2, c2, p2, k3, w, p3, h1, h2, e, h3, h4, rfl⟩
  · rw [if_neg e] at h'
    cases h'
theorem psel_KG {T : Nat → Nat} {n p : Nat} {b : Sl} (h : psel T n p = .inr b) : KG T n p b.2.2.2.2 b.1 ∧ p < b.2.2.2.2 ∧ b.2.2.2.2 ≤ n := by
  obtain ⟨k1, c1, p1, k2, c2, p2, k3, w, p3, h1, h2, h3, h4, h5, rfl⟩ := psel_r h
  obtain ⟨a1, ⟨a2, a3⟩, -⟩ := pcol_KG _ _ _ _ _ h2
  obtain ⟨b1, b2, b3⟩ := KG.word h3
  obtain ⟨d1, ⟨d2, d3⟩, -⟩ := pfrm_KG _ _ _ _ _ h4
  obtain ⟨e1, e2, e3⟩ := pwh_KG d3 h5
  have k0 := sk_ge T n p
  show KG T n p p3 _ ∧ p < p3 ∧ p3 ≤ n
  refine ⟨(KG.s h1 (by omega)).cons (a1.app (b1.cons (d1.app e1 (by omega) (by omega)) (by omega) (by omega)) (by omega) (by omega)) (by omega) (by omega), by omega, e3⟩
theorem psel_TX {T : Nat → Nat} {n p : Nat} {b : Sl} {c : Rk × Nat} (h : psel T n p = .inr b) (hc : pend T n b.2.2.2.2 = .inr c) : TXok (tks (b.1 ++ [c.1])) := by
  obtain ⟨m, h1, h2⟩ := psel_ins h hc
  refine ⟨m, h1, h2, fun y hy => ?_⟩
  have hm : y ∈ tks (b.1 ++ [c.1]) := by
    rw [h1]
    exact List.mem_cons_of_mem _ ((List.mem_filter.mp hy).1)
  have hp : punct y.1 = false := by
    have := (List.mem_filter.mp hy).2
    simpa using this
  obtain ⟨z, hz, rfl⟩ := List.mem_map.mp hm
  obtain ⟨-, -, rfl⟩ := pend_r hc
  have hg : GdP z := by
    rcases List.mem_append.mp hz with hz | hz
    · exact (psel_KG h).1.2 z hz
    · rw [List.mem_singleton] at hz
      subst hz
      exact Or.inl rfl
  rcases hg with hg | hg
  · rw [show punct (tk z).1 = true from hg] at hp
    cases hp
  · exact hg
theorem tolds_len (l : List Tx) : (tolds l).length = (l.map (fun y => y.2.length + 1)).sum := by
  induction l with
  | nil => rfl
  | cons y l ih =>
    rw [tolds_cons, List.length_append, List.length_cons, ih, List.map_cons, List.sum_cons]
    omega
theorem Flt_len (l : List Tx) : ((Flt l).map (fun y => y.2.length + 1)).sum ≤ (l.map (fun y => y.2.length + 1)).sum := by
  induction l with
  | nil => exact Nat.le_refl _
  | cons y l ih =>
    cases h : punct y.1 with
    | true =>
      rw [Flt_p h, List.map_cons, List.sum_cons]
      omega
    | false =>
      rw [Flt_n h, List.map_cons, List.sum_cons, List.map_cons, List.sum_cons]
      omega
theorem wt_tks (ks : List Rk) : ((tks ks).map (fun y => y.2.length + 1)).sum = wt ks := by
  unfold tks wt
  rw [List.map_map]
  rfl
theorem tolds_wt (ks : List Rk) : (tolds (Flt (tks ks))).length ≤ wt ks := by
  rw [tolds_len, ← wt_tks]
  exact Flt_len _
