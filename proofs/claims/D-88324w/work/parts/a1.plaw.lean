/-! what parses: places, tokens, brackets *-/
theorem isDb_lt {T : Nat → Nat} {n q : Nat} (h : isDb (chp T n q) = true) : q < n ∧ isDb (T q) = true ∧ q < dg T n q ∧ dg T n q ≤ n := by
  have hq : q < n := chp_lt (fun e => by rw [e] at h; cases h)
  rw [chp_T hq] at h
  refine ⟨hq, h, ?_, rn_2 (by omega)⟩
  unfold dg
  rw [rn_go hq h]
  have := rn_1 isDb T n (q + 1)
  omega
theorem chp_c {T : Nat → Nat} {n q c : Nat} (h : chp T n q = c) (hc : c ≠ 256) : q < n ∧ T q = c := by
  have hq : q < n := chp_lt (by rw [h]; exact hc)
  exact ⟨hq, by rw [← chp_T (T := T) hq]; exact h⟩
theorem isSg_lt {T : Nat → Nat} {n q : Nat} (h : isSg (chp T n q) = true) : q < n ∧ T q = chp T n q ∧ (chp T n q = 43 ∨ chp T n q = 45 ∨ chp T n q = 38) := by
  have h' : chp T n q = 43 ∨ chp T n q = 45 ∨ chp T n q = 38 := by
    unfold isSg at h
    rw [decide_eq_true_eq] at h
    exact h
  have hq : q < n := chp_lt (T := T) (by omega)
  exact ⟨hq, (chp_T hq).symm, h'⟩
/-- a token's bytes are the tape's -/
def BT (T : Nat → Nat) (n : Nat) (y : Rk) : Prop := y.2.1 + y.2.2.length ≤ n ∧ y.1 < 256 ∧ ∀ j, j < y.2.2.length → y.2.2.getD j 0 = T (y.2.1 + j)
def wt (ks : List Rk) : Nat := (ks.map (fun y => y.2.2.length + 1)).sum
theorem wt_app (a b : List Rk) : wt (a ++ b) = wt a + wt b := by
  unfold wt
  rw [List.map_append, List.sum_append]
theorem wt_cons (y : Rk) (b : List Rk) : wt (y :: b) = y.2.2.length + 1 + wt b := by
  unfold wt
  rw [List.map_cons, List.sum_cons]
theorem wt_nil : wt [] = 0 := rfl
/-- what a list of tokens between two places is -/
def KS (T : Nat → Nat) (n p p' : Nat) (ks : List Rk) : Prop := ks.length ≤ p' - p ∧ wt ks ≤ 2 * (p' - p) ∧ ∀ y ∈ ks, BT T n y ∧ p ≤ y.2.1 ∧ y.2.1 < p'
theorem KS.nil (T : Nat → Nat) (n p p' : Nat) : KS T n p p' [] := ⟨Nat.zero_le _, Nat.zero_le _, fun y h => by cases h⟩
theorem KS.app {T : Nat → Nat} {n p q r : Nat} {a b : List Rk} (h : KS T n p q a) (k : KS T n q r b) (h1 : p ≤ q) (h2 : q ≤ r) : KS T n p r (a ++ b) := by
  refine ⟨?_, ?_, fun y hy => ?_⟩
  · have := h.1
    have := k.1
    rw [List.length_append]
    omega
  · have := h.2.1
    have := k.2.1
    rw [wt_app]
    omega
  · rcases List.mem_append.mp hy with hy | hy
    · obtain ⟨g1, g2, g3⟩ := h.2.2 y hy
      exact ⟨g1, g2, by omega⟩
    · obtain ⟨g1, g2, g3⟩ := k.2.2 y hy
      exact ⟨g1, by omega, g3⟩
theorem KS.mono {T : Nat → Nat} {n p q p' q' : Nat} {a : List Rk} (h : KS T n p q a) (h1 : p' ≤ p) (h2 : q ≤ q') (h3 : p ≤ q) : KS T n p' q' a :=
  ⟨by have := h.1; omega, by have := h.2.1; omega, fun y hy => by obtain ⟨g1, g2, g3⟩ := h.2.2 y hy; exact ⟨g1, by omega, by omega⟩⟩
/-- a token of its place -/
theorem KS.one {T : Nat → Nat} {n p q e c : Nat} (hc : c < 256) (h1 : p ≤ q) (h2 : q < e) (h3 : e ≤ n) : KS T n p e [(c, q, sl T q e)] := by
  refine ⟨?_, ?_, fun y hy => ?_⟩
  · show 1 ≤ e - p
    omega
  · rw [wt_cons, wt_nil]
    show (sl T q e).length + 1 + 0 ≤ _
    rw [sl_len]
    omega
  · rw [List.mem_singleton] at hy
    subst hy
    refine ⟨⟨?_, hc, fun j hj => ?_⟩, h1, h2⟩
    · show q + (sl T q e).length ≤ n
      rw [sl_len]
      omega
    · have hj' : j < (sl T q e).length := hj
      rw [sl_len] at hj'
      exact sl_get hj'
theorem KS.sign {T : Nat → Nat} {n p c : Nat} (h : chp T n (sk T n p) = c) (hc : c < 256) : KS T n p (sk T n p + 1) [(c, sk T n p, [c])] := by
  obtain ⟨h1, h2⟩ := chp_c h (by omega)
  have := KS.one (T := T) (n := n) (e := sk T n p + 1) hc (sk_ge T n p) (Nat.lt_succ_self _) h1
  rw [sl_1, h2] at this
  exact this
theorem KS.name {T : Nat → Nat} {n p q e : Nat} {w : List Nat} (h : pname T n p = .inr (w, q, e)) : KS T n p e [(1, q, w)] ∧ p < e ∧ e ≤ n := by
  obtain ⟨-, -, rfl, -, ⟨h1, h2, h3, -⟩, -⟩ := pname_r h
  exact ⟨KS.one (by decide) h1 h2 h3, by omega, h3⟩
theorem KS.cons {T : Nat → Nat} {n p q r : Nat} {a : Rk} {b : List Rk} (h : KS T n p q [a]) (k : KS T n q r b) (h1 : p ≤ q) (h2 : q ≤ r) : KS T n p r (a :: b) := h.app k h1 h2
theorem pform_KS {T : Nat → Nat} {n : Nat} : ∀ d p ks l p', pform T n d p = .inr (ks, l, p') → KS T n p p' ks ∧ (p < p' ∧ p' ≤ n) ∧ (1 ≤ l.length ∧ l.length ≤ ks.length) ∧ ∀ x ∈ l, x.2.2.1 < n := by
  refine pform_ind (Pt := fun _ p ks l p' => KS T n p p' ks ∧ (p < p' ∧ p' ≤ n) ∧ (1 ≤ l.length ∧ l.length ≤ ks.length) ∧ ∀ x ∈ l, x.2.2.1 < n) (Pl := fun _ _ p ks l p' => p ≤ n → KS T n p p' ks ∧ (p ≤ p' ∧ p' ≤ n) ∧ (l.length ≤ ks.length) ∧ ∀ x ∈ l, x.2.2.1 < n) ?_ ?_ ?_ ?_ ?_ ?_ ?_
  · intro d p h1 h2
    obtain ⟨k1, k2, k3, k4⟩ := isDb_lt h1
    have := sk_ge T n p
    refine ⟨KS.one (by decide) this k3 k4, ⟨by omega, k4⟩, ⟨Nat.le_refl _, Nat.le_refl _⟩, fun x hx => ?_⟩
    rw [List.mem_singleton] at hx
    subst hx
    exact k1
  · intro d p h1 h2
    obtain ⟨k1, k2⟩ := chp_c h1 (by decide)
    obtain ⟨k3, k4⟩ := chp_c h2 (by decide)
    have := sk_ge T n p
    have k5 : sk T n p + 1 ≤ lq T n (sk T n p + 1) := rn_1 _ _ _ _
    refine ⟨KS.one (by decide) this (by omega) (by omega), ⟨by omega, by omega⟩, ⟨Nat.le_refl _, Nat.le_refl _⟩, fun x hx => ?_⟩
    rw [List.mem_singleton] at hx
    subst hx
    exact k1
  · intro d p w1 q1 e1 w2 q2 e2 h1 h2 h3
    obtain ⟨a1, a2, a3⟩ := KS.name h1
    obtain ⟨b1, b2, b3⟩ := KS.name h3
    have k1 := sk_ge T n e1
    have q1n := (pname_r h1).2.2.2.2.1
    refine ⟨a1.cons ((KS.sign h2 (by decide)).cons b1 (by omega) (by omega)) (by omega) (by omega), ⟨by omega, b3⟩, ⟨Nat.le_refl _, (show 1 ≤ 3 by decide)⟩, fun x hx => ?_⟩
    rw [List.mem_singleton] at hx
    subst hx
    show q1 < n
    omega
  · intro d p kx w ks l p1 _ h1 h2 h3 h4 h5
    obtain ⟨g1, ⟨g2, g3⟩, ⟨g4, g5⟩, g6⟩ := h4
    obtain ⟨a1, a2, a3, a4⟩ := isLb_lt h1
    have k0 := sk_ge T n p
    have k1 := sk_ge T n (lw T n (sk T n p))
    have k2 := sk_ge T n p1
    obtain ⟨c1, c2⟩ := chp_c h5 (by decide)
    have e1 : KS T n p (lw T n (sk T n p)) [(1, sk T n p, w)] := by
      rw [← h2]
      exact KS.one (by decide) k0 a3 a4
    refine ⟨e1.cons ((KS.sign h3 (by decide)).cons (g1.app (KS.sign h5 (by decide)) (by omega) (by omega)) (by omega) (by omega)) (by omega) (by omega), ⟨by omega, by omega⟩, ?_, fun x hx => ?_⟩
    · simp only [List.length_cons, List.length_append, List.length_nil]
      omega
    · rcases List.mem_cons.mp hx with rfl | hx
      · exact a1
      · rcases List.mem_append.mp hx with hx | hx
        · exact g6 x hx
        · rw [List.mem_singleton] at hx
          subst hx
          show 0 < n
          omega
  · intro d r p h hp
    exact ⟨KS.nil _ _ _ _, ⟨sk_ge _ _ _, sk_le hp⟩, Nat.le_refl _, fun x hx => by cases hx⟩
  · intro d r p ks l p1 ks2 l2 p2 h1 h2 h3 hp
    obtain ⟨g1, ⟨g2, g3⟩, ⟨g4, g5⟩, g6⟩ := h2
    obtain ⟨f1, ⟨f2, f3⟩, f5, f6⟩ := h3 g3
    obtain ⟨c1, c2, c3⟩ := isSg_lt h1
    have k0 := sk_ge T n p
    refine ⟨(KS.sign rfl (by omega)).cons (g1.app f1 (by omega) (by omega)) (by omega) (by omega), ⟨by omega, f3⟩, ?_, fun x hx => ?_⟩
    · simp only [List.length_cons, List.length_append]
      omega
    · rcases List.mem_cons.mp hx with rfl | hx
      · exact c1
      · rcases List.mem_append.mp hx with hx | hx
        · exact g6 x hx
        · exact f6 x hx
  · intro d p ks l p1 ks2 l2 p2 h2 h3
    obtain ⟨g1, ⟨g2, g3⟩, ⟨g4, g5⟩, g6⟩ := h2
    obtain ⟨f1, ⟨f2, f3⟩, f5, f6⟩ := h3 g3
    refine ⟨g1.app f1 (by omega) (by omega), ⟨by omega, f3⟩, ?_, fun x hx => ?_⟩
    · simp only [List.length_append]
      omega
    · rcases List.mem_append.mp hx with hx | hx
      · exact g6 x hx
      · exact f6 x hx
/-- a formula's tokens spell its list -/
def Sp1 (x : Nk) (ks : List Rk) : Prop :=
  (x.1 = 0 ∧ ∃ b, ks = [(2, x.2.2.1, b)]) ∨ (x.1 = 1 ∧ ∃ b, ks = [(3, x.2.2.1, b)]) ∨ (x.1 = 2 ∧ ∃ o, (nmok x.2.2.2.1 ∧ nmok x.2.2.2.2) ∧ ks = [(1, x.2.2.1, x.2.2.2.1), (46, o, [46]), (1, x.2.1, x.2.2.2.2)]) ∨
  (x.1 = 3 ∧ ∃ o w, ((x.2.1 = 116 ∧ w = [108, 101, 110]) ∨ (x.2.1 = 110 ∧ w = [115, 116, 114])) ∧ ks = [(1, x.2.2.1, w), (40, o, [40])]) ∨ (x.1 = 4 ∧ ∃ o, ks = [(41, o, [41])]) ∨ (x.1 = 5 ∧ (x.2.1 = 43 ∨ x.2.1 = 45 ∨ x.2.1 = 38) ∧ ks = [(x.2.1, x.2.2.1, [x.2.1])])
def SpR : List Nk → List Rk → Prop
  | [], ks => ks = []
  | x :: l, ks => ∃ k1 k2, ks = k1 ++ k2 ∧ Sp1 x k1 ∧ SpR l k2
theorem SpR.app : ∀ {l m : List Nk} {a b : List Rk}, SpR l a → SpR m b → SpR (l ++ m) (a ++ b)
  | [], _, _, _, h, k => by
    have e : _ = [] := h
    subst e
    exact k
  | x :: l, m, a, b, ⟨k1, k2, h1, h2, h3⟩, k => ⟨k1, k2 ++ b, by rw [h1, List.append_assoc], h2, h3.app k⟩
theorem SpR.one {x : Nk} {a : List Rk} (h : Sp1 x a) : SpR [x] a := ⟨a, [], (List.append_nil a).symm, h, rfl⟩
theorem pform_Sp {T : Nat → Nat} {n : Nat} : ∀ d p ks l p', pform T n d p = .inr (ks, l, p') → SpR l ks := by
  refine pform_ind (Pt := fun _ _ ks l _ => SpR l ks) (Pl := fun _ _ _ ks l _ => SpR l ks) ?_ ?_ ?_ ?_ ?_ ?_ ?_
  · intro d p h1 h2
    exact SpR.one (Or.inl ⟨rfl, _, rfl⟩)
  · intro d p h1 h2
    exact SpR.one (Or.inr (Or.inl ⟨rfl, _, rfl⟩))
  · intro d p w1 q1 e1 w2 q2 e2 h1 h2 h3
    exact SpR.one (Or.inr (Or.inr (Or.inl ⟨rfl, _, ⟨(pname_r h1).2.2.2.2.2.2.1, (pname_r h3).2.2.2.2.2.2.1⟩, rfl⟩)))
  · intro d p kx w ks l p1 h0 h1 h2 h3 h4 h5
    exact SpR.app (l := [(3, kx, sk T n p, [], [])]) (SpR.one (Or.inr (Or.inr (Or.inr (Or.inl ⟨rfl, _, w, h0, rfl⟩))))) (h4.app (SpR.one (Or.inr (Or.inr (Or.inr (Or.inr (Or.inl ⟨rfl, _, rfl⟩)))))))
  · intro d r p h
    exact rfl
  · intro d r p ks l p1 ks2 l2 p2 h1 h2 h3
    exact SpR.app (l := [(5, _, _, [], [])]) (SpR.one (Or.inr (Or.inr (Or.inr (Or.inr (Or.inr ⟨rfl, (isSg_lt h1).2.2, rfl⟩)))))) (h2.app h3)
  · intro d p ks l p1 ks2 l2 p2 h2 h3
    exact h2.app h3
/-- what a resolved token keeps -/
def RsOk (f : Nk → Tk) : Prop := ∀ x, (x.1 = 2 → (f x).1 = 2 ∨ (f x).1 = 6) ∧ (x.1 ≠ 2 → f x = (x.1, x.2.1, x.2.2.1))
theorem pform_OK {T : Nat → Nat} {n : Nat} (hn : n ≤ 400) {f : Nk → Tk} (hf : RsOk f) : ∀ d p ks l p', pform T n d p = .inr (ks, l, p') → ∀ e r, d + e = 3 → OKt e r → OKt e (l.map f ++ r) := by
  refine pform_ind (Pt := fun d _ _ l _ => ∀ e r, d + e = 3 → OKt e r → OKt e (l.map f ++ r)) (Pl := fun d _ _ _ l _ => ∀ e r, d + e = 3 → OKt e r → OKt e (l.map f ++ r)) ?_ ?_ ?_ ?_ ?_ ?_ ?_
  · intro d p h1 h2 e r he hr
    show OKt e (f (0, 0, sk T n p, [], []) :: r)
    rw [(hf (0, 0, sk T n p, [], [])).2 (show 0 ≠ 2 by decide)]
    unfold OKt
    exact hr
  · intro d p h1 h2 e r he hr
    show OKt e (f (1, 0, sk T n p, [], []) :: r)
    rw [(hf (1, 0, sk T n p, [], [])).2 (show 1 ≠ 2 by decide)]
    unfold OKt
    exact hr
  · intro d p w1 q1 e1 w2 q2 e2 h1 h2 h3 e r he hr
    show OKt e (f (2, q2, q1, w1, w2) :: r)
    unfold OKt
    rcases (hf (2, q2, q1, w1, w2)).1 rfl with k | k
    · rw [if_neg (by omega), if_neg (by omega), if_neg (by omega)]
      exact hr
    · rw [if_neg (by omega), if_neg (by omega), if_neg (by omega)]
      exact hr
  · intro d p kx w ks l p1 h0 h1 h2 h3 h4 h5 e r he hr
    show OKt e (f (3, kx, sk T n p, [], []) :: ((l ++ [(4, 0, 0, [], [])]).map f ++ r))
    rw [(hf (3, kx, sk T n p, [], [])).2 (show 3 ≠ 2 by decide), List.map_append, List.append_assoc]
    have a1 := (isLb_lt h1).1
    unfold OKt
    refine ⟨?_, ?_, by omega, ?_⟩
    · show kx = 116 ∨ kx = 110
      omega
    · show sk T n p < 400
      omega
    · refine h4 (e + 1) _ (by omega) ?_
      show OKt (e + 1) (f (4, 0, 0, [], []) :: r)
      rw [(hf (4, 0, 0, [], [])).2 (show 4 ≠ 2 by decide)]
      unfold OKt
      exact ⟨by omega, hr⟩
  · intro d r p h e r' he hr
    exact hr
  · intro d r p ks l p1 ks2 l2 p2 h1 h2 h3 e r' he hr
    show OKt e (f (5, chp T n (sk T n p), sk T n p, [], []) :: ((l ++ l2).map f ++ r'))
    rw [(hf (5, chp T n (sk T n p), sk T n p, [], [])).2 (show 5 ≠ 2 by decide), List.map_append, List.append_assoc]
    obtain ⟨c1, c2, c3⟩ := isSg_lt h1
    unfold OKt
    refine ⟨c3, ?_, h2 e _ he (h3 e _ he hr)⟩
    show sk T n p < 400
    omega
  · intro d p ks l p1 ks2 l2 p2 h2 h3 e r he hr
    rw [List.map_append, List.append_assoc]
    exact h2 e _ he (h3 e _ he hr)
