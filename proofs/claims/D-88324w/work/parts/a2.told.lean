/-! what is told of a statement tells its tokens *-/
abbrev Tx : Type := Nat × List Nat
def tk (y : Rk) : Tx := (y.1, y.2.2)
def tks (ks : List Rk) : List Tx := ks.map tk
def Flt (l : List Tx) : List Tx := l.filter (fun y => !punct y.1)
theorem Flt_app (a b : List Tx) : Flt (a ++ b) = Flt a ++ Flt b := by
  unfold Flt
  exact List.filter_append ..
theorem tks_app (a b : List Rk) : tks (a ++ b) = tks a ++ tks b := List.map_append
theorem tks_cons (y : Rk) (b : List Rk) : tks (y :: b) = (y.1, y.2.2) :: tks b := rfl
theorem Flt_p {y : Tx} {l : List Tx} (h : punct y.1 = true) : Flt (y :: l) = Flt l := by
  unfold Flt
  rw [List.filter_cons_of_neg (by rw [h]; decide)]
theorem Flt_n {y : Tx} {l : List Tx} (h : punct y.1 = false) : Flt (y :: l) = y :: Flt l := by
  unfold Flt
  rw [List.filter_cons_of_pos (by rw [h]; decide)]
/-- signs are put back: 0 a column's name, 1 a term, 2 behind a term, 3 a name behind a dot, 4 the first name behind from, 5 behind it -/
def ins : Nat → List Tx → List Tx
  | s, [] => if s = 2 ∨ s = 5 then [(59, [59])] else []
  | s, y :: l =>
    if s = 0 then y :: (58, [58]) :: ins 1 l
    else if s = 1 then (if y.1 = 1 then (if y.2 = [108, 101, 110] ∨ y.2 = [115, 116, 114] then y :: (40, [40]) :: ins 1 l else y :: (46, [46]) :: ins 3 l) else y :: ins 2 l)
    else if s = 3 then y :: ins 2 l
    else if s = 2 then (if y.1 = 1 then (if y.2 = [102, 114, 111, 109] then y :: ins 4 l else (44, [44]) :: y :: (58, [58]) :: ins 1 l) else if y.1 = 41 then y :: ins 2 l else y :: ins 1 l)
    else if s = 4 then y :: ins 5 l
    else (if y.2 = [119, 104, 101, 114, 101] then y :: ins 1 l else (44, [44]) :: y :: ins 5 l)
theorem ins_0 (y : Tx) (l : List Tx) : ins 0 (y :: l) = y :: (58, [58]) :: ins 1 l := by
  conv => lhs; unfold ins
  rw [if_pos rfl]
theorem ins_1v {y : Tx} {l : List Tx} (h : y.1 ≠ 1) : ins 1 (y :: l) = y :: ins 2 l := by
  conv => lhs; unfold ins
  rw [if_neg (by decide), if_pos rfl, if_neg h]
theorem ins_1c {y : Tx} {l : List Tx} (h : y.1 = 1) (k : y.2 = [108, 101, 110] ∨ y.2 = [115, 116, 114]) : ins 1 (y :: l) = y :: (40, [40]) :: ins 1 l := by
  conv => lhs; unfold ins
  rw [if_neg (by decide), if_pos rfl, if_pos h, if_pos k]
theorem ins_1n {y : Tx} {l : List Tx} (h : y.1 = 1) (k : ¬ (y.2 = [108, 101, 110] ∨ y.2 = [115, 116, 114])) : ins 1 (y :: l) = y :: (46, [46]) :: ins 3 l := by
  conv => lhs; unfold ins
  rw [if_neg (by decide), if_pos rfl, if_pos h, if_neg k]
theorem ins_3 (y : Tx) (l : List Tx) : ins 3 (y :: l) = y :: ins 2 l := by
  conv => lhs; unfold ins
  rw [if_neg (by decide), if_neg (by decide), if_pos rfl]
theorem ins_2f {y : Tx} {l : List Tx} (h : y.1 = 1) (k : y.2 = [102, 114, 111, 109]) : ins 2 (y :: l) = y :: ins 4 l := by
  conv => lhs; unfold ins
  rw [if_neg (by decide), if_neg (by decide), if_neg (by decide), if_pos rfl, if_pos h, if_pos k]
theorem ins_2n {y : Tx} {l : List Tx} (h : y.1 = 1) (k : ¬ y.2 = [102, 114, 111, 109]) : ins 2 (y :: l) = (44, [44]) :: y :: (58, [58]) :: ins 1 l := by
  conv => lhs; unfold ins
  rw [if_neg (by decide), if_neg (by decide), if_neg (by decide), if_pos rfl, if_pos h, if_neg k]
theorem ins_2c {y : Tx} {l : List Tx} (k : y.1 = 41) : ins 2 (y :: l) = y :: ins 2 l := by
  conv => lhs; unfold ins
  rw [if_neg (by decide), if_neg (by decide), if_neg (by decide), if_pos rfl, if_neg (by omega), if_pos k]
theorem ins_2s {y : Tx} {l : List Tx} (h : y.1 ≠ 1) (k : y.1 ≠ 41) : ins 2 (y :: l) = y :: ins 1 l := by
  conv => lhs; unfold ins
  rw [if_neg (by decide), if_neg (by decide), if_neg (by decide), if_pos rfl, if_neg h, if_neg k]
theorem ins_4 (y : Tx) (l : List Tx) : ins 4 (y :: l) = y :: ins 5 l := by
  conv => lhs; unfold ins
  rw [if_neg (by decide), if_neg (by decide), if_neg (by decide), if_neg (by decide), if_pos rfl]
theorem ins_5w {y : Tx} {l : List Tx} (h : y.2 = [119, 104, 101, 114, 101]) : ins 5 (y :: l) = y :: ins 1 l := by
  conv => lhs; unfold ins
  rw [if_neg (by decide), if_neg (by decide), if_neg (by decide), if_neg (by decide), if_neg (by decide), if_pos h]
theorem ins_5n {y : Tx} {l : List Tx} (h : ¬ y.2 = [119, 104, 101, 114, 101]) : ins 5 (y :: l) = (44, [44]) :: y :: ins 5 l := by
  conv => lhs; unfold ins
  rw [if_neg (by decide), if_neg (by decide), if_neg (by decide), if_neg (by decide), if_neg (by decide), if_neg h]
theorem ins_2e : ins 2 [] = [(59, [59])] := rfl
theorem ins_5e : ins 5 [] = [(59, [59])] := rfl
theorem pform_ins {T : Nat → Nat} {n : Nat} : ∀ d p ks l p', pform T n d p = .inr (ks, l, p') → ∀ r, ins 1 (Flt (tks ks) ++ r) = tks ks ++ ins 2 r := by
  refine pform_ind (Pt := fun _ _ ks l _ => ∀ r, ins 1 (Flt (tks ks) ++ r) = tks ks ++ ins 2 r) (Pl := fun _ _ _ ks l _ => ∀ r, ins 2 (Flt (tks ks) ++ r) = tks ks ++ ins 2 r) ?_ ?_ ?_ ?_ ?_ ?_ ?_
  · intro d p h1 h2 r
    rw [tks_cons, Flt_n rfl]
    exact ins_1v (show 2 ≠ 1 by decide)
  · intro d p h1 h2 r
    rw [tks_cons, Flt_n rfl]
    exact ins_1v (show 3 ≠ 1 by decide)
  · intro d p w1 q1 e1 w2 q2 e2 h1 h2 h3 r
    have k := (pname_r h1).2.2.2.2.2.1
    rw [tks_cons, tks_cons, tks_cons, Flt_n rfl, Flt_p rfl, Flt_n rfl]
    show ins 1 ((1, w1) :: (1, w2) :: r) = _
    rw [ins_1n rfl (fun e => k (by
      show w1 ∈ kwl
      rcases e with e | e
      · rw [show w1 = [108, 101, 110] from e]; decide
      · rw [show w1 = [115, 116, 114] from e]; decide)), ins_3]
    rfl
  · intro d p kx w ks l p1 h0 h1 h2 h3 h4 h5 r
    rw [tks_cons, tks_cons, Flt_n rfl, Flt_p rfl, tks_app, Flt_app]
    show ins 1 ((1, w) :: (Flt (tks ks) ++ Flt (tks [(41, sk T n p1, [41])]) ++ r)) = _
    rw [ins_1c rfl (by rcases h0 with h0 | h0; exact Or.inl h0.2; exact Or.inr h0.2), List.append_assoc, h4]
    show _ :: _ :: (tks ks ++ ins 2 ((41, [41]) :: r)) = _
    rw [ins_2c rfl]
    show _ = (1, w) :: (40, [40]) :: (tks ks ++ [(41, [41])] ++ ins 2 r)
    rw [List.append_assoc]
    rfl
  · intro d r p h r'
    rfl
  · intro d r p ks l p1 ks2 l2 p2 h1 h2 h3 r'
    obtain ⟨c1, c2, c3⟩ := isSg_lt h1
    generalize chp T n (sk T n p) = c at h1 c2 c3
    rw [tks_cons, Flt_n (by rcases c3 with rfl | rfl | rfl <;> rfl), tks_app, Flt_app]
    show ins 2 ((c, [c]) :: (Flt (tks ks) ++ Flt (tks ks2) ++ r')) = _
    rw [ins_2s (show c ≠ 1 by omega) (show c ≠ 41 by omega), List.append_assoc, h2, h3, ← List.append_assoc]
    rfl
  · intro d p ks l p1 ks2 l2 p2 h2 h3 r
    rw [tks_app, Flt_app, List.append_assoc, h2, h3, List.append_assoc]
theorem pcol_ins {T : Nat → Nat} {n : Nat} : ∀ (r p : Nat) (ks : List Rk) (cs : List Cs) (p' : Nat), pcol T n r p = .inr (ks, cs, p') → ∀ t, ins 0 (Flt (tks ks) ++ t) = tks ks ++ ins 2 t ∧ ins 2 (Flt (tks ks) ++ t) = (44, [44]) :: (tks ks ++ ins 2 t) := by
  intro r
  induction r with
  | zero => intro p ks cs p' h; cases h
  | succ r ih =>
    intro p ks cs p' h t
    unfold pcol at h
    obtain ⟨⟨w, q, e⟩, h1, h⟩ := pb_r h
    obtain ⟨b, h2, h⟩ := pb_r h
    obtain ⟨h2, rfl⟩ := psg_r h2
    obtain ⟨⟨k1, l1, p1⟩, h3, h⟩ := pb_r h
    have hf := pform_ins _ _ _ _ _ h3
    have hw : ¬ w = [102, 114, 111, 109] := fun e => (pname_r h1).2.2.2.2.2.1 (by rw [e]; decide)
    have key : ∀ (ks0 : List Rk) (t : List Tx), (∀ t, ins 2 (Flt (tks ks0) ++ t) = tks ks0 ++ ins 2 t) → ins 0 (Flt (tks ((1, q, w) :: (58, sk T n e, [58]) :: (k1 ++ ks0))) ++ t) = tks ((1, q, w) :: (58, sk T n e, [58]) :: (k1 ++ ks0)) ++ ins 2 t ∧ ins 2 (Flt (tks ((1, q, w) :: (58, sk T n e, [58]) :: (k1 ++ ks0))) ++ t) = (44, [44]) :: (tks ((1, q, w) :: (58, sk T n e, [58]) :: (k1 ++ ks0)) ++ ins 2 t) := by
      intro ks0 t hk
      have e1 : Flt (tks ((1, q, w) :: (58, sk T n e, [58]) :: (k1 ++ ks0))) = (1, w) :: (Flt (tks k1) ++ Flt (tks ks0)) := by
        rw [tks_cons, tks_cons, Flt_n rfl, Flt_p rfl, tks_app, Flt_app]
      have e2 : tks ((1, q, w) :: (58, sk T n e, [58]) :: (k1 ++ ks0)) = (1, w) :: (58, [58]) :: (tks k1 ++ tks ks0) := by
        rw [tks_cons, tks_cons, tks_app]
      rw [e1, e2]
      refine ⟨?_, ?_⟩
      · rw [List.cons_append, ins_0, List.append_assoc, hf, hk]
        simp
      · rw [List.cons_append, ins_2n rfl hw, List.append_assoc, hf, hk]
        simp
    by_cases e44 : chp T n (sk T n p1) = 44
    · rw [if_pos e44] at h
      obtain ⟨⟨k2, c2, p2⟩, h4, h⟩ := pb_r h
      cases h
      refine key _ t fun t => ?_
      rw [tks_cons, Flt_p rfl, (ih _ _ _ _ h4 t).2]
      rfl
    · rw [if_neg e44] at h
      cases h
      have := key [] t (fun t => rfl)
      rw [List.append_nil] at this
      exact this
theorem pfrm_ins {T : Nat → Nat} {n : Nat} : ∀ (r p : Nat) (ks : List Rk) (cs : List (List Nat × Nat)) (p' : Nat), pfrm T n r p = .inr (ks, cs, p') → ∀ t, ins 4 (Flt (tks ks) ++ t) = tks ks ++ ins 5 t ∧ ins 5 (Flt (tks ks) ++ t) = (44, [44]) :: (tks ks ++ ins 5 t) := by
  intro r
  induction r with
  | zero => intro p ks cs p' h; cases h
  | succ r ih =>
    intro p ks cs p' h t
    unfold pfrm at h
    obtain ⟨⟨w, q, e⟩, h1, h⟩ := pb_r h
    have hw : ¬ w = [119, 104, 101, 114, 101] := fun e => (pname_r h1).2.2.2.2.2.1 (by rw [e]; decide)
    have h' : (if chp T n (sk T n e) = 44 then pb (pfrm T n r (sk T n e + 1)) fun d => .inr ((1, q, w) :: (44, sk T n e, [44]) :: d.1, (w, q) :: d.2.1, d.2.2) else .inr ([(1, q, w)], [(w, q)], sk T n e)) = Sum.inr (ks, cs, p') := h
    by_cases e44 : chp T n (sk T n e) = 44
    · rw [if_pos e44] at h'
      obtain ⟨⟨k2, c2, p2⟩, h4, h⟩ := pb_r h'
      cases h
      have e1 : Flt (tks ((1, q, w) :: (44, sk T n e, [44]) :: k2)) = (1, w) :: Flt (tks k2) := by
        rw [tks_cons, tks_cons, Flt_n rfl, Flt_p rfl]
      have e2 : tks ((1, q, w) :: (44, sk T n e, [44]) :: k2) = (1, w) :: (44, [44]) :: tks k2 := rfl
      show ins 4 (Flt (tks ((1, q, w) :: (44, sk T n e, [44]) :: k2)) ++ t) = tks ((1, q, w) :: (44, sk T n e, [44]) :: k2) ++ _ ∧ ins 5 (Flt (tks ((1, q, w) :: (44, sk T n e, [44]) :: k2)) ++ t) = _ :: (tks ((1, q, w) :: (44, sk T n e, [44]) :: k2) ++ _)
      rw [e1, e2, List.cons_append]
      refine ⟨?_, ?_⟩
      · rw [ins_4, (ih _ _ _ _ h4 t).2]
        rfl
      · rw [ins_5n hw, (ih _ _ _ _ h4 t).2]
        rfl
    · rw [if_neg e44] at h'
      cases h'
      refine ⟨?_, ?_⟩
      · show ins 4 ((1, w) :: t) = _
        rw [ins_4]
        rfl
      · show ins 5 ((1, w) :: t) = _
        rw [ins_5n hw]
        rfl
theorem pwh_ins {T : Nat → Nat} {n p : Nat} {ks : List Rk} {w : Option Wh} {p' : Nat} (h : pwh T n p = .inr (ks, w, p')) : ins 5 (Flt (tks ks)) = tks ks ++ [(59, [59])] := by
  unfold pwh at h
  by_cases e : pwd [119, 104, 101, 114, 101] T n p = true
  · rw [if_pos e] at h
    obtain ⟨⟨k1, l1, p1⟩, h1, h⟩ := pb_r h
    have h' : (if chp T n (sk T n p1) = 60 ∨ chp T n (sk T n p1) = 61 then pb (pform T n 3 (sk T n p1 + 1)) fun b => .inr ((1, sk T n p, [119, 104, 101, 114, 101]) :: (k1 ++ (chp T n (sk T n p1), sk T n p1, [chp T n (sk T n p1)]) :: b.1), some ((k1, l1), (chp T n (sk T n p1), sk T n p1), b.1, b.2.1), b.2.2) else .inl (sk T n p1)) = Sum.inr (ks, w, p') := h
    by_cases e6 : chp T n (sk T n p1) = 60 ∨ chp T n (sk T n p1) = 61
    · rw [if_pos e6] at h'
      obtain ⟨⟨k2, l2, p2⟩, h2, h⟩ := pb_r h'
      cases h
      have f1 := pform_ins _ _ _ _ _ h1
      have f2 := pform_ins _ _ _ _ _ h2
      show ins 5 (Flt (tks ((1, sk T n p, [119, 104, 101, 114, 101]) :: (k1 ++ (chp T n (sk T n p1), sk T n p1, [chp T n (sk T n p1)]) :: k2)))) = tks ((1, sk T n p, [119, 104, 101, 114, 101]) :: (k1 ++ (chp T n (sk T n p1), sk T n p1, [chp T n (sk T n p1)]) :: k2)) ++ _
      generalize chp T n (sk T n p1) = c at e6
      have e1 : Flt (tks ((1, sk T n p, [119, 104, 101, 114, 101]) :: (k1 ++ (c, sk T n p1, [c]) :: k2))) = (1, [119, 104, 101, 114, 101]) :: (Flt (tks k1) ++ (c, [c]) :: Flt (tks k2)) := by
        rw [tks_cons, Flt_n rfl, tks_app, Flt_app, tks_cons, Flt_n (by rcases e6 with rfl | rfl <;> rfl)]
      have e2 : tks ((1, sk T n p, [119, 104, 101, 114, 101]) :: (k1 ++ (c, sk T n p1, [c]) :: k2)) = (1, [119, 104, 101, 114, 101]) :: (tks k1 ++ (c, [c]) :: tks k2) := by
        rw [tks_cons, tks_app, tks_cons]
      rw [e1, e2, ins_5w rfl, f1, ins_2s (show c ≠ 1 by omega) (show c ≠ 41 by omega)]
      have f2' := f2 []
      rw [List.append_nil, ins_2e] at f2'
      rw [f2']
      simp
    · rw [if_neg e6] at h'
      cases h'
  · rw [if_neg e] at h
    cases h
    rfl
theorem psel_ins {T : Nat → Nat} {n p : Nat} {b : Sl} {c : Rk × Nat} (h : psel T n p = .inr b) (hc : pend T n b.2.2.2.2 = .inr c) : ∃ m, tks (b.1 ++ [c.1]) = (61, [61]) :: m ∧ ins 0 (Flt m) = m := by
  unfold psel at h
  obtain ⟨b0, h1, h⟩ := pb_r h
  obtain ⟨h1, rfl⟩ := psg_r h1
  obtain ⟨⟨k1, c1, p1⟩, h2, h⟩ := pb_r h
  have h' : (if pwd [102, 114, 111, 109] T n p1 = true then
      pb (pfrm T n 3 (lw T n (sk T n p1))) fun c => pb (pwh T n c.2.2) fun d => .inr ((61, sk T n p, [61]) :: (k1 ++ (1, sk T n p1, [102, 114, 111, 109]) :: (c.1 ++ d.1)), c1, c.2.1, d.2.1, d.2.2)
    else .inl (sk T n p1)) = Sum.inr b := h
  by_cases e : pwd [102, 114, 111, 109] T n p1 = true
  · rw [if_pos e] at h'
    obtain ⟨⟨k2, c2, p2⟩, h3, h⟩ := pb_r h'
    obtain ⟨⟨k3, w, p3⟩, h4, h⟩ := pb_r h
    cases h
    unfold pend at hc
    obtain ⟨b0, g1, hc⟩ := pb_r hc
    obtain ⟨g1, rfl⟩ := psg_r g1
    by_cases e5 : chp T n (sk T n (sk T n p3 + 1)) = 256
    · have hc' : (if chp T n (sk T n (sk T n p3 + 1)) = 256 then Sum.inr ((59, sk T n p3, [59]), sk T n (sk T n p3 + 1)) else .inl (sk T n (sk T n p3 + 1))) = Sum.inr c := hc
      rw [if_pos e5] at hc'
      cases hc'
      have i1 := fun t => (pcol_ins _ _ _ _ _ h2 t).1
      have i2 := fun t => (pfrm_ins _ _ _ _ _ h3 t).1
      have i3 := pwh_ins h4
      refine ⟨tks k1 ++ (1, [102, 114, 111, 109]) :: (tks k2 ++ tks k3 ++ [(59, [59])]), ?_, ?_⟩
      · show (61, [61]) :: tks ((k1 ++ (1, sk T n p1, [102, 114, 111, 109]) :: (k2 ++ k3)) ++ [(59, sk T n p3, [59])]) = _
        rw [tks_app, tks_app, tks_cons, tks_app]
        simp [tks, tk]
      · rw [Flt_app, Flt_n rfl, Flt_app, Flt_app, show Flt [(59, [59])] = [] from rfl, List.append_nil, i1, ins_2f rfl rfl, i2, i3]
        simp
    · have hc' : (if chp T n (sk T n (sk T n p3 + 1)) = 256 then Sum.inr ((59, sk T n p3, [59]), sk T n (sk T n p3 + 1)) else .inl (sk T n (sk T n p3 + 1))) = Sum.inr c := hc
      rw [if_neg e5] at hc'
      cases hc'
  · rw [if_neg e] at h'
    cases h'
/-- what a told token is -/
def Gd (y : Tx) : Prop := (y.1 = 1 ∧ y.2 ≠ [] ∧ ∀ b ∈ y.2, isLb b = true) ∨ (y.1 = 2 ∧ y.2 ≠ [] ∧ ∀ b ∈ y.2, isDb b = true) ∨ (y.1 = 3 ∧ ∃ m, y.2 = 39 :: (m ++ [39]) ∧ ∀ b ∈ m, isQb b = true) ∨ (y.2 = [y.1] ∧ (y.1 = 43 ∨ y.1 = 45 ∨ y.1 = 38 ∨ y.1 = 41 ∨ y.1 = 60 ∨ y.1 = 61))
theorem split_c {c : Nat} : ∀ {l l' r r' : List Nat}, c ∉ l → c ∉ l' → l ++ c :: r = l' ++ c :: r' → l = l' ∧ r = r'
  | [], [], _, _, _, _, h => ⟨rfl, (List.cons.inj h).2⟩
  | [], x :: l', _, _, _, h2, h => absurd ((List.cons.inj h).1 ▸ List.mem_cons_self) h2
  | x :: l, [], _, _, h1, _, h => absurd ((List.cons.inj h).1 ▸ List.mem_cons_self) h1
  | x :: l, y :: l', r, r', h1, h2, h => by
    obtain ⟨e, h'⟩ := List.cons.inj h
    subst e
    obtain ⟨e1, e2⟩ := split_c (fun k => h1 (List.mem_cons_of_mem _ k)) (fun k => h2 (List.mem_cons_of_mem _ k)) h'
    exact ⟨by rw [e1], e2⟩
theorem Gd.hd {y : Tx} (h : Gd y) : ∃ b m, y.2 = b :: m ∧ (b = 39 ↔ y.1 = 3) ∧ (isLb b = true ↔ y.1 = 1) ∧ (isDb b = true ↔ y.1 = 2) ∧ (y.1 ≠ 3 → 32 ∉ y.2) := by
  rcases h with ⟨h1, h2, h3⟩ | ⟨h1, h2, h3⟩ | ⟨h1, m, h2, h3⟩ | ⟨h1, h2⟩
  · cases e : y.2 with
    | nil => exact absurd e h2
    | cons b m =>
      have hb := h3 b (by rw [e]; exact List.mem_cons_self)
      have hb' : 97 ≤ b ∧ b ≤ 122 := isLb_L hb
      refine ⟨b, m, rfl, by omega, by rw [h1]; exact ⟨fun _ => rfl, fun _ => hb⟩, ⟨fun k => ?_, by omega⟩, fun _ k => ?_⟩
      · unfold isDb at k
        rw [decide_eq_true_eq] at k
        omega
      · have := h3 32 (by rw [e]; exact k)
        cases this
  · cases e : y.2 with
    | nil => exact absurd e h2
    | cons b m =>
      have hb := h3 b (by rw [e]; exact List.mem_cons_self)
      have hb' : 48 ≤ b ∧ b ≤ 57 := by
        unfold isDb at hb
        rw [decide_eq_true_eq] at hb
        exact hb
      refine ⟨b, m, rfl, by omega, ⟨fun k => ?_, by omega⟩, by rw [h1]; exact ⟨fun _ => rfl, fun _ => hb⟩, fun _ k => ?_⟩
      · have : 97 ≤ b ∧ b ≤ 122 := isLb_L k
        omega
      · have := h3 32 (by rw [e]; exact k)
        cases this
  · refine ⟨39, m ++ [39], h2, by omega, ⟨fun k => absurd k (by decide), by omega⟩, ⟨fun k => absurd k (by decide), by omega⟩, fun k => absurd h1 k⟩
  · rw [h1]
    refine ⟨y.1, [], rfl, by omega, ⟨fun k => ?_, fun k => by omega⟩, ⟨fun k => ?_, fun k => by omega⟩, fun _ k => ?_⟩
    · have : 97 ≤ y.1 ∧ y.1 ≤ 122 := isLb_L k
      omega
    · unfold isDb at k
      rw [decide_eq_true_eq] at k
      omega
    · rw [List.mem_singleton] at k
      omega
theorem Gd.inj {y z : Tx} {r r' : List Nat} (h : Gd y) (k : Gd z) (e : y.2 ++ 32 :: r = z.2 ++ 32 :: r') : y = z ∧ r = r' := by
  obtain ⟨b, m, h1, h2, h3, h4, h5⟩ := h.hd
  obtain ⟨b', m', k1, k2, k3, k4, k5⟩ := k.hd
  have eb : b = b' := by
    rw [h1, k1] at e
    exact (List.cons.inj e).1
  subst eb
  by_cases e3 : y.1 = 3
  · have z3 : z.1 = 3 := k2.mp (h2.mpr e3)
    have g1 : ∃ m, y.2 = 39 :: (m ++ [39]) ∧ ∀ b ∈ m, isQb b = true := by
      rcases h with h | h | h | h
      · omega
      · omega
      · exact h.2
      · omega
    have g2 : ∃ m, z.2 = 39 :: (m ++ [39]) ∧ ∀ b ∈ m, isQb b = true := by
      rcases k with h | h | h | h
      · omega
      · omega
      · exact h.2
      · omega
    obtain ⟨u, u1, u2⟩ := g1
    obtain ⟨v, v1, v2⟩ := g2
    rw [u1, v1] at e
    rw [List.cons_append, List.cons_append, List.append_assoc, List.append_assoc] at e
    have e' := (List.cons.inj e).2
    obtain ⟨e1, e2⟩ := split_c (c := 39) (fun q => by have := u2 _ q; cases this) (fun q => by have := v2 _ q; cases this) e'
    refine ⟨?_, (List.cons.inj e2).2⟩
    have : y.2 = z.2 := by rw [u1, v1, e1]
    exact Prod.ext (by omega) this
  · have z3 : z.1 ≠ 3 := fun q => e3 (h2.mp (k2.mpr q))
    obtain ⟨e1, e2⟩ := split_c (h5 e3) (k5 z3) e
    refine ⟨Prod.ext ?_ e1, e2⟩
    by_cases q1 : y.1 = 1
    · rw [q1, k3.mp (h3.mpr q1)]
    · by_cases q2 : y.1 = 2
      · rw [q2, k4.mp (h4.mpr q2)]
      · have z1 : ¬ z.1 = 1 := fun q => q1 (h3.mp (k3.mpr q))
        have z2 : ¬ z.1 = 2 := fun q => q2 (h4.mp (k4.mpr q))
        have g1 : y.2 = [y.1] := by
          rcases h with h | h | h | h
          · omega
          · omega
          · omega
          · exact h.1
        have g2 : z.2 = [z.1] := by
          rcases k with h | h | h | h
          · omega
          · omega
          · omega
          · exact h.1
        rw [g1, g2] at e1
        exact (List.cons.inj e1).1
def tolds (l : List Tx) : List Nat := l.flatMap (fun y => y.2 ++ [32])
theorem tolds_cons (y : Tx) (l : List Tx) : tolds (y :: l) = y.2 ++ 32 :: tolds l := by
  unfold tolds
  rw [List.flatMap_cons, List.append_assoc]
  rfl
theorem tolds_app (a b : List Tx) : tolds (a ++ b) = tolds a ++ tolds b := List.flatMap_append
theorem tolds_inj : ∀ {l m : List Tx}, (∀ y ∈ l, Gd y) → (∀ y ∈ m, Gd y) → tolds l = tolds m → l = m
  | [], [], _, _, _ => rfl
  | [], y :: m, _, _, h => by
    rw [tolds_cons] at h
    have := congrArg List.length h
    rw [List.length_append] at this
    simp [tolds] at this
  | y :: l, [], _, _, h => by
    rw [tolds_cons] at h
    have := congrArg List.length h
    rw [List.length_append] at this
    simp [tolds] at this
  | y :: l, z :: m, hl, hm, h => by
    rw [tolds_cons, tolds_cons] at h
    obtain ⟨rfl, h'⟩ := Gd.inj (hl y List.mem_cons_self) (hm z List.mem_cons_self) h
    rw [tolds_inj (fun y hy => hl y (List.mem_cons_of_mem _ hy)) (fun y hy => hm y (List.mem_cons_of_mem _ hy)) h']
/-- a text of a statement -/
def TXok (l : List Tx) : Prop := ∃ m, l = (61, [61]) :: m ∧ ins 0 (Flt m) = m ∧ ∀ y ∈ Flt m, Gd y
theorem told_eq (m : List Tx) (x : Tx) : told (x :: m) = tolds (Flt m) := rfl
theorem told_inj {l m : List Tx} (h : TXok l) (k : TXok m) (e : told l = told m) : l = m := by
  obtain ⟨a, rfl, h1, h2⟩ := h
  obtain ⟨b, rfl, k1, k2⟩ := k
  rw [told_eq, told_eq] at e
  have := tolds_inj h2 k2 e
  rw [← h1, ← k1, this]
