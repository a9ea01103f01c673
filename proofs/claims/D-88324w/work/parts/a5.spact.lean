/-! the spec's act *-/
def tnf_ (s : SP) (w : List Nat) : Nat → Nat → Option Nat
  | _, 0 => none
  | k, r + 1 => if z_th s k = true ∧ z_nm s k = w then some k else tnf_ s w (k + 1) r
def tnf (s : SP) (w : List Nat) : Option Nat := tnf_ s w 0 (z_n s)
theorem tnf_s {s : SP} {w : List Nat} : ∀ (r k q : Nat), tnf_ s w k r = some q → k ≤ q ∧ q < k + r ∧ z_th s q = true ∧ z_nm s q = w
  | 0, _, _, h => by cases h
  | r + 1, k, q, h => by
    unfold tnf_ at h
    by_cases e : z_th s k = true ∧ z_nm s k = w
    · rw [if_pos e] at h
      cases h
      exact ⟨Nat.le_refl _, by omega, e⟩
    · rw [if_neg e] at h
      obtain ⟨h1, h2, h3⟩ := tnf_s r (k + 1) q h
      exact ⟨by omega, by omega, h3⟩
theorem tnf_some {s : SP} {w : List Nat} {q : Nat} (h : tnf s w = some q) : q < z_n s ∧ z_th s q = true ∧ z_nm s q = w := by
  obtain ⟨h1, h2, h3⟩ := tnf_s _ _ _ h
  exact ⟨by omega, h3⟩
theorem tnf_n {s : SP} {w : List Nat} : ∀ (r k : Nat), tnf_ s w k r = none → ∀ q, k ≤ q → q < k + r → z_th s q = true → z_nm s q ≠ w
  | 0, k, _, q, h1, h2, _ => by omega
  | r + 1, k, h, q, h1, h2, h3 => by
    unfold tnf_ at h
    by_cases e : z_th s k = true ∧ z_nm s k = w
    · rw [if_pos e] at h
      cases h
    · rw [if_neg e] at h
      by_cases eq : q = k
      · subst eq
        exact fun k => e ⟨h3, k⟩
      · exact tnf_n r (k + 1) h q (by omega) (by omega) h3
theorem tnf_none {s : SP} {w : List Nat} (h : tnf s w = none) : ∀ q, q < z_n s → z_th s q = true → z_nm s q ≠ w := fun q hq => tnf_n _ _ h q (Nat.zero_le _) (by omega)
/-- a name of a formula resolved -/
def res (s : SP) (fs : List (List Nat × Nat)) (x : Nk) : Tk :=
  if x.1 = 2 then (match cnf (fnm fs) x.2.2.2.1 0 fs.length with
    | none => (6, 1, x.2.2.1)
    | some k => match tnf s (fnm fs k) with
      | none => (6, 0, x.2.2.1)
      | some q => match cnf (z_cn s q) x.2.2.2.2 0 (z_nc s q) with
        | none => (6, 1, x.2.1)
        | some c => (2, 8 * q + c, x.2.2.1))
  else (x.1, x.2.1, x.2.2.1)
theorem res_cases {s : SP} {fs : List (List Nat × Nat)} {x : Nk} (h : x.1 = 2) : res s fs x = (6, 1, x.2.2.1) ∨ res s fs x = (6, 0, x.2.2.1) ∨ res s fs x = (6, 1, x.2.1) ∨ ∃ k q c, cnf (fnm fs) x.2.2.2.1 0 fs.length = some k ∧ tnf s (fnm fs k) = some q ∧ cnf (z_cn s q) x.2.2.2.2 0 (z_nc s q) = some c ∧ res s fs x = (2, 8 * q + c, x.2.2.1) := by
  unfold res
  rw [if_pos h]
  cases h1 : cnf (fnm fs) x.2.2.2.1 0 fs.length with
  | none => exact Or.inl rfl
  | some k =>
    cases h2 : tnf s (fnm fs k) with
    | none =>
      refine Or.inr (Or.inl ?_)
      simp only [h2]
    | some q =>
      cases h3 : cnf (z_cn s q) x.2.2.2.2 0 (z_nc s q) with
      | none =>
        refine Or.inr (Or.inr (Or.inl ?_))
        simp only [h2, h3]
      | some c =>
        refine Or.inr (Or.inr (Or.inr ⟨k, q, c, rfl, h2, h3, ?_⟩))
        simp only [h2, h3]
theorem res_ok (s : SP) (fs : List (List Nat × Nat)) : RsOk (res s fs) := by
  intro x
  refine ⟨fun h => ?_, fun h => ?_⟩
  · rcases res_cases (s := s) (fs := fs) h with e | e | e | ⟨k, q, c, -, -, -, e⟩
    · exact Or.inr (by rw [e])
    · exact Or.inr (by rw [e])
    · exact Or.inr (by rw [e])
    · exact Or.inl (by rw [e])
  · unfold res
    rw [if_neg h]
/-- the event of a resolved token -/
def pev (x : Tk) : Ev2 := if x.1 = 6 ∧ x.2.1 = 1 then [(2, x.2.2)] else []
theorem tt_ev (T : Nat → Nat) (x : Tk) : (tt T x).2.2.2 = pev x := by
  unfold tt pev
  by_cases h0 : x.1 = 0
  · rw [if_pos h0, if_neg (by omega)]
  · rw [if_neg h0]
    by_cases h1 : x.1 = 1
    · rw [if_pos h1, if_neg (by omega)]
    · rw [if_neg h1]
      by_cases h2 : x.1 = 2
      · rw [if_pos h2, if_neg (by omega)]
      · rw [if_neg h2]
        by_cases h6 : x.1 = 6
        · rw [if_pos h6]
          by_cases h : x.2.1 = 1
          · rw [if_pos (show x.1 = 6 ∧ x.2.1 = 1 from ⟨h6, h⟩)]
            show (if x.2.1 = 1 then [(2, x.2.2)] else []) = _
            rw [if_pos h]
          · rw [if_neg (show ¬ (x.1 = 6 ∧ x.2.1 = 1) from fun k => h k.2)]
            show (if x.2.1 = 1 then [(2, x.2.2)] else []) = _
            rw [if_neg h]
        · rw [if_neg h6, if_neg (show ¬ (x.1 = 6 ∧ x.2.1 = 1) from fun k => h6 k.1)]
theorem tt_1 (T : Nat → Nat) (x : Tk) : (x.1 = 3 ∨ x.1 = 4 ∨ x.1 = 5 → tt T x = (x.1, x.2.1, x.2.2, [])) ∧ (x.1 = 0 ∨ x.1 = 1 ∨ x.1 = 2 ∨ x.1 = 6 → (tt T x).1 = 2) := by
  unfold tt
  refine ⟨fun h => ?_, fun h => ?_⟩
  · rw [if_neg (by omega), if_neg (by omega), if_neg (by omega), if_neg (by omega)]
  · by_cases h0 : x.1 = 0
    · rw [if_pos h0]
    · rw [if_neg h0]
      by_cases h1 : x.1 = 1
      · rw [if_pos h1]
      · rw [if_neg h1]
        by_cases h2 : x.1 = 2
        · rw [if_pos h2]
        · rw [if_neg h2, if_pos (by omega)]
def cns (st : St) : List (List Nat × Nat) := match st.2.1 with
  | .inl cs => cs.map (fun c => (c.1, c.2.1))
  | .inr y => y.1.map (fun c => (c.1, c.2.1))
def frs (st : St) : List (List Nat × Nat) := match st.2.1 with
  | .inl _ => []
  | .inr y => y.2.1
def fms (st : St) : List (List Nk) := match st.2.1 with
  | .inl _ => []
  | .inr y => y.1.map (fun c => c.2.2.2)
def whr (st : St) : Option Wh := match st.2.1 with
  | .inl _ => none
  | .inr y => y.2.2
def whl (w : Option Wh) : List (List Nk) := match w with
  | none => []
  | some w => [w.1.2, w.2.2.2]
def allf (st : St) : List (List Nk) := fms st ++ whl (whr st)
def rsv (s : SP) (st : St) : Nk → Tk := res s (frs st)
def evN (s : SP) (nm : List Nat) (np : Nat) : Ev2 := if tnf s nm = none then [] else [(4, np)]
def dupk (ns : List (List Nat × Nat)) (k : Nat) : Bool := (List.range k).any (fun i => decide (fnm ns i = fnm ns k))
def evD (ns : List (List Nat × Nat)) : Ev2 := (List.range ns.length).flatMap (fun k => if dupk ns k = true then [(4, fpl ns k)] else [])
def evX (s : SP) (fs : List (List Nat × Nat)) : Ev2 := (List.range fs.length).flatMap (fun k => if tnf s (fnm fs k) = none then [(2, fpl fs k)] else [])
def evF (s : SP) (st : St) (l : List Nk) : Ev2 := (evt (tys s) (l.map (rsv s st))).2
def tyF (s : SP) (st : St) (l : List Nk) : Nat := tyv (tys s) (l.map (rsv s st))
/-- the event of two sides that don't go together -/
def evW (s : SP) (st : St) : Ev2 := match whr st with
  | none => []
  | some w => if ¬ tyF s st w.1.2 = 0 ∧ ¬ tyF s st w.2.2.2 = 0 ∧ ¬ tyF s st w.1.2 = tyF s st w.2.2.2 then [(3, w.2.1.2)] else []
def evA (s : SP) (st : St) : Ev2 := evN s st.1.2.1 st.1.2.2 ++ (evD (cns st) ++ (evD (frs st) ++ (evX s (frs st) ++ ((allf st).flatMap (evF s st) ++ evW s st))))
def ty_of (s : SP) (st : St) (c : Nat) : Nat := match st.2.1 with
  | .inl cs => (cs.getD c ([], 0, 0)).2.2
  | .inr _ => tyF s st ((fms st).getD c [])
def fo_of (s : SP) (st : St) (c : Nat) : List Tk := (match whr st with
  | none => (fms st).getD c []
  | some w => if c = 6 then w.1.2 else if c = 7 then w.2.2.2 else (fms st).getD c []).map (rsv s st)
def act_s (s : SP) (st : St) : SP := (z_n s + 1, h_up (z_th s) (z_n s) true, h_up (z_nm s) (z_n s) st.1.2.1, h_up (z_so s) (z_n s) st.1.1, h_up (z_nc s) (z_n s) (cns st).length, h_up (z_cn s) (z_n s) (fnm (cns st)), h_up (z_ty s) (z_n s) (ty_of s st), h_up (z_nb s) (z_n s) (frs st).length, h_up (z_fr s) (z_n s) (fun k => (tnf s (fnm (frs st) k)).getD 0),
  h_up (z_ow s) (z_n s) i_m, h_up (z_lg s) (z_n s) i_m, h_up (z_ol s) (z_n s) i_m, h_up (z_nw s) (z_n s) i_m, h_up (z_fo s) (z_n s) (fo_of s st), h_up (z_hw s) (z_n s) (whr st).isSome, h_up (z_tx s) (z_n s) (tks st.2.2), z_na s, z_at s, z_ab s, z_ad s, z_td s, z_fd s, i_ 0, i_m, 0, z_tp s)
def flt_s (s : SP) (k p : Nat) : SP := (z_n s, z_th s, z_nm s, z_so s, z_nc s, z_cn s, z_ty s, z_nb s, z_fr s, z_ow s, z_lg s, z_ol s, z_nw s, z_fo s, z_hw s, z_tx s, z_na s, z_at s, z_ab s, z_ad s, z_td s, z_fd s, i_ k, i_ p, 0, z_tp s)
def sp_act (s : SP) : Int32 × SP := match pstat (z_tp s) (z_tl s) with
  | .inl e => (i_m, flt_s s 1 e)
  | .inr st => match mwl none (evA s st) with
    | some b => (i_m, flt_s s b.1 b.2)
    | none => if z_n s = 16 then (i_m, flt_s s 5 0) else (i_ (z_n s), act_s s st)
/-! what is known of a statement that parses -/
theorem psrc_r {T : Nat → Nat} {n p : Nat} {b : List Rk × List (List Nat × Nat × Nat) × Nat} (h : psrc T n p = .inr b) : ∃ k1 c1 p1, chp T n (sk T n p) = 40 ∧ psr T n 6 (sk T n p + 1) = .inr (k1, c1, p1) ∧ chp T n (sk T n p1) = 41 ∧ b = ((40, sk T n p, [40]) :: (k1 ++ [(41, sk T n p1, [41])]), c1, sk T n p1 + 1) := by
  unfold psrc at h
  obtain ⟨b0, h0, h⟩ := pb_r h
  obtain ⟨h1, rfl⟩ := psg_r h0
  obtain ⟨⟨k1, c1, p1⟩, h2, h⟩ := pb_r h
  obtain ⟨b1, h3, h⟩ := pb_r h
  obtain ⟨h4, rfl⟩ := psg_r h3
  cases h
  exact ⟨k1, c1, p1, h1, h2, h4, rfl⟩
theorem ptyp_r {T : Nat → Nat} {n p : Nat} {b : Nat × Nat × Nat} (h : ptyp T n p = .inr b) : isLb (chp T n (sk T n p)) = true ∧ sl T (sk T n p) (lw T n (sk T n p)) = [T (sk T n p)] ∧ (T (sk T n p) = 110 ∨ T (sk T n p) = 116 ∨ T (sk T n p) = 100) ∧ lw T n (sk T n p) = sk T n p + 1 ∧ b = (T (sk T n p), sk T n p, lw T n (sk T n p)) := by
  unfold ptyp at h
  by_cases e : isLb (chp T n (sk T n p)) = true ∧ sl T (sk T n p) (lw T n (sk T n p)) ∈ ([[110], [116], [100]] : List (List Nat))
  · rw [if_pos e] at h
    obtain ⟨e1, e2⟩ := e
    obtain ⟨k1, k2, k3, k4⟩ := isLb_lt e1
    have hl := sl_len T (sk T n p) (lw T n (sk T n p))
    rw [sl_cons k3] at e2 hl ⊢
    have hlen : lw T n (sk T n p) = sk T n p + 1 := by
      rcases List.mem_cons.mp e2 with e | e2
      · rw [e] at hl
        have h9 : 1 = lw T n (sk T n p) - sk T n p := hl
        omega
      · rcases List.mem_cons.mp e2 with e | e2
        · rw [e] at hl
          have h9 : 1 = lw T n (sk T n p) - sk T n p := hl
          omega
        · rw [List.mem_singleton] at e2
          rw [e2] at hl
          have h9 : 1 = lw T n (sk T n p) - sk T n p := hl
          omega
    have hn : sl T (sk T n p + 1) (lw T n (sk T n p)) = [] := by
      rw [hlen]
      unfold sl
      rw [Nat.sub_self]
      rfl
    rw [hn] at e2 ⊢
    refine ⟨e1, rfl, ?_, hlen, (Sum.inr.inj h).symm⟩
    simp at e2
    exact e2
  · rw [if_neg e] at h
    cases h
theorem psr_r {T : Nat → Nat} {n r p : Nat} {ks : List Rk} {cs : List (List Nat × Nat × Nat)} {p' : Nat} (h : psr T n (r + 1) p = .inr (ks, cs, p')) : ∃ w q e t u v, pname T n p = .inr (w, q, e) ∧ ptyp T n e = .inr (t, u, v) ∧
    ((chp T n (sk T n v) ≠ 44 ∧ ks = [(1, q, w), (1, u, [t])] ∧ cs = [(w, q, t)] ∧ p' = sk T n v) ∨
     (chp T n (sk T n v) = 44 ∧ ∃ k2 c2, psr T n r (sk T n v + 1) = .inr (k2, c2, p') ∧ ks = (1, q, w) :: (1, u, [t]) :: (44, sk T n v, [44]) :: k2 ∧ cs = (w, q, t) :: c2)) := by
  unfold psr at h
  obtain ⟨⟨w, q, e⟩, h1, h⟩ := pb_r h
  obtain ⟨⟨t, u, v⟩, h2, h⟩ := pb_r h
  refine ⟨w, q, e, t, u, v, h1, h2, ?_⟩
  have h' : (if chp T n (sk T n v) = 44 then pb (psr T n r (sk T n v + 1)) fun d => .inr ((1, q, w) :: (1, u, [t]) :: (44, sk T n v, [44]) :: d.1, (w, q, t) :: d.2.1, d.2.2) else .inr ([(1, q, w), (1, u, [t])], [(w, q, t)], sk T n v)) = Sum.inr (ks, cs, p') := h
  by_cases e44 : chp T n (sk T n v) = 44
  · rw [if_pos e44] at h'
    obtain ⟨⟨k2, c2, p2⟩, h4, h⟩ := pb_r h'
    cases h
    exact Or.inr ⟨e44, k2, c2, h4, rfl, rfl⟩
  · rw [if_neg e44] at h'
    cases h'
    exact Or.inl ⟨e44, rfl, rfl, rfl⟩
theorem psr_D {T : Nat → Nat} {n : Nat} : ∀ (r p : Nat) (ks : List Rk) (cs : List (List Nat × Nat × Nat)) (p' : Nat), psr T n r p = .inr (ks, cs, p') → KS T n p p' ks ∧ (p < p' ∧ p' ≤ n) ∧ (1 ≤ cs.length ∧ cs.length ≤ r) ∧ (∀ c ∈ cs, (NameAt T n c.2.1 ∧ p ≤ c.2.1 ∧ c.2.1 < p') ∧ nmok c.1 ∧ (c.2.2 = 110 ∨ c.2.2 = 116 ∨ c.2.2 = 100)) := by
  intro r
  induction r with
  | zero => intro p ks cs p' h; cases h
  | succ r ih =>
    intro p ks cs p' h
    obtain ⟨w, q, e, t, u, v, h1, h2, h⟩ := psr_r h
    obtain ⟨a1, a2, a3, a4⟩ := pname_At h1
    have a5 := (pname_r h1).2.2.2.2.2.2.1
    obtain ⟨b1, b2, b3, b4, b5⟩ := ptyp_r h2
    obtain ⟨rfl, rfl, rfl⟩ : t = T (sk T n e) ∧ u = sk T n e ∧ v = lw T n (sk T n e) := by
      cases b5
      exact ⟨rfl, rfl, rfl⟩
    obtain ⟨d1, d2, d3, d4⟩ := isLb_lt b1
    have k0 := sk_ge T n e
    have k2 := sk_ge T n (lw T n (sk T n e))
    have k3 := sk_le (T := T) d4
    have n1 := (KS.name h1).1
    have n2 : KS T n e (lw T n (sk T n e)) [(1, sk T n e, [T (sk T n e)])] := by
      rw [← b2]
      exact KS.one (by decide) k0 d3 d4
    rcases h with ⟨e44, rfl, rfl, rfl⟩ | ⟨e44, k2', c2, h5, rfl, rfl⟩
    · refine ⟨?_, ⟨by omega, k3⟩, ⟨Nat.le_refl _, Nat.succ_le_succ (Nat.zero_le r)⟩, fun c hc => ?_⟩
      · have := n1.cons (n2.app (KS.nil T n (lw T n (sk T n e)) (sk T n (lw T n (sk T n e)))) (by omega) (by omega)) (by omega) (by omega)
        exact this
      · rw [List.mem_singleton] at hc
        subst hc
        exact ⟨⟨a1, a2, show q < _ by omega⟩, a5, b3⟩
    · obtain ⟨i1, ⟨i2, i3⟩, ⟨i4, i5⟩, i6⟩ := ih _ _ _ _ h5
      refine ⟨n1.cons (n2.cons ((KS.sign e44 (by decide)).cons i1 (by omega) (by omega)) (by omega) (by omega)) (by omega) (by omega), ⟨by omega, i3⟩, ⟨by rw [List.length_cons]; omega, by rw [List.length_cons]; omega⟩, fun c hc => ?_⟩
      rcases List.mem_cons.mp hc with rfl | hc
      · exact ⟨⟨a1, a2, show q < p' by omega⟩, a5, b3⟩
      · obtain ⟨⟨j1, j2, j3⟩, j4⟩ := i6 c hc
        exact ⟨⟨j1, by omega, j3⟩, j4⟩
/-- the two kinds of statements that parse -/
theorem pstat_r {T : Nat → Nat} {n : Nat} {st : St} (h : pstat T n = .inr st) : ∃ k a e, psort T n = some k ∧ k ≤ 2 ∧ pname T n (lw T n (sk T n 0)) = .inr (a, e) ∧
    ((k = 0 ∧ ∃ b c, psrc T n e.2 = .inr b ∧ pend T n b.2.2 = .inr c ∧ st = ((0, a, e.1), .inl b.2.1, b.1 ++ [c.1])) ∨
     (1 ≤ k ∧ ∃ b c, psel T n e.2 = .inr b ∧ pend T n b.2.2.2.2 = .inr c ∧ st = ((k, a, e.1), .inr (b.2.1, b.2.2.1, b.2.2.2.1), b.1 ++ [c.1]))) := by
  unfold pstat at h
  cases hk : psort T n with
  | none =>
    rw [hk] at h
    cases h
  | some k =>
    rw [hk] at h
    obtain ⟨⟨a, e⟩, h1, h⟩ := pb_r h
    have hk2 : k ≤ 2 := by
      unfold psort at hk
      repeat first | (split at hk) | (cases hk; omega) | (cases hk)
    refine ⟨k, a, e, rfl, hk2, h1, ?_⟩
    by_cases e0 : k = 0
    · rw [if_pos e0] at h
      obtain ⟨b, h2, h⟩ := pb_r h
      obtain ⟨c, h3, h⟩ := pb_r h
      subst e0
      exact Or.inl ⟨rfl, b, c, h2, h3, (Sum.inr.inj h).symm⟩
    · rw [if_neg e0] at h
      obtain ⟨b, h2, h⟩ := pb_r h
      obtain ⟨c, h3, h⟩ := pb_r h
      exact Or.inr ⟨by omega, b, c, h2, h3, (Sum.inr.inj h).symm⟩
theorem psort_0 {T : Nat → Nat} {n k : Nat} (h : psort T n = some k) : isLb (chp T n (sk T n 0)) = true ∧ sl T (sk T n 0) (lw T n (sk T n 0)) ∈ kwl ∧ ¬ NameAt T n 0 := by
  have hw : ∃ w, pwd w T n 0 = true ∧ w ∈ kwl := by
    unfold psort at h
    split at h
    · rename_i e
      exact ⟨_, e, by decide⟩
    · split at h
      · rename_i e
        exact ⟨_, e, by decide⟩
      · split at h
        · rename_i e
          exact ⟨_, e, by decide⟩
        · cases h
  obtain ⟨w, h1, h2⟩ := hw
  obtain ⟨h3, h4⟩ := pwd_t h1
  refine ⟨h3, by rw [h4]; exact h2, fun k => ?_⟩
  have hb : isBb (T 0) = false := by
    have := k.2.1
    cases hb : isBb (T 0) with
    | false => rfl
    | true =>
      unfold isBb at hb
      unfold isLb at this
      rw [decide_eq_true_eq] at hb this
      omega
  have e0 : sk T n 0 = 0 := rn_stop (fun q => by rw [hb] at q; cases q.2)
  rw [e0] at h4
  exact k.2.2 (by rw [h4]; exact h2)
/-- what is known of a statement: names stand at places of their own -/
def StD (T : Nat → Nat) (n : Nat) (st : St) : Prop :=
  (NameAt T n st.1.2.2 ∧ nmok st.1.2.1 ∧ ¬ NameAt T n 0 ∧ st.1.1 ≤ 2) ∧ (∀ c ∈ cns st, NameAt T n c.2 ∧ st.1.2.2 < c.2 ∧ nmok c.1) ∧ (∀ c ∈ frs st, NameAt T n c.2 ∧ st.1.2.2 < c.2 ∧ nmok c.1) ∧ (∀ i j, i < j → j < (frs st).length → fpl (frs st) i < fpl (frs st) j) ∧ (∀ c ∈ cns st, ∀ d ∈ frs st, c.2 < d.2) ∧
  (∀ l ∈ allf st, ∀ x ∈ l, NkAt T n (st.1.2.2 + 1) n x ∧ (x.1 = 2 → (∀ c ∈ cns st, c.2 ≠ x.2.2.1 ∧ c.2 ≠ x.2.1) ∧ ∀ c ∈ frs st, c.2 ≠ x.2.2.1 ∧ c.2 ≠ x.2.1)) ∧ (∀ w, whr st = some w → ¬ NameAt T n w.2.1.2) ∧
  ((1 ≤ (cns st).length ∧ (cns st).length ≤ 6) ∧ (frs st).length ≤ 3 ∧ (1 ≤ st.1.1 → 1 ≤ (frs st).length ∧ (fms st).length = (cns st).length) ∧ (st.1.1 = 0 → frs st = [] ∧ whr st = none ∧ fms st = []))
theorem pstat_D {T : Nat → Nat} {n : Nat} {st : St} (h : pstat T n = .inr st) : StD T n st := by
  obtain ⟨k, a, ⟨q, e⟩, h1, h2, h3, h⟩ := pstat_r h
  obtain ⟨a1, a2, a3, a4⟩ := pname_At h3
  have a5 := (pname_r h3).2.2.2.2.2.2.1
  have a0 := (psort_0 h1).2.2
  rcases h with ⟨rfl, b, c, h4, h5, rfl⟩ | ⟨hk, b, c, h4, h5, rfl⟩
  · obtain ⟨k1, c1, p1, g1, g2, g3, rfl⟩ := psrc_r h4
    obtain ⟨i1, ⟨i2, i3⟩, ⟨i4, i5⟩, i6⟩ := psr_D _ _ _ _ _ g2
    have k0 : e ≤ sk T n (q, e).2 := sk_ge T n e
    refine ⟨⟨a1, a5, a0, Nat.zero_le _⟩, fun c hc => ?_, fun c hc => (by cases hc), fun i j _ hj => absurd hj (Nat.not_lt_zero j), fun c _ d hd => (by cases hd), fun l hl => (by cases hl), fun w hw => (by cases hw), ⟨⟨?_, ?_⟩, Nat.zero_le _, fun h => absurd h (Nat.not_succ_le_zero 0), fun _ => ⟨rfl, rfl, rfl⟩⟩⟩
    · obtain ⟨d, hd, rfl⟩ := List.mem_map.mp hc
      obtain ⟨⟨j1, j2, j3⟩, j4, -⟩ := i6 d hd
      exact ⟨j1, show q < d.2.1 by omega, j4⟩
    · show 1 ≤ (c1.map _).length
      rw [List.length_map]
      exact i4
    · show (c1.map _).length ≤ 6
      rw [List.length_map]
      exact i5
  · obtain ⟨k1, c1, p1, k2, c2, p2, k3, w, p3, g1, g2, g3, g4, g5, rfl⟩ := psel_r h4
    obtain ⟨d1, d2, d3, d4⟩ := pcol_D _ _ _ _ _ g2
    obtain ⟨-, ⟨m2, m3⟩, m4, m5⟩ := pcol_KG _ _ _ _ _ g2
    obtain ⟨f1, f2, f3⟩ := pfrm_D _ _ _ _ _ g4
    obtain ⟨-, ⟨o2, o3⟩, o4, o5⟩ := pfrm_KG _ _ _ _ _ g4
    obtain ⟨-, y2, y3⟩ := KG.word g3
    have k0 : e ≤ sk T n (q, e).2 := sk_ge T n e
    have hwl : ∀ l ∈ whl w, ∀ x ∈ l, NkAt T n p2 n x := by
      rcases pwh_r g5 with ⟨-, -, rfl, -⟩ | ⟨e5, k1', l1, p1', c', k2', l2, z1, z2, z3, z4, -, rfl⟩
      · intro l hl
        cases hl
      · intro l hl x hx
        obtain ⟨-, b2, b3⟩ := KG.word e5
        obtain ⟨⟨u1, u2⟩, u3⟩ := pform_At _ _ _ _ _ z1
        obtain ⟨⟨v1, v2⟩, v3⟩ := pform_At _ _ _ _ _ z4
        have k5 := sk_ge T n p1'
        rcases List.mem_cons.mp hl with rfl | hl
        · exact (u3 x hx).mono (by omega) u2
        · rw [List.mem_singleton] at hl
          subst hl
          exact (v3 x hx).mono (by omega) v2
    have hws : ∀ y, w = some y → ¬ NameAt T n y.2.1.2 := by
      rcases pwh_r g5 with ⟨-, -, rfl, -⟩ | ⟨e5, k1', l1, p1', c', k2', l2, z1, z2, z3, z4, -, rfl⟩
      · intro y hy
        cases hy
      · intro y hy
        cases hy
        exact sg_At z2.symm (by rcases z3 with rfl | rfl <;> rfl) (by omega)
    have hcm : ∀ c ∈ c1.map (fun c => (c.1, c.2.1)), ∃ d ∈ c1, c = (d.1, d.2.1) := fun c hc => by
      obtain ⟨d, hd, rfl⟩ := List.mem_map.mp hc
      exact ⟨d, hd, rfl⟩
    refine ⟨⟨a1, a5, a0, h2⟩, fun c hc => ?_, fun c hc => ?_, f2, fun c hc d hd => ?_, fun l hl x hx => ?_, hws, ⟨⟨?_, ?_⟩, o5, fun _ => ⟨o4, ?_⟩, fun h => absurd h (show ¬ k = 0 by omega)⟩⟩
    · obtain ⟨d, hd, rfl⟩ := hcm c hc
      obtain ⟨j1, j2, j3⟩ := d1 d hd
      exact ⟨j1, show q < d.2.1 by omega, d4 d hd⟩
    · obtain ⟨j1, j2, j3⟩ := f1 c hc
      exact ⟨j1, show q < c.2 by omega, f3 c hc⟩
    · obtain ⟨u, hu, rfl⟩ := hcm c hc
      obtain ⟨j1, j2, j3⟩ := d1 u hu
      obtain ⟨k1, k2, k3⟩ := f1 d hd
      show u.2.1 < d.2
      omega
    · have hl' : l ∈ c1.map (fun c => c.2.2.2) ++ whl w := hl
      rcases List.mem_append.mp hl' with hl' | hl'
      · obtain ⟨u, hu, rfl⟩ := List.mem_map.mp hl'
        have hn := d2 u hu x hx
        refine ⟨hn.mono (show q + 1 ≤ _ by omega) m3, fun hx2 => ⟨fun c hc => ?_, fun c hc => ?_⟩⟩
        · obtain ⟨v, hv, rfl⟩ := hcm c hc
          exact d3 v hv u hu x hx hx2
        · obtain ⟨j1, j2, j3⟩ := f1 c hc
          obtain ⟨⟨-, -, r1⟩, -, -, r2⟩ := hn.2.1 hx2
          exact ⟨by omega, by omega⟩
      · have hn := hwl l hl' x hx
        refine ⟨hn.mono (show q + 1 ≤ _ by omega) (Nat.le_refl n), fun hx2 => ⟨fun c hc => ?_, fun c hc => ?_⟩⟩
        · obtain ⟨v, hv, rfl⟩ := hcm c hc
          obtain ⟨j1, j2, j3⟩ := d1 v hv
          obtain ⟨⟨-, r1, -⟩, -, r2, -⟩ := hn.2.1 hx2
          exact ⟨show v.2.1 ≠ _ by omega, show v.2.1 ≠ _ by omega⟩
        · obtain ⟨j1, j2, j3⟩ := f1 c hc
          obtain ⟨⟨-, r1, -⟩, -, r2, -⟩ := hn.2.1 hx2
          exact ⟨by omega, by omega⟩
    · show 1 ≤ (c1.map _).length
      rw [List.length_map]
      exact m4
    · show (c1.map _).length ≤ 6
      rw [List.length_map]
      exact m5
    · show (c1.map _).length = (c1.map _).length
      rw [List.length_map, List.length_map]
