/-! rows for arrays, new cells, casts, constants -/
theorem ix_no {i : Int32} {n : Nat} (h : ¬ i < 0 ∧ i.toNatClampNeg < n) : ¬ (i < 0 ∨ n ≤ i.toNatClampNeg) := fun q => q.elim h.1 (fun z => absurd h.2 (Nat.not_lt.mpr z))
section JA
variable {f : CfT} {S S' : HS} {mo : MO} {pc : Nat} {L L' : LL} {st : List LV} {cc : ByteArray} {own : String} {a : Nat} {i : Int32}
theorem g_aI_spec {t : Nat} {x : Int32} (h : g_aI S t a i = some x) : h_cl S a = t ∧ (¬ i < 0 ∧ i.toNatClampNeg < h_ln S a) ∧ h_aI S a i.toNatClampNeg = x := by
  unfold g_aI at h
  split at h
  · rename_i h9
    exact ⟨h9.1, h9.2, Option.some.inj h⟩
  · cases h
theorem g_aR_spec {t : Nat} {x : Option Nat} (h : g_aR S t a i = some x) : h_cl S a = t ∧ (¬ i < 0 ∧ i.toNatClampNeg < h_ln S a) ∧ h_aR S a i.toNatClampNeg = x := by
  unfold g_aR at h
  split at h
  · rename_i h9
    exact ⟨h9.1, h9.2, Option.some.inj h⟩
  · cases h
theorem j_iald (hc : cf_cc f = cc) (d : decode cc pc = .ok (.iaload, 1)) {x : Int32} (h : g_aI S 31 a i = some x) (K : JJ f S mo (pc + 1) L (vi x :: st)) : JJ f S mo pc L (vi i :: vr (some a) :: st) :=
  ⟨K.1, fun p e s m args below meth c X ls H locs cells slots hl hW hS h1 h2 => by
    obtain ⟨q1, q2, q3⟩ := g_aI_spec h
    obtain ⟨cell, c1, c2, c3, c4, c5, c6⟩ := hW.obA X.2.2.2.2.2.1 q1 (by omega) (by omega)
    exact W.iald X.1 (X.2.1.trans hc) c1 c2 c3 (ix_no ⟨q2.1, Nat.lt_of_lt_of_le q2.2 c4.1⟩) (c5 _ q2.2) rfl rfl d (by rw [show av S 31 a i.toNatClampNeg = .int x from by rw [← q3]; rfl]; exact K.2 p e s m args below meth c X ls H locs cells slots hl hW hS h1 h2)⟩
theorem j_bald (hc : cf_cc f = cc) (d : decode cc pc = .ok (.baload, 1)) {x : Int32} (h : g_aI S 32 a i = some x) (K : JJ f S mo (pc + 1) L (vi x :: st)) : JJ f S mo pc L (vi i :: vr (some a) :: st) :=
  ⟨K.1, fun p e s m args below meth c X ls H locs cells slots hl hW hS h1 h2 => by
    obtain ⟨q1, q2, q3⟩ := g_aI_spec h
    obtain ⟨cell, c1, c2, c3, c4, c5, c6⟩ := hW.obA X.2.2.2.2.2.1 q1 (by omega) (by omega)
    exact W.bald X.1 (X.2.1.trans hc) c1 c2 c3 (ix_no ⟨q2.1, Nat.lt_of_lt_of_le q2.2 c4.1⟩) (c5 _ q2.2) rfl rfl d (by rw [show av S 32 a i.toNatClampNeg = .int x from by rw [← q3]; rfl]; exact K.2 p e s m args below meth c X ls H locs cells slots hl hW hS h1 h2)⟩
theorem j_cald (hc : cf_cc f = cc) (d : decode cc pc = .ok (.caload, 1)) {x : Int32} (h : g_aI S 33 a i = some x) (K : JJ f S mo (pc + 1) L (vi x :: st)) : JJ f S mo pc L (vi i :: vr (some a) :: st) :=
  ⟨K.1, fun p e s m args below meth c X ls H locs cells slots hl hW hS h1 h2 => by
    obtain ⟨q1, q2, q3⟩ := g_aI_spec h
    obtain ⟨cell, c1, c2, c3, c4, c5, c6⟩ := hW.obA X.2.2.2.2.2.1 q1 (by omega) (by omega)
    exact W.cald X.1 (X.2.1.trans hc) c1 c2 c3 (ix_no ⟨q2.1, Nat.lt_of_lt_of_le q2.2 c4.1⟩) (c5 _ q2.2) rfl rfl d (by rw [show av S 33 a i.toNatClampNeg = .int x from by rw [← q3]; rfl]; exact K.2 p e s m args below meth c X ls H locs cells slots hl hW hS h1 h2)⟩
theorem j_zald (hc : cf_cc f = cc) (d : decode cc pc = .ok (.baload, 1)) {x : Int32} (h : g_aI S 34 a i = some x) (K : JJ f S mo (pc + 1) L (vi x :: st)) : JJ f S mo pc L (vi i :: vr (some a) :: st) :=
  ⟨K.1, fun p e s m args below meth c X ls H locs cells slots hl hW hS h1 h2 => by
    obtain ⟨q1, q2, q3⟩ := g_aI_spec h
    obtain ⟨cell, c1, c2, c3, c4, c5, c6⟩ := hW.obA X.2.2.2.2.2.1 q1 (by omega) (by omega)
    exact W.zald X.1 (X.2.1.trans hc) c1 c2 c3 (ix_no ⟨q2.1, Nat.lt_of_lt_of_le q2.2 c4.1⟩) (c5 _ q2.2) rfl rfl d (by rw [show av S 34 a i.toNatClampNeg = .int x from by rw [← q3]; rfl]; exact K.2 p e s m args below meth c X ls H locs cells slots hl hW hS h1 h2)⟩
theorem j_aald (hc : cf_cc f = cc) (d : decode cc pc = .ok (.aaload, 1)) {t : Nat} (ht : 35 ≤ t ∧ t ≤ 37) {x : Option Nat} (h : g_aR S t a i = some x) (K : JJ f S mo (pc + 1) L (vr x :: st)) : JJ f S mo pc L (vi i :: vr (some a) :: st) :=
  ⟨K.1, fun p e s m args below meth c X ls H locs cells slots hl hW hS h1 h2 => by
    obtain ⟨q1, q2, q3⟩ := g_aR_spec h
    obtain ⟨cell, c1, c2, c3, c4, c5, c6⟩ := hW.obA X.2.2.2.2.2.1 q1 (by omega) (by omega)
    have hty : (aty t).isReference = true := by
      obtain rfl | rfl | rfl : t = 35 ∨ t = 36 ∨ t = 37 := by omega
      all_goals rfl
    have hav : av S t a i.toNatClampNeg = va_rf x := by
      rw [← q3]
      obtain rfl | rfl | rfl : t = 35 ∨ t = 36 ∨ t = 37 := by omega
      all_goals rfl
    exact W.aald X.1 (X.2.1.trans hc) c1 c2 hty c3 (ix_no ⟨q2.1, Nat.lt_of_lt_of_le q2.2 c4.1⟩) (c5 _ q2.2) rfl rfl d (by rw [hav]; exact K.2 p e s m args below meth c X ls H locs cells slots hl hW hS h1 h2)⟩
theorem j_alen (hc : cf_cc f = cc) (d : decode cc pc = .ok (.arraylength, 1)) {t : Nat} (ht : 31 ≤ t ∧ t ≤ 38) {x : Int32} (h : g_len S t a = some x) (K : JJ f S mo (pc + 1) L (vi x :: st)) : JJ f S mo pc L (vr (some a) :: st) := by
  unfold g_len at h
  split at h
  · rename_i h9
    cases h
    exact ⟨K.1, fun p e s m args below meth c X ls H locs cells slots hl hW hS h1 h2 => by
      obtain ⟨cell, c1, c2, c3, c4, c5, c6⟩ := hW.obA X.2.2.2.2.2.1 h9 ht.1 ht.2
      exact W.alen (n := Int32.ofNat (h_ln S a)) X.1 (X.2.1.trans hc) c1 c2 c4.2 rfl rfl d (K.2 p e s m args below meth c X ls H locs cells slots hl hW hS h1 h2)⟩
  · cases h
/-- an array cell of ours, to be written -/
theorem j_ast0 {t : Nat} (h31 : 31 ≤ t) (h38 : t ≤ 38) (hcl : h_cl S a = t) (hwr : h_wr S a = true) (hin : ¬ i < 0 ∧ i.toNatClampNeg < h_ln S a) {w : Value}
    (he : ∀ q, q ≠ a → h_eq S' S q) (hnx : h_nx S' = h_nx S) (hks : h_ks S' = h_ks S ∧ h_kr S' = h_kr S) (hsl' : h_sl S' = h_sl S) (hcl' : h_cl S' a = h_cl S a) (hln' : h_ln S' a = h_ln S a) (hwr' : h_wr S' a = h_wr S a) (hv : av S' t a = updV (av S t a) i.toNatClampNeg w)
    {g : PG} {H : Heap} (hW : Wd g S mo H) {U : State} (hE : EV g U) :
    H[a]? = some (arrV (g_ac g t) (h_ln S a) (av S t a)) ∧ U.isArrayOf (arrV (g_ac g t) (h_ln S a) (av S t a)) (aty t) ∧ ∀ (H1 : Heap), H1[a]? = some ((arrV (g_ac g t) (h_ln S a) (av S t a)).setSlot i.toNatClampNeg w) → H1.size = H.size → (∀ q, q ≠ a → H1[q]? = H[q]?) → Wd g S' mo H1 ∧ g_n0 g ≤ a := by
  have hc0 : h_cl S a ≠ 0 := by rw [hcl]; omega
  have ha0 : ¬ a < g_n0 g := fun h => by rw [(hW.2.2.2.1 a h).2] at hwr; cases hwr
  obtain ⟨-, hck⟩ := hW.2.2.2.2.2.1 a (by omega) hc0
  have hcell := hck.2 (by rw [hcl]; omega)
  rw [hcl] at hcell
  refine ⟨hcell, (arr_K hE h31 h38).1 _ _, fun H1 e1 z1 o1 => hW.set hwr hc0 z1 o1 he hnx hks hcl' hwr' (fun _ => ⟨fun h => by rw [hcl', hcl] at h; omega, fun _ => by rw [hcl', hcl, hln', hv, ← arrV_store]; exact e1⟩)⟩
theorem upd_aI {x y : Int32} {t k : Nat} (h : aki t = 0) (hx : x = y) : av (s_aI S a k x) t a = updV (av S t a) k (.int y) := by
  subst hx
  funext j
  by_cases hj : j = k
  · subst hj
    simp [av, h, updV, r_aI_aI, h_st_eq]
  · simp [av, h, updV, r_aI_aI, h_st, hj]
theorem upd_aR {x : Option Nat} {t k : Nat} (h : aki t = 2) : av (s_aR S a k x) t a = updV (av S t a) k (va_rf x) := by
  funext j
  by_cases hj : j = k
  · subst hj
    simp [av, h, updV, r_aR_aR, h_st_eq]
  · simp [av, h, updV, r_aR_aR, h_st, hj]
theorem p_aI_spec {t : Nat} {x : Int32} (h : p_aI S t a i x = some S') : h_cl S a = t ∧ h_wr S a = true ∧ (¬ i < 0 ∧ i.toNatClampNeg < h_ln S a) ∧ s_aI S a i.toNatClampNeg x = S' := by
  unfold p_aI at h
  split at h
  · rename_i h9
    exact ⟨h9.1.1, h9.1.2, h9.2, Option.some.inj h⟩
  · cases h
theorem p_aR_spec {t : Nat} {x : Option Nat} (h : p_aR S t a i x = some S') : h_cl S a = t ∧ h_wr S a = true ∧ (¬ i < 0 ∧ i.toNatClampNeg < h_ln S a) ∧ s_aR S a i.toNatClampNeg x = S' := by
  unfold p_aR at h
  split at h
  · rename_i h9
    exact ⟨h9.1.1, h9.1.2, h9.2, Option.some.inj h⟩
  · cases h
theorem j_iast (hc : cf_cc f = cc) (d : decode cc pc = .ok (.iastore, 1)) {x : Int32} (h : p_aI S 31 a i x = some S') (K : JJ f S' mo (pc + 1) L st) : JJ f S mo pc L (vi x :: vi i :: vr (some a) :: st) := by
  obtain ⟨q1, q2, q3, q4⟩ := p_aI_spec h
  subst q4
  exact ⟨K.1, fun p e s m args below meth c X ls H locs cells slots hl hW hS h1 h2 => by
    obtain ⟨r1, r2, r3⟩ := j_ast0 (S' := s_aI S a i.toNatClampNeg x) (t := 31) (w := .int x) (by omega) (by omega) q1 q2 q3 eq_aI rfl ⟨rfl, rfl⟩ rfl rfl rfl rfl (upd_aI rfl rfl) hW X.2.2.2.2.2.1
    exact W.iast X.1 (X.2.1.trans hc) r1 r2 (fun q => by cases q) (by rw [arrV_size]; exact ix_no q3) rfl rfl d fun H1 e1 z1 o1 => by
      obtain ⟨hW', hna⟩ := r3 H1 e1 z1 o1
      exact K.2 p e s m args below meth c X ls H1 _ cells slots hl hW' (hS.put z1 o1 hna) h1 h2⟩
theorem j_bast (hc : cf_cc f = cc) (d : decode cc pc = .ok (.bastore, 1)) {x : Int32} (h : p_aI S 32 a i (vp_nar .byte x) = some S') (K : JJ f S' mo (pc + 1) L st) : JJ f S mo pc L (vi x :: vi i :: vr (some a) :: st) := by
  obtain ⟨q1, q2, q3, q4⟩ := p_aI_spec h
  subst q4
  exact ⟨K.1, fun p e s m args below meth c X ls H locs cells slots hl hW hS h1 h2 => by
    obtain ⟨r1, r2, r3⟩ := j_ast0 (S' := s_aI S a i.toNatClampNeg (vp_nar .byte x)) (t := 32) (w := .int (vp_nar .byte x)) (by omega) (by omega) q1 q2 q3 eq_aI rfl ⟨rfl, rfl⟩ rfl rfl rfl rfl (upd_aI rfl rfl) hW X.2.2.2.2.2.1
    exact W.bast X.1 (X.2.1.trans hc) r1 r2 (fun q => by cases q) (by rw [arrV_size]; exact ix_no q3) rfl rfl d fun H1 e1 z1 o1 => by
      obtain ⟨hW', hna⟩ := r3 H1 e1 z1 o1
      exact K.2 p e s m args below meth c X ls H1 _ cells slots hl hW' (hS.put z1 o1 hna) h1 h2⟩
theorem j_cast (hc : cf_cc f = cc) (d : decode cc pc = .ok (.castore, 1)) {x : Int32} (h : p_aI S 33 a i (vp_nar .char x) = some S') (K : JJ f S' mo (pc + 1) L st) : JJ f S mo pc L (vi x :: vi i :: vr (some a) :: st) := by
  obtain ⟨q1, q2, q3, q4⟩ := p_aI_spec h
  subst q4
  exact ⟨K.1, fun p e s m args below meth c X ls H locs cells slots hl hW hS h1 h2 => by
    obtain ⟨r1, r2, r3⟩ := j_ast0 (S' := s_aI S a i.toNatClampNeg (vp_nar .char x)) (t := 33) (w := .int (vp_nar .char x)) (by omega) (by omega) q1 q2 q3 eq_aI rfl ⟨rfl, rfl⟩ rfl rfl rfl rfl (upd_aI rfl rfl) hW X.2.2.2.2.2.1
    exact W.cast X.1 (X.2.1.trans hc) r1 r2 (fun q => by cases q) (by rw [arrV_size]; exact ix_no q3) rfl rfl d fun H1 e1 z1 o1 => by
      obtain ⟨hW', hna⟩ := r3 H1 e1 z1 o1
      exact K.2 p e s m args below meth c X ls H1 _ cells slots hl hW' (hS.put z1 o1 hna) h1 h2⟩
theorem j_zast (hc : cf_cc f = cc) (d : decode cc pc = .ok (.bastore, 1)) {x : Int32} (h : p_aI S 34 a i (vp_nar .boolean x) = some S') (K : JJ f S' mo (pc + 1) L st) : JJ f S mo pc L (vi x :: vi i :: vr (some a) :: st) := by
  obtain ⟨q1, q2, q3, q4⟩ := p_aI_spec h
  subst q4
  exact ⟨K.1, fun p e s m args below meth c X ls H locs cells slots hl hW hS h1 h2 => by
    obtain ⟨r1, r2, r3⟩ := j_ast0 (S' := s_aI S a i.toNatClampNeg (vp_nar .boolean x)) (t := 34) (w := .int (vp_nar .boolean x)) (by omega) (by omega) q1 q2 q3 eq_aI rfl ⟨rfl, rfl⟩ rfl rfl rfl rfl (upd_aI rfl rfl) hW X.2.2.2.2.2.1
    exact W.zast X.1 (X.2.1.trans hc) r1 r2 (fun q => by cases q) (by rw [arrV_size]; exact ix_no q3) rfl rfl d fun H1 e1 z1 o1 => by
      obtain ⟨hW', hna⟩ := r3 H1 e1 z1 o1
      exact K.2 p e s m args below meth c X ls H1 _ cells slots hl hW' (hS.put z1 o1 hna) h1 h2⟩
/-- what an array of references takes: the classes of its elements -/
def ok_st (t : Nat) : List Nat := match t with
  | 36 => [4]
  | _ => [5, 6, 7, 8, 13]
def p_aS (S : HS) (t a : Nat) (i : Int32) (r : Option Nat) : Option HS := match r with
  | none => p_aR S t a i none
  | some v => if h_cl S v ∈ ok_st t then p_aR S t a i (some v) else none
def cast_ok (t : Nat) (U : State) : Prop := ∀ c, c ∈ ok_st t → ∀ r, vwCl[c]? = some r → ∀ C, aty t = .object C → r.1 = C ∨ va_Nw (.castable r.1 C) U
theorem j_aastN (hc : cf_cc f = cc) (d : decode cc pc = .ok (.aastore, 1)) {t : Nat} (ht : t = 35 ∨ t = 36) (h : p_aR S t a i none = some S') (K : JJ f S' mo (pc + 1) L st) : JJ f S mo pc L (vr none :: vi i :: vr (some a) :: st) := by
  obtain ⟨q1, q2, q3, q4⟩ := p_aR_spec h
  subst q4
  exact ⟨K.1, fun p e s m args below meth c X ls H locs cells slots hl hW hS h1 h2 => by
    obtain ⟨r1, r2, r3⟩ := j_ast0 (S' := s_aR S a i.toNatClampNeg none) (t := t) (w := va_rf none) (by omega) (by omega) q1 q2 q3 eq_aR rfl ⟨rfl, rfl⟩ rfl rfl rfl rfl (upd_aR (by rcases ht with rfl | rfl <;> rfl)) hW X.2.2.2.2.2.1
    obtain ⟨C, hC⟩ : ∃ C, aty t = .object C := by rcases ht with rfl | rfl <;> exact ⟨_, rfl⟩
    rw [hC] at r2
    exact va_WaastN (C := C) X.1 (X.2.1.trans hc) r1 r2 (fun q => by cases q) (by rw [arrV_size]; exact ix_no q3) rfl rfl d fun H1 e1 z1 o1 => by
      obtain ⟨hW', hna⟩ := r3 H1 e1 z1 o1
      exact K.2 p e s m args below meth c X ls H1 _ cells slots hl hW' (hS.put z1 o1 hna) h1 h2⟩
theorem j_aast (hc : cf_cc f = cc) (d : decode cc pc = .ok (.aastore, 1)) {t : Nat} (ht : t = 35 ∨ t = 36) (hca : ∀ U, EV (cf_g f) U → cast_ok t U) {x : Option Nat} (h : p_aS S t a i x = some S') (K : JJ f S' mo (pc + 1) L st) : JJ f S mo pc L (vr x :: vi i :: vr (some a) :: st) := by
  cases x with
  | none => exact j_aastN hc d ht h K
  | some v =>
    have h : (if h_cl S v ∈ ok_st t then p_aR S t a i (some v) else none) = some S' := h
    have hok : h_cl S v ∈ ok_st t := by
      by_cases h9 : h_cl S v ∈ ok_st t
      · exact h9
      · rw [if_neg h9] at h
        cases h
    rw [if_pos hok] at h
    obtain ⟨q1, q2, q3, q4⟩ := p_aR_spec h
    subst q4
    exact ⟨K.1, fun p e s m args below meth c X ls H locs cells slots hl hW hS h1 h2 => by
      have hE := X.2.2.2.2.2.1
      obtain ⟨r1, r2, r3⟩ := j_ast0 (S' := s_aR S a i.toNatClampNeg (some v)) (t := t) (w := va_rf (some v)) (by omega) (by omega) q1 q2 q3 eq_aR rfl ⟨rfl, rfl⟩ rfl rfl rfl rfl (upd_aR (by rcases ht with rfl | rfl <;> rfl)) hW hE
      obtain ⟨C, hC⟩ : ∃ C, aty t = .object C := by rcases ht with rfl | rfl <;> exact ⟨_, rfl⟩
      have hcv : h_cl S v ≠ 0 ∧ h_cl S v < 30 := by
        rcases ht with rfl | rfl <;> simp [ok_st] at hok <;> omega
      obtain ⟨rv, cellV, v1, v2, v3, v4, v5, v6⟩ := hW.obO hE rfl hcv.1 hcv.2
      obtain ⟨-, hcls⟩ := hE.1.1 _ _ v1
      obtain ⟨kC, hkC, hkind⟩ := hcls.2
      have hRA := (arr_K hE (t := t) (by omega) (by omega)).2
      rw [hC] at hRA
      obtain ⟨kA, comp, k1, k2, k3, -⟩ := hRA
      obtain ⟨kE, hkE, -⟩ := Vm.findClass_spec k3
      have hasg : s.vm.assignable ((g_D (cf_g f)).1 (h_cl S v)) comp = true := by
        rcases hca s hE _ hok _ v1 C hC with h9 | h9
        · rw [← h9, hcls.1] at k3
          cases k3
          exact va_assign hcls
        · obtain ⟨c0, t1, f1, f2, f3⟩ := Cond.castable_spec (va_Nw.use (A := args) rfl h9)
          cases hcls.1.symm.trans f1
          cases k3.symm.trans f2
          exact f3
      refine W.aast X.1 (X.2.1.trans hc) r1 (fun q h => by cases h) (fun h => by cases h) k1 k2 rfl hkE ⟨q3.1, by rw [arrV_size]; exact q3.2⟩ v2 (fun q h => by rw [h] at v4; cases v4) (by rw [v5]; exact hkC) (by rw [v5]; exact hasg) rfl rfl d fun H1 e1 z1 o1 => ?_
      obtain ⟨hW', hna⟩ := r3 H1 e1 z1 o1
      exact K.2 p e s m args below meth c X ls H1 _ cells slots hl hW' (hS.put z1 o1 hna) h1 h2⟩
end JA
