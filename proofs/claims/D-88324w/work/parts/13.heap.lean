/-! rows that read and write the heap -/
def CI (c : Nat) (C : String) (T : u_T) (N : Nat) (ty : Nat → FieldType) : Prop := vwCl[c]? = some (C, T, N) ∧ c ≠ 0 ∧ c < 30 ∧ (∀ w ∈ u_ws C T N, w ∈ lw_all) ∧ (∀ k, k < N → parseFieldDescriptor (T k).2.2.1 = some (ty k)) ∧ (∀ a, a < N → ∀ b, b < N → a ≠ b → (T a).2.1 ≠ (T b).2.1)
/-- a field's access: own class, entry, class of the object, kind and number of the field, its type, whether it may be written -/
def FA (own : String) (idx c kd f : Nat) (ty : FieldType) (w : Nat) : Prop := ∃ (C : String) (T : u_T) (N : Nat) (tys : Nat → FieldType) (k : Nat) (ref : String), CI c C T N tys ∧ k < N ∧ lay c k = (kd, f) ∧ tys k = ty ∧ (∀ j, j < N → j ≠ k → (lay c j).2 ≠ f) ∧
  ((Cond.fieldLink own idx ref (T k).2.1 (T k).2.2.1 ∈ lw_all ∧ (w = 2 → (T k).2.2.2 = true ∧ (T k).1 = own)) ∨ (w ≠ 2 ∧ ∃ host, Cond.fieldLinkNest own idx ref (T k).2.1 (T k).2.2.1 host ∈ lw_tbl)) ∧ (w = 1 → (T k).2.2.2 = false) ∧
  ((T k).1 = ref ∨ Cond.sameField ref (T k).1 (T k).2.1 (T k).2.2.1 ∈ lw_all)
section JH
variable {f : CfT} {S S' : HS} {mo : MO} {pc : Nat} {L L' : LL} {st : List LV} {cc : ByteArray} {own : String}
theorem fa_same {s : State} {args : Array Value} {own : String} {ref o n d : String} (hts : ∀ w ∈ lw_all, w.before args s = true) (h : o = ref ∨ Cond.sameField ref o n d ∈ lw_all) : ∀ x, s.fieldFound? o n d = some x → s.fieldFound? ref n d = some x := by
  intro x hx
  rcases h with h | h
  · rw [← h]; exact hx
  · exact u_same (hts _ h) x hx
/-- a field is read -/
theorem j_get0 (hc : cf_cc f = cc) (ho : cf_ow f = own) {idx c kd fd a : Nat} {ty : FieldType} {w : Nat} (F : FA own idx c kd fd ty w) (d : decode cc pc = .ok (.getfield idx, 3)) (hcl : h_cl S a = c) {v : LV} (hv : ∀ k, lay c k = (kd, fd) → fv S c a k = tv v) (K : JJ f S mo (pc + 3) L (v :: st)) : JJ f S mo pc L (vr (some a) :: st) :=
  ⟨K.1, fun p e s m args below meth c0 X ls H locs cells slots hl hW hS h1 h2 => by
    have k9 := K.2 p e s m args below meth c0 X ls H locs cells slots hl hW hS h1 h2
    obtain ⟨x1, x2, x3, x4, x5, x6, x7, x8, x9, x10⟩ := X
    rw [ho] at x4
    obtain ⟨C, T, N, tys, k, ref, ⟨c1, c2, c3, c4, c5, c6⟩, hk, hly, hty, hap, hlink, hfin1, hsame⟩ := F
    obtain ⟨r, cell, q1, q2, q3, q4, q5, q6⟩ := hW.obO x6 hcl c2 c3
    cases c1.symm.trans q1
    obtain ⟨hSl, hfc, kC, hkC, hkind⟩ := x6.1.1 c _ c1
    obtain ⟨cf, kf, fi, fl, hi, hsl⟩ := hSl k hk
    have hi2 := fa_same (own := own) x5 hsame _ hi
    have hst := (u_facts hfc hkC (u_lays x5 c4 hk) hi).1
    have hslot : cell.slots[fl.slot]? = some (tv v) := by rw [hsl, q6 k hk, hv k hly]
    rcases hlink with ⟨hlink, -⟩ | ⟨-, host, hlink⟩
    · exact W.getf x1 (x2.trans hc) x4 (x5 _ hlink) hi2 hst q2 q3 hslot rfl rfl d k9
    · exact va_Wgetf x1 (x2.trans hc) x4 (va_Nw.use rfl (x6.2.1.1 _ _ _ _ _ _ hlink)) hi2 hst q2 q3 hslot rfl rfl d k9⟩
theorem j_getI (hc : cf_cc f = cc) (ho : cf_ow f = own) {idx c fd a : Nat} {ty : FieldType} {w : Nat} {x : Int32} (F : FA own idx c 0 fd ty w) (d : decode cc pc = .ok (.getfield idx, 3)) (h : g_fI S c fd a = some x) (K : JJ f S mo (pc + 3) L (vi x :: st)) : JJ f S mo pc L (vr (some a) :: st) := by
  unfold g_fI at h
  split at h
  · rename_i h9
    cases h
    exact j_get0 hc ho F d h9 (fun k hk => by simp [fv, hk, tv]) K
  · cases h
theorem j_getJ (hc : cf_cc f = cc) (ho : cf_ow f = own) {idx c fd a : Nat} {ty : FieldType} {w : Nat} {x : Int64} (F : FA own idx c 1 fd ty w) (d : decode cc pc = .ok (.getfield idx, 3)) (h : g_fJ S c fd a = some x) (K : JJ f S mo (pc + 3) L (vl x :: st)) : JJ f S mo pc L (vr (some a) :: st) := by
  unfold g_fJ at h
  split at h
  · rename_i h9
    cases h
    exact j_get0 hc ho F d h9 (fun k hk => by simp [fv, hk, tv]) K
  · cases h
theorem j_getR (hc : cf_cc f = cc) (ho : cf_ow f = own) {idx c fd a : Nat} {ty : FieldType} {w : Nat} {x : Option Nat} (F : FA own idx c 2 fd ty w) (d : decode cc pc = .ok (.getfield idx, 3)) (h : g_fR S c fd a = some x) (K : JJ f S mo (pc + 3) L (vr x :: st)) : JJ f S mo pc L (vr (some a) :: st) := by
  unfold g_fR at h
  split at h
  · rename_i h9
    cases h
    exact j_get0 hc ho F d h9 (fun k hk => by simp [fv, hk, tv]) K
  · cases h
/-- a field is written -/
theorem j_put0 (hc : cf_cc f = cc) (ho : cf_ow f = own) {idx c kd fd a : Nat} {ty : FieldType} {w : Nat} (F : FA own idx c kd fd ty w) (hw : w = 1 ∨ (w = 2 ∧ cf_ct f = true)) (d : decode cc pc = .ok (.putfield idx, 3)) (hcl : h_cl S a = c) (hwr : h_wr S a = true) {v : LV} (hn : narrow ty (tv v) = tv v) (hf : fits ty (tv v) = true)
    (he : ∀ q, q ≠ a → h_eq S' S q) (hnx : h_nx S' = h_nx S) (hks : h_ks S' = h_ks S ∧ h_kr S' = h_kr S) (hsl' : h_sl S' = h_sl S) (hcl' : h_cl S' a = h_cl S a) (hwr' : h_wr S' a = h_wr S a) (hv : ∀ k, lay c k = (kd, fd) → fv S' c a k = tv v) (hv2 : ∀ k, (lay c k).2 ≠ fd → fv S' c a k = fv S c a k)
    (K : JJ f S' mo (pc + 3) L st) : JJ f S mo pc L (v :: vr (some a) :: st) :=
  ⟨by rw [← hnx, ← hsl']; exact K.1, fun p e s m args below meth c0 X ls H locs cells slots hl hW hS h1 h2 => by
    have x11 : cf_ct f = true → meth.name = "<init>" := X.2.2.2.2.2.2.2.2.1
    have kk := K.2 p e s m args below meth c0 X ls
    obtain ⟨x1, x2, x3, x4, x5, x6, x7, x8, x9, x10⟩ := X
    rw [ho] at x4
    obtain ⟨C, T, N, tys, k, ref, ⟨c1, c2, c3, c4, c5, c6⟩, hk, hly, hty, hap, hlink, hfin1, hsame⟩ := F
    have hc0 : h_cl S a ≠ 0 := by rw [hcl]; exact c2
    have hw6 := hW.2.2.2.2.2.1 a
    have ha0 : ¬ a < g_n0 (cf_g f) := fun h => by rw [(hW.2.2.2.1 a h).2] at hwr; cases hwr
    obtain ⟨-, hck⟩ := hw6 (by omega) hc0
    have hck1 := hck.1 (by rw [hcl]; exact c3)
    rw [hcl] at hck1
    obtain ⟨r, q1, cell, q2, q3, q4, q5⟩ := hck1
    cases c1.symm.trans q1
    obtain ⟨hSl, hfc, kC, hkC, hkind⟩ := x6.1.1 c _ c1
    obtain ⟨cf, kf, fi, fl, hi, hsl⟩ := hSl k hk
    have hi2 := fa_same (own := own) x5 hsame _ hi
    have hst := (u_facts hfc hkC (u_lays x5 c4 hk) hi).1
    have hapx : ∀ x y, x < N → y < N → x ≠ y → (g_D (cf_g f)).2 c x ≠ (g_D (cf_g f)).2 c y := va_apart (own := own) x5 c4 tys c5 c6 x6.1 c1
    have hlt : fl.slot < cell.slots.size := by
      rw [hsl]
      exact (Array.getElem?_eq_some_iff.mp (q5 k hk)).1
    have hlt2 := hlt
    rw [hsl] at hlt2
    have fin : ∀ H1 : Heap, H1[a]? = some (cell.setSlot fl.slot (tv v)) → H1.size = H.size → (∀ q, q ≠ a → H1[q]? = H[q]?) → W p (cf_l f) e (cf_R f) s m args below meth c0 H1 (locs ++ [⟨a, fl.slot⟩]) cells slots (cf_Q f below args s) (F0 m (pc + 3) ls (st.map tv)) := by
      intro H1 e1 z1 o1
      rw [hsl] at e1 ⊢
      have hset := t_set q5 hapx hk (tv v)
      obtain ⟨hW', hna⟩ := hW.set hwr hc0 z1 o1 he hnx hks hcl' hwr' (fun _ => ⟨fun _ => ⟨_, by rw [hcl', hcl]; exact c1, by
        rw [hcl', hcl]
        refine t_OB.to (V := updV (fv S c a) k (tv v)) ⟨_, e1, q3, q4, hset⟩ (fun j hj => ?_)
        by_cases hjk : j = k
        · subst hjk
          simp [updV, hv j hly]
        · simp [updV, hjk, hv2 j (hap j hj hjk)]⟩, fun h => by rw [hcl', hcl] at h; omega⟩)
      exact kk H1 _ cells slots hl hW' (hS.put z1 o1 hna) (by rw [hnx]; exact h1) (by rw [hsl']; exact h2)
    rcases hw with hw | ⟨hw, hctt⟩
    · have hfin := hfin1 hw
      have hlay := x5 _ (c4 _ (u_in_lay hk))
      unfold u_lay at hlay
      rw [if_neg (by rw [hfin]; decide)] at hlay
      have h6 := u_store hfc hkC hkind hlay hi (c5 k hk) (by rw [hty]; exact hn) (by rw [hty]; exact hf)
      rcases hlink with ⟨hlink, -⟩ | ⟨-, host, hlink⟩
      · exact W.putK x1 (x2.trans hc) (f := fl) ⟨x4, x5 _ hlink, ⟨_, _, _, hi2⟩, hst⟩ (by rw [q3]; exact h6) q2 q4 hlt rfl rfl d fin
      · exact va_WputK x1 (x2.trans hc) (f := fl) x4 (va_Nw.use rfl (x6.2.1.1 _ _ _ _ _ _ hlink)) hi2 hst (by rw [q3]; exact h6) q2 q4 hlt rfl rfl d fin
    · rcases hlink with ⟨hlink, hfin⟩ | ⟨h9, -⟩
      · obtain ⟨hfin, hdecl⟩ := hfin hw
        have hlay := x5 _ (c4 _ (u_in_lay hk))
        unfold u_lay at hlay
        rw [if_pos hfin] at hlay
        have hcf : m.cls = cf := by
          obtain ⟨_, _, c', _, _, _, -, -, hf', -, -, -, hown2, -⟩ := Cond.laysFinal_spec hlay
          have e1 : c' = cf := by have := hi.symm.trans hf'; simp at this; exact this.1.symm
          rw [hdecl] at hown2
          rw [← e1]; exact Option.some.inj (x4.symm.trans hown2)
        have h6 := u_fits hfc hkC hkind (Or.inr hlay) hi (c5 k hk) (by rw [hty]; exact hn) (by rw [hty]; exact hf)
        exact W.putFinK x1 (x2.trans hc) x4 (x5 _ hlink) hi2 hst hcf (x11 hctt) (by rw [q3]; exact h6) q2 q4 hlt rfl rfl d fin
      · exact absurd hw h9⟩
theorem h_st_off {α : Type} (f : Nat → Nat → α) {k a q j : Nat} (x : α) (h : q ≠ a) : h_st f k a x j q = f j q := h_st_ne f x (fun z => h z.2)
theorem h_st_offA {α : Type} (f : Nat → Nat → α) {k a q j : Nat} (x : α) (h : q ≠ a) : h_st f a k x q j = f q j := h_st_ne f x (fun z => h z.1)
theorem eq_fI {S : HS} {k a : Nat} {x : Int32} : ∀ q, q ≠ a → h_eq (s_fI S k a x) S q := fun q h => ⟨rfl, rfl, rfl, fun j => h_st_off _ _ h, fun _ => rfl, fun _ => rfl, fun _ => rfl, fun _ => rfl, fun _ => rfl⟩
theorem eq_fJ {S : HS} {k a : Nat} {x : Int64} : ∀ q, q ≠ a → h_eq (s_fJ S k a x) S q := fun q h => ⟨rfl, rfl, rfl, fun _ => rfl, fun j => h_st_off _ _ h, fun _ => rfl, fun _ => rfl, fun _ => rfl, fun _ => rfl⟩
theorem eq_fR {S : HS} {k a : Nat} {x : Option Nat} : ∀ q, q ≠ a → h_eq (s_fR S k a x) S q := fun q h => ⟨rfl, rfl, rfl, fun _ => rfl, fun _ => rfl, fun j => h_st_off _ _ h, fun _ => rfl, fun _ => rfl, fun _ => rfl⟩
theorem eq_aI {S : HS} {a i : Nat} {x : Int32} : ∀ q, q ≠ a → h_eq (s_aI S a i x) S q := fun q h => ⟨rfl, rfl, rfl, fun _ => rfl, fun _ => rfl, fun _ => rfl, fun j => h_st_offA _ _ h, fun _ => rfl, fun _ => rfl⟩
theorem eq_aJ {S : HS} {a i : Nat} {x : Int64} : ∀ q, q ≠ a → h_eq (s_aJ S a i x) S q := fun q h => ⟨rfl, rfl, rfl, fun _ => rfl, fun _ => rfl, fun _ => rfl, fun _ => rfl, fun j => h_st_offA _ _ h, fun _ => rfl⟩
theorem eq_aR {S : HS} {a i : Nat} {x : Option Nat} : ∀ q, q ≠ a → h_eq (s_aR S a i x) S q := fun q h => ⟨rfl, rfl, rfl, fun _ => rfl, fun _ => rfl, fun _ => rfl, fun _ => rfl, fun _ => rfl, fun j => h_st_offA _ _ h⟩
theorem j_putI (hc : cf_cc f = cc) (ho : cf_ow f = own) {idx c fd a w : Nat} {x : Int32} (F : FA own idx c 0 fd .int w) (hw : w = 1 ∨ (w = 2 ∧ cf_ct f = true)) (d : decode cc pc = .ok (.putfield idx, 3)) (h : p_fI S c fd a x = some S') (K : JJ f S' mo (pc + 3) L st) : JJ f S mo pc L (vi x :: vr (some a) :: st) := by
  unfold p_fI at h
  split at h
  · rename_i h9
    cases h
    exact j_put0 hc ho F hw d h9.1 h9.2 (v := vi x) rfl rfl eq_fI rfl ⟨rfl, rfl⟩ rfl rfl rfl (fun k hk => by simp [fv, hk, tv, r_fI_fI, h_st_eq]) (fun k hk => by simp [fv, r_fI_fI, r_fJ_fI, r_fR_fI, h_st, hk]) K
  · cases h
theorem j_putN (hc : cf_cc f = cc) (ho : cf_ow f = own) {idx c fd a w : Nat} {x : Int32} {ty : FieldType} (F : FA own idx c 0 fd ty w) (hw : w = 1 ∨ (w = 2 ∧ cf_ct f = true)) (d : decode cc pc = .ok (.putfield idx, 3)) (h : p_fN ty S c fd a x = some S') (hy : narrow ty (.int x) = .int (vp_nar ty x)) (K : JJ f S' mo (pc + 3) L st) : JJ f S mo pc L (vi x :: vr (some a) :: st) := by
  unfold p_fN at h
  split at h
  · rename_i h8
    unfold p_fI at h
    split at h
    · rename_i h9
      cases h
      exact j_put0 hc ho F hw d h9.1 h9.2 (v := vi x) (by show narrow ty (.int x) = .int x; rw [hy, h8.1]) h8.2 eq_fI rfl ⟨rfl, rfl⟩ rfl rfl rfl (fun k hk => by simp [fv, hk, tv, r_fI_fI, h_st_eq]) (fun k hk => by simp [fv, r_fI_fI, r_fJ_fI, r_fR_fI, h_st, hk]) K
    · cases h
  · cases h
theorem j_putJ (hc : cf_cc f = cc) (ho : cf_ow f = own) {idx c fd a w : Nat} {x : Int64} (F : FA own idx c 1 fd .long w) (hw : w = 1 ∨ (w = 2 ∧ cf_ct f = true)) (d : decode cc pc = .ok (.putfield idx, 3)) (h : p_fJ S c fd a x = some S') (K : JJ f S' mo (pc + 3) L st) : JJ f S mo pc L (vl x :: vr (some a) :: st) := by
  unfold p_fJ at h
  split at h
  · rename_i h9
    cases h
    exact j_put0 hc ho F hw d h9.1 h9.2 (v := vl x) rfl rfl eq_fJ rfl ⟨rfl, rfl⟩ rfl rfl rfl (fun k hk => by simp [fv, hk, tv, r_fJ_fJ, h_st_eq]) (fun k hk => by simp [fv, r_fJ_fJ, r_fI_fJ, r_fR_fJ, h_st, hk]) K
  · cases h
theorem j_putR (hc : cf_cc f = cc) (ho : cf_ow f = own) {idx c fd a w : Nat} {x : Option Nat} {ty : FieldType} (F : FA own idx c 2 fd ty w) (hty : ty.isReference = true) (hw : w = 1 ∨ (w = 2 ∧ cf_ct f = true)) (d : decode cc pc = .ok (.putfield idx, 3)) (h : p_fR S c fd a x = some S') (K : JJ f S' mo (pc + 3) L st) : JJ f S mo pc L (vr x :: vr (some a) :: st) := by
  unfold p_fR at h
  split at h
  · rename_i h9
    cases h
    have hnf : narrow ty (va_rf x) = va_rf x ∧ fits ty (va_rf x) = true := by
      cases ty <;> first | (cases hty; done) | (cases x <;> exact ⟨rfl, rfl⟩)
    exact j_put0 hc ho F hw d h9.1 h9.2 (v := vr x) hnf.1 hnf.2 eq_fR rfl ⟨rfl, rfl⟩ rfl rfl rfl (fun k hk => by simp [fv, hk, tv, r_fR_fR, h_st_eq]) (fun k hk => by simp [fv, r_fR_fR, r_fI_fR, r_fJ_fR, h_st, hk]) K
  · cases h
end JH
