/-! rows: new cells, casts, constants, statics, ends -/
section JM
variable {f : CfT} {S S' : HS} {mo : MO} {pc : Nat} {L L' : LL} {st : List LV} {cc : ByteArray} {own : String} {a : Nat}
def dvk (k : Nat) : Value := match k with
  | 0 => .int 0
  | 1 => .long 0
  | _ => .null
theorem zero_fv {g : PG} {mo : MO} {H : Heap} (hW : Wd g S mo H) (c n k : Nat) : fv (s_new S c n) c (h_nx S) k = dvk (lay c k).1 := by
  obtain ⟨-, -, -, z4, z5, z6, -⟩ := hW.2.2.2.2.1 (h_nx S) (Nat.le_refl _)
  unfold fv dvk
  split <;> simp_all [r_fI_new, r_fJ_new, r_fR_new, va_rf]
theorem zero_av {g : PG} {mo : MO} {H : Heap} (hW : Wd g S mo H) (t n : Nat) : av (s_new S t n) t (h_nx S) = fun _ => dvk (aki t) := by
  obtain ⟨-, -, -, -, -, -, z7, z8, z9⟩ := hW.2.2.2.2.1 (h_nx S) (Nat.le_refl _)
  funext j
  unfold av dvk
  split <;> simp_all [r_aI_new, r_aJ_new, r_aR_new, va_rf]
/-- 'new' at an entry of own's pool -/
def FN (own : String) (idx c N : Nat) : Prop := ∃ (C : String) (T : u_T) (tys : Nat → FieldType), CI c C T N tys ∧ Cond.classLink own idx C ∈ lw_all ∧ Cond.instantiable C N ∈ lw_all ∧ Cond.initialized C ∈ lw_all ∧ ∀ k, k < N → defaultValue (tys k) = dvk (lay c k).1
theorem j_new (hc : cf_cc f = cc) (ho : cf_ow f = own) {idx c N : Nat} (F : FN own idx c N) (d : decode cc pc = .ok (.new idx, 3)) (h : n_obj S c N = some S') (K : JJ f S' mo (pc + 3) L (vr (some (h_nx S)) :: st)) : JJ f S mo pc L st := by
  rw [n_obj_eq] at h
  cases h
  have hm := K.1
  rw [r_nx_new, r_sl_new] at hm
  exact ⟨⟨by omega, by omega⟩, fun p e s m args below meth c0 X ls H locs cells slots hl hW hS h1 h2 => by
    have kk := K.2 p e s m args below meth c0 X ls
    obtain ⟨x1, x2, x3, x4, x5, x6, x7, x8, x9, x10⟩ := X
    rw [ho] at x4
    obtain ⟨C, T, tys, ⟨c1, c2, c3, c4, c5, c6⟩, w1, w2, w3, hdv⟩ := F
    have hKn := x6.1.1 c _ c1
    have hHs : H.size = h_nx S := hW.1
    refine W.newcK x1 (x2.trans hc) x4 (x5 _ w1) (x5 _ w2) (x5 _ w3) rfl d (by show cells + 1 ≤ (cf_fi f).1 - (cf_in f).1; omega) (by show slots + N ≤ (cf_fi f).2 - (cf_in f).2; omega) hKn.2.1 hHs fun H1 kC hkC e1 z1 o1 => ?_
    have hW' : Wd (cf_g f) (s_new S c N) mo H1 := hW.new (by rw [z1, hHs]) (fun q hq => o1 q (by omega)) ⟨fun _ => ⟨_, by simpa [r_cl_new, h_up] using c1, by
      have hb := (u_born tys x5 c4 hKn hkC e1 c5).to (V' := fv (s_new S c N) c (h_nx S)) (fun k hk => by rw [hdv k hk, zero_fv hW])
      simpa [r_cl_new, h_up] using hb⟩, fun h => by simp [r_cl_new, h_up] at h; omega⟩
    exact kk H1 locs (cells + 1) (slots + N) hl hW' ⟨Nat.le_trans hS.1 (by omega), fun x g1 g2 => (o1 x (by have := hS.1; omega)).trans (hS.2.1 x g1 g2), hS.2.2⟩ (by rw [r_nx_new]; omega) (by rw [r_sl_new]; omega)⟩
theorem j_newarr (hc : cf_cc f = cc) {t : Nat} {ty : ArrayType} (hty : newarray.typeOf ty = aty t) (ht : 31 ≤ t ∧ t ≤ 38) (hdv : defaultValue (aty t) = dvk (aki t)) (hb8 : componentBytes (aty t) ≤ 8) (w : Cond.arrayClass (aty t) ∈ lw_all) (hnm : va_RA = va_RA) (d : decode cc pc = .ok (.newarray ty, 2)) {n : Int32} (hprim : ∀ U, va_RA U (g_ac (cf_g f) t) (aty t) → U.vm.findClass ("[" ++ (aty t).toString) = some (g_ac (cf_g f) t)) (h : n_arr S t n = some S') (K : JJ f S' mo (pc + 2) L (vr (some (h_nx S)) :: st)) : JJ f S mo pc L (vi n :: st) := by
  unfold n_arr at h
  split at h
  · rename_i h9
    cases h
    have hm := K.1
    rw [r_nx_new, r_sl_new] at hm
    exact ⟨⟨by omega, by omega⟩, fun p e s m args below meth c0 X ls H locs cells slots hl hW hS h1 h2 => by
      have kk := K.2 p e s m args below meth c0 X ls
      obtain ⟨x1, x2, x3, x4, x5, x6, x7, x8, x9, x10⟩ := X
      have hHs : H.size = h_nx S := hW.1
      have hw := x5 _ w
      rw [← hty] at hw
      refine va_newaK x1 (x2.trans hc) hw rfl d rfl h9.1 rfl (by rw [hty]; exact Nat.le_trans (Nat.mul_le_mul h9.2 hb8) (Nat.le_of_ble_eq_true rfl)) (by show cells + 1 ≤ (cf_fi f).1 - (cf_in f).1; omega) (by show slots + n.toNatClampNeg ≤ (cf_fi f).2 - (cf_in f).2; omega) hHs fun H1 cA e1 z1 o1 hAr hfc => ?_
      rw [hty] at hfc e1
      have hcA : cA = g_ac (cf_g f) t := Option.some.inj (hfc.symm.trans (hprim s (arr_K x6 ht.1 ht.2).2))
      subst hcA
      have hW' : Wd (cf_g f) (s_new S t n.toNatClampNeg) mo H1 := hW.new (by rw [z1, hHs]) (fun q hq => o1 q (by omega)) ⟨fun h => by simp [r_cl_new, h_up] at h; omega, fun _ => by
        rw [hdv, ← zero_av hW t n.toNatClampNeg] at e1
        simpa [r_cl_new, r_ln_new, h_up] using e1⟩
      exact kk H1 locs (cells + 1) (slots + n.toNatClampNeg) hl hW' ⟨Nat.le_trans hS.1 (by omega), fun x g1 g2 => (o1 x (by have := hS.1; omega)).trans (hS.2.1 x g1 g2), hS.2.2⟩ (by rw [r_nx_new]; omega) (by rw [r_sl_new]; omega)⟩
  · cases h
theorem j_anew (hc : cf_cc f = cc) (ho : cf_ow f = own) {idx t : Nat} {C : String} (hty : aty t = .object C) (ht : t = 35 ∨ t = 36) (w : Cond.classLink own idx C ∈ lw_all) (w2 : Cond.arrayOver (.object C) ∈ lw_tbl) (d : decode cc pc = .ok (.anewarray idx, 3)) {n : Int32} (h : n_arr S t n = some S') (K : JJ f S' mo (pc + 3) L (vr (some (h_nx S)) :: st)) : JJ f S mo pc L (vi n :: st) := by
  unfold n_arr at h
  split at h
  · rename_i h9
    cases h
    have hm := K.1
    rw [r_nx_new, r_sl_new] at hm
    exact ⟨⟨by omega, by omega⟩, fun p e s m args below meth c0 X ls H locs cells slots hl hW hS h1 h2 => by
      have kk := K.2 p e s m args below meth c0 X ls
      obtain ⟨x1, x2, x3, x4, x5, x6, x7, x8, x9, x10⟩ := X
      rw [ho] at x4
      have hHs : H.size = h_nx S := hW.1
      refine W.anew x1 (x2.trans hc) x4 (x5 _ w) (va_AO.use (x6.2.1.2.2.2.2.1 _ w2)) rfl d rfl h9.1 (Nat.le_trans (Nat.mul_le_mul_right 4 h9.2) (Nat.le_of_ble_eq_true rfl)) (by show cells + 1 ≤ (cf_fi f).1 - (cf_in f).1; omega) (by show slots + n.toNatClampNeg ≤ (cf_fi f).2 - (cf_in f).2; omega) fun cA kA comp f1 f2 f3 f4 => ?_
      generalize hH1 : H.push ({ cls := cA, slots := Array.replicate n.toNatClampNeg .null, vm := .none } : Cell) = H1
      have z1 : H1.size = H.size + 1 := by rw [← hH1, Array.size_push]
      have e1 : H1[H.size]? = some (arrV cA n.toNatClampNeg (fun _ => .null)) := by rw [← hH1, Array.getElem?_push_size, ← arrV_new]
      have o1 : ∀ q : Nat, q < H.size → H1[q]? = H[q]? := fun q hq => by rw [← hH1, Array.getElem?_push, if_neg (Nat.ne_of_lt hq)]
      have hRA := (arr_K x6 (t := t) (by omega) (by omega)).2
      rw [hty] at hRA
      obtain ⟨kA', comp', -, -, -, f9⟩ := hRA
      have hcA : cA = g_ac (cf_g f) t := Option.some.inj (f1.symm.trans f9)
      subst hcA
      have hW' : Wd (cf_g f) (s_new S t n.toNatClampNeg) mo H1 := hW.new z1 o1 ⟨fun h => by simp [r_cl_new, h_up] at h; omega, fun _ => by
        have hz := zero_av hW t n.toNatClampNeg
        have hk2 : dvk (aki t) = .null := by rcases ht with rfl | rfl <;> rfl
        rw [hk2] at hz
        rw [← hz, hHs] at e1
        simpa [r_cl_new, r_ln_new, h_up] using e1⟩
      have k9 := kk H1 locs (cells + 1) (slots + n.toNatClampNeg) hl hW' ⟨Nat.le_trans hS.1 (by omega), fun x g1 g2 => (o1 x (by have := hS.1; omega)).trans (hS.2.1 x g1 g2), hS.2.2⟩ (by rw [r_nx_new]; omega) (by rw [r_sl_new]; omega)
      rw [← hHs] at k9
      exact k9⟩
  · cases h
/-- a cast that holds -/
def g_cast (S : HS) (cs : List Nat) (r : Option Nat) : Option Unit := match r with
  | none => some ()
  | some a => if h_cl S a ∈ cs then some () else none
def FC (own : String) (idx : Nat) (cs : List Nat) : Prop := ∃ C, Cond.classLink own idx C ∈ lw_all ∧ ∀ c, c ∈ cs → c ≠ 0 ∧ c < 30 ∧ ∃ r, vwCl[c]? = some r ∧ (r.1 = C ∨ Cond.castable r.1 C ∈ lw_tbl)
theorem j_ccastN (hc : cf_cc f = cc) {idx : Nat} (d : decode cc pc = .ok (.checkcast idx, 3)) (K : JJ f S mo (pc + 3) L (vr none :: st)) : JJ f S mo pc L (vr none :: st) :=
  ⟨K.1, fun p e s m args below meth c X ls H locs cells slots hl hW hS h1 h2 => lv_castN X.1 (X.2.1.trans hc) d (K.2 p e s m args below meth c X ls H locs cells slots hl hW hS h1 h2)⟩
theorem j_ccast (hc : cf_cc f = cc) (ho : cf_ow f = own) {idx : Nat} {cs : List Nat} (F : FC own idx cs) (d : decode cc pc = .ok (.checkcast idx, 3)) {x : Option Nat} (h : g_cast S cs x = some ()) (K : JJ f S mo (pc + 3) L (vr x :: st)) : JJ f S mo pc L (vr x :: st) := by
  cases x with
  | none => exact j_ccastN hc d K
  | some a =>
    have hm : h_cl S a ∈ cs := by
      have h : (if h_cl S a ∈ cs then some () else none) = some () := h
      by_cases h9 : h_cl S a ∈ cs
      · exact h9
      · rw [if_neg h9] at h; cases h
    exact ⟨K.1, fun p e s m args below meth c0 X ls H locs cells slots hl hW hS h1 h2 => by
      have k9 := K.2 p e s m args below meth c0 X ls H locs cells slots hl hW hS h1 h2
      obtain ⟨x1, x2, x3, x4, x5, x6, x7, x8, x9, x10⟩ := X
      rw [ho] at x4
      obtain ⟨C, w, hcs⟩ := F
      obtain ⟨c2, c3, r, hr, hrC⟩ := hcs _ hm
      obtain ⟨r', cell, q1, q2, q3, q4, q5, q6⟩ := hW.obO x6 rfl c2 c3
      cases hr.symm.trans q1
      have hcls := (x6.1.1 _ _ hr).2
      rcases hrC with h9 | h9
      · exact va_castE x1 (x2.trans hc) x4 (x5 _ w) ⟨cell, q2, q4, by rw [q5, ← h9]; exact hcls.1⟩ d k9
      · exact va_castY x1 (x2.trans hc) x4 (x5 _ w) (x6.2.1.2.2.1 _ _ h9) ⟨cell, q2, q4, by rw [q5]; exact hcls.1⟩ d k9⟩
/-- instanceof of a class that is the object's own -/
theorem j_inst (hc : cf_cc f = cc) (ho : cf_ow f = own) {idx c : Nat} (F : FC own idx [c]) (hex : ∀ C r, Cond.classLink own idx C ∈ lw_all → vwCl[c]? = some r → r.1 = C ∨ True) (d : decode cc pc = .ok (.instanceof idx, 3)) (h : h_cl S a = c) (K : JJ f S mo (pc + 3) L (vi 1 :: st)) : JJ f S mo pc L (vr (some a) :: st) :=
  ⟨K.1, fun p e s m args below meth c0 X ls H locs cells slots hl hW hS h1 h2 => by
    have k9 := K.2 p e s m args below meth c0 X ls H locs cells slots hl hW hS h1 h2
    obtain ⟨x1, x2, x3, x4, x5, x6, x7, x8, x9, x10⟩ := X
    rw [ho] at x4
    obtain ⟨C, w, hcs⟩ := F
    obtain ⟨c2, c3, r, hr, hrC⟩ := hcs c (List.mem_singleton.mpr rfl)
    obtain ⟨r', cell, q1, q2, q3, q4, q5, q6⟩ := hW.obO x6 h c2 c3
    cases hr.symm.trans q1
    have hcls := (x6.1.1 _ _ hr).2
    rcases hrC with h9 | h9
    · exact va_instE x1 (x2.trans hc) x4 (x5 _ w) ⟨cell, q2, q4, by rw [q5, ← h9]; exact hcls.1⟩ d k9
    · exact va_instY x1 (x2.trans hc) x4 (x5 _ w) (x6.2.1.2.2.1 _ _ h9) ⟨cell, q2, q4, by rw [q5]; exact hcls.1⟩ d k9⟩
/-- constants of the pool -/
theorem j_ldc (hc : cf_cc f = cc) (ho : cf_ow f = own) {idx : Nat} {v : Int32} (w : Cond.constant own idx v ∈ lw_all) (d : decode cc pc = .ok (.ldc idx, 2)) (K : JJ f S mo (pc + 2) L (vi v :: st)) : JJ f S mo pc L st :=
  ⟨K.1, fun p e s m args below meth c X ls H locs cells slots hl hW hS h1 h2 => lv_ldc X.1 (X.2.1.trans hc) (by rw [← ho]; exact X.2.2.2.1) (X.2.2.2.2.1 _ w) d (K.2 p e s m args below meth c X ls H locs cells slots hl hW hS h1 h2)⟩
theorem j_ldcw (hc : cf_cc f = cc) (ho : cf_ow f = own) {idx : Nat} {v : Int32} (w : Cond.constant own idx v ∈ lw_all) (d : decode cc pc = .ok (.ldc_w idx, 3)) (K : JJ f S mo (pc + 3) L (vi v :: st)) : JJ f S mo pc L st :=
  ⟨K.1, fun p e s m args below meth c X ls H locs cells slots hl hW hS h1 h2 => lv_ldcw X.1 (X.2.1.trans hc) (by rw [← ho]; exact X.2.2.2.1) (X.2.2.2.2.1 _ w) d (K.2 p e s m args below meth c X ls H locs cells slots hl hW hS h1 h2)⟩
theorem j_ldc2 (hc : cf_cc f = cc) (ho : cf_ow f = own) {idx : Nat} {v : Int64} (w : Cond.constantLong own idx v ∈ lw_all) (d : decode cc pc = .ok (.ldc2_w idx, 3)) (K : JJ f S mo (pc + 3) L (vl v :: st)) : JJ f S mo pc L st :=
  ⟨K.1, fun p e s m args below meth c X ls H locs cells slots hl hW hS h1 h2 => lv_ldc2 X.1 (X.2.1.trans hc) (by rw [← ho]; exact X.2.2.2.1) (X.2.2.2.2.1 _ w) d (K.2 p e s m args below meth c X ls H locs cells slots hl hW hS h1 h2)⟩
theorem j_ldcS (hc : cf_cc f = cc) (ho : cf_ow f = own) {idx : Nat} {tx : String} (j : Nat) (w : strTab[j]? = some (own, idx, tx)) (d : decode cc pc = .ok (.ldc idx, 2)) (K : JJ f S mo (pc + 2) L (vr (some (h_ks S j)) :: st)) : JJ f S mo pc L st :=
  ⟨K.1, fun p e s m args below meth c X ls H locs cells slots hl hW hS h1 h2 => by
    have k9 := K.2 p e s m args below meth c X ls H locs cells slots hl hW hS h1 h2
    rw [hW.2.1.2.1] at k9
    exact va_ldcS X.1 (X.2.1.trans hc) (by rw [← ho]; exact X.2.2.2.1) (X.2.2.2.2.2.1.2.2.2.1 j _ w) d k9⟩
theorem j_ldcM (hc : cf_cc f = cc) (ho : cf_ow f = own) {idx : Nat} (w : Cond.classLink own idx "[Ljava/lang/Object;" ∈ lw_all) (d : decode cc pc = .ok (.ldc idx, 2)) (K : JJ f S mo (pc + 2) L (vr (some (h_ks S 32)) :: st)) : JJ f S mo pc L st :=
  ⟨K.1, fun p e s m args below meth c X ls H locs cells slots hl hW hS h1 h2 => by
    have k9 := K.2 p e s m args below meth c X ls H locs cells slots hl hW hS h1 h2
    rw [hW.2.1.2.1] at k9
    exact va_ldcM X.1 (X.2.1.trans hc) (by rw [← ho]; exact X.2.2.2.1) (X.2.2.2.2.1 _ w) X.2.2.2.2.2.1.2.2.2.2.2.2.2.2.2.2 d k9⟩
/-- a static -/
theorem j_gets (hc : cf_cc f = cc) (ho : cf_ow f = own) {idx : Nat} {C n ds : String} {v : LV} (w : Cond.fieldLink own idx C n ds ∈ lw_all) (hZ : ∀ U, EV (cf_g f) U → h_ks S = g_ks (cf_g f) → h_kr S = g_kr (cf_g f) → va_Z C n ds (tv v) (g_A (cf_g f)) U (g_Hs (cf_g f))) (d : decode cc pc = .ok (.getstatic idx, 3)) (K : JJ f S mo (pc + 3) L (v :: st)) : JJ f S mo pc L st :=
  ⟨K.1, fun p e s m args below meth c X ls H locs cells slots hl hW hS h1 h2 => by
    have k9 := K.2 p e s m args below meth c X ls H locs cells slots hl hW hS h1 h2
    obtain ⟨cf, kf, fi, fl, a, cell, q1, q2, q3, q4, q5, q6, q7, q8⟩ := hZ s X.2.2.2.2.2.1 hW.2.1.2.1 hW.2.1.2.2
    exact W.gets X.1 (X.2.1.trans hc) (by rw [← ho]; exact X.2.2.2.1) (X.2.2.2.2.1 _ w) q1 q2 q3 q4 (by rw [hW.2.2.1 a (Array.getElem?_eq_some_iff.mp q5).1]; exact q5) (fun e => by rw [e] at q6; cases q6) q7 rfl d k9⟩
theorem j_lcmp (hc : cf_cc f = cc) {x y : Int64} (d : decode cc pc = .ok (.lcmp, 1)) (K : JJ f S mo (pc + 1) L (vi (lg_cmp x y) :: st)) : JJ f S mo pc L (vl y :: vl x :: st) :=
  ⟨K.1, fun p e s m args below meth c X ls H locs cells slots hl hW hS h1 h2 => W.lcmp X.1 (X.2.1.trans hc) d (K.2 p e s m args below meth c X ls H locs cells slots hl hW hS h1 h2)⟩
/-- Object's constructor -/
theorem j_oini (hc : cf_cc f = cc) (ho : cf_ow f = own) {idx fr lo : Nat} (w1 : Cond.methodLink own idx Lib.objectInit ∈ lw_all) (w2 : Cond.instanceMethod Lib.objectInit ∈ lw_all) (w3 : Cond.code Lib.objectInit ⟨#[0xb1]⟩ 1 none ∈ lw_all) (hr : cf_rm f = (fr, lo)) (hr2 : 1 ≤ fr ∧ (st.map lc).sum + 12 ≤ lo) (d : decode cc pc = .ok (.invokespecial idx, 3)) (K : JJ f S mo (pc + 3) L st) : JJ f S mo pc L (vr (some a) :: st) :=
  ⟨K.1, fun p e s m args below meth c X ls H locs cells slots hl hW hS h1 h2 => by
    have k9 := K.2 p e s m args below meth c X ls H locs cells slots hl hW hS h1 h2
    have hsum : ((st.map tv).map fun v => v.category).sum = (st.map lc).sum := by
      rw [List.map_map]
      congr 1
      exact List.map_congr_left fun v _ => lc_ok v
    exact W.objInit X.1 (X.2.1.trans hc) (by rw [← ho]; exact X.2.2.2.1) (X.2.2.2.2.1 _ w1) (X.2.2.2.2.1 _ w2) (X.2.2.2.2.1 _ w3) rfl (by rw [X.2.2.1]; exact hl.1) rfl d (by show 1 ≤ (cf_rm f).1; rw [hr]; exact hr2.1) (by
      show 2 * (F0 m pc ls []).monitorRoom + ((st.map tv).map fun v => v.category).sum + 12 ≤ (cf_rm f).2
      rw [hsum, hr]
      have : (F0 m pc ls []).monitorRoom = 0 := rfl
      have := hr2.2
      omega) k9⟩
end JM
