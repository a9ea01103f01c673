/-! rows for simp over the component's heap; the fixed layout (printed by gen/mkcrow.py) -/
theorem gcls {S : HS} {c a : Nat} (h : h_cl S a = c) : g_cls S c a = some () := if_pos h
theorem gfI {S : HS} {c k a : Nat} (h : h_cl S a = c) : g_fI S c k a = some (h_fI S k a) := if_pos h
theorem gfR {S : HS} {c k a : Nat} (h : h_cl S a = c) : g_fR S c k a = some (h_fR S k a) := if_pos h
theorem pfI {S : HS} {c k a : Nat} {x : Int32} (h : h_cl S a = c) (hw : h_wr S a = true) : p_fI S c k a x = some (s_fI S k a x) := if_pos ⟨h, hw⟩
theorem pfR {S : HS} {c k a : Nat} {x : Option Nat} (h : h_cl S a = c) (hw : h_wr S a = true) : p_fR S c k a x = some (s_fR S k a x) := if_pos ⟨h, hw⟩
theorem gaI {S : HS} {c a n : Nat} (h : h_cl S a = c) (hb : n < 2147483648) (hn : n < h_ln S a) : g_aI S c a (i_ n) = some (h_aI S a n) := by
  unfold g_aI
  rw [i_cl hb, if_pos ⟨h, i_nn hb, hn⟩]
theorem gaR {S : HS} {c a n : Nat} (h : h_cl S a = c) (hb : n < 2147483648) (hn : n < h_ln S a) : g_aR S c a (i_ n) = some (h_aR S a n) := by
  unfold g_aR
  rw [i_cl hb, if_pos ⟨h, i_nn hb, hn⟩]
theorem paI {S : HS} {c a n : Nat} {x : Int32} (h : h_cl S a = c) (hw : h_wr S a = true) (hb : n < 2147483648) (hn : n < h_ln S a) : p_aI S c a (i_ n) x = some (s_aI S a n x) := by
  unfold p_aI
  rw [i_cl hb, if_pos ⟨⟨h, hw⟩, i_nn hb, hn⟩]
theorem paR {S : HS} {c a n : Nat} {x : Option Nat} (h : h_cl S a = c) (hw : h_wr S a = true) (hb : n < 2147483648) (hn : n < h_ln S a) : p_aR S c a (i_ n) x = some (s_aR S a n x) := by
  unfold p_aR
  rw [i_cl hb, if_pos ⟨⟨h, hw⟩, i_nn hb, hn⟩]
theorem paS_n {S : HS} {c a : Nat} {i : Int32} : p_aS S c a i none = p_aR S c a i none := rfl
theorem paS_s {S : HS} {c a v : Nat} {i : Int32} (h : (ok_st c).contains (h_cl S v) = true) : p_aS S c a i (some v) = p_aR S c a i (some v) := if_pos (List.contains_iff_mem.mp h)
theorem glen {S : HS} {c a : Nat} (h : h_cl S a = c) : g_len S c a = some (i_ (h_ln S a)) := if_pos h
theorem gown {S : HS} {c a : Nat} (h : h_cl S a = c) (hw : h_wr S a = true) : g_own S c a = some () := if_pos ⟨h, hw⟩
theorem gthr {S : HS} {a : Nat} (h : h_cl S a = 11) (hw : h_wr S a = true) : g_thr S a = some () := if_pos ⟨h, hw⟩
theorem narr {S : HS} {c n : Nat} (h : n ≤ 65536) : n_arr S c (i_ n) = some (s_new S c n) := by
  unfold n_arr
  rw [i_cl (by omega), if_pos ⟨i_nn (by omega), h⟩]
theorem nobj {S : HS} {c n : Nat} : n_obj S c n = some (s_new S c n) := n_obj_eq S c n
theorem oc_n {α β : Type} (n : β) (k : α → β) : o_case none n k = n := id rfl
theorem oc_s {α β : Type} (a : α) (n : β) (k : α → β) : o_case (some a) n k = k a := id rfl
theorem otr_l {α γ : Type} (a : α) (S : HS) (k : α → HS → Option γ) (x : Nat → HS → Option γ) : o_tr (some (Sum.inl a, S)) k x = k a S := id rfl
theorem otr_r {α γ : Type} (q : Nat) (S : HS) (k : α → HS → Option γ) (x : Nat → HS → Option γ) : o_tr (some (Sum.inr q, S)) k x = x q S := id rfl
theorem gcast {S : HS} {cs : List Nat} {a : Nat} (h : cs.contains (h_cl S a) = true) : g_cast S cs (some a) = some () := if_pos (List.contains_iff_mem.mp h)
theorem st_ne {α : Type} (f : Nat → Nat → α) {k a k' a' : Nat} (x : α) (h : ¬ (k' = k ∧ a' = a)) : h_st f k a x k' a' = f k' a' := h_st_ne f x h
theorem nar_bb (b : Bool) : vp_nar .boolean (b2i b) = b2i b := by cases b <;> rfl
theorem nar_ch {n : Nat} (h : n < 65536) : vp_nar .char (i_ n) = i_ n := by
  apply Int32.toBitVec_inj.mp
  show ((i_ n).toUInt32 % 65536).toInt32.toBitVec = _
  show (BitVec.ofNat 32 n % 65536#32) = BitVec.ofNat 32 n
  apply BitVec.eq_of_toNat_eq
  rw [BitVec.toNat_umod, BitVec.toNat_ofNat, BitVec.toNat_ofNat]
  have e : 65536 % 2 ^ 32 = 65536 := by decide
  rw [e, Nat.mod_eq_of_lt (show n < 2 ^ 32 by omega), Nat.mod_eq_of_lt h]
theorem obE {α β γ : Type} {o : Option (α × β)} {x : α} {y : β} (h : o = some (x, y)) (k : α → β → Option γ) : o_bd o k = k x y := by rw [h]; rfl
theorem ob1 {α γ : Type} {o : Option α} {x : α} (h : o = some x) (k : α → Option γ) : o.bind k = k x := by rw [h]; rfl
theorem bcls {γ : Type} {S : HS} {c a : Nat} (h : h_cl S a = c) (k : Unit → Option γ) : (g_cls S c a).bind k = k () := by rw [gcls h]; rfl
theorem bfI {γ : Type} {S : HS} {c f a : Nat} (h : h_cl S a = c) (k : Int32 → Option γ) : (g_fI S c f a).bind k = k (h_fI S f a) := by rw [gfI h]; rfl
theorem bfR {γ : Type} {S : HS} {c f a : Nat} (h : h_cl S a = c) (k : Option Nat → Option γ) : (g_fR S c f a).bind k = k (h_fR S f a) := by rw [gfR h]; rfl
theorem bpfI {γ : Type} {S : HS} {c f a : Nat} {x : Int32} (h : h_cl S a = c) (hw : h_wr S a = true) (k : HS → Option γ) : (p_fI S c f a x).bind k = k (s_fI S f a x) := by rw [pfI h hw]; rfl
theorem bpfR {γ : Type} {S : HS} {c f a : Nat} {x : Option Nat} (h : h_cl S a = c) (hw : h_wr S a = true) (k : HS → Option γ) : (p_fR S c f a x).bind k = k (s_fR S f a x) := by rw [pfR h hw]; rfl
theorem baI {γ : Type} {S : HS} {c a n : Nat} (h : h_cl S a = c) (hb : n < 2147483648) (hn : n < h_ln S a) (k : Int32 → Option γ) : (g_aI S c a (i_ n)).bind k = k (h_aI S a n) := by rw [gaI h hb hn]; rfl
theorem baR {γ : Type} {S : HS} {c a n : Nat} (h : h_cl S a = c) (hb : n < 2147483648) (hn : n < h_ln S a) (k : Option Nat → Option γ) : (g_aR S c a (i_ n)).bind k = k (h_aR S a n) := by rw [gaR h hb hn]; rfl
theorem bpaI {γ : Type} {S : HS} {c a n : Nat} {x : Int32} (h : h_cl S a = c) (hw : h_wr S a = true) (hb : n < 2147483648) (hn : n < h_ln S a) (k : HS → Option γ) : (p_aI S c a (i_ n) x).bind k = k (s_aI S a n x) := by rw [paI h hw hb hn]; rfl
theorem blen {γ : Type} {S : HS} {c a : Nat} (h : h_cl S a = c) (k : Int32 → Option γ) : (g_len S c a).bind k = k (i_ (h_ln S a)) := by rw [glen h]; rfl
theorem bnobj {γ : Type} {S : HS} {c n : Nat} (k : HS → Option γ) : (n_obj S c n).bind k = k (s_new S c n) := by rw [nobj]; rfl
theorem bnarr {γ : Type} {S : HS} {c n : Nat} (h : n ≤ 65536) (k : HS → Option γ) : (n_arr S c (i_ n)).bind k = k (s_new S c n) := by rw [narr h]; rfl
theorem bcast {γ : Type} {S : HS} {cs : List Nat} {a : Nat} (h : cs.contains (h_cl S a) = true) (k : Unit → Option γ) : (g_cast S cs (some a)).bind k = k () := by rw [gcast h]; rfl
def s_row (S : HS) (x : Nat) (f : Nat → Int32) : HS := (h_fI S, h_fJ S, h_fR S, fun y => if y = x then f else h_aI S y, h_aJ S, h_aR S, h_cl S, h_ln S, h_wr S, h_nx S, h_sl S, h_ks S, h_kr S)
theorem r_fI_row (S : HS) (x : Nat) (f : Nat → Int32) : h_fI (s_row S x f) = h_fI S := id rfl
theorem r_fR_row (S : HS) (x : Nat) (f : Nat → Int32) : h_fR (s_row S x f) = h_fR S := id rfl
theorem r_aR_row (S : HS) (x : Nat) (f : Nat → Int32) : h_aR (s_row S x f) = h_aR S := id rfl
theorem r_cl_row (S : HS) (x : Nat) (f : Nat → Int32) : h_cl (s_row S x f) = h_cl S := id rfl
theorem r_ln_row (S : HS) (x : Nat) (f : Nat → Int32) : h_ln (s_row S x f) = h_ln S := id rfl
theorem r_wr_row (S : HS) (x : Nat) (f : Nat → Int32) : h_wr (s_row S x f) = h_wr S := id rfl
theorem r_nx_row (S : HS) (x : Nat) (f : Nat → Int32) : h_nx (s_row S x f) = h_nx S := id rfl
theorem r_sl_row (S : HS) (x : Nat) (f : Nat → Int32) : h_sl (s_row S x f) = h_sl S := id rfl
theorem r_ks_row (S : HS) (x : Nat) (f : Nat → Int32) : h_ks (s_row S x f) = h_ks S := id rfl
theorem r_kr_row (S : HS) (x : Nat) (f : Nat → Int32) : h_kr (s_row S x f) = h_kr S := id rfl
theorem r_fJ_row (S : HS) (x : Nat) (f : Nat → Int32) : h_fJ (s_row S x f) = h_fJ S := id rfl
theorem r_aJ_row (S : HS) (x : Nat) (f : Nat → Int32) : h_aJ (s_row S x f) = h_aJ S := id rfl
theorem sr_on (S : HS) (x : Nat) (f : Nat → Int32) : h_aI (s_row S x f) x = f := if_pos rfl
theorem sr_off {S : HS} {x y : Nat} {f : Nat → Int32} (h : ¬ y = x) : h_aI (s_row S x f) y = h_aI S y := if_neg h
theorem hs_ext {S T : HS} (a : h_fI S = h_fI T) (b : h_fJ S = h_fJ T) (c : h_fR S = h_fR T) (d : ∀ x, h_aI S x = h_aI T x) (e : h_aJ S = h_aJ T) (f : h_aR S = h_aR T) (g : h_cl S = h_cl T) (h : h_ln S = h_ln T) (i : h_wr S = h_wr T) (j : h_nx S = h_nx T) (k : h_sl S = h_sl T) (l : h_ks S = h_ks T) (m : h_kr S = h_kr T) : S = T := by
  obtain ⟨s1, s2, s3, s4, s5, s6, s7, s8, s9, s10, s11, s12, s13⟩ := S
  obtain ⟨t1, t2, t3, t4, t5, t6, t7, t8, t9, t10, t11, t12, t13⟩ := T
  have a' : s1 = t1 := a
  have b' : s2 = t2 := b
  have c' : s3 = t3 := c
  have d' : s4 = t4 := funext d
  have e' : s5 = t5 := e
  have f' : s6 = t6 := f
  have g' : s7 = t7 := g
  have h' : s8 = t8 := h
  have i' : s9 = t9 := i
  have j' : s10 = t10 := j
  have k' : s11 = t11 := k
  have l' : s12 = t12 := l
  have m' : s13 = t13 := m
  rw [a', b', c', d', e', f', g', h', i', j', k', l', m']
theorem sr_set (S : HS) (x i : Nat) (v : Int32) (f : Nat → Int32) : s_aI (s_row S x f) x i v = s_row S x (h_up f i v) := by
  refine hs_ext rfl rfl rfl (fun y => ?_) rfl rfl rfl rfl rfl rfl rfl rfl rfl
  funext j
  show h_st (fun y => if y = x then f else h_aI S y) x i v y j = (if y = x then h_up f i v else h_aI S y) j
  unfold h_st h_up
  by_cases h : y = x
  · subst h
    simp
  · simp [h]
theorem sr_self (S : HS) (x : Nat) : s_row S x (h_aI S x) = S := by
  refine hs_ext rfl rfl rfl (fun y => ?_) rfl rfl rfl rfl rfl rfl rfl rfl rfl
  show (if y = x then h_aI S x else h_aI S y) = h_aI S y
  by_cases h : y = x
  · rw [if_pos h, h]
  · rw [if_neg h]
theorem sr_sr (S : HS) (x : Nat) (f g : Nat → Int32) : s_row (s_row S x f) x g = s_row S x g := by
  refine hs_ext rfl rfl rfl (fun y => ?_) rfl rfl rfl rfl rfl rfl rfl rfl rfl
  show (if y = x then g else if y = x then f else h_aI S y) = (if y = x then g else h_aI S y)
  by_cases h : y = x
  · rw [if_pos h, if_pos h]
  · rw [if_neg h, if_neg h, if_neg h]
theorem R_fI_fI (S : HS) (k a : Nat) (x : Int32) : h_fI (s_fI S k a x) = h_st (h_fI S) k a x := id rfl
theorem R_fI_fR (S : HS) (k a : Nat) (x : Option Nat) : h_fI (s_fR S k a x) = h_fI S := id rfl
theorem R_fI_aI (S : HS) (k a : Nat) (x : Int32) : h_fI (s_aI S k a x) = h_fI S := id rfl
theorem R_fI_aR (S : HS) (k a : Nat) (x : Option Nat) : h_fI (s_aR S k a x) = h_fI S := id rfl
theorem R_fI_new (S : HS) (c n : Nat) : h_fI (s_new S c n) = h_fI S := id rfl
theorem R_fR_fI (S : HS) (k a : Nat) (x : Int32) : h_fR (s_fI S k a x) = h_fR S := id rfl
theorem R_fR_fR (S : HS) (k a : Nat) (x : Option Nat) : h_fR (s_fR S k a x) = h_st (h_fR S) k a x := id rfl
theorem R_fR_aI (S : HS) (k a : Nat) (x : Int32) : h_fR (s_aI S k a x) = h_fR S := id rfl
theorem R_fR_aR (S : HS) (k a : Nat) (x : Option Nat) : h_fR (s_aR S k a x) = h_fR S := id rfl
theorem R_fR_new (S : HS) (c n : Nat) : h_fR (s_new S c n) = h_fR S := id rfl
theorem R_aI_fI (S : HS) (k a : Nat) (x : Int32) : h_aI (s_fI S k a x) = h_aI S := id rfl
theorem R_aI_fR (S : HS) (k a : Nat) (x : Option Nat) : h_aI (s_fR S k a x) = h_aI S := id rfl
theorem R_aI_aI (S : HS) (k a : Nat) (x : Int32) : h_aI (s_aI S k a x) = h_st (h_aI S) k a x := id rfl
theorem R_aI_aR (S : HS) (k a : Nat) (x : Option Nat) : h_aI (s_aR S k a x) = h_aI S := id rfl
theorem R_aI_new (S : HS) (c n : Nat) : h_aI (s_new S c n) = h_aI S := id rfl
theorem R_aR_fI (S : HS) (k a : Nat) (x : Int32) : h_aR (s_fI S k a x) = h_aR S := id rfl
theorem R_aR_fR (S : HS) (k a : Nat) (x : Option Nat) : h_aR (s_fR S k a x) = h_aR S := id rfl
theorem R_aR_aI (S : HS) (k a : Nat) (x : Int32) : h_aR (s_aI S k a x) = h_aR S := id rfl
theorem R_aR_aR (S : HS) (k a : Nat) (x : Option Nat) : h_aR (s_aR S k a x) = h_st (h_aR S) k a x := id rfl
theorem R_aR_new (S : HS) (c n : Nat) : h_aR (s_new S c n) = h_aR S := id rfl
theorem R_cl_fI (S : HS) (k a : Nat) (x : Int32) : h_cl (s_fI S k a x) = h_cl S := id rfl
theorem R_cl_fR (S : HS) (k a : Nat) (x : Option Nat) : h_cl (s_fR S k a x) = h_cl S := id rfl
theorem R_cl_aI (S : HS) (k a : Nat) (x : Int32) : h_cl (s_aI S k a x) = h_cl S := id rfl
theorem R_cl_aR (S : HS) (k a : Nat) (x : Option Nat) : h_cl (s_aR S k a x) = h_cl S := id rfl
theorem R_cl_new (S : HS) (c n : Nat) : h_cl (s_new S c n) = h_up (h_cl S) (h_nx S) c := id rfl
theorem R_ln_fI (S : HS) (k a : Nat) (x : Int32) : h_ln (s_fI S k a x) = h_ln S := id rfl
theorem R_ln_fR (S : HS) (k a : Nat) (x : Option Nat) : h_ln (s_fR S k a x) = h_ln S := id rfl
theorem R_ln_aI (S : HS) (k a : Nat) (x : Int32) : h_ln (s_aI S k a x) = h_ln S := id rfl
theorem R_ln_aR (S : HS) (k a : Nat) (x : Option Nat) : h_ln (s_aR S k a x) = h_ln S := id rfl
theorem R_ln_new (S : HS) (c n : Nat) : h_ln (s_new S c n) = h_up (h_ln S) (h_nx S) n := id rfl
theorem R_wr_fI (S : HS) (k a : Nat) (x : Int32) : h_wr (s_fI S k a x) = h_wr S := id rfl
theorem R_wr_fR (S : HS) (k a : Nat) (x : Option Nat) : h_wr (s_fR S k a x) = h_wr S := id rfl
theorem R_wr_aI (S : HS) (k a : Nat) (x : Int32) : h_wr (s_aI S k a x) = h_wr S := id rfl
theorem R_wr_aR (S : HS) (k a : Nat) (x : Option Nat) : h_wr (s_aR S k a x) = h_wr S := id rfl
theorem R_wr_new (S : HS) (c n : Nat) : h_wr (s_new S c n) = h_up (h_wr S) (h_nx S) true := id rfl
theorem R_nx_fI (S : HS) (k a : Nat) (x : Int32) : h_nx (s_fI S k a x) = h_nx S := id rfl
theorem R_nx_fR (S : HS) (k a : Nat) (x : Option Nat) : h_nx (s_fR S k a x) = h_nx S := id rfl
theorem R_nx_aI (S : HS) (k a : Nat) (x : Int32) : h_nx (s_aI S k a x) = h_nx S := id rfl
theorem R_nx_aR (S : HS) (k a : Nat) (x : Option Nat) : h_nx (s_aR S k a x) = h_nx S := id rfl
theorem R_nx_new (S : HS) (c n : Nat) : h_nx (s_new S c n) = h_nx S + 1 := id rfl
theorem R_sl_fI (S : HS) (k a : Nat) (x : Int32) : h_sl (s_fI S k a x) = h_sl S := id rfl
theorem R_sl_fR (S : HS) (k a : Nat) (x : Option Nat) : h_sl (s_fR S k a x) = h_sl S := id rfl
theorem R_sl_aI (S : HS) (k a : Nat) (x : Int32) : h_sl (s_aI S k a x) = h_sl S := id rfl
theorem R_sl_aR (S : HS) (k a : Nat) (x : Option Nat) : h_sl (s_aR S k a x) = h_sl S := id rfl
theorem R_sl_new (S : HS) (c n : Nat) : h_sl (s_new S c n) = h_sl S + n := id rfl
theorem R_ks_fI (S : HS) (k a : Nat) (x : Int32) : h_ks (s_fI S k a x) = h_ks S := id rfl
theorem R_ks_fR (S : HS) (k a : Nat) (x : Option Nat) : h_ks (s_fR S k a x) = h_ks S := id rfl
theorem R_ks_aI (S : HS) (k a : Nat) (x : Int32) : h_ks (s_aI S k a x) = h_ks S := id rfl
theorem R_ks_aR (S : HS) (k a : Nat) (x : Option Nat) : h_ks (s_aR S k a x) = h_ks S := id rfl
theorem R_ks_new (S : HS) (c n : Nat) : h_ks (s_new S c n) = h_ks S := id rfl
theorem R_kr_fI (S : HS) (k a : Nat) (x : Int32) : h_kr (s_fI S k a x) = h_kr S := id rfl
theorem R_kr_fR (S : HS) (k a : Nat) (x : Option Nat) : h_kr (s_fR S k a x) = h_kr S := id rfl
theorem R_kr_aI (S : HS) (k a : Nat) (x : Int32) : h_kr (s_aI S k a x) = h_kr S := id rfl
theorem R_kr_aR (S : HS) (k a : Nat) (x : Option Nat) : h_kr (s_aR S k a x) = h_kr S := id rfl
theorem R_kr_new (S : HS) (c n : Nat) : h_kr (s_new S c n) = h_kr S := id rfl
theorem R_fJ_fI (S : HS) (k a : Nat) (x : Int32) : h_fJ (s_fI S k a x) = h_fJ S := id rfl
theorem R_fJ_fR (S : HS) (k a : Nat) (x : Option Nat) : h_fJ (s_fR S k a x) = h_fJ S := id rfl
theorem R_fJ_aI (S : HS) (k a : Nat) (x : Int32) : h_fJ (s_aI S k a x) = h_fJ S := id rfl
theorem R_fJ_aR (S : HS) (k a : Nat) (x : Option Nat) : h_fJ (s_aR S k a x) = h_fJ S := id rfl
theorem R_fJ_new (S : HS) (c n : Nat) : h_fJ (s_new S c n) = h_fJ S := id rfl
theorem R_aJ_fI (S : HS) (k a : Nat) (x : Int32) : h_aJ (s_fI S k a x) = h_aJ S := id rfl
theorem R_aJ_fR (S : HS) (k a : Nat) (x : Option Nat) : h_aJ (s_fR S k a x) = h_aJ S := id rfl
theorem R_aJ_aI (S : HS) (k a : Nat) (x : Int32) : h_aJ (s_aI S k a x) = h_aJ S := id rfl
theorem R_aJ_aR (S : HS) (k a : Nat) (x : Option Nat) : h_aJ (s_aR S k a x) = h_aJ S := id rfl
theorem R_aJ_new (S : HS) (c n : Nat) : h_aJ (s_new S c n) = h_aJ S := id rfl
def fxC : List (Nat × Nat × Nat) := [(0, 1, 15), (1, 36, 16), (2, 32, 400), (3, 31, 128), (4, 37, 40), (45, 2, 15), (46, 11, 8), (47, 12, 3), (48, 12, 3), (49, 31, 3), (50, 31, 6), (51, 33, 1200), (52, 34, 128), (53, 34, 128), (54, 33, 128)]
def fxR : List (Nat × Nat × Nat) := [(1, 0, 1), (9, 0, 2), (10, 0, 3), (11, 0, 4), (12, 0, 45), (13, 0, 52), (14, 0, 53), (15, 0, 54), (16, 45, 46), (23, 45, 47), (24, 45, 48), (25, 45, 49), (26, 45, 50), (28, 45, 51)]
/-- the component's fixed cells -/
def FX (S : HS) (a : Nat) : Prop := a + 55 ≤ h_nx S ∧ (∀ p ∈ fxC, h_cl S (a + p.1) = p.2.1 ∧ h_ln S (a + p.1) = p.2.2 ∧ h_wr S (a + p.1) = true) ∧ (∀ p ∈ fxR, h_fR S p.1 (a + p.2.1) = some (a + p.2.2)) ∧ ∀ k, k < 40 → (h_cl S (a + 5 + k) = 31 ∧ h_ln S (a + 5 + k) = 4 ∧ h_wr S (a + 5 + k) = true) ∧ h_aR S (a + 4) k = some (a + 5 + k)
theorem fx_nx {S : HS} {a : Nat} (h : FX S a) : a + 55 ≤ h_nx S := h.1
theorem fx_cl0 {S : HS} {a : Nat} (h : FX S a) : h_cl S a = 1 := (h.2.1 (0, 1, 15) (by decide)).1
theorem fx_ln0 {S : HS} {a : Nat} (h : FX S a) : h_ln S a = 15 := (h.2.1 (0, 1, 15) (by decide)).2.1
theorem fx_wr0 {S : HS} {a : Nat} (h : FX S a) : h_wr S a = true := (h.2.1 (0, 1, 15) (by decide)).2.2
theorem fx_cl1 {S : HS} {a : Nat} (h : FX S a) : h_cl S (a + 1) = 36 := (h.2.1 (1, 36, 16) (by decide)).1
theorem fx_ln1 {S : HS} {a : Nat} (h : FX S a) : h_ln S (a + 1) = 16 := (h.2.1 (1, 36, 16) (by decide)).2.1
theorem fx_wr1 {S : HS} {a : Nat} (h : FX S a) : h_wr S (a + 1) = true := (h.2.1 (1, 36, 16) (by decide)).2.2
theorem fx_cl2 {S : HS} {a : Nat} (h : FX S a) : h_cl S (a + 2) = 32 := (h.2.1 (2, 32, 400) (by decide)).1
theorem fx_ln2 {S : HS} {a : Nat} (h : FX S a) : h_ln S (a + 2) = 400 := (h.2.1 (2, 32, 400) (by decide)).2.1
theorem fx_wr2 {S : HS} {a : Nat} (h : FX S a) : h_wr S (a + 2) = true := (h.2.1 (2, 32, 400) (by decide)).2.2
theorem fx_cl3 {S : HS} {a : Nat} (h : FX S a) : h_cl S (a + 3) = 31 := (h.2.1 (3, 31, 128) (by decide)).1
theorem fx_ln3 {S : HS} {a : Nat} (h : FX S a) : h_ln S (a + 3) = 128 := (h.2.1 (3, 31, 128) (by decide)).2.1
theorem fx_wr3 {S : HS} {a : Nat} (h : FX S a) : h_wr S (a + 3) = true := (h.2.1 (3, 31, 128) (by decide)).2.2
theorem fx_cl4 {S : HS} {a : Nat} (h : FX S a) : h_cl S (a + 4) = 37 := (h.2.1 (4, 37, 40) (by decide)).1
theorem fx_ln4 {S : HS} {a : Nat} (h : FX S a) : h_ln S (a + 4) = 40 := (h.2.1 (4, 37, 40) (by decide)).2.1
theorem fx_wr4 {S : HS} {a : Nat} (h : FX S a) : h_wr S (a + 4) = true := (h.2.1 (4, 37, 40) (by decide)).2.2
theorem fx_cl45 {S : HS} {a : Nat} (h : FX S a) : h_cl S (a + 45) = 2 := (h.2.1 (45, 2, 15) (by decide)).1
theorem fx_ln45 {S : HS} {a : Nat} (h : FX S a) : h_ln S (a + 45) = 15 := (h.2.1 (45, 2, 15) (by decide)).2.1
theorem fx_wr45 {S : HS} {a : Nat} (h : FX S a) : h_wr S (a + 45) = true := (h.2.1 (45, 2, 15) (by decide)).2.2
theorem fx_cl46 {S : HS} {a : Nat} (h : FX S a) : h_cl S (a + 46) = 11 := (h.2.1 (46, 11, 8) (by decide)).1
theorem fx_ln46 {S : HS} {a : Nat} (h : FX S a) : h_ln S (a + 46) = 8 := (h.2.1 (46, 11, 8) (by decide)).2.1
theorem fx_wr46 {S : HS} {a : Nat} (h : FX S a) : h_wr S (a + 46) = true := (h.2.1 (46, 11, 8) (by decide)).2.2
theorem fx_cl47 {S : HS} {a : Nat} (h : FX S a) : h_cl S (a + 47) = 12 := (h.2.1 (47, 12, 3) (by decide)).1
theorem fx_ln47 {S : HS} {a : Nat} (h : FX S a) : h_ln S (a + 47) = 3 := (h.2.1 (47, 12, 3) (by decide)).2.1
theorem fx_wr47 {S : HS} {a : Nat} (h : FX S a) : h_wr S (a + 47) = true := (h.2.1 (47, 12, 3) (by decide)).2.2
theorem fx_cl48 {S : HS} {a : Nat} (h : FX S a) : h_cl S (a + 48) = 12 := (h.2.1 (48, 12, 3) (by decide)).1
theorem fx_ln48 {S : HS} {a : Nat} (h : FX S a) : h_ln S (a + 48) = 3 := (h.2.1 (48, 12, 3) (by decide)).2.1
theorem fx_wr48 {S : HS} {a : Nat} (h : FX S a) : h_wr S (a + 48) = true := (h.2.1 (48, 12, 3) (by decide)).2.2
theorem fx_cl49 {S : HS} {a : Nat} (h : FX S a) : h_cl S (a + 49) = 31 := (h.2.1 (49, 31, 3) (by decide)).1
theorem fx_ln49 {S : HS} {a : Nat} (h : FX S a) : h_ln S (a + 49) = 3 := (h.2.1 (49, 31, 3) (by decide)).2.1
theorem fx_wr49 {S : HS} {a : Nat} (h : FX S a) : h_wr S (a + 49) = true := (h.2.1 (49, 31, 3) (by decide)).2.2
theorem fx_cl50 {S : HS} {a : Nat} (h : FX S a) : h_cl S (a + 50) = 31 := (h.2.1 (50, 31, 6) (by decide)).1
theorem fx_ln50 {S : HS} {a : Nat} (h : FX S a) : h_ln S (a + 50) = 6 := (h.2.1 (50, 31, 6) (by decide)).2.1
theorem fx_wr50 {S : HS} {a : Nat} (h : FX S a) : h_wr S (a + 50) = true := (h.2.1 (50, 31, 6) (by decide)).2.2
theorem fx_cl51 {S : HS} {a : Nat} (h : FX S a) : h_cl S (a + 51) = 33 := (h.2.1 (51, 33, 1200) (by decide)).1
theorem fx_ln51 {S : HS} {a : Nat} (h : FX S a) : h_ln S (a + 51) = 1200 := (h.2.1 (51, 33, 1200) (by decide)).2.1
theorem fx_wr51 {S : HS} {a : Nat} (h : FX S a) : h_wr S (a + 51) = true := (h.2.1 (51, 33, 1200) (by decide)).2.2
theorem fx_cl52 {S : HS} {a : Nat} (h : FX S a) : h_cl S (a + 52) = 34 := (h.2.1 (52, 34, 128) (by decide)).1
theorem fx_ln52 {S : HS} {a : Nat} (h : FX S a) : h_ln S (a + 52) = 128 := (h.2.1 (52, 34, 128) (by decide)).2.1
theorem fx_wr52 {S : HS} {a : Nat} (h : FX S a) : h_wr S (a + 52) = true := (h.2.1 (52, 34, 128) (by decide)).2.2
theorem fx_cl53 {S : HS} {a : Nat} (h : FX S a) : h_cl S (a + 53) = 34 := (h.2.1 (53, 34, 128) (by decide)).1
theorem fx_ln53 {S : HS} {a : Nat} (h : FX S a) : h_ln S (a + 53) = 128 := (h.2.1 (53, 34, 128) (by decide)).2.1
theorem fx_wr53 {S : HS} {a : Nat} (h : FX S a) : h_wr S (a + 53) = true := (h.2.1 (53, 34, 128) (by decide)).2.2
theorem fx_cl54 {S : HS} {a : Nat} (h : FX S a) : h_cl S (a + 54) = 33 := (h.2.1 (54, 33, 128) (by decide)).1
theorem fx_ln54 {S : HS} {a : Nat} (h : FX S a) : h_ln S (a + 54) = 128 := (h.2.1 (54, 33, 128) (by decide)).2.1
theorem fx_wr54 {S : HS} {a : Nat} (h : FX S a) : h_wr S (a + 54) = true := (h.2.1 (54, 33, 128) (by decide)).2.2
theorem fx_r1 {S : HS} {a : Nat} (h : FX S a) : h_fR S 1 a = some (a + 1) := h.2.2.1 (1, 0, 1) (by decide)
theorem fx_r9 {S : HS} {a : Nat} (h : FX S a) : h_fR S 9 a = some (a + 2) := h.2.2.1 (9, 0, 2) (by decide)
theorem fx_r10 {S : HS} {a : Nat} (h : FX S a) : h_fR S 10 a = some (a + 3) := h.2.2.1 (10, 0, 3) (by decide)
theorem fx_r11 {S : HS} {a : Nat} (h : FX S a) : h_fR S 11 a = some (a + 4) := h.2.2.1 (11, 0, 4) (by decide)
theorem fx_r12 {S : HS} {a : Nat} (h : FX S a) : h_fR S 12 a = some (a + 45) := h.2.2.1 (12, 0, 45) (by decide)
theorem fx_r13 {S : HS} {a : Nat} (h : FX S a) : h_fR S 13 a = some (a + 52) := h.2.2.1 (13, 0, 52) (by decide)
theorem fx_r14 {S : HS} {a : Nat} (h : FX S a) : h_fR S 14 a = some (a + 53) := h.2.2.1 (14, 0, 53) (by decide)
theorem fx_r15 {S : HS} {a : Nat} (h : FX S a) : h_fR S 15 a = some (a + 54) := h.2.2.1 (15, 0, 54) (by decide)
theorem fx_r16 {S : HS} {a : Nat} (h : FX S a) : h_fR S 16 (a + 45) = some (a + 46) := h.2.2.1 (16, 45, 46) (by decide)
theorem fx_r23 {S : HS} {a : Nat} (h : FX S a) : h_fR S 23 (a + 45) = some (a + 47) := h.2.2.1 (23, 45, 47) (by decide)
theorem fx_r24 {S : HS} {a : Nat} (h : FX S a) : h_fR S 24 (a + 45) = some (a + 48) := h.2.2.1 (24, 45, 48) (by decide)
theorem fx_r25 {S : HS} {a : Nat} (h : FX S a) : h_fR S 25 (a + 45) = some (a + 49) := h.2.2.1 (25, 45, 49) (by decide)
theorem fx_r26 {S : HS} {a : Nat} (h : FX S a) : h_fR S 26 (a + 45) = some (a + 50) := h.2.2.1 (26, 45, 50) (by decide)
theorem fx_r28 {S : HS} {a : Nat} (h : FX S a) : h_fR S 28 (a + 45) = some (a + 51) := h.2.2.1 (28, 45, 51) (by decide)
theorem fx_kc {S : HS} {a k : Nat} (h : FX S a) (hk : k < 40) : h_cl S (a + 5 + k) = 31 := (h.2.2.2 k hk).1.1
theorem fx_kl {S : HS} {a k : Nat} (h : FX S a) (hk : k < 40) : h_ln S (a + 5 + k) = 4 := (h.2.2.2 k hk).1.2.1
theorem fx_kw {S : HS} {a k : Nat} (h : FX S a) (hk : k < 40) : h_wr S (a + 5 + k) = true := (h.2.2.2 k hk).1.2.2
theorem fx_kr {S : HS} {a k : Nat} (h : FX S a) (hk : k < 40) : h_aR S (a + 4) k = some (a + 5 + k) := (h.2.2.2 k hk).2
theorem FX.of {S T : HS} {a : Nat} (h : FX S a) (n : h_nx S ≤ h_nx T) (e : ∀ x, a ≤ x → x < a + 55 → h_cl T x = h_cl S x ∧ h_ln T x = h_ln S x ∧ h_wr T x = h_wr S x ∧ ∀ k, 1 ≤ k → k ≤ 28 → h_fR T k x = h_fR S k x ∨ k = 17 ∨ k = 22) (r : h_aR T (a + 4) = h_aR S (a + 4)) : FX T a := by
  obtain ⟨h1, h2, h3, h4⟩ := h
  have b1 : ∀ p ∈ fxC, p.1 < 55 := by decide
  have b2 : ∀ p ∈ fxR, 1 ≤ p.1 ∧ p.1 ≤ 28 ∧ p.2.1 < 55 ∧ p.1 ≠ 17 ∧ p.1 ≠ 22 := by decide
  refine ⟨by omega, fun p hp => ?_, fun p hp => ?_, fun k hk => ?_⟩
  · have := b1 p hp
    obtain ⟨e1, e2, e3, -⟩ := e (a + p.1) (by omega) (by omega)
    rw [e1, e2, e3]
    exact h2 p hp
  · obtain ⟨p1, p2, p3, p4, p5⟩ := b2 p hp
    obtain ⟨-, -, -, e4⟩ := e (a + p.2.1) (by omega) (by omega)
    rcases e4 p.1 p1 p2 with e4 | e4 | e4
    · rw [e4]
      exact h3 p hp
    · exact absurd e4 p4
    · exact absurd e4 p5
  · obtain ⟨e1, e2, e3, -⟩ := e (a + 5 + k) (by omega) (by omega)
    rw [e1, e2, e3, r]
    exact h4 k hk
theorem FX.fI {S : HS} {a : Nat} (h : FX S a) (k x : Nat) (v : Int32) : FX (s_fI S k x v) a := h
theorem FX.aI {S : HS} {a : Nat} (h : FX S a) (k x : Nat) (v : Int32) : FX (s_aI S k x v) a := h
theorem FX.row {S : HS} {a : Nat} (h : FX S a) (x : Nat) (f : Nat → Int32) : FX (s_row S x f) a := h
theorem FX.new {S : HS} {a : Nat} (h : FX S a) (c n : Nat) : FX (s_new S c n) a := h.of (by rw [r_nx_new]; omega) (fun x h1 h2 => by
  have := h.1
  rw [r_cl_new, r_ln_new, r_wr_new, up_off (by omega), up_off (by omega), up_off (by omega)]
  exact ⟨rfl, rfl, rfl, fun k _ _ => Or.inl rfl⟩) rfl
