/-! more rows: nest mates, overridden methods, switches, natives; small words of the functions -/
def fu_ : Nat := 20000
def o_case {α β : Type} (r : Option α) (n : β) (k : α → β) : β := match r with
  | none => n
  | some a => k a
def o_bd {α β γ : Type} (o : Option (α × β)) (k : α → β → Option γ) : Option γ := o.bind fun v => k v.1 v.2
theorem ob_c {α β γ : Type} {o : Option (α × β)} {k : α → β → Option γ} {x : γ} (h : o_bd o k = some x) : ∃ a b, o = some (a, b) ∧ k a b = some x := by
  obtain ⟨⟨a, b⟩, h1, h2⟩ := Option.bind_eq_some_iff.mp h
  exact ⟨a, b, h1, h2⟩
def g_cls (S : HS) (c a : Nat) : Option Unit := if h_cl S a = c then some () else none
theorem g_cls_ok {S : HS} {c a : Nat} {u : Unit} (h : g_cls S c a = some u) : h_cl S a = c := by
  unfold g_cls at h
  split at h
  · assumption
  · cases h
/-- an array of ours of a kind -/
def g_own (S : HS) (t a : Nat) : Option Unit := if h_cl S a = t ∧ h_wr S a = true then some () else none
theorem nar_z {x : Int32} (h : vp_nar .boolean x = x) : narrow .boolean (.int x) = .int x := by
  have e : narrow .boolean (.int x) = .int (vp_nar .boolean x) := rfl
  rw [e, h]
theorem nar_c {x : Int32} (h : vp_nar .char x = x) : narrow .char (.int x) = .int x := by
  have e : narrow .char (.int x) = .int (vp_nar .char x) := rfl
  rw [e, h]
theorem nar_b {x : Int32} (h : vp_nar .byte x = x) : narrow .byte (.int x) = .int x := by
  have e : narrow .byte (.int x) = .int (vp_nar .byte x) := rfl
  rw [e, h]
section JX
variable {f : CfT} {S S' : HS} {mo : MO} {pc : Nat} {L L' : LL} {st : List LV} {cc : ByteArray} {own : String} {a : Nat}
theorem zs_comp : ∀ U, EV (cf_g f) U → h_ks S = g_ks (cf_g f) → h_kr S = g_kr (cf_g f) → va_Z "java/lang/String" "COMPACT_STRINGS" "Z" (tv (vi 1)) (g_A (cf_g f)) U (g_Hs (cf_g f)) := fun _ h _ _ => h.2.2.2.2.1
theorem zs_emp : ∀ U, EV (cf_g f) U → h_ks S = g_ks (cf_g f) → h_kr S = g_kr (cf_g f) → va_Z "java/util/ArrayList" "EMPTY_ELEMENTDATA" "[Ljava/lang/Object;" (tv (vr (some (h_ks S 30)))) (g_A (cf_g f)) U (g_Hs (cf_g f)) := fun _ h e _ => by rw [e]; exact h.2.2.2.2.2.1
theorem zs_def : ∀ U, EV (cf_g f) U → h_ks S = g_ks (cf_g f) → h_kr S = g_kr (cf_g f) → va_Z "java/util/ArrayList" "DEFAULTCAPACITY_EMPTY_ELEMENTDATA" "[Ljava/lang/Object;" (tv (vr (some (h_ks S 31)))) (g_A (cf_g f)) U (g_Hs (cf_g f)) := fun _ h e _ => by rw [e]; exact h.2.2.2.2.2.2.1
theorem zs_una : ∀ U, EV (cf_g f) U → h_ks S = g_ks (cf_g f) → h_kr S = g_kr (cf_g f) → va_Z "java/lang/Throwable" "UNASSIGNED_STACK" "[Ljava/lang/StackTraceElement;" (tv (vr (h_kr S 0))) (g_A (cf_g f)) U (g_Hs (cf_g f)) := fun _ h _ e => by rw [e]; exact h.2.2.2.2.2.2.2.1
theorem zs_sup : ∀ U, EV (cf_g f) U → h_ks S = g_ks (cf_g f) → h_kr S = g_kr (cf_g f) → va_Z "java/lang/Throwable" "SUPPRESSED_SENTINEL" "Ljava/util/List;" (tv (vr (h_kr S 1))) (g_A (cf_g f)) U (g_Hs (cf_g f)) := fun _ h _ e => by rw [e]; exact h.2.2.2.2.2.2.2.2.1
theorem zs_sio : ∀ U, EV (cf_g f) U → h_ks S = g_ks (cf_g f) → h_kr S = g_kr (cf_g f) → va_Z "jdk/internal/util/Preconditions" "SIOOBE_FORMATTER" "Ljava/util/function/BiFunction;" (tv (vr (h_kr S 2))) (g_A (cf_g f)) U (g_Hs (cf_g f)) := fun _ h _ e => by rw [e]; exact h.2.2.2.2.2.2.2.2.2.1
theorem j_na31 (hc : cf_cc f = cc) (d : decode cc pc = .ok (.newarray .int, 2)) {n : Int32} (h : n_arr S 31 n = some S') (K : JJ f S' mo (pc + 2) L (vr (some (h_nx S)) :: st)) : JJ f S mo pc L (vi n :: st) := j_newarr (t := 31) hc (ty := .int) rfl (by decide) rfl (by decide) q200 rfl d (fun _ h => h) h K
theorem j_na32 (hc : cf_cc f = cc) (d : decode cc pc = .ok (.newarray .byte, 2)) {n : Int32} (h : n_arr S 32 n = some S') (K : JJ f S' mo (pc + 2) L (vr (some (h_nx S)) :: st)) : JJ f S mo pc L (vi n :: st) := j_newarr (t := 32) hc (ty := .byte) rfl (by decide) rfl (by decide) q199 rfl d (fun _ h => h) h K
theorem j_na33 (hc : cf_cc f = cc) (d : decode cc pc = .ok (.newarray .char, 2)) {n : Int32} (h : n_arr S 33 n = some S') (K : JJ f S' mo (pc + 2) L (vr (some (h_nx S)) :: st)) : JJ f S mo pc L (vi n :: st) := j_newarr (t := 33) hc (ty := .char) rfl (by decide) rfl (by decide) q281 rfl d (fun _ h => h) h K
theorem j_na34 (hc : cf_cc f = cc) (d : decode cc pc = .ok (.newarray .boolean, 2)) {n : Int32} (h : n_arr S 34 n = some S') (K : JJ f S' mo (pc + 2) L (vr (some (h_nx S)) :: st)) : JJ f S mo pc L (vi n :: st) := j_newarr (t := 34) hc (ty := .boolean) rfl (by decide) rfl (by decide) q329 rfl d (fun _ h => h) h K
theorem j_na38 (hc : cf_cc f = cc) (d : decode cc pc = .ok (.newarray .long, 2)) {n : Int32} (h : n_arr S 38 n = some S') (K : JJ f S' mo (pc + 2) L (vr (some (h_nx S)) :: st)) : JJ f S mo pc L (vi n :: st) := j_newarr (t := 38) hc (ty := .long) rfl (by decide) rfl (by decide) q1375 rfl d (fun _ h => h) h K
theorem cast_35 : ∀ U, EV (cf_g f) U → cast_ok 35 U := fun U hE c hc r hr C hC => by
  cases hC
  right
  have n3 := hE.2.1.2.2.1
  simp only [ok_st, List.mem_cons, List.not_mem_nil, or_false] at hc
  rcases hc with rfl | rfl | rfl | rfl | rfl
  · cases hr; exact n3 _ _ q1657
  · cases hr; exact n3 _ _ q1658
  · cases hr; exact n3 _ _ q1659
  · cases hr; exact n3 _ _ q1660
  · cases hr; exact n3 _ _ q1655
theorem cast_36 : ∀ U, EV (cf_g f) U → cast_ok 36 U := fun U hE c hc r hr C hC => by
  cases hC
  left
  simp only [ok_st, List.mem_cons, List.not_mem_nil, or_false] at hc
  subst hc
  cases hr
  rfl
/-- checkcast to byte[] of an array of ours -/
theorem j_castB (hc : cf_cc f = cc) (ho : cf_ow f = own) {idx : Nat} {u : Unit} (w : Cond.classLink own idx "[B" ∈ lw_all) (d : decode cc pc = .ok (.checkcast idx, 3)) (h : g_own S 32 a = some u) (K : JJ f S mo (pc + 3) L (vr (some a) :: st)) : JJ f S mo pc L (vr (some a) :: st) := by
  have h : h_cl S a = 32 ∧ h_wr S a = true := by
    unfold g_own at h
    split at h
    · assumption
    · cases h
  exact ⟨K.1, fun p e s m args below meth c0 X ls H locs cells slots hl hW hS h1 h2 => by
    have k9 := K.2 p e s m args below meth c0 X ls H locs cells slots hl hW hS h1 h2
    obtain ⟨x1, x2, x3, x4, x5, x6, x7, x8, x9, x10⟩ := X
    rw [ho] at x4
    obtain ⟨cell, q1, q2, q3, q4, q5, q6⟩ := hW.obA x6 h.1 (by omega) (by omega)
    obtain ⟨q7, q8⟩ := q6 (Or.inr h.2)
    have hnm : s.vm.findClass "[B" = some (g_ac (cf_g f) 32) := (arr_K x6 (t := 32) (by omega) (by omega)).2
    exact va_castE x1 (x2.trans hc) x4 (x5 _ w) ⟨cell, q1, q8, by rw [q7]; exact hnm⟩ d k9⟩
/-- switches -/
theorem j_tsw (hc : cf_cc f = cc) {dflt lo hi : Int} {offs : Array Int} {len : Nat} {x k : Int32} {off : Int} {tgt : Nat} (d : decode cc pc = .ok (.tableswitch dflt lo hi offs, len)) (hx : x = k) (h1 : ¬ k.toInt < lo) (h2 : ¬ hi < k.toInt) (hof : offs[(k.toInt - lo).toNat]? = some off) (ht : (pc : Int) + off = (tgt : Int)) (K : JJ f S mo tgt L st) : JJ f S mo pc L (vi x :: st) := by
  subst hx
  exact ⟨K.1, fun p e s m args below meth c X ls H locs cells slots hl hW hS g1 g2 => lv_tableIn X.1 (X.2.1.trans hc) d h1 h2 hof ht (K.2 p e s m args below meth c X ls H locs cells slots hl hW hS g1 g2)⟩
theorem j_tswD (hc : cf_cc f = cc) {dflt lo hi : Int} {offs : Array Int} {len : Nat} {x : Int32} {tgt : Nat} (d : decode cc pc = .ok (.tableswitch dflt lo hi offs, len)) (h : x.toInt < lo ∨ hi < x.toInt) (ht : (pc : Int) + dflt = (tgt : Int)) (K : JJ f S mo tgt L st) : JJ f S mo pc L (vi x :: st) :=
  ⟨K.1, fun p e s m args below meth c X ls H locs cells slots hl hW hS g1 g2 => lv_tableOut X.1 (X.2.1.trans hc) d h ht (K.2 p e s m args below meth c X ls H locs cells slots hl hW hS g1 g2)⟩
theorem j_lsw (hc : cf_cc f = cc) {dflt : Int} {ps : Array (Int × Int)} {len : Nat} {x k : Int32} {off : Int} {tgt : Nat} (d : decode cc pc = .ok (.lookupswitch dflt ps, len)) (hx : x = k) (hp : (ps.toList.zip (ps.toList.drop 1)).all (fun (a, next) => a.1 < next.1) = true) (hof : Op.lookupswitch.offset ps.toList dflt k.toInt = off) (ht : (pc : Int) + off = (tgt : Int)) (K : JJ f S mo tgt L st) : JJ f S mo pc L (vi x :: st) := by
  subst hx
  exact ⟨K.1, fun p e s m args below meth c X ls H locs cells slots hl hW hS g1 g2 => lv_lookup X.1 (X.2.1.trans hc) d hp hof ht (K.2 p e s m args below meth c X ls H locs cells slots hl hW hS g1 g2)⟩
theorem j_lswD (hc : cf_cc f = cc) {dflt : Int} {ps : Array (Int × Int)} {len : Nat} {x : Int32} {off : Int} {tgt : Nat} (d : decode cc pc = .ok (.lookupswitch dflt ps, len)) (hp : (ps.toList.zip (ps.toList.drop 1)).all (fun (a, next) => a.1 < next.1) = true) (hof : Op.lookupswitch.offset ps.toList dflt x.toInt = off) (ht : (pc : Int) + off = (tgt : Int)) (K : JJ f S mo tgt L st) : JJ f S mo pc L (vi x :: st) :=
  ⟨K.1, fun p e s m args below meth c X ls H locs cells slots hl hW hS g1 g2 => lv_lookup X.1 (X.2.1.trans hc) d hp hof ht (K.2 p e s m args below meth c X ls H locs cells slots hl hW hS g1 g2)⟩
/-- nest mates -/
def CN (own : String) (idx : Nat) (y : MethodName) (b : ByteArray) (mL : Nat) (r : Option FieldType) (n : Nat) : Prop := (∃ host, Cond.methodLinkNest own idx y host ∈ lw_tbl ∧ Cond.initialized y.cls ∈ lw_all ∧ Cond.code y b mL r ∈ lw_all) ∧ y.cls ≠ "java/lang/invoke/MethodHandle" ∧ y.cls ≠ "java/lang/invoke/VarHandle" ∧ (parseMethodDescriptor y.desc).map (fun d => d.parameters.length) = some n
variable {y : MethodName} {b : ByteArray} {mL n fr lo fr0 lo0 idx : Nat} {r : Option FieldType} {As rest : List LV} {out : Option LV} {mo1 : MO} {C : String}
theorem j_callSN {S1 : HS} (hc : cf_cc f = cc) (ho : cf_ow f = own) (V : CN own idx y b mL r n) (w9 : Cond.static y ∈ lw_all) (hct : (h_nx S ≤ h_nx S1 ∧ h_sl S ≤ h_sl S1) ∧ Ct (cf_l f) (cf_g f) y (ws_ y b mL r) fr0 lo0 S mo As out S1 mo1) (hrm : cf_rm f = (fr, lo)) (hfl : fr0 + 1 ≤ fr ∧ 8 + (mL + 11) + lo0 ≤ lo) (hn : As.length = n) (hs : (rest.map lc).sum ≤ 8) (d : decode cc pc = .ok (.invokestatic idx, 3)) (hst : st = As.reverse ++ rest) {st2 : List LV} (h2st : out.toList ++ rest = st2) (K : JJ f S1 mo1 (pc + 3) L st2) : JJ f S mo pc L st := by
  subst hst
  refine j_back (y := y) hct.1 (fun p e s m args below meth c X ls H locs cells slots hl hW r1 r2 => ⟨(As.map tv).toArray, ?_⟩) h2st K
  obtain ⟨x1, x2, x3, x4, x5, x6, x7, x8, x9, x10⟩ := X
  rw [ho] at x4
  obtain ⟨⟨host, w1, w3, w4⟩, v2, v3, v4⟩ := V
  refine va_runSN (Ts := lw_all) ⟨x1, x2.trans hc, x3, x4, x5⟩ hct.2 ⟨va_cnB n x5 (lw_meth w4) rfl rfl rfl (x6.2.1.2.1 _ _ _ _ w1) (x5 _ w3) ⟨v2, v3, v4⟩ ⟨by show _ ≤ (cf_rm f).1; rw [hrm]; exact hfl.1, by show _ ≤ (cf_rm f).2; rw [hrm]; exact hfl.2⟩, x5 _ w9, trivial⟩ ⟨pc_blind, fun U hU hWU => ⟨rfl, by rw [hU]; exact hW, x6.warm hWU⟩⟩ (As := As.map tv) rfl (by rw [List.length_map]; exact hn) (by rw [← hl.1]) (by simp) ?_ d ⟨r1, r2⟩
  rw [lc_sum]
  have : (F0 m pc ls ((As.reverse ++ rest).map tv)).monitorRoom = 0 := rfl
  omega
theorem j_callIN {S1 : HS} (hc : cf_cc f = cc) (ho : cf_ow f = own) (V : CN own idx y b mL none n) (hyi : y.name = "<init>") (w9 : Cond.instanceMethod y ∈ lw_all) (hct : (h_nx S ≤ h_nx S1 ∧ h_sl S ≤ h_sl S1) ∧ Ct (cf_l f) (cf_g f) y (ws_ y b mL none) fr0 lo0 S mo (vr (some a) :: As) out S1 mo1) (hrm : cf_rm f = (fr, lo)) (hfl : fr0 + 1 ≤ fr ∧ 8 + (mL + 11) + lo0 ≤ lo) (hn : As.length = n) (hs : (rest.map lc).sum ≤ 8) (d : decode cc pc = .ok (.invokespecial idx, 3)) (hst : st = As.reverse ++ vr (some a) :: rest) {st2 : List LV} (h2st : out.toList ++ rest = st2) (K : JJ f S1 mo1 (pc + 3) L st2) : JJ f S mo pc L st := by
  subst hst
  refine j_back (y := y) hct.1 (fun p e s m args below meth c X ls H locs cells slots hl hW r1 r2 => ⟨(Value.ref a :: As.map tv).toArray, ?_⟩) h2st K
  obtain ⟨x1, x2, x3, x4, x5, x6, x7, x8, x9, x10⟩ := X
  rw [ho] at x4
  obtain ⟨⟨host, w1, w3, w4⟩, v2, v3, v4⟩ := V
  refine va_runIN (Ts := lw_all) ⟨x1, x2.trans hc, x3, x4, x5⟩ hct.2 ⟨va_cnB n x5 (lw_meth w4) rfl rfl rfl (x6.2.1.2.1 _ _ _ _ w1) (x5 _ w3) ⟨v2, v3, v4⟩ ⟨by show _ ≤ (cf_rm f).1; rw [hrm]; exact hfl.1, by show _ ≤ (cf_rm f).2; rw [hrm]; exact hfl.2⟩, hyi, x5 _ w9⟩ ⟨pc_blind, fun U hU hWU => ⟨rfl, by rw [hU]; exact hW, x6.warm hWU⟩⟩ (b := a) (As := As.map tv) rfl (by rw [List.length_map]; exact hn) (by rw [← hl.1]) (by simp [tv, va_rf]) ?_ d ⟨r1, r2⟩
  rw [lc_sum]
  have : (F0 m pc ls ((As.reverse ++ vr (some a) :: rest).map tv)).monitorRoom = 0 := rfl
  omega
theorem j_callVN {S1 : HS} (hc : cf_cc f = cc) (ho : cf_ow f = own) (V : CN own idx y b mL r n) (hyc : y.cls = C) (hyp : Cond.privateMethod y ∈ lw_tbl) (w9 : Cond.instanceMethod y ∈ lw_all) (w8 : Cond.selects C y y ∈ lw_all) (hct : (h_nx S ≤ h_nx S1 ∧ h_sl S ≤ h_sl S1) ∧ Ct (cf_l f) (cf_g f) y (ws_ y b mL r) fr0 lo0 S mo (vr (some a) :: As) out S1 mo1) (hrc : Rc (cf_g f) S mo C a) (hrm : cf_rm f = (fr, lo)) (hfl : fr0 + 1 ≤ fr ∧ 8 + (mL + 11) + lo0 ≤ lo) (hn : As.length = n) (hs : (rest.map lc).sum ≤ 8) (d : decode cc pc = .ok (.invokevirtual idx, 3)) (hst : st = As.reverse ++ vr (some a) :: rest) {st2 : List LV} (h2st : out.toList ++ rest = st2) (K : JJ f S1 mo1 (pc + 3) L st2) : JJ f S mo pc L st := by
  subst hst
  refine j_back (y := y) hct.1 (fun p e s m args below meth c X ls H locs cells slots hl hW r1 r2 => ⟨(Value.ref a :: As.map tv).toArray, ?_⟩) h2st K
  obtain ⟨x1, x2, x3, x4, x5, x6, x7, x8, x9, x10⟩ := X
  rw [ho] at x4
  obtain ⟨⟨host, w1, w3, w4⟩, v2, v3, v4⟩ := V
  refine va_runVN (Ts := lw_all) ⟨x1, x2.trans hc, x3, x4, x5⟩ hct.2 ⟨va_cnB n x5 (lw_meth w4) rfl rfl rfl (x6.2.1.2.1 _ _ _ _ w1) (x5 _ w3) ⟨v2, v3, v4⟩ ⟨by show _ ≤ (cf_rm f).1; rw [hrm]; exact hfl.1, by show _ ≤ (cf_rm f).2; rw [hrm]; exact hfl.2⟩, x5 _ w9, x5 _ w8⟩ ⟨pc_blind, hrc.spec hW x6, fun U hU hWU => ⟨rfl, by rw [hU]; exact hW, x6.warm hWU⟩⟩ (b := a) (As := As.map tv) rfl (by rw [List.length_map]; exact hn) (by rw [← hl.1]) (by simp [tv, va_rf]) ?_ d ⟨r1, r2⟩
  rw [lc_sum]
  have : (F0 m pc ls ((As.reverse ++ vr (some a) :: rest).map tv)).monitorRoom = 0 := rfl
  omega
/-- a method by another's name: x is named, y runs for a receiver of class C -/
def CU (own : String) (idx : Nat) (C : String) (x y : MethodName) (b : ByteArray) (mL : Nat) (r : Option FieldType) (n : Nat) : Prop := (Cond.methodLink own idx x ∈ lw_all ∧ Cond.sameMethod x.cls x.cls x.name x.desc ∈ lw_all ∧ Cond.selects C x y ∈ lw_all ∧ Cond.instanceMethod y ∈ lw_all ∧ Cond.initialized y.cls ∈ lw_all ∧ Cond.code y b mL r ∈ lw_all) ∧ ((Cond.instanceMethod x ∈ lw_all ∧ ∃ b0 m0 r0, Cond.code x b0 m0 r0 ∈ lw_all) ∨ Cond.declares x ∈ lw_tbl) ∧ x.cls ≠ "java/lang/invoke/MethodHandle" ∧ x.cls ≠ "java/lang/invoke/VarHandle" ∧ (parseMethodDescriptor x.desc).map (fun d => d.parameters.length) = some n
theorem j_callU {S1 : HS} {x : MethodName} (hc : cf_cc f = cc) (ho : cf_ow f = own) (V : CU own idx C x y b mL r n) (hct : (h_nx S ≤ h_nx S1 ∧ h_sl S ≤ h_sl S1) ∧ Ct (cf_l f) (cf_g f) y (ws_ y b mL r) fr0 lo0 S mo (vr (some a) :: As) out S1 mo1) (hrc : Rc (cf_g f) S mo C a) (hrm : cf_rm f = (fr, lo)) (hfl : fr0 + 1 ≤ fr ∧ 8 + (mL + 11) + lo0 ≤ lo) (hn : As.length = n) (hs : (rest.map lc).sum ≤ 8) (d : decode cc pc = .ok (.invokevirtual idx, 3)) (hst : st = As.reverse ++ vr (some a) :: rest) {st2 : List LV} (h2st : out.toList ++ rest = st2) (K : JJ f S1 mo1 (pc + 3) L st2) : JJ f S mo pc L st := by
  subst hst
  refine j_back (y := y) hct.1 (fun p e s m args below meth c X ls H locs cells slots hl hW r1 r2 => ⟨(Value.ref a :: As.map tv).toArray, ?_⟩) h2st K
  obtain ⟨x1, x2, x3, x4, x5, x6, x7, x8, x9, x10⟩ := X
  rw [ho] at x4
  obtain ⟨⟨w1, w2, w3, w4, w5, w6⟩, hdecl, v2, v3, v4⟩ := V
  have hD : va_Decl s x := by
    rcases hdecl with ⟨d1, b0, m0, r0, d2⟩ | d1
    · exact va_Decl.of (x5 _ d1) (x5 _ d2)
    · exact va_Decl.abs (x6.2.1.2.2.2.1 _ d1)
  have hCU : va_CU (cf_R f) s args own C x.cls idx x y b mL r (ws_ y b mL r) (rm_ fr0 lo0 S S1) (h_nx S1 - h_nx S) (h_sl S1 - h_sl S) n := by
    refine ⟨⟨rfl, rfl, by show _ ≤ (cf_rm f).1; rw [hrm]; exact hfl.1, by show _ ≤ (cf_rm f).2; rw [hrm]; exact hfl.2, pay_in x5 (lw_meth w6), List.mem_cons_self⟩, x5 _ w6, x5 _ w5, ⟨v2, v3⟩, fun sig h => ?_, x5 _ w1, x5 _ w2, hD, x5 _ w3, x5 _ w4⟩
    rw [h] at v4
    exact (Option.some.inj v4).symm
  refine va_runU (Ts := lw_all) ⟨x1, x2.trans hc, x3, x4, x5⟩ hct.2 hCU ⟨pc_blind, hrc.spec hW x6, fun U hU hWU => ⟨rfl, by rw [hU]; exact hW, x6.warm hWU⟩⟩ (b := a) (As := As.map tv) rfl (by rw [List.length_map]; exact hn) (by rw [← hl.1]) (by simp [tv, va_rf]) ?_ d ⟨r1, r2⟩
  rw [lc_sum]
  have : (F0 m pc ls ((As.reverse ++ vr (some a) :: rest).map tv)).monitorRoom = 0 := rfl
  omega
end JX
